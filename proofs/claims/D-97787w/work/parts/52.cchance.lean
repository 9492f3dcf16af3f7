/-! COMPONENT: ears, chances, lots: loses, best, hums, fair -/
set_option maxRecDepth 100000
def setE (u : PU) (e : Int) : PU := (uf0 u, un0 u, uf1 u, un1 u, ulo u, unl u, e)
theorem setE_ok {u : PU} {e : Int} (h : uOk u) (he : 0 ≤ e ∧ e ≤ 12) : uOk (setE u e) := ⟨h.1, h.2.1, h.2.2.1, h.2.2.2.1, h.2.2.2.2.1, h.2.2.2.2.2.1, he⟩
theorem setE_T {R M : TM} {u : PU} {e : Int} (h : cT R M u) (he : 0 ≤ e ∧ e ≤ 12) : cT R (up M 1 11 e) (setE u e) := by
  obtain ⟨⟨h0, h1, h2, h3, h4, h5, h6, h7⟩, h8⟩ := h
  refine ⟨⟨setE_ok h0 he, by rw [up_n (by omega)]; exact h1, by rw [up_n (by omega)]; exact h2, fun i q1 q2 => by rw [up_n (by omega)]; exact h3 i q1 q2, fun i q1 q2 => by rw [up_n (by omega)]; exact h4 i q1 q2, by rw [up_n (by omega)]; exact h5, fun i j q1 q2 q3 q4 => by rw [up_n (by omega)]; exact h6 i j q1 q2 q3 q4, up_s⟩, ?_⟩
  rcases h8 with q | ⟨q, r1, r2, r3, r4⟩
  · exact Or.inl (by rw [up_n (by omega)]; exact q)
  · exact Or.inr ⟨by rw [up_n (by omega)]; exact q, r1.keep (uT_ok h0).1 (fun a b q => by rw [up_n (by omega)]), r2.keep (uB_ok h0).2 (fun a b q => by rw [up_n (by omega)]), by rw [up_n (by omega)]; exact r3, by rw [up_n (by omega)]; exact r4⟩
theorem setE_P {R M : TM} {u : PU} {e : Int} (h : cP R M (setE u e)) (hu : uOk u) : cP R (up M 1 11 (uear u)) u := by
  obtain ⟨⟨h0, h1, h2, h3, h4, h5, h6, h7⟩, q, r1, r2, r3, r4⟩ := h
  exact ⟨⟨hu, by rw [up_n (by omega)]; exact h1, by rw [up_n (by omega)]; exact h2, fun i q1 q2 => by rw [up_n (by omega)]; exact h3 i q1 q2, fun i q1 q2 => by rw [up_n (by omega)]; exact h4 i q1 q2, by rw [up_n (by omega)]; exact h5, fun i j q1 q2 q3 q4 => by rw [up_n (by omega)]; exact h6 i j q1 q2 q3 q4, up_s⟩, by rw [up_n (by omega)]; exact q, r1.keep (uT_ok hu).1 (fun a b q => by rw [up_n (by omega)]), r2.keep (uB_ok hu).2 (fun a b q => by rw [up_n (by omega)]), by rw [up_n (by omega)]; exact r3, by rw [up_n (by omega)]; exact r4⟩
theorem setE_run (u : PU) (e x n : Int) : intP (setE u e) (runP (setE u e) x n) = intP u (runP u x n) := rfl
theorem sX0_interestBy (w : WT) (e : Int) (R M : TM) (u : PU) (hR : RL R) (hu : cT R M u) (he : 0 ≤ e ∧ e ≤ 12) : tx_S w yX0_interestBy cX0_interestBy 4 (some .int) 8 [rV (wa w) 1, iV e] R M (QC (fun z R' M' => z = intP u (runP u e 40) ∧ cS u R M R' M')) := by
  have me : M 1 11 = uear u := hu.1.2.2.2.2.2.2.2
  refine tx_S.ofk (lv := [(0, _), (1, _)]) [1, 1] (by decide) (by simp only [List.map_cons, List.map_nil, cat_i, cat_l, cat_r]) (by decide) rfl (fun E O F => ?_)
  refine tx_aload_n (pc := 0) 0 O dX0_interestBy_0 rfl rfl ?_
  refine fX0_138 (pc := 1) O dX0_interestBy_1 ?_
  rw [me]
  refine tx_istore_n (pc := 4) (lv' := [(2, _), (0, _), (1, _)]) O dX0_interestBy_4 rfl (by decide) rfl ?_
  refine tx_aload_n (pc := 5) 1 O dX0_interestBy_5 rfl rfl ?_
  refine tx_iload_n (pc := 6) 2 O dX0_interestBy_6 rfl rfl ?_
  refine fX0_138p (pc := 7) O dX0_interestBy_7 ?_
  refine tx_aload_n (pc := 10) 1 O dX0_interestBy_10 rfl rfl ?_
  refine tx_bipush (pc := 11) O dX0_interestBy_11 (by decide) ?_
  refine tx_cV1 (pc := 13) O dX0_interestBy_13 q320 vX0_interestOf (sh_1 w) rfl (by decide) (Nat.zero_le _) (sX0_interestOf w _ _ _ (setE u e) hR (setE_T hu he) (by omega)) (k_C (fun z13 R13 M13 h13 => ?_))
  refine tx_istore_n (pc := 16) (lv' := [(3, _), (2, _), (0, _), (1, _)]) O dX0_interestBy_16 rfl (by decide) rfl ?_
  refine tx_aload_n (pc := 17) 2 O dX0_interestBy_17 rfl rfl ?_
  refine tx_iload_n (pc := 18) 1 O dX0_interestBy_18 rfl rfl ?_
  refine fX0_138p (pc := 19) O dX0_interestBy_19 ?_
  refine tx_iload_n (pc := 22) 0 O dX0_interestBy_22 rfl rfl ?_
  exact tx_iret O F dX0_interestBy_23 (tx_QC.mk ⟨by rw [h13.1]; exact setE_run u e e 40, setE_P h13.2.1 hu.1.1, fun a b q => by
    by_cases z : a = 1 ∧ b = 11
    · rw [z.1, z.2, up_s]; exact me.symm
    · rw [up_n (by omega), h13.2.2.1 a b q, up_n (by omega)], h13.2.2.2⟩)
theorem sX0_loses (w : WT) (e : Int) (R M : TM) (u : PU) (hR : RL R) (hu : cT R M u) (he : rng e) : tx_S w yX0_loses cX0_loses 2 (some .int) 9 [rV (wa w) 1, iV e] R M (QC (fun z R' M' => ((e < 0 ∨ 12 < e) ∧ z = -1002 ∨ (0 ≤ e ∧ e ≤ 12) ∧ z = intP u (runP u 0 40) - intP u (runP u e 40)) ∧ cW u R M R' M')) := by
  refine tx_S.ofk (lv := [(0, _), (1, _)]) [1, 1] (by decide) (by simp only [List.map_cons, List.map_nil, cat_i, cat_l, cat_r]) (by decide) rfl (fun E O F => ?_)
  refine tx_iload_n (pc := 0) 1 O dX0_loses_0 rfl rfl ?_
  refine tx_iconst (pc := 1) O dX0_loses_1 ?_
  refine tx_bipush (pc := 2) O dX0_loses_2 (by decide) ?_
  refine tx_cS3 (pc := 4) O dX0_loses_4 q108 vX0_in (by decide) (Nat.zero_le _) (sX0_in w _ _ _ _ _ (by omega) (by omega) (by omega)) (k_P (fun z4 h4 => ?_))
  refine tx_if_eq (pc := 7) 24 O dX0_loses_7 rfl (by omega) (fun c7 => ?_) (fun c7 => ?_)
  · refine tx_sipush (pc := 24) O dX0_loses_24 (by decide) ?_
    exact tx_iret O F dX0_loses_27 (tx_QC.mk (by first | exact ⟨Or.inl ⟨by omega, rfl⟩, hu.s⟩ | exact ⟨Or.inr ⟨by omega, by rw [g1, h17.1]⟩, (g2.tr h17.2).w⟩))
  · refine tx_aload_n (pc := 10) 0 O dX0_loses_10 rfl rfl ?_
    refine tx_iconst (pc := 11) O dX0_loses_11 ?_
    refine tx_cV1 (pc := 12) O dX0_loses_12 q427 vX0_interestBy (sh_1 w) rfl (by decide) (Nat.zero_le _) (sX0_interestBy w _ _ _ u hR hu (by omega)) (k_C (fun z12 R12 M12 h12 => ?_))
    obtain ⟨g1, g2⟩ := h12
    have hR := hR.kp g2.2.2
    have hu := g2.1.t
    refine tx_aload_n (pc := 15) 0 O dX0_loses_15 rfl rfl ?_
    refine tx_iload_n (pc := 16) 1 O dX0_loses_16 rfl rfl ?_
    refine tx_cV1 (pc := 17) O dX0_loses_17 q427 vX0_interestBy (sh_1 w) rfl (by decide) (Nat.le_of_ble_eq_true rfl) (sX0_interestBy w _ _ _ u hR hu (by omega)) (k_C (fun z17 R17 M17 h17 => ?_))
    refine tx_isub (pc := 20) O dX0_loses_20 ?_
    refine tx_goto (pc := 21) 27 O dX0_loses_21 rfl ?_
    exact tx_iret O F dX0_loses_27 (tx_QC.mk (by first | exact ⟨Or.inl ⟨by omega, rfl⟩, hu.s⟩ | exact ⟨Or.inr ⟨by omega, by rw [g1, h17.1]⟩, (g2.tr h17.2).w⟩))
theorem sX0_bestOf (w : WT) (wish : Int) (R M : TM) (u : PU) (hR : RL R) (hu : cT R M u) (hw : 0 ≤ wish ∧ wish ≤ 240) : tx_S w yX0_bestOf cX0_bestOf 3 (some .int) 9 [rV (wa w) 1, iV wish] R M (QC (fun z R' M' => z = bestP u wish ∧ cW u R M R' M')) := by
  have hok := hu.1.1
  refine tx_S.ofk (lv := [(0, _), (1, _)]) [1, 1] (by decide) (by simp only [List.map_cons, List.map_nil, cat_i, cat_l, cat_r]) (by decide) rfl (fun E O F => ?_)
  have K : ∀ q : Int × TM × TM, (0 ≤ q.1 ∧ q.1 ≤ 13 ∧ bestS u wish q.1 = -1 ∧ RL q.2.1 ∧ cW u R M q.2.1 q.2.2) → tx_X w E 3 [(2, iV (12 - q.1)), (0, rV (wa w) 1), (1, iV wish)] [] q.2.1 q.2.2 := by
    refine lp_m _ _ (fun q => (13 - q.1).toNat) ?_
    rintro ⟨j, R', M'⟩ ⟨h1, h2, h3, hR, h4⟩ ih
    dsimp only at h1 h2 h3 hR h4 ⊢
    have hu := h4.1
    have hst := bestS_1 h1 h3
    have hbd := intP_ok hok (okR_run hok (12 - j) (n := 40) (by omega)).1
    refine tx_iload_n (pc := 3) 0 O dX0_bestOf_3 rfl rfl ?_
    refine tx_if_lt (pc := 4) 22 O dX0_bestOf_4 rfl (by omega) (fun c4 => ?_) (fun c4 => ?_)
    · have ej : j = 13 := by omega
      subst ej
      refine tx_iload_n (pc := 22) 0 O dX0_bestOf_22 rfl rfl ?_
      refine tx_if_lt (pc := 23) 30 O dX0_bestOf_23 rfl (by omega) (fun c23 => ?_) (fun c23 => ?_)
      · refine tx_iconst (pc := 30) O dX0_bestOf_30 ?_
        exact tx_iret O F dX0_bestOf_31 (tx_QC.mk (by
          first
            | (exfalso; omega)
            | exact ⟨by unfold bestP; rw [h3], h4⟩
            | (rw [if_pos (by omega)] at hst
               exact ⟨by unfold bestP; rw [bestS_stay (k := j + 1) (by omega) (by omega) (by omega), hst], hW⟩)))
      · refine tx_iload_n (pc := 26) 0 O dX0_bestOf_26 rfl rfl ?_
        refine tx_goto (pc := 27) 31 O dX0_bestOf_27 rfl ?_
        exact tx_iret O F dX0_bestOf_31 (tx_QC.mk (by
          first
            | (exfalso; omega)
            | exact ⟨by unfold bestP; rw [h3], h4⟩
            | (rw [if_pos (by omega)] at hst
               exact ⟨by unfold bestP; rw [bestS_stay (k := j + 1) (by omega) (by omega) (by omega), hst], hW⟩)))
    · refine tx_aload_n (pc := 7) 1 O dX0_bestOf_7 rfl rfl ?_
      refine tx_iload_n (pc := 8) 0 O dX0_bestOf_8 rfl rfl ?_
      refine tx_cV1 (pc := 9) O dX0_bestOf_9 q427 vX0_interestBy (sh_1 w) rfl (by decide) (Nat.zero_le _) (sX0_interestBy w _ _ _ u hR hu (by omega)) (k_C (fun z9 R9 M9 h9 => ?_))
      obtain ⟨k1, k2⟩ := h9
      have hR := hR.kp k2.2.2
      have hW : cW u R M R9 M9 := (h4.trs k2).w
      refine tx_iload_n (pc := 12) 2 O dX0_bestOf_12 rfl rfl ?_
      refine tx_icmp_ge (pc := 13) 22 O dX0_bestOf_13 rfl (by omega) (fun c13 => ?_) (fun c13 => ?_)
      · refine tx_iload_n (pc := 22) 0 O dX0_bestOf_22 rfl rfl ?_
        refine tx_if_lt (pc := 23) 30 O dX0_bestOf_23 rfl (by omega) (fun c23 => ?_) (fun c23 => ?_)
        · refine tx_iconst (pc := 30) O dX0_bestOf_30 ?_
          exact tx_iret O F dX0_bestOf_31 (tx_QC.mk (by
            first
              | (exfalso; omega)
              | exact ⟨by unfold bestP; rw [h3], h4⟩
              | (rw [if_pos (by omega)] at hst
                 exact ⟨by unfold bestP; rw [bestS_stay (k := j + 1) (by omega) (by omega) (by omega), hst], hW⟩)))
        · refine tx_iload_n (pc := 26) 0 O dX0_bestOf_26 rfl rfl ?_
          refine tx_goto (pc := 27) 31 O dX0_bestOf_27 rfl ?_
          exact tx_iret O F dX0_bestOf_31 (tx_QC.mk (by
            first
              | (exfalso; omega)
              | exact ⟨by unfold bestP; rw [h3], h4⟩
              | (rw [if_pos (by omega)] at hst
                 exact ⟨by unfold bestP; rw [bestS_stay (k := j + 1) (by omega) (by omega) (by omega), hst], hW⟩)))
      · refine tx_iinc (pc := 16) (lv' := [(2, _), (0, _), (1, _)]) 0 O dX0_bestOf_16 rfl (by decide) rfl ?_
        refine tx_goto (pc := 19) 3 O dX0_bestOf_19 rfl ?_
        rw [show 12 - j + -1 = 12 - (j + 1) by omega]
        refine ih (j + 1, R9, M9) ?_ (by dsimp only; omega)
        dsimp only
        exact ⟨by omega, by omega, by rw [hst]; exact if_neg (by omega), hR, hW⟩
  refine tx_bipush (pc := 0) O dX0_bestOf_0 (by decide) ?_
  refine tx_istore_n (pc := 2) (lv' := [(2, _), (0, _), (1, _)]) O dX0_bestOf_2 rfl (by decide) rfl ?_
  refine K (0, R, M) ?_
  dsimp only
  exact ⟨by omega, by omega, rfl, hR, hu.s⟩
theorem sX0_best (w : WT) (wish : Int) (R M : TM) (u : PU) (hR : RL R) (hu : cT R M u) (hw : rng wish) : tx_S w yX0_best cX0_best 2 (some .int) 10 [rV (wa w) 1, iV wish] R M (QC (fun z R' M' => ((wish < 0 ∨ 240 < wish) ∧ z = -2 ∨ (0 ≤ wish ∧ wish ≤ 240) ∧ z = bestP u wish) ∧ cW u R M R' M')) := by
  refine tx_S.ofk (lv := [(0, _), (1, _)]) [1, 1] (by decide) (by simp only [List.map_cons, List.map_nil, cat_i, cat_l, cat_r]) (by decide) rfl (fun E O F => ?_)
  refine tx_iload_n (pc := 0) 1 O dX0_best_0 rfl rfl ?_
  refine tx_iconst (pc := 1) O dX0_best_1 ?_
  refine tx_sipush (pc := 2) O dX0_best_2 (by decide) ?_
  refine tx_cS3 (pc := 5) O dX0_best_5 q108 vX0_in (by decide) (Nat.zero_le _) (sX0_in w _ _ _ _ _ (by omega) (by omega) (by omega)) (k_P (fun z5 h5 => ?_))
  refine tx_if_eq (pc := 8) 19 O dX0_best_8 rfl (by omega) (fun c8 => ?_) (fun c8 => ?_)
  · refine tx_bipush (pc := 19) O dX0_best_19 (by decide) ?_
    exact tx_iret O F dX0_best_21 (tx_QC.mk (by first | exact ⟨Or.inl ⟨by omega, rfl⟩, hu.s⟩ | exact ⟨Or.inr ⟨by omega, h13.1⟩, h13.2⟩))
  · refine tx_aload_n (pc := 11) 0 O dX0_best_11 rfl rfl ?_
    refine tx_iload_n (pc := 12) 1 O dX0_best_12 rfl rfl ?_
    refine tx_cV1 (pc := 13) O dX0_best_13 q435 vX0_bestOf (sh_1 w) rfl (by decide) (Nat.zero_le _) (sX0_bestOf w _ _ _ u hR hu (by omega)) (k_C (fun z13 R13 M13 h13 => ?_))
    refine tx_goto (pc := 16) 21 O dX0_best_16 rfl ?_
    exact tx_iret O F dX0_best_21 (tx_QC.mk (by first | exact ⟨Or.inl ⟨by omega, rfl⟩, hu.s⟩ | exact ⟨Or.inr ⟨by omega, h13.1⟩, h13.2⟩))
theorem sX0_ways (w : WT) (c : Int) (R M : TM) (hc : 0 ≤ c ∧ c ≤ 16) : ∀ (n : Nat), n ≤ 9 → ∀ (fr : Nat), n + 1 ≤ fr → ∀ o : Int, -100 ≤ o ∧ o ≤ 100 → tx_S w yX0_ways cX0_ways 3 (some .long) fr [iV n, iV o, iV c] R M (QPL R M (fun z => z = wys c n o)) := by
  intro n
  induction n with
  | zero =>
    intro _ fr hfr o ho
    refine tx_S.ofk (lv := [(0, _), (1, _), (2, _)]) [1, 1, 1] (by decide) (by simp only [List.map_cons, List.map_nil, cat_i, cat_l, cat_r]) (by decide) rfl (fun E O F => ?_)
    refine tx_iload_n (pc := 0) 1 O dX0_ways_0 rfl rfl ?_
    refine tx_if_lt (pc := 1) 9 O dX0_ways_1 rfl (by omega) (fun c1 => ?_) (fun c1 => ?_)
    · refine tx_lconst0 (pc := 9) O dX0_ways_9 ?_
      exact tx_lret O F dX0_ways_10 (tx_QPL.mk (by unfold wys; first | exact (if_neg (by omega)).symm | exact (if_pos (by omega)).symm))
    · refine tx_iload_n (pc := 4) 1 O dX0_ways_4 rfl rfl ?_
      refine tx_iload_n (pc := 5) 0 O dX0_ways_5 rfl rfl ?_
      refine tx_icmp_le (pc := 6) 11 O dX0_ways_6 rfl (by omega) (fun c6 => ?_) (fun c6 => ?_)
      · refine tx_iload_n (pc := 11) 0 O dX0_ways_11 rfl rfl ?_
        refine tx_if_ne (pc := 12) 19 O dX0_ways_12 rfl (by omega) (fun c12 => ?_) (fun c12 => ?_)
        · exfalso
          omega
        · refine tx_lconst1 (pc := 15) O dX0_ways_15 ?_
          refine tx_goto (pc := 16) 47 O dX0_ways_16 rfl ?_
          exact tx_lret O F dX0_ways_47 (tx_QPL.mk (by unfold wys; first | exact (if_neg (by omega)).symm | exact (if_pos (by omega)).symm))
      · refine tx_lconst0 (pc := 9) O dX0_ways_9 ?_
        exact tx_lret O F dX0_ways_10 (tx_QPL.mk (by unfold wys; first | exact (if_neg (by omega)).symm | exact (if_pos (by omega)).symm))
  | succ n ih =>
    intro hn fr hfr o ho
    have hs : wys c (n + 1) o = if o < 0 ∨ (n : Int) + 1 < o then 0 else c * wys c n (o - 1) + (16 - c) * wys c n o := rfl
    have e1 : ((n + 1 : Nat) : Int) - 1 = n := by omega
    refine tx_S.ofk (lv := [(0, _), (1, _), (2, _)]) [1, 1, 1] (by decide) (by simp only [List.map_cons, List.map_nil, cat_i, cat_l, cat_r]) (by decide) rfl (fun E O F => ?_)
    refine tx_iload_n (pc := 0) 1 O dX0_ways_0 rfl rfl ?_
    refine tx_if_lt (pc := 1) 9 O dX0_ways_1 rfl (by omega) (fun c1 => ?_) (fun c1 => ?_)
    · refine tx_lconst0 (pc := 9) O dX0_ways_9 ?_
      exact tx_lret O F dX0_ways_10 (tx_QPL.mk (by rw [hs]; first | exact (if_pos (by omega)).symm | (rw [if_neg (by omega), h28, h42]; done)))
    · refine tx_iload_n (pc := 4) 1 O dX0_ways_4 rfl rfl ?_
      refine tx_iload_n (pc := 5) 0 O dX0_ways_5 rfl rfl ?_
      refine tx_icmp_le (pc := 6) 11 O dX0_ways_6 rfl (by omega) (fun c6 => ?_) (fun c6 => ?_)
      · refine tx_iload_n (pc := 11) 0 O dX0_ways_11 rfl rfl ?_
        refine tx_if_ne (pc := 12) 19 O dX0_ways_12 rfl (by omega) (fun c12 => ?_) (fun c12 => ?_)
        · refine tx_iload_n (pc := 19) 2 O dX0_ways_19 rfl rfl ?_
          refine tx_i2l (pc := 20) O dX0_ways_20 (by omega) ?_
          refine tx_iload_n (pc := 21) 0 O dX0_ways_21 rfl rfl ?_
          refine tx_iconst (pc := 22) O dX0_ways_22 ?_
          refine tx_isub (pc := 23) O dX0_ways_23 ?_
          refine tx_iload_n (pc := 24) 1 O dX0_ways_24 rfl rfl ?_
          refine tx_iconst (pc := 25) O dX0_ways_25 ?_
          refine tx_isub (pc := 26) O dX0_ways_26 ?_
          refine tx_iload_n (pc := 27) 2 O dX0_ways_27 rfl rfl ?_
          rw [e1]
          refine tx_cS3 (pc := 28) O dX0_ways_28 q447 vX0_ways (by omega) (Nat.le_of_ble_eq_true rfl) (ih (by omega) (n + 1) (by omega) _ (by omega)) (k_PL (fun z28 h28 => ?_))
          refine tx_lmul (pc := 31) O dX0_ways_31 ?_
          refine tx_bipush (pc := 32) O dX0_ways_32 (by decide) ?_
          refine tx_iload_n (pc := 34) 2 O dX0_ways_34 rfl rfl ?_
          refine tx_isub (pc := 35) O dX0_ways_35 ?_
          refine tx_i2l (pc := 36) O dX0_ways_36 (by omega) ?_
          refine tx_iload_n (pc := 37) 0 O dX0_ways_37 rfl rfl ?_
          refine tx_iconst (pc := 38) O dX0_ways_38 ?_
          refine tx_isub (pc := 39) O dX0_ways_39 ?_
          refine tx_iload_n (pc := 40) 1 O dX0_ways_40 rfl rfl ?_
          refine tx_iload_n (pc := 41) 2 O dX0_ways_41 rfl rfl ?_
          rw [e1]
          refine tx_cS3 (pc := 42) O dX0_ways_42 q447 vX0_ways (by omega) (Nat.le_of_ble_eq_true rfl) (ih (by omega) (n + 1) (by omega) _ (by omega)) (k_PL (fun z42 h42 => ?_))
          refine tx_lmul (pc := 45) O dX0_ways_45 ?_
          refine tx_ladd (pc := 46) O dX0_ways_46 ?_
          exact tx_lret O F dX0_ways_47 (tx_QPL.mk (by rw [hs]; first | exact (if_pos (by omega)).symm | (rw [if_neg (by omega), h28, h42]; done)))
        · exfalso
          omega
      · refine tx_lconst0 (pc := 9) O dX0_ways_9 ?_
        exact tx_lret O F dX0_ways_10 (tx_QPL.mk (by rw [hs]; first | exact (if_pos (by omega)).symm | (rw [if_neg (by omega), h28, h42]; done)))
theorem zlshl_16 {y : Int} (h : 0 ≤ y ∧ y ≤ 9) : zlshl 1 (4 * y) = pw 16 y := by
  rcases (show y = 0 ∨ y = 1 ∨ y = 2 ∨ y = 3 ∨ y = 4 ∨ y = 5 ∨ y = 6 ∨ y = 7 ∨ y = 8 ∨ y = 9 by omega) with e | e | e | e | e | e | e | e | e | e <;> subst e <;> decide +kernel
theorem sX0_humsOf (w : WT) (c t b y wish what : Int) (R M : TM) (u : PU) (hR : RL R) (hu : cP R M u) (hc : 0 ≤ c ∧ c ≤ 16) (ht : 0 ≤ t ∧ t < (uT u).length) (hb : 0 ≤ b ∧ b < uB u) (hy : 1 ≤ y ∧ y ≤ 9) (hw : 1 ≤ wish ∧ wish ≤ 40) (hwh : 0 ≤ what ∧ what ≤ 1) : tx_S w yX0_humsOf cX0_humsOf 10 (some .long) 11 [rV (wa w) 1, iV c, iV t, iV b, iV y, iV wish, iV what] R M (QL R (fun z M' => z = humsP u c t b y wish what ∧ kcU M M')) := by
  have hok := hu.1.1
  have hD1 := (uT_ok hok).1
  have hB6 := uB_ok hok
  have hp16 := pw16 (y := y) (by omega)
  refine tx_S.ofk (lv := [(0, _), (1, _), (2, _), (3, _), (4, _), (5, _), (6, _)]) [1, 1, 1, 1, 1, 1, 1] (by decide) (by simp only [List.map_cons, List.map_nil, cat_i, cat_l, cat_r]) (by decide) rfl (fun E O F => ?_)
  have K2 : ∀ (k : Int) (M' : TM), (0 ≤ k ∧ k ≤ y + 1 ∧ tuIs M' 219 (hmk u t b k) ∧ kcV M M') → tx_X w E 19 [(9, iV k), (7, lV (hmS u c t b y wish k)), (0, rV (wa w) 1), (1, iV c), (3, iV b), (4, iV y), (5, iV wish), (6, iV what)] [] R M' := by
    refine lp_up _ _ (y + 1) ?_
    rintro k M' ⟨h1, h2, h3, h4⟩ ih
    have hu := hu.keep h4.u
    have hl := hmk_ok hok ht hb k h1
    have hl1 := hl.1
    have hS := hmS_ok (u := u) (t := t) (b := b) (wish := wish) hc (y := y) (by omega) k h1 h2
    have hst2 := hmS_1 u c t b y wish h1
    obtain ⟨r5, r6⟩ := hu.br hb.1 hb.2
    have wz : tx_S w yX0_ways cX0_ways 3 (some .long) 10 [iV y, iV k, iV c] R M' (QPL R M' (fun z => z = wys c y.toNat k)) := by
      obtain ⟨n, rfl⟩ := Int.eq_ofNat_of_zero_le (show 0 ≤ y by omega)
      exact sX0_ways w c R M' hc n (by omega) 10 (by omega) k (by omega)
    refine tx_iload (pc := 19) 0 O dX0_humsOf_19 rfl ?_
    refine tx_iload (pc := 21) 5 O dX0_humsOf_21 rfl ?_
    refine tx_icmp_gt (pc := 23) 75 O dX0_humsOf_23 rfl (by omega) (fun c23 => ?_) (fun c23 => ?_)
    · refine tx_lload (pc := 75) 1 O dX0_humsOf_75 rfl ?_
      refine tx_lconst1 (pc := 77) O dX0_humsOf_77 ?_
      refine tx_iconst (pc := 78) O dX0_humsOf_78 ?_
      refine tx_iload (pc := 79) 5 O dX0_humsOf_79 rfl ?_
      refine tx_imul (pc := 81) O dX0_humsOf_81 ?_
      refine tx_lshl (pc := 82) O dX0_humsOf_82 ?_
      rw [zlshl_16 (by omega)]
      refine tx_iload (pc := 83) 7 O dX0_humsOf_83 rfl ?_
      refine tx_cS3 (pc := 85) O dX0_humsOf_85 q450 vX0_lowest (by decide) (Nat.zero_le _) (sX0_lowest w _ _ _ _ _ (by omega) (by omega) (by omega)) (k_PL (fun z85 h85 => ?_))
      exact tx_lret O F dX0_humsOf_88 (tx_QL.mk ⟨by unfold humsP; rw [show y + 1 = k by omega]; exact h85, h4.u⟩)
    · refine tx_lload (pc := 26) 1 O dX0_humsOf_26 rfl ?_
      refine tx_aload_n (pc := 28) 2 O dX0_humsOf_28 rfl rfl ?_
      refine fX0_216 (pc := 29) O hR dX0_humsOf_29 ?_
      refine fX0_37 (pc := 32) O (by omega) dX0_humsOf_32 ?_
      rw [h3.1]
      refine tx_iload (pc := 35) 6 O dX0_humsOf_35 rfl ?_
      refine tx_icmp_lt (pc := 37) 51 O dX0_humsOf_37 rfl (by omega) (fun c37 => ?_) (fun c37 => ?_)
      · refine tx_lconst0 (pc := 51) O dX0_humsOf_51 ?_
        refine tx_ladd (pc := 52) O dX0_humsOf_52 ?_
        refine tx_lstore (pc := 53) (lv' := [(7, _), (9, _), (0, _), (1, _), (3, _), (4, _), (5, _), (6, _)]) O dX0_humsOf_53 (by decide) rfl ?_
        refine tx_aload_n (pc := 55) 2 O dX0_humsOf_55 rfl rfl ?_
        refine tx_aload_n (pc := 56) 2 O dX0_humsOf_56 rfl rfl ?_
        refine fX0_49 (pc := 57) O hR dX0_humsOf_57 ?_
        refine tx_iload_n (pc := 60) 4 O dX0_humsOf_60 rfl rfl ?_
        refine tx_aald (pc := 61) _ _ O dX0_humsOf_61 (sh_208 w) (by decide) (by omega) ?_
        refine tx_aload_n (pc := 62) 2 O dX0_humsOf_62 rfl rfl ?_
        refine fX0_216 (pc := 63) O hR dX0_humsOf_63 ?_
        refine tx_cV2 (pc := 66) O dX0_humsOf_66 q260 vX0_humsOnce (sh_1 w) rfl (by decide) (Nat.zero_le _) (sX0_humsOnce w _ _ _ _ _ hR r5 (by omega) (by omega) h3 hl (by rw [r6]; exact uq_ok hok hb.1 hb.2)) (k_V (fun M66 h66 => ?_))
        rw [r6] at h66
        refine tx_iinc (pc := 69) (lv' := [(9, _), (7, _), (0, _), (1, _), (3, _), (4, _), (5, _), (6, _)]) 1 O dX0_humsOf_69 rfl (by decide) rfl ?_
        refine tx_goto (pc := 72) 19 O dX0_humsOf_72 rfl ?_
        have := ih (k + 1) _ ⟨by omega, by omega, by rw [hmk_1 _ _ _ h1]; exact h66.1, h4.tr (fun a b q => h66.2 a b (by omega))⟩ (by omega) (by omega)
        rw [hst2] at this
        first
          | (rw [if_pos (by omega)] at this; exact this)
          | (rw [if_neg (by omega)] at this; exact this)
      · refine tx_iload (pc := 40) 5 O dX0_humsOf_40 rfl ?_
        refine tx_iload (pc := 42) 0 O dX0_humsOf_42 rfl ?_
        refine tx_iload_n (pc := 44) 3 O dX0_humsOf_44 rfl rfl ?_
        refine tx_cS3 (pc := 45) O dX0_humsOf_45 q447 vX0_ways (by decide) (Nat.le_of_ble_eq_true rfl) (wz) (k_PL (fun z45 h45 => ?_))
        subst h45
        refine tx_goto (pc := 48) 52 O dX0_humsOf_48 rfl ?_
        refine tx_ladd (pc := 52) O dX0_humsOf_52 ?_
        refine tx_lstore (pc := 53) (lv' := [(7, _), (9, _), (0, _), (1, _), (3, _), (4, _), (5, _), (6, _)]) O dX0_humsOf_53 (by decide) rfl ?_
        refine tx_aload_n (pc := 55) 2 O dX0_humsOf_55 rfl rfl ?_
        refine tx_aload_n (pc := 56) 2 O dX0_humsOf_56 rfl rfl ?_
        refine fX0_49 (pc := 57) O hR dX0_humsOf_57 ?_
        refine tx_iload_n (pc := 60) 4 O dX0_humsOf_60 rfl rfl ?_
        refine tx_aald (pc := 61) _ _ O dX0_humsOf_61 (sh_208 w) (by decide) (by omega) ?_
        refine tx_aload_n (pc := 62) 2 O dX0_humsOf_62 rfl rfl ?_
        refine fX0_216 (pc := 63) O hR dX0_humsOf_63 ?_
        refine tx_cV2 (pc := 66) O dX0_humsOf_66 q260 vX0_humsOnce (sh_1 w) rfl (by decide) (Nat.zero_le _) (sX0_humsOnce w _ _ _ _ _ hR r5 (by omega) (by omega) h3 hl (by rw [r6]; exact uq_ok hok hb.1 hb.2)) (k_V (fun M66 h66 => ?_))
        rw [r6] at h66
        refine tx_iinc (pc := 69) (lv' := [(9, _), (7, _), (0, _), (1, _), (3, _), (4, _), (5, _), (6, _)]) 1 O dX0_humsOf_69 rfl (by decide) rfl ?_
        refine tx_goto (pc := 72) 19 O dX0_humsOf_72 rfl ?_
        have := ih (k + 1) _ ⟨by omega, by omega, by rw [hmk_1 _ _ _ h1]; exact h66.1, h4.tr (fun a b q => h66.2 a b (by omega))⟩ (by omega) (by omega)
        rw [hst2] at this
        first
          | (rw [if_pos (by omega)] at this; exact this)
          | (rw [if_neg (by omega)] at this; exact this)
  refine tx_lconst0 (pc := 0) O dX0_humsOf_0 ?_
  refine tx_lstore (pc := 1) (lv' := [(7, _), (0, _), (1, _), (2, _), (3, _), (4, _), (5, _), (6, _)]) O dX0_humsOf_1 (by decide) rfl ?_
  refine tx_aload_n (pc := 3) 1 O dX0_humsOf_3 rfl rfl ?_
  refine fX0_216 (pc := 4) O hR dX0_humsOf_4 ?_
  refine tx_aload_n (pc := 7) 1 O dX0_humsOf_7 rfl rfl ?_
  refine fX0_33 (pc := 8) O hR dX0_humsOf_8 ?_
  refine tx_iload_n (pc := 11) 3 O dX0_humsOf_11 rfl rfl ?_
  refine tx_aald (pc := 12) _ _ O dX0_humsOf_12 (sh_205 w) (by decide) (by omega) ?_
  rw [hR.2.2.2.2.1]
  refine tx_cV1 (pc := 13) O dX0_humsOf_13 q245 vX1_is (sh_t w (by omega)) rfl (by decide) (Nat.zero_le _) (sX1_is w _ _ _ _ _ hR (by omega) (by omega) (by omega) (hu.tu ht) (okTn hok ht).1) (k_V (fun M13 h13 => ?_))
  refine tx_iconst (pc := 16) O dX0_humsOf_16 ?_
  refine tx_istore (pc := 17) (lv' := [(9, _), (7, _), (0, _), (1, _), (2, _), (3, _), (4, _), (5, _), (6, _)]) O dX0_humsOf_17 (by decide) rfl ?_
  refine tx_lv (lv' := [(9, _), (7, _), (0, _), (1, _), (3, _), (4, _), (5, _), (6, _)]) [0, 1, 2, 3, 5, 6, 7, 8] rfl ?_
  exact K2 0 _ ⟨by omega, by omega, h13.1, fun a b q => h13.2 a b (by omega)⟩
theorem sX0_hums (w : WT) (c t b y wish what : Int) (R M : TM) (u : PU) (hR : RL R) (hu : cT R M u) (hc : rng c) (ht : rng t) (hb : rng b) (hy : rng y) (hw : rng wish) (hwh : rng what) : tx_S w yX0_hums cX0_hums 8 (some .long) 12 [rV (wa w) 1, iV c, iV t, iV b, iV y, iV wish, iV what] R M (QCL (fun z R' M' => (¬ humsOkP u c t b y wish what ∧ z = -9223372036854775806 ∨ humsOkP u c t b y wish what ∧ z = humsP u c t b y wish what) ∧ cW u R M R' M')) := by
  refine tx_S.ofk (lv := [(0, _), (1, _), (2, _), (3, _), (4, _), (5, _), (6, _)]) [1, 1, 1, 1, 1, 1, 1] (by decide) (by simp only [List.map_cons, List.map_nil, cat_i, cat_l, cat_r]) (by decide) rfl (fun E O F => ?_)
  refine tx_iload_n (pc := 0) 1 O dX0_hums_0 rfl rfl ?_
  refine tx_iconst (pc := 1) O dX0_hums_1 ?_
  refine tx_bipush (pc := 2) O dX0_hums_2 (by decide) ?_
  refine tx_cS3 (pc := 4) O dX0_hums_4 q108 vX0_in (by decide) (Nat.zero_le _) (sX0_in w _ _ _ _ _ (by omega) (by omega) (by omega)) (k_P (fun z4 h4 => ?_))
  refine tx_if_eq (pc := 7) 52 O dX0_hums_7 rfl (by omega) (fun c7 => ?_) (fun c7 => ?_)
  · refine tx_iconst (pc := 52) O dX0_hums_52 ?_
    refine tx_istore (pc := 53) (lv' := [(7, _), (0, _), (1, _), (2, _), (3, _), (4, _), (5, _), (6, _)]) O dX0_hums_53 (by decide) rfl ?_
    refine tx_iload (pc := 55) 0 O dX0_hums_55 rfl ?_
    refine tx_if_eq (pc := 57) 84 O dX0_hums_57 rfl (by omega) (fun c57 => ?_) (fun c57 => ?_)
    · refine tx_bipush (pc := 84) O dX0_hums_84 (by decide) ?_
      refine tx_cS1 (pc := 86) O dX0_hums_86 q453 vX0_no (by decide) (Nat.zero_le _) (sX0_no w _ _ _ (by omega)) (k_PL (fun z86 h86 => ?_))
      exact tx_lret O F dX0_hums_89 (tx_QCL.mk (by
        first
          | exact ⟨Or.inr ⟨by unfold humsOkP; omega, h78.1⟩, (g2.tr (g4.u h78.2)).w⟩
          | exact ⟨Or.inl ⟨by unfold humsOkP; omega, h86⟩, (g2.tr g4).w⟩
          | exact ⟨Or.inl ⟨by unfold humsOkP; omega, h86⟩, g2.w⟩
          | exact ⟨Or.inl ⟨by unfold humsOkP; omega, h86⟩, hu.s⟩))
    · exact absurd c57 (by decide)
  · refine tx_aload_n (pc := 10) 0 O dX0_hums_10 rfl rfl ?_
    refine tx_iload_n (pc := 11) 2 O dX0_hums_11 rfl rfl ?_
    refine tx_cV1 (pc := 12) O dX0_hums_12 q152 vX0_isTune (sh_1 w) rfl (by decide) (Nat.zero_le _) (sX0_isTune w _ _ _ u hR hu (by omega)) (k_C (fun z12 R12 M12 h12 => ?_))
    obtain ⟨g1, g2⟩ := h12
    have hR := hR.kp g2.2.2
    have hu := g2.1.t
    refine tx_if_eq (pc := 15) 52 O dX0_hums_15 rfl (by omega) (fun c15 => ?_) (fun c15 => ?_)
    · refine tx_iconst (pc := 52) O dX0_hums_52 ?_
      refine tx_istore (pc := 53) (lv' := [(7, _), (0, _), (1, _), (2, _), (3, _), (4, _), (5, _), (6, _)]) O dX0_hums_53 (by decide) rfl ?_
      refine tx_iload (pc := 55) 0 O dX0_hums_55 rfl ?_
      refine tx_if_eq (pc := 57) 84 O dX0_hums_57 rfl (by omega) (fun c57 => ?_) (fun c57 => ?_)
      · refine tx_bipush (pc := 84) O dX0_hums_84 (by decide) ?_
        refine tx_cS1 (pc := 86) O dX0_hums_86 q453 vX0_no (by decide) (Nat.zero_le _) (sX0_no w _ _ _ (by omega)) (k_PL (fun z86 h86 => ?_))
        exact tx_lret O F dX0_hums_89 (tx_QCL.mk (by
          first
            | exact ⟨Or.inr ⟨by unfold humsOkP; omega, h78.1⟩, (g2.tr (g4.u h78.2)).w⟩
            | exact ⟨Or.inl ⟨by unfold humsOkP; omega, h86⟩, (g2.tr g4).w⟩
            | exact ⟨Or.inl ⟨by unfold humsOkP; omega, h86⟩, g2.w⟩
            | exact ⟨Or.inl ⟨by unfold humsOkP; omega, h86⟩, hu.s⟩))
      · exact absurd c57 (by decide)
    · refine tx_aload_n (pc := 18) 0 O dX0_hums_18 rfl rfl ?_
      refine tx_iload_n (pc := 19) 3 O dX0_hums_19 rfl rfl ?_
      refine tx_cV1 (pc := 20) O dX0_hums_20 q163 vX0_isBorrower (sh_1 w) rfl (by decide) (Nat.zero_le _) (sX0_isBorrower w _ _ _ u hR hu (by omega)) (k_C (fun z20 R20 M20 h20 => ?_))
      obtain ⟨g3, g4⟩ := h20
      have hR := hR.kp g4.2.2
      refine tx_if_eq (pc := 23) 52 O dX0_hums_23 rfl (by omega) (fun c23 => ?_) (fun c23 => ?_)
      · refine tx_iconst (pc := 52) O dX0_hums_52 ?_
        refine tx_istore (pc := 53) (lv' := [(7, _), (0, _), (1, _), (2, _), (3, _), (4, _), (5, _), (6, _)]) O dX0_hums_53 (by decide) rfl ?_
        refine tx_iload (pc := 55) 0 O dX0_hums_55 rfl ?_
        refine tx_if_eq (pc := 57) 84 O dX0_hums_57 rfl (by omega) (fun c57 => ?_) (fun c57 => ?_)
        · refine tx_bipush (pc := 84) O dX0_hums_84 (by decide) ?_
          refine tx_cS1 (pc := 86) O dX0_hums_86 q453 vX0_no (by decide) (Nat.zero_le _) (sX0_no w _ _ _ (by omega)) (k_PL (fun z86 h86 => ?_))
          exact tx_lret O F dX0_hums_89 (tx_QCL.mk (by
            first
              | exact ⟨Or.inr ⟨by unfold humsOkP; omega, h78.1⟩, (g2.tr (g4.u h78.2)).w⟩
              | exact ⟨Or.inl ⟨by unfold humsOkP; omega, h86⟩, (g2.tr g4).w⟩
              | exact ⟨Or.inl ⟨by unfold humsOkP; omega, h86⟩, g2.w⟩
              | exact ⟨Or.inl ⟨by unfold humsOkP; omega, h86⟩, hu.s⟩))
        · exact absurd c57 (by decide)
      · refine tx_iload (pc := 26) 4 O dX0_hums_26 rfl ?_
        refine tx_iconst (pc := 28) O dX0_hums_28 ?_
        refine tx_bipush (pc := 29) O dX0_hums_29 (by decide) ?_
        refine tx_cS3 (pc := 31) O dX0_hums_31 q108 vX0_in (by decide) (Nat.zero_le _) (sX0_in w _ _ _ _ _ (by omega) (by omega) (by omega)) (k_P (fun z31 h31 => ?_))
        refine tx_if_eq (pc := 34) 52 O dX0_hums_34 rfl (by omega) (fun c34 => ?_) (fun c34 => ?_)
        · refine tx_iconst (pc := 52) O dX0_hums_52 ?_
          refine tx_istore (pc := 53) (lv' := [(7, _), (0, _), (1, _), (2, _), (3, _), (4, _), (5, _), (6, _)]) O dX0_hums_53 (by decide) rfl ?_
          refine tx_iload (pc := 55) 0 O dX0_hums_55 rfl ?_
          refine tx_if_eq (pc := 57) 84 O dX0_hums_57 rfl (by omega) (fun c57 => ?_) (fun c57 => ?_)
          · refine tx_bipush (pc := 84) O dX0_hums_84 (by decide) ?_
            refine tx_cS1 (pc := 86) O dX0_hums_86 q453 vX0_no (by decide) (Nat.zero_le _) (sX0_no w _ _ _ (by omega)) (k_PL (fun z86 h86 => ?_))
            exact tx_lret O F dX0_hums_89 (tx_QCL.mk (by
              first
                | exact ⟨Or.inr ⟨by unfold humsOkP; omega, h78.1⟩, (g2.tr (g4.u h78.2)).w⟩
                | exact ⟨Or.inl ⟨by unfold humsOkP; omega, h86⟩, (g2.tr g4).w⟩
                | exact ⟨Or.inl ⟨by unfold humsOkP; omega, h86⟩, g2.w⟩
                | exact ⟨Or.inl ⟨by unfold humsOkP; omega, h86⟩, hu.s⟩))
          · exact absurd c57 (by decide)
        · refine tx_iload (pc := 37) 5 O dX0_hums_37 rfl ?_
          refine tx_iconst (pc := 39) O dX0_hums_39 ?_
          refine tx_bipush (pc := 40) O dX0_hums_40 (by decide) ?_
          refine tx_cS3 (pc := 42) O dX0_hums_42 q108 vX0_in (by decide) (Nat.zero_le _) (sX0_in w _ _ _ _ _ (by omega) (by omega) (by omega)) (k_P (fun z42 h42 => ?_))
          refine tx_if_eq (pc := 45) 52 O dX0_hums_45 rfl (by omega) (fun c45 => ?_) (fun c45 => ?_)
          · refine tx_iconst (pc := 52) O dX0_hums_52 ?_
            refine tx_istore (pc := 53) (lv' := [(7, _), (0, _), (1, _), (2, _), (3, _), (4, _), (5, _), (6, _)]) O dX0_hums_53 (by decide) rfl ?_
            refine tx_iload (pc := 55) 0 O dX0_hums_55 rfl ?_
            refine tx_if_eq (pc := 57) 84 O dX0_hums_57 rfl (by omega) (fun c57 => ?_) (fun c57 => ?_)
            · refine tx_bipush (pc := 84) O dX0_hums_84 (by decide) ?_
              refine tx_cS1 (pc := 86) O dX0_hums_86 q453 vX0_no (by decide) (Nat.zero_le _) (sX0_no w _ _ _ (by omega)) (k_PL (fun z86 h86 => ?_))
              exact tx_lret O F dX0_hums_89 (tx_QCL.mk (by
                first
                  | exact ⟨Or.inr ⟨by unfold humsOkP; omega, h78.1⟩, (g2.tr (g4.u h78.2)).w⟩
                  | exact ⟨Or.inl ⟨by unfold humsOkP; omega, h86⟩, (g2.tr g4).w⟩
                  | exact ⟨Or.inl ⟨by unfold humsOkP; omega, h86⟩, g2.w⟩
                  | exact ⟨Or.inl ⟨by unfold humsOkP; omega, h86⟩, hu.s⟩))
            · exact absurd c57 (by decide)
          · refine tx_iconst (pc := 48) O dX0_hums_48 ?_
            refine tx_goto (pc := 49) 53 O dX0_hums_49 rfl ?_
            refine tx_istore (pc := 53) (lv' := [(7, _), (0, _), (1, _), (2, _), (3, _), (4, _), (5, _), (6, _)]) O dX0_hums_53 (by decide) rfl ?_
            refine tx_iload (pc := 55) 0 O dX0_hums_55 rfl ?_
            refine tx_if_eq (pc := 57) 84 O dX0_hums_57 rfl (by omega) (fun c57 => ?_) (fun c57 => ?_)
            · exact absurd c57 (by decide)
            · refine tx_iload (pc := 60) 7 O dX0_hums_60 rfl ?_
              refine tx_cS1 (pc := 62) O dX0_hums_62 q105 vX0_isTwo (by decide) (Nat.zero_le _) (sX0_isTwo w _ _ _ (by omega)) (k_P (fun z62 h62 => ?_))
              refine tx_if_eq (pc := 65) 84 O dX0_hums_65 rfl (by omega) (fun c65 => ?_) (fun c65 => ?_)
              · refine tx_bipush (pc := 84) O dX0_hums_84 (by decide) ?_
                refine tx_cS1 (pc := 86) O dX0_hums_86 q453 vX0_no (by decide) (Nat.zero_le _) (sX0_no w _ _ _ (by omega)) (k_PL (fun z86 h86 => ?_))
                exact tx_lret O F dX0_hums_89 (tx_QCL.mk (by
                  first
                    | exact ⟨Or.inr ⟨by unfold humsOkP; omega, h78.1⟩, (g2.tr (g4.u h78.2)).w⟩
                    | exact ⟨Or.inl ⟨by unfold humsOkP; omega, h86⟩, (g2.tr g4).w⟩
                    | exact ⟨Or.inl ⟨by unfold humsOkP; omega, h86⟩, g2.w⟩
                    | exact ⟨Or.inl ⟨by unfold humsOkP; omega, h86⟩, hu.s⟩))
              · refine tx_aload_n (pc := 68) 1 O dX0_hums_68 rfl rfl ?_
                refine tx_iload_n (pc := 69) 2 O dX0_hums_69 rfl rfl ?_
                refine tx_iload_n (pc := 70) 3 O dX0_hums_70 rfl rfl ?_
                refine tx_iload_n (pc := 71) 4 O dX0_hums_71 rfl rfl ?_
                refine tx_iload (pc := 72) 5 O dX0_hums_72 rfl ?_
                refine tx_iload (pc := 74) 6 O dX0_hums_74 rfl ?_
                refine tx_iload (pc := 76) 7 O dX0_hums_76 rfl ?_
                refine tx_cV6 (pc := 78) O dX0_hums_78 q443 vX0_humsOf (sh_1 w) rfl (by decide) (Nat.zero_le _) (sX0_humsOf w _ _ _ _ _ _ _ _ u hR g4.1 (by omega) (by omega) (by omega) (by omega) (by omega) (by omega)) (k_L (fun z78 M78 h78 => ?_))
                refine tx_goto (pc := 81) 89 O dX0_hums_81 rfl ?_
                exact tx_lret O F dX0_hums_89 (tx_QCL.mk (by
                  first
                    | exact ⟨Or.inr ⟨by unfold humsOkP; omega, h78.1⟩, (g2.tr (g4.u h78.2)).w⟩
                    | exact ⟨Or.inl ⟨by unfold humsOkP; omega, h86⟩, (g2.tr g4).w⟩
                    | exact ⟨Or.inl ⟨by unfold humsOkP; omega, h86⟩, g2.w⟩
                    | exact ⟨Or.inl ⟨by unfold humsOkP; omega, h86⟩, hu.s⟩))
theorem sX0_fairOf (w : WT) (seed years t : Int) (R M : TM) (u : PU) (hR : RL R) (hu : cT R M u) (ht : 0 ≤ t ∧ t < (uT u).length) (hy : 1 ≤ years ∧ years ≤ 40) : tx_S w yX0_fairOf cX0_fairOf 7 (some .int) 6 [rV (wa w) 1, iV seed, iV years, iV t] R M (QC (fun z R' M' => z = fairP u seed years t ∧ cS u R M R' M')) := by
  have hok := hu.1.1
  have hT := uT_ok hok
  have hD1 := hT.1
  have hB6 := uB_ok hok
  refine tx_S.ofk (lv := [(0, _), (1, _), (2, _), (3, _)]) [1, 1, 1, 1] (by decide) (by simp only [List.map_cons, List.map_nil, cat_i, cat_l, cat_r]) (by decide) rfl (fun E O F => ?_)
  have K : ∀ (R' : TM) (y : Int) (M' : TM), (0 ≤ y ∧ y ≤ years ∧ (0 < y → 0 < uB u) ∧ (∀ s : Int, 0 ≤ s → s < (uT u).length → tuIs M' (410 + s) ((fairS u seed y).2 s)) ∧ RL R' ∧ cS u R M R' M') → tx_X w E 10 [(5, iV y), (4, iV (fairS u seed y).1), (0, rV (wa w) 1), (1, iV seed), (2, iV years), (3, iV t)] [] R' M' := by
    intro R'
    refine lp_up _ _ years ?_
    rintro y M' ⟨h1, h2, h3, h4, hR, h5⟩ ih
    have hu := h5.1
    have hst := itI_1 (fairI u) ((seed, fun t => gl (uT u) t) : FS) h1
    change fairS u seed (y + 1) = fairI u y (fairS u seed y) at hst
    have hfin : ¬ (y < years ∧ 0 < uB u) → fairP u seed years t = ((fairS u seed y).2 t).length := by
      intro q
      unfold fairP
      by_cases e : 0 < uB u
      · rw [if_pos e, show years = y by omega]
      · have e2 : y = 0 := by
          rcases (show y = 0 ∨ 0 < y by omega) with z | z
          · exact z
          · exact absurd (h3 z) e
        rw [if_neg e, e2]
    have hs2 : ∀ s : Int, 0 ≤ s → s < (uT u).length → 0 < uB u → okN ((fairS u seed y).2 s) := fun s q1 q2 q3 => fairS_ok hok q3 (by omega) seed y y h1 (Int.le_refl _) s q1 q2
    generalize fairS u seed y = s at h4 hst hfin hs2 ⊢
    obtain ⟨lot, nw⟩ := s
    dsimp only at h4 hfin hs2 ⊢
    have z1 := zushr_ok (lot1 lot)
    have z2 := zushr_ok (lot1 (lot1 lot))
    refine tx_iload (pc := 10) 0 O dX0_fairOf_10 rfl ?_
    refine tx_iload_n (pc := 12) 4 O dX0_fairOf_12 rfl rfl ?_
    refine tx_icmp_ge (pc := 13) 91 O dX0_fairOf_13 rfl (by omega) (fun c13 => ?_) (fun c13 => ?_)
    · refine tx_aload_n (pc := 91) 2 O dX0_fairOf_91 rfl rfl ?_
      refine fX0_141 (pc := 92) O hR dX0_fairOf_92 ?_
      refine tx_iload_n (pc := 95) 5 O dX0_fairOf_95 rfl rfl ?_
      refine tx_aald (pc := 96) _ _ O dX0_fairOf_96 (sh_212 w) (by decide) (by omega) ?_
      rw [hR.2.2.2.2.2.1]
      refine fX0_37 (pc := 97) O (by omega) dX0_fairOf_97 ?_
      exact tx_iret O F dX0_fairOf_100 (tx_QC.mk ⟨by rw [hfin (by omega)]; exact (h4 t ht.1 ht.2).1, h5⟩)
    · refine tx_aload_n (pc := 16) 2 O dX0_fairOf_16 rfl rfl ?_
      refine fX0_46 (pc := 17) O dX0_fairOf_17 ?_
      rw [hu.bor]
      refine tx_if_le (pc := 20) 91 O dX0_fairOf_20 rfl (by omega) (fun c20 => ?_) (fun c20 => ?_)
      · refine tx_aload_n (pc := 91) 2 O dX0_fairOf_91 rfl rfl ?_
        refine fX0_141 (pc := 92) O hR dX0_fairOf_92 ?_
        refine tx_iload_n (pc := 95) 5 O dX0_fairOf_95 rfl rfl ?_
        refine tx_aald (pc := 96) _ _ O dX0_fairOf_96 (sh_212 w) (by decide) (by omega) ?_
        rw [hR.2.2.2.2.2.1]
        refine fX0_37 (pc := 97) O (by omega) dX0_fairOf_97 ?_
        exact tx_iret O F dX0_fairOf_100 (tx_QC.mk ⟨by rw [hfin (by omega)]; exact (h4 t ht.1 ht.2).1, h5⟩)
      · refine tx_ldcw (pc := 23) (z := 1103515245) O dX0_fairOf_23 q465 rfl ?_
        refine tx_iload (pc := 26) 1 O dX0_fairOf_26 rfl ?_
        refine tx_imul (pc := 28) O dX0_fairOf_28 ?_
        refine tx_sipush (pc := 29) O dX0_fairOf_29 (by decide) ?_
        refine tx_iadd (pc := 32) O dX0_fairOf_32 ?_
        refine tx_istore (pc := 33) (lv' := [(4, _), (5, _), (0, _), (1, _), (2, _), (3, _)]) O dX0_fairOf_33 (by decide) rfl ?_
        change tx_X w E 35 [(4, iV (lot1 lot)), (5, iV y), (0, rV (wa w) 1), (1, iV seed), (2, iV years), (3, iV t)] [] R' M'
        refine tx_iload (pc := 35) 0 O dX0_fairOf_35 rfl ?_
        refine tx_bipush (pc := 37) O dX0_fairOf_37 (by decide) ?_
        refine tx_iushr (pc := 39) O dX0_fairOf_39 ?_
        refine tx_aload_n (pc := 40) 2 O dX0_fairOf_40 rfl rfl ?_
        refine fX0_25 (pc := 41) O dX0_fairOf_41 ?_
        rw [hu.tun]
        refine tx_irem (pc := 44) O dX0_fairOf_44 (by omega) (by omega) ?_
        refine tx_istore (pc := 45) (lv' := [(6, _), (4, _), (5, _), (0, _), (1, _), (2, _), (3, _)]) O dX0_fairOf_45 (by decide) rfl ?_
        refine tx_ldcw (pc := 47) (z := 1103515245) O dX0_fairOf_47 q465 rfl ?_
        refine tx_iload (pc := 50) 1 O dX0_fairOf_50 rfl ?_
        refine tx_imul (pc := 52) O dX0_fairOf_52 ?_
        refine tx_sipush (pc := 53) O dX0_fairOf_53 (by decide) ?_
        refine tx_iadd (pc := 56) O dX0_fairOf_56 ?_
        refine tx_istore (pc := 57) (lv' := [(4, _), (6, _), (5, _), (0, _), (1, _), (2, _), (3, _)]) O dX0_fairOf_57 (by decide) rfl ?_
        change tx_X w E 59 [(4, iV (lot1 (lot1 lot))), (6, iV (zushr (lot1 lot) 16 % (uT u).length)), (5, iV y), (0, rV (wa w) 1), (1, iV seed), (2, iV years), (3, iV t)] [] R' M'
        have m1 := Int.emod_nonneg (zushr (lot1 lot) 16) (show ((uT u).length : Int) ≠ 0 by omega)
        have m2 := Int.emod_lt_of_pos (zushr (lot1 lot) 16) (show (0 : Int) < (uT u).length by omega)
        have c20 : 0 < uB u := by omega
        have m3 := Int.emod_nonneg (zushr (lot1 (lot1 lot)) 16) (show uB u ≠ 0 by omega)
        have m4 := Int.emod_lt_of_pos (zushr (lot1 (lot1 lot)) 16) c20
        obtain ⟨r5, r6⟩ := hu.br m3 m4
        refine tx_aload_n (pc := 59) 3 O dX0_fairOf_59 rfl rfl ?_
        refine tx_aload_n (pc := 60) 3 O dX0_fairOf_60 rfl rfl ?_
        refine fX0_49 (pc := 61) O hR dX0_fairOf_61 ?_
        refine tx_iload (pc := 64) 0 O dX0_fairOf_64 rfl ?_
        refine tx_bipush (pc := 66) O dX0_fairOf_66 (by decide) ?_
        refine tx_iushr (pc := 68) O dX0_fairOf_68 ?_
        refine tx_aload_n (pc := 69) 3 O dX0_fairOf_69 rfl rfl ?_
        refine fX0_46 (pc := 70) O dX0_fairOf_70 ?_
        rw [hu.bor]
        refine tx_irem (pc := 73) O dX0_fairOf_73 (by omega) (by omega) ?_
        refine tx_aald (pc := 74) _ _ O dX0_fairOf_74 (sh_208 w) (by decide) (by omega) ?_
        refine tx_aload_n (pc := 75) 3 O dX0_fairOf_75 rfl rfl ?_
        refine fX0_141 (pc := 76) O hR dX0_fairOf_76 ?_
        refine tx_iload (pc := 79) 1 O dX0_fairOf_79 rfl ?_
        refine tx_aald (pc := 81) _ _ O dX0_fairOf_81 (sh_212 w) (by decide) (by omega) ?_
        rw [hR.2.2.2.2.2.1]
        refine tx_cV2 (pc := 82) O dX0_fairOf_82 q260 vX0_humsOnce (sh_1 w) rfl (by decide) (Nat.zero_le _) (sX0_humsOnce w _ _ _ _ _ hR r5 (by omega) (by omega) (h4 _ m1 m2) (hs2 _ m1 m2 c20) (by rw [r6]; exact uq_ok hok m3 m4)) (k_V (fun M82 h82 => ?_))
        rw [r6] at h82
        refine tx_iinc (pc := 85) (lv' := [(5, _), (4, _), (6, _), (0, _), (1, _), (2, _), (3, _)]) 2 O dX0_fairOf_85 rfl (by decide) rfl ?_
        refine tx_goto (pc := 88) 10 O dX0_fairOf_88 rfl ?_
        refine tx_lv (lv' := [(5, _), (4, _), (0, _), (1, _), (2, _), (3, _)]) [0, 1, 3, 4, 5, 6] rfl ?_
        have := ih (y + 1) M82 ⟨by omega, by omega, fun _ => c20, ?_, hR, h5.u (fun a b q => h82.2 a b (by omega))⟩ (by omega) (by omega)
        · rw [hst] at this
          exact this
        · rw [hst]
          intro s q1 q2
          show tuIs M82 (410 + s) (fu nw (zushr (lot1 lot) 16 % (uT u).length) (hum (uq u (zushr (lot1 (lot1 lot)) 16 % uB u)) (nw (zushr (lot1 lot) 16 % (uT u).length))) s)
          by_cases e : s = zushr (lot1 lot) 16 % (uT u).length
          · rw [e, fu_s]; exact h82.1
          · rw [fu_n e]; exact (h4 s q1 q2).keep (fun b => h82.2 _ _ (by omega)) (fun b => h82.2 _ _ (by omega))
  refine tx_aload_n (pc := 0) 0 O dX0_fairOf_0 rfl rfl ?_
  refine tx_cV0 (pc := 1) O dX0_fairOf_1 q241 vX0_begins (sh_1 w) rfl (by decide) (Nat.zero_le _) (sX0_begins w _ _ u hR hu) (k_CV (fun R1 M1 h1 => ?_))
  refine tx_iload_n (pc := 4) 1 O dX0_fairOf_4 rfl rfl ?_
  refine tx_istore (pc := 5) (lv' := [(4, _), (0, _), (1, _), (2, _), (3, _)]) O dX0_fairOf_5 (by decide) rfl ?_
  refine tx_iconst (pc := 7) O dX0_fairOf_7 ?_
  refine tx_istore (pc := 8) (lv' := [(5, _), (4, _), (0, _), (1, _), (2, _), (3, _)]) O dX0_fairOf_8 (by decide) rfl ?_
  exact K _ 0 _ ⟨by omega, by omega, fun q => absurd q (by decide), fun s q1 q2 => (h1.2.1 s q1 q2).1, hR.kp h1.1.2.2, h1.1⟩
theorem sX0_fair (w : WT) (seed years t : Int) (R M : TM) (u : PU) (hR : RL R) (hu : cT R M u) (hy : rng years) (ht : rng t) : tx_S w yX0_fair cX0_fair 4 (some .int) 7 [rV (wa w) 1, iV seed, iV years, iV t] R M (QC (fun z R' M' => ((years < 1 ∨ 40 < years ∨ t < 0 ∨ (uT u).length ≤ t) ∧ z = -2 ∨ (1 ≤ years ∧ years ≤ 40 ∧ 0 ≤ t ∧ t < (uT u).length) ∧ z = fairP u seed years t) ∧ cW u R M R' M')) := by
  refine tx_S.ofk (lv := [(0, _), (1, _), (2, _), (3, _)]) [1, 1, 1, 1] (by decide) (by simp only [List.map_cons, List.map_nil, cat_i, cat_l, cat_r]) (by decide) rfl (fun E O F => ?_)
  refine tx_iload_n (pc := 0) 2 O dX0_fair_0 rfl rfl ?_
  refine tx_iconst (pc := 1) O dX0_fair_1 ?_
  refine tx_bipush (pc := 2) O dX0_fair_2 (by decide) ?_
  refine tx_cS3 (pc := 4) O dX0_fair_4 q108 vX0_in (by decide) (Nat.zero_le _) (sX0_in w _ _ _ _ _ (by omega) (by omega) (by omega)) (k_P (fun z4 h4 => ?_))
  refine tx_if_eq (pc := 7) 28 O dX0_fair_7 rfl (by omega) (fun c7 => ?_) (fun c7 => ?_)
  · refine tx_bipush (pc := 28) O dX0_fair_28 (by decide) ?_
    exact tx_iret O F dX0_fair_30 (tx_QC.mk (by first | exact ⟨Or.inr ⟨by omega, h22.1⟩, (g2.tr h22.2).w⟩ | exact ⟨Or.inl ⟨by omega, rfl⟩, g2.w⟩ | exact ⟨Or.inl ⟨by omega, rfl⟩, hu.s⟩))
  · refine tx_aload_n (pc := 10) 0 O dX0_fair_10 rfl rfl ?_
    refine tx_iload_n (pc := 11) 3 O dX0_fair_11 rfl rfl ?_
    refine tx_cV1 (pc := 12) O dX0_fair_12 q152 vX0_isTune (sh_1 w) rfl (by decide) (Nat.zero_le _) (sX0_isTune w _ _ _ u hR hu (by omega)) (k_C (fun z12 R12 M12 h12 => ?_))
    obtain ⟨g1, g2⟩ := h12
    have hR := hR.kp g2.2.2
    have hu := g2.1.t
    refine tx_if_eq (pc := 15) 28 O dX0_fair_15 rfl (by omega) (fun c15 => ?_) (fun c15 => ?_)
    · refine tx_bipush (pc := 28) O dX0_fair_28 (by decide) ?_
      exact tx_iret O F dX0_fair_30 (tx_QC.mk (by first | exact ⟨Or.inr ⟨by omega, h22.1⟩, (g2.tr h22.2).w⟩ | exact ⟨Or.inl ⟨by omega, rfl⟩, g2.w⟩ | exact ⟨Or.inl ⟨by omega, rfl⟩, hu.s⟩))
    · refine tx_aload_n (pc := 18) 0 O dX0_fair_18 rfl rfl ?_
      refine tx_iload_n (pc := 19) 1 O dX0_fair_19 rfl rfl ?_
      refine tx_iload_n (pc := 20) 2 O dX0_fair_20 rfl rfl ?_
      refine tx_iload_n (pc := 21) 3 O dX0_fair_21 rfl rfl ?_
      refine tx_cV3 (pc := 22) O dX0_fair_22 q461 vX0_fairOf (sh_1 w) rfl (by decide) (Nat.zero_le _) (sX0_fairOf w _ _ _ _ _ u hR hu (by omega) (by omega)) (k_C (fun z22 R22 M22 h22 => ?_))
      refine tx_goto (pc := 25) 30 O dX0_fair_25 rfl ?_
      exact tx_iret O F dX0_fair_30 (tx_QC.mk (by first | exact ⟨Or.inr ⟨by omega, h22.1⟩, (g2.tr h22.2).w⟩ | exact ⟨Or.inl ⟨by omega, rfl⟩, g2.w⟩ | exact ⟨Or.inl ⟨by omega, rfl⟩, hu.s⟩))

