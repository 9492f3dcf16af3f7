/-! COMPONENT, years: lends, comesBack, goesBy, runs -/
set_option maxRecDepth 100000
/-- loans counted began before; a loan is bad or not -/
def okG (u : PU) (y n : Int) (r : RS) : Prop := ∀ k : Int, 0 ≤ k → k < 12 → (rCnt r k = 0 ∨ (rCnt r k = 1 ∧ k < unl u ∧ (ulo u k 0 < y ∨ (ulo u k 0 = y ∧ k < n)))) ∧ (rBad r k = 0 ∨ rBad r k = 1)
theorem okG_start (u : PU) (y n : Int) : okG u y n (startS u) := fun _ _ _ => ⟨Or.inl rfl, Or.inl rfl⟩
theorem okG.le {u : PU} {y n y' n' : Int} {r : RS} (h : okG u y n r) (hy : (y ≤ y' ∧ n ≤ n') ∨ y < y') : okG u y' n' r := fun k h1 h2 => by
  have := h k h1 h2
  refine ⟨?_, this.2⟩
  rcases this.1 with q | q
  · exact Or.inl q
  · exact Or.inr ⟨q.1, q.2.1, by omega⟩
theorem okG_lend {u : PU} {y k : Int} {r : RS} (hk : 0 ≤ k ∧ k < unl u) (h : okG u y k r) : okG u y (k + 1) (lendS u y k r) := by
  unfold lendS
  split
  · rename_i hc
    intro j h1 h2
    refine ⟨?_, (h j h1 h2).2⟩
    show fu (rCnt r) k 1 j = 0 ∨ (fu (rCnt r) k 1 j = 1 ∧ _)
    by_cases e : j = k
    · subst e
      rw [fu_s]
      exact Or.inr ⟨rfl, hk.2, by have := hc.1; omega⟩
    · rw [fu_n e]
      exact (h.le (Or.inl ⟨Int.le_refl _, by omega⟩) j h1 h2).1
  · exact h.le (Or.inl ⟨Int.le_refl _, by omega⟩)
theorem okG_hum {u : PU} {y n t : Int} {r : RS} (h : okG u y n r) : okG u y n (humS u t r) := by
  unfold humS
  split
  · exact h
  · exact h
theorem okG_ret {u : PU} {e y y' n t : Int} {r : RS} (h : okG u y n r) : okG u y n (retS u e y' t r) := by
  unfold retS
  split
  · intro j h1 h2
    refine ⟨(h j h1 h2).1, ?_⟩
    show fu (rBad r) (rBy r t) _ j = 0 ∨ fu (rBad r) (rBy r t) _ j = 1
    by_cases e : j = rBy r t
    · rw [e, fu_s]; split <;> omega
    · rw [fu_n e]; exact (h j h1 h2).2
  · exact h
theorem okG_year {u : PU} (h : uOk u) {e y : Int} {r : RS} (hr : okG u y 0 r) : okG u (y + 1) 0 (yearC u e y r) := by
  unfold yearC
  have h1 := itI_ind (f := lendS u y) (a := r) (fun k r => okG u y k r) (unl u) hr (fun i x q1 q2 q3 => okG_lend ⟨q1, q2⟩ q3) (unl u) h.2.2.2.2.1.1 (Int.le_refl _)
  have h2 := itI_ind (f := fun t r => retS u e y t (humS u t r)) (a := itI (lendS u y) r (unl u)) (fun _ r => okG u y (unl u) r) (uT u).length h1 (fun i x q1 q2 q3 => okG_ret (okG_hum q3)) (uT u).length (by omega) (Int.le_refl _)
  exact h2.le (by omega)
theorem okG_run {u : PU} (h : uOk u) (e : Int) {n : Int} (hn : 0 ≤ n) : okG u n 0 (runP u e n) :=
  itI_ind (f := yearM u e) (a := startS u) (fun y r => okG u y 0 r) n (okG_start u 0 0) (fun i x q1 q2 q3 => by rw [year_eq]; exact okG_year h q3) n hn (Int.le_refl _)
theorem lendS_no {u : PU} {y k : Int} {r : RS} (h : ¬ (ulo u k 0 = y ∧ ulo u k 1 < (uT u).length ∧ ulo u k 2 < uB u ∧ rBy r (ulo u k 1) = -1)) : lendS u y k r = r := by unfold lendS; rw [if_neg h]
theorem lendS_yes {u : PU} {y k : Int} {r : RS} (h : ulo u k 0 = y ∧ ulo u k 1 < (uT u).length ∧ ulo u k 2 < uB u ∧ rBy r (ulo u k 1) = -1) : lendS u y k r = (rNow r, fu (rLent r) (ulo u k 1) (rNow r (ulo u k 1)), fu (rBy r) (ulo u k 1) k, fu (rCnt r) k 1, rBad r, rGain r) := by unfold lendS; rw [if_pos h]
theorem RunC.keep {M M' : TM} {u : PU} {r : RS} (h : RunC M u r) (h6 : (uT u).length ≤ 6) (k : ∀ a b : Int, ((214 ≤ a ∧ a ≤ 217) ∨ (410 ≤ a ∧ a ≤ 425) ∨ (1410 ≤ a ∧ a ≤ 1425)) → M' a b = M a b) : RunC M' u r := by
  refine ⟨fun t q1 q2 => ?_, fun j q1 q2 => ?_⟩
  · obtain ⟨a1, a2, a3⟩ := h.1 t q1 q2
    exact ⟨a1.keep (fun b => k _ _ (by omega)) (fun b => k _ _ (by omega)), by rw [k _ _ (by omega)]; exact a2, fun z => (a3 z).keep (fun b => k _ _ (by omega)) (fun b => k _ _ (by omega))⟩
  · rw [k _ _ (by omega), k _ _ (by omega), k _ _ (by omega)]
    exact h.2 j q1 q2
theorem sX0_lends (w : WT) (y : Int) (R M : TM) (u : PU) (r : RS) (hR : RL R) (hu : cP R M u) (hr : RunC M u r) (ho : okR u y y r) (hg : okG u y 0 r) (hy : 0 ≤ y ∧ y ≤ 39) : tx_S w yX0_lends cX0_lends 4 none 2 [rV (wa w) 1, iV y] R M (QV R (fun M' => RunC M' u (itI (lendS u y) r (unl u)) ∧ kcU M M')) := by
  have hD1 := (uT_ok hu.1.1).1
  have hB := uB_ok hu.1.1
  have hnl := hu.1.1.2.2.2.2.1
  refine tx_S.ofk (lv := [(0, _), (1, _)]) [1, 1] (by decide) (by simp only [List.map_cons, List.map_nil, cat_i, cat_l, cat_r]) (by decide) rfl (fun E O F => ?_)
  have K : ∀ (k : Int) (M' : TM), (0 ≤ k ∧ k ≤ unl u ∧ RunC M' u (itI (lendS u y) r k) ∧ kcU M M') → ∀ t0 : Int, tx_X w E 2 [(2, iV k), (0, rV (wa w) 1), (1, iV y)] [] R M' := by
    refine lp_up _ _ (unl u) ?_
    rintro k M' ⟨h1, h2, h3, h4⟩ ih t0
    have o1 : okR u y y (itI (lendS u y) r k) := itI_ind (f := lendS u y) (a := r) (fun _ r => okR u y y r) (unl u) ho (fun i x q1 q2 q3 => okR_lend hu.1.1 ⟨q1, q2⟩ q3) k h1 h2
    have o2 : okG u y k (itI (lendS u y) r k) := itI_ind (f := lendS u y) (a := r) (fun k r => okG u y k r) (unl u) hg (fun i x q1 q2 q3 => okG_lend ⟨q1, q2⟩ q3) k h1 h2
    have hst := itI_1 (lendS u y) r h1
    have hu := hu.keep h4
    generalize hr1 : itI (lendS u y) r k = r1 at h3 o1 o2 hst
    have m9 : M' 1 9 = unl u := hu.1.2.2.2.2.2.1
    have m4 : M' 1 4 = (uT u).length := hu.2.2.1.1
    have m6 : M' 1 6 = uB u := hu.2.2.2.1.1
    have Sa : ∀ t : Int, ulo u k 1 = t → k < unl u → (ulo u k 0 = y ∧ ulo u k 1 < (uT u).length ∧ ulo u k 2 < uB u ∧ rBy r1 (ulo u k 1) = -1) → tx_X w E 83 [(3, iV t), (2, iV k), (0, rV (wa w) 1), (1, iV y)] [iV 1, iV k, rV (wa w) 215] R M' := by
      intro t ht hk hC
      obtain ⟨l0, l1, l2, l3⟩ := hu.1.1.2.2.2.2.2.1 k h1 hk
      have m0 : M' 310 k = ulo u k 0 := hu.1.2.2.2.2.2.2.1 k 0 h1 hk (by omega) (by omega)
      rw [lendS_yes hC, ht] at hst
      rw [ht] at hC l1
      obtain ⟨n1, n2, n3⟩ := h3.1 t l1.1 hC.2.1
      have n4 := (o1.1 t l1.1 hC.2.1).1
      have o12 := o1.2.1
      refine tx_zast (pc := 83) _ O dX0_lends_83 (sh_215 w) (by omega) (by omega) ?_
      refine tx_aload_n (pc := 84) 2 O dX0_lends_84 rfl rfl ?_
      refine fX0_151 (pc := 85) O hR dX0_lends_85 ?_
      refine tx_iload_n (pc := 88) 1 O dX0_lends_88 rfl rfl ?_
      refine tx_zald (pc := 89) _ O dX0_lends_89 (sh_215 w) (by omega) ?_
      rw [up_s]
      refine tx_if_eq (pc := 90) 127 O dX0_lends_90 rfl (by omega) (fun c90 => ?_) (fun c90 => ?_)
      · exfalso
        omega
      · refine tx_aload_n (pc := 93) 2 O dX0_lends_93 rfl rfl ?_
        refine fX0_111 (pc := 94) O hR dX0_lends_94 ?_
        refine tx_iconst (pc := 97) O dX0_lends_97 ?_
        refine tx_aald (pc := 98) _ _ O dX0_lends_98 (sh_210 w) (by decide) (by omega) ?_
        rw [hR.2.2.2.1 0, show (310 : Int) + 0 = 310 from rfl]
        refine tx_iload_n (pc := 99) 1 O dX0_lends_99 rfl rfl ?_
        refine tx_iald (pc := 100) _ O dX0_lends_100 (sh_310 w) (by omega) ?_
        rw [up_n (by omega), m0]
        refine tx_iload_n (pc := 101) 3 O dX0_lends_101 rfl rfl ?_
        refine tx_icmp_ne (pc := 102) 127 O dX0_lends_102 rfl (by omega) (fun c102 => ?_) (fun c102 => ?_)
        · exfalso
          omega
        · refine tx_aload_n (pc := 105) 2 O dX0_lends_105 rfl rfl ?_
          refine fX0_148 (pc := 106) O hR dX0_lends_106 ?_
          refine tx_iload_n (pc := 109) 0 O dX0_lends_109 rfl rfl ?_
          refine tx_iload_n (pc := 110) 1 O dX0_lends_110 rfl rfl ?_
          refine tx_iast (pc := 111) _ O dX0_lends_111 (sh_214 w) (by omega) ?_
          refine tx_aload_n (pc := 112) 2 O dX0_lends_112 rfl rfl ?_
          refine fX0_169 (pc := 113) O hR dX0_lends_113 ?_
          refine tx_iload_n (pc := 116) 0 O dX0_lends_116 rfl rfl ?_
          refine tx_aald (pc := 117) _ _ O dX0_lends_117 (sh_213 w) (by decide) (by omega) ?_
          rw [hR.2.2.2.2.2.2.1]
          refine tx_aload_n (pc := 118) 2 O dX0_lends_118 rfl rfl ?_
          refine fX0_141 (pc := 119) O hR dX0_lends_119 ?_
          refine tx_iload_n (pc := 122) 0 O dX0_lends_122 rfl rfl ?_
          refine tx_aald (pc := 123) _ _ O dX0_lends_123 (sh_212 w) (by decide) (by omega) ?_
          rw [hR.2.2.2.2.2.1]
          refine tx_cV1 (pc := 124) O dX0_lends_124 q245 vX1_is (sh_t w (by omega)) rfl (by decide) (Nat.zero_le _) (sX1_is w _ _ _ _ _ hR (by omega) (by omega) (by omega) (n1.keep (fun b => by rw [up_n (by omega), up_n (by omega)]) (fun b => by rw [up_n (by omega), up_n (by omega)])) n4) (k_V (fun M124 h124 => ?_))
          obtain ⟨g1, g2⟩ := h124
          refine tx_iinc (pc := 127) (lv' := [(2, _), (3, _), (0, _), (1, _)]) 1 O dX0_lends_127 rfl (by decide) rfl ?_
          refine tx_goto (pc := 130) 2 O dX0_lends_130 rfl ?_
          refine tx_lv (lv' := [(2, _), (0, _), (1, _)]) [0, 2, 3] rfl ?_
          have fr : ∀ a b : Int, (a ≠ 420 + t ∧ a ≠ 420 + t + 1000 ∧ (a ≠ 214 ∨ b ≠ t) ∧ (a ≠ 215 ∨ b ≠ k)) → M124 a b = M' a b := fun a b q => by rw [g2 _ _ (by omega), up_n (by omega), up_n (by omega)]
          refine ih _ _ ⟨by omega, by omega, ?_, h4.tr (fun a b q => fr a b (by omega))⟩ (by omega) (by omega) 0
          rw [hst]
          refine ⟨fun s q1 q2 => ?_, fun j q1 q2 => ?_⟩
          · obtain ⟨p1, p2, p3⟩ := h3.1 s q1 q2
            show tuIs M124 (410 + s) (rNow r1 s) ∧ M124 214 s = fu (rBy r1) t k s ∧ (fu (rBy r1) t k s ≠ -1 → tuIs M124 (420 + s) (fu (rLent r1) t (rNow r1 t) s))
            refine ⟨p1.keep (fun b => fr _ _ (by omega)) (fun b => fr _ _ (by omega)), ?_, ?_⟩
            · by_cases e : s = t
              · subst e; rw [fu_s, g2 _ _ (by omega), up_s]
              · rw [fu_n e, fr _ _ (by omega)]; exact p2
            · by_cases e : s = t
              · subst e; rw [fu_s, fu_s]; exact fun _ => g1
              · rw [fu_n e, fu_n e]; exact fun z => (p3 z).keep (fun b => fr _ _ (by omega)) (fun b => fr _ _ (by omega))
          · obtain ⟨p1, p2, p3⟩ := h3.2 j q1 q2
            show M124 215 j = fu (rCnt r1) k 1 j ∧ M124 216 j = rBad r1 j ∧ M124 217 j = rGain r1 j
            refine ⟨?_, by rw [fr _ _ (by omega)]; exact p2, by rw [fr _ _ (by omega)]; exact p3⟩
            by_cases e : j = k
            · subst e; rw [fu_s, g2 _ _ (by omega), up_n (by omega), up_s]
            · rw [fu_n e, fr _ _ (by omega)]; exact p1
    have Sb : ∀ t v : Int, k < unl u → ¬ (ulo u k 0 = y ∧ ulo u k 1 < (uT u).length ∧ ulo u k 2 < uB u ∧ rBy r1 (ulo u k 1) = -1) → v = rCnt r1 k → tx_X w E 83 [(3, iV t), (2, iV k), (0, rV (wa w) 1), (1, iV y)] [iV v, iV k, rV (wa w) 215] R M' := by
      intro t v hk hC hv
      obtain ⟨l0, l1, l2, l3⟩ := hu.1.1.2.2.2.2.2.1 k h1 hk
      have m0 : M' 310 k = ulo u k 0 := hu.1.2.2.2.2.2.2.1 k 0 h1 hk (by omega) (by omega)
      rw [lendS_no hC] at hst
      have o3 := (o2 k h1 (by omega)).1
      rw [← hv] at o3
      refine tx_zast (pc := 83) _ O dX0_lends_83 (sh_215 w) (by omega) (by omega) ?_
      refine tx_aload_n (pc := 84) 2 O dX0_lends_84 rfl rfl ?_
      refine fX0_151 (pc := 85) O hR dX0_lends_85 ?_
      refine tx_iload_n (pc := 88) 1 O dX0_lends_88 rfl rfl ?_
      refine tx_zald (pc := 89) _ O dX0_lends_89 (sh_215 w) (by omega) ?_
      rw [up_s]
      refine tx_if_eq (pc := 90) 127 O dX0_lends_90 rfl (by omega) (fun c90 => ?_) (fun c90 => ?_)
      · refine tx_iinc (pc := 127) (lv' := [(2, _), (3, _), (0, _), (1, _)]) 1 O dX0_lends_127 rfl (by decide) rfl ?_
        refine tx_goto (pc := 130) 2 O dX0_lends_130 rfl ?_
        refine tx_lv (lv' := [(2, _), (0, _), (1, _)]) [0, 2, 3] rfl ?_
        refine ih _ _ ⟨by omega, by omega, ?_, h4.tr (fun a b q => by rw [up_n (by omega)])⟩ (by omega) (by omega) 0
        rw [hst]
        refine ⟨fun s q1 q2 => ?_, fun j q1 q2 => ?_⟩
        · obtain ⟨p1, p2, p3⟩ := h3.1 s q1 q2
          exact ⟨p1.keep (fun b => by rw [up_n (by omega)]) (fun b => by rw [up_n (by omega)]), by rw [up_n (by omega)]; exact p2, fun z => (p3 z).keep (fun b => by rw [up_n (by omega)]) (fun b => by rw [up_n (by omega)])⟩
        · obtain ⟨p1, p2, p3⟩ := h3.2 j q1 q2
          refine ⟨?_, by rw [up_n (by omega)]; exact p2, by rw [up_n (by omega)]; exact p3⟩
          by_cases e : j = k
          · subst e; rw [up_s, hv]
          · rw [up_n (by omega)]; exact p1
      · refine tx_aload_n (pc := 93) 2 O dX0_lends_93 rfl rfl ?_
        refine fX0_111 (pc := 94) O hR dX0_lends_94 ?_
        refine tx_iconst (pc := 97) O dX0_lends_97 ?_
        refine tx_aald (pc := 98) _ _ O dX0_lends_98 (sh_210 w) (by decide) (by omega) ?_
        rw [hR.2.2.2.1 0, show (310 : Int) + 0 = 310 from rfl]
        refine tx_iload_n (pc := 99) 1 O dX0_lends_99 rfl rfl ?_
        refine tx_iald (pc := 100) _ O dX0_lends_100 (sh_310 w) (by omega) ?_
        rw [up_n (by omega), m0]
        refine tx_iload_n (pc := 101) 3 O dX0_lends_101 rfl rfl ?_
        refine tx_icmp_ne (pc := 102) 127 O dX0_lends_102 rfl (by omega) (fun c102 => ?_) (fun c102 => ?_)
        · refine tx_iinc (pc := 127) (lv' := [(2, _), (3, _), (0, _), (1, _)]) 1 O dX0_lends_127 rfl (by decide) rfl ?_
          refine tx_goto (pc := 130) 2 O dX0_lends_130 rfl ?_
          refine tx_lv (lv' := [(2, _), (0, _), (1, _)]) [0, 2, 3] rfl ?_
          refine ih _ _ ⟨by omega, by omega, ?_, h4.tr (fun a b q => by rw [up_n (by omega)])⟩ (by omega) (by omega) 0
          rw [hst]
          refine ⟨fun s q1 q2 => ?_, fun j q1 q2 => ?_⟩
          · obtain ⟨p1, p2, p3⟩ := h3.1 s q1 q2
            exact ⟨p1.keep (fun b => by rw [up_n (by omega)]) (fun b => by rw [up_n (by omega)]), by rw [up_n (by omega)]; exact p2, fun z => (p3 z).keep (fun b => by rw [up_n (by omega)]) (fun b => by rw [up_n (by omega)])⟩
          · obtain ⟨p1, p2, p3⟩ := h3.2 j q1 q2
            refine ⟨?_, by rw [up_n (by omega)]; exact p2, by rw [up_n (by omega)]; exact p3⟩
            by_cases e : j = k
            · subst e; rw [up_s, hv]
            · rw [up_n (by omega)]; exact p1
        · exfalso
          omega
    refine tx_iload_n (pc := 2) 0 O dX0_lends_2 rfl rfl ?_
    refine tx_aload_n (pc := 3) 1 O dX0_lends_3 rfl rfl ?_
    refine fX0_108 (pc := 4) O dX0_lends_4 ?_
    rw [m9]
    refine tx_icmp_ge (pc := 7) 133 O dX0_lends_7 rfl (by omega) (fun c7 => ?_) (fun c7 => ?_)
    · exact tx_vret O F dX0_lends_133 (tx_QV.mk ⟨by rw [show unl u = k by omega, hr1]; exact h3, h4⟩)
    · obtain ⟨l0, l1, l2, l3⟩ := hu.1.1.2.2.2.2.2.1 k h1 (by omega)
      have m0 : M' 310 k = ulo u k 0 := hu.1.2.2.2.2.2.2.1 k 0 h1 (by omega) (by omega) (by omega)
      have m1 : M' 311 k = ulo u k 1 := hu.1.2.2.2.2.2.2.1 k 1 h1 (by omega) (by omega) (by omega)
      have m2 : M' 312 k = ulo u k 2 := hu.1.2.2.2.2.2.2.1 k 2 h1 (by omega) (by omega) (by omega)
      have o3 := (o2 k h1 (by omega)).1
      have p1 := (h3.2 k h1 (by omega)).1
      refine tx_aload_n (pc := 10) 1 O dX0_lends_10 rfl rfl ?_
      refine fX0_111 (pc := 11) O hR dX0_lends_11 ?_
      refine tx_iconst (pc := 14) O dX0_lends_14 ?_
      refine tx_aald (pc := 15) _ _ O dX0_lends_15 (sh_210 w) (by decide) (by omega) ?_
      rw [hR.2.2.2.1 1, show (310 : Int) + 1 = 311 from rfl]
      refine tx_iload_n (pc := 16) 0 O dX0_lends_16 rfl rfl ?_
      refine tx_iald (pc := 17) _ O dX0_lends_17 (sh_311 w) (by omega) ?_
      rw [m1]
      refine tx_istore_n (pc := 18) (lv' := [(3, _), (2, _), (0, _), (1, _)]) O dX0_lends_18 rfl (by decide) rfl ?_
      refine tx_aload_n (pc := 19) 2 O dX0_lends_19 rfl rfl ?_
      refine fX0_151 (pc := 20) O hR dX0_lends_20 ?_
      refine tx_iload_n (pc := 23) 1 O dX0_lends_23 rfl rfl ?_
      refine tx_aload_n (pc := 24) 2 O dX0_lends_24 rfl rfl ?_
      refine fX0_151 (pc := 25) O hR dX0_lends_25 ?_
      refine tx_iload_n (pc := 28) 1 O dX0_lends_28 rfl rfl ?_
      refine tx_zald (pc := 29) _ O dX0_lends_29 (sh_215 w) (by omega) ?_
      rw [p1]
      refine tx_if_ne (pc := 30) 78 O dX0_lends_30 rfl (by omega) (fun c30 => ?_) (fun c30 => ?_)
      · refine tx_iconst (pc := 78) O dX0_lends_78 ?_
        refine tx_goto (pc := 79) 83 O dX0_lends_79 rfl ?_
        first
          | exact Sa _ rfl (by omega) ⟨by omega, by omega, by omega, by omega⟩
          | exact Sb _ _ (by omega) (by omega) (by omega)
      · refine tx_aload_n (pc := 33) 2 O dX0_lends_33 rfl rfl ?_
        refine fX0_111 (pc := 34) O hR dX0_lends_34 ?_
        refine tx_iconst (pc := 37) O dX0_lends_37 ?_
        refine tx_aald (pc := 38) _ _ O dX0_lends_38 (sh_210 w) (by decide) (by omega) ?_
        rw [hR.2.2.2.1 0, show (310 : Int) + 0 = 310 from rfl]
        refine tx_iload_n (pc := 39) 1 O dX0_lends_39 rfl rfl ?_
        refine tx_iald (pc := 40) _ O dX0_lends_40 (sh_310 w) (by omega) ?_
        rw [m0]
        refine tx_iload_n (pc := 41) 3 O dX0_lends_41 rfl rfl ?_
        refine tx_icmp_ne (pc := 42) 82 O dX0_lends_42 rfl (by omega) (fun c42 => ?_) (fun c42 => ?_)
        · refine tx_iconst (pc := 82) O dX0_lends_82 ?_
          first
            | exact Sa _ rfl (by omega) ⟨by omega, by omega, by omega, by omega⟩
            | exact Sb _ _ (by omega) (by omega) (by omega)
        · refine tx_iload_n (pc := 45) 0 O dX0_lends_45 rfl rfl ?_
          refine tx_aload_n (pc := 46) 2 O dX0_lends_46 rfl rfl ?_
          refine fX0_25 (pc := 47) O dX0_lends_47 ?_
          rw [m4]
          refine tx_icmp_ge (pc := 50) 82 O dX0_lends_50 rfl (by omega) (fun c50 => ?_) (fun c50 => ?_)
          · refine tx_iconst (pc := 82) O dX0_lends_82 ?_
            first
              | exact Sa _ rfl (by omega) ⟨by omega, by omega, by omega, by omega⟩
              | exact Sb _ _ (by omega) (by omega) (by omega)
          · obtain ⟨n1, n2, n3⟩ := h3.1 (ulo u k 1) (by omega) (by omega)
            have nr : -1 ≤ rBy r1 (ulo u k 1) ∧ rBy r1 (ulo u k 1) < 12 := by
              rcases o1.2.1 (ulo u k 1) (by omega) (by omega) with q | q
              · omega
              · have := q.1; have := q.2.1; omega
            refine tx_aload_n (pc := 53) 2 O dX0_lends_53 rfl rfl ?_
            refine fX0_111 (pc := 54) O hR dX0_lends_54 ?_
            refine tx_iconst (pc := 57) O dX0_lends_57 ?_
            refine tx_aald (pc := 58) _ _ O dX0_lends_58 (sh_210 w) (by decide) (by omega) ?_
            rw [hR.2.2.2.1 2, show (310 : Int) + 2 = 312 from rfl]
            refine tx_iload_n (pc := 59) 1 O dX0_lends_59 rfl rfl ?_
            refine tx_iald (pc := 60) _ O dX0_lends_60 (sh_312 w) (by omega) ?_
            rw [m2]
            refine tx_aload_n (pc := 61) 2 O dX0_lends_61 rfl rfl ?_
            refine fX0_46 (pc := 62) O dX0_lends_62 ?_
            rw [m6]
            refine tx_icmp_ge (pc := 65) 82 O dX0_lends_65 rfl (by omega) (fun c65 => ?_) (fun c65 => ?_)
            · refine tx_iconst (pc := 82) O dX0_lends_82 ?_
              first
                | exact Sa _ rfl (by omega) ⟨by omega, by omega, by omega, by omega⟩
                | exact Sb _ _ (by omega) (by omega) (by omega)
            · refine tx_aload_n (pc := 68) 2 O dX0_lends_68 rfl rfl ?_
              refine fX0_148 (pc := 69) O hR dX0_lends_69 ?_
              refine tx_iload_n (pc := 72) 0 O dX0_lends_72 rfl rfl ?_
              refine tx_iald (pc := 73) _ O dX0_lends_73 (sh_214 w) (by omega) ?_
              rw [n2]
              refine tx_iconst (pc := 74) O dX0_lends_74 ?_
              refine tx_icmp_ne (pc := 75) 82 O dX0_lends_75 rfl (by omega) (fun c75 => ?_) (fun c75 => ?_)
              · refine tx_iconst (pc := 82) O dX0_lends_82 ?_
                first
                  | exact Sa _ rfl (by omega) ⟨by omega, by omega, by omega, by omega⟩
                  | exact Sb _ _ (by omega) (by omega) (by omega)
              · refine tx_iconst (pc := 78) O dX0_lends_78 ?_
                refine tx_goto (pc := 79) 83 O dX0_lends_79 rfl ?_
                first
                  | exact Sa _ rfl (by omega) ⟨by omega, by omega, by omega, by omega⟩
                  | exact Sb _ _ (by omega) (by omega) (by omega)
  refine tx_iconst (pc := 0) O dX0_lends_0 ?_
  refine tx_istore_n (pc := 1) (lv' := [(2, _), (0, _), (1, _)]) O dX0_lends_1 rfl (by decide) rfl ?_
  exact K 0 M ⟨by omega, by omega, hr, kcU.rf⟩ 0
theorem retS_yes {u : PU} {e y t : Int} {r : RS} (h : rBy r t ≠ -1 ∧ ulo u (rBy r t) 0 + ulo u (rBy r t) 3 = y + 1) : retS u e y t r = (fu (rNow r) t (if lcs (rLent r t) (rNow r t) < min e (rLent r t).length then rLent r t else rNow r t), rLent r, fu (rBy r) t (-1), rCnt r, fu (rBad r) (rBy r t) (if lcs (rLent r t) (rNow r t) < min e (rLent r t).length then 1 else 0), fu (rGain r) (rBy r t) ((rNow r t).length - (rLent r t).length)) := by unfold retS; rw [if_pos h]
theorem sX0_comesBack (w : WT) (t y : Int) (R M : TM) (u : PU) (r : RS) (hR : RL R) (hu : cP R M u) (hr : RunC M u r) (ho : okR u y (y + 1) r) (ht : 0 ≤ t ∧ t < (uT u).length) (hb : rBy r t ≠ -1) (hy : ulo u (rBy r t) 0 + ulo u (rBy r t) 3 = y + 1) : tx_S w yX0_comesBack cX0_comesBack 4 none 3 [rV (wa w) 1, iV t] R M (QV R (fun M' => RunC M' u (retS u (uear u) y t r) ∧ kcU M M')) := by
  have hD1 := (uT_ok hu.1.1).1
  have hnl := hu.1.1.2.2.2.2.1
  have he := hu.1.1.2.2.2.2.2.2
  have me : M 1 11 = uear u := hu.1.2.2.2.2.2.2.2
  obtain ⟨n1, n2, n3⟩ := hr.1 t ht.1 ht.2
  have n6 := n3 hb
  obtain ⟨b1, b2, b3, b4, b5, b6, b7⟩ := (ho.2.1 t ht.1 ht.2).resolve_left hb
  have okn := ho.1 t ht.1 ht.2
  have hret := retS_yes (u := u) (e := uear u) (y := y) (t := t) (r := r) ⟨hb, hy⟩
  have kk : ∀ s : Int, 0 ≤ s → s < (uT u).length → (rNow r s).length ≤ 40 := fun s q1 q2 => (ho.1 s q1 q2).1
  generalize hnl' : rNow r t = n at *
  generalize hll' : rLent r t = l at *
  generalize hkk' : rBy r t = k at *
  have ln := okn.1
  have ll := b6.1
  have hlc := lcs_le l n
  refine tx_S.ofk (lv := [(0, _), (1, _)]) [1, 1] (by decide) (by simp only [List.map_cons, List.map_nil, cat_i, cat_l, cat_r]) (by decide) rfl (fun E O F => ?_)
  have fin : ∀ (M' : TM) (v : List Int) (bb : Int), tuIs M' (410 + t) v → M' 214 t = -1 → M' 217 k = n.length - l.length → M' 216 k = bb → (∀ a b : Int, (a ≠ 410 + t ∧ a ≠ 1410 + t ∧ (a ≠ 214 ∨ b ≠ t) ∧ (a ≠ 217 ∨ b ≠ k) ∧ (a ≠ 216 ∨ b ≠ k) ∧ a ≠ 220) → M' a b = M a b) → v = (if lcs l n < min (uear u) l.length then l else n) → bb = (if lcs l n < min (uear u) l.length then 1 else 0) → RunC M' u (retS u (uear u) y t r) ∧ kcU M M' := by
    intro M' v bb g1 g2 g3 g4 g5 g6 g7
    rw [hret, ← g6, ← g7]
    refine ⟨⟨fun s q1 q2 => ?_, fun j q1 q2 => ?_⟩, fun a b q => g5 a b (by omega)⟩
    · show tuIs M' (410 + s) (fu (rNow r) t v s) ∧ M' 214 s = fu (rBy r) t (-1) s ∧ (fu (rBy r) t (-1) s ≠ -1 → tuIs M' (420 + s) (rLent r s))
      by_cases e1 : s = t
      · subst e1
        rw [fu_s, fu_s]
        exact ⟨g1, g2, fun z => absurd rfl z⟩
      · rw [fu_n e1, fu_n e1]
        obtain ⟨p1, p2, p3⟩ := hr.1 s q1 q2
        exact ⟨p1.keep (fun b => g5 _ _ (by omega)) (fun b => g5 _ _ (by omega)), by rw [g5 _ _ (by omega)]; exact p2, fun z => (p3 z).keep (fun b => g5 _ _ (by omega)) (fun b => g5 _ _ (by omega))⟩
    · obtain ⟨p1, p2, p3⟩ := hr.2 j q1 q2
      show M' 215 j = rCnt r j ∧ M' 216 j = fu (rBad r) k bb j ∧ M' 217 j = fu (rGain r) k (n.length - l.length) j
      refine ⟨by rw [g5 _ _ (by omega)]; exact p1, ?_, ?_⟩
      · by_cases e1 : j = k
        · subst e1; rw [fu_s]; exact g4
        · rw [fu_n e1, g5 _ _ (by omega)]; exact p2
      · by_cases e1 : j = k
        · subst e1; rw [fu_s]; exact g3
        · rw [fu_n e1, g5 _ _ (by omega)]; exact p3
  refine tx_aload_n (pc := 0) 0 O dX0_comesBack_0 rfl rfl ?_
  refine fX0_148 (pc := 1) O hR dX0_comesBack_1 ?_
  refine tx_iload_n (pc := 4) 1 O dX0_comesBack_4 rfl rfl ?_
  refine tx_iald (pc := 5) _ O dX0_comesBack_5 (sh_214 w) (by omega) ?_
  rw [n2]
  refine tx_istore_n (pc := 6) (lv' := [(2, _), (0, _), (1, _)]) O dX0_comesBack_6 rfl (by decide) rfl ?_
  refine tx_aload_n (pc := 7) 1 O dX0_comesBack_7 rfl rfl ?_
  refine tx_aload_n (pc := 8) 1 O dX0_comesBack_8 rfl rfl ?_
  refine fX0_169 (pc := 9) O hR dX0_comesBack_9 ?_
  refine tx_iload_n (pc := 12) 2 O dX0_comesBack_12 rfl rfl ?_
  refine tx_aald (pc := 13) _ _ O dX0_comesBack_13 (sh_213 w) (by decide) (by omega) ?_
  rw [hR.2.2.2.2.2.2.1]
  refine tx_aload_n (pc := 14) 1 O dX0_comesBack_14 rfl rfl ?_
  refine fX0_141 (pc := 15) O hR dX0_comesBack_15 ?_
  refine tx_iload_n (pc := 18) 2 O dX0_comesBack_18 rfl rfl ?_
  refine tx_aald (pc := 19) _ _ O dX0_comesBack_19 (sh_212 w) (by decide) (by omega) ?_
  rw [hR.2.2.2.2.2.1]
  refine tx_cV2 (pc := 20) O dX0_comesBack_20 q290 vX0_commonOf (sh_1 w) rfl (by decide) (Nat.zero_le _) (sX0_commonOf w _ _ l n _ _ hR (by omega) (by omega) n6 n1 b6 okn) (k_I (fun z20 M20 h20 => ?_))
  obtain ⟨hz, hf⟩ := h20
  refine tx_istore_n (pc := 23) (lv' := [(3, _), (2, _), (0, _), (1, _)]) O dX0_comesBack_23 rfl (by decide) rfl ?_
  refine tx_aload_n (pc := 24) 2 O dX0_comesBack_24 rfl rfl ?_
  refine fX0_148 (pc := 25) O hR dX0_comesBack_25 ?_
  refine tx_iload_n (pc := 28) 3 O dX0_comesBack_28 rfl rfl ?_
  refine tx_iconst (pc := 29) O dX0_comesBack_29 ?_
  refine tx_iast (pc := 30) _ O dX0_comesBack_30 (sh_214 w) (by omega) ?_
  refine tx_aload_n (pc := 31) 2 O dX0_comesBack_31 rfl rfl ?_
  refine fX0_158 (pc := 32) O hR dX0_comesBack_32 ?_
  refine tx_iload_n (pc := 35) 1 O dX0_comesBack_35 rfl rfl ?_
  refine tx_aload_n (pc := 36) 2 O dX0_comesBack_36 rfl rfl ?_
  refine fX0_141 (pc := 37) O hR dX0_comesBack_37 ?_
  refine tx_iload_n (pc := 40) 3 O dX0_comesBack_40 rfl rfl ?_
  refine tx_aald (pc := 41) _ _ O dX0_comesBack_41 (sh_212 w) (by decide) (by omega) ?_
  rw [hR.2.2.2.2.2.1]
  refine fX0_37 (pc := 42) O (by omega) dX0_comesBack_42 ?_
  rw [up_n (by omega), hf _ _ (by omega), n1.1]
  refine tx_aload_n (pc := 45) 2 O dX0_comesBack_45 rfl rfl ?_
  refine fX0_169 (pc := 46) O hR dX0_comesBack_46 ?_
  refine tx_iload_n (pc := 49) 3 O dX0_comesBack_49 rfl rfl ?_
  refine tx_aald (pc := 50) _ _ O dX0_comesBack_50 (sh_213 w) (by decide) (by omega) ?_
  rw [hR.2.2.2.2.2.2.1]
  refine fX0_37 (pc := 51) O (by omega) dX0_comesBack_51 ?_
  rw [up_n (by omega), hf _ _ (by omega), n6.1]
  refine tx_isub (pc := 54) O dX0_comesBack_54 ?_
  refine tx_iast (pc := 55) _ O dX0_comesBack_55 (sh_217 w) (by omega) ?_
  refine tx_aload_n (pc := 56) 2 O dX0_comesBack_56 rfl rfl ?_
  refine fX0_155 (pc := 57) O hR dX0_comesBack_57 ?_
  refine tx_iload_n (pc := 60) 1 O dX0_comesBack_60 rfl rfl ?_
  refine tx_iload_n (pc := 61) 0 O dX0_comesBack_61 rfl rfl ?_
  refine tx_aload_n (pc := 62) 2 O dX0_comesBack_62 rfl rfl ?_
  refine fX0_138 (pc := 63) O dX0_comesBack_63 ?_
  rw [up_n (by omega), up_n (by omega), hf _ _ (by omega), me]
  refine tx_aload_n (pc := 66) 2 O dX0_comesBack_66 rfl rfl ?_
  refine fX0_169 (pc := 67) O hR dX0_comesBack_67 ?_
  refine tx_iload_n (pc := 70) 3 O dX0_comesBack_70 rfl rfl ?_
  refine tx_aald (pc := 71) _ _ O dX0_comesBack_71 (sh_213 w) (by decide) (by omega) ?_
  rw [hR.2.2.2.2.2.2.1]
  refine fX0_37 (pc := 72) O (by omega) dX0_comesBack_72 ?_
  rw [up_n (by omega), up_n (by omega), hf _ _ (by omega), n6.1]
  refine tx_mmin (pc := 75) O dX0_comesBack_75 q297 (by omega) (by decide) (by simp only [List.map_cons, List.map_nil, cat_i, cat_l, cat_r, List.sum_cons, List.sum_nil]; decide) ?_
  refine tx_icmp_ge (pc := 78) 85 O dX0_comesBack_78 rfl (by omega) (fun c78 => ?_) (fun c78 => ?_)
  · refine tx_iconst (pc := 85) O dX0_comesBack_85 ?_
    refine tx_zast (pc := 86) _ O dX0_comesBack_86 (sh_216 w) (by omega) (by omega) ?_
    refine tx_aload_n (pc := 87) 2 O dX0_comesBack_87 rfl rfl ?_
    refine fX0_155 (pc := 88) O hR dX0_comesBack_88 ?_
    refine tx_iload_n (pc := 91) 1 O dX0_comesBack_91 rfl rfl ?_
    refine tx_zald (pc := 92) _ O dX0_comesBack_92 (sh_216 w) (by omega) ?_
    rw [up_s]
    refine tx_if_eq (pc := 93) 111 O dX0_comesBack_93 rfl (by omega) (fun c93 => ?_) (fun c93 => ?_)
    · exact tx_vret O F dX0_comesBack_111 (tx_QV.mk (by
        first
          | (exfalso; omega)
          | exact fin _ l 1 h108.1 (by rw [h108.2 _ _ (by omega), up_n (by omega), up_n (by omega), up_s]) (by rw [h108.2 _ _ (by omega), up_n (by omega), up_s]) (by rw [h108.2 _ _ (by omega), up_s]) (fun a b q => by rw [h108.2 _ _ (by omega), up_n (by omega), up_n (by omega), up_n (by omega), hf _ _ (by omega)]) (by rw [if_pos (by omega)]) (by rw [if_pos (by omega)])
          | exact fin _ n 0 (n1.keep (fun b => by rw [up_n (by omega), up_n (by omega), up_n (by omega), hf _ _ (by omega)]) (fun b => by rw [up_n (by omega), up_n (by omega), up_n (by omega), hf _ _ (by omega)])) (by rw [up_n (by omega), up_n (by omega), up_s]) (by rw [up_n (by omega), up_s]) up_s (fun a b q => by rw [up_n (by omega), up_n (by omega), up_n (by omega), hf _ _ (by omega)]) (by rw [if_neg (by omega)]) (by rw [if_neg (by omega)])))
    · refine tx_aload_n (pc := 96) 2 O dX0_comesBack_96 rfl rfl ?_
      refine fX0_141 (pc := 97) O hR dX0_comesBack_97 ?_
      refine tx_iload_n (pc := 100) 3 O dX0_comesBack_100 rfl rfl ?_
      refine tx_aald (pc := 101) _ _ O dX0_comesBack_101 (sh_212 w) (by decide) (by omega) ?_
      rw [hR.2.2.2.2.2.1]
      refine tx_aload_n (pc := 102) 2 O dX0_comesBack_102 rfl rfl ?_
      refine fX0_169 (pc := 103) O hR dX0_comesBack_103 ?_
      refine tx_iload_n (pc := 106) 3 O dX0_comesBack_106 rfl rfl ?_
      refine tx_aald (pc := 107) _ _ O dX0_comesBack_107 (sh_213 w) (by decide) (by omega) ?_
      rw [hR.2.2.2.2.2.2.1]
      refine tx_cV1 (pc := 108) O dX0_comesBack_108 q245 vX1_is (sh_t w (by omega)) rfl (by decide) (Nat.zero_le _) (sX1_is w _ _ _ _ l hR (by omega) (by omega) (by omega) (n6.keep (fun b => by rw [up_n (by omega), up_n (by omega), up_n (by omega), hf _ _ (by omega)]) (fun b => by rw [up_n (by omega), up_n (by omega), up_n (by omega), hf _ _ (by omega)])) ll) (k_V (fun M108 h108 => ?_))
      exact tx_vret O F dX0_comesBack_111 (tx_QV.mk (by
        first
          | (exfalso; omega)
          | exact fin _ l 1 h108.1 (by rw [h108.2 _ _ (by omega), up_n (by omega), up_n (by omega), up_s]) (by rw [h108.2 _ _ (by omega), up_n (by omega), up_s]) (by rw [h108.2 _ _ (by omega), up_s]) (fun a b q => by rw [h108.2 _ _ (by omega), up_n (by omega), up_n (by omega), up_n (by omega), hf _ _ (by omega)]) (by rw [if_pos (by omega)]) (by rw [if_pos (by omega)])
          | exact fin _ n 0 (n1.keep (fun b => by rw [up_n (by omega), up_n (by omega), up_n (by omega), hf _ _ (by omega)]) (fun b => by rw [up_n (by omega), up_n (by omega), up_n (by omega), hf _ _ (by omega)])) (by rw [up_n (by omega), up_n (by omega), up_s]) (by rw [up_n (by omega), up_s]) up_s (fun a b q => by rw [up_n (by omega), up_n (by omega), up_n (by omega), hf _ _ (by omega)]) (by rw [if_neg (by omega)]) (by rw [if_neg (by omega)])))
  · refine tx_iconst (pc := 81) O dX0_comesBack_81 ?_
    refine tx_goto (pc := 82) 86 O dX0_comesBack_82 rfl ?_
    refine tx_zast (pc := 86) _ O dX0_comesBack_86 (sh_216 w) (by omega) (by omega) ?_
    refine tx_aload_n (pc := 87) 2 O dX0_comesBack_87 rfl rfl ?_
    refine fX0_155 (pc := 88) O hR dX0_comesBack_88 ?_
    refine tx_iload_n (pc := 91) 1 O dX0_comesBack_91 rfl rfl ?_
    refine tx_zald (pc := 92) _ O dX0_comesBack_92 (sh_216 w) (by omega) ?_
    rw [up_s]
    refine tx_if_eq (pc := 93) 111 O dX0_comesBack_93 rfl (by omega) (fun c93 => ?_) (fun c93 => ?_)
    · exact tx_vret O F dX0_comesBack_111 (tx_QV.mk (by
        first
          | (exfalso; omega)
          | exact fin _ l 1 h108.1 (by rw [h108.2 _ _ (by omega), up_n (by omega), up_n (by omega), up_s]) (by rw [h108.2 _ _ (by omega), up_n (by omega), up_s]) (by rw [h108.2 _ _ (by omega), up_s]) (fun a b q => by rw [h108.2 _ _ (by omega), up_n (by omega), up_n (by omega), up_n (by omega), hf _ _ (by omega)]) (by rw [if_pos (by omega)]) (by rw [if_pos (by omega)])
          | exact fin _ n 0 (n1.keep (fun b => by rw [up_n (by omega), up_n (by omega), up_n (by omega), hf _ _ (by omega)]) (fun b => by rw [up_n (by omega), up_n (by omega), up_n (by omega), hf _ _ (by omega)])) (by rw [up_n (by omega), up_n (by omega), up_s]) (by rw [up_n (by omega), up_s]) up_s (fun a b q => by rw [up_n (by omega), up_n (by omega), up_n (by omega), hf _ _ (by omega)]) (by rw [if_neg (by omega)]) (by rw [if_neg (by omega)])))
    · refine tx_aload_n (pc := 96) 2 O dX0_comesBack_96 rfl rfl ?_
      refine fX0_141 (pc := 97) O hR dX0_comesBack_97 ?_
      refine tx_iload_n (pc := 100) 3 O dX0_comesBack_100 rfl rfl ?_
      refine tx_aald (pc := 101) _ _ O dX0_comesBack_101 (sh_212 w) (by decide) (by omega) ?_
      rw [hR.2.2.2.2.2.1]
      refine tx_aload_n (pc := 102) 2 O dX0_comesBack_102 rfl rfl ?_
      refine fX0_169 (pc := 103) O hR dX0_comesBack_103 ?_
      refine tx_iload_n (pc := 106) 3 O dX0_comesBack_106 rfl rfl ?_
      refine tx_aald (pc := 107) _ _ O dX0_comesBack_107 (sh_213 w) (by decide) (by omega) ?_
      rw [hR.2.2.2.2.2.2.1]
      refine tx_cV1 (pc := 108) O dX0_comesBack_108 q245 vX1_is (sh_t w (by omega)) rfl (by decide) (Nat.zero_le _) (sX1_is w _ _ _ _ l hR (by omega) (by omega) (by omega) (n6.keep (fun b => by rw [up_n (by omega), up_n (by omega), up_n (by omega), hf _ _ (by omega)]) (fun b => by rw [up_n (by omega), up_n (by omega), up_n (by omega), hf _ _ (by omega)])) ll) (k_V (fun M108 h108 => ?_))
      exact tx_vret O F dX0_comesBack_111 (tx_QV.mk (by
        first
          | (exfalso; omega)
          | exact fin _ l 1 h108.1 (by rw [h108.2 _ _ (by omega), up_n (by omega), up_n (by omega), up_s]) (by rw [h108.2 _ _ (by omega), up_n (by omega), up_s]) (by rw [h108.2 _ _ (by omega), up_s]) (fun a b q => by rw [h108.2 _ _ (by omega), up_n (by omega), up_n (by omega), up_n (by omega), hf _ _ (by omega)]) (by rw [if_pos (by omega)]) (by rw [if_pos (by omega)])
          | exact fin _ n 0 (n1.keep (fun b => by rw [up_n (by omega), up_n (by omega), up_n (by omega), hf _ _ (by omega)]) (fun b => by rw [up_n (by omega), up_n (by omega), up_n (by omega), hf _ _ (by omega)])) (by rw [up_n (by omega), up_n (by omega), up_s]) (by rw [up_n (by omega), up_s]) up_s (fun a b q => by rw [up_n (by omega), up_n (by omega), up_n (by omega), hf _ _ (by omega)]) (by rw [if_neg (by omega)]) (by rw [if_neg (by omega)])))
theorem humS_no {u : PU} {t : Int} {r : RS} (h : rBy r t = -1) : humS u t r = r := by unfold humS; rw [if_pos h]
theorem humS_yes {u : PU} {t : Int} {r : RS} (h : ¬ rBy r t = -1) : humS u t r = (fu (rNow r) t (hum (uq u (ulo u (rBy r t) 2)) (rNow r t)), rLent r, rBy r, rCnt r, rBad r, rGain r) := by unfold humS; rw [if_neg h]
theorem retS_no {u : PU} {e y t : Int} {r : RS} (h : ¬ (rBy r t ≠ -1 ∧ ulo u (rBy r t) 0 + ulo u (rBy r t) 3 = y + 1)) : retS u e y t r = r := by unfold retS; rw [if_neg h]
theorem sX0_goesBy (w : WT) (y : Int) (R M : TM) (u : PU) (r : RS) (hR : RL R) (hu : cP R M u) (hr : RunC M u r) (ho : okR u y y r) (hg : okG u y 0 r) (hy : 0 ≤ y ∧ y ≤ 39) : tx_S w yX0_goesBy cX0_goesBy 3 none 5 [rV (wa w) 1, iV y] R M (QV R (fun M' => RunC M' u (yearC u (uear u) y r) ∧ kcU M M')) := by
  have hD1 := (uT_ok hu.1.1).1
  have hB := uB_ok hu.1.1
  have hnl := hu.1.1.2.2.2.2.1
  have hok := hu.1.1
  have o0 : okR u y (y + 1) (itI (lendS u y) r (unl u)) := (itI_ind (f := lendS u y) (a := r) (fun _ r => okR u y y r) (unl u) ho (fun i x q1 q2 q3 => okR_lend hok ⟨q1, q2⟩ q3) (unl u) hnl.1 (Int.le_refl _)).le (Int.le_refl _) (by omega)
  refine tx_S.ofk (lv := [(0, _), (1, _)]) [1, 1] (by decide) (by simp only [List.map_cons, List.map_nil, cat_i, cat_l, cat_r]) (by decide) rfl (fun E O F => ?_)
  have K : ∀ (t : Int) (M' : TM), (0 ≤ t ∧ t ≤ (uT u).length ∧ RunC M' u (itI (fun t r => retS u (uear u) y t (humS u t r)) (itI (lendS u y) r (unl u)) t) ∧ kcU M M') → tx_X w E 7 [(2, iV t), (0, rV (wa w) 1), (1, iV y)] [] R M' := by
    refine lp_up _ _ (uT u).length ?_
    rintro t M' ⟨h1, h2, h3, h4⟩ ih
    have o1 : okR u y (y + 1) (itI (fun t r => retS u (uear u) y t (humS u t r)) (itI (lendS u y) r (unl u)) t) := itI_ind (f := fun t r => retS u (uear u) y t (humS u t r)) (a := itI (lendS u y) r (unl u)) (fun _ r => okR u y (y + 1) r) (uT u).length o0 (fun i x q1 q2 q3 => okR_ret hok ⟨q1, q2⟩ (okR_hum hok ⟨q1, q2⟩ q3)) t h1 h2
    have hst := itI_1 (fun t r => retS u (uear u) y t (humS u t r)) (itI (lendS u y) r (unl u)) h1
    have hu := hu.keep h4
    generalize hr1 : itI (fun t r => retS u (uear u) y t (humS u t r)) (itI (lendS u y) r (unl u)) t = r1 at h3 o1 hst
    have m4 : M' 1 4 = (uT u).length := hu.2.2.1.1
    refine tx_iload_n (pc := 7) 0 O dX0_goesBy_7 rfl rfl ?_
    refine tx_aload_n (pc := 8) 1 O dX0_goesBy_8 rfl rfl ?_
    refine fX0_25 (pc := 9) O dX0_goesBy_9 ?_
    rw [m4]
    refine tx_icmp_ge (pc := 12) 97 O dX0_goesBy_12 rfl (by omega) (fun c12 => ?_) (fun c12 => ?_)
    · exact tx_vret O F dX0_goesBy_97 (tx_QV.mk ⟨by unfold yearC; rw [show ((uT u).length : Int) = t by omega, hr1]; exact h3, h4⟩)
    · obtain ⟨n1, n2, n3⟩ := h3.1 t h1 (by omega)
      have nr : -1 ≤ rBy r1 t ∧ rBy r1 t < 12 := by
        rcases o1.2.1 t h1 (by omega) with q | q
        · omega
        · have := q.1; have := q.2.1; omega
      refine tx_aload_n (pc := 15) 1 O dX0_goesBy_15 rfl rfl ?_
      refine fX0_148 (pc := 16) O hR dX0_goesBy_16 ?_
      refine tx_iload_n (pc := 19) 0 O dX0_goesBy_19 rfl rfl ?_
      refine tx_iald (pc := 20) _ O dX0_goesBy_20 (sh_214 w) (by omega) ?_
      rw [n2]
      refine tx_iconst (pc := 21) O dX0_goesBy_21 ?_
      refine tx_icmp_eq (pc := 22) 91 O dX0_goesBy_22 rfl (by omega) (fun c22 => ?_) (fun c22 => ?_)
      · rw [humS_no c22, retS_no (fun q => q.1 c22)] at hst
        refine tx_iinc (pc := 91) (lv' := [(2, _), (0, _), (1, _)]) 0 O dX0_goesBy_91 rfl (by decide) rfl ?_
        refine tx_goto (pc := 94) 7 O dX0_goesBy_94 rfl ?_
        first
          | exact ih _ _ ⟨by omega, by omega, h88.1, (h4.tr k5).tr h88.2⟩ (by omega) (by omega)
          | (have e9 : retS u (uear u) y t (fu (rNow r1) t (hum (uq u (ulo u (rBy r1 t) 2)) (rNow r1 t)), rLent r1, rBy r1, rCnt r1, rBad r1, rGain r1) = _ := retS_no (fun q => c83 q.2)
             rw [e9] at hst
             exact ih _ _ ⟨by omega, by omega, by rw [hst]; exact h5, h4.tr k5⟩ (by omega) (by omega))
          | exact ih _ _ ⟨by omega, by omega, by rw [hst]; exact h3, h4⟩ (by omega) (by omega)
      · obtain ⟨b1, b2, b3, b4, b5, b6, b7⟩ := (o1.2.1 t h1 (by omega)).resolve_left c22
        obtain ⟨l0, l1, l2, l3⟩ := hok.2.2.2.2.2.1 _ b1 b2
        have okh := okR_hum (t := t) hok ⟨h1, by omega⟩ o1
        rw [humS_yes c22] at hst okh
        have m2 : M' 312 (rBy r1 t) = ulo u (rBy r1 t) 2 := hu.1.2.2.2.2.2.2.1 _ 2 b1 b2 (by omega) (by omega)
        obtain ⟨r5, r6⟩ := hu.br l2.1 b4
        refine tx_aload_n (pc := 25) 1 O dX0_goesBy_25 rfl rfl ?_
        refine tx_aload_n (pc := 26) 1 O dX0_goesBy_26 rfl rfl ?_
        refine fX0_49 (pc := 27) O hR dX0_goesBy_27 ?_
        refine tx_aload_n (pc := 30) 1 O dX0_goesBy_30 rfl rfl ?_
        refine fX0_111 (pc := 31) O hR dX0_goesBy_31 ?_
        refine tx_iconst (pc := 34) O dX0_goesBy_34 ?_
        refine tx_aald (pc := 35) _ _ O dX0_goesBy_35 (sh_210 w) (by decide) (by omega) ?_
        rw [hR.2.2.2.1 2, show (310 : Int) + 2 = 312 from rfl]
        refine tx_aload_n (pc := 36) 1 O dX0_goesBy_36 rfl rfl ?_
        refine fX0_148 (pc := 37) O hR dX0_goesBy_37 ?_
        refine tx_iload_n (pc := 40) 0 O dX0_goesBy_40 rfl rfl ?_
        refine tx_iald (pc := 41) _ O dX0_goesBy_41 (sh_214 w) (by omega) ?_
        rw [n2]
        refine tx_iald (pc := 42) _ O dX0_goesBy_42 (sh_312 w) (by omega) ?_
        rw [m2]
        refine tx_aald (pc := 43) _ _ O dX0_goesBy_43 (sh_208 w) (by decide) (by omega) ?_
        refine tx_aload_n (pc := 44) 1 O dX0_goesBy_44 rfl rfl ?_
        refine fX0_141 (pc := 45) O hR dX0_goesBy_45 ?_
        refine tx_iload_n (pc := 48) 0 O dX0_goesBy_48 rfl rfl ?_
        refine tx_aald (pc := 49) _ _ O dX0_goesBy_49 (sh_212 w) (by decide) (by omega) ?_
        rw [hR.2.2.2.2.2.1]
        refine tx_cV2 (pc := 50) O dX0_goesBy_50 q260 vX0_humsOnce (sh_1 w) rfl (by decide) (Nat.zero_le _) (sX0_humsOnce w _ _ (rNow r1 t) _ _ hR r5 (by omega) (by omega) n1 (o1.1 t h1 (by omega)) (by rw [r6]; exact uq_ok hok l2.1 b4)) (k_V (fun M50 h50 => ?_))
        rw [r6] at h50
        obtain ⟨g1, g2⟩ := h50
        have k5 : kcU M' M50 := fun a b q => g2 a b (by omega)
        have hu := hu.keep k5
        have m0 : M50 310 (rBy r1 t) = ulo u (rBy r1 t) 0 := hu.1.2.2.2.2.2.2.1 _ 0 b1 b2 (by omega) (by omega)
        have m3 : M50 313 (rBy r1 t) = ulo u (rBy r1 t) 3 := hu.1.2.2.2.2.2.2.1 _ 3 b1 b2 (by omega) (by omega)
        have n5 : M50 214 t = rBy r1 t := by rw [g2 _ _ (by omega)]; exact n2
        have h5 : RunC M50 u (fu (rNow r1) t (hum (uq u (ulo u (rBy r1 t) 2)) (rNow r1 t)), rLent r1, rBy r1, rCnt r1, rBad r1, rGain r1) := by
          refine ⟨fun s q1 q2 => ?_, fun j q1 q2 => ?_⟩
          · obtain ⟨p1, p2, p3⟩ := h3.1 s q1 q2
            show tuIs M50 (410 + s) (fu (rNow r1) t (hum (uq u (ulo u (rBy r1 t) 2)) (rNow r1 t)) s) ∧ M50 214 s = rBy r1 s ∧ (rBy r1 s ≠ -1 → tuIs M50 (420 + s) (rLent r1 s))
            refine ⟨?_, by rw [g2 _ _ (by omega)]; exact p2, fun z => (p3 z).keep (fun b => g2 _ _ (by omega)) (fun b => g2 _ _ (by omega))⟩
            by_cases e : s = t
            · subst e; rw [fu_s]; exact g1
            · rw [fu_n e]; exact p1.keep (fun b => g2 _ _ (by omega)) (fun b => g2 _ _ (by omega))
          · obtain ⟨p1, p2, p3⟩ := h3.2 j q1 q2
            exact ⟨by rw [g2 _ _ (by omega)]; exact p1, by rw [g2 _ _ (by omega)]; exact p2, by rw [g2 _ _ (by omega)]; exact p3⟩
        refine tx_aload_n (pc := 53) 1 O dX0_goesBy_53 rfl rfl ?_
        refine fX0_111 (pc := 54) O hR dX0_goesBy_54 ?_
        refine tx_iconst (pc := 57) O dX0_goesBy_57 ?_
        refine tx_aald (pc := 58) _ _ O dX0_goesBy_58 (sh_210 w) (by decide) (by omega) ?_
        rw [hR.2.2.2.1 0, show (310 : Int) + 0 = 310 from rfl]
        refine tx_aload_n (pc := 59) 1 O dX0_goesBy_59 rfl rfl ?_
        refine fX0_148 (pc := 60) O hR dX0_goesBy_60 ?_
        refine tx_iload_n (pc := 63) 0 O dX0_goesBy_63 rfl rfl ?_
        refine tx_iald (pc := 64) _ O dX0_goesBy_64 (sh_214 w) (by omega) ?_
        rw [n5]
        refine tx_iald (pc := 65) _ O dX0_goesBy_65 (sh_310 w) (by omega) ?_
        rw [m0]
        refine tx_aload_n (pc := 66) 1 O dX0_goesBy_66 rfl rfl ?_
        refine fX0_111 (pc := 67) O hR dX0_goesBy_67 ?_
        refine tx_iconst (pc := 70) O dX0_goesBy_70 ?_
        refine tx_aald (pc := 71) _ _ O dX0_goesBy_71 (sh_210 w) (by decide) (by omega) ?_
        rw [hR.2.2.2.1 3, show (310 : Int) + 3 = 313 from rfl]
        refine tx_aload_n (pc := 72) 1 O dX0_goesBy_72 rfl rfl ?_
        refine fX0_148 (pc := 73) O hR dX0_goesBy_73 ?_
        refine tx_iload_n (pc := 76) 0 O dX0_goesBy_76 rfl rfl ?_
        refine tx_iald (pc := 77) _ O dX0_goesBy_77 (sh_214 w) (by omega) ?_
        rw [n5]
        refine tx_iald (pc := 78) _ O dX0_goesBy_78 (sh_313 w) (by omega) ?_
        rw [m3]
        refine tx_iadd (pc := 79) O dX0_goesBy_79 ?_
        refine tx_iload_n (pc := 80) 2 O dX0_goesBy_80 rfl rfl ?_
        refine tx_iconst (pc := 81) O dX0_goesBy_81 ?_
        refine tx_iadd (pc := 82) O dX0_goesBy_82 ?_
        refine tx_icmp_ne (pc := 83) 91 O dX0_goesBy_83 rfl (by omega) (fun c83 => ?_) (fun c83 => ?_)
        · refine tx_iinc (pc := 91) (lv' := [(2, _), (0, _), (1, _)]) 0 O dX0_goesBy_91 rfl (by decide) rfl ?_
          refine tx_goto (pc := 94) 7 O dX0_goesBy_94 rfl ?_
          first
            | exact ih _ _ ⟨by omega, by omega, h88.1, (h4.tr k5).tr h88.2⟩ (by omega) (by omega)
            | (have e9 : retS u (uear u) y t (fu (rNow r1) t (hum (uq u (ulo u (rBy r1 t) 2)) (rNow r1 t)), rLent r1, rBy r1, rCnt r1, rBad r1, rGain r1) = _ := retS_no (fun q => c83 q.2)
               rw [e9] at hst
               exact ih _ _ ⟨by omega, by omega, by rw [hst]; exact h5, h4.tr k5⟩ (by omega) (by omega))
            | exact ih _ _ ⟨by omega, by omega, by rw [hst]; exact h3, h4⟩ (by omega) (by omega)
        · refine tx_aload_n (pc := 86) 1 O dX0_goesBy_86 rfl rfl ?_
          refine tx_iload_n (pc := 87) 0 O dX0_goesBy_87 rfl rfl ?_
          refine tx_cV1 (pc := 88) O dX0_goesBy_88 q286 vX0_comesBack (sh_1 w) rfl (by decide) (Nat.zero_le _) (sX0_comesBack w t y _ _ u _ hR hu h5 okh (by omega) c22 c83) (k_V (fun M88 h88 => ?_))
          rw [← hst] at h88
          refine tx_iinc (pc := 91) (lv' := [(2, _), (0, _), (1, _)]) 0 O dX0_goesBy_91 rfl (by decide) rfl ?_
          refine tx_goto (pc := 94) 7 O dX0_goesBy_94 rfl ?_
          first
            | exact ih _ _ ⟨by omega, by omega, h88.1, (h4.tr k5).tr h88.2⟩ (by omega) (by omega)
            | (have e9 : retS u (uear u) y t (fu (rNow r1) t (hum (uq u (ulo u (rBy r1 t) 2)) (rNow r1 t)), rLent r1, rBy r1, rCnt r1, rBad r1, rGain r1) = _ := retS_no (fun q => c83 q.2)
               rw [e9] at hst
               exact ih _ _ ⟨by omega, by omega, by rw [hst]; exact h5, h4.tr k5⟩ (by omega) (by omega))
            | exact ih _ _ ⟨by omega, by omega, by rw [hst]; exact h3, h4⟩ (by omega) (by omega)
  refine tx_aload_n (pc := 0) 0 O dX0_goesBy_0 rfl rfl ?_
  refine tx_iload_n (pc := 1) 1 O dX0_goesBy_1 rfl rfl ?_
  refine tx_cV1 (pc := 2) O dX0_goesBy_2 q256 vX0_lends (sh_1 w) rfl (by decide) (Nat.zero_le _) (sX0_lends w _ _ _ u r hR hu hr ho hg hy) (k_V (fun M2 h2 => ?_))
  refine tx_iconst (pc := 5) O dX0_goesBy_5 ?_
  refine tx_istore_n (pc := 6) (lv' := [(2, _), (0, _), (1, _)]) O dX0_goesBy_6 rfl (by decide) rfl ?_
  exact K 0 _ ⟨by omega, by omega, h2.1, h2.2⟩
theorem sX0_runs (w : WT) (n : Int) (R M : TM) (u : PU) (hR : RL R) (hu : cT R M u) (hn : 0 ≤ n ∧ n ≤ 39) : tx_S w yX0_runs cX0_runs 3 none 6 [rV (wa w) 1, iV n] R M (QCV (fun R' M' => cS u R M R' M' ∧ RunC M' u (runP u (uear u) (n + 1)))) := by
  have hok := hu.1.1
  refine tx_S.ofk (lv := [(0, _), (1, _)]) [1, 1] (by decide) (by simp only [List.map_cons, List.map_nil, cat_i, cat_l, cat_r]) (by decide) rfl (fun E O F => ?_)
  have K : ∀ (R' : TM) (y : Int) (M' : TM), (0 ≤ y ∧ y ≤ n + 1 ∧ RL R' ∧ cS u R M R' M' ∧ RunC M' u (runP u (uear u) y)) → tx_X w E 6 [(2, iV y), (0, rV (wa w) 1), (1, iV n)] [] R' M' := by
    intro R'
    refine lp_up _ _ (n + 1) ?_
    rintro y M' ⟨h1, h2, hR, h3, h4⟩ ih
    have hst := itI_1 (yearM u (uear u)) (startS u) h1
    rw [year_eq] at hst
    refine tx_iload_n (pc := 6) 0 O dX0_runs_6 rfl rfl ?_
    refine tx_iload_n (pc := 7) 2 O dX0_runs_7 rfl rfl ?_
    refine tx_icmp_gt (pc := 8) 22 O dX0_runs_8 rfl (by omega) (fun c8 => ?_) (fun c8 => ?_)
    · exact tx_vret O F dX0_runs_22 (tx_QCV.mk ⟨h3, by rw [show n + 1 = y by omega]; exact h4⟩)
    · refine tx_aload_n (pc := 11) 1 O dX0_runs_11 rfl rfl ?_
      refine tx_iload_n (pc := 12) 0 O dX0_runs_12 rfl rfl ?_
      refine tx_cV1 (pc := 13) O dX0_runs_13 q252 vX0_goesBy (sh_1 w) rfl (by decide) (Nat.zero_le _) (sX0_goesBy w _ _ _ u _ hR h3.1 h4 (okR_run hok _ h1) (okG_run hok _ h1) (by omega)) (k_V (fun M13 h13 => ?_))
      refine tx_iinc (pc := 16) (lv' := [(2, _), (0, _), (1, _)]) 0 O dX0_runs_16 rfl (by decide) rfl ?_
      refine tx_goto (pc := 19) 6 O dX0_runs_19 rfl ?_
      exact ih _ _ ⟨by omega, by omega, hR, h3.u h13.2, by unfold runP at h13 ⊢; rw [hst]; exact h13.1⟩ (by omega) (by omega)
  refine tx_aload_n (pc := 0) 0 O dX0_runs_0 rfl rfl ?_
  refine tx_cV0 (pc := 1) O dX0_runs_1 q241 vX0_begins (sh_1 w) rfl (by decide) (Nat.zero_le _) (sX0_begins w _ _ u hR hu) (k_CV (fun R1 M1 h1 => ?_))
  refine tx_iconst (pc := 4) O dX0_runs_4 ?_
  refine tx_istore_n (pc := 5) (lv' := [(2, _), (0, _), (1, _)]) O dX0_runs_5 rfl (by decide) rfl ?_
  exact K _ 0 _ ⟨by omega, by omega, hR.kp h1.1.2.2, h1.1, h1.2⟩

