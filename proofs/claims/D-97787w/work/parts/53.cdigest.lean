/-! COMPONENT: sumOf, count, tuneDigest, digest -/
set_option maxRecDepth 100000
theorem sumCnt_12 {u : PU} {y n : Int} {r : RS} (hu : uOk u) (h : okG u y n r) : sumCnt r 12 = sumCnt r (unl u) := by
  have hnl := hu.2.2.2.2.1
  have key : ∀ d : Nat, unl u + d ≤ 12 → sumCnt r (unl u + d) = sumCnt r (unl u) := by
    intro d
    induction d with
    | zero => intro _; simp
    | succ d ih =>
      intro hd
      have e := itI_1 (fun k s => s + rCnt r k) (0 : Int) (show 0 ≤ unl u + (d : Int) by omega)
      have h0 : rCnt r (unl u + d) = 0 := by
        rcases (h (unl u + d) (by omega) (by omega)).1 with q | q
        · exact q
        · omega
      have i := ih (by omega)
      unfold sumCnt at i ⊢
      rw [show unl u + ((d + 1 : Nat) : Int) = unl u + (d : Int) + 1 by omega, e, i, h0]
      omega
  have := key (12 - unl u).toNat (by omega)
  rw [show unl u + ((12 - unl u).toNat : Int) = 12 by omega] at this
  exact this
theorem sX0_sumOf (w : WT) (what : Int) (R M : TM) (u : PU) (hR : RL R) (hu : cT R M u) (hw : what = 0 ∨ what = 1 ∨ what = 5 ∨ what = 7) : tx_S w yX0_sumOf cX0_sumOf 4 (some .int) 7 [rV (wa w) 1, iV what] R M (QC (fun z R' M' => z = cntP u 0 what ∧ cS u R M R' M')) := by
  have hok := hu.1.1
  have hD1 := (uT_ok hok).1
  have hnl := hok.2.2.2.2.1
  refine tx_S.ofk (lv := [(0, _), (1, _)]) [1, 1] (by decide) (by simp only [List.map_cons, List.map_nil, cat_i, cat_l, cat_r]) (by decide) rfl (fun E O F => ?_)
  have K : ∀ R' M' : TM, RL R' → cS u R M R' M' → RunC M' u (runP u (uear u) 40) → tx_X w E 6 [(0, rV (wa w) 1), (1, iV what)] [] R' M' := by
    intro R' M' hR hs hr
    have hu := hs.1
    have og := okG_run hok (uear u) (n := 40) (by omega)
    have K78 : ∀ j s : Int, (what = 5 → s = sumCnt (runP u (uear u) 40) (unl u)) → (what = 7 → s = sumLen u (uT u).length) → tx_X w E 78 [(3, iV j), (2, iV s), (0, rV (wa w) 1), (1, iV what)] [] R' M' := by
      intro j s h5 h7
      refine tx_iload_n (pc := 78) 3 O dX0_sumOf_78 rfl rfl ?_
      refine tx_if_ne (pc := 79) 89 O dX0_sumOf_79 rfl (by omega) (fun c79 => ?_) (fun c79 => ?_)
      · refine tx_iload_n (pc := 89) 3 O dX0_sumOf_89 rfl rfl ?_
        refine tx_iconst (pc := 90) O dX0_sumOf_90 ?_
        refine tx_icmp_ne (pc := 91) 101 O dX0_sumOf_91 rfl (by omega) (fun c91 => ?_) (fun c91 => ?_)
        · refine tx_iload_n (pc := 101) 1 O dX0_sumOf_101 rfl rfl ?_
          exact tx_iret O F dX0_sumOf_102 (tx_QC.mk ⟨by
              rcases hw with e | e | e | e
              · subst e; first | (exfalso; omega) | rfl
              · subst e; first | (exfalso; omega) | rfl
              · first | (exfalso; omega) | (rw [h5 e]; subst e; rfl)
              · first | (exfalso; omega) | (rw [h7 e]; subst e; rfl), hs⟩)
        · refine tx_aload_n (pc := 94) 2 O dX0_sumOf_94 rfl rfl ?_
          refine fX0_46 (pc := 95) O dX0_sumOf_95 ?_
          rw [hu.bor]
          refine tx_goto (pc := 98) 102 O dX0_sumOf_98 rfl ?_
          exact tx_iret O F dX0_sumOf_102 (tx_QC.mk ⟨by
              rcases hw with e | e | e | e
              · subst e; first | (exfalso; omega) | rfl
              · subst e; first | (exfalso; omega) | rfl
              · first | (exfalso; omega) | (rw [h5 e]; subst e; rfl)
              · first | (exfalso; omega) | (rw [h7 e]; subst e; rfl), hs⟩)
      · refine tx_aload_n (pc := 82) 2 O dX0_sumOf_82 rfl rfl ?_
        refine fX0_25 (pc := 83) O dX0_sumOf_83 ?_
        rw [hu.tun]
        refine tx_goto (pc := 86) 102 O dX0_sumOf_86 rfl ?_
        exact tx_iret O F dX0_sumOf_102 (tx_QC.mk ⟨by
            rcases hw with e | e | e | e
            · subst e; first | (exfalso; omega) | rfl
            · subst e; first | (exfalso; omega) | rfl
            · first | (exfalso; omega) | (rw [h5 e]; subst e; rfl)
            · first | (exfalso; omega) | (rw [h7 e]; subst e; rfl), hs⟩)
    have K46 : ∀ (t : Int) (M2 : TM), (0 ≤ t ∧ t ≤ (uT u).length ∧ M2 = M') → ∀ s : Int, (what = 5 → s = sumCnt (runP u (uear u) 40) (unl u)) → (what = 7 → s = sumLen u t) → tx_X w E 46 [(3, iV t), (2, iV s), (0, rV (wa w) 1), (1, iV what)] [] R' M2 := by
      refine lp_up _ _ (uT u).length ?_
      rintro t M2 ⟨h1, h2, rfl⟩ ih s h5 h7
      have hst := itI_1 (fun t s => s + ((gl (uT u) t).length : Int)) (0 : Int) h1
      change sumLen u (t + 1) = sumLen u t + ((gl (uT u) t).length : Int) at hst
      refine tx_iload_n (pc := 46) 0 O dX0_sumOf_46 rfl rfl ?_
      refine tx_aload_n (pc := 47) 2 O dX0_sumOf_47 rfl rfl ?_
      refine fX0_25 (pc := 48) O dX0_sumOf_48 ?_
      rw [hu.tun]
      refine tx_icmp_ge (pc := 51) 78 O dX0_sumOf_51 rfl (by omega) (fun c51 => ?_) (fun c51 => ?_)
      · first
          | exact K78 _ _ h5 (fun q => absurd q c57)
          | exact K78 _ _ h5 (fun q => by rw [h7 q, show t = (uT u).length by omega])
      · refine tx_iload_n (pc := 54) 3 O dX0_sumOf_54 rfl rfl ?_
        refine tx_bipush (pc := 55) O dX0_sumOf_55 (by decide) ?_
        refine tx_icmp_ne (pc := 57) 78 O dX0_sumOf_57 rfl (by omega) (fun c57 => ?_) (fun c57 => ?_)
        · first
            | exact K78 _ _ h5 (fun q => absurd q c57)
            | exact K78 _ _ h5 (fun q => by rw [h7 q, show t = (uT u).length by omega])
        · refine tx_iload_n (pc := 60) 1 O dX0_sumOf_60 rfl rfl ?_
          refine tx_aload_n (pc := 61) 2 O dX0_sumOf_61 rfl rfl ?_
          refine fX0_33 (pc := 62) O hR dX0_sumOf_62 ?_
          refine tx_iload_n (pc := 65) 0 O dX0_sumOf_65 rfl rfl ?_
          refine tx_aald (pc := 66) _ _ O dX0_sumOf_66 (sh_205 w) (by decide) (by omega) ?_
          rw [hR.2.2.2.2.1]
          refine fX0_37 (pc := 67) O (by omega) dX0_sumOf_67 ?_
          rw [(hu.tu (t := t) (by omega)).1]
          refine tx_iadd (pc := 70) O dX0_sumOf_70 ?_
          refine tx_istore_n (pc := 71) (lv' := [(2, _), (3, _), (0, _), (1, _)]) O dX0_sumOf_71 rfl (by decide) rfl ?_
          refine tx_iinc (pc := 72) (lv' := [(3, _), (2, _), (0, _), (1, _)]) 1 O dX0_sumOf_72 rfl (by decide) rfl ?_
          refine tx_goto (pc := 75) 46 O dX0_sumOf_75 rfl ?_
          exact ih _ _ ⟨by omega, by omega, rfl⟩ (by omega) (by omega) _ (by omega) (by omega)
    have K10 : ∀ (k : Int) (M2 : TM), (0 ≤ k ∧ k ≤ 12 ∧ M2 = M') → ∀ s : Int, (what = 5 → s = sumCnt (runP u (uear u) 40) k) → (what = 7 → s = 0) → tx_X w E 10 [(3, iV k), (2, iV s), (0, rV (wa w) 1), (1, iV what)] [] R' M2 := by
      refine lp_up _ _ 12 ?_
      rintro k M2 ⟨h1, h2, rfl⟩ ih s h5 h7
      have hst := itI_1 (fun k s => s + rCnt (runP u (uear u) 40) k) (0 : Int) h1
      change sumCnt (runP u (uear u) 40) (k + 1) = sumCnt (runP u (uear u) 40) k + rCnt (runP u (uear u) 40) k at hst
      refine tx_iload_n (pc := 10) 0 O dX0_sumOf_10 rfl rfl ?_
      refine tx_bipush (pc := 11) O dX0_sumOf_11 (by decide) ?_
      refine tx_icmp_ge (pc := 13) 44 O dX0_sumOf_13 rfl (by omega) (fun c13 => ?_) (fun c13 => ?_)
      · refine tx_iconst (pc := 44) O dX0_sumOf_44 ?_
        refine tx_istore_n (pc := 45) (lv' := [(3, _), (2, _), (0, _), (1, _)]) O dX0_sumOf_45 rfl (by decide) rfl ?_
        first
          | exact K46 0 _ ⟨by omega, by omega, rfl⟩ _ (fun q => absurd q c18) (fun q => h7 q)
          | exact K46 0 _ ⟨by omega, by omega, rfl⟩ _ (fun q => by rw [h5 q, show k = 12 by omega, sumCnt_12 hok og]) (fun q => h7 q)
      · refine tx_iload_n (pc := 16) 3 O dX0_sumOf_16 rfl rfl ?_
        refine tx_iconst (pc := 17) O dX0_sumOf_17 ?_
        refine tx_icmp_ne (pc := 18) 44 O dX0_sumOf_18 rfl (by omega) (fun c18 => ?_) (fun c18 => ?_)
        · refine tx_iconst (pc := 44) O dX0_sumOf_44 ?_
          refine tx_istore_n (pc := 45) (lv' := [(3, _), (2, _), (0, _), (1, _)]) O dX0_sumOf_45 rfl (by decide) rfl ?_
          first
            | exact K46 0 _ ⟨by omega, by omega, rfl⟩ _ (fun q => absurd q c18) (fun q => h7 q)
            | exact K46 0 _ ⟨by omega, by omega, rfl⟩ _ (fun q => by rw [h5 q, show k = 12 by omega, sumCnt_12 hok og]) (fun q => h7 q)
        · have p1 := (hr.2 k h1 (by omega)).1
          have o1 := (og k h1 (by omega)).1
          refine tx_iload_n (pc := 21) 1 O dX0_sumOf_21 rfl rfl ?_
          refine tx_aload_n (pc := 22) 2 O dX0_sumOf_22 rfl rfl ?_
          refine fX0_151 (pc := 23) O hR dX0_sumOf_23 ?_
          refine tx_iload_n (pc := 26) 0 O dX0_sumOf_26 rfl rfl ?_
          refine tx_zald (pc := 27) _ O dX0_sumOf_27 (sh_215 w) (by omega) ?_
          rw [p1]
          refine tx_if_eq (pc := 28) 35 O dX0_sumOf_28 rfl (by omega) (fun c28 => ?_) (fun c28 => ?_)
          · refine tx_iconst (pc := 35) O dX0_sumOf_35 ?_
            refine tx_iadd (pc := 36) O dX0_sumOf_36 ?_
            refine tx_istore_n (pc := 37) (lv' := [(2, _), (3, _), (0, _), (1, _)]) O dX0_sumOf_37 rfl (by decide) rfl ?_
            refine tx_iinc (pc := 38) (lv' := [(3, _), (2, _), (0, _), (1, _)]) 1 O dX0_sumOf_38 rfl (by decide) rfl ?_
            refine tx_goto (pc := 41) 10 O dX0_sumOf_41 rfl ?_
            exact ih _ _ ⟨by omega, by omega, rfl⟩ (by omega) (by omega) _ (by omega) (by omega)
          · refine tx_iconst (pc := 31) O dX0_sumOf_31 ?_
            refine tx_goto (pc := 32) 36 O dX0_sumOf_32 rfl ?_
            refine tx_iadd (pc := 36) O dX0_sumOf_36 ?_
            refine tx_istore_n (pc := 37) (lv' := [(2, _), (3, _), (0, _), (1, _)]) O dX0_sumOf_37 rfl (by decide) rfl ?_
            refine tx_iinc (pc := 38) (lv' := [(3, _), (2, _), (0, _), (1, _)]) 1 O dX0_sumOf_38 rfl (by decide) rfl ?_
            refine tx_goto (pc := 41) 10 O dX0_sumOf_41 rfl ?_
            exact ih _ _ ⟨by omega, by omega, rfl⟩ (by omega) (by omega) _ (by omega) (by omega)
    refine tx_iconst (pc := 6) O dX0_sumOf_6 ?_
    refine tx_istore_n (pc := 7) (lv' := [(2, _), (0, _), (1, _)]) O dX0_sumOf_7 rfl (by decide) rfl ?_
    refine tx_iconst (pc := 8) O dX0_sumOf_8 ?_
    refine tx_istore_n (pc := 9) (lv' := [(3, _), (2, _), (0, _), (1, _)]) O dX0_sumOf_9 rfl (by decide) rfl ?_
    exact K10 0 _ ⟨by omega, by omega, rfl⟩ 0 (fun _ => rfl) (fun _ => rfl)
  refine tx_aload_n (pc := 0) 0 O dX0_sumOf_0 rfl rfl ?_
  refine tx_bipush (pc := 1) O dX0_sumOf_1 (by decide) ?_
  refine tx_cV1 (pc := 3) O dX0_sumOf_3 q237 vX0_runs (sh_1 w) rfl (by decide) (Nat.zero_le _) (sX0_runs w _ _ _ u hR hu (by omega)) (k_CV (fun R3 M3 h3 => ?_))
  exact K _ _ (hR.kp h3.1.2.2) h3.1 h3.2
theorem sX0_count (w : WT) (what : Int) (R M : TM) (u : PU) (hR : RL R) (hu : cT R M u) (hw : rng what) : tx_S w yX0_count cX0_count 2 (some .int) 8 [rV (wa w) 1, iV what] R M (QC (fun z R' M' => z = cntP u (M 1 22) what ∧ cW u R M R' M')) := by
  refine tx_S.ofk (lv := [(0, _), (1, _)]) [1, 1] (by decide) (by simp only [List.map_cons, List.map_nil, cat_i, cat_l, cat_r]) (by decide) rfl (fun E O F => ?_)
  refine tx_iload_n (pc := 0) 1 O dX0_count_0 rfl rfl ?_
  rcases (show what = 0 ∨ what = 1 ∨ what = 2 ∨ what = 3 ∨ what = 4 ∨ what = 5 ∨ what = 6 ∨ what = 7 ∨ what = 8 ∨ (what < 0 ∨ 8 < what) by omega) with e1 | e1 | e1 | e1 | e1 | e1 | e1 | e1 | e1 | e1
  · subst e1
    refine tx_tableIn (pc := 1) 52 O dX0_count_1 (by omega) (by omega) (by omega) rfl rfl ?_
    refine tx_aload_n (pc := 52) 0 O dX0_count_52 rfl rfl ?_
    refine tx_iload_n (pc := 53) 1 O dX0_count_53 rfl rfl ?_
    refine tx_cV1 (pc := 54) O dX0_count_54 q800 vX0_sumOf (sh_1 w) rfl (by decide) (Nat.zero_le _) (sX0_sumOf w _ _ _ u hR hu (by omega)) (k_C (fun z54 R54 M54 h54 => ?_))
    exact tx_iret O F dX0_count_57 (tx_QC.mk ⟨by rw [h54.1]; exact cntP_lat (by omega), h54.2.w⟩)
  · subst e1
    refine tx_tableIn (pc := 1) 52 O dX0_count_1 (by omega) (by omega) (by omega) rfl rfl ?_
    refine tx_aload_n (pc := 52) 0 O dX0_count_52 rfl rfl ?_
    refine tx_iload_n (pc := 53) 1 O dX0_count_53 rfl rfl ?_
    refine tx_cV1 (pc := 54) O dX0_count_54 q800 vX0_sumOf (sh_1 w) rfl (by decide) (Nat.zero_le _) (sX0_sumOf w _ _ _ u hR hu (by omega)) (k_C (fun z54 R54 M54 h54 => ?_))
    exact tx_iret O F dX0_count_57 (tx_QC.mk ⟨by rw [h54.1]; exact cntP_lat (by omega), h54.2.w⟩)
  · subst e1
    refine tx_tableIn (pc := 1) 58 O dX0_count_1 (by omega) (by omega) (by omega) rfl rfl ?_
    refine tx_aload_n (pc := 58) 0 O dX0_count_58 rfl rfl ?_
    refine fX0_13 (pc := 59) O hR dX0_count_59 ?_
    refine tx_iload_n (pc := 62) 1 O dX0_count_62 rfl rfl ?_
    refine tx_iconst (pc := 63) O dX0_count_63 ?_
    refine tx_isub (pc := 64) O dX0_count_64 ?_
    refine tx_iald (pc := 65) _ O dX0_count_65 (sh_201 w) (by omega) ?_
    exact tx_iret O F dX0_count_66 (tx_QC.mk ⟨by first | exact hu.1.2.1 | exact hu.1.2.2.1, hu.s⟩)
  · subst e1
    refine tx_tableIn (pc := 1) 58 O dX0_count_1 (by omega) (by omega) (by omega) rfl rfl ?_
    refine tx_aload_n (pc := 58) 0 O dX0_count_58 rfl rfl ?_
    refine fX0_13 (pc := 59) O hR dX0_count_59 ?_
    refine tx_iload_n (pc := 62) 1 O dX0_count_62 rfl rfl ?_
    refine tx_iconst (pc := 63) O dX0_count_63 ?_
    refine tx_isub (pc := 64) O dX0_count_64 ?_
    refine tx_iald (pc := 65) _ O dX0_count_65 (sh_201 w) (by omega) ?_
    exact tx_iret O F dX0_count_66 (tx_QC.mk ⟨by first | exact hu.1.2.1 | exact hu.1.2.2.1, hu.s⟩)
  · subst e1
    refine tx_tableIn (pc := 1) 67 O dX0_count_1 (by omega) (by omega) (by omega) rfl rfl ?_
    refine tx_aload_n (pc := 67) 0 O dX0_count_67 rfl rfl ?_
    refine fX0_108 (pc := 68) O dX0_count_68 ?_
    exact tx_iret O F dX0_count_71 (tx_QC.mk ⟨hu.1.2.2.2.2.2.1, hu.s⟩)
  · subst e1
    refine tx_tableIn (pc := 1) 52 O dX0_count_1 (by omega) (by omega) (by omega) rfl rfl ?_
    refine tx_aload_n (pc := 52) 0 O dX0_count_52 rfl rfl ?_
    refine tx_iload_n (pc := 53) 1 O dX0_count_53 rfl rfl ?_
    refine tx_cV1 (pc := 54) O dX0_count_54 q800 vX0_sumOf (sh_1 w) rfl (by decide) (Nat.zero_le _) (sX0_sumOf w _ _ _ u hR hu (by omega)) (k_C (fun z54 R54 M54 h54 => ?_))
    exact tx_iret O F dX0_count_57 (tx_QC.mk ⟨by rw [h54.1]; exact cntP_lat (by omega), h54.2.w⟩)
  · subst e1
    refine tx_tableIn (pc := 1) 72 O dX0_count_1 (by omega) (by omega) (by omega) rfl rfl ?_
    refine tx_aload_n (pc := 72) 0 O dX0_count_72 rfl rfl ?_
    refine fX0_138 (pc := 73) O dX0_count_73 ?_
    exact tx_iret O F dX0_count_76 (tx_QC.mk ⟨hu.1.2.2.2.2.2.2.2, hu.s⟩)
  · subst e1
    refine tx_tableIn (pc := 1) 52 O dX0_count_1 (by omega) (by omega) (by omega) rfl rfl ?_
    refine tx_aload_n (pc := 52) 0 O dX0_count_52 rfl rfl ?_
    refine tx_iload_n (pc := 53) 1 O dX0_count_53 rfl rfl ?_
    refine tx_cV1 (pc := 54) O dX0_count_54 q800 vX0_sumOf (sh_1 w) rfl (by decide) (Nat.zero_le _) (sX0_sumOf w _ _ _ u hR hu (by omega)) (k_C (fun z54 R54 M54 h54 => ?_))
    exact tx_iret O F dX0_count_57 (tx_QC.mk ⟨by rw [h54.1]; exact cntP_lat (by omega), h54.2.w⟩)
  · subst e1
    refine tx_tableIn (pc := 1) 77 O dX0_count_1 (by omega) (by omega) (by omega) rfl rfl ?_
    refine tx_aload_n (pc := 77) 0 O dX0_count_77 rfl rfl ?_
    refine fX0_315 (pc := 78) O dX0_count_78 ?_
    exact tx_iret O F dX0_count_81 (tx_QC.mk ⟨rfl, hu.s⟩)
  · refine tx_tableOut (pc := 1) 82 O dX0_count_1 (by omega) e1 rfl ?_
    refine tx_bipush (pc := 82) O dX0_count_82 (by decide) ?_
    exact tx_iret O F dX0_count_84 (tx_QC.mk ⟨by unfold cntP; (repeat rw [if_neg (by omega)]), hu.s⟩)
theorem sX0_tuneDigest (w : WT) (h t : Int) (R M : TM) (u : PU) (hR : RL R) (hu : cP R M u) (ht : 0 ≤ t ∧ t < (uT u).length) : tx_S w yX0_tuneDigest cX0_tuneDigest 6 (some .long) 13 [rV (wa w) 1, lV h, iV t] R M (QCL (fun z R' M' => z = dgT u h t ∧ cS u R M R' M')) := by
  have hok := hu.1.1
  have hD1 := (uT_ok hok).1
  have hs : cS u R M R M := hu.s
  refine tx_S.ofk (lv := [(0, _), (1, _), (3, _)]) [1, 2, 1] (by decide) (by simp only [List.map_cons, List.map_nil, cat_i, cat_l, cat_r]) (by decide) rfl (fun E O F => ?_)
  refine tx_lload_n (pc := 0) 1 O dX0_tuneDigest_0 rfl rfl ?_
  refine tx_lstore (pc := 1) (lv' := [(4, _), (0, _), (1, _), (3, _)]) O dX0_tuneDigest_1 (by decide) rfl ?_
  refine tx_ldc2 (pc := 3) (z := 31) O dX0_tuneDigest_3 q809 rfl ?_
  refine tx_lload (pc := 6) 0 O dX0_tuneDigest_6 rfl ?_
  refine tx_lmul (pc := 8) O dX0_tuneDigest_8 ?_
  refine tx_aload_n (pc := 9) 1 O dX0_tuneDigest_9 rfl rfl ?_
  refine fX0_33 (pc := 10) O hR dX0_tuneDigest_10 ?_
  refine tx_iload_n (pc := 13) 3 O dX0_tuneDigest_13 rfl rfl ?_
  refine tx_aald (pc := 14) _ _ O dX0_tuneDigest_14 (sh_205 w) (by decide) (by omega) ?_
  rw [hR.2.2.2.2.1]
  refine fX0_37 (pc := 15) O (by omega) dX0_tuneDigest_15 ?_
  rw [(hu.tu ht).1]
  refine tx_i2lw (pc := 18) O dX0_tuneDigest_18 ?_
  refine tx_ladd (pc := 19) O dX0_tuneDigest_19 ?_
  refine tx_lstore (pc := 20) (lv' := [(4, _), (0, _), (1, _), (3, _)]) O dX0_tuneDigest_20 (by decide) rfl ?_
  refine tx_ldc2 (pc := 22) (z := 31) O dX0_tuneDigest_22 q809 rfl ?_
  refine tx_lload (pc := 25) 0 O dX0_tuneDigest_25 rfl ?_
  refine tx_lmul (pc := 27) O dX0_tuneDigest_27 ?_
  refine tx_aload_n (pc := 28) 1 O dX0_tuneDigest_28 rfl rfl ?_
  refine tx_iconst (pc := 29) O dX0_tuneDigest_29 ?_
  refine tx_iload_n (pc := 30) 3 O dX0_tuneDigest_30 rfl rfl ?_
  refine tx_iconst (pc := 31) O dX0_tuneDigest_31 ?_
  refine tx_cV3 (pc := 32) O dX0_tuneDigest_32 q233 vX0_notesOf (sh_1 w) rfl (by decide) (Nat.le_of_ble_eq_true rfl) (sX0_notesOf w _ _ _ _ _ u hR hu.t (by omega) (by omega) (by omega)) (k_C (fun z32 R32 M32 h32 => ?_))
  obtain ⟨g32, k32⟩ := h32
  have hR := hR.kp k32.2.2
  have hs := hs.tr k32
  have hu := k32.1
  refine tx_i2lw (pc := 35) O dX0_tuneDigest_35 ?_
  refine tx_ladd (pc := 36) O dX0_tuneDigest_36 ?_
  refine tx_lstore (pc := 37) (lv' := [(4, _), (0, _), (1, _), (3, _)]) O dX0_tuneDigest_37 (by decide) rfl ?_
  refine tx_ldc2 (pc := 39) (z := 31) O dX0_tuneDigest_39 q809 rfl ?_
  refine tx_lload (pc := 42) 0 O dX0_tuneDigest_42 rfl ?_
  refine tx_lmul (pc := 44) O dX0_tuneDigest_44 ?_
  refine tx_aload_n (pc := 45) 1 O dX0_tuneDigest_45 rfl rfl ?_
  refine tx_bipush (pc := 46) O dX0_tuneDigest_46 (by decide) ?_
  refine tx_iload_n (pc := 48) 3 O dX0_tuneDigest_48 rfl rfl ?_
  refine tx_iconst (pc := 49) O dX0_tuneDigest_49 ?_
  refine tx_cV3 (pc := 50) O dX0_tuneDigest_50 q233 vX0_notesOf (sh_1 w) rfl (by decide) (Nat.le_of_ble_eq_true rfl) (sX0_notesOf w _ _ _ _ _ u hR hu.t (by omega) (by omega) (by omega)) (k_C (fun z50 R50 M50 h50 => ?_))
  obtain ⟨g50, k50⟩ := h50
  have hR := hR.kp k50.2.2
  have hs := hs.tr k50
  have hu := k50.1
  refine tx_i2lw (pc := 53) O dX0_tuneDigest_53 ?_
  refine tx_ladd (pc := 54) O dX0_tuneDigest_54 ?_
  refine tx_lstore (pc := 55) (lv' := [(4, _), (0, _), (1, _), (3, _)]) O dX0_tuneDigest_55 (by decide) rfl ?_
  refine tx_ldc2 (pc := 57) (z := 31) O dX0_tuneDigest_57 q809 rfl ?_
  refine tx_lload (pc := 60) 0 O dX0_tuneDigest_60 rfl ?_
  refine tx_lmul (pc := 62) O dX0_tuneDigest_62 ?_
  refine tx_aload_n (pc := 63) 1 O dX0_tuneDigest_63 rfl rfl ?_
  refine tx_iconst (pc := 64) O dX0_tuneDigest_64 ?_
  refine tx_iload_n (pc := 65) 3 O dX0_tuneDigest_65 rfl rfl ?_
  refine tx_iconst (pc := 66) O dX0_tuneDigest_66 ?_
  refine tx_cV3 (pc := 67) O dX0_tuneDigest_67 q233 vX0_notesOf (sh_1 w) rfl (by decide) (Nat.le_of_ble_eq_true rfl) (sX0_notesOf w _ _ _ _ _ u hR hu.t (by omega) (by omega) (by omega)) (k_C (fun z67 R67 M67 h67 => ?_))
  obtain ⟨g67, k67⟩ := h67
  have hR := hR.kp k67.2.2
  have hs := hs.tr k67
  have hu := k67.1
  refine tx_i2lw (pc := 70) O dX0_tuneDigest_70 ?_
  refine tx_ladd (pc := 71) O dX0_tuneDigest_71 ?_
  refine tx_lstore (pc := 72) (lv' := [(4, _), (0, _), (1, _), (3, _)]) O dX0_tuneDigest_72 (by decide) rfl ?_
  refine tx_ldc2 (pc := 74) (z := 31) O dX0_tuneDigest_74 q809 rfl ?_
  refine tx_lload (pc := 77) 0 O dX0_tuneDigest_77 rfl ?_
  refine tx_lmul (pc := 79) O dX0_tuneDigest_79 ?_
  refine tx_aload_n (pc := 80) 1 O dX0_tuneDigest_80 rfl rfl ?_
  refine tx_iconst (pc := 81) O dX0_tuneDigest_81 ?_
  refine tx_iload_n (pc := 82) 3 O dX0_tuneDigest_82 rfl rfl ?_
  refine tx_cV2 (pc := 83) O dX0_tuneDigest_83 q304 vX0_hasOf (sh_1 w) rfl (by decide) (Nat.le_of_ble_eq_true rfl) (sX0_hasOf w _ _ _ _ u hR hu.t (by omega) (by omega)) (k_C (fun z83 R83 M83 h83 => ?_))
  obtain ⟨g83, k83⟩ := h83
  have hR := hR.kp k83.2.2
  have hs := hs.tr k83
  have hu := k83.1
  refine tx_i2lw (pc := 86) O dX0_tuneDigest_86 ?_
  refine tx_ladd (pc := 87) O dX0_tuneDigest_87 ?_
  refine tx_lstore (pc := 88) (lv' := [(4, _), (0, _), (1, _), (3, _)]) O dX0_tuneDigest_88 (by decide) rfl ?_
  refine tx_ldc2 (pc := 90) (z := 31) O dX0_tuneDigest_90 q809 rfl ?_
  refine tx_lload (pc := 93) 0 O dX0_tuneDigest_93 rfl ?_
  refine tx_lmul (pc := 95) O dX0_tuneDigest_95 ?_
  refine tx_aload_n (pc := 96) 1 O dX0_tuneDigest_96 rfl rfl ?_
  refine tx_iload_n (pc := 97) 3 O dX0_tuneDigest_97 rfl rfl ?_
  refine tx_bipush (pc := 98) O dX0_tuneDigest_98 (by decide) ?_
  refine tx_iconst (pc := 100) O dX0_tuneDigest_100 ?_
  refine tx_cV3 (pc := 101) O dX0_tuneDigest_101 q336 vX0_lendOf (sh_1 w) rfl (by decide) (Nat.le_of_ble_eq_true rfl) (sX0_lendOf w _ _ _ _ _ u hR hu (by omega) (by omega) (by omega)) (k_I (fun z101 M101 h101 => ?_))
  obtain ⟨g101, k101⟩ := h101
  have hs := hs.u k101
  have hu := hu.keep k101
  refine tx_i2lw (pc := 104) O dX0_tuneDigest_104 ?_
  refine tx_ladd (pc := 105) O dX0_tuneDigest_105 ?_
  refine tx_lstore (pc := 106) (lv' := [(4, _), (0, _), (1, _), (3, _)]) O dX0_tuneDigest_106 (by decide) rfl ?_
  refine tx_ldc2 (pc := 108) (z := 31) O dX0_tuneDigest_108 q809 rfl ?_
  refine tx_lload (pc := 111) 0 O dX0_tuneDigest_111 rfl ?_
  refine tx_lmul (pc := 113) O dX0_tuneDigest_113 ?_
  refine tx_aload_n (pc := 114) 1 O dX0_tuneDigest_114 rfl rfl ?_
  refine tx_iload_n (pc := 115) 3 O dX0_tuneDigest_115 rfl rfl ?_
  refine tx_bipush (pc := 116) O dX0_tuneDigest_116 (by decide) ?_
  refine tx_iconst (pc := 118) O dX0_tuneDigest_118 ?_
  refine tx_cV3 (pc := 119) O dX0_tuneDigest_119 q336 vX0_lendOf (sh_1 w) rfl (by decide) (Nat.le_of_ble_eq_true rfl) (sX0_lendOf w _ _ _ _ _ u hR hu (by omega) (by omega) (by omega)) (k_I (fun z119 M119 h119 => ?_))
  obtain ⟨g119, k119⟩ := h119
  have hs := hs.u k119
  have hu := hu.keep k119
  refine tx_i2lw (pc := 122) O dX0_tuneDigest_122 ?_
  refine tx_ladd (pc := 123) O dX0_tuneDigest_123 ?_
  refine tx_lstore (pc := 124) (lv' := [(4, _), (0, _), (1, _), (3, _)]) O dX0_tuneDigest_124 (by decide) rfl ?_
  refine tx_ldc2 (pc := 126) (z := 31) O dX0_tuneDigest_126 q809 rfl ?_
  refine tx_lload (pc := 129) 0 O dX0_tuneDigest_129 rfl ?_
  refine tx_lmul (pc := 131) O dX0_tuneDigest_131 ?_
  refine tx_aload_n (pc := 132) 1 O dX0_tuneDigest_132 rfl rfl ?_
  refine tx_iload_n (pc := 133) 3 O dX0_tuneDigest_133 rfl rfl ?_
  refine tx_iconst (pc := 134) O dX0_tuneDigest_134 ?_
  refine tx_iconst (pc := 135) O dX0_tuneDigest_135 ?_
  refine tx_cV3 (pc := 136) O dX0_tuneDigest_136 q360 vX0_longestOf (sh_1 w) rfl (by decide) (Nat.le_of_ble_eq_true rfl) (sX0_longestOf w _ _ _ _ _ u hR hu (by omega) (by omega) (by omega)) (k_I (fun z136 M136 h136 => ?_))
  obtain ⟨g136, k136⟩ := h136
  have hs := hs.u k136
  have hu := hu.keep k136
  refine tx_i2lw (pc := 139) O dX0_tuneDigest_139 ?_
  refine tx_ladd (pc := 140) O dX0_tuneDigest_140 ?_
  refine tx_lstore (pc := 141) (lv' := [(4, _), (0, _), (1, _), (3, _)]) O dX0_tuneDigest_141 (by decide) rfl ?_
  refine tx_ldc2 (pc := 143) (z := 31) O dX0_tuneDigest_143 q809 rfl ?_
  refine tx_lload (pc := 146) 0 O dX0_tuneDigest_146 rfl ?_
  refine tx_lmul (pc := 148) O dX0_tuneDigest_148 ?_
  refine tx_aload_n (pc := 149) 1 O dX0_tuneDigest_149 rfl rfl ?_
  refine tx_iload_n (pc := 150) 3 O dX0_tuneDigest_150 rfl rfl ?_
  refine tx_iconst (pc := 151) O dX0_tuneDigest_151 ?_
  refine tx_iconst (pc := 152) O dX0_tuneDigest_152 ?_
  refine tx_cV3 (pc := 153) O dX0_tuneDigest_153 q360 vX0_longestOf (sh_1 w) rfl (by decide) (Nat.le_of_ble_eq_true rfl) (sX0_longestOf w _ _ _ _ _ u hR hu (by omega) (by omega) (by omega)) (k_I (fun z153 M153 h153 => ?_))
  obtain ⟨g153, k153⟩ := h153
  have hs := hs.u k153
  have hu := hu.keep k153
  refine tx_i2lw (pc := 156) O dX0_tuneDigest_156 ?_
  refine tx_ladd (pc := 157) O dX0_tuneDigest_157 ?_
  refine tx_lstore (pc := 158) (lv' := [(4, _), (0, _), (1, _), (3, _)]) O dX0_tuneDigest_158 (by decide) rfl ?_
  refine tx_ldc2 (pc := 160) (z := 31) O dX0_tuneDigest_160 q809 rfl ?_
  refine tx_lload (pc := 163) 0 O dX0_tuneDigest_163 rfl ?_
  refine tx_lmul (pc := 165) O dX0_tuneDigest_165 ?_
  refine tx_aload_n (pc := 166) 1 O dX0_tuneDigest_166 rfl rfl ?_
  refine tx_iconst (pc := 167) O dX0_tuneDigest_167 ?_
  refine tx_iload_n (pc := 168) 3 O dX0_tuneDigest_168 rfl rfl ?_
  refine tx_iconst (pc := 169) O dX0_tuneDigest_169 ?_
  refine tx_cV3 (pc := 170) O dX0_tuneDigest_170 q368 vX0_whoOf (sh_1 w) rfl (by decide) (Nat.le_of_ble_eq_true rfl) (sX0_whoOf w _ _ _ _ _ u hR hu (by omega) (by omega) (by omega)) (k_I (fun z170 M170 h170 => ?_))
  obtain ⟨g170, k170⟩ := h170
  have hs := hs.u k170
  have hu := hu.keep k170
  refine tx_i2lw (pc := 173) O dX0_tuneDigest_173 ?_
  refine tx_ladd (pc := 174) O dX0_tuneDigest_174 ?_
  refine tx_lstore (pc := 175) (lv' := [(4, _), (0, _), (1, _), (3, _)]) O dX0_tuneDigest_175 (by decide) rfl ?_
  refine tx_ldc2 (pc := 177) (z := 31) O dX0_tuneDigest_177 q809 rfl ?_
  refine tx_lload (pc := 180) 0 O dX0_tuneDigest_180 rfl ?_
  refine tx_lmul (pc := 182) O dX0_tuneDigest_182 ?_
  refine tx_aload_n (pc := 183) 1 O dX0_tuneDigest_183 rfl rfl ?_
  refine tx_iconst (pc := 184) O dX0_tuneDigest_184 ?_
  refine tx_iload_n (pc := 185) 3 O dX0_tuneDigest_185 rfl rfl ?_
  refine tx_iconst (pc := 186) O dX0_tuneDigest_186 ?_
  refine tx_cV3 (pc := 187) O dX0_tuneDigest_187 q368 vX0_whoOf (sh_1 w) rfl (by decide) (Nat.le_of_ble_eq_true rfl) (sX0_whoOf w _ _ _ _ _ u hR hu (by omega) (by omega) (by omega)) (k_I (fun z187 M187 h187 => ?_))
  obtain ⟨g187, k187⟩ := h187
  have hs := hs.u k187
  have hu := hu.keep k187
  refine tx_i2lw (pc := 190) O dX0_tuneDigest_190 ?_
  refine tx_ladd (pc := 191) O dX0_tuneDigest_191 ?_
  refine tx_lstore (pc := 192) (lv' := [(4, _), (0, _), (1, _), (3, _)]) O dX0_tuneDigest_192 (by decide) rfl ?_
  refine tx_ldc2 (pc := 194) (z := 31) O dX0_tuneDigest_194 q809 rfl ?_
  refine tx_lload (pc := 197) 0 O dX0_tuneDigest_197 rfl ?_
  refine tx_lmul (pc := 199) O dX0_tuneDigest_199 ?_
  refine tx_aload_n (pc := 200) 1 O dX0_tuneDigest_200 rfl rfl ?_
  refine tx_iconst (pc := 201) O dX0_tuneDigest_201 ?_
  refine tx_iload_n (pc := 202) 3 O dX0_tuneDigest_202 rfl rfl ?_
  refine tx_cV2 (pc := 203) O dX0_tuneDigest_203 q388 vX0_farOf (sh_1 w) rfl (by decide) (Nat.le_of_ble_eq_true rfl) (sX0_farOf w _ _ _ _ u hR hu (by omega) (by omega)) (k_I (fun z203 M203 h203 => ?_))
  obtain ⟨g203, k203⟩ := h203
  have hs := hs.u k203
  have hu := hu.keep k203
  refine tx_i2lw (pc := 206) O dX0_tuneDigest_206 ?_
  refine tx_ladd (pc := 207) O dX0_tuneDigest_207 ?_
  refine tx_lstore (pc := 208) (lv' := [(4, _), (0, _), (1, _), (3, _)]) O dX0_tuneDigest_208 (by decide) rfl ?_
  refine tx_ldc2 (pc := 210) (z := 31) O dX0_tuneDigest_210 q809 rfl ?_
  refine tx_lload (pc := 213) 0 O dX0_tuneDigest_213 rfl ?_
  refine tx_lmul (pc := 215) O dX0_tuneDigest_215 ?_
  refine tx_aload_n (pc := 216) 1 O dX0_tuneDigest_216 rfl rfl ?_
  refine tx_iload_n (pc := 217) 3 O dX0_tuneDigest_217 rfl rfl ?_
  refine tx_cV1 (pc := 218) O dX0_tuneDigest_218 q396 vX0_nearestOf (sh_1 w) rfl (by decide) (Nat.le_of_ble_eq_true rfl) (sX0_nearestOf w _ _ _ u hR hu (by omega)) (k_I (fun z218 M218 h218 => ?_))
  obtain ⟨g218, k218⟩ := h218
  have hs := hs.u k218
  have hu := hu.keep k218
  refine tx_i2lw (pc := 221) O dX0_tuneDigest_221 ?_
  refine tx_ladd (pc := 222) O dX0_tuneDigest_222 ?_
  refine tx_lstore (pc := 223) (lv' := [(4, _), (0, _), (1, _), (3, _)]) O dX0_tuneDigest_223 (by decide) rfl ?_
  refine tx_ldc2 (pc := 225) (z := 31) O dX0_tuneDigest_225 q809 rfl ?_
  refine tx_lload (pc := 228) 0 O dX0_tuneDigest_228 rfl ?_
  refine tx_lmul (pc := 230) O dX0_tuneDigest_230 ?_
  refine tx_aload_n (pc := 231) 1 O dX0_tuneDigest_231 rfl rfl ?_
  refine tx_iload_n (pc := 232) 3 O dX0_tuneDigest_232 rfl rfl ?_
  refine tx_cV1 (pc := 233) O dX0_tuneDigest_233 q404 vX0_mothersOf (sh_1 w) rfl (by decide) (Nat.le_of_ble_eq_true rfl) (sX0_mothersOf w _ _ _ u hR hu (by omega)) (k_I (fun z233 M233 h233 => ?_))
  obtain ⟨g233, k233⟩ := h233
  have hs := hs.u k233
  have hu := hu.keep k233
  refine tx_i2lw (pc := 236) O dX0_tuneDigest_236 ?_
  refine tx_ladd (pc := 237) O dX0_tuneDigest_237 ?_
  refine tx_lstore (pc := 238) (lv' := [(4, _), (0, _), (1, _), (3, _)]) O dX0_tuneDigest_238 (by decide) rfl ?_
  refine tx_ldc2 (pc := 240) (z := 31) O dX0_tuneDigest_240 q809 rfl ?_
  refine tx_lload (pc := 243) 0 O dX0_tuneDigest_243 rfl ?_
  refine tx_lmul (pc := 245) O dX0_tuneDigest_245 ?_
  refine tx_aload_n (pc := 246) 1 O dX0_tuneDigest_246 rfl rfl ?_
  refine tx_iload_n (pc := 247) 3 O dX0_tuneDigest_247 rfl rfl ?_
  refine tx_iconst (pc := 248) O dX0_tuneDigest_248 ?_
  refine tx_cV2 (pc := 249) O dX0_tuneDigest_249 q412 vX0_tellsOf (sh_1 w) rfl (by decide) (Nat.le_of_ble_eq_true rfl) (sX0_tellsOf w _ _ _ _ u hR hu (by omega) (by omega)) (k_P (fun z249 h249 => ?_))
  refine tx_i2lw (pc := 252) O dX0_tuneDigest_252 ?_
  refine tx_ladd (pc := 253) O dX0_tuneDigest_253 ?_
  refine tx_lstore (pc := 254) (lv' := [(4, _), (0, _), (1, _), (3, _)]) O dX0_tuneDigest_254 (by decide) rfl ?_
  refine tx_ldc2 (pc := 256) (z := 31) O dX0_tuneDigest_256 q809 rfl ?_
  refine tx_lload (pc := 259) 0 O dX0_tuneDigest_259 rfl ?_
  refine tx_lmul (pc := 261) O dX0_tuneDigest_261 ?_
  refine tx_aload_n (pc := 262) 1 O dX0_tuneDigest_262 rfl rfl ?_
  refine tx_iload_n (pc := 263) 3 O dX0_tuneDigest_263 rfl rfl ?_
  refine tx_iconst (pc := 264) O dX0_tuneDigest_264 ?_
  refine tx_cV2 (pc := 265) O dX0_tuneDigest_265 q412 vX0_tellsOf (sh_1 w) rfl (by decide) (Nat.le_of_ble_eq_true rfl) (sX0_tellsOf w _ _ _ _ u hR hu (by omega) (by omega)) (k_P (fun z265 h265 => ?_))
  refine tx_i2lw (pc := 268) O dX0_tuneDigest_268 ?_
  refine tx_ladd (pc := 269) O dX0_tuneDigest_269 ?_
  refine tx_lstore (pc := 270) (lv' := [(4, _), (0, _), (1, _), (3, _)]) O dX0_tuneDigest_270 (by decide) rfl ?_
  refine tx_ldc2 (pc := 272) (z := 31) O dX0_tuneDigest_272 q809 rfl ?_
  refine tx_lload (pc := 275) 0 O dX0_tuneDigest_275 rfl ?_
  refine tx_lmul (pc := 277) O dX0_tuneDigest_277 ?_
  refine tx_aload_n (pc := 278) 1 O dX0_tuneDigest_278 rfl rfl ?_
  refine tx_bipush (pc := 279) O dX0_tuneDigest_279 (by decide) ?_
  refine tx_bipush (pc := 281) O dX0_tuneDigest_281 (by decide) ?_
  refine tx_iload_n (pc := 283) 3 O dX0_tuneDigest_283 rfl rfl ?_
  refine tx_cV3 (pc := 284) O dX0_tuneDigest_284 q461 vX0_fairOf (sh_1 w) rfl (by decide) (Nat.le_of_ble_eq_true rfl) (sX0_fairOf w _ _ _ _ _ u hR hu.t (by omega) (by omega)) (k_C (fun z284 R284 M284 h284 => ?_))
  obtain ⟨g284, k284⟩ := h284
  have hR := hR.kp k284.2.2
  have hs := hs.tr k284
  have hu := k284.1
  refine tx_i2lw (pc := 287) O dX0_tuneDigest_287 ?_
  refine tx_ladd (pc := 288) O dX0_tuneDigest_288 ?_
  refine tx_lstore (pc := 289) (lv' := [(4, _), (0, _), (1, _), (3, _)]) O dX0_tuneDigest_289 (by decide) rfl ?_
  refine tx_ldc2 (pc := 291) (z := 31) O dX0_tuneDigest_291 q809 rfl ?_
  refine tx_lload (pc := 294) 0 O dX0_tuneDigest_294 rfl ?_
  refine tx_lmul (pc := 296) O dX0_tuneDigest_296 ?_
  refine tx_aload_n (pc := 297) 1 O dX0_tuneDigest_297 rfl rfl ?_
  refine tx_iconst (pc := 298) O dX0_tuneDigest_298 ?_
  refine tx_iload_n (pc := 299) 3 O dX0_tuneDigest_299 rfl rfl ?_
  refine tx_iconst (pc := 300) O dX0_tuneDigest_300 ?_
  refine tx_iconst (pc := 301) O dX0_tuneDigest_301 ?_
  refine tx_bipush (pc := 302) O dX0_tuneDigest_302 (by decide) ?_
  refine tx_iconst (pc := 304) O dX0_tuneDigest_304 ?_
  refine tx_cV6 (pc := 305) O dX0_tuneDigest_305 q815 vX0_hums (sh_1 w) rfl (by decide) (Nat.le_of_ble_eq_true rfl) (sX0_hums w _ _ _ _ _ _ _ _ u hR hu.t (by omega) (by omega) (by omega) (by omega) (by omega) (by omega)) (k_CL (fun z305 R305 M305 h305 => ?_))
  obtain ⟨g305, k305⟩ := h305
  have hR := hR.kp k305.2.2.1
  have hs := hs.trw k305
  have hu := hs.1
  refine tx_ladd (pc := 308) O dX0_tuneDigest_308 ?_
  refine tx_lstore (pc := 309) (lv' := [(4, _), (0, _), (1, _), (3, _)]) O dX0_tuneDigest_309 (by decide) rfl ?_
  refine tx_ldc2 (pc := 311) (z := 31) O dX0_tuneDigest_311 q809 rfl ?_
  refine tx_lload (pc := 314) 0 O dX0_tuneDigest_314 rfl ?_
  refine tx_lmul (pc := 316) O dX0_tuneDigest_316 ?_
  refine tx_aload_n (pc := 317) 1 O dX0_tuneDigest_317 rfl rfl ?_
  refine tx_iconst (pc := 318) O dX0_tuneDigest_318 ?_
  refine tx_iload_n (pc := 319) 3 O dX0_tuneDigest_319 rfl rfl ?_
  refine tx_iconst (pc := 320) O dX0_tuneDigest_320 ?_
  refine tx_iconst (pc := 321) O dX0_tuneDigest_321 ?_
  refine tx_bipush (pc := 322) O dX0_tuneDigest_322 (by decide) ?_
  refine tx_iconst (pc := 324) O dX0_tuneDigest_324 ?_
  refine tx_cV6 (pc := 325) O dX0_tuneDigest_325 q815 vX0_hums (sh_1 w) rfl (by decide) (Nat.le_of_ble_eq_true rfl) (sX0_hums w _ _ _ _ _ _ _ _ u hR hu.t (by omega) (by omega) (by omega) (by omega) (by omega) (by omega)) (k_CL (fun z325 R325 M325 h325 => ?_))
  obtain ⟨g325, k325⟩ := h325
  have hR := hR.kp k325.2.2.1
  have hs := hs.trw k325
  have hu := hs.1
  refine tx_ladd (pc := 328) O dX0_tuneDigest_328 ?_
  exact tx_lret O F dX0_tuneDigest_329 (tx_QCL.mk ⟨by
      rw [g32, g50, g67, g83, g101, g119, g136, g153, g170, g187, g203, g218, g233, h249, h265, g284, humsV_of g305, humsV_of g325]
      rfl, hs⟩)
theorem sX0_digest (w : WT) (R M : TM) (u : PU) (hR : RL R) (hu : cT R M u) : tx_S w yX0_digest cX0_digest 5 (some .long) 14 [rV (wa w) 1] R M (QCL (fun z R' M' => z = digP u ∧ cW u R M R' M')) := by
  have hok := hu.1.1
  have hD1 := (uT_ok hok).1
  have hB6 := uB_ok hok
  have hnl := hok.2.2.2.2.1
  refine tx_S.ofk (lv := [(0, _)]) [1] (by decide) (by simp only [List.map_cons, List.map_nil, cat_i, cat_l, cat_r]) (by decide) rfl (fun E O F => ?_)
  have KD : ∀ q : Int × TM × TM, (0 ≤ q.1 ∧ q.1 ≤ unl u ∧ RL q.2.1 ∧ cS u R M q.2.1 q.2.2) → tx_X w E 128 [(3, iV q.1), (1, lV (digD u q.1)), (0, rV (wa w) 1)] [] q.2.1 q.2.2 := by
    refine lp_m _ _ (fun q => (unl u - q.1).toNat) ?_
    rintro ⟨k, R', M'⟩ ⟨h1, h2, hR, hs⟩ ih
    dsimp only at h1 h2 hR hs ⊢
    have KD1 : k < unl u → ∀ q : Int × TM × TM, (0 ≤ q.1 ∧ q.1 ≤ 3 ∧ RL q.2.1 ∧ cS u R M q.2.1 q.2.2) → tx_X w E 139 [(4, iV q.1), (3, iV k), (1, lV (digD1 u k (digD u k) q.1)), (0, rV (wa w) 1)] [] q.2.1 q.2.2 := by
      intro hkl
      refine lp_m _ _ (fun q => (3 - q.1).toNat) ?_
      rintro ⟨j, R2, M2⟩ ⟨g1, g2, hR, hs⟩ ih2
      dsimp only at g1 g2 hR hs ⊢
      have hst := itI_1 (fun j h => dg h (cameP (runP u (uear u) 40) k j)) (digD u k) g1
      have hst2 := itI_1 (fun k h => digD1 u k h 3) (digC u (uB u)) h1
      refine tx_iload (pc := 139) 0 O dX0_digest_139 rfl ?_
      refine tx_iconst (pc := 141) O dX0_digest_141 ?_
      refine tx_icmp_ge (pc := 142) 166 O dX0_digest_142 rfl (by omega) (fun c142 => ?_) (fun c142 => ?_)
      · refine tx_iinc (pc := 166) (lv' := [(3, _), (4, _), (1, _), (0, _)]) 1 O dX0_digest_166 rfl (by decide) rfl ?_
        refine tx_goto (pc := 169) 128 O dX0_digest_169 rfl ?_
        refine tx_lv (lv' := [(3, _), (1, _), (0, _)]) [0, 2, 3] rfl ?_
        have := ih (k + 1, R2, M2) ⟨by dsimp only; omega, by dsimp only; omega, hR, hs⟩ (by dsimp only; omega)
        dsimp only at this
        unfold digD at this
        rw [hst2] at this
        rw [show j = 3 by omega]
        exact this
      · refine tx_ldc2 (pc := 145) (z := 31) O dX0_digest_145 q809 rfl ?_
        refine tx_lload_n (pc := 148) 2 O dX0_digest_148 rfl rfl ?_
        refine tx_lmul (pc := 149) O dX0_digest_149 ?_
        refine tx_aload_n (pc := 150) 3 O dX0_digest_150 rfl rfl ?_
        refine tx_iload_n (pc := 151) 1 O dX0_digest_151 rfl rfl ?_
        refine tx_iload (pc := 152) 0 O dX0_digest_152 rfl ?_
        refine tx_cV2 (pc := 154) O dX0_digest_154 q312 vX0_cameOf (sh_1 w) rfl (by decide) (Nat.le_of_ble_eq_true rfl) (sX0_cameOf w _ _ _ _ u hR hs.1.t (by omega) (by omega)) (k_C (fun z154 R154 M154 h154 => ?_))
        obtain ⟨k1, k2⟩ := h154
        subst k1
        refine tx_i2lw (pc := 157) O dX0_digest_157 ?_
        refine tx_ladd (pc := 158) O dX0_digest_158 ?_
        refine tx_lstore_n (pc := 159) (lv' := [(1, _), (4, _), (3, _), (0, _)]) O dX0_digest_159 rfl (by decide) rfl ?_
        refine tx_iinc (pc := 160) (lv' := [(4, _), (1, _), (3, _), (0, _)]) 1 O dX0_digest_160 rfl (by decide) rfl ?_
        refine tx_goto (pc := 163) 139 O dX0_digest_163 rfl ?_
        refine tx_lv (lv' := [(4, _), (3, _), (1, _), (0, _)]) [0, 2, 1, 3] rfl ?_
        have := ih2 (j + 1, R154, M154) ⟨by dsimp only; omega, by dsimp only; omega, hR.kp k2.2.2, hs.tr k2⟩ (by dsimp only; omega)
        dsimp only at this
        unfold digD1 at this
        rw [hst] at this
        exact this
    refine tx_iload_n (pc := 128) 0 O dX0_digest_128 rfl rfl ?_
    refine tx_aload_n (pc := 129) 2 O dX0_digest_129 rfl rfl ?_
    refine fX0_108 (pc := 130) O dX0_digest_130 ?_
    rw [hs.1.1.2.2.2.2.2.1]
    refine tx_icmp_ge (pc := 133) 172 O dX0_digest_133 rfl (by omega) (fun c133 => ?_) (fun c133 => ?_)
    · refine tx_ldc2 (pc := 172) (z := 31) O dX0_digest_172 q809 rfl ?_
      refine tx_lload_n (pc := 175) 1 O dX0_digest_175 rfl rfl ?_
      refine tx_lmul (pc := 176) O dX0_digest_176 ?_
      refine tx_aload_n (pc := 177) 2 O dX0_digest_177 rfl rfl ?_
      refine tx_iconst (pc := 178) O dX0_digest_178 ?_
      refine tx_cV1 (pc := 179) O dX0_digest_179 q320 vX0_interestOf (sh_1 w) rfl (by decide) (Nat.le_of_ble_eq_true rfl) (sX0_interestOf w _ _ _ u hR hs.1.t (by omega)) (k_C (fun z179 R179 M179 h179 => ?_))
      obtain ⟨a1, a2⟩ := h179
      have hR := hR.kp a2.2.2
      have hs := hs.tr a2
      refine tx_i2lw (pc := 182) O dX0_digest_182 ?_
      refine tx_ladd (pc := 183) O dX0_digest_183 ?_
      refine tx_lstore_n (pc := 184) (lv' := [(1, _), (3, _), (0, _)]) O dX0_digest_184 rfl (by decide) rfl ?_
      refine tx_ldc2 (pc := 185) (z := 31) O dX0_digest_185 q809 rfl ?_
      refine tx_lload_n (pc := 188) 0 O dX0_digest_188 rfl rfl ?_
      refine tx_lmul (pc := 189) O dX0_digest_189 ?_
      refine tx_aload_n (pc := 190) 2 O dX0_digest_190 rfl rfl ?_
      refine tx_bipush (pc := 191) O dX0_digest_191 (by decide) ?_
      refine tx_cV1 (pc := 193) O dX0_digest_193 q320 vX0_interestOf (sh_1 w) rfl (by decide) (Nat.le_of_ble_eq_true rfl) (sX0_interestOf w _ _ _ u hR hs.1.t (by omega)) (k_C (fun z193 R193 M193 h193 => ?_))
      obtain ⟨b1, b2⟩ := h193
      have hR := hR.kp b2.2.2
      have hs := hs.tr b2
      refine tx_i2lw (pc := 196) O dX0_digest_196 ?_
      refine tx_ladd (pc := 197) O dX0_digest_197 ?_
      refine tx_lstore_n (pc := 198) (lv' := [(1, _), (3, _), (0, _)]) O dX0_digest_198 rfl (by decide) rfl ?_
      refine tx_ldc2 (pc := 199) (z := 31) O dX0_digest_199 q809 rfl ?_
      refine tx_lload_n (pc := 202) 0 O dX0_digest_202 rfl rfl ?_
      refine tx_lmul (pc := 203) O dX0_digest_203 ?_
      refine tx_aload_n (pc := 204) 2 O dX0_digest_204 rfl rfl ?_
      refine tx_bipush (pc := 205) O dX0_digest_205 (by decide) ?_
      refine tx_cV1 (pc := 207) O dX0_digest_207 q320 vX0_interestOf (sh_1 w) rfl (by decide) (Nat.le_of_ble_eq_true rfl) (sX0_interestOf w _ _ _ u hR hs.1.t (by omega)) (k_C (fun z207 R207 M207 h207 => ?_))
      obtain ⟨d1, d2⟩ := h207
      have hR := hR.kp d2.2.2
      have hs := hs.tr d2
      refine tx_i2lw (pc := 210) O dX0_digest_210 ?_
      refine tx_ladd (pc := 211) O dX0_digest_211 ?_
      refine tx_lstore_n (pc := 212) (lv' := [(1, _), (3, _), (0, _)]) O dX0_digest_212 rfl (by decide) rfl ?_
      refine tx_ldc2 (pc := 213) (z := 31) O dX0_digest_213 q809 rfl ?_
      refine tx_lload_n (pc := 216) 0 O dX0_digest_216 rfl rfl ?_
      refine tx_lmul (pc := 217) O dX0_digest_217 ?_
      refine tx_aload_n (pc := 218) 2 O dX0_digest_218 rfl rfl ?_
      refine tx_iconst (pc := 219) O dX0_digest_219 ?_
      refine tx_cV1 (pc := 220) O dX0_digest_220 q328 vX0_homeOf (sh_1 w) rfl (by decide) (Nat.le_of_ble_eq_true rfl) (sX0_homeOf w _ _ _ u hR hs.1.t (by omega)) (k_C (fun z220 R220 M220 h220 => ?_))
      obtain ⟨e1, e2⟩ := h220
      have hR := hR.kp e2.2.2
      have hs := hs.tr e2
      refine tx_i2lw (pc := 223) O dX0_digest_223 ?_
      refine tx_ladd (pc := 224) O dX0_digest_224 ?_
      refine tx_lstore_n (pc := 225) (lv' := [(1, _), (3, _), (0, _)]) O dX0_digest_225 rfl (by decide) rfl ?_
      refine tx_ldc2 (pc := 226) (z := 31) O dX0_digest_226 q809 rfl ?_
      refine tx_lload_n (pc := 229) 0 O dX0_digest_229 rfl rfl ?_
      refine tx_lmul (pc := 230) O dX0_digest_230 ?_
      refine tx_aload_n (pc := 231) 2 O dX0_digest_231 rfl rfl ?_
      refine tx_bipush (pc := 232) O dX0_digest_232 (by decide) ?_
      refine tx_cV1 (pc := 234) O dX0_digest_234 q816 vX0_loses (sh_1 w) rfl (by decide) (Nat.le_of_ble_eq_true rfl) (sX0_loses w _ _ _ u hR hs.1.t (by omega)) (k_C (fun z234 R234 M234 h234 => ?_))
      obtain ⟨f1, f2⟩ := h234
      have hR := hR.kp f2.2.2.1
      have hs := hs.trw f2
      have f3 : z234 = intP u (runP u 0 40) - intP u (runP u 9 40) := by
        rcases f1 with q | q
        · omega
        · exact q.2
      refine tx_i2lw (pc := 237) O dX0_digest_237 ?_
      refine tx_ladd (pc := 238) O dX0_digest_238 ?_
      refine tx_lstore_n (pc := 239) (lv' := [(1, _), (3, _), (0, _)]) O dX0_digest_239 rfl (by decide) rfl ?_
      refine tx_ldc2 (pc := 240) (z := 31) O dX0_digest_240 q809 rfl ?_
      refine tx_lload_n (pc := 243) 0 O dX0_digest_243 rfl rfl ?_
      refine tx_lmul (pc := 244) O dX0_digest_244 ?_
      refine tx_aload_n (pc := 245) 2 O dX0_digest_245 rfl rfl ?_
      refine tx_iconst (pc := 246) O dX0_digest_246 ?_
      refine tx_cV1 (pc := 247) O dX0_digest_247 q435 vX0_bestOf (sh_1 w) rfl (by decide) (Nat.le_of_ble_eq_true rfl) (sX0_bestOf w _ _ _ u hR hs.1.t (by omega)) (k_C (fun z247 R247 M247 h247 => ?_))
      obtain ⟨g1, g2⟩ := h247
      refine tx_i2lw (pc := 250) O dX0_digest_250 ?_
      refine tx_ladd (pc := 251) O dX0_digest_251 ?_
      exact tx_lret O F dX0_digest_252 (tx_QCL.mk ⟨by
          rw [a1, b1, d1, e1, f3, g1, show k = unl u by omega]
          rfl, (hs.trw g2).w⟩)
    · refine tx_iconst (pc := 136) O dX0_digest_136 ?_
      refine tx_istore (pc := 137) (lv' := [(4, _), (3, _), (1, _), (0, _)]) O dX0_digest_137 (by decide) rfl ?_
      refine KD1 (by omega) (0, R', M') ⟨by dsimp only; omega, by dsimp only; omega, hR, hs⟩
  have KC : ∀ (R' : TM) (b : Int) (M' : TM), (0 ≤ b ∧ b ≤ uB u ∧ RL R' ∧ cS u R M R' M') → tx_X w E 82 [(3, iV b), (1, lV (digC u b)), (0, rV (wa w) 1)] [] R' M' := by
    intro R'
    refine lp_up _ _ (uB u) ?_
    rintro b M' ⟨h1, h2, hR, hs⟩ ih
    have KC1 : b < uB u → ∀ (j : Int) (M2 : TM), (0 ≤ j ∧ j ≤ 3 ∧ M2 = M') → tx_X w E 93 [(4, iV j), (3, iV b), (1, lV (digC1 u b (digC u b) j)), (0, rV (wa w) 1)] [] R' M2 := by
      intro hbl
      refine lp_up _ _ 3 ?_
      rintro j M2 ⟨g1, g2, rfl⟩ ih2
      have hst := itI_1 (fun k h => dg h (bqv u b k)) (digC u b) g1
      have hst2 := itI_1 (fun b h => digC1 u b h 3) (digB u (uT u).length) h1
      refine tx_iload (pc := 93) 0 O dX0_digest_93 rfl ?_
      refine tx_iconst (pc := 95) O dX0_digest_95 ?_
      refine tx_icmp_ge (pc := 96) 120 O dX0_digest_96 rfl (by omega) (fun c96 => ?_) (fun c96 => ?_)
      · refine tx_iinc (pc := 120) (lv' := [(3, _), (4, _), (1, _), (0, _)]) 1 O dX0_digest_120 rfl (by decide) rfl ?_
        refine tx_goto (pc := 123) 82 O dX0_digest_123 rfl ?_
        refine tx_lv (lv' := [(3, _), (1, _), (0, _)]) [0, 2, 3] rfl ?_
        have := ih (b + 1) _ ⟨by omega, by omega, hR, hs⟩ (by omega) (by omega)
        unfold digC at this
        rw [hst2] at this
        rw [show j = 3 by omega]
        exact this
      · refine tx_ldc2 (pc := 99) (z := 31) O dX0_digest_99 q809 rfl ?_
        refine tx_lload_n (pc := 102) 2 O dX0_digest_102 rfl rfl ?_
        refine tx_lmul (pc := 103) O dX0_digest_103 ?_
        refine tx_aload_n (pc := 104) 3 O dX0_digest_104 rfl rfl ?_
        refine tx_iload_n (pc := 105) 1 O dX0_digest_105 rfl rfl ?_
        refine tx_iload (pc := 106) 0 O dX0_digest_106 rfl ?_
        refine tx_cV2 (pc := 108) O dX0_digest_108 q167 vX0_borrowerOf (sh_1 w) rfl (by decide) (Nat.le_of_ble_eq_true rfl) (sX0_borrowerOf w _ _ _ _ u hR hs.1 (by omega) (by omega)) (k_P (fun z108 h108 => ?_))
        change z108 = bqv u b j at h108
        subst h108
        refine tx_i2lw (pc := 111) O dX0_digest_111 ?_
        refine tx_ladd (pc := 112) O dX0_digest_112 ?_
        refine tx_lstore_n (pc := 113) (lv' := [(1, _), (4, _), (3, _), (0, _)]) O dX0_digest_113 rfl (by decide) rfl ?_
        refine tx_iinc (pc := 114) (lv' := [(4, _), (1, _), (3, _), (0, _)]) 1 O dX0_digest_114 rfl (by decide) rfl ?_
        refine tx_goto (pc := 117) 93 O dX0_digest_117 rfl ?_
        refine tx_lv (lv' := [(4, _), (3, _), (1, _), (0, _)]) [0, 2, 1, 3] rfl ?_
        have := ih2 (j + 1) _ ⟨by omega, by omega, rfl⟩ (by omega) (by omega)
        unfold digC1 at this
        rw [hst] at this
        exact this
    refine tx_iload_n (pc := 82) 0 O dX0_digest_82 rfl rfl ?_
    refine tx_aload_n (pc := 83) 2 O dX0_digest_83 rfl rfl ?_
    refine fX0_46 (pc := 84) O dX0_digest_84 ?_
    rw [hs.1.bor]
    refine tx_icmp_ge (pc := 87) 126 O dX0_digest_87 rfl (by omega) (fun c87 => ?_) (fun c87 => ?_)
    · refine tx_iconst (pc := 126) O dX0_digest_126 ?_
      refine tx_istore_n (pc := 127) (lv' := [(3, _), (1, _), (0, _)]) O dX0_digest_127 rfl (by decide) rfl ?_
      rw [show b = uB u by omega]
      exact KD (0, R', M') ⟨by dsimp only; omega, hnl.1, hR, hs⟩
    · refine tx_iconst (pc := 90) O dX0_digest_90 ?_
      refine tx_istore (pc := 91) (lv' := [(4, _), (3, _), (1, _), (0, _)]) O dX0_digest_91 (by decide) rfl ?_
      exact KC1 (by omega) 0 _ ⟨by omega, by omega, rfl⟩
  have KB : ∀ q : Int × TM × TM, (0 ≤ q.1 ∧ q.1 ≤ (uT u).length ∧ RL q.2.1 ∧ cS u R M q.2.1 q.2.2) → tx_X w E 59 [(3, iV q.1), (1, lV (digB u q.1)), (0, rV (wa w) 1)] [] q.2.1 q.2.2 := by
    refine lp_m _ _ (fun q => ((uT u).length - q.1).toNat) ?_
    rintro ⟨t, R', M'⟩ ⟨h1, h2, hR, hs⟩ ih
    dsimp only at h1 h2 hR hs ⊢
    have hst := itI_1 (fun t h => dgT u h t) (dg (dg (digA u 8) (pT (uf0 u) (un0 u)).1) (fB (uf1 u) (un1 u))) h1
    refine tx_iload_n (pc := 59) 0 O dX0_digest_59 rfl rfl ?_
    refine tx_aload_n (pc := 60) 2 O dX0_digest_60 rfl rfl ?_
    refine fX0_25 (pc := 61) O dX0_digest_61 ?_
    rw [hs.1.tun]
    refine tx_icmp_ge (pc := 64) 80 O dX0_digest_64 rfl (by omega) (fun c64 => ?_) (fun c64 => ?_)
    · refine tx_iconst (pc := 80) O dX0_digest_80 ?_
      refine tx_istore_n (pc := 81) (lv' := [(3, _), (1, _), (0, _)]) O dX0_digest_81 rfl (by decide) rfl ?_
      rw [show t = (uT u).length by omega]
      exact KC R' 0 M' ⟨by omega, hB6.1, hR, hs⟩
    · refine tx_aload_n (pc := 67) 2 O dX0_digest_67 rfl rfl ?_
      refine tx_lload_n (pc := 68) 1 O dX0_digest_68 rfl rfl ?_
      refine tx_iload_n (pc := 69) 0 O dX0_digest_69 rfl rfl ?_
      refine tx_cV2 (pc := 70) O dX0_digest_70 q811 vX0_tuneDigest (sh_1 w) rfl (by decide) (Nat.zero_le _) (sX0_tuneDigest w _ _ _ _ u hR hs.1 (by omega)) (k_CL (fun z70 R70 M70 h70 => ?_))
      obtain ⟨k1, k2⟩ := h70
      subst k1
      refine tx_lstore_n (pc := 73) (lv' := [(1, _), (3, _), (0, _)]) O dX0_digest_73 rfl (by decide) rfl ?_
      refine tx_iinc (pc := 74) (lv' := [(3, _), (1, _), (0, _)]) 1 O dX0_digest_74 rfl (by decide) rfl ?_
      refine tx_goto (pc := 77) 59 O dX0_digest_77 rfl ?_
      have := ih (t + 1, R70, M70) ⟨by dsimp only; omega, by dsimp only; omega, hR.kp k2.2.2, hs.tr k2⟩ (by dsimp only; omega)
      dsimp only at this
      unfold digB at this
      rw [hst] at this
      exact this
  have KA : ∀ q : Int × TM × TM, (0 ≤ q.1 ∧ q.1 ≤ 8 ∧ RL q.2.1 ∧ cW u R M q.2.1 q.2.2) → tx_X w E 6 [(3, iV q.1), (1, lV (digA u q.1)), (0, rV (wa w) 1)] [] q.2.1 q.2.2 := by
    refine lp_m _ _ (fun q => (8 - q.1).toNat) ?_
    rintro ⟨k, R', M'⟩ ⟨h1, h2, hR, hW⟩ ih
    dsimp only at h1 h2 hR hW ⊢
    have hst := itI_1 (fun k h => dg h (cntP u 0 k)) 17 h1
    refine tx_iload_n (pc := 6) 0 O dX0_digest_6 rfl rfl ?_
    refine tx_bipush (pc := 7) O dX0_digest_7 (by decide) ?_
    refine tx_icmp_ge (pc := 9) 31 O dX0_digest_9 rfl (by omega) (fun c9 => ?_) (fun c9 => ?_)
    · refine tx_ldc2 (pc := 31) (z := 31) O dX0_digest_31 q809 rfl ?_
      refine tx_lload_n (pc := 34) 1 O dX0_digest_34 rfl rfl ?_
      refine tx_lmul (pc := 35) O dX0_digest_35 ?_
      refine tx_aload_n (pc := 36) 2 O dX0_digest_36 rfl rfl ?_
      refine tx_iconst (pc := 37) O dX0_digest_37 ?_
      refine tx_cV1 (pc := 38) O dX0_digest_38 q123 vX0_faultOf (sh_1 w) rfl (by decide) (Nat.le_of_ble_eq_true rfl) (sX0_faultOf w _ _ _ u hR hW.1 (by omega)) (k_C (fun z38 R38 M38 h38 => ?_))
      obtain ⟨g1, g2⟩ := h38
      have hR := hR.kp g2.2.2
      have hs := hW.trs g2
      have g3 : z38 = (pT (uf0 u) (un0 u)).1 := by
        rcases g1 with q | q
        · exact q.2
        · omega
      refine tx_i2lw (pc := 41) O dX0_digest_41 ?_
      refine tx_ladd (pc := 42) O dX0_digest_42 ?_
      refine tx_lstore_n (pc := 43) (lv' := [(1, _), (3, _), (0, _)]) O dX0_digest_43 rfl (by decide) rfl ?_
      refine tx_ldc2 (pc := 44) (z := 31) O dX0_digest_44 q809 rfl ?_
      refine tx_lload_n (pc := 47) 0 O dX0_digest_47 rfl rfl ?_
      refine tx_lmul (pc := 48) O dX0_digest_48 ?_
      refine tx_aload_n (pc := 49) 2 O dX0_digest_49 rfl rfl ?_
      refine tx_iconst (pc := 50) O dX0_digest_50 ?_
      refine tx_cV1 (pc := 51) O dX0_digest_51 q123 vX0_faultOf (sh_1 w) rfl (by decide) (Nat.le_of_ble_eq_true rfl) (sX0_faultOf w _ _ _ u hR hs.1.t (by omega)) (k_C (fun z51 R51 M51 h51 => ?_))
      obtain ⟨j1, j2⟩ := h51
      have hR := hR.kp j2.2.2
      have hs := hs.tr j2
      have j3 : z51 = fB (uf1 u) (un1 u) := by
        rcases j1 with q | q
        · omega
        · exact q.2
      refine tx_i2lw (pc := 54) O dX0_digest_54 ?_
      refine tx_ladd (pc := 55) O dX0_digest_55 ?_
      refine tx_lstore_n (pc := 56) (lv' := [(1, _), (3, _), (0, _)]) O dX0_digest_56 rfl (by decide) rfl ?_
      refine tx_iconst (pc := 57) O dX0_digest_57 ?_
      refine tx_istore_n (pc := 58) (lv' := [(3, _), (1, _), (0, _)]) O dX0_digest_58 rfl (by decide) rfl ?_
      rw [g3, j3, show k = 8 by omega]
      exact KB (0, R51, M51) ⟨by dsimp only; omega, by dsimp only; omega, hR, hs⟩
    · refine tx_ldc2 (pc := 12) (z := 31) O dX0_digest_12 q809 rfl ?_
      refine tx_lload_n (pc := 15) 1 O dX0_digest_15 rfl rfl ?_
      refine tx_lmul (pc := 16) O dX0_digest_16 ?_
      refine tx_aload_n (pc := 17) 2 O dX0_digest_17 rfl rfl ?_
      refine tx_iload_n (pc := 18) 0 O dX0_digest_18 rfl rfl ?_
      refine tx_cV1 (pc := 19) O dX0_digest_19 q810 vX0_count (sh_1 w) rfl (by decide) (Nat.le_of_ble_eq_true rfl) (sX0_count w _ _ _ u hR hW.1 (by omega)) (k_C (fun z19 R19 M19 h19 => ?_))
      obtain ⟨k1, k2⟩ := h19
      rw [cntP_lat (b := 0) c9] at k1
      subst k1
      refine tx_i2lw (pc := 22) O dX0_digest_22 ?_
      refine tx_ladd (pc := 23) O dX0_digest_23 ?_
      refine tx_lstore_n (pc := 24) (lv' := [(1, _), (3, _), (0, _)]) O dX0_digest_24 rfl (by decide) rfl ?_
      refine tx_iinc (pc := 25) (lv' := [(3, _), (1, _), (0, _)]) 1 O dX0_digest_25 rfl (by decide) rfl ?_
      refine tx_goto (pc := 28) 6 O dX0_digest_28 rfl ?_
      have := ih (k + 1, R19, M19) ⟨by dsimp only; omega, by dsimp only; omega, hR.kp k2.2.2.1, hW.tr k2⟩ (by dsimp only; omega)
      dsimp only at this
      unfold digA at this
      rw [hst] at this
      exact this
  refine tx_ldc2 (pc := 0) (z := 17) O dX0_digest_0 q808 rfl ?_
  refine tx_lstore_n (pc := 3) (lv' := [(1, _), (0, _)]) O dX0_digest_3 rfl (by decide) rfl ?_
  refine tx_iconst (pc := 4) O dX0_digest_4 ?_
  refine tx_istore_n (pc := 5) (lv' := [(3, _), (1, _), (0, _)]) O dX0_digest_5 rfl (by decide) rfl ?_
  exact KA (0, R, M) ⟨by dsimp only; omega, by dsimp only; omega, hR, hu.s⟩

