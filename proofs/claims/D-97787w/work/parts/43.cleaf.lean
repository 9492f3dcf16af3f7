/-! COMPONENT, leaves -/
set_option maxRecDepth 100000
theorem zushr_1n : ∀ n, n < 4096 → ((Int32.ofNat n).toUInt32 >>> ((Int32.ofInt 1).toUInt32 &&& Int32.toUInt32 31)).toInt32.toInt = (((n / 2 : Nat) : Int)) := by decide +kernel
theorem zushr_1 {b : Int} (h : 0 ≤ b ∧ b < 4096) : zushr b 1 = b / 2 := by
  obtain ⟨n, rfl⟩ := Int.eq_ofNat_of_zero_le h.1
  unfold zushr
  rw [Int32.ofInt_eq_ofNat, zushr_1n n (by omega)]
  omega
theorem zand_1 {b : Int} (h : 0 ≤ b ∧ b < 4096) : zand b 1 = b % 2 := by
  obtain ⟨n, rfl⟩ := Int.eq_ofNat_of_zero_le h.1
  rw [show (1 : Int) = ((1 : Nat) : Int) from rfl, zand_nat (by omega) (by omega), Nat.and_one_is_mod]
  omega
theorem pc_half {b : Int} (h : 0 ≤ b ∧ b < 4096) : pc b = b % 2 + pc (b / 2) := by
  obtain ⟨n, rfl⟩ := Int.eq_ofNat_of_zero_le h.1
  have := pcN_half n (by omega)
  unfold pc
  rw [show ((n : Int) / 2).toNat = n / 2 by omega]
  simp only [Int.toNat_natCast]
  omega
theorem sX0_in (w : WT) (v lo hi : Int) (R M : TM) (h1 : rng v) (h2 : rng lo) (h3 : rng hi) : tx_S w yX0_in cX0_in 3 (some .boolean) 1 [iV v, iV lo, iV hi] R M (QP R M (fun z => btw z v lo hi)) := by
  refine tx_S.ofk (lv := [(0, _), (1, _), (2, _)]) [1, 1, 1] (by decide) (by simp only [List.map_cons, List.map_nil, cat_i, cat_l, cat_r]) (by decide) rfl (fun E O F => ?_)
  refine tx_iload_n (pc := 0) 0 O dX0_in_0 rfl rfl ?_
  refine tx_iload_n (pc := 1) 1 O dX0_in_1 rfl rfl ?_
  refine tx_icmp_lt (pc := 2) 14 O dX0_in_2 rfl (by omega) (fun c2 => ?_) (fun c2 => ?_)
  · refine tx_iconst (pc := 14) O dX0_in_14 ?_
    exact tx_zret O F dX0_in_15 (by omega) (tx_QP.mk (by unfold btw; omega))
  · refine tx_iload_n (pc := 5) 0 O dX0_in_5 rfl rfl ?_
    refine tx_iload_n (pc := 6) 2 O dX0_in_6 rfl rfl ?_
    refine tx_icmp_gt (pc := 7) 14 O dX0_in_7 rfl (by omega) (fun c7 => ?_) (fun c7 => ?_)
    · refine tx_iconst (pc := 14) O dX0_in_14 ?_
      exact tx_zret O F dX0_in_15 (by omega) (tx_QP.mk (by unfold btw; omega))
    · refine tx_iconst (pc := 10) O dX0_in_10 ?_
      refine tx_goto (pc := 11) 15 O dX0_in_11 rfl ?_
      exact tx_zret O F dX0_in_15 (by omega) (tx_QP.mk (by unfold btw; omega))
theorem sX0_no (w : WT) (v : Int) (R M : TM) (h1 : rng v) : tx_S w yX0_no cX0_no 1 (some .long) 1 [iV v] R M (QPL R M (fun z => z = -9223372036854775808 - v)) := by
  refine tx_S.ofk (lv := [(0, _)]) [1] (by decide) (by simp only [List.map_cons, List.map_nil, cat_i, cat_l, cat_r]) (by decide) rfl (fun E O F => ?_)
  refine tx_ldc2 (pc := 0) (z := -9223372036854775808) O dX0_no_0 q456 rfl ?_
  refine tx_iload_n (pc := 3) 0 O dX0_no_3 rfl rfl ?_
  refine tx_i2l (pc := 4) O dX0_no_4 (by omega) ?_
  refine tx_lsub (pc := 5) O dX0_no_5 ?_
  exact tx_lret O F dX0_no_6 (tx_QPL.mk rfl)
theorem sX0_isTwo (w : WT) (v : Int) (R M : TM) (h1 : rng v) : tx_S w yX0_isTwo cX0_isTwo 1 (some .boolean) 2 [iV v] R M (QP R M (fun z => btw z v 0 1)) := by
  refine tx_S.ofk (lv := [(0, _)]) [1] (by decide) (by simp only [List.map_cons, List.map_nil, cat_i, cat_l, cat_r]) (by decide) rfl (fun E O F => ?_)
  refine tx_iload_n (pc := 0) 0 O dX0_isTwo_0 rfl rfl ?_
  refine tx_iconst (pc := 1) O dX0_isTwo_1 ?_
  refine tx_iconst (pc := 2) O dX0_isTwo_2 ?_
  refine tx_cS3 (pc := 3) O dX0_isTwo_3 q108 vX0_in (by decide) (Nat.zero_le _) (sX0_in w _ _ _ _ _ (by omega) (by omega) (by omega)) (k_P (fun z3 h3 => ?_))
  exact tx_zret O F dX0_isTwo_6 (by omega) (tx_QP.mk h3)
theorem sX0_isSix (w : WT) (v : Int) (R M : TM) (h1 : rng v) : tx_S w yX0_isSix cX0_isSix 1 (some .boolean) 2 [iV v] R M (QP R M (fun z => btw z v 0 5)) := by
  refine tx_S.ofk (lv := [(0, _)]) [1] (by decide) (by simp only [List.map_cons, List.map_nil, cat_i, cat_l, cat_r]) (by decide) rfl (fun E O F => ?_)
  refine tx_iload_n (pc := 0) 0 O dX0_isSix_0 rfl rfl ?_
  refine tx_iconst (pc := 1) O dX0_isSix_1 ?_
  refine tx_iconst (pc := 2) O dX0_isSix_2 ?_
  refine tx_cS3 (pc := 3) O dX0_isSix_3 q108 vX0_in (by decide) (Nat.zero_le _) (sX0_in w _ _ _ _ _ (by omega) (by omega) (by omega)) (k_P (fun z3 h3 => ?_))
  exact tx_zret O F dX0_isSix_6 (by omega) (tx_QP.mk h3)
theorem sX0_isYear (w : WT) (v : Int) (R M : TM) (h1 : rng v) : tx_S w yX0_isYear cX0_isYear 1 (some .boolean) 2 [iV v] R M (QP R M (fun z => btw z v 0 39)) := by
  refine tx_S.ofk (lv := [(0, _)]) [1] (by decide) (by simp only [List.map_cons, List.map_nil, cat_i, cat_l, cat_r]) (by decide) rfl (fun E O F => ?_)
  refine tx_iload_n (pc := 0) 0 O dX0_isYear_0 rfl rfl ?_
  refine tx_iconst (pc := 1) O dX0_isYear_1 ?_
  refine tx_bipush (pc := 2) O dX0_isYear_2 (by decide) ?_
  refine tx_cS3 (pc := 4) O dX0_isYear_4 q108 vX0_in (by decide) (Nat.zero_le _) (sX0_in w _ _ _ _ _ (by omega) (by omega) (by omega)) (k_P (fun z4 h4 => ?_))
  exact tx_zret O F dX0_isYear_7 (by omega) (tx_QP.mk h4)
theorem sX0_isSheet (w : WT) (v : Int) (R M : TM) (h1 : rng v) : tx_S w yX0_isSheet cX0_isSheet 1 (some .boolean) 2 [iV v] R M (QP R M (fun z => btw z v 0 3)) := by
  refine tx_S.ofk (lv := [(0, _)]) [1] (by decide) (by simp only [List.map_cons, List.map_nil, cat_i, cat_l, cat_r]) (by decide) rfl (fun E O F => ?_)
  refine tx_iload_n (pc := 0) 0 O dX0_isSheet_0 rfl rfl ?_
  refine tx_iconst (pc := 1) O dX0_isSheet_1 ?_
  refine tx_iconst (pc := 2) O dX0_isSheet_2 ?_
  refine tx_cS3 (pc := 3) O dX0_isSheet_3 q108 vX0_in (by decide) (Nat.zero_le _) (sX0_in w _ _ _ _ _ (by omega) (by omega) (by omega)) (k_P (fun z3 h3 => ?_))
  exact tx_zret O F dX0_isSheet_6 (by omega) (tx_QP.mk h3)
theorem sX0_many (w : WT) (v : Int) (R M : TM) (h : 0 ≤ v ∧ v < 4096) : tx_S w yX0_many cX0_many 3 (some .int) 1 [iV v] R M (QP R M (fun z => z = pc v)) := by
  refine tx_S.ofk (lv := [(0, _)]) [1] (by decide) (by simp only [List.map_cons, List.map_nil, cat_i, cat_l, cat_r]) (by decide) rfl (fun E O F => ?_)
  have K : ∀ a : Int × Int, (0 ≤ a.2 ∧ a.2 < 4096 ∧ a.1 + pc a.2 = pc v) → tx_X w E 4 [(2, iV a.2), (1, iV a.1), (0, iV v)] [] R M := by
    refine lp_m _ _ (fun a => a.2.toNat) ?_
    rintro ⟨n, b⟩ ⟨h1, h2, h4⟩ ih
    dsimp only at h1 h2 h4 ⊢
    have e1 := zushr_1 ⟨h1, h2⟩
    have e2 := zand_1 ⟨h1, h2⟩
    have e3 := pc_half ⟨h1, h2⟩
    refine tx_iload_n (pc := 4) 0 O dX0_many_4 rfl rfl ?_
    refine tx_if_eq (pc := 5) 21 O dX0_many_5 rfl (by omega) (fun c5 => ?_) (fun c5 => ?_)
    · refine tx_iload_n (pc := 21) 1 O dX0_many_21 rfl rfl ?_
      exact tx_iret O F dX0_many_22 (tx_QP.mk (by subst c5; simpa [pc, pcN] using h4))
    · refine tx_iload_n (pc := 8) 1 O dX0_many_8 rfl rfl ?_
      refine tx_iload_n (pc := 9) 0 O dX0_many_9 rfl rfl ?_
      refine tx_iconst (pc := 10) O dX0_many_10 ?_
      refine tx_iand (pc := 11) O dX0_many_11 ?_
      rw [e2]
      refine tx_iadd (pc := 12) O dX0_many_12 ?_
      refine tx_istore_n (pc := 13) (lv' := [(1, _), (2, _), (0, _)]) O dX0_many_13 rfl (by decide) rfl ?_
      refine tx_iload_n (pc := 14) 1 O dX0_many_14 rfl rfl ?_
      refine tx_iconst (pc := 15) O dX0_many_15 ?_
      refine tx_iushr (pc := 16) O dX0_many_16 ?_
      rw [e1]
      refine tx_istore_n (pc := 17) (lv' := [(2, _), (1, _), (0, _)]) O dX0_many_17 rfl (by decide) rfl ?_
      refine tx_goto (pc := 18) 4 O dX0_many_18 rfl ?_
      exact ih (n + b % 2, b / 2) ⟨by dsimp only; omega, by dsimp only; omega, by dsimp only; omega⟩ (by dsimp only; omega)
  refine tx_iconst (pc := 0) O dX0_many_0 ?_
  refine tx_istore_n (pc := 1) (lv' := [(1, _), (0, _)]) O dX0_many_1 rfl (by decide) rfl ?_
  refine tx_iload_n (pc := 2) 1 O dX0_many_2 rfl rfl ?_
  refine tx_istore_n (pc := 3) (lv' := [(2, _), (1, _), (0, _)]) O dX0_many_3 rfl (by decide) rfl ?_
  exact K (0, v) ⟨h.1, h.2, by dsimp only; omega⟩
theorem sX0_lowest (w : WT) (a b what : Int) (R M : TM) (ha : 0 ≤ a ∧ a ≤ 1000000000000000) (hb : 0 < b ∧ b ≤ 1000000000000000) (hw : rng what) : tx_S w yX0_lowest cX0_lowest 11 (some .long) 1 [lV a, lV b, iV what] R M (QPL R M (fun z => z = (if what = 0 then a else b) / gI a b)) := by
  refine tx_S.ofk (lv := [(0, _), (2, _), (4, _)]) [2, 2, 1] (by decide) (by simp only [List.map_cons, List.map_nil, cat_i, cat_l, cat_r]) (by decide) rfl (fun E O F => ?_)
  have K : ∀ q : Int × Int, (0 ≤ q.1 ∧ q.1 ≤ 1000000000000000 ∧ 0 ≤ q.2 ∧ q.2 ≤ 1000000000000000 ∧ (0 < q.1 ∨ 0 < q.2) ∧ gI q.1 q.2 = gI a b) → tx_X w E 6 [(7, lV q.2), (5, lV q.1), (0, lV a), (2, lV b), (4, iV what)] [] R M := by
    refine lp_m _ _ (fun q => q.2.toNat) ?_
    rintro ⟨x, y⟩ ⟨h1, h2, h3, h4, h5, h6⟩ ih
    dsimp only at h1 h2 h3 h4 h5 h6 ⊢
    refine tx_lload (pc := 6) 0 O dX0_lowest_6 rfl ?_
    refine tx_lconst0 (pc := 8) O dX0_lowest_8 ?_
    refine tx_lif_eq (pc := 9) 31 O dX0_lowest_9 dX0_lowest_10 rfl (by omega) (by omega) (fun c9 => ?_) (fun c9 => ?_)
    · subst c9
      rw [gI_0 h1] at h6
      refine tx_iload (pc := 31) 4 O dX0_lowest_31 rfl ?_
      refine tx_if_ne (pc := 33) 43 O dX0_lowest_33 rfl (by omega) (fun c33 => ?_) (fun c33 => ?_)
      · refine tx_lload_n (pc := 43) 3 O dX0_lowest_43 rfl rfl ?_
        refine tx_lload (pc := 44) 1 O dX0_lowest_44 rfl ?_
        refine tx_ldiv (pc := 46) O dX0_lowest_46 (by omega) (by omega) ?_
        exact tx_lret O F dX0_lowest_47 (tx_QPL.mk (by first | (rw [if_pos c33, ← h6]; done) | (rw [if_neg c33, ← h6]; done)))
      · refine tx_lload_n (pc := 36) 2 O dX0_lowest_36 rfl rfl ?_
        refine tx_lload (pc := 37) 1 O dX0_lowest_37 rfl ?_
        refine tx_ldiv (pc := 39) O dX0_lowest_39 (by omega) (by omega) ?_
        refine tx_goto (pc := 40) 47 O dX0_lowest_40 rfl ?_
        exact tx_lret O F dX0_lowest_47 (tx_QPL.mk (by first | (rw [if_pos c33, ← h6]; done) | (rw [if_neg c33, ← h6]; done)))
    · have hy : 0 < y := by omega
      have hm := Int.emod_nonneg x (show y ≠ 0 by omega)
      have hm2 := Int.emod_lt_of_pos x hy
      refine tx_lload (pc := 13) 1 O dX0_lowest_13 rfl ?_
      refine tx_lload (pc := 15) 0 O dX0_lowest_15 rfl ?_
      refine tx_lrem (pc := 17) O dX0_lowest_17 (by omega) (by omega) ?_
      refine tx_lstore (pc := 18) (lv' := [(9, _), (7, _), (5, _), (0, _), (2, _), (4, _)]) O dX0_lowest_18 (by decide) rfl ?_
      refine tx_lload (pc := 20) 1 O dX0_lowest_20 rfl ?_
      refine tx_lstore (pc := 22) (lv' := [(5, _), (9, _), (7, _), (0, _), (2, _), (4, _)]) O dX0_lowest_22 (by decide) rfl ?_
      refine tx_lload (pc := 24) 1 O dX0_lowest_24 rfl ?_
      refine tx_lstore (pc := 26) (lv' := [(7, _), (5, _), (9, _), (0, _), (2, _), (4, _)]) O dX0_lowest_26 (by decide) rfl ?_
      refine tx_goto (pc := 28) 6 O dX0_lowest_28 rfl ?_
      refine tx_lv (lv' := [(7, _), (5, _), (0, _), (2, _), (4, _)]) [0, 1, 3, 4, 5] rfl ?_
      exact ih (y, x % y) ⟨by dsimp only; omega, by dsimp only; omega, by dsimp only; omega, by dsimp only; omega, by dsimp only; omega, by dsimp only; rw [gI_step h1 hy]; exact h6⟩ (by dsimp only; omega)
  refine tx_lload_n (pc := 0) 0 O dX0_lowest_0 rfl rfl ?_
  refine tx_lstore (pc := 1) (lv' := [(5, _), (0, _), (2, _), (4, _)]) O dX0_lowest_1 (by decide) rfl ?_
  refine tx_lload_n (pc := 3) 2 O dX0_lowest_3 rfl rfl ?_
  refine tx_lstore (pc := 4) (lv' := [(7, _), (5, _), (0, _), (2, _), (4, _)]) O dX0_lowest_4 (by decide) rfl ?_
  exact K (a, b) ⟨ha.1, ha.2, by dsimp only; omega, by dsimp only; omega, by dsimp only; omega, rfl⟩
theorem sX0_meets (w : WT) (f : Int) (R M : TM) : tx_S w yX0_meets cX0_meets 2 (some .int) 1 [rV (wa w) 1, iV f] R M (QI R (fun z M' => z = -10 - f ∧ M' = up M 1 22 f)) := by
  refine tx_S.ofk (lv := [(0, _), (1, _)]) [1, 1] (by decide) (by simp only [List.map_cons, List.map_nil, cat_i, cat_l, cat_r]) (by decide) rfl (fun E O F => ?_)
  refine tx_aload_n (pc := 0) 0 O dX0_meets_0 rfl rfl ?_
  refine tx_iload_n (pc := 1) 1 O dX0_meets_1 rfl rfl ?_
  refine fX0_315p (pc := 2) O dX0_meets_2 ?_
  refine tx_bipush (pc := 5) O dX0_meets_5 (by decide) ?_
  refine tx_iload_n (pc := 7) 1 O dX0_meets_7 rfl rfl ?_
  refine tx_isub (pc := 8) O dX0_meets_8 ?_
  exact tx_iret O F dX0_meets_9 (tx_QI.mk ⟨rfl, rfl⟩)
theorem sh_tx (w : WT) {t : Int} (h : t = 0 ∨ t = 1) : tx_sh w (300 + t) = (1, if t = 0 then 59 else 23) := by
  rcases h with e | e <;> subst e <;> rfl
/-- how much is typed, sane -/
def cTy (M : TM) : Prop := (0 ≤ M 201 0 ∧ M 201 0 ≤ 59) ∧ (0 ≤ M 201 1 ∧ M 201 1 ≤ 23)
theorem cTy.at {M : TM} (h : cTy M) {t : Int} (ht : 0 ≤ t ∧ t ≤ 1) : 0 ≤ M 201 t ∧ M 201 t ≤ 59 - 36 * t := by
  rcases (show t = 0 ∨ t = 1 by omega) with e | e <;> subst e
  · exact ⟨h.1.1, by have := h.1.2; omega⟩
  · exact ⟨h.2.1, by have := h.2.2; omega⟩
theorem sX0_type (w : WT) (t b : Int) (R M : TM) (hR : RL R) (hm : cTy M) (ht : rng t) (hb : rng b) : tx_S w yX0_type cX0_type 3 (some .int) 3 [rV (wa w) 1, iV t, iV b] R M (QI R (fun z M' => ((t < 0 ∨ 1 < t ∨ b < 0 ∨ 255 < b) ∧ z = -2 ∧ M' = M) ∨ ((0 ≤ t ∧ t ≤ 1 ∧ 0 ≤ b ∧ b ≤ 255) ∧ ((M 201 t = 59 - 36 * t ∧ z = -4 ∧ M' = M) ∨ (M 201 t < 59 - 36 * t ∧ z = M 201 t + 1 ∧ M' = up (up (up M (300 + t) (M 201 t) b) 201 t (M 201 t + 1)) 1 2 0))))) := by
  refine tx_S.ofk (lv := [(0, _), (1, _), (2, _)]) [1, 1, 1] (by decide) (by simp only [List.map_cons, List.map_nil, cat_i, cat_l, cat_r]) (by decide) rfl (fun E O F => ?_)
  refine tx_iload_n (pc := 0) 1 O dX0_type_0 rfl rfl ?_
  refine tx_cS1 (pc := 1) O dX0_type_1 q105 vX0_isTwo (by decide) (Nat.zero_le _) (sX0_isTwo w _ _ _ (by omega)) (k_P (fun z1 h1 => ?_))
  refine tx_if_eq (pc := 4) 18 O dX0_type_4 rfl (by omega) (fun c4 => ?_) (fun c4 => ?_)
  · refine tx_bipush (pc := 18) O dX0_type_18 (by decide) ?_
    exact tx_iret O F dX0_type_20 (tx_QI.mk (by first | exact Or.inl ⟨by omega, rfl, rfl⟩ | exact Or.inr ⟨by omega, Or.inl ⟨by omega, rfl, rfl⟩⟩ | exact Or.inr ⟨by omega, Or.inr ⟨by omega, rfl, rfl⟩⟩))
  · refine tx_iload_n (pc := 7) 2 O dX0_type_7 rfl rfl ?_
    refine tx_iconst (pc := 8) O dX0_type_8 ?_
    refine tx_sipush (pc := 9) O dX0_type_9 (by decide) ?_
    refine tx_cS3 (pc := 12) O dX0_type_12 q108 vX0_in (by decide) (Nat.zero_le _) (sX0_in w _ _ _ _ _ (by omega) (by omega) (by omega)) (k_P (fun z12 h12 => ?_))
    refine tx_if_ne (pc := 15) 21 O dX0_type_15 rfl (by omega) (fun c15 => ?_) (fun c15 => ?_)
    · have h9 : t = 0 ∨ t = 1 := by omega
      have hq := hm.at (t := t) (by omega)
      have hz : ((if t = 0 then 59 else 23 : Nat) : Int) = 59 - 36 * t := by split <;> omega
      refine tx_aload_n (pc := 21) 0 O dX0_type_21 rfl rfl ?_
      refine fX0_13 (pc := 22) O hR dX0_type_22 ?_
      refine tx_iload_n (pc := 25) 1 O dX0_type_25 rfl rfl ?_
      refine tx_iald (pc := 26) _ O dX0_type_26 (sh_201 w) (by omega) ?_
      refine tx_aload_n (pc := 27) 0 O dX0_type_27 rfl rfl ?_
      refine fX0_17 (pc := 28) O hR dX0_type_28 ?_
      refine tx_iload_n (pc := 31) 1 O dX0_type_31 rfl rfl ?_
      refine tx_aald (pc := 32) _ _ O dX0_type_32 (sh_200 w) (by decide) (by omega) ?_
      rw [hR.2.2.1]
      refine tx_alen (pc := 33) _ _ O dX0_type_33 (sh_tx w h9) (by decide) ?_
      rw [hz]
      refine tx_icmp_ne (pc := 34) 40 O dX0_type_34 rfl (by omega) (fun c34 => ?_) (fun c34 => ?_)
      · refine tx_aload_n (pc := 40) 0 O dX0_type_40 rfl rfl ?_
        refine fX0_17 (pc := 41) O hR dX0_type_41 ?_
        refine tx_iload_n (pc := 44) 1 O dX0_type_44 rfl rfl ?_
        refine tx_aald (pc := 45) _ _ O dX0_type_45 (sh_200 w) (by decide) (by omega) ?_
        rw [hR.2.2.1]
        refine tx_aload_n (pc := 46) 0 O dX0_type_46 rfl rfl ?_
        refine fX0_13 (pc := 47) O hR dX0_type_47 ?_
        refine tx_iload_n (pc := 50) 1 O dX0_type_50 rfl rfl ?_
        refine tx_iald (pc := 51) _ O dX0_type_51 (sh_201 w) (by omega) ?_
        refine tx_iload_n (pc := 52) 2 O dX0_type_52 rfl rfl ?_
        refine tx_iast (pc := 53) _ O dX0_type_53 (sh_tx w h9) (by rw [hz]; omega) ?_
        refine tx_aload_n (pc := 54) 0 O dX0_type_54 rfl rfl ?_
        refine fX0_13 (pc := 55) O hR dX0_type_55 ?_
        refine tx_iload_n (pc := 58) 1 O dX0_type_58 rfl rfl ?_
        refine tx_dup2 (pc := 59) O dX0_type_59 (cat_i _) (cat_r _ _) ?_
        refine tx_iald (pc := 60) _ O dX0_type_60 (sh_201 w) (by omega) ?_
        rw [up_n (by omega)]
        refine tx_iconst (pc := 61) O dX0_type_61 ?_
        refine tx_iadd (pc := 62) O dX0_type_62 ?_
        refine tx_iast (pc := 63) _ O dX0_type_63 (sh_201 w) (by omega) ?_
        refine tx_aload_n (pc := 64) 0 O dX0_type_64 rfl rfl ?_
        refine tx_iconst (pc := 65) O dX0_type_65 ?_
        refine fX0_21p (pc := 66) O dX0_type_66 (by omega) ?_
        refine tx_aload_n (pc := 69) 0 O dX0_type_69 rfl rfl ?_
        refine fX0_13 (pc := 70) O hR dX0_type_70 ?_
        refine tx_iload_n (pc := 73) 1 O dX0_type_73 rfl rfl ?_
        refine tx_iald (pc := 74) _ O dX0_type_74 (sh_201 w) (by omega) ?_
        rw [up_n (by omega), up_s]
        exact tx_iret O F dX0_type_75 (tx_QI.mk (by first | exact Or.inl ⟨by omega, rfl, rfl⟩ | exact Or.inr ⟨by omega, Or.inl ⟨by omega, rfl, rfl⟩⟩ | exact Or.inr ⟨by omega, Or.inr ⟨by omega, rfl, rfl⟩⟩))
      · refine tx_bipush (pc := 37) O dX0_type_37 (by decide) ?_
        exact tx_iret O F dX0_type_39 (tx_QI.mk (by first | exact Or.inl ⟨by omega, rfl, rfl⟩ | exact Or.inr ⟨by omega, Or.inl ⟨by omega, rfl, rfl⟩⟩ | exact Or.inr ⟨by omega, Or.inr ⟨by omega, rfl, rfl⟩⟩))
    · skip
      refine tx_bipush (pc := 18) O dX0_type_18 (by decide) ?_
      exact tx_iret O F dX0_type_20 (tx_QI.mk (by first | exact Or.inl ⟨by omega, rfl, rfl⟩ | exact Or.inr ⟨by omega, Or.inl ⟨by omega, rfl, rfl⟩⟩ | exact Or.inr ⟨by omega, Or.inr ⟨by omega, rfl, rfl⟩⟩))
theorem sX0_wipe (w : WT) (t : Int) (R M : TM) (hR : RL R) (ht : rng t) : tx_S w yX0_wipe cX0_wipe 3 (some .int) 3 [rV (wa w) 1, iV t] R M (QI R (fun z M' => ((t < 0 ∨ 1 < t) ∧ z = -2 ∧ M' = M) ∨ ((0 ≤ t ∧ t ≤ 1) ∧ z = M 201 t ∧ M' = up (up M 201 t 0) 1 2 0))) := by
  refine tx_S.ofk (lv := [(0, _), (1, _)]) [1, 1] (by decide) (by simp only [List.map_cons, List.map_nil, cat_i, cat_l, cat_r]) (by decide) rfl (fun E O F => ?_)
  refine tx_iload_n (pc := 0) 1 O dX0_wipe_0 rfl rfl ?_
  refine tx_cS1 (pc := 1) O dX0_wipe_1 q105 vX0_isTwo (by decide) (Nat.zero_le _) (sX0_isTwo w _ _ _ (by omega)) (k_P (fun z1 h1 => ?_))
  refine tx_if_ne (pc := 4) 10 O dX0_wipe_4 rfl (by omega) (fun c4 => ?_) (fun c4 => ?_)
  · refine tx_aload_n (pc := 10) 0 O dX0_wipe_10 rfl rfl ?_
    refine fX0_13 (pc := 11) O hR dX0_wipe_11 ?_
    refine tx_iload_n (pc := 14) 1 O dX0_wipe_14 rfl rfl ?_
    refine tx_iald (pc := 15) _ O dX0_wipe_15 (sh_201 w) (by omega) ?_
    refine tx_istore_n (pc := 16) (lv' := [(2, _), (0, _), (1, _)]) O dX0_wipe_16 rfl (by decide) rfl ?_
    refine tx_aload_n (pc := 17) 1 O dX0_wipe_17 rfl rfl ?_
    refine fX0_13 (pc := 18) O hR dX0_wipe_18 ?_
    refine tx_iload_n (pc := 21) 2 O dX0_wipe_21 rfl rfl ?_
    refine tx_iconst (pc := 22) O dX0_wipe_22 ?_
    refine tx_iast (pc := 23) _ O dX0_wipe_23 (sh_201 w) (by omega) ?_
    refine tx_aload_n (pc := 24) 1 O dX0_wipe_24 rfl rfl ?_
    refine tx_iconst (pc := 25) O dX0_wipe_25 ?_
    refine fX0_21p (pc := 26) O dX0_wipe_26 (by omega) ?_
    refine tx_iload_n (pc := 29) 0 O dX0_wipe_29 rfl rfl ?_
    exact tx_iret O F dX0_wipe_30 (tx_QI.mk (by first | exact Or.inl ⟨by omega, rfl, rfl⟩ | exact Or.inr ⟨by omega, rfl, rfl⟩))
  · refine tx_bipush (pc := 7) O dX0_wipe_7 (by decide) ?_
    exact tx_iret O F dX0_wipe_9 (tx_QI.mk (by first | exact Or.inl ⟨by omega, rfl, rfl⟩ | exact Or.inr ⟨by omega, rfl, rfl⟩))
theorem sX0_undo (w : WT) (t : Int) (R M : TM) (hR : RL R) (hm : cTy M) (ht : rng t) : tx_S w yX0_undo cX0_undo 2 (some .int) 3 [rV (wa w) 1, iV t] R M (QI R (fun z M' => ((t < 0 ∨ 1 < t) ∧ z = -2 ∧ M' = M) ∨ ((0 ≤ t ∧ t ≤ 1) ∧ ((M 201 t = 0 ∧ z = -3 ∧ M' = M) ∨ (0 < M 201 t ∧ z = M 201 t - 1 ∧ M' = up (up M 201 t (M 201 t - 1)) 1 2 0))))) := by
  refine tx_S.ofk (lv := [(0, _), (1, _)]) [1, 1] (by decide) (by simp only [List.map_cons, List.map_nil, cat_i, cat_l, cat_r]) (by decide) rfl (fun E O F => ?_)
  refine tx_iload_n (pc := 0) 1 O dX0_undo_0 rfl rfl ?_
  refine tx_cS1 (pc := 1) O dX0_undo_1 q105 vX0_isTwo (by decide) (Nat.zero_le _) (sX0_isTwo w _ _ _ (by omega)) (k_P (fun z1 h1 => ?_))
  refine tx_if_ne (pc := 4) 10 O dX0_undo_4 rfl (by omega) (fun c4 => ?_) (fun c4 => ?_)
  · have hq := hm.at (t := t) (by omega)
    refine tx_aload_n (pc := 10) 0 O dX0_undo_10 rfl rfl ?_
    refine fX0_13 (pc := 11) O hR dX0_undo_11 ?_
    refine tx_iload_n (pc := 14) 1 O dX0_undo_14 rfl rfl ?_
    refine tx_iald (pc := 15) _ O dX0_undo_15 (sh_201 w) (by omega) ?_
    refine tx_if_ne (pc := 16) 22 O dX0_undo_16 rfl (by omega) (fun c16 => ?_) (fun c16 => ?_)
    · refine tx_aload_n (pc := 22) 0 O dX0_undo_22 rfl rfl ?_
      refine fX0_13 (pc := 23) O hR dX0_undo_23 ?_
      refine tx_iload_n (pc := 26) 1 O dX0_undo_26 rfl rfl ?_
      refine tx_dup2 (pc := 27) O dX0_undo_27 (cat_i _) (cat_r _ _) ?_
      refine tx_iald (pc := 28) _ O dX0_undo_28 (sh_201 w) (by omega) ?_
      refine tx_iconst (pc := 29) O dX0_undo_29 ?_
      refine tx_isub (pc := 30) O dX0_undo_30 ?_
      refine tx_iast (pc := 31) _ O dX0_undo_31 (sh_201 w) (by omega) ?_
      refine tx_aload_n (pc := 32) 0 O dX0_undo_32 rfl rfl ?_
      refine tx_iconst (pc := 33) O dX0_undo_33 ?_
      refine fX0_21p (pc := 34) O dX0_undo_34 (by omega) ?_
      refine tx_aload_n (pc := 37) 0 O dX0_undo_37 rfl rfl ?_
      refine fX0_13 (pc := 38) O hR dX0_undo_38 ?_
      refine tx_iload_n (pc := 41) 1 O dX0_undo_41 rfl rfl ?_
      refine tx_iald (pc := 42) _ O dX0_undo_42 (sh_201 w) (by omega) ?_
      rw [up_n (by omega), up_s]
      exact tx_iret O F dX0_undo_43 (tx_QI.mk (by first | exact Or.inl ⟨by omega, rfl, rfl⟩ | exact Or.inr ⟨by omega, Or.inl ⟨by omega, rfl, rfl⟩⟩ | exact Or.inr ⟨by omega, Or.inr ⟨by omega, rfl, rfl⟩⟩))
    · refine tx_bipush (pc := 19) O dX0_undo_19 (by decide) ?_
      exact tx_iret O F dX0_undo_21 (tx_QI.mk (by first | exact Or.inl ⟨by omega, rfl, rfl⟩ | exact Or.inr ⟨by omega, Or.inl ⟨by omega, rfl, rfl⟩⟩ | exact Or.inr ⟨by omega, Or.inr ⟨by omega, rfl, rfl⟩⟩))
  · refine tx_bipush (pc := 7) O dX0_undo_7 (by decide) ?_
    exact tx_iret O F dX0_undo_9 (tx_QI.mk (by first | exact Or.inl ⟨by omega, rfl, rfl⟩ | exact Or.inr ⟨by omega, Or.inl ⟨by omega, rfl, rfl⟩⟩ | exact Or.inr ⟨by omega, Or.inr ⟨by omega, rfl, rfl⟩⟩))
/-- the note at a place of a text, -1 for none -/
def ntA (f : Int → Int) (n i : Int) : Int := if i < n ∧ 97 ≤ f i ∧ f i ≤ 103 then f i - 97 else -1
theorem ntA_ok (f : Int → Int) (n i : Int) : -1 ≤ ntA f n i ∧ ntA f n i ≤ 6 := by unfold ntA; split <;> omega
theorem sX0_noteAt (w : WT) (t i : Int) (R M : TM) (f : Int → Int) (n : Int) (hR : RL R) (ht : t = 0 ∨ t = 1) (hi : 0 ≤ i ∧ i ≤ 1000) (hn : M 201 t = n) (hn2 : 0 ≤ n ∧ n ≤ 59 - 36 * t) (hf : ∀ k, 0 ≤ k → k < n → M (300 + t) k = f k ∧ 0 ≤ f k ∧ f k ≤ 255) : tx_S w yX0_noteAt cX0_noteAt 4 (some .int) 2 [rV (wa w) 1, iV t, iV i] R M (QP R M (fun z => z = ntA f n i)) := by
  have hz : ((if t = 0 then 59 else 23 : Nat) : Int) = 59 - 36 * t := by split <;> omega
  refine tx_S.ofk (lv := [(0, _), (1, _), (2, _)]) [1, 1, 1] (by decide) (by simp only [List.map_cons, List.map_nil, cat_i, cat_l, cat_r]) (by decide) rfl (fun E O F => ?_)
  refine tx_iload_n (pc := 0) 2 O dX0_noteAt_0 rfl rfl ?_
  refine tx_aload_n (pc := 1) 0 O dX0_noteAt_1 rfl rfl ?_
  refine fX0_13 (pc := 2) O hR dX0_noteAt_2 ?_
  refine tx_iload_n (pc := 5) 1 O dX0_noteAt_5 rfl rfl ?_
  refine tx_iald (pc := 6) _ O dX0_noteAt_6 (sh_201 w) (by omega) ?_
  rw [hn]
  refine tx_icmp_ge (pc := 7) 24 O dX0_noteAt_7 rfl (by omega) (fun c7 => ?_) (fun c7 => ?_)
  · refine tx_iconst (pc := 24) O dX0_noteAt_24 ?_
    refine tx_istore_n (pc := 25) (lv' := [(3, _), (0, _), (1, _), (2, _)]) O dX0_noteAt_25 rfl (by decide) rfl ?_
    refine tx_iload_n (pc := 26) 0 O dX0_noteAt_26 rfl rfl ?_
    refine tx_iconst (pc := 27) O dX0_noteAt_27 ?_
    refine tx_bipush (pc := 28) O dX0_noteAt_28 (by decide) ?_
    refine tx_cS3 (pc := 30) O dX0_noteAt_30 q108 vX0_in (by decide) (Nat.zero_le _) (sX0_in w _ _ _ _ _ (by omega) (by omega) (by omega)) (k_P (fun z30 h30 => ?_))
    refine tx_if_eq (pc := 33) 40 O dX0_noteAt_33 rfl (by omega) (fun c33 => ?_) (fun c33 => ?_)
    · refine tx_iconst (pc := 40) O dX0_noteAt_40 ?_
      exact tx_iret O F dX0_noteAt_41 (tx_QP.mk (by unfold ntA; first | (rw [if_pos (by omega)]; done) | (rw [if_neg (by omega)]; done)))
    · refine tx_iload_n (pc := 36) 0 O dX0_noteAt_36 rfl rfl ?_
      refine tx_goto (pc := 37) 41 O dX0_noteAt_37 rfl ?_
      exact tx_iret O F dX0_noteAt_41 (tx_QP.mk (by unfold ntA; first | (rw [if_pos (by omega)]; done) | (rw [if_neg (by omega)]; done)))
  · obtain ⟨f1, f2, f3⟩ := hf i hi.1 c7
    refine tx_aload_n (pc := 10) 0 O dX0_noteAt_10 rfl rfl ?_
    refine fX0_17 (pc := 11) O hR dX0_noteAt_11 ?_
    refine tx_iload_n (pc := 14) 1 O dX0_noteAt_14 rfl rfl ?_
    refine tx_aald (pc := 15) _ _ O dX0_noteAt_15 (sh_200 w) (by decide) (by omega) ?_
    rw [hR.2.2.1]
    refine tx_iload_n (pc := 16) 2 O dX0_noteAt_16 rfl rfl ?_
    refine tx_iald (pc := 17) _ O dX0_noteAt_17 (sh_tx w ht) (by rw [hz]; omega) ?_
    rw [f1]
    refine tx_bipush (pc := 18) O dX0_noteAt_18 (by decide) ?_
    refine tx_isub (pc := 20) O dX0_noteAt_20 ?_
    refine tx_goto (pc := 21) 25 O dX0_noteAt_21 rfl ?_
    refine tx_istore_n (pc := 25) (lv' := [(3, _), (0, _), (1, _), (2, _)]) O dX0_noteAt_25 rfl (by decide) rfl ?_
    refine tx_iload_n (pc := 26) 0 O dX0_noteAt_26 rfl rfl ?_
    refine tx_iconst (pc := 27) O dX0_noteAt_27 ?_
    refine tx_bipush (pc := 28) O dX0_noteAt_28 (by decide) ?_
    refine tx_cS3 (pc := 30) O dX0_noteAt_30 q108 vX0_in (by decide) (Nat.zero_le _) (sX0_in w _ _ _ _ _ (by omega) (by omega) (by omega)) (k_P (fun z30 h30 => ?_))
    refine tx_if_eq (pc := 33) 40 O dX0_noteAt_33 rfl (by omega) (fun c33 => ?_) (fun c33 => ?_)
    · refine tx_iconst (pc := 40) O dX0_noteAt_40 ?_
      exact tx_iret O F dX0_noteAt_41 (tx_QP.mk (by unfold ntA; first | (rw [if_pos (by omega)]; done) | (rw [if_neg (by omega)]; done)))
    · refine tx_iload_n (pc := 36) 0 O dX0_noteAt_36 rfl rfl ?_
      refine tx_goto (pc := 37) 41 O dX0_noteAt_37 rfl ?_
      exact tx_iret O F dX0_noteAt_41 (tx_QP.mk (by unfold ntA; first | (rw [if_pos (by omega)]; done) | (rw [if_neg (by omega)]; done)))

