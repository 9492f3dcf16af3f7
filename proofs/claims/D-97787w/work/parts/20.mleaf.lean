/-! MODEL, leaves -/
set_option maxRecDepth 100000
/-- v lies between: 1, else 0 -/
abbrev btw (z v lo hi : Int) : Prop := (z = 1 ∧ lo ≤ v ∧ v ≤ hi) ∨ (z = 0 ∧ (v < lo ∨ hi < v))
theorem sX6_in (w : WT) (v lo hi : Int) (R M : TM) (h1 : rngL v) (h2 : rngL lo) (h3 : rngL hi) : tx_S w yX6_in cX6_in 6 (some .boolean) 1 [lV v, lV lo, lV hi] R M (QP R M (fun z => btw z v lo hi)) := by
  refine tx_S.ofk (lv := [(0, _), (2, _), (4, _)]) [2, 2, 2] (by decide) (by simp only [List.map_cons, List.map_nil, cat_i, cat_l, cat_r]) (by decide) rfl (fun E O F => ?_)
  refine tx_lload_n (pc := 0) 0 O dX6_in_0 rfl rfl ?_
  refine tx_lload_n (pc := 1) 1 O dX6_in_1 rfl rfl ?_
  refine tx_lif_lt (pc := 2) 17 O dX6_in_2 dX6_in_3 rfl (by omega) (by omega) (fun c2 => ?_) (fun c2 => ?_)
  · refine tx_iconst (pc := 17) O dX6_in_17 ?_
    exact tx_zret O F dX6_in_18 (by omega) (tx_QP.mk (by unfold btw; omega))
  · refine tx_lload_n (pc := 6) 0 O dX6_in_6 rfl rfl ?_
    refine tx_lload (pc := 7) 2 O dX6_in_7 rfl ?_
    refine tx_lif_gt (pc := 9) 17 O dX6_in_9 dX6_in_10 rfl (by omega) (by omega) (fun c9 => ?_) (fun c9 => ?_)
    · refine tx_iconst (pc := 17) O dX6_in_17 ?_
      exact tx_zret O F dX6_in_18 (by omega) (tx_QP.mk (by unfold btw; omega))
    · refine tx_iconst (pc := 13) O dX6_in_13 ?_
      refine tx_goto (pc := 14) 18 O dX6_in_14 rfl ?_
      exact tx_zret O F dX6_in_18 (by omega) (tx_QP.mk (by unfold btw; omega))
theorem sX6_no (w : WT) (v : Int) (R M : TM) (h1 : rng v) : tx_S w yX6_no cX6_no 1 (some .long) 1 [iV v] R M (QPL R M (fun z => z = -9223372036854775808 - v)) := by
  refine tx_S.ofk (lv := [(0, _)]) [1] (by decide) (by simp only [List.map_cons, List.map_nil, cat_i, cat_l, cat_r]) (by decide) rfl (fun E O F => ?_)
  refine tx_ldc2 (pc := 0) (z := -9223372036854775808) O dX6_no_0 q1238 rfl ?_
  refine tx_iload_n (pc := 3) 0 O dX6_no_3 rfl rfl ?_
  refine tx_i2l (pc := 4) O dX6_no_4 (by omega) ?_
  refine tx_lsub (pc := 5) O dX6_no_5 ?_
  exact tx_lret O F dX6_no_6 (tx_QPL.mk rfl)
theorem sX6_isTwo (w : WT) (v : Int) (R M : TM) (h1 : rng v) : tx_S w yX6_isTwo cX6_isTwo 1 (some .boolean) 2 [iV v] R M (QP R M (fun z => btw z v 0 1)) := by
  refine tx_S.ofk (lv := [(0, _)]) [1] (by decide) (by simp only [List.map_cons, List.map_nil, cat_i, cat_l, cat_r]) (by decide) rfl (fun E O F => ?_)
  refine tx_iload_n (pc := 0) 0 O dX6_isTwo_0 rfl rfl ?_
  refine tx_i2l (pc := 1) O dX6_isTwo_1 (by omega) ?_
  refine tx_lconst0 (pc := 2) O dX6_isTwo_2 ?_
  refine tx_lconst1 (pc := 3) O dX6_isTwo_3 ?_
  refine tx_cS3 (pc := 4) O dX6_isTwo_4 q910 vX6_in (by decide) (Nat.zero_le _) (sX6_in w _ _ _ _ _ (by omega) (by omega) (by omega)) (k_P (fun z4 h4 => ?_))
  exact tx_zret O F dX6_isTwo_7 (by omega) (tx_QP.mk h4)
theorem sX6_isSheet (w : WT) (v : Int) (R M : TM) (h1 : rng v) : tx_S w yX6_isSheet cX6_isSheet 1 (some .boolean) 2 [iV v] R M (QP R M (fun z => btw z v 0 3)) := by
  refine tx_S.ofk (lv := [(0, _)]) [1] (by decide) (by simp only [List.map_cons, List.map_nil, cat_i, cat_l, cat_r]) (by decide) rfl (fun E O F => ?_)
  refine tx_iload_n (pc := 0) 0 O dX6_isSheet_0 rfl rfl ?_
  refine tx_i2l (pc := 1) O dX6_isSheet_1 (by omega) ?_
  refine tx_lconst0 (pc := 2) O dX6_isSheet_2 ?_
  refine tx_ldc2 (pc := 3) (z := 3) O dX6_isSheet_3 q909 rfl ?_
  refine tx_cS3 (pc := 6) O dX6_isSheet_6 q910 vX6_in (by decide) (Nat.zero_le _) (sX6_in w _ _ _ _ _ (by omega) (by omega) (by omega)) (k_P (fun z6 h6 => ?_))
  exact tx_zret O F dX6_isSheet_9 (by omega) (tx_QP.mk h6)
theorem sX6_isYear (w : WT) (v : Int) (R M : TM) (h1 : rng v) : tx_S w yX6_isYear cX6_isYear 1 (some .boolean) 2 [iV v] R M (QP R M (fun z => btw z v 0 39)) := by
  refine tx_S.ofk (lv := [(0, _)]) [1] (by decide) (by simp only [List.map_cons, List.map_nil, cat_i, cat_l, cat_r]) (by decide) rfl (fun E O F => ?_)
  refine tx_iload_n (pc := 0) 0 O dX6_isYear_0 rfl rfl ?_
  refine tx_i2l (pc := 1) O dX6_isYear_1 (by omega) ?_
  refine tx_lconst0 (pc := 2) O dX6_isYear_2 ?_
  refine tx_ldc2 (pc := 3) (z := 39) O dX6_isYear_3 q1008 rfl ?_
  refine tx_cS3 (pc := 6) O dX6_isYear_6 q910 vX6_in (by decide) (Nat.zero_le _) (sX6_in w _ _ _ _ _ (by omega) (by omega) (by omega)) (k_P (fun z6 h6 => ?_))
  exact tx_zret O F dX6_isYear_9 (by omega) (tx_QP.mk h6)
theorem sX6_ones (w : WT) (v : Int) (R M : TM) (h : 0 ≤ v ∧ v < 4096) : tx_S w yX6_ones cX6_ones 3 (some .int) 1 [iV v] R M (QP R M (fun z => z = pc v)) := by
  refine tx_S.ofk (lv := [(0, _)]) [1] (by decide) (by simp only [List.map_cons, List.map_nil, cat_i, cat_l, cat_r]) (by decide) rfl (fun E O F => ?_)
  have K : ∀ a : Int × Int, (0 ≤ a.2 ∧ a.2 < 4096 ∧ a.1 + pc a.2 = pc v) → tx_X w E 4 [(2, iV a.2), (1, iV a.1), (0, iV v)] [] R M := by
    refine lp_m _ _ (fun a => a.2.toNat) ?_
    rintro ⟨n, b⟩ ⟨h1, h2, h4⟩ ih
    dsimp only at h1 h2 h4 ⊢
    refine tx_iload_n (pc := 4) 0 O dX6_ones_4 rfl rfl ?_
    refine tx_if_eq (pc := 5) 20 O dX6_ones_5 rfl (by omega) (fun c5 => ?_) (fun c5 => ?_)
    · refine tx_iload_n (pc := 20) 1 O dX6_ones_20 rfl rfl ?_
      exact tx_iret O F dX6_ones_21 (tx_QP.mk (by subst c5; simpa [pc, pcN] using h4))
    · have hb := zand_pred ⟨h1, h2⟩ c5
      refine tx_iinc (pc := 8) (lv' := [(1, _), (2, _), (0, _)]) 1 O dX6_ones_8 rfl (by decide) rfl ?_
      refine tx_iload_n (pc := 11) 1 O dX6_ones_11 rfl rfl ?_
      refine tx_iload_n (pc := 12) 1 O dX6_ones_12 rfl rfl ?_
      refine tx_iconst (pc := 13) O dX6_ones_13 ?_
      refine tx_isub (pc := 14) O dX6_ones_14 ?_
      refine tx_iand (pc := 15) O dX6_ones_15 ?_
      refine tx_istore_n (pc := 16) (lv' := [(2, _), (1, _), (0, _)]) O dX6_ones_16 rfl (by decide) rfl ?_
      refine tx_goto (pc := 17) 4 O dX6_ones_17 rfl ?_
      exact ih (n + 1, zand b (b - 1)) ⟨hb.1, by dsimp only; omega, by dsimp only; omega⟩ (by dsimp only; omega)
  refine tx_iconst (pc := 0) O dX6_ones_0 ?_
  refine tx_istore_n (pc := 1) (lv' := [(1, _), (0, _)]) O dX6_ones_1 rfl (by decide) rfl ?_
  refine tx_iload_n (pc := 2) 1 O dX6_ones_2 rfl rfl ?_
  refine tx_istore_n (pc := 3) (lv' := [(2, _), (1, _), (0, _)]) O dX6_ones_3 rfl (by decide) rfl ?_
  exact K (0, v) ⟨h.1, h.2, by dsimp only; omega⟩
theorem sX6_lesser (w : WT) (a b : Int) (R M : TM) (h : rng a ∧ rng b) : tx_S w yX6_lesser cX6_lesser 2 (some .int) 1 [iV a, iV b] R M (QP R M (fun z => z = min a b)) := by
  refine tx_S.ofk (lv := [(0, _), (1, _)]) [1, 1] (by decide) (by simp only [List.map_cons, List.map_nil, cat_i, cat_l, cat_r]) (by decide) rfl (fun E O F => ?_)
  refine tx_iload_n (pc := 0) 0 O dX6_lesser_0 rfl rfl ?_
  refine tx_iload_n (pc := 1) 1 O dX6_lesser_1 rfl rfl ?_
  refine tx_icmp_ge (pc := 2) 9 O dX6_lesser_2 rfl (by omega) (fun c2 => ?_) (fun c2 => ?_)
  · refine tx_iload_n (pc := 9) 1 O dX6_lesser_9 rfl rfl ?_
    exact tx_iret O F dX6_lesser_10 (tx_QP.mk (by omega))
  · refine tx_iload_n (pc := 5) 0 O dX6_lesser_5 rfl rfl ?_
    refine tx_goto (pc := 6) 10 O dX6_lesser_6 rfl ?_
    exact tx_iret O F dX6_lesser_10 (tx_QP.mk (by omega))
theorem sX6_greater (w : WT) (a b : Int) (R M : TM) (h : rng a ∧ rng b) : tx_S w yX6_greater cX6_greater 2 (some .int) 1 [iV a, iV b] R M (QP R M (fun z => z = max a b)) := by
  refine tx_S.ofk (lv := [(0, _), (1, _)]) [1, 1] (by decide) (by simp only [List.map_cons, List.map_nil, cat_i, cat_l, cat_r]) (by decide) rfl (fun E O F => ?_)
  refine tx_iload_n (pc := 0) 0 O dX6_greater_0 rfl rfl ?_
  refine tx_iload_n (pc := 1) 1 O dX6_greater_1 rfl rfl ?_
  refine tx_icmp_le (pc := 2) 9 O dX6_greater_2 rfl (by omega) (fun c2 => ?_) (fun c2 => ?_)
  · refine tx_iload_n (pc := 9) 1 O dX6_greater_9 rfl rfl ?_
    exact tx_iret O F dX6_greater_10 (tx_QP.mk (by omega))
  · refine tx_iload_n (pc := 5) 0 O dX6_greater_5 rfl rfl ?_
    refine tx_goto (pc := 6) 10 O dX6_greater_6 rfl ?_
    exact tx_iret O F dX6_greater_10 (tx_QP.mk (by omega))
theorem sX6_part (w : WT) (a b what : Int) (R M : TM) (ha : 0 ≤ a ∧ a ≤ 1000000000000000) (hb : 0 < b ∧ b ≤ 1000000000000000) (hw : rng what) : tx_S w yX6_part cX6_part 11 (some .long) 1 [lV a, lV b, iV what] R M (QPL R M (fun z => z = (if what = 0 then a else b) / gI a b)) := by
  refine tx_S.ofk (lv := [(0, _), (2, _), (4, _)]) [2, 2, 1] (by decide) (by simp only [List.map_cons, List.map_nil, cat_i, cat_l, cat_r]) (by decide) rfl (fun E O F => ?_)
  have K : ∀ q : Int × Int, (0 ≤ q.1 ∧ q.1 ≤ 1000000000000000 ∧ 0 ≤ q.2 ∧ q.2 ≤ 1000000000000000 ∧ (0 < q.1 ∨ 0 < q.2) ∧ gI q.1 q.2 = gI a b) → tx_X w E 6 [(7, lV q.2), (5, lV q.1), (0, lV a), (2, lV b), (4, iV what)] [] R M := by
    refine lp_m _ _ (fun q => q.2.toNat) ?_
    rintro ⟨x, y⟩ ⟨h1, h2, h3, h4, h5, h6⟩ ih
    dsimp only at h1 h2 h3 h4 h5 h6 ⊢
    refine tx_lload (pc := 6) 0 O dX6_part_6 rfl ?_
    refine tx_lconst0 (pc := 8) O dX6_part_8 ?_
    refine tx_lif_eq (pc := 9) 31 O dX6_part_9 dX6_part_10 rfl (by omega) (by omega) (fun c9 => ?_) (fun c9 => ?_)
    · subst c9
      rw [gI_0 h1] at h6
      refine tx_iload (pc := 31) 4 O dX6_part_31 rfl ?_
      refine tx_if_ne (pc := 33) 40 O dX6_part_33 rfl (by omega) (fun c33 => ?_) (fun c33 => ?_)
      · refine tx_lload_n (pc := 40) 3 O dX6_part_40 rfl rfl ?_
        refine tx_lload (pc := 41) 1 O dX6_part_41 rfl ?_
        refine tx_ldiv (pc := 43) O dX6_part_43 (by omega) (by omega) ?_
        exact tx_lret O F dX6_part_44 (tx_QPL.mk (by first | (rw [if_pos c33, ← h6]; done) | (rw [if_neg c33, ← h6]; done)))
      · refine tx_lload_n (pc := 36) 2 O dX6_part_36 rfl rfl ?_
        refine tx_goto (pc := 37) 41 O dX6_part_37 rfl ?_
        refine tx_lload (pc := 41) 1 O dX6_part_41 rfl ?_
        refine tx_ldiv (pc := 43) O dX6_part_43 (by omega) (by omega) ?_
        exact tx_lret O F dX6_part_44 (tx_QPL.mk (by first | (rw [if_pos c33, ← h6]; done) | (rw [if_neg c33, ← h6]; done)))
    · have hy : 0 < y := by omega
      have hm := Int.emod_nonneg x (show y ≠ 0 by omega)
      have hm2 := Int.emod_lt_of_pos x hy
      refine tx_lload (pc := 13) 1 O dX6_part_13 rfl ?_
      refine tx_lload (pc := 15) 0 O dX6_part_15 rfl ?_
      refine tx_lrem (pc := 17) O dX6_part_17 (by omega) (by omega) ?_
      refine tx_lstore (pc := 18) (lv' := [(9, _), (7, _), (5, _), (0, _), (2, _), (4, _)]) O dX6_part_18 (by decide) rfl ?_
      refine tx_lload (pc := 20) 1 O dX6_part_20 rfl ?_
      refine tx_lstore (pc := 22) (lv' := [(5, _), (9, _), (7, _), (0, _), (2, _), (4, _)]) O dX6_part_22 (by decide) rfl ?_
      refine tx_lload (pc := 24) 1 O dX6_part_24 rfl ?_
      refine tx_lstore (pc := 26) (lv' := [(7, _), (5, _), (9, _), (0, _), (2, _), (4, _)]) O dX6_part_26 (by decide) rfl ?_
      refine tx_goto (pc := 28) 6 O dX6_part_28 rfl ?_
      refine tx_lv (lv' := [(7, _), (5, _), (0, _), (2, _), (4, _)]) [0, 1, 3, 4, 5] rfl ?_
      exact ih (y, x % y) ⟨by dsimp only; omega, by dsimp only; omega, by dsimp only; omega, by dsimp only; omega, by dsimp only; omega, by dsimp only; rw [gI_step h1 hy]; exact h6⟩ (by dsimp only; omega)
  refine tx_lload_n (pc := 0) 0 O dX6_part_0 rfl rfl ?_
  refine tx_lstore (pc := 1) (lv' := [(5, _), (0, _), (2, _), (4, _)]) O dX6_part_1 (by decide) rfl ?_
  refine tx_lload_n (pc := 3) 2 O dX6_part_3 rfl rfl ?_
  refine tx_lstore (pc := 4) (lv' := [(7, _), (5, _), (0, _), (2, _), (4, _)]) O dX6_part_4 (by decide) rfl ?_
  exact K (a, b) ⟨ha.1, ha.2, by dsimp only; omega, by dsimp only; omega, by dsimp only; omega, rfl⟩
theorem sX6_finds (w : WT) (f : Int) (R M : TM) : tx_S w yX6_finds cX6_finds 2 (some .int) 1 [rV (wa w) 2, iV f] R M (QI R (fun z M' => z = -10 - f ∧ M' = up M 2 4 f)) := by
  refine tx_S.ofk (lv := [(0, _), (1, _)]) [1, 1] (by decide) (by simp only [List.map_cons, List.map_nil, cat_i, cat_l, cat_r]) (by decide) rfl (fun E O F => ?_)
  refine tx_aload_n (pc := 0) 0 O dX6_finds_0 rfl rfl ?_
  refine tx_iload_n (pc := 1) 1 O dX6_finds_1 rfl rfl ?_
  refine fX6_83p (pc := 2) O dX6_finds_2 ?_
  refine tx_bipush (pc := 5) O dX6_finds_5 (by decide) ?_
  refine tx_iload_n (pc := 7) 1 O dX6_finds_7 rfl rfl ?_
  refine tx_isub (pc := 8) O dX6_finds_8 ?_
  exact tx_iret O F dX6_finds_9 (tx_QI.mk ⟨rfl, rfl⟩)
/-- what an item of a sheet keeps of an int -/
def zcut (form v : Int) : Int := if form = 0 then zi2b v else if form = 1 then zi2s v else v
theorem sX6_cut (w : WT) (form v : Int) (R M : TM) (h : rng form) : tx_S w yX6_cut cX6_cut 2 (some .int) 1 [iV form, iV v] R M (QP R M (fun z => z = zcut form v)) := by
  refine tx_S.ofk (lv := [(0, _), (1, _)]) [1, 1] (by decide) (by simp only [List.map_cons, List.map_nil, cat_i, cat_l, cat_r]) (by decide) rfl (fun E O F => ?_)
  refine tx_iload_n (pc := 0) 0 O dX6_cut_0 rfl rfl ?_
  refine tx_if_ne (pc := 1) 9 O dX6_cut_1 rfl (by omega) (fun c1 => ?_) (fun c1 => ?_)
  · refine tx_iload_n (pc := 9) 0 O dX6_cut_9 rfl rfl ?_
    refine tx_iconst (pc := 10) O dX6_cut_10 ?_
    refine tx_icmp_ne (pc := 11) 19 O dX6_cut_11 rfl (by omega) (fun c11 => ?_) (fun c11 => ?_)
    · refine tx_iload_n (pc := 19) 1 O dX6_cut_19 rfl rfl ?_
      exact tx_iret O F dX6_cut_20 (tx_QP.mk (by unfold zcut; first | (rw [if_pos c1]; done) | (rw [if_neg c1, if_pos c11]; done) | (rw [if_neg c1, if_neg c11]; done)))
    · refine tx_iload_n (pc := 14) 1 O dX6_cut_14 rfl rfl ?_
      refine tx_i2s (pc := 15) O dX6_cut_15 ?_
      refine tx_goto (pc := 16) 20 O dX6_cut_16 rfl ?_
      exact tx_iret O F dX6_cut_20 (tx_QP.mk (by unfold zcut; first | (rw [if_pos c1]; done) | (rw [if_neg c1, if_pos c11]; done) | (rw [if_neg c1, if_neg c11]; done)))
  · refine tx_iload_n (pc := 4) 1 O dX6_cut_4 rfl rfl ?_
    refine tx_i2b (pc := 5) O dX6_cut_5 ?_
    refine tx_goto (pc := 6) 20 O dX6_cut_6 rfl ?_
    exact tx_iret O F dX6_cut_20 (tx_QP.mk (by unfold zcut; first | (rw [if_pos c1]; done) | (rw [if_neg c1, if_pos c11]; done) | (rw [if_neg c1, if_neg c11]; done)))
/-- the model's sheets, sane -/
def mSh (M : TM) : Prop := ∀ s : Int, 0 ≤ s → s ≤ 3 → -1 ≤ M 100 s ∧ M 100 s ≤ 2 ∧ 0 ≤ M 101 s ∧ M 101 s ≤ 60
theorem sX6_lacks (w : WT) (s form i : Int) (R M : TM) (hR : RL R) (hm : mSh M) (hs : 0 ≤ s ∧ s ≤ 3) (hf : 0 ≤ form ∧ form ≤ 2) (hi : rng i) : tx_S w yX6_lacks cX6_lacks 4 (some .int) 2 [rV (wa w) 2, iV s, iV form, iV i] R M (QI R (fun z M' => (M 100 s < 0 ∧ z = -11 ∧ M' = up M 2 4 1) ∨ (0 ≤ M 100 s ∧ M 100 s ≠ form ∧ z = -13 ∧ M' = up M 2 4 3) ∨ (M 100 s = form ∧ (i < 0 ∨ M 101 s ≤ i) ∧ z = -12 ∧ M' = up M 2 4 2) ∨ (M 100 s = form ∧ 0 ≤ i ∧ i < M 101 s ∧ z = 0 ∧ M' = M))) := by
  have hq := hm s hs.1 hs.2
  refine tx_S.ofk (lv := [(0, _), (1, _), (2, _), (3, _)]) [1, 1, 1, 1] (by decide) (by simp only [List.map_cons, List.map_nil, cat_i, cat_l, cat_r]) (by decide) rfl (fun E O F => ?_)
  refine tx_aload_n (pc := 0) 0 O dX6_lacks_0 rfl rfl ?_
  refine fX6_7 (pc := 1) O hR dX6_lacks_1 ?_
  refine tx_iload_n (pc := 4) 1 O dX6_lacks_4 rfl rfl ?_
  refine tx_iald (pc := 5) _ O dX6_lacks_5 (sh_100 w) (by omega) ?_
  refine tx_if_ge (pc := 6) 15 O dX6_lacks_6 rfl (by omega) (fun c6 => ?_) (fun c6 => ?_)
  · refine tx_aload_n (pc := 15) 0 O dX6_lacks_15 rfl rfl ?_
    refine fX6_7 (pc := 16) O hR dX6_lacks_16 ?_
    refine tx_iload_n (pc := 19) 1 O dX6_lacks_19 rfl rfl ?_
    refine tx_iald (pc := 20) _ O dX6_lacks_20 (sh_100 w) (by omega) ?_
    refine tx_iload_n (pc := 21) 2 O dX6_lacks_21 rfl rfl ?_
    refine tx_icmp_eq (pc := 22) 31 O dX6_lacks_22 rfl (by omega) (fun c22 => ?_) (fun c22 => ?_)
    · refine tx_iload_n (pc := 31) 3 O dX6_lacks_31 rfl rfl ?_
      refine tx_i2l (pc := 32) O dX6_lacks_32 (by omega) ?_
      refine tx_lconst0 (pc := 33) O dX6_lacks_33 ?_
      refine tx_aload_n (pc := 34) 0 O dX6_lacks_34 rfl rfl ?_
      refine fX6_13 (pc := 35) O hR dX6_lacks_35 ?_
      refine tx_iload_n (pc := 38) 1 O dX6_lacks_38 rfl rfl ?_
      refine tx_iald (pc := 39) _ O dX6_lacks_39 (sh_101 w) (by omega) ?_
      refine tx_iconst (pc := 40) O dX6_lacks_40 ?_
      refine tx_isub (pc := 41) O dX6_lacks_41 ?_
      refine tx_i2l (pc := 42) O dX6_lacks_42 (by omega) ?_
      refine tx_cS3 (pc := 43) O dX6_lacks_43 q910 vX6_in (by decide) (Nat.zero_le _) (sX6_in w _ _ _ _ _ (by omega) (by omega) (by omega)) (k_P (fun z43 h43 => ?_))
      refine tx_if_eq (pc := 46) 53 O dX6_lacks_46 rfl (by omega) (fun c46 => ?_) (fun c46 => ?_)
      · refine tx_aload_n (pc := 53) 0 O dX6_lacks_53 rfl rfl ?_
        refine tx_iconst (pc := 54) O dX6_lacks_54 ?_
        refine tx_cV1 (pc := 55) O dX6_lacks_55 q914 vX6_finds (sh_2 w) rfl (by decide) (Nat.zero_le _) (sX6_finds w _ _ _) (k_I (fun z55 M55 h55 => ?_))
        exact tx_iret O F dX6_lacks_58 (tx_QI.mk (by first | exact Or.inr (Or.inr (Or.inl ⟨c22, by omega, by omega, h55.2⟩)) | exact Or.inr (Or.inr (Or.inr ⟨c22, by omega, by omega, rfl, rfl⟩))))
      · refine tx_iconst (pc := 49) O dX6_lacks_49 ?_
        refine tx_goto (pc := 50) 58 O dX6_lacks_50 rfl ?_
        exact tx_iret O F dX6_lacks_58 (tx_QI.mk (by first | exact Or.inr (Or.inr (Or.inl ⟨c22, by omega, by omega, h55.2⟩)) | exact Or.inr (Or.inr (Or.inr ⟨c22, by omega, by omega, rfl, rfl⟩))))
    · refine tx_aload_n (pc := 25) 0 O dX6_lacks_25 rfl rfl ?_
      refine tx_iconst (pc := 26) O dX6_lacks_26 ?_
      refine tx_cV1 (pc := 27) O dX6_lacks_27 q914 vX6_finds (sh_2 w) rfl (by decide) (Nat.zero_le _) (sX6_finds w _ _ _) (k_I (fun z27 M27 h27 => ?_))
      exact tx_iret O F dX6_lacks_30 (tx_QI.mk (Or.inr (Or.inl ⟨c6, c22, by omega, h27.2⟩)))
  · refine tx_aload_n (pc := 9) 0 O dX6_lacks_9 rfl rfl ?_
    refine tx_iconst (pc := 10) O dX6_lacks_10 ?_
    refine tx_cV1 (pc := 11) O dX6_lacks_11 q914 vX6_finds (sh_2 w) rfl (by decide) (Nat.zero_le _) (sX6_finds w _ _ _) (k_I (fun z11 M11 h11 => ?_))
    exact tx_iret O F dX6_lacks_14 (tx_QI.mk (Or.inl ⟨c6, by omega, h11.2⟩))

