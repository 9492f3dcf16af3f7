/-! MODEL, sheets and texts: sheet, lose, lay, get, copy, type, wipe, undo, tunesFault -/
set_option maxRecDepth 100000
/-- a range made zero; a range copied -/
def zfill (M : TM) (id lo hi : Int) : TM := fun a b => if a = id ∧ lo ≤ b ∧ b < hi then 0 else M a b
theorem zfill_0 (M : TM) (id lo : Int) : zfill M id lo (lo + 0) = M := by
  funext a b
  unfold zfill
  rw [if_neg (by omega)]
theorem zfill_up (M : TM) (id lo i : Int) (h : 0 ≤ i) : up (zfill M id lo (lo + i)) id (lo + i) 0 = zfill M id lo (lo + (i + 1)) := by
  funext a b
  unfold up zfill
  by_cases e : a = id
  · by_cases e2 : b = lo + i
    · rw [if_pos ⟨e, e2⟩, if_pos ⟨e, by omega, by omega⟩]
    · rw [if_neg (by omega)]
      by_cases e3 : lo ≤ b ∧ b < lo + i
      · rw [if_pos ⟨e, e3⟩, if_pos ⟨e, by omega, by omega⟩]
      · rw [if_neg (fun q => e3 q.2), if_neg (by omega)]
  · rw [if_neg (by omega), if_neg (by omega), if_neg (by omega)]
def cpy (M : TM) (src so dst d n : Int) : TM := fun a b => if a = dst ∧ d ≤ b ∧ b < d + n then M src (so + (b - d)) else M a b
theorem cpy_0 (M : TM) (src so dst d : Int) : cpy M src so dst d 0 = M := by
  funext a b
  unfold cpy
  rw [if_neg (by omega)]
theorem cpy_src (M : TM) {src so dst d n a b : Int} (h : a ≠ dst) : cpy M src so dst d n a b = M a b := by
  unfold cpy
  rw [if_neg (by omega)]
theorem cpy_up (M : TM) {src so dst d i : Int} (h : 0 ≤ i) : up (cpy M src so dst d i) dst (d + i) (M src (so + i)) = cpy M src so dst d (i + 1) := by
  funext a b
  unfold up cpy
  by_cases e : a = dst
  · by_cases e2 : b = d + i
    · rw [if_pos ⟨e, e2⟩, if_pos ⟨e, by omega, by omega⟩, e2]
      congr 1
      omega
    · rw [if_neg (by omega)]
      by_cases e3 : d ≤ b ∧ b < d + i
      · rw [if_pos ⟨e, e3⟩, if_pos ⟨e, by omega, by omega⟩]
      · rw [if_neg (fun q => e3 q.2), if_neg (by omega)]
  · rw [if_neg (by omega), if_neg (by omega), if_neg (by omega)]
theorem sX6_sheet (w : WT) (s form n : Int) (R M : TM) (hR : RL R) (hs : rng s) (hf : rng form) (hn : rng n) : tx_S w yX6_sheet cX6_sheet 5 (some .int) 3 [rV (wa w) 2, iV s, iV form, iV n] R M (QI R (fun z M' => ((s < 0 ∨ 3 < s ∨ form < 0 ∨ 2 < form ∨ 60 < n) ∧ z = -2 ∧ M' = M) ∨ ((0 ≤ s ∧ s ≤ 3 ∧ 0 ≤ form ∧ form ≤ 2 ∧ n < 0) ∧ z = -15 ∧ M' = up M 2 4 5) ∨ ((0 ≤ s ∧ s ≤ 3 ∧ 0 ≤ form ∧ form ≤ 2 ∧ 0 ≤ n ∧ n ≤ 60) ∧ z = n ∧ M' = zfill (up (up M 100 s form) 101 s n) 102 (60 * s) (60 * s + n)))) := by
  refine tx_S.ofk (lv := [(0, _), (1, _), (2, _), (3, _)]) [1, 1, 1, 1] (by decide) (by simp only [List.map_cons, List.map_nil, cat_i, cat_l, cat_r]) (by decide) rfl (fun E O F => ?_)
  have K : (0 ≤ s ∧ s ≤ 3 ∧ 0 ≤ form ∧ form ≤ 2 ∧ 0 ≤ n ∧ n ≤ 60) → ∀ (i : Int) (M' : TM), (0 ≤ i ∧ i ≤ n ∧ M' = zfill (up (up M 100 s form) 101 s n) 102 (60 * s) (60 * s + i)) → tx_X w E 55 [(4, iV i), (0, rV (wa w) 2), (1, iV s), (2, iV form), (3, iV n)] [] R M' := by
    intro hv
    refine lp_up _ _ n ?_
    rintro i M' ⟨h1, h2, rfl⟩ ih
    refine tx_iload (pc := 55) 0 O dX6_sheet_55 rfl ?_
    refine tx_iload_n (pc := 57) 4 O dX6_sheet_57 rfl rfl ?_
    refine tx_icmp_ge (pc := 58) 80 O dX6_sheet_58 rfl (by omega) (fun c58 => ?_) (fun c58 => ?_)
    · refine tx_iload_n (pc := 80) 4 O dX6_sheet_80 rfl rfl ?_
      exact tx_iret O F dX6_sheet_81 (tx_QI.mk (Or.inr (Or.inr ⟨hv, rfl, by rw [show i = n by omega]⟩)))
    · refine tx_aload_n (pc := 61) 1 O dX6_sheet_61 rfl rfl ?_
      refine fX6_16 (pc := 62) O hR dX6_sheet_62 ?_
      refine tx_bipush (pc := 65) O dX6_sheet_65 (by decide) ?_
      refine tx_iload_n (pc := 67) 2 O dX6_sheet_67 rfl rfl ?_
      refine tx_imul (pc := 68) O dX6_sheet_68 ?_
      refine tx_iload (pc := 69) 0 O dX6_sheet_69 rfl ?_
      refine tx_iadd (pc := 71) O dX6_sheet_71 ?_
      refine tx_iconst (pc := 72) O dX6_sheet_72 ?_
      refine tx_iast (pc := 73) _ O dX6_sheet_73 (sh_102 w) (by omega) ?_
      refine tx_iinc (pc := 74) (lv' := [(4, _), (0, _), (1, _), (2, _), (3, _)]) 0 O dX6_sheet_74 rfl (by decide) rfl ?_
      refine tx_goto (pc := 77) 55 O dX6_sheet_77 rfl ?_
      exact ih _ _ ⟨by omega, by omega, zfill_up _ _ _ _ h1⟩ (by omega) (by omega)
  refine tx_iload_n (pc := 0) 1 O dX6_sheet_0 rfl rfl ?_
  refine tx_cS1 (pc := 1) O dX6_sheet_1 q906 vX6_isSheet (by decide) (Nat.zero_le _) (sX6_isSheet w _ _ _ (by omega)) (k_P (fun z1 h1 => ?_))
  refine tx_if_eq (pc := 4) 25 O dX6_sheet_4 rfl (by omega) (fun c4 => ?_) (fun c4 => ?_)
  · refine tx_bipush (pc := 25) O dX6_sheet_25 (by decide) ?_
    exact tx_iret O F dX6_sheet_27 (tx_QI.mk (Or.inl ⟨by omega, rfl, rfl⟩))
  · refine tx_iload_n (pc := 7) 2 O dX6_sheet_7 rfl rfl ?_
    refine tx_i2l (pc := 8) O dX6_sheet_8 (by omega) ?_
    refine tx_lconst0 (pc := 9) O dX6_sheet_9 ?_
    refine tx_ldc2 (pc := 10) (z := 2) O dX6_sheet_10 q913 rfl ?_
    refine tx_cS3 (pc := 13) O dX6_sheet_13 q910 vX6_in (by decide) (Nat.zero_le _) (sX6_in w _ _ _ _ _ (by omega) (by omega) (by omega)) (k_P (fun z13 h13 => ?_))
    refine tx_if_eq (pc := 16) 25 O dX6_sheet_16 rfl (by omega) (fun c16 => ?_) (fun c16 => ?_)
    · refine tx_bipush (pc := 25) O dX6_sheet_25 (by decide) ?_
      exact tx_iret O F dX6_sheet_27 (tx_QI.mk (Or.inl ⟨by omega, rfl, rfl⟩))
    · refine tx_iload_n (pc := 19) 3 O dX6_sheet_19 rfl rfl ?_
      refine tx_bipush (pc := 20) O dX6_sheet_20 (by decide) ?_
      refine tx_icmp_le (pc := 22) 28 O dX6_sheet_22 rfl (by omega) (fun c22 => ?_) (fun c22 => ?_)
      · refine tx_iload_n (pc := 28) 3 O dX6_sheet_28 rfl rfl ?_
        refine tx_if_ge (pc := 29) 38 O dX6_sheet_29 rfl (by omega) (fun c29 => ?_) (fun c29 => ?_)
        · refine tx_aload_n (pc := 38) 0 O dX6_sheet_38 rfl rfl ?_
          refine fX6_7 (pc := 39) O hR dX6_sheet_39 ?_
          refine tx_iload_n (pc := 42) 1 O dX6_sheet_42 rfl rfl ?_
          refine tx_iload_n (pc := 43) 2 O dX6_sheet_43 rfl rfl ?_
          refine tx_iast (pc := 44) _ O dX6_sheet_44 (sh_100 w) (by omega) ?_
          refine tx_aload_n (pc := 45) 0 O dX6_sheet_45 rfl rfl ?_
          refine fX6_13 (pc := 46) O hR dX6_sheet_46 ?_
          refine tx_iload_n (pc := 49) 1 O dX6_sheet_49 rfl rfl ?_
          refine tx_iload_n (pc := 50) 3 O dX6_sheet_50 rfl rfl ?_
          refine tx_iast (pc := 51) _ O dX6_sheet_51 (sh_101 w) (by omega) ?_
          refine tx_iconst (pc := 52) O dX6_sheet_52 ?_
          refine tx_istore (pc := 53) (lv' := [(4, _), (0, _), (1, _), (2, _), (3, _)]) O dX6_sheet_53 (by decide) rfl ?_
          exact K ⟨by omega, by omega, by omega, by omega, by omega, by omega⟩ 0 _ ⟨by omega, by omega, (zfill_0 _ _ _).symm⟩
        · refine tx_aload_n (pc := 32) 0 O dX6_sheet_32 rfl rfl ?_
          refine tx_iconst (pc := 33) O dX6_sheet_33 ?_
          refine tx_cV1 (pc := 34) O dX6_sheet_34 q914 vX6_finds (sh_2 w) rfl (by decide) (Nat.zero_le _) (sX6_finds w _ _ _) (k_I (fun z34 M34 h34 => ?_))
          exact tx_iret O F dX6_sheet_37 (tx_QI.mk (Or.inr (Or.inl ⟨by omega, by omega, h34.2⟩)))
      · refine tx_bipush (pc := 25) O dX6_sheet_25 (by decide) ?_
        exact tx_iret O F dX6_sheet_27 (tx_QI.mk (Or.inl ⟨by omega, rfl, rfl⟩))
theorem sX6_lose (w : WT) (s : Int) (R M : TM) (hR : RL R) (hm : mSh M) (hs : rng s) : tx_S w yX6_lose cX6_lose 2 (some .int) 3 [rV (wa w) 2, iV s] R M (QI R (fun z M' => ((s < 0 ∨ 3 < s) ∧ z = -2 ∧ M' = M) ∨ ((0 ≤ s ∧ s ≤ 3 ∧ M 100 s < 0) ∧ z = -11 ∧ M' = up M 2 4 1) ∨ ((0 ≤ s ∧ s ≤ 3 ∧ 0 ≤ M 100 s) ∧ z = M 101 s ∧ M' = up M 100 s (-1)))) := by
  refine tx_S.ofk (lv := [(0, _), (1, _)]) [1, 1] (by decide) (by simp only [List.map_cons, List.map_nil, cat_i, cat_l, cat_r]) (by decide) rfl (fun E O F => ?_)
  refine tx_iload_n (pc := 0) 1 O dX6_lose_0 rfl rfl ?_
  refine tx_cS1 (pc := 1) O dX6_lose_1 q906 vX6_isSheet (by decide) (Nat.zero_le _) (sX6_isSheet w _ _ _ (by omega)) (k_P (fun z1 h1 => ?_))
  refine tx_if_ne (pc := 4) 10 O dX6_lose_4 rfl (by omega) (fun c4 => ?_) (fun c4 => ?_)
  · have hq := hm s (by omega) (by omega)
    refine tx_aload_n (pc := 10) 0 O dX6_lose_10 rfl rfl ?_
    refine fX6_7 (pc := 11) O hR dX6_lose_11 ?_
    refine tx_iload_n (pc := 14) 1 O dX6_lose_14 rfl rfl ?_
    refine tx_iald (pc := 15) _ O dX6_lose_15 (sh_100 w) (by omega) ?_
    refine tx_if_ge (pc := 16) 25 O dX6_lose_16 rfl (by omega) (fun c16 => ?_) (fun c16 => ?_)
    · refine tx_aload_n (pc := 25) 0 O dX6_lose_25 rfl rfl ?_
      refine fX6_7 (pc := 26) O hR dX6_lose_26 ?_
      refine tx_iload_n (pc := 29) 1 O dX6_lose_29 rfl rfl ?_
      refine tx_iconst (pc := 30) O dX6_lose_30 ?_
      refine tx_iast (pc := 31) _ O dX6_lose_31 (sh_100 w) (by omega) ?_
      refine tx_aload_n (pc := 32) 0 O dX6_lose_32 rfl rfl ?_
      refine fX6_13 (pc := 33) O hR dX6_lose_33 ?_
      refine tx_iload_n (pc := 36) 1 O dX6_lose_36 rfl rfl ?_
      refine tx_iald (pc := 37) _ O dX6_lose_37 (sh_101 w) (by omega) ?_
      exact tx_iret O F dX6_lose_38 (tx_QI.mk (Or.inr (Or.inr ⟨by omega, by simp [up], rfl⟩)))
    · refine tx_aload_n (pc := 19) 0 O dX6_lose_19 rfl rfl ?_
      refine tx_iconst (pc := 20) O dX6_lose_20 ?_
      refine tx_cV1 (pc := 21) O dX6_lose_21 q914 vX6_finds (sh_2 w) rfl (by decide) (Nat.zero_le _) (sX6_finds w _ _ _) (k_I (fun z21 M21 h21 => ?_))
      exact tx_iret O F dX6_lose_24 (tx_QI.mk (Or.inr (Or.inl ⟨by omega, by omega, h21.2⟩)))
  · refine tx_bipush (pc := 7) O dX6_lose_7 (by decide) ?_
    exact tx_iret O F dX6_lose_9 (tx_QI.mk (Or.inl ⟨by omega, rfl, rfl⟩))
theorem sX6_lay (w : WT) (s form i v : Int) (R M : TM) (hR : RL R) (hm : mSh M) (hs : rng s) (hf : rng form) (hi : rng i) : tx_S w yX6_lay cX6_lay 6 (some .int) 3 [rV (wa w) 2, iV s, iV form, iV i, iV v] R M (QI R (fun z M' => ((s < 0 ∨ 3 < s ∨ form < 0 ∨ 2 < form) ∧ z = -2 ∧ M' = M) ∨ ((0 ≤ s ∧ s ≤ 3 ∧ 0 ≤ form ∧ form ≤ 2) ∧ ((M 100 s < 0 ∧ z = -11 ∧ M' = up M 2 4 1) ∨ (0 ≤ M 100 s ∧ M 100 s ≠ form ∧ z = -13 ∧ M' = up M 2 4 3) ∨ (M 100 s = form ∧ (i < 0 ∨ M 101 s ≤ i) ∧ z = -12 ∧ M' = up M 2 4 2) ∨ (M 100 s = form ∧ 0 ≤ i ∧ i < M 101 s ∧ z = 1 ∧ M' = up M 102 (60 * s + i) (zcut form v)))))) := by
  refine tx_S.ofk (lv := [(0, _), (1, _), (2, _), (3, _), (4, _)]) [1, 1, 1, 1, 1] (by decide) (by simp only [List.map_cons, List.map_nil, cat_i, cat_l, cat_r]) (by decide) rfl (fun E O F => ?_)
  refine tx_iload_n (pc := 0) 1 O dX6_lay_0 rfl rfl ?_
  refine tx_cS1 (pc := 1) O dX6_lay_1 q906 vX6_isSheet (by decide) (Nat.zero_le _) (sX6_isSheet w _ _ _ (by omega)) (k_P (fun z1 h1 => ?_))
  refine tx_if_eq (pc := 4) 19 O dX6_lay_4 rfl (by omega) (fun c4 => ?_) (fun c4 => ?_)
  · refine tx_bipush (pc := 19) O dX6_lay_19 (by decide) ?_
    exact tx_iret O F dX6_lay_21 (tx_QI.mk (Or.inl ⟨by omega, rfl, rfl⟩))
  · refine tx_iload_n (pc := 7) 2 O dX6_lay_7 rfl rfl ?_
    refine tx_i2l (pc := 8) O dX6_lay_8 (by omega) ?_
    refine tx_lconst0 (pc := 9) O dX6_lay_9 ?_
    refine tx_ldc2 (pc := 10) (z := 2) O dX6_lay_10 q913 rfl ?_
    refine tx_cS3 (pc := 13) O dX6_lay_13 q910 vX6_in (by decide) (Nat.zero_le _) (sX6_in w _ _ _ _ _ (by omega) (by omega) (by omega)) (k_P (fun z13 h13 => ?_))
    refine tx_if_ne (pc := 16) 22 O dX6_lay_16 rfl (by omega) (fun c16 => ?_) (fun c16 => ?_)
    · have hq := hm s (by omega) (by omega)
      refine tx_aload_n (pc := 22) 0 O dX6_lay_22 rfl rfl ?_
      refine tx_iload_n (pc := 23) 1 O dX6_lay_23 rfl rfl ?_
      refine tx_iload_n (pc := 24) 2 O dX6_lay_24 rfl rfl ?_
      refine tx_iload_n (pc := 25) 3 O dX6_lay_25 rfl rfl ?_
      refine tx_cV3 (pc := 26) O dX6_lay_26 q926 vX6_lacks (sh_2 w) rfl (by decide) (Nat.zero_le _) (sX6_lacks w _ _ _ _ _ hR hm (by omega) (by omega) (by omega)) (k_I (fun z26 M26 h26 => ?_))
      refine tx_istore (pc := 29) (lv' := [(5, _), (0, _), (1, _), (2, _), (3, _), (4, _)]) O dX6_lay_29 (by decide) rfl ?_
      refine tx_iload (pc := 31) 0 O dX6_lay_31 rfl ?_
      refine tx_if_eq (pc := 33) 39 O dX6_lay_33 rfl (by omega) (fun c33 => ?_) (fun c33 => ?_)
      · obtain ⟨q1, q2, q3, rfl⟩ : M 100 s = form ∧ 0 ≤ i ∧ i < M 101 s ∧ M26 = M := by
          rcases h26 with q | q | q | q
          · exact absurd q.2.1 (by omega)
          · exact absurd q.2.2.1 (by omega)
          · exact absurd q.2.2.1 (by omega)
          · exact ⟨q.1, q.2.1, q.2.2.1, q.2.2.2.2⟩
        refine tx_aload_n (pc := 39) 1 O dX6_lay_39 rfl rfl ?_
        refine fX6_16 (pc := 40) O hR dX6_lay_40 ?_
        refine tx_bipush (pc := 43) O dX6_lay_43 (by decide) ?_
        refine tx_iload_n (pc := 45) 2 O dX6_lay_45 rfl rfl ?_
        refine tx_imul (pc := 46) O dX6_lay_46 ?_
        refine tx_iload_n (pc := 47) 4 O dX6_lay_47 rfl rfl ?_
        refine tx_iadd (pc := 48) O dX6_lay_48 ?_
        refine tx_iload_n (pc := 49) 3 O dX6_lay_49 rfl rfl ?_
        refine tx_iload (pc := 50) 5 O dX6_lay_50 rfl ?_
        refine tx_cS2 (pc := 52) O dX6_lay_52 q930 vX6_cut (by decide) (by simp only [List.map_cons, List.map_nil, cat_i, cat_l, cat_r, List.sum_cons, List.sum_nil]; decide) (sX6_cut w _ _ _ _ (by omega)) (k_P (fun z52 h52 => ?_))
        refine tx_iast (pc := 55) _ O dX6_lay_55 (sh_102 w) (by omega) ?_
        refine tx_iconst (pc := 56) O dX6_lay_56 ?_
        exact tx_iret O F dX6_lay_57 (tx_QI.mk (Or.inr ⟨by omega, Or.inr (Or.inr (Or.inr ⟨q1, q2, q3, rfl, by rw [h52]⟩))⟩))
      · refine tx_iload (pc := 36) 0 O dX6_lay_36 rfl ?_
        exact tx_iret O F dX6_lay_38 (tx_QI.mk (Or.inr ⟨by omega, by
            rcases h26 with q | q | q | q
            · exact Or.inl q
            · exact Or.inr (Or.inl q)
            · exact Or.inr (Or.inr (Or.inl q))
            · exact absurd q.2.2.2.1 c33⟩))
    · refine tx_bipush (pc := 19) O dX6_lay_19 (by decide) ?_
      exact tx_iret O F dX6_lay_21 (tx_QI.mk (Or.inl ⟨by omega, rfl, rfl⟩))
theorem sX6_get (w : WT) (s form i : Int) (R M : TM) (hR : RL R) (hm : mSh M) (hs : rng s) (hf : rng form) (hi : rng i) : tx_S w yX6_get cX6_get 4 (some .int) 3 [rV (wa w) 2, iV s, iV form, iV i] R M (QI R (fun z M' => ((s < 0 ∨ 3 < s ∨ form < 0 ∨ 2 < form) ∧ z = -2147483648 ∧ M' = M) ∨ ((0 ≤ s ∧ s ≤ 3 ∧ 0 ≤ form ∧ form ≤ 2) ∧ ((M 100 s < 0 ∧ z = -2147483648 ∧ M' = up M 2 4 1) ∨ (0 ≤ M 100 s ∧ M 100 s ≠ form ∧ z = -2147483648 ∧ M' = up M 2 4 3) ∨ (M 100 s = form ∧ (i < 0 ∨ M 101 s ≤ i) ∧ z = -2147483648 ∧ M' = up M 2 4 2) ∨ (M 100 s = form ∧ 0 ≤ i ∧ i < M 101 s ∧ z = M 102 (60 * s + i) ∧ M' = M))))) := by
  refine tx_S.ofk (lv := [(0, _), (1, _), (2, _), (3, _)]) [1, 1, 1, 1] (by decide) (by simp only [List.map_cons, List.map_nil, cat_i, cat_l, cat_r]) (by decide) rfl (fun E O F => ?_)
  refine tx_iload_n (pc := 0) 1 O dX6_get_0 rfl rfl ?_
  refine tx_cS1 (pc := 1) O dX6_get_1 q906 vX6_isSheet (by decide) (Nat.zero_le _) (sX6_isSheet w _ _ _ (by omega)) (k_P (fun z1 h1 => ?_))
  refine tx_if_eq (pc := 4) 29 O dX6_get_4 rfl (by omega) (fun c4 => ?_) (fun c4 => ?_)
  · refine tx_ldc (pc := 29) (z := -2147483648) O dX6_get_29 q937 rfl ?_
    exact tx_iret O F dX6_get_31 (tx_QI.mk (Or.inl ⟨by omega, rfl, rfl⟩))
    skip
  · refine tx_iload_n (pc := 7) 2 O dX6_get_7 rfl rfl ?_
    refine tx_i2l (pc := 8) O dX6_get_8 (by omega) ?_
    refine tx_lconst0 (pc := 9) O dX6_get_9 ?_
    refine tx_ldc2 (pc := 10) (z := 2) O dX6_get_10 q913 rfl ?_
    refine tx_cS3 (pc := 13) O dX6_get_13 q910 vX6_in (by decide) (Nat.zero_le _) (sX6_in w _ _ _ _ _ (by omega) (by omega) (by omega)) (k_P (fun z13 h13 => ?_))
    refine tx_if_eq (pc := 16) 29 O dX6_get_16 rfl (by omega) (fun c16 => ?_) (fun c16 => ?_)
    · refine tx_ldc (pc := 29) (z := -2147483648) O dX6_get_29 q937 rfl ?_
      exact tx_iret O F dX6_get_31 (tx_QI.mk (Or.inl ⟨by omega, rfl, rfl⟩))
      skip
    · have hq := hm s (by omega) (by omega)
      refine tx_aload_n (pc := 19) 0 O dX6_get_19 rfl rfl ?_
      refine tx_iload_n (pc := 20) 1 O dX6_get_20 rfl rfl ?_
      refine tx_iload_n (pc := 21) 2 O dX6_get_21 rfl rfl ?_
      refine tx_iload_n (pc := 22) 3 O dX6_get_22 rfl rfl ?_
      refine tx_cV3 (pc := 23) O dX6_get_23 q926 vX6_lacks (sh_2 w) rfl (by decide) (Nat.zero_le _) (sX6_lacks w _ _ _ _ _ hR hm (by omega) (by omega) (by omega)) (k_I (fun z23 M23 h23 => ?_))
      refine tx_if_eq (pc := 26) 32 O dX6_get_26 rfl (by omega) (fun c26 => ?_) (fun c26 => ?_)
      · obtain ⟨q1, q2, q3, rfl⟩ : M 100 s = form ∧ 0 ≤ i ∧ i < M 101 s ∧ M23 = M := by
          rcases h23 with q | q | q | q
          · exact absurd q.2.1 (by omega)
          · exact absurd q.2.2.1 (by omega)
          · exact absurd q.2.2.1 (by omega)
          · exact ⟨q.1, q.2.1, q.2.2.1, q.2.2.2.2⟩
        refine tx_aload_n (pc := 32) 0 O dX6_get_32 rfl rfl ?_
        refine fX6_16 (pc := 33) O hR dX6_get_33 ?_
        refine tx_bipush (pc := 36) O dX6_get_36 (by decide) ?_
        refine tx_iload_n (pc := 38) 1 O dX6_get_38 rfl rfl ?_
        refine tx_imul (pc := 39) O dX6_get_39 ?_
        refine tx_iload_n (pc := 40) 3 O dX6_get_40 rfl rfl ?_
        refine tx_iadd (pc := 41) O dX6_get_41 ?_
        refine tx_iald (pc := 42) _ O dX6_get_42 (sh_102 w) (by omega) ?_
        exact tx_iret O F dX6_get_43 (tx_QI.mk (Or.inr ⟨by omega, Or.inr (Or.inr (Or.inr ⟨q1, q2, q3, rfl, rfl⟩))⟩))
      · refine tx_ldc (pc := 29) (z := -2147483648) O dX6_get_29 q937 rfl ?_
        refine tx_iret O F dX6_get_31 (tx_QI.mk (Or.inr ⟨by omega, ?_⟩))
        rcases h23 with q | q | q | q
        · exact Or.inl ⟨q.1, rfl, q.2.2⟩
        · exact Or.inr (Or.inl ⟨q.1, q.2.1, rfl, q.2.2.2⟩)
        · exact Or.inr (Or.inr (Or.inl ⟨q.1, q.2.1, rfl, q.2.2.2⟩))
        · exact absurd q.2.2.2.1 c26
        skip
theorem sX6_copy (w : WT) (s i t j n : Int) (R M : TM) (hR : RL R) (hm : mSh M) (hs : rng s) (hi : rng i) (ht : rng t) (hj : rng j) (hn : rng n) : tx_S w yX6_copy cX6_copy 7 (some .int) 3 [rV (wa w) 2, iV s, iV i, iV t, iV j, iV n] R M (QI R (fun z M' => ((s < 0 ∨ 3 < s ∨ t < 0 ∨ 3 < t) ∧ z = -2 ∧ M' = M) ∨ ((0 ≤ s ∧ s ≤ 3 ∧ 0 ≤ t ∧ t ≤ 3) ∧ (((M 100 s < 0 ∨ M 100 t < 0) ∧ z = -11 ∧ M' = up M 2 4 1) ∨ ((0 ≤ M 100 s ∧ 0 ≤ M 100 t ∧ M 100 s ≠ M 100 t) ∧ z = -14 ∧ M' = up M 2 4 4) ∨ ((0 ≤ M 100 s ∧ M 100 s = M 100 t) ∧ (i < 0 ∨ j < 0 ∨ n < 0 ∨ M 101 s < i + n ∨ M 101 t < j + n) ∧ z = -12 ∧ M' = up M 2 4 2) ∨ ((0 ≤ M 100 s ∧ M 100 s = M 100 t) ∧ (0 ≤ i ∧ 0 ≤ j ∧ 0 ≤ n ∧ i + n ≤ M 101 s ∧ j + n ≤ M 101 t) ∧ z = 1 ∧ M' = cpy (cpy M 102 (60 * s + i) 103 0 n) 103 0 102 (60 * t + j) n))))) := by
  refine tx_S.ofk (lv := [(0, _), (1, _), (2, _), (3, _), (4, _), (5, _)]) [1, 1, 1, 1, 1, 1] (by decide) (by simp only [List.map_cons, List.map_nil, cat_i, cat_l, cat_r]) (by decide) rfl (fun E O F => ?_)
  have K2 : (0 ≤ s ∧ s ≤ 3 ∧ 0 ≤ t ∧ t ≤ 3) → (0 ≤ M 100 s ∧ M 100 s = M 100 t) → (0 ≤ i ∧ 0 ≤ j ∧ 0 ≤ n ∧ i + n ≤ M 101 s ∧ j + n ≤ M 101 t) → ∀ (k : Int) (M' : TM), (0 ≤ k ∧ k ≤ n ∧ M' = cpy (cpy M 102 (60 * s + i) 103 0 n) 103 0 102 (60 * t + j) k) → tx_X w E 157 [(6, iV k), (0, rV (wa w) 2), (1, iV s), (2, iV i), (3, iV t), (4, iV j), (5, iV n)] [] R M' := by
    intro g1 g2 g3
    have hq := hm s (by omega) (by omega)
    have hq2 := hm t (by omega) (by omega)
    refine lp_up _ _ n ?_
    rintro k M' ⟨h1, h2, rfl⟩ ih
    refine tx_iload (pc := 157) 0 O dX6_copy_157 rfl ?_
    refine tx_iload (pc := 159) 6 O dX6_copy_159 rfl ?_
    refine tx_icmp_ge (pc := 161) 192 O dX6_copy_161 rfl (by omega) (fun c161 => ?_) (fun c161 => ?_)
    · refine tx_iconst (pc := 192) O dX6_copy_192 ?_
      exact tx_iret O F dX6_copy_193 (tx_QI.mk (Or.inr ⟨g1, Or.inr (Or.inr (Or.inr ⟨g2, g3, rfl, by rw [show k = n by omega]⟩))⟩))
    · refine tx_aload_n (pc := 164) 1 O dX6_copy_164 rfl rfl ?_
      refine fX6_16 (pc := 165) O hR dX6_copy_165 ?_
      refine tx_bipush (pc := 168) O dX6_copy_168 (by decide) ?_
      refine tx_iload_n (pc := 170) 4 O dX6_copy_170 rfl rfl ?_
      refine tx_imul (pc := 171) O dX6_copy_171 ?_
      refine tx_iload (pc := 172) 5 O dX6_copy_172 rfl ?_
      refine tx_iadd (pc := 174) O dX6_copy_174 ?_
      refine tx_iload (pc := 175) 0 O dX6_copy_175 rfl ?_
      refine tx_iadd (pc := 177) O dX6_copy_177 ?_
      refine tx_aload_n (pc := 178) 1 O dX6_copy_178 rfl rfl ?_
      refine fX6_19 (pc := 179) O hR dX6_copy_179 ?_
      refine tx_iload (pc := 182) 0 O dX6_copy_182 rfl ?_
      refine tx_iald (pc := 184) _ O dX6_copy_184 (sh_103 w) (by omega) ?_
      rw [cpy_src _ (by decide)]
      refine tx_iast (pc := 185) _ O dX6_copy_185 (sh_102 w) (by omega) ?_
      rw [show up (cpy (cpy M 102 (60 * s + i) 103 0 n) 103 0 102 (60 * t + j) k) 102 (60 * t + j + k) (cpy M 102 (60 * s + i) 103 0 n 103 k) = cpy (cpy M 102 (60 * s + i) 103 0 n) 103 0 102 (60 * t + j) (k + 1) by rw [← cpy_up _ h1, show (0 + k : Int) = k by omega]]
      refine tx_iinc (pc := 186) (lv' := [(6, _), (0, _), (1, _), (2, _), (3, _), (4, _), (5, _)]) 0 O dX6_copy_186 rfl (by decide) rfl ?_
      refine tx_goto (pc := 189) 157 O dX6_copy_189 rfl ?_
      exact ih _ _ ⟨by omega, by omega, rfl⟩ (by omega) (by omega)
  have K1 : (0 ≤ s ∧ s ≤ 3 ∧ 0 ≤ t ∧ t ≤ 3) → (0 ≤ M 100 s ∧ M 100 s = M 100 t) → (0 ≤ i ∧ 0 ≤ j ∧ 0 ≤ n ∧ i + n ≤ M 101 s ∧ j + n ≤ M 101 t) → ∀ (k : Int) (M' : TM), (0 ≤ k ∧ k ≤ n ∧ M' = cpy M 102 (60 * s + i) 103 0 k) → tx_X w E 120 [(6, iV k), (0, rV (wa w) 2), (1, iV s), (2, iV i), (3, iV t), (4, iV j), (5, iV n)] [] R M' := by
    intro g1 g2 g3
    have hq := hm s (by omega) (by omega)
    have hq2 := hm t (by omega) (by omega)
    refine lp_up _ _ n ?_
    rintro k M' ⟨h1, h2, rfl⟩ ih
    refine tx_iload (pc := 120) 0 O dX6_copy_120 rfl ?_
    refine tx_iload (pc := 122) 6 O dX6_copy_122 rfl ?_
    refine tx_icmp_ge (pc := 124) 154 O dX6_copy_124 rfl (by omega) (fun c124 => ?_) (fun c124 => ?_)
    · refine tx_iconst (pc := 154) O dX6_copy_154 ?_
      refine tx_istore (pc := 155) (lv' := [(6, _), (0, _), (1, _), (2, _), (3, _), (4, _), (5, _)]) O dX6_copy_155 (by decide) rfl ?_
      exact K2 g1 g2 g3 0 _ ⟨by omega, by omega, by rw [cpy_0, show k = n by omega]⟩
    · refine tx_aload_n (pc := 127) 1 O dX6_copy_127 rfl rfl ?_
      refine fX6_19 (pc := 128) O hR dX6_copy_128 ?_
      refine tx_iload (pc := 131) 0 O dX6_copy_131 rfl ?_
      refine tx_aload_n (pc := 133) 1 O dX6_copy_133 rfl rfl ?_
      refine fX6_16 (pc := 134) O hR dX6_copy_134 ?_
      refine tx_bipush (pc := 137) O dX6_copy_137 (by decide) ?_
      refine tx_iload_n (pc := 139) 2 O dX6_copy_139 rfl rfl ?_
      refine tx_imul (pc := 140) O dX6_copy_140 ?_
      refine tx_iload_n (pc := 141) 3 O dX6_copy_141 rfl rfl ?_
      refine tx_iadd (pc := 142) O dX6_copy_142 ?_
      refine tx_iload (pc := 143) 0 O dX6_copy_143 rfl ?_
      refine tx_iadd (pc := 145) O dX6_copy_145 ?_
      refine tx_iald (pc := 146) _ O dX6_copy_146 (sh_102 w) (by omega) ?_
      rw [cpy_src _ (by decide)]
      refine tx_iast (pc := 147) _ O dX6_copy_147 (sh_103 w) (by omega) ?_
      rw [show up (cpy M 102 (60 * s + i) 103 0 k) 103 k (M 102 (60 * s + i + k)) = cpy M 102 (60 * s + i) 103 0 (k + 1) by rw [← cpy_up _ h1, show (0 + k : Int) = k by omega]]
      refine tx_iinc (pc := 148) (lv' := [(6, _), (0, _), (1, _), (2, _), (3, _), (4, _), (5, _)]) 0 O dX6_copy_148 rfl (by decide) rfl ?_
      refine tx_goto (pc := 151) 120 O dX6_copy_151 rfl ?_
      exact ih _ _ ⟨by omega, by omega, rfl⟩ (by omega) (by omega)
  refine tx_iload_n (pc := 0) 1 O dX6_copy_0 rfl rfl ?_
  refine tx_cS1 (pc := 1) O dX6_copy_1 q906 vX6_isSheet (by decide) (Nat.zero_le _) (sX6_isSheet w _ _ _ (by omega)) (k_P (fun z1 h1 => ?_))
  refine tx_if_eq (pc := 4) 14 O dX6_copy_4 rfl (by omega) (fun c4 => ?_) (fun c4 => ?_)
  · refine tx_bipush (pc := 14) O dX6_copy_14 (by decide) ?_
    exact tx_iret O F dX6_copy_16 (tx_QI.mk (Or.inl ⟨by omega, rfl, rfl⟩))
  · refine tx_iload_n (pc := 7) 3 O dX6_copy_7 rfl rfl ?_
    refine tx_cS1 (pc := 8) O dX6_copy_8 q906 vX6_isSheet (by decide) (Nat.zero_le _) (sX6_isSheet w _ _ _ (by omega)) (k_P (fun z8 h8 => ?_))
    refine tx_if_ne (pc := 11) 17 O dX6_copy_11 rfl (by omega) (fun c11 => ?_) (fun c11 => ?_)
    · have hq := hm s (by omega) (by omega)
      have hq2 := hm t (by omega) (by omega)
      refine tx_aload_n (pc := 17) 0 O dX6_copy_17 rfl rfl ?_
      refine fX6_7 (pc := 18) O hR dX6_copy_18 ?_
      refine tx_iload_n (pc := 21) 1 O dX6_copy_21 rfl rfl ?_
      refine tx_iald (pc := 22) _ O dX6_copy_22 (sh_100 w) (by omega) ?_
      refine tx_if_lt (pc := 23) 35 O dX6_copy_23 rfl (by omega) (fun c23 => ?_) (fun c23 => ?_)
      · refine tx_aload_n (pc := 35) 0 O dX6_copy_35 rfl rfl ?_
        refine tx_iconst (pc := 36) O dX6_copy_36 ?_
        refine tx_cV1 (pc := 37) O dX6_copy_37 q914 vX6_finds (sh_2 w) rfl (by decide) (Nat.zero_le _) (sX6_finds w _ _ _) (k_I (fun z37 M37 h37 => ?_))
        exact tx_iret O F dX6_copy_40 (tx_QI.mk (Or.inr ⟨by omega, Or.inl ⟨by omega, by omega, h37.2⟩⟩))
      · refine tx_aload_n (pc := 26) 0 O dX6_copy_26 rfl rfl ?_
        refine fX6_7 (pc := 27) O hR dX6_copy_27 ?_
        refine tx_iload_n (pc := 30) 3 O dX6_copy_30 rfl rfl ?_
        refine tx_iald (pc := 31) _ O dX6_copy_31 (sh_100 w) (by omega) ?_
        refine tx_if_ge (pc := 32) 41 O dX6_copy_32 rfl (by omega) (fun c32 => ?_) (fun c32 => ?_)
        · refine tx_aload_n (pc := 41) 0 O dX6_copy_41 rfl rfl ?_
          refine fX6_7 (pc := 42) O hR dX6_copy_42 ?_
          refine tx_iload_n (pc := 45) 1 O dX6_copy_45 rfl rfl ?_
          refine tx_iald (pc := 46) _ O dX6_copy_46 (sh_100 w) (by omega) ?_
          refine tx_aload_n (pc := 47) 0 O dX6_copy_47 rfl rfl ?_
          refine fX6_7 (pc := 48) O hR dX6_copy_48 ?_
          refine tx_iload_n (pc := 51) 3 O dX6_copy_51 rfl rfl ?_
          refine tx_iald (pc := 52) _ O dX6_copy_52 (sh_100 w) (by omega) ?_
          refine tx_icmp_eq (pc := 53) 62 O dX6_copy_53 rfl (by omega) (fun c53 => ?_) (fun c53 => ?_)
          · refine tx_iload_n (pc := 62) 2 O dX6_copy_62 rfl rfl ?_
            refine tx_if_lt (pc := 63) 111 O dX6_copy_63 rfl (by omega) (fun c63 => ?_) (fun c63 => ?_)
            · refine tx_aload_n (pc := 111) 0 O dX6_copy_111 rfl rfl ?_
              refine tx_iconst (pc := 112) O dX6_copy_112 ?_
              refine tx_cV1 (pc := 113) O dX6_copy_113 q914 vX6_finds (sh_2 w) rfl (by decide) (Nat.zero_le _) (sX6_finds w _ _ _) (k_I (fun z113 M113 h113 => ?_))
              exact tx_iret O F dX6_copy_116 (tx_QI.mk (Or.inr ⟨by omega, Or.inr (Or.inr (Or.inl ⟨by omega, by omega, by omega, h113.2⟩))⟩))
            · refine tx_iload (pc := 66) 4 O dX6_copy_66 rfl ?_
              refine tx_if_lt (pc := 68) 111 O dX6_copy_68 rfl (by omega) (fun c68 => ?_) (fun c68 => ?_)
              · refine tx_aload_n (pc := 111) 0 O dX6_copy_111 rfl rfl ?_
                refine tx_iconst (pc := 112) O dX6_copy_112 ?_
                refine tx_cV1 (pc := 113) O dX6_copy_113 q914 vX6_finds (sh_2 w) rfl (by decide) (Nat.zero_le _) (sX6_finds w _ _ _) (k_I (fun z113 M113 h113 => ?_))
                exact tx_iret O F dX6_copy_116 (tx_QI.mk (Or.inr ⟨by omega, Or.inr (Or.inr (Or.inl ⟨by omega, by omega, by omega, h113.2⟩))⟩))
              · refine tx_iload (pc := 71) 5 O dX6_copy_71 rfl ?_
                refine tx_if_lt (pc := 73) 111 O dX6_copy_73 rfl (by omega) (fun c73 => ?_) (fun c73 => ?_)
                · refine tx_aload_n (pc := 111) 0 O dX6_copy_111 rfl rfl ?_
                  refine tx_iconst (pc := 112) O dX6_copy_112 ?_
                  refine tx_cV1 (pc := 113) O dX6_copy_113 q914 vX6_finds (sh_2 w) rfl (by decide) (Nat.zero_le _) (sX6_finds w _ _ _) (k_I (fun z113 M113 h113 => ?_))
                  exact tx_iret O F dX6_copy_116 (tx_QI.mk (Or.inr ⟨by omega, Or.inr (Or.inr (Or.inl ⟨by omega, by omega, by omega, h113.2⟩))⟩))
                · refine tx_iload_n (pc := 76) 2 O dX6_copy_76 rfl rfl ?_
                  refine tx_i2l (pc := 77) O dX6_copy_77 (by omega) ?_
                  refine tx_iload (pc := 78) 5 O dX6_copy_78 rfl ?_
                  refine tx_i2l (pc := 80) O dX6_copy_80 (by omega) ?_
                  refine tx_ladd (pc := 81) O dX6_copy_81 ?_
                  refine tx_aload_n (pc := 82) 0 O dX6_copy_82 rfl rfl ?_
                  refine fX6_13 (pc := 83) O hR dX6_copy_83 ?_
                  refine tx_iload_n (pc := 86) 1 O dX6_copy_86 rfl rfl ?_
                  refine tx_iald (pc := 87) _ O dX6_copy_87 (sh_101 w) (by omega) ?_
                  refine tx_i2l (pc := 88) O dX6_copy_88 (by omega) ?_
                  refine tx_lif_gt (pc := 89) 111 O dX6_copy_89 dX6_copy_90 rfl (by omega) (by omega) (fun c89 => ?_) (fun c89 => ?_)
                  · refine tx_aload_n (pc := 111) 0 O dX6_copy_111 rfl rfl ?_
                    refine tx_iconst (pc := 112) O dX6_copy_112 ?_
                    refine tx_cV1 (pc := 113) O dX6_copy_113 q914 vX6_finds (sh_2 w) rfl (by decide) (Nat.zero_le _) (sX6_finds w _ _ _) (k_I (fun z113 M113 h113 => ?_))
                    exact tx_iret O F dX6_copy_116 (tx_QI.mk (Or.inr ⟨by omega, Or.inr (Or.inr (Or.inl ⟨by omega, by omega, by omega, h113.2⟩))⟩))
                  · refine tx_iload (pc := 93) 4 O dX6_copy_93 rfl ?_
                    refine tx_i2l (pc := 95) O dX6_copy_95 (by omega) ?_
                    refine tx_iload (pc := 96) 5 O dX6_copy_96 rfl ?_
                    refine tx_i2l (pc := 98) O dX6_copy_98 (by omega) ?_
                    refine tx_ladd (pc := 99) O dX6_copy_99 ?_
                    refine tx_aload_n (pc := 100) 0 O dX6_copy_100 rfl rfl ?_
                    refine fX6_13 (pc := 101) O hR dX6_copy_101 ?_
                    refine tx_iload_n (pc := 104) 3 O dX6_copy_104 rfl rfl ?_
                    refine tx_iald (pc := 105) _ O dX6_copy_105 (sh_101 w) (by omega) ?_
                    refine tx_i2l (pc := 106) O dX6_copy_106 (by omega) ?_
                    refine tx_lif_le (pc := 107) 117 O dX6_copy_107 dX6_copy_108 rfl (by omega) (by omega) (fun c107 => ?_) (fun c107 => ?_)
                    · refine tx_iconst (pc := 117) O dX6_copy_117 ?_
                      refine tx_istore (pc := 118) (lv' := [(6, _), (0, _), (1, _), (2, _), (3, _), (4, _), (5, _)]) O dX6_copy_118 (by decide) rfl ?_
                      exact K1 (by omega) (by omega) (by omega) 0 _ ⟨by omega, by omega, (cpy_0 _ _ _ _ _).symm⟩
                    · refine tx_aload_n (pc := 111) 0 O dX6_copy_111 rfl rfl ?_
                      refine tx_iconst (pc := 112) O dX6_copy_112 ?_
                      refine tx_cV1 (pc := 113) O dX6_copy_113 q914 vX6_finds (sh_2 w) rfl (by decide) (Nat.zero_le _) (sX6_finds w _ _ _) (k_I (fun z113 M113 h113 => ?_))
                      exact tx_iret O F dX6_copy_116 (tx_QI.mk (Or.inr ⟨by omega, Or.inr (Or.inr (Or.inl ⟨by omega, by omega, by omega, h113.2⟩))⟩))
          · refine tx_aload_n (pc := 56) 0 O dX6_copy_56 rfl rfl ?_
            refine tx_iconst (pc := 57) O dX6_copy_57 ?_
            refine tx_cV1 (pc := 58) O dX6_copy_58 q914 vX6_finds (sh_2 w) rfl (by decide) (Nat.zero_le _) (sX6_finds w _ _ _) (k_I (fun z58 M58 h58 => ?_))
            exact tx_iret O F dX6_copy_61 (tx_QI.mk (Or.inr ⟨by omega, Or.inr (Or.inl ⟨by omega, by omega, h58.2⟩)⟩))
        · refine tx_aload_n (pc := 35) 0 O dX6_copy_35 rfl rfl ?_
          refine tx_iconst (pc := 36) O dX6_copy_36 ?_
          refine tx_cV1 (pc := 37) O dX6_copy_37 q914 vX6_finds (sh_2 w) rfl (by decide) (Nat.zero_le _) (sX6_finds w _ _ _) (k_I (fun z37 M37 h37 => ?_))
          exact tx_iret O F dX6_copy_40 (tx_QI.mk (Or.inr ⟨by omega, Or.inl ⟨by omega, by omega, h37.2⟩⟩))
    · refine tx_bipush (pc := 14) O dX6_copy_14 (by decide) ?_
      exact tx_iret O F dX6_copy_16 (tx_QI.mk (Or.inl ⟨by omega, rfl, rfl⟩))
/-- how much was typed, sane -/
def mTy (M : TM) : Prop := 0 ≤ M 106 0 ∧ M 106 0 ≤ 59 ∧ 0 ≤ M 106 1 ∧ M 106 1 ≤ 23
theorem sX6_type (w : WT) (t b : Int) (R M : TM) (hR : RL R) (hm : mTy M) (ht : rng t) (hb : rng b) : tx_S w yX6_type cX6_type 3 (some .int) 3 [rV (wa w) 2, iV t, iV b] R M (QI R (fun z M' => ((t < 0 ∨ 1 < t ∨ b < 0 ∨ 255 < b) ∧ z = -2 ∧ M' = M) ∨ ((0 ≤ t ∧ t ≤ 1 ∧ 0 ≤ b ∧ b ≤ 255) ∧ ((M 106 t = 59 - 36 * t ∧ z = -4 ∧ M' = M) ∨ (M 106 t < 59 - 36 * t ∧ z = M 106 t + 1 ∧ M' = up (up M 105 (60 * t + M 106 t) b) 106 t (M 106 t + 1)))))) := by
  refine tx_S.ofk (lv := [(0, _), (1, _), (2, _)]) [1, 1, 1] (by decide) (by simp only [List.map_cons, List.map_nil, cat_i, cat_l, cat_r]) (by decide) rfl (fun E O F => ?_)
  have hx : 0 ≤ t → t ≤ 1 → 0 ≤ M 106 t ∧ M 106 t ≤ 59 - 36 * t := by
    intro h1 h2
    obtain ⟨q1, q2, q3, q4⟩ := hm
    rcases (show t = 0 ∨ t = 1 by omega) with e | e <;> subst e <;> omega
  refine tx_iload_n (pc := 0) 1 O dX6_type_0 rfl rfl ?_
  refine tx_cS1 (pc := 1) O dX6_type_1 q946 vX6_isTwo (by decide) (Nat.zero_le _) (sX6_isTwo w _ _ _ (by omega)) (k_P (fun z1 h1 => ?_))
  refine tx_if_eq (pc := 4) 19 O dX6_type_4 rfl (by omega) (fun c4 => ?_) (fun c4 => ?_)
  · refine tx_bipush (pc := 19) O dX6_type_19 (by decide) ?_
    exact tx_iret O F dX6_type_21 (tx_QI.mk (Or.inl ⟨by omega, rfl, rfl⟩))
  · refine tx_iload_n (pc := 7) 2 O dX6_type_7 rfl rfl ?_
    refine tx_i2l (pc := 8) O dX6_type_8 (by omega) ?_
    refine tx_lconst0 (pc := 9) O dX6_type_9 ?_
    refine tx_ldc2 (pc := 10) (z := 255) O dX6_type_10 q949 rfl ?_
    refine tx_cS3 (pc := 13) O dX6_type_13 q910 vX6_in (by decide) (Nat.zero_le _) (sX6_in w _ _ _ _ _ (by omega) (by omega) (by omega)) (k_P (fun z13 h13 => ?_))
    refine tx_if_ne (pc := 16) 22 O dX6_type_16 rfl (by omega) (fun c16 => ?_) (fun c16 => ?_)
    · have hx := hx (by omega) (by omega)
      refine tx_aload_n (pc := 22) 0 O dX6_type_22 rfl rfl ?_
      refine fX6_25 (pc := 23) O hR dX6_type_23 ?_
      refine tx_iload_n (pc := 26) 1 O dX6_type_26 rfl rfl ?_
      refine tx_iald (pc := 27) _ O dX6_type_27 (sh_106 w) (by omega) ?_
      refine tx_iload_n (pc := 28) 1 O dX6_type_28 rfl rfl ?_
      refine tx_if_ne (pc := 29) 37 O dX6_type_29 rfl (by omega) (fun c29 => ?_) (fun c29 => ?_)
      · refine tx_bipush (pc := 37) O dX6_type_37 (by decide) ?_
        refine tx_icmp_ne (pc := 39) 45 O dX6_type_39 rfl (by omega) (fun c39 => ?_) (fun c39 => ?_)
        · refine tx_aload_n (pc := 45) 0 O dX6_type_45 rfl rfl ?_
          refine fX6_22 (pc := 46) O hR dX6_type_46 ?_
          refine tx_bipush (pc := 49) O dX6_type_49 (by decide) ?_
          refine tx_iload_n (pc := 51) 1 O dX6_type_51 rfl rfl ?_
          refine tx_imul (pc := 52) O dX6_type_52 ?_
          refine tx_aload_n (pc := 53) 0 O dX6_type_53 rfl rfl ?_
          refine fX6_25 (pc := 54) O hR dX6_type_54 ?_
          refine tx_iload_n (pc := 57) 1 O dX6_type_57 rfl rfl ?_
          refine tx_iald (pc := 58) _ O dX6_type_58 (sh_106 w) (by omega) ?_
          refine tx_iadd (pc := 59) O dX6_type_59 ?_
          refine tx_iload_n (pc := 60) 2 O dX6_type_60 rfl rfl ?_
          refine tx_iast (pc := 61) _ O dX6_type_61 (sh_105 w) (by omega) ?_
          refine tx_aload_n (pc := 62) 0 O dX6_type_62 rfl rfl ?_
          refine fX6_25 (pc := 63) O hR dX6_type_63 ?_
          refine tx_iload_n (pc := 66) 1 O dX6_type_66 rfl rfl ?_
          refine tx_dup2 (pc := 67) O dX6_type_67 (cat_i _) (cat_r _ _) ?_
          refine tx_iald (pc := 68) _ O dX6_type_68 (sh_106 w) (by omega) ?_
          rw [show up M 105 (60 * t + M 106 t) b 106 t = M 106 t from up_n (by omega)]
          refine tx_iconst (pc := 69) O dX6_type_69 ?_
          refine tx_iadd (pc := 70) O dX6_type_70 ?_
          refine tx_iast (pc := 71) _ O dX6_type_71 (sh_106 w) (by omega) ?_
          refine tx_aload_n (pc := 72) 0 O dX6_type_72 rfl rfl ?_
          refine fX6_25 (pc := 73) O hR dX6_type_73 ?_
          refine tx_iload_n (pc := 76) 1 O dX6_type_76 rfl rfl ?_
          refine tx_iald (pc := 77) _ O dX6_type_77 (sh_106 w) (by omega) ?_
          rw [up_s]
          exact tx_iret O F dX6_type_78 (tx_QI.mk (Or.inr ⟨by omega, Or.inr ⟨by omega, rfl, rfl⟩⟩))
        · refine tx_bipush (pc := 42) O dX6_type_42 (by decide) ?_
          exact tx_iret O F dX6_type_44 (tx_QI.mk (Or.inr ⟨by omega, Or.inl ⟨by omega, rfl, rfl⟩⟩))
      · refine tx_bipush (pc := 32) O dX6_type_32 (by decide) ?_
        refine tx_goto (pc := 34) 39 O dX6_type_34 rfl ?_
        refine tx_icmp_ne (pc := 39) 45 O dX6_type_39 rfl (by omega) (fun c39 => ?_) (fun c39 => ?_)
        · refine tx_aload_n (pc := 45) 0 O dX6_type_45 rfl rfl ?_
          refine fX6_22 (pc := 46) O hR dX6_type_46 ?_
          refine tx_bipush (pc := 49) O dX6_type_49 (by decide) ?_
          refine tx_iload_n (pc := 51) 1 O dX6_type_51 rfl rfl ?_
          refine tx_imul (pc := 52) O dX6_type_52 ?_
          refine tx_aload_n (pc := 53) 0 O dX6_type_53 rfl rfl ?_
          refine fX6_25 (pc := 54) O hR dX6_type_54 ?_
          refine tx_iload_n (pc := 57) 1 O dX6_type_57 rfl rfl ?_
          refine tx_iald (pc := 58) _ O dX6_type_58 (sh_106 w) (by omega) ?_
          refine tx_iadd (pc := 59) O dX6_type_59 ?_
          refine tx_iload_n (pc := 60) 2 O dX6_type_60 rfl rfl ?_
          refine tx_iast (pc := 61) _ O dX6_type_61 (sh_105 w) (by omega) ?_
          refine tx_aload_n (pc := 62) 0 O dX6_type_62 rfl rfl ?_
          refine fX6_25 (pc := 63) O hR dX6_type_63 ?_
          refine tx_iload_n (pc := 66) 1 O dX6_type_66 rfl rfl ?_
          refine tx_dup2 (pc := 67) O dX6_type_67 (cat_i _) (cat_r _ _) ?_
          refine tx_iald (pc := 68) _ O dX6_type_68 (sh_106 w) (by omega) ?_
          rw [show up M 105 (60 * t + M 106 t) b 106 t = M 106 t from up_n (by omega)]
          refine tx_iconst (pc := 69) O dX6_type_69 ?_
          refine tx_iadd (pc := 70) O dX6_type_70 ?_
          refine tx_iast (pc := 71) _ O dX6_type_71 (sh_106 w) (by omega) ?_
          refine tx_aload_n (pc := 72) 0 O dX6_type_72 rfl rfl ?_
          refine fX6_25 (pc := 73) O hR dX6_type_73 ?_
          refine tx_iload_n (pc := 76) 1 O dX6_type_76 rfl rfl ?_
          refine tx_iald (pc := 77) _ O dX6_type_77 (sh_106 w) (by omega) ?_
          rw [up_s]
          exact tx_iret O F dX6_type_78 (tx_QI.mk (Or.inr ⟨by omega, Or.inr ⟨by omega, rfl, rfl⟩⟩))
        · refine tx_bipush (pc := 42) O dX6_type_42 (by decide) ?_
          exact tx_iret O F dX6_type_44 (tx_QI.mk (Or.inr ⟨by omega, Or.inl ⟨by omega, rfl, rfl⟩⟩))
    · refine tx_bipush (pc := 19) O dX6_type_19 (by decide) ?_
      exact tx_iret O F dX6_type_21 (tx_QI.mk (Or.inl ⟨by omega, rfl, rfl⟩))
theorem sX6_wipe (w : WT) (t : Int) (R M : TM) (hR : RL R) (ht : rng t) : tx_S w yX6_wipe cX6_wipe 3 (some .int) 3 [rV (wa w) 2, iV t] R M (QI R (fun z M' => ((t < 0 ∨ 1 < t) ∧ z = -2 ∧ M' = M) ∨ ((0 ≤ t ∧ t ≤ 1) ∧ z = M 106 t ∧ M' = up M 106 t 0))) := by
  refine tx_S.ofk (lv := [(0, _), (1, _)]) [1, 1] (by decide) (by simp only [List.map_cons, List.map_nil, cat_i, cat_l, cat_r]) (by decide) rfl (fun E O F => ?_)
  refine tx_iload_n (pc := 0) 1 O dX6_wipe_0 rfl rfl ?_
  refine tx_cS1 (pc := 1) O dX6_wipe_1 q946 vX6_isTwo (by decide) (Nat.zero_le _) (sX6_isTwo w _ _ _ (by omega)) (k_P (fun z1 h1 => ?_))
  refine tx_if_ne (pc := 4) 10 O dX6_wipe_4 rfl (by omega) (fun c4 => ?_) (fun c4 => ?_)
  · refine tx_aload_n (pc := 10) 0 O dX6_wipe_10 rfl rfl ?_
    refine fX6_25 (pc := 11) O hR dX6_wipe_11 ?_
    refine tx_iload_n (pc := 14) 1 O dX6_wipe_14 rfl rfl ?_
    refine tx_iald (pc := 15) _ O dX6_wipe_15 (sh_106 w) (by omega) ?_
    refine tx_istore_n (pc := 16) (lv' := [(2, _), (0, _), (1, _)]) O dX6_wipe_16 rfl (by decide) rfl ?_
    refine tx_aload_n (pc := 17) 1 O dX6_wipe_17 rfl rfl ?_
    refine fX6_25 (pc := 18) O hR dX6_wipe_18 ?_
    refine tx_iload_n (pc := 21) 2 O dX6_wipe_21 rfl rfl ?_
    refine tx_iconst (pc := 22) O dX6_wipe_22 ?_
    refine tx_iast (pc := 23) _ O dX6_wipe_23 (sh_106 w) (by omega) ?_
    refine tx_iload_n (pc := 24) 0 O dX6_wipe_24 rfl rfl ?_
    exact tx_iret O F dX6_wipe_25 (tx_QI.mk (Or.inr ⟨by omega, rfl, rfl⟩))
  · refine tx_bipush (pc := 7) O dX6_wipe_7 (by decide) ?_
    exact tx_iret O F dX6_wipe_9 (tx_QI.mk (Or.inl ⟨by omega, rfl, rfl⟩))
theorem sX6_undo (w : WT) (t : Int) (R M : TM) (hR : RL R) (hm : mTy M) (ht : rng t) : tx_S w yX6_undo cX6_undo 2 (some .int) 3 [rV (wa w) 2, iV t] R M (QI R (fun z M' => ((t < 0 ∨ 1 < t) ∧ z = -2 ∧ M' = M) ∨ ((0 ≤ t ∧ t ≤ 1) ∧ ((M 106 t = 0 ∧ z = -3 ∧ M' = M) ∨ (0 < M 106 t ∧ z = M 106 t - 1 ∧ M' = up M 106 t (M 106 t - 1)))))) := by
  refine tx_S.ofk (lv := [(0, _), (1, _)]) [1, 1] (by decide) (by simp only [List.map_cons, List.map_nil, cat_i, cat_l, cat_r]) (by decide) rfl (fun E O F => ?_)
  have hx : 0 ≤ t → t ≤ 1 → 0 ≤ M 106 t ∧ M 106 t ≤ 59 - 36 * t := by
    intro h1 h2
    obtain ⟨q1, q2, q3, q4⟩ := hm
    rcases (show t = 0 ∨ t = 1 by omega) with e | e <;> subst e <;> omega
  refine tx_iload_n (pc := 0) 1 O dX6_undo_0 rfl rfl ?_
  refine tx_cS1 (pc := 1) O dX6_undo_1 q946 vX6_isTwo (by decide) (Nat.zero_le _) (sX6_isTwo w _ _ _ (by omega)) (k_P (fun z1 h1 => ?_))
  refine tx_if_ne (pc := 4) 10 O dX6_undo_4 rfl (by omega) (fun c4 => ?_) (fun c4 => ?_)
  · have hx := hx (by omega) (by omega)
    refine tx_aload_n (pc := 10) 0 O dX6_undo_10 rfl rfl ?_
    refine fX6_25 (pc := 11) O hR dX6_undo_11 ?_
    refine tx_iload_n (pc := 14) 1 O dX6_undo_14 rfl rfl ?_
    refine tx_iald (pc := 15) _ O dX6_undo_15 (sh_106 w) (by omega) ?_
    refine tx_if_ne (pc := 16) 22 O dX6_undo_16 rfl (by omega) (fun c16 => ?_) (fun c16 => ?_)
    · refine tx_aload_n (pc := 22) 0 O dX6_undo_22 rfl rfl ?_
      refine fX6_25 (pc := 23) O hR dX6_undo_23 ?_
      refine tx_iload_n (pc := 26) 1 O dX6_undo_26 rfl rfl ?_
      refine tx_dup2 (pc := 27) O dX6_undo_27 (cat_i _) (cat_r _ _) ?_
      refine tx_iald (pc := 28) _ O dX6_undo_28 (sh_106 w) (by omega) ?_
      refine tx_iconst (pc := 29) O dX6_undo_29 ?_
      refine tx_isub (pc := 30) O dX6_undo_30 ?_
      refine tx_iast (pc := 31) _ O dX6_undo_31 (sh_106 w) (by omega) ?_
      refine tx_aload_n (pc := 32) 0 O dX6_undo_32 rfl rfl ?_
      refine fX6_25 (pc := 33) O hR dX6_undo_33 ?_
      refine tx_iload_n (pc := 36) 1 O dX6_undo_36 rfl rfl ?_
      refine tx_iald (pc := 37) _ O dX6_undo_37 (sh_106 w) (by omega) ?_
      rw [up_s]
      exact tx_iret O F dX6_undo_38 (tx_QI.mk (Or.inr ⟨by omega, Or.inr ⟨by omega, rfl, rfl⟩⟩))
    · refine tx_bipush (pc := 19) O dX6_undo_19 (by decide) ?_
      exact tx_iret O F dX6_undo_21 (tx_QI.mk (Or.inr ⟨by omega, Or.inl ⟨by omega, rfl, rfl⟩⟩))
  · refine tx_bipush (pc := 7) O dX6_undo_7 (by decide) ?_
    exact tx_iret O F dX6_undo_9 (tx_QI.mk (Or.inl ⟨by omega, rfl, rfl⟩))
theorem sX6_tunesFault (w : WT) (p : Int) (R M : TM) : tx_S w yX6_tunesFault cX6_tunesFault 2 (some .int) 1 [rV (wa w) 2, iV p] R M (QI R (fun z M' => z = p ∧ M' = up M 2 7 0)) := by
  refine tx_S.ofk (lv := [(0, _), (1, _)]) [1, 1] (by decide) (by simp only [List.map_cons, List.map_nil, cat_i, cat_l, cat_r]) (by decide) rfl (fun E O F => ?_)
  refine tx_aload_n (pc := 0) 0 O dX6_tunesFault_0 rfl rfl ?_
  refine tx_iconst (pc := 1) O dX6_tunesFault_1 ?_
  refine fX6_112p (pc := 2) O dX6_tunesFault_2 ?_
  refine tx_iload_n (pc := 5) 1 O dX6_tunesFault_5 rfl rfl ?_
  exact tx_iret O F dX6_tunesFault_6 (tx_QI.mk ⟨rfl, rfl⟩)

