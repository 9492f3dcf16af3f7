/-! COMPONENT, sheets: lay, get -/
set_option maxRecDepth 100000
theorem kF_k (f : Int) : kF f = 1 ∨ kF f = 3 ∨ kF f = 4 := by
  unfold kF
  by_cases h : f = 0
  · rw [if_pos h]; omega
  · rw [if_neg h]
    by_cases h2 : f = 1
    · rw [if_pos h2]; omega
    · rw [if_neg h2]; omega
theorem kF_ne {f g : Int} (h : f ≠ g) (hf : 0 ≤ f ∧ f ≤ 2) (hg : 0 ≤ g ∧ g ≤ 2) : kF f ≠ kF g := by
  have h1 : f = 0 ∨ f = 1 ∨ f = 2 := by omega
  have h2 : g = 0 ∨ g = 1 ∨ g = 2 := by omega
  rcases h1 with e | e | e <;> subst e <;> rcases h2 with e | e | e <;> subst e <;> first | exact absurd rfl h | decide
theorem tx_O.J {w : WT} {own : String} {cc : ByteArray} {nL fr : Nat} {E : ET} (O : tx_O w own cc nL fr E) : tx_J w := by
  obtain ⟨p, e, Rm, s, m, args, below, meth, c, cells, slots, Z⟩ := E
  exact O.2.2.2.2.2.2.1
theorem ct_npe {pc hp a b : Nat} {r : List (Nat × Nat × Nat × Nat)} (h : a ≤ pc ∧ pc < b) : tx_ct RX0 "java/lang/NullPointerException" pc hp ((a, b, hp, 335) :: r) := ⟨⟨h.1, h.2, by show (335 : Nat) ≠ 0; decide⟩, _, q719, Or.inl ⟨rfl, Or.inl rfl⟩⟩
theorem ct_cce {pc hp a b x : Nat} {r : List (Nat × Nat × Nat × Nat)} (h : a ≤ pc ∧ pc < b) : tx_ct RX0 "java/lang/ClassCastException" pc hp ((a, b, x, 335) :: (a, b, hp, 337) :: r) := ⟨⟨h.1, h.2, by show (335 : Nat) ≠ 0; decide⟩, _, q719, Or.inr ⟨by decide, ⟨h.1, h.2, by show (337 : Nat) ≠ 0; decide⟩, _, q744, Or.inl ⟨rfl, Or.inl rfl⟩⟩⟩
theorem ct_aio {pc hp a b x y : Nat} {r : List (Nat × Nat × Nat × Nat)} (h : a ≤ pc ∧ pc < b) : tx_ct RX0 "java/lang/ArrayIndexOutOfBoundsException" pc hp ((a, b, x, 335) :: (a, b, y, 337) :: (a, b, hp, 339) :: r) := ⟨⟨h.1, h.2, by show (335 : Nat) ≠ 0; decide⟩, _, q719, Or.inr ⟨by decide, ⟨h.1, h.2, by show (337 : Nat) ≠ 0; decide⟩, _, q744, Or.inr ⟨by decide, ⟨h.1, h.2, by show (339 : Nat) ≠ 0; decide⟩, _, q758, Or.inl ⟨rfl, Or.inl rfl⟩⟩⟩⟩
def layC (w : WT) (s form i v : Int) (n : Nat) (R M : TM) (z : Int) (M' : TM) : Prop := ((s < 0 ∨ 3 < s ∨ form < 0 ∨ 2 < form) ∧ z = -2 ∧ M' = M) ∨ ((0 ≤ s ∧ s ≤ 3 ∧ 0 ≤ form ∧ form ≤ 2) ∧ ((R (600 + s) 1 = 0 ∧ z = -11 ∧ M' = up M 1 22 1) ∨ (shC w R M s n ∧ M (600 + s) 0 ≠ form ∧ z = -13 ∧ M' = up M 1 22 3) ∨ (shC w R M s n ∧ M (600 + s) 0 = form ∧ ¬ (0 ≤ i ∧ i < n) ∧ z = -12 ∧ M' = up M 1 22 2) ∨ (shC w R M s n ∧ M (600 + s) 0 = form ∧ (0 ≤ i ∧ i < n) ∧ z = 1 ∧ M' = up M (R (600 + s) 1) i (zcut form v))))
theorem sX0_lay (w : WT) (s form i v : Int) (n : Nat) (R M : TM) (hR : RL R) (hs : rng s) (hf : rng form) (hi : rng i) (hc : 0 ≤ s → s ≤ 3 → R (600 + s) 1 = 0 ∨ shC w R M s n) : tx_G w yX0_lay (wsW_ yX0_lay cX0_lay 6 (some .int) [(19, 36, 37, 335), (19, 36, 45, 337), (19, 36, 53, 339)]) 171 3 610 [rV (wa w) 1, iV s, iV form, iV i, iV v] R M (fun r w' R' M' => w' = w ∧ R' = R ∧ ∃ z : Int, r = some (iV z) ∧ layC w s form i v n R M z M') := by
  refine tx_G.ofWk (lv := [(0, _), (1, _), (2, _), (3, _), (4, _)]) [1, 1, 1, 1, 1] (by decide) (by simp only [List.map_cons, List.map_nil, cat_i, cat_l, cat_r]) (by decide) rfl (fun E O F e0 e1 => ?_)
  obtain ⟨r1, r2, hB⟩ := F.room
  have hJ := O.J
  have K : (0 ≤ s ∧ s ≤ 3 ∧ 0 ≤ form ∧ form ≤ 2) → tx_X w E 32 [(0, rV (wa w) 1), (1, iV s), (2, iV form), (3, iV i), (4, iV v)] [iV v, iV i, iV form, rV (wa w) (R (600 + s) 1)] R M := by
    intro g
    rcases hc (by omega) (by omega) with e | e
    · rw [e]
      refine tx_callT (pc := 32) (As := [_, _, _, _]) (rest := []) (hp := 37) O F tx_ext.rf ⟨e0, e1⟩ ⟨by decide, by decide⟩ dX0_lay_32 q777 vX0_laid (by decide) rfl (Nat.zero_le _) (tX0_laid_npe w _ _ _ _ _ hf) (ct_npe (by decide)) (fun x => ?_)
      have O := O.at F tx_ext.rf hJ (a := 3) (b := 610) (by decide) (by decide)
      have F := F.at (a := 3) (b := 610) (by decide) (by decide)
      refine tx_astx (pc := 37) O dX0_lay_37 (by decide) (by simp only [List.filter_cons, List.filter_nil, cat_r, cat_i, cat_l]; rfl) ?_
      refine tx_aload_n (pc := 39) 0 O dX0_lay_39 rfl rfl ?_
      refine tx_iconst (pc := 40) O dX0_lay_40 ?_
      refine tx_cV1 (pc := 41) O dX0_lay_41 q203 vX0_meets (sh_1 w) rfl (by decide) (Nat.zero_le _) (sX0_meets w _ _ _) (k_I (fun z41 M41 h41 => ?_))
      exact tx_iretG O F tx_ext.rf dX0_lay_44 ⟨rfl, rfl, _, rfl, Or.inr ⟨g, Or.inl ⟨e, by omega, h41.2⟩⟩⟩
    · by_cases hk : M (600 + s) 0 = form
      · by_cases hj : 0 ≤ i ∧ i < n
        · refine tx_cS4 (pc := 32) O dX0_lay_32 q777 vX0_laid (by decide) (Nat.zero_le _) (sX0_laid w _ _ _ _ n _ _ (by rw [← hk]; exact e.1) hf hj) (k_V (fun M32 h32 => ?_))
          refine tx_iconst (pc := 35) O dX0_lay_35 ?_
          exact tx_iretG O F tx_ext.rf dX0_lay_36 ⟨rfl, rfl, _, rfl, Or.inr ⟨g, Or.inr (Or.inr (Or.inr ⟨e, hk, hj, rfl, h32⟩))⟩⟩
        · refine tx_callT (pc := 32) (As := [_, _, _, _]) (rest := []) (hp := 53) O F tx_ext.rf ⟨e0, e1⟩ ⟨by decide, by decide⟩ dX0_lay_32 q777 vX0_laid (by decide) rfl (Nat.zero_le _) (tX0_laid_aio w _ _ _ _ _ _ hf n (by rw [← hk]; exact e.1) hi hj) (ct_aio (by decide)) (fun x => ?_)
          have O := O.at F tx_ext.rf hJ (a := 3) (b := 610) (by decide) (by decide)
          have F := F.at (a := 3) (b := 610) (by decide) (by decide)
          refine tx_astx (pc := 53) O dX0_lay_53 (by decide) (by simp only [List.filter_cons, List.filter_nil, cat_r, cat_i, cat_l]; rfl) ?_
          refine tx_aload_n (pc := 55) 0 O dX0_lay_55 rfl rfl ?_
          refine tx_iconst (pc := 56) O dX0_lay_56 ?_
          refine tx_cV1 (pc := 57) O dX0_lay_57 q203 vX0_meets (sh_1 w) rfl (by decide) (Nat.zero_le _) (sX0_meets w _ _ _) (k_I (fun z57 M57 h57 => ?_))
          exact tx_iretG O F tx_ext.rf dX0_lay_60 ⟨rfl, rfl, _, rfl, Or.inr ⟨g, Or.inr (Or.inr (Or.inl ⟨e, hk, hj, by omega, h57.2⟩))⟩⟩
      · refine tx_callT (pc := 32) (As := [_, _, _, _]) (rest := []) (hp := 45) O F tx_ext.rf ⟨e0, e1⟩ ⟨by decide, by decide⟩ dX0_lay_32 q777 vX0_laid (by decide) rfl (Nat.zero_le _) (tX0_laid_cce w _ _ _ _ _ _ hf _ n e.1 ⟨kF_k _, kF_ne hk e.2.1 (by omega)⟩) (ct_cce (by decide)) (fun x => ?_)
        have O := O.at F tx_ext.rf hJ (a := 3) (b := 610) (by decide) (by decide)
        have F := F.at (a := 3) (b := 610) (by decide) (by decide)
        refine tx_astx (pc := 45) O dX0_lay_45 (by decide) (by simp only [List.filter_cons, List.filter_nil, cat_r, cat_i, cat_l]; rfl) ?_
        refine tx_aload_n (pc := 47) 0 O dX0_lay_47 rfl rfl ?_
        refine tx_iconst (pc := 48) O dX0_lay_48 ?_
        refine tx_cV1 (pc := 49) O dX0_lay_49 q203 vX0_meets (sh_1 w) rfl (by decide) (Nat.zero_le _) (sX0_meets w _ _ _) (k_I (fun z49 M49 h49 => ?_))
        exact tx_iretG O F tx_ext.rf dX0_lay_52 ⟨rfl, rfl, _, rfl, Or.inr ⟨g, Or.inr (Or.inl ⟨e, hk, by omega, h49.2⟩)⟩⟩
  refine tx_iload_n (pc := 0) 1 O dX0_lay_0 rfl rfl ?_
  refine tx_cS1 (pc := 1) O dX0_lay_1 q200 vX0_isSheet (by decide) (Nat.zero_le _) (sX0_isSheet w _ _ _ (by omega)) (k_P (fun z1 h1 => ?_))
  refine tx_if_eq (pc := 4) 16 O dX0_lay_4 rfl (by omega) (fun c4 => ?_) (fun c4 => ?_)
  · refine tx_bipush (pc := 16) O dX0_lay_16 (by decide) ?_
    exact tx_iretG O F tx_ext.rf dX0_lay_18 ⟨rfl, rfl, _, rfl, Or.inl ⟨by omega, rfl, rfl⟩⟩
  · refine tx_iload_n (pc := 7) 2 O dX0_lay_7 rfl rfl ?_
    refine tx_iconst (pc := 8) O dX0_lay_8 ?_
    refine tx_iconst (pc := 9) O dX0_lay_9 ?_
    refine tx_cS3 (pc := 10) O dX0_lay_10 q108 vX0_in (by decide) (Nat.zero_le _) (sX0_in w _ _ _ _ _ (by omega) (by omega) (by omega)) (k_P (fun z10 h10 => ?_))
    refine tx_if_ne (pc := 13) 19 O dX0_lay_13 rfl (by omega) (fun c13 => ?_) (fun c13 => ?_)
    · refine tx_aload_n (pc := 19) 0 O dX0_lay_19 rfl rfl ?_
      refine fX0_117 (pc := 20) O hR dX0_lay_20 ?_
      refine tx_iload_n (pc := 23) 1 O dX0_lay_23 rfl rfl ?_
      refine tx_aald (pc := 24) _ _ O dX0_lay_24 (sh_221 w) (by decide) (by omega) ?_
      rw [hR.2.2.2.2.2.2.2.2.2.2]
      refine fX0_121 (pc := 25) O (by omega) dX0_lay_25 ?_
      refine tx_iload_n (pc := 28) 2 O dX0_lay_28 rfl rfl ?_
      refine tx_iload_n (pc := 29) 3 O dX0_lay_29 rfl rfl ?_
      refine tx_iload (pc := 30) 4 O dX0_lay_30 rfl ?_
      exact K (by omega)
    · refine tx_bipush (pc := 16) O dX0_lay_16 (by decide) ?_
      exact tx_iretG O F tx_ext.rf dX0_lay_18 ⟨rfl, rfl, _, rfl, Or.inl ⟨by omega, rfl, rfl⟩⟩
def getC (w : WT) (s form i : Int) (n : Nat) (R M : TM) (z : Int) (M' : TM) : Prop := ((s < 0 ∨ 3 < s ∨ form < 0 ∨ 2 < form) ∧ z = -2147483648 ∧ M' = M) ∨ ((0 ≤ s ∧ s ≤ 3 ∧ 0 ≤ form ∧ form ≤ 2) ∧ ((R (600 + s) 1 = 0 ∧ z = -2147483648 ∧ M' = up M 1 22 1) ∨ (shC w R M s n ∧ M (600 + s) 0 ≠ form ∧ z = -2147483648 ∧ M' = up M 1 22 3) ∨ (shC w R M s n ∧ M (600 + s) 0 = form ∧ ¬ (0 ≤ i ∧ i < n) ∧ z = -2147483648 ∧ M' = up M 1 22 2) ∨ (shC w R M s n ∧ M (600 + s) 0 = form ∧ (0 ≤ i ∧ i < n) ∧ z = M (R (600 + s) 1) i ∧ M' = M)))
theorem sX0_get (w : WT) (s form i : Int) (n : Nat) (R M : TM) (hR : RL R) (hs : rng s) (hf : rng form) (hi : rng i) (hc : 0 ≤ s → s ≤ 3 → R (600 + s) 1 = 0 ∨ shC w R M s n) : tx_G w yX0_get (wsW_ yX0_get cX0_get 6 (some .int) [(23, 37, 38, 335), (23, 37, 46, 337), (23, 37, 54, 339)]) 171 3 610 [rV (wa w) 1, iV s, iV form, iV i] R M (fun r w' R' M' => w' = w ∧ R' = R ∧ ∃ z : Int, r = some (iV z) ∧ getC w s form i n R M z M') := by
  refine tx_G.ofWk (lv := [(0, _), (1, _), (2, _), (3, _)]) [1, 1, 1, 1] (by decide) (by simp only [List.map_cons, List.map_nil, cat_i, cat_l, cat_r]) (by decide) rfl (fun E O F e0 e1 => ?_)
  obtain ⟨r1, r2, hB⟩ := F.room
  have hJ := O.J
  have K : (0 ≤ s ∧ s ≤ 3 ∧ 0 ≤ form ∧ form ≤ 2) → tx_X w E 34 [(4, iV 0), (0, rV (wa w) 1), (1, iV s), (2, iV form), (3, iV i)] [iV i, iV form, rV (wa w) (R (600 + s) 1)] R M := by
    intro g
    rcases hc (by omega) (by omega) with e | e
    · rw [e]
      refine tx_callT (pc := 34) (As := [_, _, _]) (rest := []) (hp := 38) O F tx_ext.rf ⟨e0, e1⟩ ⟨by decide, by decide⟩ dX0_get_34 q785 vX0_taken (by decide) rfl (Nat.zero_le _) (tX0_taken_npe w _ _ _ _ hf) (ct_npe (by decide)) (fun x => ?_)
      have O := O.at F tx_ext.rf hJ (a := 3) (b := 610) (by decide) (by decide)
      have F := F.at (a := 3) (b := 610) (by decide) (by decide)
      refine tx_astx (pc := 38) O dX0_get_38 (by decide) (by simp only [List.filter_cons, List.filter_nil, cat_r, cat_i, cat_l]; rfl) ?_
      refine tx_iconst (pc := 40) O dX0_get_40 ?_
      refine tx_istore (pc := 41) (lv' := [(4, _), (0, _), (1, _), (2, _), (3, _)]) O dX0_get_41 (by decide) rfl ?_
      refine tx_goto (pc := 43) 59 O dX0_get_43 rfl ?_
      refine tx_aload_n (pc := 59) 1 O dX0_get_59 rfl rfl ?_
      refine tx_iload (pc := 60) 0 O dX0_get_60 rfl ?_
      refine fX0_315p (pc := 62) O dX0_get_62 ?_
      refine tx_ldcw (pc := 65) (z := -2147483648) O dX0_get_65 q784 rfl ?_
      exact tx_iretG O F tx_ext.rf dX0_get_68 ⟨rfl, rfl, _, rfl, Or.inr ⟨g, Or.inl ⟨e, rfl, rfl⟩⟩⟩
    · by_cases hk : M (600 + s) 0 = form
      · by_cases hj : 0 ≤ i ∧ i < n
        · refine tx_cS3 (pc := 34) O dX0_get_34 q785 vX0_taken (by decide) (Nat.zero_le _) (sX0_taken w _ _ _ n _ _ (by rw [← hk]; exact e.1) hf hj) (k_P (fun z34 h34 => ?_))
          exact tx_iretG O F tx_ext.rf dX0_get_37 ⟨rfl, rfl, _, rfl, Or.inr ⟨g, Or.inr (Or.inr (Or.inr ⟨e, hk, hj, h34, rfl⟩))⟩⟩
        · refine tx_callT (pc := 34) (As := [_, _, _]) (rest := []) (hp := 54) O F tx_ext.rf ⟨e0, e1⟩ ⟨by decide, by decide⟩ dX0_get_34 q785 vX0_taken (by decide) rfl (Nat.zero_le _) (tX0_taken_aio w _ _ _ _ _ hf n (by rw [← hk]; exact e.1) hi hj) (ct_aio (by decide)) (fun x => ?_)
          have O := O.at F tx_ext.rf hJ (a := 3) (b := 610) (by decide) (by decide)
          have F := F.at (a := 3) (b := 610) (by decide) (by decide)
          refine tx_astx (pc := 54) O dX0_get_54 (by decide) (by simp only [List.filter_cons, List.filter_nil, cat_r, cat_i, cat_l]; rfl) ?_
          refine tx_iconst (pc := 56) O dX0_get_56 ?_
          refine tx_istore (pc := 57) (lv' := [(4, _), (0, _), (1, _), (2, _), (3, _)]) O dX0_get_57 (by decide) rfl ?_
          refine tx_aload_n (pc := 59) 1 O dX0_get_59 rfl rfl ?_
          refine tx_iload (pc := 60) 0 O dX0_get_60 rfl ?_
          refine fX0_315p (pc := 62) O dX0_get_62 ?_
          refine tx_ldcw (pc := 65) (z := -2147483648) O dX0_get_65 q784 rfl ?_
          exact tx_iretG O F tx_ext.rf dX0_get_68 ⟨rfl, rfl, _, rfl, Or.inr ⟨g, Or.inr (Or.inr (Or.inl ⟨e, hk, hj, rfl, rfl⟩))⟩⟩
      · refine tx_callT (pc := 34) (As := [_, _, _]) (rest := []) (hp := 46) O F tx_ext.rf ⟨e0, e1⟩ ⟨by decide, by decide⟩ dX0_get_34 q785 vX0_taken (by decide) rfl (Nat.zero_le _) (tX0_taken_cce w _ _ _ _ _ hf _ n e.1 ⟨kF_k _, kF_ne hk e.2.1 (by omega)⟩) (ct_cce (by decide)) (fun x => ?_)
        have O := O.at F tx_ext.rf hJ (a := 3) (b := 610) (by decide) (by decide)
        have F := F.at (a := 3) (b := 610) (by decide) (by decide)
        refine tx_astx (pc := 46) O dX0_get_46 (by decide) (by simp only [List.filter_cons, List.filter_nil, cat_r, cat_i, cat_l]; rfl) ?_
        refine tx_iconst (pc := 48) O dX0_get_48 ?_
        refine tx_istore (pc := 49) (lv' := [(4, _), (0, _), (1, _), (2, _), (3, _)]) O dX0_get_49 (by decide) rfl ?_
        refine tx_goto (pc := 51) 59 O dX0_get_51 rfl ?_
        refine tx_aload_n (pc := 59) 1 O dX0_get_59 rfl rfl ?_
        refine tx_iload (pc := 60) 0 O dX0_get_60 rfl ?_
        refine fX0_315p (pc := 62) O dX0_get_62 ?_
        refine tx_ldcw (pc := 65) (z := -2147483648) O dX0_get_65 q784 rfl ?_
        exact tx_iretG O F tx_ext.rf dX0_get_68 ⟨rfl, rfl, _, rfl, Or.inr ⟨g, Or.inr (Or.inl ⟨e, hk, rfl, rfl⟩)⟩⟩
  refine tx_iload_n (pc := 0) 1 O dX0_get_0 rfl rfl ?_
  refine tx_cS1 (pc := 1) O dX0_get_1 q200 vX0_isSheet (by decide) (Nat.zero_le _) (sX0_isSheet w _ _ _ (by omega)) (k_P (fun z1 h1 => ?_))
  refine tx_if_eq (pc := 4) 16 O dX0_get_4 rfl (by omega) (fun c4 => ?_) (fun c4 => ?_)
  · refine tx_ldcw (pc := 16) (z := -2147483648) O dX0_get_16 q784 rfl ?_
    exact tx_iretG O F tx_ext.rf dX0_get_19 ⟨rfl, rfl, _, rfl, Or.inl ⟨by omega, rfl, rfl⟩⟩
  · refine tx_iload_n (pc := 7) 2 O dX0_get_7 rfl rfl ?_
    refine tx_iconst (pc := 8) O dX0_get_8 ?_
    refine tx_iconst (pc := 9) O dX0_get_9 ?_
    refine tx_cS3 (pc := 10) O dX0_get_10 q108 vX0_in (by decide) (Nat.zero_le _) (sX0_in w _ _ _ _ _ (by omega) (by omega) (by omega)) (k_P (fun z10 h10 => ?_))
    refine tx_if_ne (pc := 13) 20 O dX0_get_13 rfl (by omega) (fun c13 => ?_) (fun c13 => ?_)
    · refine tx_iconst (pc := 20) O dX0_get_20 ?_
      refine tx_istore (pc := 21) (lv' := [(4, _), (0, _), (1, _), (2, _), (3, _)]) O dX0_get_21 (by decide) rfl ?_
      refine tx_aload_n (pc := 23) 1 O dX0_get_23 rfl rfl ?_
      refine fX0_117 (pc := 24) O hR dX0_get_24 ?_
      refine tx_iload_n (pc := 27) 2 O dX0_get_27 rfl rfl ?_
      refine tx_aald (pc := 28) _ _ O dX0_get_28 (sh_221 w) (by decide) (by omega) ?_
      rw [hR.2.2.2.2.2.2.2.2.2.2]
      refine fX0_121 (pc := 29) O (by omega) dX0_get_29 ?_
      refine tx_iload_n (pc := 32) 3 O dX0_get_32 rfl rfl ?_
      refine tx_iload_n (pc := 33) 4 O dX0_get_33 rfl rfl ?_
      exact K (by omega)
    · refine tx_ldcw (pc := 16) (z := -2147483648) O dX0_get_16 q784 rfl ?_
      exact tx_iretG O F tx_ext.rf dX0_get_19 ⟨rfl, rfl, _, rfl, Or.inl ⟨by omega, rfl, rfl⟩⟩

