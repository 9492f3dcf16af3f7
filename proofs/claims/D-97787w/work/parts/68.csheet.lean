/-! COMPONENT, sheets: item, lose, read, write -/
set_option maxRecDepth 100000
theorem sh_st2 (w : WT) {i : Int} (h : 600 ≤ i ∧ i ≤ 603) : tx_sh w i = (10 + 2, 0) := sh_st w h
/-- a static call of a nest mate's method -/
theorem tx_callSN {w : WT} {E : ET} {own : String} {cc : ByteArray} {nL fr pc : Nat} {lv : List (Nat × Value)} {R M : TM} {rest : List Value} {y : MethodName} {b : ByteArray} {L : Nat} {ret : Option FieldType} {n idx fr' : Nat} {Q' : Option Value → TM → TM → Prop} {As : List Value} (O : tx_O w own cc nL fr E) (hd : decode cc pc = .ok (.invokestatic idx, 3)) (hl : Cond.methodLinkNest own idx y "TuneLoans" ∈ tx_nwl) (hv : tx_T y b L ret n) (hfr' : fr' + 1 ≤ fr) (hn : As.length = n) (hrm : (rest.map fun v => v.category).sum ≤ 8) (S : tx_S w y b L ret fr' As R M Q') (k : ∀ (v : Option Value) (R' M' : TM), Q' v R' M' → tx_X w E (pc + 3) lv (v.toList ++ rest) R' M') : tx_X w E pc lv (As.reverse ++ rest) R M := by
  obtain ⟨p, e, Rm, s, m, args, below, meth, c, cells, slots, Z⟩ := E
  obtain ⟨hx, hb, hml, hown, hts, hK, hJ, hz, hlk, hfr, hlo, hce, hsl⟩ := O
  intro H locs hH hS ls hls
  obtain ⟨v1, v2, v3, v4, v5⟩ := hv
  refine tx_goon (va_runSN (As := As) (rest := rest) (nL := nL) ⟨hx, hb, hml, hown, hts⟩ S ⟨va_cnB n hts (lw_meth v3) rfl rfl rfl (hK.2 _ hl) (hts _ v2) v4 ⟨?_, ?_⟩, hts _ v1, trivial⟩ ⟨tx_blind, fun U hU hW => ⟨rfl, by rw [hU]; exact hH, hK.warm hW, hJ, by rw [hU]; exact Nat.le_trans hz hS.1⟩⟩ rfl hn (by rw [← hml]; exact hls.1) rfl (lv_room hrm) hd ⟨hce, hsl⟩) hS (fun v R' M' H1 locs1 g1 g2 g3 => k v R' M' g1 H1 locs1 g2 g3 ls hls)
  · show fr' + 1 ≤ Rm.frames
    omega
  · show 8 + (L + 11) + 64 * fr' ≤ Rm.locals
    omega
theorem tx_anull {w : WT} {E : ET} {own : String} {cc : ByteArray} {nL fr pc : Nat} {lv : List (Nat × Value)} {st : List Value} {R M : TM} (O : tx_O w own cc nL fr E) (hd : decode cc pc = .ok (.aconst_null, 1)) (k : tx_X w E (pc + 1) lv (rV (wa w) 0 :: st) R M) : tx_X w E pc lv st R M := by
  obtain ⟨p, e, Rm, s, m, args, below, meth, c, cells, slots, Z⟩ := E
  obtain ⟨hx, hb, hml, hown, hts, hK, hJ, hz, hlk, hfr, hlo, hce, hsl⟩ := O
  intro H locs hH hS ls hl
  exact lv_null hx hb hd (k H locs hH hS ls hl)
/-- sheet s holds a row of n items of its form -/
def shC (w : WT) (R M : TM) (s : Int) (n : Nat) : Prop := tx_sh w (R (600 + s) 1) = (kF (M (600 + s) 0), n) ∧ (0 ≤ M (600 + s) 0 ∧ M (600 + s) 0 ≤ 2) ∧ 2000 ≤ R (600 + s) 1 ∧ n ≤ 60
theorem sX2_item (w : WT) (s j : Int) (n : Nat) (R M : TM) (h : 600 ≤ s ∧ s ≤ 603) (hf : rng (M s 0)) (hs : tx_sh w (R s 1) = (kF (M s 0), n)) (hj : 0 ≤ j ∧ j < n) : tx_S w yX2_item cX2_item 2 (some .int) 2 [rV (wa w) s, iV j] R M (QP R M (fun z => z = M (R s 1) j)) := by
  refine tx_S.ofk (lv := [(0, _), (1, _)]) [1, 1] (by decide) (by simp only [List.map_cons, List.map_nil, cat_i, cat_l, cat_r]) (by decide) rfl (fun E O F => ?_)
  refine tx_aload_n (pc := 0) 0 O dX2_item_0 rfl rfl ?_
  refine fX2_13 (pc := 1) O (by omega) dX2_item_1 ?_
  refine tx_aload_n (pc := 4) 0 O dX2_item_4 rfl rfl ?_
  refine fX2_7 (pc := 5) O (by omega) dX2_item_5 ?_
  refine tx_iload_n (pc := 8) 1 O dX2_item_8 rfl rfl ?_
  refine tx_callSN (pc := 9) (As := [_, _, _]) (rest := []) O dX2_item_9 (by simp [tx_nwl, yX0_taken, yX2_item, RX0, RX2]) vX0_taken (by decide) rfl (Nat.zero_le _) (sX0_taken w _ _ _ n _ _ hs hf hj) (k_P (fun z9 h9 => ?_))
  exact tx_iret O F dX2_item_12 (tx_QP.mk h9)
theorem sX0_lose (w : WT) (s : Int) (n : Nat) (R M : TM) (hR : RL R) (hs : rng s) (hc : 0 ≤ s → s ≤ 3 → R (600 + s) 1 = 0 ∨ shC w R M s n) : tx_S w yX0_lose cX0_lose 3 (some .int) 3 [rV (wa w) 1, iV s] R M (QC (fun z R' M' => ((s < 0 ∨ 3 < s) ∧ z = -2 ∧ R' = R ∧ M' = M) ∨ ((0 ≤ s ∧ s ≤ 3) ∧ ((R (600 + s) 1 = 0 ∧ z = -11 ∧ R' = R ∧ M' = up M 1 22 1) ∨ (shC w R M s n ∧ z = n ∧ R' = up R (600 + s) 1 0 ∧ M' = M))))) := by
  refine tx_S.ofk (lv := [(0, _), (1, _)]) [1, 1] (by decide) (by simp only [List.map_cons, List.map_nil, cat_i, cat_l, cat_r]) (by decide) rfl (fun E O F => ?_)
  refine tx_iload_n (pc := 0) 1 O dX0_lose_0 rfl rfl ?_
  refine tx_cS1 (pc := 1) O dX0_lose_1 q200 vX0_isSheet (by decide) (Nat.zero_le _) (sX0_isSheet w _ _ _ (by omega)) (k_P (fun z1 h1 => ?_))
  refine tx_if_ne (pc := 4) 10 O dX0_lose_4 rfl (by omega) (fun c4 => ?_) (fun c4 => ?_)
  · refine tx_aload_n (pc := 10) 0 O dX0_lose_10 rfl rfl ?_
    refine fX0_117 (pc := 11) O hR dX0_lose_11 ?_
    refine tx_iload_n (pc := 14) 1 O dX0_lose_14 rfl rfl ?_
    refine tx_aald (pc := 15) _ _ O dX0_lose_15 (sh_221 w) (by decide) (by omega) ?_
    rw [hR.2.2.2.2.2.2.2.2.2.2]
    refine fX0_121 (pc := 16) O (by omega) dX0_lose_16 ?_
    refine tx_ifnonnull (pc := 19) 28 O dX0_lose_19 rfl (fun c19 => ?_) (fun c19 => ?_)
    · have hc1 := (hc (by omega) (by omega)).resolve_left (by omega)
      refine tx_aload_n (pc := 28) 0 O dX0_lose_28 rfl rfl ?_
      refine fX0_117 (pc := 29) O hR dX0_lose_29 ?_
      refine tx_iload_n (pc := 32) 1 O dX0_lose_32 rfl rfl ?_
      refine tx_aald (pc := 33) _ _ O dX0_lose_33 (sh_221 w) (by decide) (by omega) ?_
      rw [hR.2.2.2.2.2.2.2.2.2.2]
      refine tx_cV0 (pc := 34) O dX0_lose_34 q207 vX2_size (sh_st2 w (by omega)) rfl (by decide) (Nat.zero_le _) (sX2_size w _ n _ _ (by omega) (by have := hc1.2.1; omega) hc1.1) (k_P (fun z34 h34 => ?_))
      refine tx_istore_n (pc := 37) (lv' := [(2, _), (0, _), (1, _)]) O dX0_lose_37 rfl (by decide) rfl ?_
      refine tx_aload_n (pc := 38) 1 O dX0_lose_38 rfl rfl ?_
      refine fX0_117 (pc := 39) O hR dX0_lose_39 ?_
      refine tx_iload_n (pc := 42) 2 O dX0_lose_42 rfl rfl ?_
      refine tx_aald (pc := 43) _ _ O dX0_lose_43 (sh_221 w) (by decide) (by omega) ?_
      rw [hR.2.2.2.2.2.2.2.2.2.2]
      refine tx_anull (pc := 44) O dX0_lose_44 ?_
      refine fX0_121p (pc := 45) O (by omega) dX0_lose_45 ?_
      refine tx_iload_n (pc := 48) 0 O dX0_lose_48 rfl rfl ?_
      exact tx_iret O F dX0_lose_49 (tx_QC.mk (Or.inr ⟨by omega, Or.inr ⟨hc1, h34, rfl, rfl⟩⟩))
    · refine tx_aload_n (pc := 22) 0 O dX0_lose_22 rfl rfl ?_
      refine tx_iconst (pc := 23) O dX0_lose_23 ?_
      refine tx_cV1 (pc := 24) O dX0_lose_24 q203 vX0_meets (sh_1 w) rfl (by decide) (Nat.zero_le _) (sX0_meets w _ _ _) (k_I (fun z24 M24 h24 => ?_))
      exact tx_iret O F dX0_lose_27 (tx_QC.mk (Or.inr ⟨by omega, Or.inl ⟨by omega, by omega, rfl, h24.2⟩⟩))
  · refine tx_bipush (pc := 7) O dX0_lose_7 (by decide) ?_
    exact tx_iret O F dX0_lose_9 (tx_QC.mk (Or.inl ⟨by omega, rfl, rfl, rfl⟩))
def rowC (R M : TM) (s : Int) : Int → Int → Int := fun k j => M (R (600 + s) 1) (4 * k + j)
theorem sX0_read (w : WT) (s : Int) (n : Nat) (R M : TM) (hR : RL R) (hl : 0 ≤ M 1 9 ∧ M 1 9 ≤ 12) (hs : rng s) (hc : 0 ≤ s → s ≤ 3 → R (600 + s) 1 = 0 ∨ shC w R M s n) (hit : 0 ≤ s → s ≤ 3 → R (600 + s) 1 ≠ 0 → ∀ j : Int, 0 ≤ j → j < n → rng (M (R (600 + s) 1) j)) : tx_S w yX0_read cX0_read 4 (some .int) 4 [rV (wa w) 1, iV s] R M (QI R (fun z M' => ((s < 0 ∨ 3 < s) ∧ z = -2 ∧ M' = M) ∨ ((0 ≤ s ∧ s ≤ 3) ∧ ((R (600 + s) 1 = 0 ∧ z = -11 ∧ M' = up M 1 22 1) ∨ (shC w R M s n ∧ z = rdS (rowC R M s) (M 1 9) (n / 4) ∧ (0 ≤ z ∧ M 1 9 + z ≤ 12) ∧ M' 1 9 = M 1 9 + z ∧ (∀ k j : Int, 0 ≤ k → k < z → 0 ≤ j → j ≤ 3 → M' (310 + j) (M 1 9 + k) = rowC R M s k j ∧ okL (rowC R M s) k) ∧ (∀ a b : Int, ((a < 310 ∨ 313 < a ∨ b < M 1 9) ∧ (a ≠ 1 ∨ b ≠ 9)) → M' a b = M a b)))))) := by
  refine tx_S.ofk (lv := [(0, _), (1, _)]) [1, 1] (by decide) (by simp only [List.map_cons, List.map_nil, cat_i, cat_l, cat_r]) (by decide) rfl (fun E O F => ?_)
  have K : (0 ≤ s ∧ s ≤ 3) → shC w R M s n → ∀ (k : Int) (M' : TM), (0 ≤ k ∧ k ≤ n / 4 ∧ rdS (rowC R M s) (M 1 9) k = k ∧ M 1 9 + k ≤ 12 ∧ M' 1 9 = M 1 9 + k ∧ (∀ a j : Int, 0 ≤ a → a < k → 0 ≤ j → j ≤ 3 → M' (310 + j) (M 1 9 + a) = rowC R M s a j ∧ okL (rowC R M s) a) ∧ (∀ a b : Int, ((a < 310 ∨ 313 < a ∨ b < M 1 9) ∧ (a ≠ 1 ∨ b ≠ 9)) → M' a b = M a b)) → tx_X w E 32 [(3, iV k), (2, rV (wa w) (600 + s)), (0, rV (wa w) 1), (1, iV s)] [] R M' := by
    intro g1 g2
    obtain ⟨q1, q2, q3, q4⟩ := id g2
    have hit := hit g1.1 g1.2 (by omega)
    refine lp_up _ _ (n / 4) ?_
    rintro k M' ⟨h1, h2, h3, h4, h5, h6, h7⟩ ih
    have hd : (n : Int) / 4 ≤ 15 := by omega
    have e1 : M' (600 + s) 0 = M (600 + s) 0 := h7 _ _ (by omega)
    have e2 : ∀ j : Int, M' (R (600 + s) 1) j = M (R (600 + s) 1) j := fun j => h7 _ _ (by omega)
    have q1' : tx_sh w (R (600 + s) 1) = (kF (M' (600 + s) 0), n) := by rw [e1]; exact q1
    have fin : ∀ (M2 : TM), M2 = M' → ¬ (k < n / 4 ∧ okL (rowC R M s) k ∧ M 1 9 + k < 12) → (((s < 0 ∨ 3 < s) ∧ k = -2 ∧ M2 = M) ∨ ((0 ≤ s ∧ s ≤ 3) ∧ ((R (600 + s) 1 = 0 ∧ k = -11 ∧ M2 = up M 1 22 1) ∨ (shC w R M s n ∧ k = rdS (rowC R M s) (M 1 9) (n / 4) ∧ (0 ≤ k ∧ M 1 9 + k ≤ 12) ∧ M2 1 9 = M 1 9 + k ∧ (∀ a j : Int, 0 ≤ a → a < k → 0 ≤ j → j ≤ 3 → M2 (310 + j) (M 1 9 + a) = rowC R M s a j ∧ okL (rowC R M s) a) ∧ (∀ a b : Int, ((a < 310 ∨ 313 < a ∨ b < M 1 9) ∧ (a ≠ 1 ∨ b ≠ 9)) → M2 a b = M a b))))) := by
      rintro M2 rfl hno
      refine Or.inr ⟨g1, Or.inr ⟨g2, ?_, ⟨h1, h4⟩, h5, h6, h7⟩⟩
      by_cases e : k < n / 4
      · exact (rdS_n h1 h3 (fun z => hno ⟨e, z⟩) _ h2).symm
      · rw [show (n : Int) / 4 = k by omega]; exact h3.symm
    refine tx_iconst (pc := 32) O dX0_read_32 ?_
    refine tx_iload_n (pc := 33) 0 O dX0_read_33 rfl rfl ?_
    refine tx_imul (pc := 34) O dX0_read_34 ?_
    refine tx_iconst (pc := 35) O dX0_read_35 ?_
    refine tx_iadd (pc := 36) O dX0_read_36 ?_
    refine tx_aload_n (pc := 37) 1 O dX0_read_37 rfl rfl ?_
    refine tx_cV0 (pc := 38) O dX0_read_38 q207 vX2_size (sh_st2 w (by omega)) rfl (by decide) (Nat.le_of_ble_eq_true rfl) (sX2_size w _ n _ _ (by omega) (by omega) q1') (k_P (fun z38 h38 => ?_))
    refine tx_icmp_ge (pc := 41) 91 O dX0_read_41 rfl (by omega) (fun c41 => ?_) (fun c41 => ?_)
    · refine tx_iload_n (pc := 91) 0 O dX0_read_91 rfl rfl ?_
      exact tx_iret O F dX0_read_92 (tx_QI.mk (by first | exact fin _ rfl (by omega) | exact fin _ hfo.1 hfo.2))
    · have r0 := hit (4 * k) (by omega) (by omega)
      have r1 := hit (4 * k + 1) (by omega) (by omega)
      have r2 := hit (4 * k + 2) (by omega) (by omega)
      have r3 := hit (4 * k + 3) (by omega) (by omega)
      refine tx_aload_n (pc := 44) 2 O dX0_read_44 rfl rfl ?_
      refine tx_aload_n (pc := 45) 1 O dX0_read_45 rfl rfl ?_
      refine tx_iconst (pc := 46) O dX0_read_46 ?_
      refine tx_iload_n (pc := 47) 0 O dX0_read_47 rfl rfl ?_
      refine tx_imul (pc := 48) O dX0_read_48 ?_
      refine tx_cV1 (pc := 49) O dX0_read_49 q214 vX2_item (sh_st2 w (by omega)) rfl (by decide) (by simp only [List.map_cons, List.map_nil, cat_i, cat_l, cat_r, List.sum_cons, List.sum_nil]; decide) (sX2_item w _ _ n _ _ (by omega) (by omega) q1' (by omega)) (k_P (fun z49 h49 => ?_))
      refine tx_aload_n (pc := 52) 1 O dX0_read_52 rfl rfl ?_
      refine tx_iconst (pc := 53) O dX0_read_53 ?_
      refine tx_iload_n (pc := 54) 0 O dX0_read_54 rfl rfl ?_
      refine tx_imul (pc := 55) O dX0_read_55 ?_
      refine tx_iconst (pc := 56) O dX0_read_56 ?_
      refine tx_iadd (pc := 57) O dX0_read_57 ?_
      refine tx_cV1 (pc := 58) O dX0_read_58 q214 vX2_item (sh_st2 w (by omega)) rfl (by decide) (by simp only [List.map_cons, List.map_nil, cat_i, cat_l, cat_r, List.sum_cons, List.sum_nil]; decide) (sX2_item w _ _ n _ _ (by omega) (by omega) q1' (by omega)) (k_P (fun z58 h58 => ?_))
      refine tx_aload_n (pc := 61) 1 O dX0_read_61 rfl rfl ?_
      refine tx_iconst (pc := 62) O dX0_read_62 ?_
      refine tx_iload_n (pc := 63) 0 O dX0_read_63 rfl rfl ?_
      refine tx_imul (pc := 64) O dX0_read_64 ?_
      refine tx_iconst (pc := 65) O dX0_read_65 ?_
      refine tx_iadd (pc := 66) O dX0_read_66 ?_
      refine tx_cV1 (pc := 67) O dX0_read_67 q214 vX2_item (sh_st2 w (by omega)) rfl (by decide) (by simp only [List.map_cons, List.map_nil, cat_i, cat_l, cat_r, List.sum_cons, List.sum_nil]; decide) (sX2_item w _ _ n _ _ (by omega) (by omega) q1' (by omega)) (k_P (fun z67 h67 => ?_))
      refine tx_aload_n (pc := 70) 1 O dX0_read_70 rfl rfl ?_
      refine tx_iconst (pc := 71) O dX0_read_71 ?_
      refine tx_iload_n (pc := 72) 0 O dX0_read_72 rfl rfl ?_
      refine tx_imul (pc := 73) O dX0_read_73 ?_
      refine tx_iconst (pc := 74) O dX0_read_74 ?_
      refine tx_iadd (pc := 75) O dX0_read_75 ?_
      refine tx_cV1 (pc := 76) O dX0_read_76 q214 vX2_item (sh_st2 w (by omega)) rfl (by decide) (by simp only [List.map_cons, List.map_nil, cat_i, cat_l, cat_r, List.sum_cons, List.sum_nil]; decide) (sX2_item w _ _ n _ _ (by omega) (by omega) q1' (by omega)) (k_P (fun z76 h76 => ?_))
      rw [e2] at h49 h58 h67 h76
      refine tx_cV4 (pc := 79) O dX0_read_79 q224 vX0_loan (sh_1 w) rfl (by decide) (Nat.zero_le _) (sX0_loan w _ _ _ _ _ _ hR (by omega) (by rw [h49]; exact r0) (by rw [h58]; exact r1) (by rw [h67]; exact r2) (by rw [h76]; exact r3)) (k_I (fun z79 M79 h79 => ?_))
      have hz : rng z79 := by rcases h79 with q | ⟨-, q | q⟩ <;> omega
      have s0 : rowC R M s k 0 = z49 := by rw [h49]; unfold rowC; rw [show 4 * k + 0 = 4 * k by omega]
      have s1 : rowC R M s k 1 = z58 := h58.symm
      have s2 : rowC R M s k 2 = z67 := h67.symm
      have s3 : rowC R M s k 3 = z76 := h76.symm
      refine tx_if_le (pc := 82) 91 O dX0_read_82 rfl (by omega) (fun c82 => ?_) (fun c82 => ?_)
      · have hfo : M79 = M' ∧ ¬ (k < n / 4 ∧ okL (rowC R M s) k ∧ M 1 9 + k < 12) := by
          rcases h79 with q | ⟨q0, q | q⟩
          · refine ⟨q.2.2, fun hx => ?_⟩
            obtain ⟨x0, x1, x2, x3⟩ := hx.2.1
            rw [s0] at x0; rw [s1] at x1; rw [s2] at x2; rw [s3] at x3
            omega
          · exact ⟨q.2.2, fun hx => by omega⟩
          · exact absurd q.2.1 (by omega)
        refine tx_iload_n (pc := 91) 0 O dX0_read_91 rfl rfl ?_
        exact tx_iret O F dX0_read_92 (tx_QI.mk (by first | exact fin _ rfl (by omega) | exact fin _ hfo.1 hfo.2))
      · have hfo : (0 ≤ z49 ∧ z49 ≤ 39) ∧ (0 ≤ z58 ∧ z58 ≤ 5) ∧ (0 ≤ z67 ∧ z67 ≤ 5) ∧ (1 ≤ z76 ∧ z76 ≤ 9) ∧ M' 1 9 < 12 ∧ M79 = up (up (up (up (up M' 310 (M' 1 9) z49) 311 (M' 1 9) z58) 312 (M' 1 9) z67) 313 (M' 1 9) z76) 1 9 (M' 1 9 + 1) := by
          rcases h79 with q | ⟨q0, q | q⟩
          · omega
          · omega
          · exact ⟨by omega, by omega, by omega, by omega, q.1, q.2.2⟩
        obtain ⟨y0, y1, y2, y3, y4, y5⟩ := hfo
        have ok : okL (rowC R M s) k := by
          unfold okL
          rw [s0, s1, s2, s3]
          exact ⟨y0, y1, y2, y3⟩
        refine tx_iinc (pc := 85) (lv' := [(3, _), (2, _), (0, _), (1, _)]) 0 O dX0_read_85 rfl (by decide) (by simp only [List.filter_cons, List.filter_nil, cat_r, cat_i, cat_l]; rfl) ?_
        refine tx_goto (pc := 88) 32 O dX0_read_88 rfl ?_
        refine ih (k + 1) M79 ⟨by omega, by omega, rdS_y h1 h3 ⟨ok, by omega⟩, by omega, by rw [y5, up_s]; omega, fun a j a1 a2 j1 j2 => ?_, fun a b q => by rw [y5]; (repeat rw [up_n (by omega)]); exact h7 a b q⟩ (by omega) (by omega)
        by_cases e : a = k
        · subst e
          refine ⟨?_, ok⟩
          rw [y5, h5]
          have hj4 : j = 0 ∨ j = 1 ∨ j = 2 ∨ j = 3 := by omega
          rcases hj4 with e | e | e | e <;> subst e
          · rw [s0]; repeat rw [up_n (by omega)]
            exact up_s
          · rw [s1]; repeat rw [up_n (by omega)]
            exact up_s
          · rw [s2]; repeat rw [up_n (by omega)]
            exact up_s
          · rw [s3]; repeat rw [up_n (by omega)]
            exact up_s
        · rw [y5]; repeat rw [up_n (by omega)]
          exact h6 a j a1 (by omega) j1 j2
  refine tx_iload_n (pc := 0) 1 O dX0_read_0 rfl rfl ?_
  refine tx_cS1 (pc := 1) O dX0_read_1 q200 vX0_isSheet (by decide) (Nat.zero_le _) (sX0_isSheet w _ _ _ (by omega)) (k_P (fun z1 h1 => ?_))
  refine tx_if_ne (pc := 4) 10 O dX0_read_4 rfl (by omega) (fun c4 => ?_) (fun c4 => ?_)
  · refine tx_aload_n (pc := 10) 0 O dX0_read_10 rfl rfl ?_
    refine fX0_117 (pc := 11) O hR dX0_read_11 ?_
    refine tx_iload_n (pc := 14) 1 O dX0_read_14 rfl rfl ?_
    refine tx_aald (pc := 15) _ _ O dX0_read_15 (sh_221 w) (by decide) (by omega) ?_
    rw [hR.2.2.2.2.2.2.2.2.2.2]
    refine tx_astore_n (pc := 16) (lv' := [(2, _), (0, _), (1, _)]) O dX0_read_16 rfl (by decide) rfl ?_
    refine tx_aload_n (pc := 17) 0 O dX0_read_17 rfl rfl ?_
    refine fX0_121 (pc := 18) O (by omega) dX0_read_18 ?_
    refine tx_ifnonnull (pc := 21) 30 O dX0_read_21 rfl (fun c21 => ?_) (fun c21 => ?_)
    · have hc1 := (hc (by omega) (by omega)).resolve_left (by omega)
      refine tx_iconst (pc := 30) O dX0_read_30 ?_
      refine tx_istore_n (pc := 31) (lv' := [(3, _), (2, _), (0, _), (1, _)]) O dX0_read_31 rfl (by decide) (by simp only [List.filter_cons, List.filter_nil, cat_r, cat_i, cat_l]; rfl) ?_
      exact K (by omega) hc1 0 M ⟨by omega, by omega, rfl, by omega, by omega, fun a j a1 a2 => by omega, fun a b _ => rfl⟩
    · refine tx_aload_n (pc := 24) 1 O dX0_read_24 rfl rfl ?_
      refine tx_iconst (pc := 25) O dX0_read_25 ?_
      refine tx_cV1 (pc := 26) O dX0_read_26 q203 vX0_meets (sh_1 w) rfl (by decide) (Nat.zero_le _) (sX0_meets w _ _ _) (k_I (fun z26 M26 h26 => ?_))
      exact tx_iret O F dX0_read_29 (tx_QI.mk (Or.inr ⟨by omega, Or.inl ⟨by omega, by omega, h26.2⟩⟩))
  · refine tx_bipush (pc := 7) O dX0_read_7 (by decide) ?_
    exact tx_iret O F dX0_read_9 (tx_QI.mk (Or.inl ⟨by omega, rfl, rfl⟩))
/-- the sheet's row is not of the cells that a run writes -/
theorem sX0_write (w : WT) (y t s : Int) (n : Nat) (R M : TM) (u : PU) (hR : RL R) (hu : cT R M u) (hy : rng y) (ht : rng t) (hs : rng s) (hc : 0 ≤ s → s ≤ 3 → R (600 + s) 1 = 0 ∨ shC w R M s n) : tx_S w yX0_write cX0_write 7 (some .int) 8 [rV (wa w) 1, iV y, iV t, iV s] R M (QC (fun z R' M' => ((y < 0 ∨ 39 < y ∨ t < 0 ∨ (uT u).length ≤ t ∨ s < 0 ∨ 3 < s) ∧ z = -2 ∧ cW u R M R' M') ∨ ((0 ≤ y ∧ y ≤ 39 ∧ 0 ≤ t ∧ t < (uT u).length ∧ 0 ≤ s ∧ s ≤ 3) ∧ ((R (600 + s) 1 = 0 ∧ z = -11 ∧ ∃ M1, cW u R M R' M1 ∧ M' = up M1 1 22 1) ∨ (shC w R M s n ∧ z = min (n : Int) ((rNow (runP u (uear u) (y + 1)) t).length : Int) ∧ ∃ M1, cW u R M R' M1 ∧ (∀ i : Int, 0 ≤ i → i < z → M' (R (600 + s) 1) i = ga (rNow (runP u (uear u) (y + 1)) t) i) ∧ ∀ a b : Int, (a ≠ R (600 + s) 1 ∨ b < 0 ∨ z ≤ b) → M' a b = M1 a b))))) := by
  have hok := hu.1.1
  have hD1 := (uT_ok hok).1
  refine tx_S.ofk (lv := [(0, _), (1, _), (2, _), (3, _)]) [1, 1, 1, 1] (by decide) (by simp only [List.map_cons, List.map_nil, cat_i, cat_l, cat_r]) (by decide) rfl (fun E O F => ?_)
  have K : (0 ≤ y ∧ y ≤ 39 ∧ 0 ≤ t ∧ t < (uT u).length ∧ 0 ≤ s ∧ s ≤ 3) → shC w R M s n → ∀ (R1 M1 : TM), cW u R M R1 M1 → ∀ (l : List Int) (e : Int), rNow (runP u (uear u) (y + 1)) t = l → okN l → tuIs M1 (410 + t) l → e = min (n : Int) (l.length : Int) → ∀ (i : Int) (M' : TM), (0 ≤ i ∧ i ≤ e ∧ (∀ j : Int, 0 ≤ j → j < i → M' (R (600 + s) 1) j = ga l j) ∧ (∀ a b : Int, (a ≠ R (600 + s) 1 ∨ b < 0 ∨ i ≤ b) → M' a b = M1 a b)) → tx_X w E 74 [(6, iV i), (5, iV e), (4, rV (wa w) (600 + s)), (0, rV (wa w) 1), (1, iV y), (2, iV t), (3, iV s)] [] R1 M' := by
    intro g1 g2 R1 M1 hw l e el hl htu he
    obtain ⟨q1, q2, q3, q4⟩ := id g2
    have hR1 := hR.kp hw.2.2.1
    have hl1 := hl.1
    have eR : R1 (600 + s) 1 = R (600 + s) 1 := hw.2.2.1 _ _ (by omega)
    have eF : M1 (600 + s) 0 = M (600 + s) 0 := hw.2.1 _ _ (by omega)
    refine lp_up _ _ e ?_
    rintro i M' ⟨h1, h2, h3, h4⟩ ih
    have hR := hR1
    have eF' : M' (600 + s) 0 = M (600 + s) 0 := by rw [h4 _ _ (by omega), eF]
    have htu' := htu
    refine tx_iload (pc := 74) 0 O dX0_write_74 rfl ?_
    refine tx_iload (pc := 76) 1 O dX0_write_76 rfl ?_
    refine tx_icmp_ge (pc := 78) 114 O dX0_write_78 rfl (by omega) (fun c78 => ?_) (fun c78 => ?_)
    · refine tx_iload (pc := 114) 1 O dX0_write_114 rfl ?_
      exact tx_iret O F dX0_write_116 (tx_QC.mk (Or.inr ⟨g1, Or.inr ⟨g2, by rw [el]; exact he, M1, hw, by rw [el]; exact fun j a1 a2 => h3 j a1 (by omega), fun a b q => h4 a b (by omega)⟩⟩))
    · refine tx_aload (pc := 81) 2 O dX0_write_81 rfl ?_
      refine fX0_121 (pc := 83) O (by omega) dX0_write_83 ?_
      refine tx_aload (pc := 86) 2 O dX0_write_86 rfl ?_
      refine fX0_324 (pc := 88) O (by omega) dX0_write_88 ?_
      refine tx_iload (pc := 91) 0 O dX0_write_91 rfl ?_
      refine tx_aload_n (pc := 93) 3 O dX0_write_93 rfl rfl ?_
      refine fX0_141 (pc := 94) O hR dX0_write_94 ?_
      refine tx_iload_n (pc := 97) 5 O dX0_write_97 rfl rfl ?_
      refine tx_aald (pc := 98) _ _ O dX0_write_98 (sh_212 w) (by decide) (by omega) ?_
      rw [hR.2.2.2.2.2.1]
      refine fX0_83 (pc := 99) O (by omega) hR dX0_write_99 ?_
      refine tx_iload (pc := 102) 0 O dX0_write_102 rfl ?_
      refine tx_iald (pc := 104) _ O dX0_write_104 (sh_tr w (by omega)) (by omega) ?_
      rw [eR, eF', show M' (410 + t + 1000) i = ga l i by rw [h4 _ _ (by omega)]; exact htu.2 i h1 (by omega)]
      refine tx_cS4 (pc := 105) O dX0_write_105 q777 vX0_laid (by decide) (Nat.zero_le _) (sX0_laid w _ _ _ _ n _ _ q1 (by omega) (by omega)) (k_V (fun M105 h105 => ?_))
      have hx := hl.2 _ (ga_mem (l := l) h1 (by omega))
      rw [zcut_small (by omega) hx] at h105
      subst h105
      refine tx_iinc (pc := 108) (lv' := [(6, _), (5, _), (4, _), (0, _), (1, _), (2, _), (3, _)]) 0 O dX0_write_108 rfl (by decide) rfl ?_
      refine tx_goto (pc := 111) 74 O dX0_write_111 rfl ?_
      refine ih _ _ ⟨by omega, by omega, fun j a1 a2 => ?_, fun a b q => by rw [up_n (by omega)]; exact h4 a b (by omega)⟩ (by omega) (by omega)
      by_cases e : j = i
      · subst e; exact up_s
      · rw [up_n (by omega)]; exact h3 j a1 (by omega)
  refine tx_iload_n (pc := 0) 1 O dX0_write_0 rfl rfl ?_
  refine tx_cS1 (pc := 1) O dX0_write_1 q186 vX0_isYear (by decide) (Nat.zero_le _) (sX0_isYear w _ _ _ (by omega)) (k_P (fun z1 h1 => ?_))
  refine tx_if_eq (pc := 4) 22 O dX0_write_4 rfl (by omega) (fun c4 => ?_) (fun c4 => ?_)
  · refine tx_bipush (pc := 22) O dX0_write_22 (by decide) ?_
    exact tx_iret O F dX0_write_24 (tx_QC.mk (Or.inl ⟨by omega, rfl, by first | exact hu.s | exact g2.w⟩))
  · refine tx_aload_n (pc := 7) 0 O dX0_write_7 rfl rfl ?_
    refine tx_iload_n (pc := 8) 2 O dX0_write_8 rfl rfl ?_
    refine tx_cV1 (pc := 9) O dX0_write_9 q152 vX0_isTune (sh_1 w) rfl (by decide) (Nat.zero_le _) (sX0_isTune w _ _ _ u hR hu (by omega)) (k_C (fun z9 R9 M9 h9 => ?_))
    obtain ⟨g1, g2⟩ := h9
    have hR := hR.kp g2.2.2
    have hu := g2.1.t
    refine tx_if_eq (pc := 12) 22 O dX0_write_12 rfl (by omega) (fun c12 => ?_) (fun c12 => ?_)
    · refine tx_bipush (pc := 22) O dX0_write_22 (by decide) ?_
      exact tx_iret O F dX0_write_24 (tx_QC.mk (Or.inl ⟨by omega, rfl, by first | exact hu.s | exact g2.w⟩))
    · refine tx_iload_n (pc := 15) 3 O dX0_write_15 rfl rfl ?_
      refine tx_cS1 (pc := 16) O dX0_write_16 q200 vX0_isSheet (by decide) (Nat.zero_le _) (sX0_isSheet w _ _ _ (by omega)) (k_P (fun z16 h16 => ?_))
      refine tx_if_ne (pc := 19) 25 O dX0_write_19 rfl (by omega) (fun c19 => ?_) (fun c19 => ?_)
      · refine tx_aload_n (pc := 25) 0 O dX0_write_25 rfl rfl ?_
        refine fX0_117 (pc := 26) O hR dX0_write_26 ?_
        refine tx_iload_n (pc := 29) 3 O dX0_write_29 rfl rfl ?_
        refine tx_aald (pc := 30) _ _ O dX0_write_30 (sh_221 w) (by decide) (by omega) ?_
        rw [hR.2.2.2.2.2.2.2.2.2.2]
        refine tx_astore (pc := 31) (lv' := [(4, _), (0, _), (1, _), (2, _), (3, _)]) O dX0_write_31 (by decide) rfl ?_
        refine tx_aload (pc := 33) 0 O dX0_write_33 rfl ?_
        refine fX0_121 (pc := 35) O (by omega) dX0_write_35 ?_
        rw [g2.2.2 _ _ (by omega)]
        refine tx_ifnonnull (pc := 38) 47 O dX0_write_38 rfl (fun c38 => ?_) (fun c38 => ?_)
        · have hc1 := (hc (by omega) (by omega)).resolve_left (by omega)
          refine tx_aload_n (pc := 47) 1 O dX0_write_47 rfl rfl ?_
          refine tx_iload_n (pc := 48) 2 O dX0_write_48 rfl rfl ?_
          refine tx_cV1 (pc := 49) O dX0_write_49 q237 vX0_runs (sh_1 w) rfl (by decide) (Nat.zero_le _) (sX0_runs w _ _ _ u hR hu (by omega)) (k_CV (fun R49 M49 h49 => ?_))
          obtain ⟨g3, g4⟩ := h49
          have hR := hR.kp g3.2.2
          have gw := (g2.tr g3).w
          have hl := (okR_run hok (uear u) (n := y + 1) (by omega)).1 t (by omega) (by omega)
          have hl1 := hl.1
          have htu := (g4.1 t (by omega) (by omega)).1
          have eR : R49 (600 + s) 1 = R (600 + s) 1 := gw.2.2.1 _ _ (by omega)
          have eF : M49 (600 + s) 0 = M (600 + s) 0 := gw.2.1 _ _ (by omega)
          refine tx_aload_n (pc := 52) 1 O dX0_write_52 rfl rfl ?_
          refine fX0_141 (pc := 53) O hR dX0_write_53 ?_
          refine tx_iload_n (pc := 56) 3 O dX0_write_56 rfl rfl ?_
          refine tx_aald (pc := 57) _ _ O dX0_write_57 (sh_212 w) (by decide) (by omega) ?_
          rw [hR.2.2.2.2.2.1]
          refine fX0_37 (pc := 58) O (by omega) dX0_write_58 ?_
          rw [htu.1]
          refine tx_aload (pc := 61) 0 O dX0_write_61 rfl ?_
          refine tx_cV0 (pc := 63) O dX0_write_63 q207 vX2_size (sh_st2 w (by omega)) rfl (by decide) (Nat.le_of_ble_eq_true rfl) (sX2_size w _ n _ _ (by omega) (by have := hc1.2.1; omega) (by rw [eR, eF]; exact hc1.1)) (k_P (fun z63 h63 => ?_))
          have hn60 := hc1.2.2.2
          refine tx_mmin (pc := 66) O dX0_write_66 q297 (by omega) (by decide) (Nat.zero_le _) ?_
          refine tx_istore (pc := 69) (lv' := [(5, _), (4, _), (0, _), (1, _), (2, _), (3, _)]) O dX0_write_69 (by decide) (by simp only [List.filter_cons, List.filter_nil, cat_r, cat_i, cat_l]; rfl) ?_
          refine tx_iconst (pc := 71) O dX0_write_71 ?_
          refine tx_istore (pc := 72) (lv' := [(6, _), (5, _), (4, _), (0, _), (1, _), (2, _), (3, _)]) O dX0_write_72 (by decide) rfl ?_
          exact K (by omega) hc1 _ _ gw _ _ rfl hl htu (by omega) 0 _ ⟨by omega, by omega, fun j a1 a2 => by omega, fun a b _ => rfl⟩
        · refine tx_aload_n (pc := 41) 1 O dX0_write_41 rfl rfl ?_
          refine tx_iconst (pc := 42) O dX0_write_42 ?_
          refine tx_cV1 (pc := 43) O dX0_write_43 q203 vX0_meets (sh_1 w) rfl (by decide) (Nat.zero_le _) (sX0_meets w _ _ _) (k_I (fun z43 M43 h43 => ?_))
          exact tx_iret O F dX0_write_46 (tx_QC.mk (Or.inr ⟨by omega, Or.inl ⟨by omega, by omega, _, g2.w, h43.2⟩⟩))
      · refine tx_bipush (pc := 22) O dX0_write_22 (by decide) ?_
        exact tx_iret O F dX0_write_24 (tx_QC.mk (Or.inl ⟨by omega, rfl, by first | exact hu.s | exact g2.w⟩))

