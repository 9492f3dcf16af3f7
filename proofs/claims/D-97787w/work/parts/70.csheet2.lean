/-! COMPONENT, sheets that make cells or catch: rowOf, sheet, lay, get -/
set_option maxRecDepth 100000
theorem rIn_eq {w : WT} {x : Int} {k n y : Nat} (hs : tx_sh w x = (k, n)) (h : rIn w x y = true) : 4 < k ∧ ((k ≤ 9 ∧ y < n) ∨ (9 < k ∧ y < ((vwCl[k - 10]?).map (fun r => r.2.2)).getD 0 ∧ fI (k - 10) y = false)) := by
  unfold rIn at h
  rw [hs] at h
  dsimp only at h
  by_cases h4 : k ≤ 4
  · rw [if_pos h4] at h; cases h
  · rw [if_neg h4] at h
    by_cases h9 : k ≤ 9
    · rw [if_pos h9] at h
      exact ⟨by omega, Or.inl ⟨h9, of_decide_eq_true h⟩⟩
    · rw [if_neg h9] at h
      simp only [Bool.and_eq_true, decide_eq_true_eq, Bool.not_eq_true'] at h
      exact ⟨by omega, Or.inr ⟨by omega, h.1, h.2⟩⟩
theorem rfree {w : WT} {R : TM} {i : Int} (hR : RL R) (hw : ∀ x : Int, 2000 ≤ x → (wy w x).1 ≤ 4) (hi : 2000 ≤ i) (h1 : ∀ s : Int, 0 ≤ s → s ≤ 3 → R (600 + s) 1 ≠ i) (h2 : ∀ b : Int, 0 ≤ b → b < 6 → R 208 b ≠ i) : ∀ (x : Int) (y : Nat), (tx_sh w x).1 ≠ 0 → rIn w x y = true → R x y ≠ i := by
  intro x y _ hy
  obtain ⟨a1, a2, a3, a4, a5, a6, a7, a8, a9, b1, b2⟩ := hR
  by_cases hx : x < 2000
  · have hs : tx_sh w x = ((shS x).1, (shS x).2) := if_pos hx
    obtain ⟨g1, g2⟩ := rIn_eq hs hy
    have key : ∀ q : Nat × Nat, shS x = q → (x = 1 ∨ x = 2 ∨ x = 200 ∨ x = 205 ∨ x = 207 ∨ x = 208 ∨ x = 210 ∨ x = 212 ∨ x = 213 ∨ x = 221 ∨ (320 ≤ x ∧ x ≤ 322) ∨ (600 ≤ x ∧ x ≤ 603) ∨ (q.1 = 11 ∧ isTn x) ∨ q.1 ≤ 4 ∨ (13 ≤ q.1 ∧ q.1 ≤ 15)) := by
      intro q hq
      unfold shS at hq
      unfold isTn
      by_cases c : x = 1
      · rw [if_pos c] at hq; subst hq; first | omega | (dsimp only; omega)
      rw [if_neg c] at hq; clear c
      by_cases c : x = 2
      · rw [if_pos c] at hq; subst hq; first | omega | (dsimp only; omega)
      rw [if_neg c] at hq; clear c
      by_cases c : 100 ≤ x ∧ x ≤ 125
      · rw [if_pos c] at hq
        by_cases m : mlen (x - 100) = 0
        · rw [if_pos m] at hq; subst hq; dsimp only; omega
        · rw [if_neg m] at hq; subst hq; dsimp only; omega
      rw [if_neg c] at hq; clear c
      by_cases c : x = 200
      · rw [if_pos c] at hq; subst hq; first | omega | (dsimp only; omega)
      rw [if_neg c] at hq; clear c
      by_cases c : x = 201
      · rw [if_pos c] at hq; subst hq; first | omega | (dsimp only; omega)
      rw [if_neg c] at hq; clear c
      by_cases c : x = 203
      · rw [if_pos c] at hq; subst hq; first | omega | (dsimp only; omega)
      rw [if_neg c] at hq; clear c
      by_cases c : x = 205
      · rw [if_pos c] at hq; subst hq; first | omega | (dsimp only; omega)
      rw [if_neg c] at hq; clear c
      by_cases c : x = 207
      · rw [if_pos c] at hq; subst hq; first | omega | (dsimp only; omega)
      rw [if_neg c] at hq; clear c
      by_cases c : x = 208
      · rw [if_pos c] at hq; subst hq; first | omega | (dsimp only; omega)
      rw [if_neg c] at hq; clear c
      by_cases c : x = 210
      · rw [if_pos c] at hq; subst hq; first | omega | (dsimp only; omega)
      rw [if_neg c] at hq; clear c
      by_cases c : x = 212
      · rw [if_pos c] at hq; subst hq; first | omega | (dsimp only; omega)
      rw [if_neg c] at hq; clear c
      by_cases c : x = 213
      · rw [if_pos c] at hq; subst hq; first | omega | (dsimp only; omega)
      rw [if_neg c] at hq; clear c
      by_cases c : x = 214
      · rw [if_pos c] at hq; subst hq; first | omega | (dsimp only; omega)
      rw [if_neg c] at hq; clear c
      by_cases c : x = 215
      · rw [if_pos c] at hq; subst hq; first | omega | (dsimp only; omega)
      rw [if_neg c] at hq; clear c
      by_cases c : x = 216
      · rw [if_pos c] at hq; subst hq; first | omega | (dsimp only; omega)
      rw [if_neg c] at hq; clear c
      by_cases c : x = 217
      · rw [if_pos c] at hq; subst hq; first | omega | (dsimp only; omega)
      rw [if_neg c] at hq; clear c
      by_cases c : x = 218
      · rw [if_pos c] at hq; subst hq; first | omega | (dsimp only; omega)
      rw [if_neg c] at hq; clear c
      by_cases c : x = 219
      · rw [if_pos c] at hq; subst hq; first | omega | (dsimp only; omega)
      rw [if_neg c] at hq; clear c
      by_cases c : x = 220
      · rw [if_pos c] at hq; subst hq; first | omega | (dsimp only; omega)
      rw [if_neg c] at hq; clear c
      by_cases c : x = 221
      · rw [if_pos c] at hq; subst hq; first | omega | (dsimp only; omega)
      rw [if_neg c] at hq; clear c
      by_cases c : x = 300
      · rw [if_pos c] at hq; subst hq; first | omega | (dsimp only; omega)
      rw [if_neg c] at hq; clear c
      by_cases c : x = 301
      · rw [if_pos c] at hq; subst hq; first | omega | (dsimp only; omega)
      rw [if_neg c] at hq; clear c
      by_cases c : 310 ≤ x ∧ x ≤ 313
      · rw [if_pos c] at hq; subst hq; first | omega | (dsimp only; omega)
      rw [if_neg c] at hq; clear c
      by_cases c : 320 ≤ x ∧ x ≤ 322
      · rw [if_pos c] at hq; subst hq; first | omega | (dsimp only; omega)
      rw [if_neg c] at hq; clear c
      by_cases c : 400 ≤ x ∧ x ≤ 405
      · rw [if_pos c] at hq; subst hq; first | omega | (dsimp only; omega)
      rw [if_neg c] at hq; clear c
      by_cases c : 410 ≤ x ∧ x ≤ 415
      · rw [if_pos c] at hq; subst hq; first | omega | (dsimp only; omega)
      rw [if_neg c] at hq; clear c
      by_cases c : 420 ≤ x ∧ x ≤ 425
      · rw [if_pos c] at hq; subst hq; first | omega | (dsimp only; omega)
      rw [if_neg c] at hq; clear c
      by_cases c : 500 ≤ x ∧ x ≤ 505
      · rw [if_pos c] at hq; subst hq; first | omega | (dsimp only; omega)
      rw [if_neg c] at hq; clear c
      by_cases c : 510 ≤ x ∧ x ≤ 515
      · rw [if_pos c] at hq; subst hq; first | omega | (dsimp only; omega)
      rw [if_neg c] at hq; clear c
      by_cases c : 520 ≤ x ∧ x ≤ 525
      · rw [if_pos c] at hq; subst hq; first | omega | (dsimp only; omega)
      rw [if_neg c] at hq; clear c
      by_cases c : 600 ≤ x ∧ x ≤ 603
      · rw [if_pos c] at hq; subst hq; first | omega | (dsimp only; omega)
      rw [if_neg c] at hq; clear c
      by_cases c : x = 1218 ∨ x = 1219
      · rw [if_pos c] at hq; subst hq; first | omega | (dsimp only; omega)
      rw [if_neg c] at hq; clear c
      by_cases c : 1400 ≤ x ∧ x ≤ 1405
      · rw [if_pos c] at hq; subst hq; first | omega | (dsimp only; omega)
      rw [if_neg c] at hq; clear c
      by_cases c : 1410 ≤ x ∧ x ≤ 1415
      · rw [if_pos c] at hq; subst hq; first | omega | (dsimp only; omega)
      rw [if_neg c] at hq; clear c
      by_cases c : 1420 ≤ x ∧ x ≤ 1425
      · rw [if_pos c] at hq; subst hq; first | omega | (dsimp only; omega)
      rw [if_neg c] at hq; clear c
      subst hq; dsimp only; omega
    have key := key _ rfl
    rcases key with e | e | e | e | e | e | e | e | e | e | e | e | e | e | e
    · subst e; rw [a2]
      rcases g2 with ⟨q, -⟩ | ⟨-, q, -⟩
      · exact absurd q (by decide)
      · have q : y < 23 := q
        omega
    · subst e; rw [a1]
      rcases g2 with ⟨q, -⟩ | ⟨-, q, -⟩
      · exact absurd q (by decide)
      · have q : y < 26 := q
        omega
    · subst e; rw [a3]
      rcases g2 with ⟨-, q⟩ | ⟨q, -⟩
      · have q : y < 2 := q
        omega
      · exact absurd q (by decide)
    · subst e; rw [a5]
      rcases g2 with ⟨-, q⟩ | ⟨q, -⟩
      · have q : y < 6 := q
        omega
      · exact absurd q (by decide)
    · subst e; rw [a9]
      rcases g2 with ⟨-, q⟩ | ⟨q, -⟩
      · have q : y < 3 := q
        omega
      · exact absurd q (by decide)
    · subst e
      rcases g2 with ⟨-, q⟩ | ⟨q, -⟩
      · have q : y < 6 := q
        exact h2 y (by omega) (by omega)
      · exact absurd q (by decide)
    · subst e; rw [a4]
      rcases g2 with ⟨-, q⟩ | ⟨q, -⟩
      · have q : y < 4 := q
        omega
      · exact absurd q (by decide)
    · subst e; rw [a6]
      rcases g2 with ⟨-, q⟩ | ⟨q, -⟩
      · have q : y < 6 := q
        omega
      · exact absurd q (by decide)
    · subst e; rw [a7]
      rcases g2 with ⟨-, q⟩ | ⟨q, -⟩
      · have q : y < 6 := q
        omega
      · exact absurd q (by decide)
    · subst e; rw [b2]
      rcases g2 with ⟨-, q⟩ | ⟨q, -⟩
      · have q : y < 4 := q
        omega
      · exact absurd q (by decide)
    · have h := b1 (x - 320) y (by omega) (by omega)
      rw [show 320 + (x - 320) = x by omega] at h
      rw [h]
      have hs2 : (shS x).2 = 6 ∧ (shS x).1 = 8 := by
        unfold shS
        (repeat rw [if_neg (by omega)])
        rw [if_pos (by omega)]
        exact ⟨rfl, rfl⟩
      rcases g2 with ⟨-, q⟩ | ⟨q, -⟩ <;> omega
    · have h := h1 (x - 600) (by omega) (by omega)
      rw [show 600 + (x - 600) = x by omega] at h
      have hs3 : (shS x).1 = 12 := by
        have := sh_st w e
        rw [hs] at this
        exact congrArg Prod.fst this
      rw [hs3] at g2
      rcases g2 with ⟨q, -⟩ | ⟨-, q, q2⟩
      · omega
      · have q : y < 2 := q
        have hy1 : y = 1 := by
          rcases (show y = 0 ∨ y = 1 by omega) with e | e
          · subst e; exact absurd q2 (by decide)
          · exact e
        subst hy1
        exact h
    · rw [e.1] at g2
      rcases g2 with ⟨q, -⟩ | ⟨-, q, q2⟩
      · omega
      · have q : y < 2 := q
        have hy1 : y = 0 := by
          rcases (show y = 0 ∨ y = 1 by omega) with e | e
          · exact e
          · subst e; exact absurd q2 (by decide)
        subst hy1
        have := a8 x e.2
        rw [show ((0 : Nat) : Int) = 0 from rfl, this]
        have := e.2
        unfold isTn at this
        omega
    · omega
    · rcases g2 with ⟨q, -⟩ | ⟨-, q, q2⟩
      · omega
      · exfalso
        rcases (show (shS x).1 = 13 ∨ (shS x).1 = 14 ∨ (shS x).1 = 15 by omega) with e | e | e <;> rw [e] at q q2 <;> (have q : y < 2 := q) <;> rcases (show y = 0 ∨ y = 1 by omega) with e | e <;> subst e <;> exact absurd q2 (by decide)
  · exfalso
    have hs : tx_sh w x = ((wy w x).1, (wy w x).2) := if_neg hx
    obtain ⟨g1, -⟩ := rIn_eq hs hy
    have := hw x (by omega)
    omega
theorem tx_GZ.room {w : WT} {E : ET} {ret : Option FieldType} {mc ms : Nat} {Q : Option Value → WT → TM → TM → Prop} {hh : List (Nat × Nat × Nat × Nat)} (F : tx_GZ w ret mc ms Q hh E) : mc ≤ E.2.2.1.cells ∧ ms ≤ E.2.2.1.slots ∧ tx_B w E.2.2.2.1 := by
  obtain ⟨p, e, Rm, s, m, args, below, meth, c, cells, slots, Z⟩ := E
  exact ⟨F.2.2.2.2.1, F.2.2.2.2.2.1, F.2.2.2.2.2.2.1⟩
theorem sX0_rowOf (w : WT) (form n i : Int) (R M : TM) (hf : rng form) (hn : 0 ≤ n ∧ n ≤ 60) (hi : 2000 ≤ i) (hRi : ∀ (x : Int) (y : Nat), (tx_sh w x).1 ≠ 0 → rIn w x y = true → R x y ≠ i) : tx_G w yX0_rowOf (ws_ yX0_rowOf cX0_rowOf 2 (some (.object "java/lang/Object"))) 1 1 60 [iV form, iV n] R M (fun v w' R' M' => ∃ a : Nat, w' = wN w i (kF form) n.toNat a ∧ v = some (rV (wa w') i) ∧ R' = R ∧ M' = zM M i) := by
  refine tx_G.ofk (lv := [(0, _), (1, _)]) [1, 1] (by decide) (by simp only [List.map_cons, List.map_nil, cat_i, cat_l, cat_r]) (by decide) rfl (fun E O F e0 e1 => ?_)
  obtain ⟨r1, r2, -⟩ := F.room
  refine tx_iload_n (pc := 0) 0 O dX0_rowOf_0 rfl rfl ?_
  rcases (show form = 0 ∨ form = 1 ∨ (form ≠ 0 ∧ form ≠ 1) by omega) with e1 | e1 | e1
  · subst e1
    refine tx_lookup (pc := 1) 28 O dX0_rowOf_1 (by decide) (by omega) rfl rfl ?_
    refine tx_iload_n (pc := 28) 1 O dX0_rowOf_28 rfl rfl ?_
    exact tx_newp (pc := 29) 3 i O dX0_rowOf_29 ⟨by decide, rfl⟩ q702 (by omega) hi hRi ⟨by omega, by omega⟩ (fun a hJ => tx_aretG (O.at F wN_ext hJ (by omega) (by omega)) (F.at (by omega) (by omega)) wN_ext dX0_rowOf_31 ⟨a, rfl, rfl, rfl, rfl⟩)
  · subst e1
    refine tx_lookup (pc := 1) 32 O dX0_rowOf_1 (by decide) (by omega) rfl rfl ?_
    refine tx_iload_n (pc := 32) 1 O dX0_rowOf_32 rfl rfl ?_
    exact tx_newp (pc := 33) 4 i O dX0_rowOf_33 ⟨by decide, rfl⟩ q710 (by omega) hi hRi ⟨by omega, by omega⟩ (fun a hJ => tx_aretG (O.at F wN_ext hJ (by omega) (by omega)) (F.at (by omega) (by omega)) wN_ext dX0_rowOf_35 ⟨a, rfl, rfl, rfl, rfl⟩)
  · refine tx_lookup (pc := 1) 36 O dX0_rowOf_1 (by decide) (by omega) (lk_off e1) rfl ?_
    refine tx_iload_n (pc := 36) 1 O dX0_rowOf_36 rfl rfl ?_
    exact tx_newp (pc := 37) 1 i O dX0_rowOf_37 ⟨by decide, rfl⟩ q497 (by omega) hi hRi ⟨by omega, by omega⟩ (fun a hJ => tx_aretG (O.at F wN_ext hJ (by omega) (by omega)) (F.at (by omega) (by omega)) wN_ext dX0_rowOf_39 ⟨a, by rw [kF_2 e1], rfl, rfl, rfl⟩)
theorem RL.st {R : TM} (h : RL R) {s j : Int} (hs : 0 ≤ s ∧ s ≤ 3) : RL (up R (600 + s) 1 j) := by
  obtain ⟨a1, a2, a3, a4, a5, a6, a7, a8, a9, b1, b2⟩ := h
  refine ⟨fun x => by rw [up_n (by omega)]; exact a1 x, fun x => by rw [up_n (by omega)]; exact a2 x, fun x => by rw [up_n (by omega)]; exact a3 x, fun x => by rw [up_n (by omega)]; exact a4 x, fun x => by rw [up_n (by omega)]; exact a5 x, fun x => by rw [up_n (by omega)]; exact a6 x, fun x => by rw [up_n (by omega)]; exact a7 x, fun x hx => by rw [up_n (by omega)]; exact a8 x hx, fun x => by rw [up_n (by omega)]; exact a9 x, fun x y q1 q2 => by rw [up_n (by omega)]; exact b1 x y q1 q2, fun x => by rw [up_n (by omega)]; exact b2 x⟩
theorem sX0_sheet_tail (w : WT) (w0 : WT) (E : ET) (s form n i : Int) (R M : TM) (Q : Option Value → WT → TM → TM → Prop) (hh : List (Nat × Nat × Nat × Nat)) (O : tx_O w yX0_sheet.cls cX0_sheet 5 171 E) (F : tx_GZ w0 (some .int) 3 610 Q hh E) (hx : tx_ext w0 w) (hR : RL R) (hs : 0 ≤ s ∧ s ≤ 3) (h : Q (some (iV n)) w (up R (600 + s) 1 i) (up M (600 + s) 0 form)) : tx_X w E 36 [(0, rV (wa w) 1), (1, iV s), (2, iV form), (3, iV n)] [rV (wa w) i, rV (wa w) (600 + s)] R M := by
  have hR := hR.st (j := i) hs
  refine fX0_121p (pc := 36) O (by omega) dX0_sheet_36 ?_
  refine tx_goto (pc := 39) 50 O dX0_sheet_39 rfl ?_
  refine tx_aload_n (pc := 50) 0 O dX0_sheet_50 rfl rfl ?_
  refine fX0_117 (pc := 51) O hR dX0_sheet_51 ?_
  refine tx_iload_n (pc := 54) 1 O dX0_sheet_54 rfl rfl ?_
  refine tx_aald (pc := 55) _ _ O dX0_sheet_55 (sh_221 w) (by decide) (by omega) ?_
  rw [hR.2.2.2.2.2.2.2.2.2.2]
  refine tx_iload_n (pc := 56) 2 O dX0_sheet_56 rfl rfl ?_
  refine fX0_324p (pc := 57) O (by omega) dX0_sheet_57 ?_
  refine tx_iload_n (pc := 60) 3 O dX0_sheet_60 rfl rfl ?_
  exact tx_iretG O F hx dX0_sheet_61 h
theorem sX0_sheet (w : WT) (s form n i : Int) (R M : TM) (hR : RL R) (hs : rng s) (hf : rng form) (hn : rng n) (hi : 2000 ≤ i) (hRi : ∀ (x : Int) (y : Nat), (tx_sh w x).1 ≠ 0 → rIn w x y = true → R x y ≠ i) : tx_G w yX0_sheet (wsW_ yX0_sheet cX0_sheet 5 (some .int) [(25, 39, 42, 322)]) 171 3 610 [rV (wa w) 1, iV s, iV form, iV n] R M (fun v w' R' M' => ∃ z : Int, v = some (iV z) ∧ (((s < 0 ∨ 3 < s ∨ form < 0 ∨ 2 < form ∨ 60 < n) ∧ z = -2 ∧ w' = w ∧ R' = R ∧ M' = M) ∨ ((0 ≤ s ∧ s ≤ 3 ∧ 0 ≤ form ∧ form ≤ 2 ∧ n ≤ 60) ∧ ((n < 0 ∧ z = -15 ∧ w' = w ∧ R' = R ∧ M' = up M 1 22 5) ∨ (0 ≤ n ∧ z = n ∧ ∃ a : Nat, w' = wN w i (kF form) n.toNat a ∧ R' = up R (600 + s) 1 i ∧ M' = up (zM M i) (600 + s) 0 form))))) := by
  refine tx_G.ofWk (lv := [(0, _), (1, _), (2, _), (3, _)]) [1, 1, 1, 1] (by decide) (by simp only [List.map_cons, List.map_nil, cat_i, cat_l, cat_r]) (by decide) rfl (fun E O F e0 e1 => ?_)
  obtain ⟨r1, r2, hB⟩ := F.room
  have K : (0 ≤ s ∧ s ≤ 3 ∧ 0 ≤ form ∧ form ≤ 2 ∧ n ≤ 60) → tx_X w E 33 [(0, rV (wa w) 1), (1, iV s), (2, iV form), (3, iV n)] [iV n, iV form, rV (wa w) (600 + s)] R M := by
    intro g
    have hJ : tx_J w := by
      obtain ⟨p, e, Rm, s, m, args, below, meth, c, cells, slots, Z⟩ := E
      exact O.2.2.2.2.2.2.1
    by_cases hneg : n < 0
    · refine tx_callT (pc := 33) (As := [_, _]) (rest := [_]) (hp := 42) O F tx_ext.rf ⟨e0, e1⟩ ⟨by decide, by decide⟩ dX0_sheet_33 q707 vX0_rowOf (by decide) rfl (by simp only [List.map_cons, List.map_nil, cat_i, cat_l, cat_r, List.sum_cons, List.sum_nil]; decide) (tX0_rowOf w _ _ _ _ hf hn hneg) ⟨⟨by decide, by decide, by decide⟩, _, q622, Or.inl ⟨rfl, Or.inl rfl⟩⟩ (fun x => ?_)
      have O := O.at F tx_ext.rf hJ (a := 3) (b := 610) (by decide) (by decide)
      have F := F.at (a := 3) (b := 610) (by decide) (by decide)
      refine tx_astx (pc := 42) O dX0_sheet_42 (by decide) (by simp only [List.filter_cons, List.filter_nil, cat_r, cat_i, cat_l]; rfl) ?_
      refine tx_aload_n (pc := 44) 0 O dX0_sheet_44 rfl rfl ?_
      refine tx_iconst (pc := 45) O dX0_sheet_45 ?_
      refine tx_cV1 (pc := 46) O dX0_sheet_46 q203 vX0_meets (sh_1 w) rfl (by decide) (Nat.zero_le _) (sX0_meets w _ _ _) (k_I (fun z46 M46 h46 => ?_))
      exact tx_iretG O F tx_ext.rf dX0_sheet_49 ⟨_, rfl, Or.inr ⟨g, Or.inl ⟨hneg, by omega, rfl, rfl, h46.2⟩⟩⟩
    · refine tx_callSG (pc := 33) (As := [_, _]) (rest := [_]) O hB dX0_sheet_33 q707 vX0_rowOf (by decide) ⟨by omega, by omega⟩ rfl (by simp only [List.map_cons, List.map_nil, cat_i, cat_l, cat_r, List.sum_cons, List.sum_nil]; decide) (sX0_rowOf w form n i R M hf (by omega) hi hRi) ?_
      rintro v w' R' M' ⟨a, rfl, rfl, rfl, rfl⟩ hx hJ'
      have O := O.at F hx hJ' (a := eC E + 1) (b := eS E + 60) (by omega) (by omega)
      have F := F.at (a := eC E + 1) (b := eS E + 60) (by omega) (by omega)
      rw [← wN_V (w := w) (i := i) (kd := kF form) (n := n.toNat) (a := a) (show (1 : Int) ≠ i by omega), ← wN_V (w := w) (i := i) (kd := kF form) (n := n.toNat) (a := a) (show 600 + s ≠ i by omega)]
      exact sX0_sheet_tail _ w _ s form n i R' _ _ _ O F hx hR (by omega) ⟨_, rfl, Or.inr ⟨g, Or.inr ⟨by omega, rfl, a, rfl, rfl, rfl⟩⟩⟩
  refine tx_iload_n (pc := 0) 1 O dX0_sheet_0 rfl rfl ?_
  refine tx_cS1 (pc := 1) O dX0_sheet_1 q200 vX0_isSheet (by decide) (Nat.zero_le _) (sX0_isSheet w _ _ _ (by omega)) (k_P (fun z1 h1 => ?_))
  refine tx_if_eq (pc := 4) 22 O dX0_sheet_4 rfl (by omega) (fun c4 => ?_) (fun c4 => ?_)
  · refine tx_bipush (pc := 22) O dX0_sheet_22 (by decide) ?_
    exact tx_iretG O F tx_ext.rf dX0_sheet_24 ⟨_, rfl, Or.inl ⟨by omega, rfl, rfl, rfl, rfl⟩⟩
  · refine tx_iload_n (pc := 7) 2 O dX0_sheet_7 rfl rfl ?_
    refine tx_iconst (pc := 8) O dX0_sheet_8 ?_
    refine tx_iconst (pc := 9) O dX0_sheet_9 ?_
    refine tx_cS3 (pc := 10) O dX0_sheet_10 q108 vX0_in (by decide) (Nat.zero_le _) (sX0_in w _ _ _ _ _ (by omega) (by omega) (by omega)) (k_P (fun z10 h10 => ?_))
    refine tx_if_eq (pc := 13) 22 O dX0_sheet_13 rfl (by omega) (fun c13 => ?_) (fun c13 => ?_)
    · refine tx_bipush (pc := 22) O dX0_sheet_22 (by decide) ?_
      exact tx_iretG O F tx_ext.rf dX0_sheet_24 ⟨_, rfl, Or.inl ⟨by omega, rfl, rfl, rfl, rfl⟩⟩
    · refine tx_iload_n (pc := 16) 3 O dX0_sheet_16 rfl rfl ?_
      refine tx_bipush (pc := 17) O dX0_sheet_17 (by decide) ?_
      refine tx_icmp_le (pc := 19) 25 O dX0_sheet_19 rfl (by omega) (fun c19 => ?_) (fun c19 => ?_)
      · refine tx_aload_n (pc := 25) 0 O dX0_sheet_25 rfl rfl ?_
        refine fX0_117 (pc := 26) O hR dX0_sheet_26 ?_
        refine tx_iload_n (pc := 29) 1 O dX0_sheet_29 rfl rfl ?_
        refine tx_aald (pc := 30) _ _ O dX0_sheet_30 (sh_221 w) (by decide) (by omega) ?_
        rw [hR.2.2.2.2.2.2.2.2.2.2]
        refine tx_iload_n (pc := 31) 2 O dX0_sheet_31 rfl rfl ?_
        refine tx_iload_n (pc := 32) 3 O dX0_sheet_32 rfl rfl ?_
        exact K (by omega)
      · refine tx_bipush (pc := 22) O dX0_sheet_22 (by decide) ?_
        exact tx_iretG O F tx_ext.rf dX0_sheet_24 ⟨_, rfl, Or.inl ⟨by omega, rfl, rfl, rfl, rfl⟩⟩

