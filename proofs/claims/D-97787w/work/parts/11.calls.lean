/-! CALLS: a callee's contract tx_S, used at a call; what goes on behind it -/
set_option maxRecDepth 100000
theorem tx_blind {w : WT} {as : List Value} {R M : TM} : FrameBlind (tx_Pc w as R M) := fun a U g mk h => by
  obtain ⟨h1, h2, h3, h4, h5⟩ := h
  exact ⟨h1, h2, ⟨va_K.moved (u := U) (U := U.calling g mk a) (Vm.Alike.refl U.vm) h3.1, tx_N.same (u := U) (U := U.calling g mk a) rfl h3.2⟩, h4, h5⟩
theorem tx_goon {w : WT} {p : Program} {e : Env} {Rm : Room} {s : State} {m : MethodId} {args : Array Value} {below : List Frame} {meth : Method} {c : Code} {cells slots pc : Nat} {Z : State → Prop} {H : Heap} {locs : List Loc} {ls : Array Slot} {st0 rest : List Value} {Q' : Option Value → TM → TM → Prop} {a : Array Value}
    (hr : va_Run p (wl w) e Rm s m args below meth c H locs cells slots 0 0 (F0 m pc ls st0) rest (tx_Q w Q' a) (tx_A w)) (hS : va_S (tx_A w) s.heap H locs)
    (kk : ∀ (v : Option Value) (R' M' : TM) (H1 : Heap) (locs1 : List Loc), Q' v R' M' → tx_H w R' M' H1 → va_S (tx_A w) s.heap H1 locs1 → W p (wl w) e Rm s m args below meth c H1 locs1 cells slots Z (F0 m (pc + 3) ls (v.toList ++ rest))) : W p (wl w) e Rm s m args below meth c H locs cells slots Z (F0 m pc ls st0) := by
  intro T hT X
  obtain ⟨v, st₀, t, T', L, h0, X', hL, e1, e2, ⟨⟨v', R', M', hv, hq, hh⟩, hz, hk⟩, st⟩ := hr T hT X
  cases hv
  rw [h0] at hz hk
  obtain ⟨t2, a1, b1⟩ := kk v R' M' T'.heap (locs ++ L) hq (by rw [e1]; exact hh)
    ⟨Nat.le_trans hS.1 (by rw [e1]; exact hz), fun q h1 h2 => by rw [e1, hk q (Nat.lt_of_lt_of_le h1 hS.1) h2]; exact hS.2.1 q h1 h2, fun q hq => by
      rcases List.mem_append.mp hq with h | h
      · exact hS.2.2 q h
      · exact hL q h⟩ T' rfl X'
  exact ⟨t2, st t2 a1, b1⟩
section CALLS
variable {w : WT} {E : ET} {own : String} {cc : ByteArray} {nL fr pc : Nat} {lv : List (Nat × Value)} {R M : TM} {rest : List Value} {y : MethodName} {b : ByteArray} {L : Nat} {ret : Option FieldType} {C : String} {n idx fr' : Nat} {Q' : Option Value → TM → TM → Prop}
theorem tx_callV {ci sn : Nat} {i : Int} {As : List Value} (O : tx_O w own cc nL fr E) (hd : decode cc pc = .ok (.invokevirtual idx, 3)) (hl : Cond.methodLink own idx y ∈ lw_all) (hv : tx_V y b L ret C n) (hs : tx_sh w i = (10 + ci, sn)) (hC : (vwCl[ci]?).map (fun q => q.1) = some C) (hfr' : fr' + 1 ≤ fr) (hn : As.length = n) (hrm : (rest.map fun v => v.category).sum ≤ 8) (S : tx_S w y b L ret fr' (rV (wa w) i :: As) R M Q') (k : ∀ (v : Option Value) (R' M' : TM), Q' v R' M' → tx_X w E (pc + 3) lv (v.toList ++ rest) R' M') : tx_X w E pc lv (As.reverse ++ rV (wa w) i :: rest) R M := by
  obtain ⟨p, e, Rm, s, m, args, below, meth, c, cells, slots, Z⟩ := E
  obtain ⟨hx, hb, hml, hown, hts, hK, hJ, hz, hlk, hfr, hlo, hce, hsl⟩ := O
  intro H locs hH hS ls hls
  obtain ⟨v1, v2, v3, v4, v5, v6⟩ := hv
  obtain ⟨h0, hP⟩ := tx_obj hH hs
  rw [tx_ref h0] at S ⊢
  obtain ⟨q, hq, hqC⟩ : ∃ q, vwCl[ci]? = some q ∧ q.1 = C := by
    cases hh : vwCl[ci]? with
    | none => rw [hh] at hC; cases hC
    | some q => rw [hh] at hC; exact ⟨q, rfl, Option.some.inj hC⟩
  have hrv := va_recv hK.1 hP (ci := ci) (q0 := 0) hq rfl
  rw [hqC] at hrv
  refine tx_goon (va_runV (As := As) (rest := rest) (nL := nL) ⟨hx, hb, hml, hown, hts⟩ S (cwV n hts (lw_V hl v1 v2 v3 v4) rfl rfl rfl v5 ⟨?_, ?_⟩) ⟨tx_blind, hrv, fun U hU hW => ⟨rfl, by rw [hU]; exact hH, hK.warm hW, hJ, by rw [hU]; exact Nat.le_trans hz hS.1⟩⟩ rfl hn (by rw [← hml]; exact hls.1) rfl (lv_room hrm) hd ⟨hce, hsl⟩) hS (fun v R' M' H1 locs1 g1 g2 g3 => k v R' M' g1 H1 locs1 g2 g3 ls hls)
  · show fr' + 1 ≤ Rm.frames
    omega
  · show 8 + (L + 11) + 64 * fr' ≤ Rm.locals
    omega
theorem tx_callS {As : List Value} (O : tx_O w own cc nL fr E) (hd : decode cc pc = .ok (.invokestatic idx, 3)) (hl : Cond.methodLink own idx y ∈ lw_all) (hv : tx_T y b L ret n) (hfr' : fr' + 1 ≤ fr) (hn : As.length = n) (hrm : (rest.map fun v => v.category).sum ≤ 8) (S : tx_S w y b L ret fr' As R M Q') (k : ∀ (v : Option Value) (R' M' : TM), Q' v R' M' → tx_X w E (pc + 3) lv (v.toList ++ rest) R' M') : tx_X w E pc lv (As.reverse ++ rest) R M := by
  obtain ⟨p, e, Rm, s, m, args, below, meth, c, cells, slots, Z⟩ := E
  obtain ⟨hx, hb, hml, hown, hts, hK, hJ, hz, hlk, hfr, hlo, hce, hsl⟩ := O
  intro H locs hH hS ls hls
  obtain ⟨v1, v2, v3, v4, v5⟩ := hv
  refine tx_goon (va_runS (As := As) (rest := rest) (nL := nL) ⟨hx, hb, hml, hown, hts⟩ S (va_cwS n hts (lw_S hl v1 v2 v3) rfl rfl rfl v4 ⟨?_, ?_⟩) ⟨tx_blind, fun U hU hW => ⟨rfl, by rw [hU]; exact hH, hK.warm hW, hJ, by rw [hU]; exact Nat.le_trans hz hS.1⟩⟩ rfl hn (by rw [← hml]; exact hls.1) rfl (lv_room hrm) hd ⟨hce, hsl⟩) hS (fun v R' M' H1 locs1 g1 g2 g3 => k v R' M' g1 H1 locs1 g2 g3 ls hls)
  · show fr' + 1 ≤ Rm.frames
    omega
  · show 8 + (L + 11) + 64 * fr' ≤ Rm.locals
    omega
theorem k_I {P : Int → TM → Prop} (k : ∀ (z : Int) (M' : TM), P z M' → tx_X w E pc lv (iV z :: rest) R M') : ∀ (v : Option Value) (R' M' : TM), QI R P v R' M' → tx_X w E pc lv (v.toList ++ rest) R' M' := by
  rintro v R' M' ⟨rfl, z, rfl, h⟩
  exact k z M' h
theorem k_L {P : Int → TM → Prop} (k : ∀ (z : Int) (M' : TM), P z M' → tx_X w E pc lv (lV z :: rest) R M') : ∀ (v : Option Value) (R' M' : TM), QL R P v R' M' → tx_X w E pc lv (v.toList ++ rest) R' M' := by
  rintro v R' M' ⟨rfl, z, rfl, h⟩
  exact k z M' h
theorem k_V {P : TM → Prop} (k : ∀ (M' : TM), P M' → tx_X w E pc lv rest R M') : ∀ (v : Option Value) (R' M' : TM), QV R P v R' M' → tx_X w E pc lv (v.toList ++ rest) R' M' := by
  rintro v R' M' ⟨rfl, rfl, h⟩
  exact k M' h
theorem tx_QI.mk {P : Int → TM → Prop} {z : Int} (h : P z M) : QI R P (some (iV z)) R M := ⟨rfl, z, rfl, h⟩
theorem tx_QL.mk {P : Int → TM → Prop} {z : Int} (h : P z M) : QL R P (some (lV z)) R M := ⟨rfl, z, rfl, h⟩
theorem tx_QV.mk {P : TM → Prop} (h : P M) : QV R P none R M := ⟨rfl, rfl, h⟩
end CALLS
/-- loops: a measure falls -/
theorem lp_m {α : Type} (I : α → Prop) (P : α → Prop) (μ : α → Nat) (h : ∀ a, I a → (∀ b, I b → μ b < μ a → P b) → P a) : ∀ a, I a → P a := by
  have key : ∀ (n : Nat) (a : α), μ a < n → I a → P a := by
    intro n
    induction n with
    | zero => intro a h1; exact absurd h1 (Nat.not_lt_zero _)
    | succ n ih => intro a h1 h2; exact h a h2 (fun b h3 h4 => ih b (by omega) h3)
  exact fun a ha => key (μ a + 1) a (Nat.lt_succ_self _) ha
/-- a loop over an Int that counts up to e, with the memory -/
theorem lp_up (I : Int → TM → Prop) (P : Int → TM → Prop) (e : Int) (h : ∀ (i : Int) (M : TM), I i M → (∀ (i' : Int) (M' : TM), I i' M' → i < i' → i' ≤ e → P i' M') → P i M) : ∀ (i : Int) (M : TM), I i M → P i M := by
  intro i M hi
  exact lp_m (α := Int × TM) (fun a => I a.1 a.2) (fun a => P a.1 a.2) (fun a => (e - a.1).toNat) (fun a ha ih => h a.1 a.2 ha (fun i' M' h1 h2 h3 => ih (i', M') h1 (by show (e - i').toNat < (e - a.1).toNat; omega))) (i, M) hi
