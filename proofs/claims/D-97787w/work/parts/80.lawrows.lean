/-! THE LAW: rows for the script; a call of a method with handlers -/
set_option maxRecDepth 100000
def tx_VW (y : MethodName) (b : ByteArray) (L : Nat) (ret : Option FieldType) (hh : List (Nat × Nat × Nat × Nat)) (C : String) (n : Nat) : Prop := Cond.instanceMethod y ∈ lw_all ∧ Cond.selects C y y ∈ lw_all ∧ Cond.initialized C ∈ lw_all ∧ Cond.codeWith y b L ret hh ∈ lw_all ∧ (y.cls = C ∧ y.cls ≠ "java/lang/invoke/MethodHandle" ∧ y.cls ≠ "java/lang/invoke/VarHandle" ∧ (parseMethodDescriptor y.desc).map (fun d => d.parameters.length) = some n) ∧ L ≤ 40
theorem vX0_sheet : tx_VW yX0_sheet cX0_sheet 5 (some .int) [(25, 39, 42, 322)] RX0 3 := ⟨q619, q620, q83, q621, by decide +kernel, by decide⟩
theorem vX0_lay : tx_VW yX0_lay cX0_lay 6 (some .int) [(19, 36, 37, 335), (19, 36, 45, 337), (19, 36, 53, 339)] RX0 4 := ⟨q716, q717, q83, q718, by decide +kernel, by decide⟩
theorem vX0_get : tx_VW yX0_get cX0_get 6 (some .int) [(23, 37, 38, 335), (23, 37, 46, 337), (23, 37, 54, 339)] RX0 3 := ⟨q781, q782, q83, q783, by decide +kernel, by decide⟩
theorem vX0_copy : tx_VW yX0_copy cX0_copy 9 (some .int) [(68, 87, 88, 335), (68, 87, 96, 352)] RX0 5 := ⟨q787, q788, q83, q789, by decide +kernel, by decide⟩
section LAWR
variable {w : WT} {E : ET} {own : String} {cc : ByteArray} {nL fr pc : Nat} {lv : List (Nat × Value)} {st : List Value} {R M : TM} {rest : List Value} {y : MethodName} {b : ByteArray} {L : Nat} {ret : Option FieldType} {hh : List (Nat × Nat × Nat × Nat)} {n idx fr' : Nat}
theorem tx_callVG {As : List Value} {mc ms : Nat} {Q' : Option Value → WT → TM → TM → Prop} (O : tx_O w own cc nL fr E) (hB : tx_B w E.2.2.2.1) (hd : decode cc pc = .ok (.invokevirtual idx, 3)) (hl : Cond.methodLink own idx y ∈ lw_all) (hv : tx_VW y b L ret hh RX0 n) (hfr' : fr' + 1 ≤ fr) (hc : eC E + mc ≤ E.2.2.1.cells ∧ eS E + ms ≤ E.2.2.1.slots) (hn : As.length = n) (hrm : (rest.map fun v => v.category).sum ≤ 8) (S : tx_G w y (wsW_ y b L ret hh) fr' mc ms (rV (wa w) 1 :: As) R M Q') (k : ∀ (v : Option Value) (w' : WT) (R' M' : TM), Q' v w' R' M' → tx_ext w w' → tx_J w' → tx_X w' (eAt E (eC E + mc) (eS E + ms)) (pc + 3) lv (v.toList ++ rest) R' M') : tx_X w E pc lv (As.reverse ++ rV (wa w) 1 :: rest) R M := by
  obtain ⟨p, e, Rm, s, m, args, below, meth, c, cells, slots, Z⟩ := E
  obtain ⟨hx, hb, hml, hown, hts, hK, hJ, hz, hlk, hfr, hlo, hce, hsl⟩ := O
  intro H locs hH hS ls hls T hT X
  obtain ⟨v1, v2, v3, v4, v5, v6⟩ := hv
  have ht : ∀ q ∈ lw_all, ∀ (a' : Array Value) (U : State), s.WarmedH U.vm → q.before a' U = true := fun q hq a' U hW => word_at hW (lw_self q hq).2 (hts q hq)
  obtain ⟨h0, hP⟩ := tx_obj (ci := 0) hH (sh_1 w)
  obtain ⟨cellB, hcB, hoB, hclB⟩ := va_recv hK.1 hP (ci := 0) (q0 := 0) (q := (RX0, TX0, 23)) rfl rfl
  rw [tx_ref h0] at S ⊢
  obtain ⟨mk, methM, hnamed, hmethM, hstM, habM⟩ := Cond.instanceMethod_spec (hts _ v1)
  obtain ⟨m', methM', cM, h0', hm1, hc1, -, hl1, -, -, -, hsigM⟩ := Cond.codeWith_spec (hts _ v4)
  cases hnamed.symm.trans h0'
  cases hmethM.symm.trans hm1
  obtain ⟨c2, r2, m2, q1, q2, q3, q4, kP, hkP, hkPi⟩ := Cond.selects_spec (hts _ v2)
  cases hclB.symm.trans q1
  cases (State.methodFound?_of_named hnamed ⟨v5.2.1, v5.2.2.1⟩).symm.trans q2
  cases hnamed.symm.trans q3
  have hselP : selectMethod e.platform s.vm cellB.cls mk = .method mk := by rw [Launch.admits_selectMethod X.admits]; exact q4
  subst hb
  obtain ⟨vm₁, X₁, hstep₁⟩ := X.invokevirtual hx hown (hts _ hl) hnamed hmethM hstM hkP hkPi ⟨v5.2.1, v5.2.2.1⟩ (a := wa w 1) (cell := cellB) (by rw [hT]; exact hcB) (fun z h => by rw [h] at hoB; cases hoB) hselP hmethM habM hkP hkPi (g := F0 m pc ls (As.reverse ++ .ref (wa w 1) :: rest)) rfl (argsL := As) (rest := rest) (by have h := v5.2.2.2; rw [hsigM] at h; rw [hn]; exact (Option.some.inj h).symm) rfl hd
  have hU : s.WarmedH (T.setVm vm₁).vm := X₁.warmed
  have hnU := X₁.named hnamed
  obtain ⟨mU, methU, cU, hn2, hmU, hcU, -, hlU, -, -, -, -⟩ := Cond.codeWith_spec (ht _ v4 #[] _ hU)
  cases hnU.symm.trans hn2
  obtain ⟨kU, hkU, -⟩ := className_of_methodNamed hnU
  have hiU : kU.init = .initialized := Cond.initialized_spec (findClass_of_methodNamed hnU) hkU (by rw [v5.1]; exact ht _ v3 #[] _ hU)
  have happ : (headSpec (wsW_ y b L ret hh) { frames := fr', cells := mc, slots := ms, locals := 64 * fr' }).appliesLoose y e.platform ((T.setVm vm₁).calling (F0 m pc ls rest) mk (Value.ref (wa w 1) :: As).toArray) = true :=
    Spec.appliesLoose_calling (g := F0 m pc ls rest) X₁.here hd hnU hkU hiU (X₁.room_calling (g := F0 m pc ls rest) (R' := { frames := fr', cells := mc, slots := ms, locals := 64 * fr' }) hls.1 hmU hcU (by show fr' + 1 ≤ Rm.frames; omega) (by rw [hlU]; show 2 * 0 + (rest.map fun v => v.category).sum + (L + 11) + 64 * fr' ≤ Rm.locals; omega) hc.1 hc.2)
      (atoms_intro (fun q hq => by
        rcases List.mem_cons.mp hq with e | e
        · rw [e]; exact ht _ v4 _ _ hU
        · exact ht _ e _ _ hU))
  have hPc : tx_Pc w (Value.ref (wa w 1) :: As) R M (Value.ref (wa w 1) :: As).toArray ((T.setVm vm₁).calling (F0 m pc ls rest) mk (Value.ref (wa w 1) :: As).toArray) := tx_blind _ _ _ _ ⟨rfl, by show tx_H w R M T.heap; rw [hT]; exact hH, hK.warm hU, hJ, by show wz w ≤ T.heap.size; rw [hT]; exact Nat.le_trans hz hS.1⟩
  have hPB : tx_B w ((T.setVm vm₁).calling (F0 m pc ls rest) mk (Value.ref (wa w 1) :: As).toArray) := tx_B.moved (s := s) hB hU (by
    intro q hq
    show T.heap[q]? = _
    rw [hT]; exact tx_old hS hz q hq)
  obtain ⟨mid, hmid⟩ := X₁.here.above
  have hfrm : ((T.setVm vm₁).setTop (F0 m pc ls rest)).frames = (.java (F0 m pc ls rest) :: mid) ++ below := by rw [State.frames_setTop' _ X₁.here.top, hmid]; rfl
  unfold tx_G Met at S
  obtain ⟨o, s₂, hsteps, -, hend, ⟨⟨v, w', R', M', rfl, hq, hx', hJ', hH'⟩, hF1, hF2⟩, Lq, ⟨-, hW2, hsame⟩, hfree⟩ := Steps.callFree S p X₁.admits X₁.cas X₁.clock (acts := []) hfrm happ ⟨hPc, hPB⟩ trivial
  rw [State.frames_setTop' _ X₁.here.top, X₁.tail] at hend
  obtain ⟨T', X2, -, -, hs₂⟩ := X₁.outOf (g := F0 m pc ls rest) rfl hd (mk := mk) (a := (Value.ref (wa w 1) :: As).toArray) hend hW2 hsame
  have hhp : T'.heap = s₂.heap := by rw [hs₂]; simp [State.setTop, State.modifyTopJava]
  have hS3 : va_S (tx_A w) s.heap T'.heap (locs ++ Lq) := by
    have g1 : T.heap.size ≤ s₂.heap.size := hF1
    have g2 : ∀ q : Nat, q < T.heap.size → ¬ tx_A w q → s₂.heap[q]? = T.heap[q]? := hF2
    rw [hT] at g1 g2
    rw [hhp]
    refine ⟨Nat.le_trans hS.1 g1, fun q h1 h2 => by rw [g2 q (Nat.lt_of_lt_of_le h1 hS.1) h2]; exact hS.2.1 q h1 h2, fun q hq => ?_⟩
    rcases List.mem_append.mp hq with h | h
    · exact hS.2.2 q h
    · exact hfree q h
  have h := k v w' R' M' hq hx' hJ' T'.heap (locs ++ Lq) (by rw [hhp]; exact hH') (by rw [hx'.A]; exact hS3) ls hls
  rw [hx'.1] at h
  obtain ⟨t, a1, a2⟩ := h T' rfl X2
  rw [hs₂] at hsteps
  exact ⟨t, hstep₁ _ (fun acts => by rw [doInvoke_state]; exact hsteps.trans a1), a2⟩
/-- the script -/
def tx_SC (w : WT) (bb LL : Nat) (xs : Nat → Int32) : ET → Prop
  | (_, _, _, s, _, _, _, _, _, _, _, _) => va_X bb LL xs s s.heap ∧ bb < s.heap.size ∧ wz w = s.heap.size
def sc (xs : Nat → Int32) (j : Int) : Int := (xs j.toNat).toInt
theorem sc_rng (xs : Nat → Int32) (j : Int) : rng (sc xs j) := toInt_rng _
variable {bb LL : Nat} {xs : Nat → Int32}
theorem tx_aloadx {k0 : Fin 4} {i : Nat} {x : Addr} (j : Nat) (O : tx_O w own cc nL fr E) (hd : decode cc pc = .ok (.aload_n k0, 1)) (hi : (k0 : Nat) = i) (hj : lv[j]? = some (i, .ref x)) (k : tx_X w E (pc + 1) lv (.ref x :: st) R M) : tx_X w E pc lv st R M := by
  obtain ⟨p, e, Rm, s, m, args, below, meth, c, cells, slots, Z⟩ := E
  obtain ⟨hx, hb, hml, hown, hts, hK, hJ, hz, hlk, hfr, hlo, hce, hsl⟩ := O
  intro H locs hH hS ls hl
  exact lv_aload_n hx hb hd hi (lv_at hl j hj) (k H locs hH hS ls hl)
theorem tx_sld {j : Int} (O : tx_O w own cc nL fr E) (C : tx_SC w bb LL xs E) (hd : decode cc pc = .ok (.iaload, 1)) (hL : LL < 2147483648) (hj : 0 ≤ j ∧ j < LL) (k : tx_X w E (pc + 1) lv (iV (sc xs j) :: st) R M) : tx_X w E pc lv (iV j :: .ref bb :: st) R M := by
  obtain ⟨p, e, Rm, s, m, args, below, meth, c, cells, slots, Z⟩ := E
  obtain ⟨hx, hb, hml, hown, hts, hK, hJ, hz, hlk, hfr, hlo, hce, hsl⟩ := O
  obtain ⟨c1, c2, c3⟩ := C
  intro H locs hH hS ls hl
  obtain ⟨g1, g2⟩ := of_in hj hL
  refine va_sld (A := tx_A w) hx hb c1 c2 (by show ¬ wz w ≤ bb; omega) hS g1 hd ?_
  have k1 := k H locs hH hS ls hl
  rw [g2]
  unfold sc at k1
  rw [iV_to] at k1
  exact k1
theorem tx_slen (O : tx_O w own cc nL fr E) (C : tx_SC w bb LL xs E) (hd : decode cc pc = .ok (.arraylength, 1)) (k : tx_X w E (pc + 1) lv (iV LL :: st) R M) : tx_X w E pc lv (.ref bb :: st) R M := by
  obtain ⟨p, e, Rm, s, m, args, below, meth, c, cells, slots, Z⟩ := E
  obtain ⟨hx, hb, hml, hown, hts, hK, hJ, hz, hlk, hfr, hlo, hce, hsl⟩ := O
  obtain ⟨c1, c2, c3⟩ := C
  intro H locs hH hS ls hl
  exact va_slen (A := tx_A w) hx hb c1 c2 (by show ¬ wz w ≤ bb; omega) hS hd (k H locs hH hS ls hl)
/-- an argument: script[i + k] -/
theorem tx_arg {i : Int} {n1 : Int} (O : tx_O w own cc nL fr E) (C : tx_SC w bb LL xs E) (hL : LL < 2147483648) (d0 : decode cc pc = .ok (.aload_n 0, 1)) (d1 : decode cc (pc + 1) = .ok (.iload_n 3, 1)) (d2 : decode cc (pc + 2) = .ok (.iconst n1, 1)) (d3 : decode cc (pc + 3) = .ok (.iadd, 1)) (d4 : decode cc (pc + 4) = .ok (.iaload, 1)) (j0 j3 : Nat) (h0 : lv[j0]? = some (0, .ref bb)) (h3 : lv[j3]? = some (3, iV i)) (hi : 0 ≤ i + n1 ∧ i + n1 < LL) (k : tx_X w E (pc + 5) lv (iV (sc xs (i + n1)) :: st) R M) : tx_X w E pc lv st R M := by
  refine tx_aloadx j0 O d0 rfl h0 ?_
  refine tx_iload_n (pc := pc + 1) j3 O d1 rfl h3 ?_
  refine tx_iconst (pc := pc + 2) O d2 ?_
  refine tx_iadd (pc := pc + 3) O d3 ?_
  exact tx_sld (pc := pc + 4) O C d4 hL hi k
end LAWR
