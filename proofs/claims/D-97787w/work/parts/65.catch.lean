/-! CATCH: a callee's throw comes to the caller's handler; calls of methods that make cells -/
set_option maxRecDepth 100000
theorem ct_step {e : Env} {s : State} {a : Addr} {f : JFrame} {r : List Frame} {pc : Nat} {vm' : Vm} (hf : ∀ (Q : Handler → Pre) (E : CtlPost) (d : Bool) (acts : List Action), wp (findHandler f a) Q E e d acts s ↔ Q (.found pc) d acts (s.setVm vm')) : (stepThrowing e s a (.java f :: r)).Is ((s.setVm vm').setFrames (.java { f with pc := pc, stack := [.ref a] } :: r)) [] := by
  simp only [stepThrowing, searchFrame, vmDo]
  generalize hr : Sem.go _ e false [] s = res
  obtain ⟨as, rfl, ha⟩ := Sem.eq_ok_of hr (a := Handler.found pc) (s' := s.setVm vm') (acts' := []) (by simp [hf _ _ _ _])
  exact ⟨rfl, ha⟩
theorem ct_go {p : Program} {e : Env} {T t : State} {g : JFrame} {c : Code} {below : List Frame} {a : Addr} {pc : Nat} {vm' : Vm} (h : At T g.method c below) (hf : ∀ (Q : Handler → Pre) (E : CtlPost) (d : Bool) (acts : List Action), wp (findHandler g a) Q E e d acts ((T.setTop g).pushFrame (.throwing a)) ↔ Q (.found pc) d acts (((T.setTop g).pushFrame (.throwing a)).setVm vm')) (k : Steps p.tables e below ((T.setVm vm').setTop { g with pc := pc, stack := [.ref a] }) t) : Steps p.tables e below ((T.setTop g).pushFrame (.throwing a)) t := by
  obtain ⟨h1, h2⟩ := h.throwing a
  refine Steps.head h1 h2 ?_
  rw [stepThread_throwing (frames_entered h.top _), (ct_step hf).1]
  obtain ⟨g₀, hg⟩ := Option.isSome_iff_exists.mp h.top
  obtain ⟨r, hr⟩ := State.topJava?_eq_some.mp hg
  have hr' : (T.setVm vm').frames = .java g₀ :: r := hr
  rw [State.setTop_of_frames _ hr'] at k
  have sw : ∀ (u : State) (F G : List Frame), ((u.setFrames F).setVm vm').setFrames G = (u.setVm vm').setFrames G := fun u F G => by
    rw [show (u.setFrames F).setVm vm' = (u.setVm vm').setFrames F from rfl, State.setFrames_setFrames]
  rw [hr, List.tail_cons, State.pushFrame, sw, State.setTop_of_frames _ hr, sw]
  exact k
section CATCH
variable {w : WT} {E : ET} {own : String} {cc : ByteArray} {nL fr pc : Nat} {lv : List (Nat × Value)} {R M : TM} {rest : List Value} {y : MethodName} {b : ByteArray} {L : Nat} {ret : Option FieldType} {C : String} {n idx fr' : Nat}
/-- from the note over the frame to the handler -/
theorem tx_caught {w0 : WT} {p : Program} {e : Env} {Rm : Room} {s : State} {m : MethodId} {args : Array Value} {below : List Frame} {meth : Method} {c : Code} {cells slots c1 s1 hp : Nat} {Z : State → Prop} {nm : String} {ls : Array Slot} {locs : List Loc} {T : State} {x : Addr} {cell : Cell} {rets : Option FieldType} {mc0 ms0 : Nat} {Q : Option Value → WT → TM → TM → Prop} {hh : List (Nat × Nat × Nat × Nat)} {st : List Value}
    (O : tx_O w own cc nL fr (p, e, Rm, s, m, args, below, meth, c, cells, slots, Z)) (F : tx_GZ w0 rets mc0 ms0 Q hh (p, e, Rm, s, m, args, below, meth, c, cells, slots, Z)) (hB : tx_B w s) (hc : tx_ct own nm pc hp hh) (X : Stand p (wl w) e Rm s m args below meth c T locs c1 s1) (hcell : T.heap[x]? = some cell) (hst : cell.vm.isStatics = false) (hcls : s.vm.findClass nm = some cell.cls)
    (k : W p (wl w) e Rm s m args below meth c T.heap locs c1 s1 Z (F0 m hp ls [.ref x])) : ∃ t, Steps p.tables e below ((T.setTop (F0 m pc ls st)).pushFrame (.throwing x)) t ∧ Z t := by
  obtain ⟨hx, hb, hml, hown, hts, hK, hJ, hz, hlk, hfr, hlo, hce, hsl⟩ := O
  obtain ⟨-, -, -, -, -, -, -, f8⟩ := F
  have hpl : e.platform.magicAccessors = ({} : Platform).magicAccessors := by rw [X.admits.platform]
  rw [← f8] at hc
  obtain ⟨vm', hW', hq⟩ := fh_go (e := e) (f := F0 m pc ls st) (a := x) hown hts hK.2 hB hpl (VmData.ne_statics_of hst) hcls c.exceptionTable.toList ((T.setTop (F0 m pc ls st)).pushFrame (.throwing x)) X.warmed hcell hc
  have hf : ∀ (Q : Handler → Pre) (E : CtlPost) (d : Bool) (acts : List Action), wp (findHandler (F0 m pc ls st) x) Q E e d acts ((T.setTop (F0 m pc ls st)).pushFrame (.throwing x)) ↔ Q (.found hp) d acts (((T.setTop (F0 m pc ls st)).pushFrame (.throwing x)).setVm vm') := fun Q E d acts => by
    rw [W.findHandler_eq (meth := meth) (code := c) X.method' X.code]
    exact hq Q E d acts
  obtain ⟨t, a1, a2⟩ := k (T.setVm vm') rfl (X.noted hW')
  exact ⟨t, ct_go (g := F0 m pc ls st) X.here hf a1, a2⟩
theorem tx_callT {w0 : WT} {As : List Value} {rets : Option FieldType} {mc ms mc0 ms0 hp : Nat} {nm : String} {Q : Option Value → WT → TM → TM → Prop} {hh : List (Nat × Nat × Nat × Nat)} (O : tx_O w own cc nL fr E) (F : tx_GZ w0 rets mc0 ms0 Q hh E) (hx0 : tx_ext w0 w) (hE : eC E = 0 ∧ eS E = 0) (hcs : mc ≤ mc0 ∧ ms ≤ ms0) (hd : decode cc pc = .ok (.invokestatic idx, 3)) (hl : Cond.methodLink own idx y ∈ lw_all) (hv : tx_T y b L ret n) (hfr' : fr' + 1 ≤ fr) (hn : As.length = n) (hrm : (rest.map fun v => v.category).sum ≤ 8) (S : tx_TS w y b L ret fr' mc ms As R M nm) (hc : tx_ct own nm pc hp hh) (k : ∀ x : Addr, tx_X w (eAt E mc ms) hp lv [.ref x] R M) : tx_X w E pc lv (As.reverse ++ rest) R M := by
  obtain ⟨p, e, Rm, s, m, args, below, meth, c, cells, slots, Z⟩ := E
  have O1 := O
  have F1 := F
  obtain ⟨hx, hb, hml, hown, hts, hK, hJ, hz, hlk, hfr, hlo, hce, hsl⟩ := O
  obtain ⟨f1, f2, f3, f4, f5, f6, f7, f8⟩ := F
  obtain ⟨rfl, rfl⟩ : cells = 0 ∧ slots = 0 := hE
  intro H locs hH hS ls hls T hT X
  obtain ⟨v1, v2, v3, v4, v5⟩ := hv
  have hB : tx_B w s := hx0.B f7
  have ht : ∀ q ∈ lw_all, ∀ (a' : Array Value) (U : State), s.WarmedH U.vm → q.before a' U = true := fun q hq a' U hW => word_at hW (lw_self q hq).2 (hts q hq)
  have hcode := hts _ v3
  obtain ⟨mk, hnamed⟩ := Cond.code_named hcode
  obtain ⟨methM, cM, hmethM, hcM, -, hlM, -, -, -, hsigM⟩ := Cond.code_spec hnamed hcode
  have hstatic : methM.isStatic = true := Cond.static_spec hnamed hmethM (hts _ v1)
  obtain ⟨kP, hkP, -⟩ := className_of_methodNamed hnamed
  have hinitP : kP.init = .initialized := Cond.initialized_spec (findClass_of_methodNamed hnamed) hkP (hts _ v2)
  subst hb
  obtain ⟨vm₁, X₁, hstep₁⟩ := X.invokestatic hx hown (hts _ hl) hnamed hmethM hstatic hkP hinitP ⟨v4.1, v4.2.1⟩ (g := F0 m pc ls (As.reverse ++ rest)) rfl (argsL := As) (rest := rest) (by have h := v4.2.2; rw [hsigM] at h; rw [hn]; exact (Option.some.inj h).symm) rfl hd
  have hU : s.WarmedH (T.setVm vm₁).vm := X₁.warmed
  have hnU := X₁.named hnamed
  obtain ⟨methU, cU, hmU, hcU, -, hlU, -, -, -, -⟩ := Cond.code_spec hnU (ht _ v3 #[] _ hU)
  obtain ⟨kU, hkU, -⟩ := className_of_methodNamed hnU
  have hiU : kU.init = .initialized := Cond.initialized_spec (findClass_of_methodNamed hnU) hkU (ht _ v2 #[] _ hU)
  have happ : (headSpec (ws_ y b L ret) { frames := fr', cells := mc, slots := ms, locals := 64 * fr' }).appliesLoose y e.platform ((T.setVm vm₁).calling (F0 m pc ls rest) mk As.toArray) = true :=
    Spec.appliesLoose_calling (g := F0 m pc ls rest) X₁.here hd hnU hkU hiU (X₁.room_calling (g := F0 m pc ls rest) (R' := { frames := fr', cells := mc, slots := ms, locals := 64 * fr' }) hls.1 hmU hcU (by show fr' + 1 ≤ Rm.frames; omega) (by rw [hlU]; show 2 * 0 + (rest.map fun v => v.category).sum + (L + 11) + 64 * fr' ≤ Rm.locals; omega) (by show 0 + mc ≤ Rm.cells; omega) (by show 0 + ms ≤ Rm.slots; omega))
      (atoms_intro (fun q hq => by
        rcases List.mem_cons.mp hq with e | e
        · rw [e]; exact ht _ v3 _ _ hU
        · exact ht _ e _ _ hU))
  have hPc : tx_Pc w As R M As.toArray ((T.setVm vm₁).calling (F0 m pc ls rest) mk As.toArray) := tx_blind _ _ _ _ ⟨rfl, by show tx_H w R M T.heap; rw [hT]; exact hH, hK.warm hU, hJ, by show wz w ≤ T.heap.size; rw [hT]; exact Nat.le_trans hz hS.1⟩
  have hPB : tx_B w ((T.setVm vm₁).calling (F0 m pc ls rest) mk As.toArray) := hB.moved hU (by
    intro q hq
    show T.heap[q]? = _
    rw [hT]; exact tx_old hS hz q hq)
  obtain ⟨mid, hmid⟩ := X₁.here.above
  have hfrm : ((T.setVm vm₁).setTop (F0 m pc ls rest)).frames = (.java (F0 m pc ls rest) :: mid) ++ below := by rw [State.frames_setTop' _ X₁.here.top, hmid]; rfl
  obtain ⟨o, s₂, hsteps, -, hend, x, rfl, hq⟩ := Steps.callFree S p X₁.admits X₁.cas X₁.clock (acts := []) hfrm happ ⟨hPc, hPB⟩ trivial
  obtain ⟨cell, q1, q2, q3, q4, q5, q6, Lq, kq, nq, q7, q8, q9, q10⟩ := hq
  rw [State.frames_setTop' _ X₁.here.top, X₁.tail] at hend
  obtain ⟨T', X2, -, -, hs₂⟩ := X₁.outOfThrown (g := F0 m pc ls rest) rfl (mk := mk) (a := As.toArray) hend q6 q7
  have hhp : T'.heap = s₂.heap := by rw [hs₂, Stand.throwing_heap]
  have X3 : Stand p (wl w) e Rm s m args below meth c T' (locs ++ Lq) mc ms := stand_widen X2 (by omega) (by omega)
  have hS3 : va_S (tx_A w) s.heap T'.heap (locs ++ Lq) := by
    obtain ⟨g1, g2⟩ := q5
    have g1 : T.heap.size ≤ s₂.heap.size := g1
    have g2 : ∀ q : Nat, q < T.heap.size → ¬ tx_A w q → s₂.heap[q]? = T.heap[q]? := g2
    rw [hT] at g1 g2
    rw [hhp]
    refine ⟨Nat.le_trans hS.1 g1, fun q h1 h2 => by rw [g2 q (Nat.lt_of_lt_of_le h1 hS.1) h2]; exact hS.2.1 q h1 h2, fun q hq => ?_⟩
    rcases List.mem_append.mp hq with h | h
    · exact hS.2.2 q h
    · exact q10 q h
  obtain ⟨t, a1, a2⟩ := tx_caught (ls := ls) (st := rest) O1 F1 hB hc X3 (by rw [hhp]; exact q1) q2 ((hU.alike.findClass nm none).symm.trans q3) (k x T'.heap (locs ++ Lq) (by rw [hhp]; exact q4) hS3 ls hls)
  rw [← hs₂] at a1
  exact ⟨t, hstep₁ _ (fun acts => by rw [doInvoke_state]; exact hsteps.trans a1), a2⟩
theorem tx_goG {p : Program} {e : Env} {Rm : Room} {s : State} {m : MethodId} {args : Array Value} {below : List Frame} {meth : Method} {c : Code} {cells slots mc ms : Nat} {Z : State → Prop} {H : Heap} {locs : List Loc} {ls : Array Slot} {st0 : List Value} {Q' : Option Value → WT → TM → TM → Prop} {a : Array Value}
    (hr : va_Run p (wl w) e Rm s m args below meth c H locs cells slots mc ms (F0 m pc ls st0) rest (tx_QG w Q' a) (tx_A w)) (hS : va_S (tx_A w) s.heap H locs)
    (kk : ∀ (v : Option Value) (w' : WT) (R' M' : TM) (H1 : Heap) (locs1 : List Loc), Q' v w' R' M' → tx_ext w w' → tx_J w' → tx_H w' R' M' H1 → va_S (tx_A w) s.heap H1 locs1 → W p (wl w) e Rm s m args below meth c H1 locs1 (cells + mc) (slots + ms) Z (F0 m (pc + 3) ls (v.toList ++ rest))) : W p (wl w) e Rm s m args below meth c H locs cells slots Z (F0 m pc ls st0) := by
  intro T hT X
  obtain ⟨v, st₀, t, T', L, h0, X', hL, e1, e2, ⟨⟨v', w', R', M', hv, hq, hx, hJ, hh⟩, hz, hk⟩, st⟩ := hr T hT X
  cases hv
  rw [h0] at hz hk
  obtain ⟨t2, a1, b1⟩ := kk v w' R' M' T'.heap (locs ++ L) hq hx hJ (by rw [e1]; exact hh)
    ⟨Nat.le_trans hS.1 (by rw [e1]; exact hz), fun q h1 h2 => by rw [e1, hk q (Nat.lt_of_lt_of_le h1 hS.1) h2]; exact hS.2.1 q h1 h2, fun q hq => by
      rcases List.mem_append.mp hq with h | h
      · exact hS.2.2 q h
      · exact hL q h⟩ T' rfl X'
  exact ⟨t2, st t2 a1, b1⟩
theorem tx_blindB {as : List Value} : FrameBlind (fun v U => tx_Pc w as R M v U ∧ tx_B w U) := fun a U g mk h => ⟨tx_blind a U g mk h.1, h.2⟩
theorem tx_callSG {As : List Value} {mc ms : Nat} {Q' : Option Value → WT → TM → TM → Prop} (O : tx_O w own cc nL fr E) (hB : tx_B w E.2.2.2.1) (hd : decode cc pc = .ok (.invokestatic idx, 3)) (hl : Cond.methodLink own idx y ∈ lw_all) (hv : tx_T y b L ret n) (hfr' : fr' + 1 ≤ fr) (hc : eC E + mc ≤ E.2.2.1.cells ∧ eS E + ms ≤ E.2.2.1.slots) (hn : As.length = n) (hrm : (rest.map fun v => v.category).sum ≤ 8) (S : tx_G w y (ws_ y b L ret) fr' mc ms As R M Q') (k : ∀ (v : Option Value) (w' : WT) (R' M' : TM), Q' v w' R' M' → tx_ext w w' → tx_J w' → tx_X w' (eAt E (eC E + mc) (eS E + ms)) (pc + 3) lv (v.toList ++ rest) R' M') : tx_X w E pc lv (As.reverse ++ rest) R M := by
  obtain ⟨p, e, Rm, s, m, args, below, meth, c, cells, slots, Z⟩ := E
  obtain ⟨hx, hb, hml, hown, hts, hK, hJ, hz, hlk, hfr, hlo, hce, hsl⟩ := O
  intro H locs hH hS ls hls
  obtain ⟨v1, v2, v3, v4, v5⟩ := hv
  refine tx_goG (va_runS (As := As) (rest := rest) (nL := nL) ⟨hx, hb, hml, hown, hts⟩ S (va_cwS n hts (lw_S hl v1 v2 v3) rfl rfl rfl v4 ⟨?_, ?_⟩) ⟨tx_blindB, fun U hU hW => ⟨⟨rfl, by rw [hU]; exact hH, hK.warm hW, hJ, by rw [hU]; exact Nat.le_trans hz hS.1⟩, hB.moved hW (by intro q hq; rw [hU]; exact tx_old hS hz q hq)⟩⟩ rfl hn (by rw [← hml]; exact hls.1) rfl (lv_room hrm) hd hc) hS (fun v w' R' M' H1 locs1 g1 g2 g3 g4 g5 => ?_)
  · show fr' + 1 ≤ Rm.frames
    omega
  · show 8 + (L + 11) + 64 * fr' ≤ Rm.locals
    omega
  · have h := k v w' R' M' g1 g2 g3 H1 locs1 g4 (by rw [g2.A]; exact g5) ls hls
    rw [g2.1] at h
    exact h
end CATCH
