/-! COSTS: a contract of a method that makes cells (its world may grow) or catches; the search for a handler -/
set_option maxRecDepth 100000
/-- the same classes, the same past; more cells -/
def tx_ext (w w' : WT) : Prop := wl w' = wl w ∧ wz w' = wz w ∧ wD w' = wD w ∧ wc w' = wc w
theorem tx_ext.rf {w : WT} : tx_ext w w := ⟨rfl, rfl, rfl, rfl⟩
theorem tx_ext.tr {a b c : WT} (h : tx_ext a b) (k : tx_ext b c) : tx_ext a c := ⟨k.1.trans h.1, k.2.1.trans h.2.1, k.2.2.1.trans h.2.2.1, k.2.2.2.trans h.2.2.2⟩
theorem tx_ext.K {w w' : WT} (h : tx_ext w w') {U : State} (k : tx_K w U) : tx_K w' U := by
  obtain ⟨h1, h2, h3, h4⟩ := h
  unfold tx_K at k ⊢
  rw [h3, h4]; exact k
theorem tx_ext.B {w w' : WT} (h : tx_ext w w') {U : State} (k : tx_B w U) : tx_B w' U := by
  obtain ⟨h1, h2, h3, h4⟩ := h
  unfold tx_B tx_st at k ⊢
  rw [h1, h2]; exact k
theorem tx_ext.A {w w' : WT} (h : tx_ext w w') : tx_A w' = tx_A w := by
  unfold tx_A; rw [h.2.1]
def tx_QG (w : WT) (Q : Option Value → WT → TM → TM → Prop) : Array Value → State → Outcome → State → Prop := fun _ st oc t => (∃ (v : Option Value) (w' : WT) (R' M' : TM), oc = .returned v ∧ Q v w' R' M' ∧ tx_ext w w' ∧ tx_J w' ∧ tx_H w' R' M' t.heap) ∧ va_F (tx_A w) st t
def tx_G (w : WT) (y : MethodName) (ws : List Cond) (fr mc ms : Nat) (as : List Value) (R M : TM) (Q : Option Value → WT → TM → TM → Prop) : Prop := Met (wl w) y ws { frames := fr, cells := mc, slots := ms, locals := 64 * fr } (fun v U => tx_Pc w as R M v U ∧ tx_B w U) (tx_QG w Q) mc ms (tx_A w)
abbrev exq (c : Code) : List (Nat × Nat × Nat × Nat) := c.exceptionTable.toList.map (fun h => (h.startPc, h.endPc, h.handlerPc, h.catchType))
def tx_GZ (w : WT) (ret : Option FieldType) (mc ms : Nat) (Q : Option Value → WT → TM → TM → Prop) (hh : List (Nat × Nat × Nat × Nat)) : ET → Prop
  | (_, _, Rm, s, _, args, below, meth, c, cells, slots, Z) => Z = MQ below (tx_QG w Q) args s mc ms (tx_A w) ∧ meth.sig.returnType = ret ∧ cells ≤ mc ∧ slots ≤ ms ∧ mc ≤ Rm.cells ∧ ms ≤ Rm.slots ∧ tx_B w s ∧ exq c = hh
/-- so much has been made -/
def eAt (E : ET) (a b : Nat) : ET := (E.1, E.2.1, E.2.2.1, E.2.2.2.1, E.2.2.2.2.1, E.2.2.2.2.2.1, E.2.2.2.2.2.2.1, E.2.2.2.2.2.2.2.1, E.2.2.2.2.2.2.2.2.1, a, b, E.2.2.2.2.2.2.2.2.2.2.2)
abbrev eC (E : ET) : Nat := E.2.2.2.2.2.2.2.2.2.1
abbrev eS (E : ET) : Nat := E.2.2.2.2.2.2.2.2.2.2.1
theorem tx_O.at {w : WT} {own : String} {cc : ByteArray} {nL fr : Nat} {E : ET} {ret : Option FieldType} {mc ms : Nat} {Q : Option Value → WT → TM → TM → Prop} {hh : List (Nat × Nat × Nat × Nat)} {w0 w' : WT} (O : tx_O w own cc nL fr E) (F : tx_GZ w0 ret mc ms Q hh E) (hx : tx_ext w w') (hJ' : tx_J w') {a b : Nat} (ha : a ≤ mc) (hb : b ≤ ms) : tx_O w' own cc nL fr (eAt E a b) := by
  obtain ⟨p, e, Rm, s, m, args, below, meth, c, cells, slots, Z⟩ := E
  obtain ⟨hx1, hb1, hml, hown, hts, hK, hJ, hz, hlk, hfr, hlo, hce, hsl⟩ := O
  obtain ⟨-, -, -, -, r1, r2, -, -⟩ := F
  exact ⟨hx1, hb1, hml, hown, hts, hx.K hK, hJ', by rw [hx.2.1]; exact hz, hlk, hfr, hlo, Nat.le_trans ha r1, Nat.le_trans hb r2⟩
theorem tx_GZ.at {E : ET} {ret : Option FieldType} {mc ms : Nat} {Q : Option Value → WT → TM → TM → Prop} {hh : List (Nat × Nat × Nat × Nat)} {w0 : WT} (F : tx_GZ w0 ret mc ms Q hh E) {a b : Nat} (ha : a ≤ mc) (hb : b ≤ ms) : tx_GZ w0 ret mc ms Q hh (eAt E a b) := by
  obtain ⟨p, e, Rm, s, m, args, below, meth, c, cells, slots, Z⟩ := E
  obtain ⟨f1, f2, f3, f4, f5, f6, f7, f8⟩ := F
  exact ⟨f1, f2, ha, hb, f5, f6, f7, f8⟩
theorem tx_G.of {w : WT} {y : MethodName} {b : ByteArray} {L : Nat} {ret : Option FieldType} {fr mc ms : Nat} {as : List Value} {R M : TM} {Q : Option Value → WT → TM → TM → Prop} {lv : List (Nat × Value)} (hy : plainName y.cls = true) (hlen : (lg_sl as).length ≤ L) (hlv : lv_args 0 as = lv) (h : ∀ E : ET, tx_O w y.cls b L fr E → tx_GZ w ret mc ms Q [] E → eC E = 0 → eS E = 0 → tx_X w E 0 lv [] R M) : tx_G w y (ws_ y b L ret) fr mc ms as R M Q := by
  refine Met.ofW (cc := b) (maxL := L) (ret := ret) hy rfl ?_
  intro p e s m args below meth c s₁ B hml hv
  obtain ⟨⟨rfl, hH, hK, hJ, hz⟩, hBB⟩ := hv
  have hts0 := atoms_spec (ws := ws_ y b L ret) B.pre
  have hts : ∀ x ∈ lw_all, x.before _ s = true := fun x h => hts0 x (List.mem_cons_of_mem _ h)
  have hown : s.vm.findClass y.cls = some m.cls := findClass_of_methodNamed B.named
  have hex := B.noHandlers (hts0 _ List.mem_cons_self)
  have hl := lv_entry as (n := L) hlen
  rw [lg_entry_eq]
  generalize (lg_sl as ++ List.replicate (L - (lg_sl as).length) Slot.unset).toArray = ls at hl ⊢
  rw [hlv] at hl
  have he : exq c = [] := by
    have : c.exceptionTable = #[] := Array.isEmpty_iff.mp hex
    unfold exq; rw [this]; rfl
  exact h (p, e, (headSpec (ws_ y b L ret) { frames := fr, cells := mc, slots := ms, locals := 64 * fr }).room, s, m, as.toArray, below, meth, c, 0, 0, MQ below (tx_QG w Q) as.toArray s mc ms (tx_A w)) ⟨B.exec, B.bytes, hml, hown, hts, hK, hJ, hz, B.notSynchronized, Nat.le_refl _, Nat.le_refl _, Nat.zero_le _, Nat.zero_le _⟩ ⟨rfl, B.returns, Nat.zero_le _, Nat.zero_le _, Nat.le_refl _, Nat.le_refl _, hBB, he⟩ rfl rfl s.heap [] hH va_S.rf ls (by rw [hml]; exact hl)
theorem tx_G.ofW {w : WT} {y : MethodName} {b : ByteArray} {L : Nat} {ret : Option FieldType} {hh : List (Nat × Nat × Nat × Nat)} {fr mc ms : Nat} {as : List Value} {R M : TM} {Q : Option Value → WT → TM → TM → Prop} {lv : List (Nat × Value)} (hy : plainName y.cls = true) (hlen : (lg_sl as).length ≤ L) (hlv : lv_args 0 as = lv) (h : ∀ E : ET, tx_O w y.cls b L fr E → tx_GZ w ret mc ms Q hh E → eC E = 0 → eS E = 0 → tx_X w E 0 lv [] R M) : tx_G w y (wsW_ y b L ret hh) fr mc ms as R M Q := by
  unfold tx_G Met
  refine MetFree.of_bodyS (code := b) (maxLocals := L) (ret := ret) hy ?_ ?_
  · intro args s m h hn
    obtain ⟨m', meth, c, h0, h1, h2, h3, h4, -, h5, h6, -⟩ := Cond.codeWith_spec (atoms_spec (ws := wsW_ y b L ret hh) h _ List.mem_cons_self)
    cases h0.symm.trans hn
    exact ⟨meth, c, h1, h2, h3, h4, h5, h6⟩
  · intro p e s m args below meth c s₁ B hml hP _
    obtain ⟨⟨rfl, hH, hK, hJ, hz⟩, hBB⟩ := hP
    have hts0 := atoms_spec (ws := wsW_ y b L ret hh) B.pre
    have hts : ∀ x ∈ lw_all, x.before _ s = true := fun x h => hts0 x (List.mem_cons_of_mem _ h)
    have hown : s.vm.findClass y.cls = some m.cls := findClass_of_methodNamed B.named
    have he : exq c = hh := by
      obtain ⟨m', meth', c', h0, h1, h2, h3, h4, h5, -, -, -⟩ := Cond.codeWith_spec (hts0 _ List.mem_cons_self)
      cases h0.symm.trans B.named
      cases B.method.symm.trans h1
      cases (Stand.of_body B).code.symm.trans h2
      exact h5
    have hh0 : s₁.heap = s.heap := by rw [B.state]; rfl
    have hl := lv_entry as (n := L) hlen
    rw [lg_entry_eq]
    generalize (lg_sl as ++ List.replicate (L - (lg_sl as).length) Slot.unset).toArray = ls at hl ⊢
    rw [hlv] at hl
    obtain ⟨t, a1, o, b1, b2, b3⟩ := h (p, e, (headSpec (wsW_ y b L ret hh) { frames := fr, cells := mc, slots := ms, locals := 64 * fr }).room, s, m, as.toArray, below, meth, c, 0, 0, MQ below (tx_QG w Q) as.toArray s mc ms (tx_A w)) ⟨B.exec, B.bytes, hml, hown, hts, hK, hJ, hz, B.notSynchronized, Nat.le_refl _, Nat.le_refl _, Nat.zero_le _, Nat.zero_le _⟩ ⟨rfl, B.returns, Nat.zero_le _, Nat.zero_le _, Nat.le_refl _, Nat.le_refl _, hBB, he⟩ rfl rfl s.heap [] hH va_S.rf ls (by rw [hml]; exact hl) s₁ hh0 (Stand.of_body B)
    exact ⟨t, o, a1, b1, b2, b3.1, b3.2⟩
section COST
variable {w w' : WT} {E : ET} {own : String} {cc : ByteArray} {nL fr pc : Nat} {lv : List (Nat × Value)} {st : List Value} {R M : TM} {mc ms : Nat} {ret : Option FieldType} {hh : List (Nat × Nat × Nat × Nat)} {Q : Option Value → WT → TM → TM → Prop}
theorem tx_endG {s t : State} {H : Heap} {locs : List Loc} {v : Option Value} {args : Array Value} (hx : tx_ext w w') (hJ : tx_J w') (hH : tx_H w' R M H) (hS : va_S (tx_A w') s.heap H locs) (ht : t.heap = H) (h : Q v w' R M) : tx_QG w Q args s (.returned v) t := by
  rw [hx.A] at hS
  exact ⟨⟨v, w', R, M, rfl, h, hx, hJ, by rw [ht]; exact hH⟩, hS.F ht⟩
theorem MQ.mono {below : List Frame} {Qc : Array Value → State → Outcome → State → Prop} {a : Array Value} {s t : State} {c1 s1 c2 s2 : Nat} {A : Addr → Prop} (h : MQ below Qc a s c1 s1 A t) (hc : c1 ≤ c2) (hs : s1 ≤ s2) : MQ below Qc a s c2 s2 A t := by
  obtain ⟨o, h1, h2, h3, L, ⟨h4, h5, h6⟩, h7⟩ := h
  exact ⟨o, h1, h2, h3, L, ⟨h4, h5, h6.mono hc hs⟩, h7⟩
theorem tx_iretG {z : Int} (O : tx_O w' own cc nL fr E) (F : tx_GZ w (some .int) mc ms Q hh E) (hx : tx_ext w w') (hd : decode cc pc = .ok (.ireturn, 1)) (h : Q (some (iV z)) w' R M) : tx_X w' E pc lv [iV z] R M := by
  obtain ⟨p, e, Rm, s, m, args, below, meth, c, cells, slots, Z⟩ := E
  obtain ⟨hx1, hb, hml, hown, hts, hK, hJ, hz, hlk, hfr, hlo, hce, hsl⟩ := O
  intro H locs hH hS ls hl T hT X
  obtain ⟨rfl, hr, r1, r2, -⟩ := F
  rw [hx.1] at X
  obtain ⟨t, a1, a2⟩ := W.iret (Qc := tx_QG w Q) (free := tx_A w) (l := wl w) (e := e) (R := Rm) (s := s) (args := args) (below := below) (cells := cells) (slots := slots) hx1 hb hr (fun t ht _ => tx_endG hx hJ hH hS ht h) (by rw [← hx.A]; exact hS.2.2) hd hlk T hT X
  exact ⟨t, a1, a2.mono r1 r2⟩
theorem tx_vretG (O : tx_O w' own cc nL fr E) (F : tx_GZ w none mc ms Q hh E) (hx : tx_ext w w') (hd : decode cc pc = .ok (.return_, 1)) (h : Q none w' R M) : tx_X w' E pc lv [] R M := by
  obtain ⟨p, e, Rm, s, m, args, below, meth, c, cells, slots, Z⟩ := E
  obtain ⟨hx1, hb, hml, hown, hts, hK, hJ, hz, hlk, hfr, hlo, hce, hsl⟩ := O
  intro H locs hH hS ls hl T hT X
  obtain ⟨rfl, hr, r1, r2, -⟩ := F
  rw [hx.1] at X
  obtain ⟨t, a1, a2⟩ := W.vret (Qc := tx_QG w Q) (free := tx_A w) (l := wl w) (e := e) (R := Rm) (s := s) (args := args) (below := below) (cells := cells) (slots := slots) hx1 hb hr (fun t ht _ => tx_endG hx hJ hH hS ht h) (by rw [← hx.A]; exact hS.2.2) hd hlk T hT X
  exact ⟨t, a1, a2.mono r1 r2⟩
theorem tx_aretG {i : Int} {C : String} (O : tx_O w' own cc nL fr E) (F : tx_GZ w (some (.object C)) mc ms Q hh E) (hx : tx_ext w w') (hd : decode cc pc = .ok (.areturn, 1)) (h : Q (some (rV (wa w') i)) w' R M) : tx_X w' E pc lv [rV (wa w') i] R M := by
  obtain ⟨p, e, Rm, s, m, args, below, meth, c, cells, slots, Z⟩ := E
  obtain ⟨hx1, hb, hml, hown, hts, hK, hJ, hz, hlk, hfr, hlo, hce, hsl⟩ := O
  intro H locs hH hS ls hl T hT X
  obtain ⟨rfl, hr, r1, r2, -⟩ := F
  rw [hx.1] at X
  have hv : rV (wa w') i = .null ∨ ∃ a, rV (wa w') i = .ref a := by
    rcases rV_cases (wa w') i with ⟨_, e⟩ | ⟨_, e⟩
    · exact Or.inl e
    · exact Or.inr ⟨_, e⟩
  obtain ⟨t, a1, a2⟩ := W.aret (Qc := tx_QG w Q) (free := tx_A w) (l := wl w) (e := e) (R := Rm) (s := s) (args := args) (below := below) (cells := cells) (slots := slots) hx1 hb hr (Or.inl ⟨_, rfl⟩) hv (fun t ht _ => tx_endG hx hJ hH hS ht h) (by rw [← hx.A]; exact hS.2.2) hd hlk T hT X
  exact ⟨t, a1, a2.mono r1 r2⟩
/-- a reference that no cell of ours names goes into a local; nobody reads it -/
theorem tx_astx {i : Nat} {x : Addr} {lv' : List (Nat × Value)} (O : tx_O w own cc nL fr E) (hd : decode cc pc = .ok (.astore i, 2)) (hn : i < nL) (hl' : lv.filter (fun q => !(q.1 == i) && !(q.1 + 1 == i && q.2.category == 2)) = lv') (k : tx_X w E (pc + 2) lv' st R M) : tx_X w E pc lv (.ref x :: st) R M := by
  obtain ⟨p, e, Rm, s, m, args, below, meth, c, cells, slots, Z⟩ := E
  obtain ⟨hx, hb, hml, hown, hts, hK, hJ, hz, hlk, hfr, hlo, hce, hsl⟩ := O
  intro H locs hH hS ls hl
  refine lv_astore hx hb hd (by rw [← hml]; exact hl) hn rfl (fun ls' h' => k H locs hH hS ls' ?_)
  rw [hml]
  rw [hl'] at h'
  exact ⟨h'.1, h'.2.1, fun q hq => h'.2.2 q (List.mem_cons_of_mem _ hq)⟩
end COST
/-! the search for a handler -/
def tx_ct (own nm : String) (pc hp : Nat) : List (Nat × Nat × Nat × Nat) → Prop
  | [] => False
  | x :: r => (x.1 ≤ pc ∧ pc < x.2.1 ∧ x.2.2.2 ≠ 0) ∧ ∃ n', Cond.classLink own x.2.2.2 n' ∈ lw_all ∧ ((x.2.2.1 = hp ∧ (nm = n' ∨ Cond.castable nm n' ∈ tx_nwl)) ∨ ((nm, n') ∈ ncL ∧ tx_ct own nm pc hp r))
section FIND
variable {e : Env} {S : State} {f : JFrame} {a : Addr} {Q : Handler → Pre} {E : CtlPost} {d : Bool} {acts : List Action}
theorem fh_row {x : ExceptionTableEntry} {t : List ExceptionTableEntry} {c : ClassId} {cell : Cell} {k1 k2 : Class} (hx : x.startPc ≤ f.pc ∧ f.pc < x.endPc) (h0 : x.catchType ≠ 0) (hl : S.vm.ClassLinks e.platform f.method.cls x.catchType c) (hcell : S.heap[a]? = some cell) (hobj : ∀ k, cell.vm ≠ .statics k) (hk : S.vm.classes[cell.cls]? = some k1) (hc : S.vm.classes[c]? = some k2) :
    wp (findHandler.go f a (x :: t)) Q E e d acts S ↔ (if S.vm.assignable cell.cls c = true then Q (.found x.handlerPc) d acts (S.setVm (S.vm.noted f.method.cls x.catchType (.cls c))) else wp (findHandler.go f a t) Q E e d acts (S.setVm (S.vm.noted f.method.cls x.catchType (.cls c)))) := by
  obtain ⟨ha, ht⟩ := (resolveClass_links e.toSetting hl).op (op := VmOp.resolveClass f.method.cls x.catchType) rfl
  have al : S.vm.Alike (S.vm.noted f.method.cls x.catchType (.cls c)) := (Vm.Alike.refl S.vm).noted _ _ _
  obtain ⟨q1, e1, -⟩ := al.2.2 _ _ hk
  obtain ⟨q2, e2, -⟩ := al.2.2 _ _ hc
  have as' : (S.vm.noted f.method.cls x.catchType (.cls c)).assignable cell.cls c = S.vm.assignable cell.cls c := al.assignable _ _
  cases h : S.vm.assignable cell.cls c <;> rw [h] at as' <;> simp [findHandler.go, hx.1, hx.2, h0, ha, ht, hcell, hobj, e1, e2, as', VmOp.dirties, VmOp.acts]
theorem fh_go {w : WT} {s : State} {args : Array Value} {own nm : String} {hp : Nat} {cell : Cell} (hown : s.vm.findClass own = some f.method.cls) (hts : ∀ x ∈ lw_all, x.before args s = true) (hN : tx_N s) (hB : tx_B w s) (hpl : e.platform.magicAccessors = ({} : Platform).magicAccessors) (hobj : ∀ k, cell.vm ≠ .statics k) (hcls : s.vm.findClass nm = some cell.cls) :
    ∀ (l : List ExceptionTableEntry) (S : State), s.WarmedH S.vm → S.heap[a]? = some cell → tx_ct own nm f.pc hp (l.map (fun h => (h.startPc, h.endPc, h.handlerPc, h.catchType))) → ∃ vm', s.WarmedH vm' ∧ ∀ (Q : Handler → Pre) (E : CtlPost) (d : Bool) (acts : List Action), wp (findHandler.go f a l) Q E e d acts S ↔ Q (.found hp) d acts (S.setVm vm') := by
  obtain ⟨k0, hk0, -⟩ := fc_spec hcls
  intro l
  induction l with
  | nil => intro S _ _ h; exact h.elim
  | cons x t ih =>
    intro S hW hc h
    obtain ⟨⟨h1, h2, h3⟩, n', hlk, h4⟩ := h
    dsimp only at h1 h2 h3 hlk h4
    obtain ⟨c', hc', hcl⟩ := Cond.classLink_spec hown (hts _ hlk) e.platform hpl
    obtain ⟨dk, _, _, kt, hd, _, _, _, _, hkt, _, hopen⟩ := hcl.here
    obtain ⟨q1, e1, -⟩ := hW.alike.2.2 _ _ hk0
    obtain ⟨q2, e2, -⟩ := hW.alike.2.2 _ _ hkt
    have hW' : s.WarmedH (S.vm.noted f.method.cls x.catchType (.cls c')) := hW.noted hd hopen (State.rightAt_cls hcl)
    have row := fun (Q : Handler → Pre) (E : CtlPost) (d : Bool) (acts : List Action) => fh_row (t := t) (Q := Q) (E := E) (d := d) (acts := acts) ⟨h1, h2⟩ h3 (hW.classLinks hcl) hc hobj e1 e2
    rw [hW.alike.assignable] at row
    rcases h4 with ⟨rfl, h5⟩ | ⟨h5, h6⟩
    · have as1 : s.vm.assignable cell.cls c' = true := by
        rcases h5 with rfl | h5
        · cases hcls.symm.trans hc'
          exact va_asg _ _
        · obtain ⟨c0, t0, f1, f2, f3⟩ := Cond.castable_spec (va_Nw.use (A := args) rfl (hN _ h5))
          cases f1.symm.trans hcls
          cases f2.symm.trans hc'
          exact f3
      refine ⟨_, hW', fun Q E d acts => ?_⟩
      rw [row, if_pos as1]
    · obtain ⟨c0, t0, f1, f2, f3⟩ := hB.nc h5
      cases f1.symm.trans hcls
      cases f2.symm.trans hc'
      obtain ⟨vm', g1, g2⟩ := ih (S.setVm (S.vm.noted f.method.cls x.catchType (.cls c'))) hW' hc h6
      refine ⟨vm', g1, fun Q E d acts => ?_⟩
      rw [row, if_neg (by rw [f3]; decide)]
      exact g2 Q E d acts
end FIND
