/-! THROWS: the contract of a method that throws; its walk (nothing written before the throw); its ends -/
set_option maxRecDepth 100000
def tx_TQ (w : WT) (nm : String) (R M : TM) (s : State) (mc ms : Nat) (x : Addr) : State → Prop := fun t => ∃ cell : Cell, t.heap[x]? = some cell ∧ cell.vm.isStatics = false ∧ s.vm.findClass nm = some cell.cls ∧ tx_H w R M t.heap ∧ va_F (tx_A w) s t ∧ s.WarmedH t.vm ∧ ∃ (L : List Loc) (k n : Nat), s.sameButNew ({ t with vm := s.vm } : State) L k n ∧ k ≤ mc ∧ n ≤ ms ∧ ∀ q ∈ L, tx_A w q.base
def tx_TS (w : WT) (y : MethodName) (b : ByteArray) (L : Nat) (ret : Option FieldType) (fr mc ms : Nat) (as : List Value) (R M : TM) (nm : String) : Prop := MetFree (wl w) y (headSpec (ws_ y b L ret) { frames := fr, cells := mc, slots := ms, locals := 64 * fr }) (fun v U => tx_Pc w as R M v U ∧ tx_B w U) (fun _ _ _ _ _ => True) (fun _ st o t => ∃ x, o = .threw x ∧ tx_TQ w nm R M st mc ms x t)
/-- the walk of a frame that has written nothing yet -/
def tx_Y (w : WT) : ET → Nat → List (Nat × Value) → List Value → Prop
  | (p, e, Rm, s, m, args, below, meth, c, _, _, Z), pc, lv, st => ∀ ls : Array Slot, lv_has ls c.maxLocals lv → W p (wl w) e Rm s m args below meth c s.heap [] 0 0 Z (F0 m pc ls st)
def tx_TZ (w : WT) (nm : String) (R M : TM) (mc ms : Nat) : ET → Prop
  | (_, _, Rm, s, _, _, below, _, c, _, _, Z) => Z = (fun t => ∃ x, t.status = .running ∧ Ended t below (.threw x) ∧ tx_TQ w nm R M s mc ms x t) ∧ tx_H w R M s.heap ∧ tx_B w s ∧ c.exceptionTable.isEmpty = true ∧ mc ≤ Rm.cells ∧ ms ≤ Rm.slots ∧ 170 ≤ Rm.frames ∧ 10880 ≤ Rm.locals
theorem tx_TS.of {w : WT} {y : MethodName} {b : ByteArray} {L : Nat} {ret : Option FieldType} {fr mc ms : Nat} {as : List Value} {R M : TM} {nm : String} {lv : List (Nat × Value)} (hy : plainName y.cls = true) (hlen : (lg_sl as).length ≤ L) (hlv : lv_args 0 as = lv) (hfr : 170 ≤ fr) (h : ∀ E : ET, tx_O w y.cls b L fr E → tx_TZ w nm R M mc ms E → tx_Y w E 0 lv []) : tx_TS w y b L ret fr mc ms as R M nm := by
  refine MetFree.of_bodyS (code := b) (maxLocals := L) (ret := ret) hy ?_ ?_
  · intro args s m h hn
    obtain ⟨meth, c, h1, h2, h3, h4, h5, h6, -, -⟩ := Cond.code_spec hn (atoms_spec (ws := ws_ y b L ret) h _ List.mem_cons_self)
    exact ⟨meth, c, h1, h2, h3, h4, h5, h6⟩
  · intro p e s m args below meth c s₁ B hml hP _
    obtain ⟨⟨rfl, hH, hK, hJ, hz⟩, hBB⟩ := hP
    have hts0 := atoms_spec (ws := ws_ y b L ret) B.pre
    have hts : ∀ x ∈ lw_all, x.before _ s = true := fun x h => hts0 x (List.mem_cons_of_mem _ h)
    have hown : s.vm.findClass y.cls = some m.cls := findClass_of_methodNamed B.named
    have hex := B.noHandlers (hts0 _ List.mem_cons_self)
    have hh0 : s₁.heap = s.heap := by rw [B.state]; rfl
    have hl := lv_entry as (n := L) hlen
    rw [lg_entry_eq]
    generalize (lg_sl as ++ List.replicate (L - (lg_sl as).length) Slot.unset).toArray = ls at hl ⊢
    rw [hlv] at hl
    have K := h (p, e, (headSpec (ws_ y b L ret) { frames := fr, cells := mc, slots := ms, locals := 64 * fr }).room, s, m, as.toArray, below, meth, c, 0, 0, fun t => ∃ x, t.status = .running ∧ Ended t below (.threw x) ∧ tx_TQ w nm R M s mc ms x t) ⟨B.exec, B.bytes, hml, hown, hts, hK, hJ, hz, B.notSynchronized, Nat.le_refl _, Nat.le_refl _, Nat.zero_le _, Nat.zero_le _⟩ ⟨rfl, hH, hBB, hex, Nat.le_refl _, Nat.le_refl _, hfr, by show 10880 ≤ 64 * fr; omega⟩ ls (by rw [hml]; exact hl)
    obtain ⟨t, a1, x, b1, b2, b3⟩ := K s₁ hh0 (Stand.of_body B)
    exact ⟨t, .threw x, a1, b1, b2, x, rfl, b3⟩
/-- nothing written: every cell is as it was -/
theorem same_nil {s U : State} {k n : Nat} (h : s.sameButNew U [] k n) {a : Nat} (ha : a < s.heap.size) : U.heap[a]? = s.heap[a]? := by
  obtain ⟨-, -, -, -, -, h6⟩ := h
  have e : s.heap[a]? = some s.heap[a] := Array.getElem?_eq_getElem ha
  obtain ⟨c', h1, h2, h3, h4⟩ := h6 a _ e
  rw [h1, e]
  have hsl : c'.slots = s.heap[a].slots := by
    apply Array.ext_getElem?
    intro i
    exact h4 i (by simp)
  rw [h2, hsl]
theorem tx_H.old {w : WT} {R M : TM} {H H1 : Heap} (h : tx_H w R M H) (hq : ∀ a : Nat, a < H.size → H1[a]? = H[a]?) : tx_H w R M H1 := fun i hi => (h i hi).kept (hq _ (h i hi).lt)
theorem tx_TQ.mk {w : WT} {nm : String} {R M : TM} {s U : State} {mc ms k n : Nat} {x : Addr} {cell : Cell} (hH : tx_H w R M s.heap) (h1 : U.heap[x]? = some cell) (h2 : cell.vm.isStatics = false) (h3 : s.vm.findClass nm = some cell.cls) (hW : s.WarmedH U.vm) (hs : s.sameButNew ({ U with vm := s.vm } : State) [] k n) (hk : k ≤ mc) (hn : n ≤ ms) : tx_TQ w nm R M s mc ms x U := by
  have hq : ∀ a : Nat, a < s.heap.size → U.heap[a]? = s.heap[a]? := fun a ha => same_nil hs ha
  exact ⟨cell, h1, h2, h3, hH.old hq, ⟨hs.2.1, fun q a _ => hq q a⟩, hW, [], k, n, hs, hk, hn, fun q hq => by cases hq⟩
section THR
variable {w : WT} {E : ET} {own : String} {cc : ByteArray} {nL fr pc : Nat} {lv : List (Nat × Value)} {st : List Value} {R M : TM} {mc ms : Nat}
theorem ty_iload_n {k0 : Fin 4} {i : Nat} {z : Int} (j : Nat) (O : tx_O w own cc nL fr E) (hd : decode cc pc = .ok (.iload_n k0, 1)) (hi : (k0 : Nat) = i) (hj : lv[j]? = some (i, iV z)) (k : tx_Y w E (pc + 1) lv (iV z :: st)) : tx_Y w E pc lv st := by
  obtain ⟨p, e, Rm, s, m, args, below, meth, c, cells, slots, Z⟩ := E
  obtain ⟨hx, hb, hml, hown, hts, hK, hJ, hz, hlk, hfr, hlo, hce, hsl⟩ := O
  intro ls hl
  exact lv_iload_n hx hb hd hi (lv_at hl j hj) (k ls hl)
theorem ty_aload_n {k0 : Fin 4} {i : Nat} {z : Int} (j : Nat) (O : tx_O w own cc nL fr E) (hd : decode cc pc = .ok (.aload_n k0, 1)) (hi : (k0 : Nat) = i) (hj : lv[j]? = some (i, rV (wa w) z)) (k : tx_Y w E (pc + 1) lv (rV (wa w) z :: st)) : tx_Y w E pc lv st := by
  obtain ⟨p, e, Rm, s, m, args, below, meth, c, cells, slots, Z⟩ := E
  obtain ⟨hx, hb, hml, hown, hts, hK, hJ, hz, hlk, hfr, hlo, hce, hsl⟩ := O
  intro ls hl
  have k1 := k ls hl
  have h1 := lv_at hl j hj
  rcases rV_cases (wa w) z with ⟨_, e⟩ | ⟨_, e⟩
  · rw [e] at k1 h1
    exact lv_aload_nN hx hb hd hi h1 k1
  · rw [e] at k1 h1
    exact lv_aload_n hx hb hd hi h1 k1
theorem ty_lookup {dflt z off : Int} {ps : Array (Int × Int)} {len : Nat} (tgt : Nat) (O : tx_O w own cc nL fr E) (hd : decode cc pc = .ok (.lookupswitch dflt ps, len)) (hp : (ps.toList.zip (ps.toList.drop 1)).all (fun (a, next) => a.1 < next.1) = true) (hr : rng z) (ho : Op.lookupswitch.offset ps.toList dflt z = off) (ht : (pc : Int) + off = (tgt : Int)) (k : tx_Y w E tgt lv st) : tx_Y w E pc lv (iV z :: st) := by
  obtain ⟨p, e, Rm, s, m, args, below, meth, c, cells, slots, Z⟩ := E
  obtain ⟨hx, hb, hml, hown, hts, hK, hJ, hz, hlk, hfr, hlo, hce, hsl⟩ := O
  intro ls hl
  exact lv_lookup hx hb hd hp (by rw [rng_i hr]; exact ho) ht (k ls hl)
theorem ty_i2b {a : Int} (O : tx_O w own cc nL fr E) (hd : decode cc pc = .ok (.i2b, 1)) (k : ∀ b : Int, tx_Y w E (pc + 1) lv (iV b :: st)) : tx_Y w E pc lv (iV a :: st) := by
  obtain ⟨p, e, Rm, s, m, args, below, meth, c, cells, slots, Z⟩ := E
  obtain ⟨hx, hb, hml, hown, hts, hK, hJ, hz, hlk, hfr, hlo, hce, hsl⟩ := O
  intro ls hl
  refine lv_i2b hx hb hd rfl ?_
  have h := k (zi2b a) ls hl
  unfold zi2b at h
  rw [← iV_to]
  exact h
theorem ty_i2s {a : Int} (O : tx_O w own cc nL fr E) (hd : decode cc pc = .ok (.i2s, 1)) (k : ∀ b : Int, tx_Y w E (pc + 1) lv (iV b :: st)) : tx_Y w E pc lv (iV a :: st) := by
  obtain ⟨p, e, Rm, s, m, args, below, meth, c, cells, slots, Z⟩ := E
  obtain ⟨hx, hb, hml, hown, hts, hK, hJ, hz, hlk, hfr, hlo, hce, hsl⟩ := O
  intro ls hl
  refine lv_i2s hx hb hd rfl ?_
  have h := k (zi2s a) ls hl
  unfold zi2s at h
  rw [← iV_to]
  exact h
theorem ty_castN {idx : Nat} (O : tx_O w own cc nL fr E) (hd : decode cc pc = .ok (.checkcast idx, 3)) (k : tx_Y w E (pc + 3) lv (rV (wa w) 0 :: st)) : tx_Y w E pc lv (rV (wa w) 0 :: st) := by
  obtain ⟨p, e, Rm, s, m, args, below, meth, c, cells, slots, Z⟩ := E
  obtain ⟨hx, hb, hml, hown, hts, hK, hJ, hz, hlk, hfr, hlo, hce, hsl⟩ := O
  intro ls hl
  exact lv_castN hx hb hd (k ls hl)
/-- the class of an array of kind kd, by its name -/
theorem tx_arcls {s : State} {kd : Nat} (hK : tx_K w s) (h : kd = 1 ∨ kd = 3 ∨ kd = 4) : s.vm.findClass ("[" ++ (aty kd).toString) = some (wc w kd) := by
  rcases h with e | e | e <;> subst e
  · exact (hK.1.2 1 _ (tx_ty_at (wc w) (by omega))).2
  · exact (hK.1.2 3 _ (tx_ty_at (wc w) (by omega))).2
  · exact (hK.1.2 4 _ (tx_ty_at (wc w) (by omega))).2
theorem ty_castA {i : Int} {idx : Nat} {nm : String} (kd n : Nat) (O : tx_O w own cc nL fr E) (hH : ∀ s, E.2.2.2.1 = s → tx_H w R M s.heap) (hd : decode cc pc = .ok (.checkcast idx, 3)) (hs : tx_sh w i = (kd, n)) (hk : kd = 1 ∨ kd = 3 ∨ kd = 4) (hn : nm = "[" ++ (aty kd).toString) (hlink : Cond.classLink own idx nm ∈ lw_all) (k : tx_Y w E (pc + 3) lv (rV (wa w) i :: st)) : tx_Y w E pc lv (rV (wa w) i :: st) := by
  obtain ⟨p, e, Rm, s, m, args, below, meth, c, cells, slots, Z⟩ := E
  obtain ⟨hx, hb, hml, hown, hts, hK, hJ, hz, hlk, hfr, hlo, hce, hsl⟩ := O
  intro ls hl
  have k1 := k ls hl
  obtain ⟨h0, hP⟩ := tx_arr (hH s rfl) hs (by omega)
  rw [tx_ref h0] at k1 ⊢
  exact va_castA hx hb hown (hts _ hlink) hP 0 rfl (by rw [hn]; exact tx_arcls hK hk) hd k1
end THR
/-! the ends -/
section ARM
variable {w : WT} {p : Program} {e : Env} {Rm : Room} {s : State} {m : MethodId} {args : Array Value} {below : List Frame} {meth : Method} {c : Code} {R M : TM} {mc ms pc : Nat} {ls : Array Slot} {st : List Value} {T : State} {Z : State → Prop}
theorem out_of {c : Code} (h : c.exceptionTable.isEmpty = true) (pc : Nat) : ∀ x ∈ c.exceptionTable.toList, covers x pc = false := by
  intro x hx
  have : c.exceptionTable = #[] := Array.isEmpty_iff.mp h
  rw [this] at hx
  cases hx
theorem arm_npe (hx : p.tables.exec = Jvm.exec) (hlk : meth.locks = false) (hts : ∀ x ∈ lw_all, x.before args s = true) (hN : tx_N s) (F : tx_TZ w "java/lang/NullPointerException" R M mc ms (p, e, Rm, s, m, args, below, meth, c, 0, 0, Z)) (h1 : 1 ≤ mc) (h8 : 8 ≤ ms) (hl : ls.size = c.maxLocals) (hst : (st.map fun v => v.category).sum ≤ 600) (X : Stand p (wl w) e Rm s m args below meth c T [] 0 0) : ∃ t, Steps p.tables e below ((T.setTop (F0 m pc ls st)).pushFrame (.throwNew "java/lang/NullPointerException" none none)) t ∧ Z t := by
  obtain ⟨rfl, hH, hB, hex, r1, r2, r3, r4⟩ := F
  have htr : e.platform.stackTraces = false := by rw [X.admits.platform]; exact hB.2.2.2.2
  obtain ⟨U, a1, a2, a3, a4, a5, cell, a6, a7⟩ := X.npeArm hx htr (n := 8) (arm_words hts hN hB npe_in) (fun q hq => by cases hq) (g := F0 m pc ls st) rfl hl rfl rfl (out_of hex _) (by omega) (by show 2 * 0 + (st.map fun v => v.category).sum + 10240 ≤ _; omega) (by omega) (by omega)
  exact ⟨U, a1, _, a2, a3, tx_TQ.mk hH a6 (by rw [a7.vm]; rfl) a7.cls a4 a5 (by omega) (by omega)⟩
theorem arm_msg {nm text : String} {names : List String} (hx : p.tables.exec = Jvm.exec) (hlk : meth.locks = false) (hts : ∀ x ∈ lw_all, x.before args s = true) (hN : tx_N s) (F : tx_TZ w nm R M mc ms (p, e, Rm, s, m, args, below, meth, c, 0, 0, Z))
    (hcls : Bundle.fit nm = true) (hnames : ∀ n ∈ names, Bundle.fit n = true) (hsoe : (nm == "java/lang/StackOverflowError") = false) (hoom : (nm == "java/lang/OutOfMemoryError") = false) (hw : (Bundle.messageArmAtoms nm names).all (fun a => decide (a ∈ lw_all) || decide (a ∈ tx_nwl) || decide (a ∈ stW)) = true) (hnl : names.length ≤ 5)
    (ht : (text == notModelled) = false) (hb : (stringBytes (stringToUtf16 text)).size ≤ 600) (h1 : 3 ≤ mc) (h8 : 610 ≤ ms) (hl : ls.size = c.maxLocals) (hst : (st.map fun v => v.category).sum ≤ 600) (X : Stand p (wl w) e Rm s m args below meth c T [] 0 0) : ∃ t, Steps p.tables e below ((T.setTop (F0 m pc ls st)).pushFrame (.throwNew nm (some text) none)) t ∧ Z t := by
  obtain ⟨rfl, hH, hB, hex, r1, r2, r3, r4⟩ := F
  have htr : e.platform.stackTraces = false := by rw [X.admits.platform]; exact hB.2.2.2.2
  have hlim : ¬ (stringBytes (stringToUtf16 text)).size > e.platform.arrayLengthLimit := by
    have : 600 ≤ e.platform.arrayLengthLimit := by rw [X.admits.platform]; show 600 ≤ 2147483645; omega
    omega
  have hhp : ¬ (stringBytes (stringToUtf16 text)).size * componentBytes .byte > e.platform.maxHeapBytes := by
    have : 600 ≤ e.platform.maxHeapBytes := by rw [X.admits.platform]; show 600 ≤ 536870912; omega
    have h2 : componentBytes .byte = 1 := rfl
    rw [h2]
    omega
  obtain ⟨U, a1, a2, a3, a4, ⟨n, a5, a6⟩, cb, cs, ce, -, -, b3, -, -, KE⟩ := X.messageArmCells hx htr hcls hnames hsoe hoom (arm_words hts hN hB hw) (fun q hq => by cases hq) ht hlim hhp (g := F0 m pc ls st) rfl hl rfl rfl (out_of hex _) (by omega) (by show 2 * 0 + (st.map fun v => v.category).sum + 10240 ≤ _; omega) (by omega) (by omega) (by omega)
  exact ⟨U, a1, _, a2, a3, tx_TQ.mk hH b3 (by rw [KE.vm]; rfl) KE.cls a4 a6 (by omega) (by omega)⟩
end ARM
