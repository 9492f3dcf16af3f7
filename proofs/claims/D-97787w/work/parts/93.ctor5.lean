/-! CONSTRUCTION: a constructor that makes arrays of references; what an array takes -/
set_option maxRecDepth 100000
def tp_CA (w : WT) (y : MethodName) (b : ByteArray) (L fr mc ms : Nat) (as : List Value) (n : Nat) (R M : TM) (n' : Nat) (R' M' : TM) : Prop := Met (wl w) y (ws_ y b L none) { frames := fr, cells := mc, slots := ms, locals := 64 * fr } (fun v U => tp_Pc w as n R M v U ∧ tp_AV U) (tp_Q w n' R' M') mc ms (tx_A w)
theorem tp_CA.of {w : WT} {y : MethodName} {b : ByteArray} {L fr mc ms : Nat} {as : List Value} {n n' : Nat} {R M R' M' : TM} {lv : List (Nat × Value)} (hy : plainName y.cls = true) (hy1 : y.name = "<init>") (hlen : (lg_sl as).length ≤ L) (hlv : lv_args 0 as = lv) (h : ∀ E : ET, tp_O w y.cls b L fr E → tp_Z w mc ms n' R' M' E → tp_AV E.2.2.2.1 → eC E = 0 → eS E = 0 → tp_X w n E 0 lv [] R M) : tp_CA w y b L fr mc ms as n R M n' R' M' := by
  refine Met.ofW (cc := b) (maxL := L) (ret := none) hy rfl ?_
  intro p e s m args below meth c s₁ B hml hv
  obtain ⟨⟨rfl, hH, hK, hJ, hz⟩, hAV⟩ := hv
  have hts0 := atoms_spec (ws := ws_ y b L none) B.pre
  have hts : ∀ x ∈ lw_all, x.before _ s = true := fun x h => hts0 x (List.mem_cons_of_mem _ h)
  have hown : s.vm.findClass y.cls = some m.cls := findClass_of_methodNamed B.named
  have hnm : meth.name = "<init>" := (name_of_methodNamed B.named B.method).1.trans hy1
  have hl := lv_entry as (n := L) hlen
  rw [lg_entry_eq]
  generalize (lg_sl as ++ List.replicate (L - (lg_sl as).length) Slot.unset).toArray = ls at hl ⊢
  rw [hlv] at hl
  exact h (p, e, (headSpec (ws_ y b L none) { frames := fr, cells := mc, slots := ms, locals := 64 * fr }).room, s, m, as.toArray, below, meth, c, 0, 0, MQ below (tp_Q w n' R' M') as.toArray s mc ms (tx_A w)) ⟨B.exec, B.bytes, hml, hown, hts, hK, hJ, hz, ⟨B.notSynchronized, hnm⟩, Nat.le_refl _, Nat.le_refl _, Nat.zero_le _, Nat.zero_le _⟩ ⟨rfl, B.returns, Nat.zero_le _, Nat.zero_le _, Nat.le_refl _, Nat.le_refl _⟩ hAV rfl rfl s.heap [] hH va_S.rf ls (by rw [hml]; exact hl)
theorem tp_CA.ofk {w : WT} {y : MethodName} {b : ByteArray} {L fr mc ms : Nat} {as : List Value} {n n' : Nat} {R M R' M' : TM} {lv : List (Nat × Value)} (cs : List Nat) (hy : plainName y.cls = true) (hy1 : y.name = "<init>") (hc : (as.map fun v => v.category) = cs) (hlen : (cs.map fun c => if c = 2 then 2 else 1).sum ≤ L) (hlv : (slotsOf 0 cs).zip as = lv) (h : ∀ E : ET, tp_O w y.cls b L fr E → tp_Z w mc ms n' R' M' E → tp_AV E.2.2.2.1 → eC E = 0 → eS E = 0 → tp_X w n E 0 lv [] R M) : tp_CA w y b L fr mc ms as n R M n' R' M' := by
  subst hc
  exact tp_CA.of hy hy1 (by rw [tx_lsl]; exact hlen) (by rw [tx_slots]; exact hlv) h
section TP5
variable {w : WT} {n : Nat} {E : ET} {own : String} {cc : ByteArray} {nL fr : Nat} {R M : TM}
theorem tp_elO {kd ci k0 N : Nat} {C D : String} {T : u_T} {v : Int} (O : tp_O w own cc nL fr E) (hs : tx_sh w v = (10 + ci, k0)) (hv : ord v < n) (hc : vwCl[ci]? = some (C, T, N)) (hk : kd < 10 ∧ aty kd = .object D) (hcast : C = D ∨ Cond.castable C D ∈ tx_nwl) : ∀ (s : State) (H : Heap), s = E.2.2.2.1 → tp_H w n R M H → ∃ (cv : Cell) (comp : ClassId) (kA kv kc : Class), H[wa w v]? = some cv ∧ cv.vm = .none ∧ s.vm.classes[wc w kd]? = some kA ∧ kA.kind = .array comp (aty kd) ∧ s.vm.classes[cv.cls]? = some kv ∧ s.vm.classes[comp]? = some kc ∧ s.vm.assignable cv.cls comp = true := by
  obtain ⟨p, e, Rm, s0, m, args, below, meth, c, cells, slots, Z⟩ := E
  obtain ⟨hx, hb, hml, hown, hts, hK, hJ, hz, hlk, hfr, hlo, hce, hsl⟩ := O
  intro s H hs0 hH
  subst hs0
  have hP := tp_obj hH hs hv
  obtain ⟨r, h1, cell, q1, q2, q3, -⟩ := hP 0 _ rfl
  have hKc := hK.1.1 ci _ hc
  obtain ⟨hfc, kv, hkv, -⟩ := hKc.2
  have hRA := (hK.1.2 kd _ (tx_ty_at (wc w) hk.1)).2
  rw [hk.2] at hRA
  obtain ⟨kA, comp, a1, a2, a3, -⟩ := hRA
  obtain ⟨kc, hkc, -⟩ := Vm.findClass_spec a3
  refine ⟨cell, comp, kA, kv, kc, q1, q3, a1, by rw [hk.2]; exact a2, by rw [q2]; exact hkv, hkc, ?_⟩
  rw [q2]
  rcases hcast with e | e
  · subst e
    have : comp = (wD w).1 ci := Option.some.inj (a3.symm.trans hfc)
    subst this
    exact va_asg _ _
  · obtain ⟨x1, x2, y1, y2, y3⟩ := Cond.castable_spec (va_Nw.use (A := #[]) rfl (hK.2 _ e))
    rw [show x1 = (wD w).1 ci from Option.some.inj (y1.symm.trans hfc), show x2 = comp from Option.some.inj (y2.symm.trans a3)] at y3
    exact y3
theorem tp_elA {k0 : Nat} {v : Int} (O : tp_O w own cc nL fr E) (hA : tp_AV E.2.2.2.1) (hs : tx_sh w v = (1, k0)) (hv : ord v < n) : ∀ (s : State) (H : Heap), s = E.2.2.2.1 → tp_H w n R M H → ∃ (cv : Cell) (comp : ClassId) (kA kv kc : Class), H[wa w v]? = some cv ∧ cv.vm = .none ∧ s.vm.classes[wc w 5]? = some kA ∧ kA.kind = .array comp (aty 5) ∧ s.vm.classes[cv.cls]? = some kv ∧ s.vm.classes[comp]? = some kc ∧ s.vm.assignable cv.cls comp = true := by
  obtain ⟨p, e, Rm, s0, m, args, below, meth, c, cells, slots, Z⟩ := E
  obtain ⟨hx, hb, hml, hown, hts, hK, hJ, hz, hlk, hfr, hlo, hce, hsl⟩ := O
  intro s H hs0 hH
  subst hs0
  have h1 := hH.2.2.1 v hv
  rw [tx_ent_p hs (by omega)] at h1
  have h1 : H[wa w v]? = some (vp_cell (wc w 1) (k0, .inl (fun j : Nat => Int32.ofInt (M v j)))) := h1
  obtain ⟨comp, cA, kA, f1, -, f3, f4, f5⟩ := arrayOverA_spec (hA (.array .int) (by decide))
  have g5 : s.vm.findClass ("[" ++ (FieldType.array .int).toString) = some (wc w 5) := (hK.1.2 5 _ (tx_ty_at (wc w) (by omega))).2
  have g1 : s.vm.findClass ("[" ++ (FieldType.int).toString) = some (wc w 1) := (hK.1.2 1 _ (tx_ty_at (wc w) (by omega))).2
  have e1 : cA = wc w 5 := Option.some.inj (f5.symm.trans g5)
  have e2 : comp = wc w 1 := Option.some.inj (f1.symm.trans g1)
  subst e1 e2
  obtain ⟨kc, hkc, -⟩ := Vm.findClass_spec g1
  exact ⟨_, wc w 1, kA, kc, kc, h1, rfl, f3, f4, hkc, hkc, va_asg _ _⟩
/-- what multianewarray asks of the classes -/
theorem tp_mcA (O : tp_O w own cc nL fr E) (hA : tp_AV E.2.2.2.1) : ∀ s : State, s = E.2.2.2.1 → ∃ (kA kI : Class) (cc0 : ClassId), s.vm.findClass "[[I" = some (wc w 5) ∧ s.vm.classes[wc w 5]? = some kA ∧ kA.kind = .array (wc w 1) (aty 5) ∧ s.vm.classes[wc w 1]? = some kI ∧ kI.kind = .array cc0 (aty 1) := by
  obtain ⟨p, e, Rm, s0, m, args, below, meth, c, cells, slots, Z⟩ := E
  obtain ⟨hx, hb, hml, hown, hts, hK, hJ, hz, hlk, hfr, hlo, hce, hsl⟩ := O
  intro s hs0
  subst hs0
  obtain ⟨comp, cA, kA, f1, -, f3, f4, f5⟩ := arrayOverA_spec (hA (.array .int) (by decide))
  have g5 : s.vm.findClass ("[" ++ (FieldType.array .int).toString) = some (wc w 5) := (hK.1.2 5 _ (tx_ty_at (wc w) (by omega))).2
  have g1 : s.vm.findClass ("[" ++ (FieldType.int).toString) = some (wc w 1) := (hK.1.2 1 _ (tx_ty_at (wc w) (by omega))).2
  have e1 : cA = wc w 5 := Option.some.inj (f5.symm.trans g5)
  have e2 : comp = wc w 1 := Option.some.inj (f1.symm.trans g1)
  subst e1 e2
  obtain ⟨-, kI, hkI, cc0, hkk⟩ := (hK.1.2 1 _ (tx_ty_at (wc w) (by omega))).1 0 (fun _ => .int 0)
  exact ⟨kA, kI, cc0, g5, f3, f4, hkI, hkk⟩
theorem tp_mcB (O : tp_O w own cc nL fr E) (hA : tp_AV E.2.2.2.1) : ∀ s : State, s = E.2.2.2.1 → ∃ (kA kI : Class) (cc0 : ClassId), s.vm.findClass "[[LTuneLoans$Borrower;" = some (wc w 7) ∧ s.vm.classes[wc w 7]? = some kA ∧ kA.kind = .array (wc w 8) (aty 7) ∧ s.vm.classes[wc w 8]? = some kI ∧ kI.kind = .array cc0 (aty 8) := by
  obtain ⟨p, e, Rm, s0, m, args, below, meth, c, cells, slots, Z⟩ := E
  obtain ⟨hx, hb, hml, hown, hts, hK, hJ, hz, hlk, hfr, hlo, hce, hsl⟩ := O
  intro s hs0
  subst hs0
  obtain ⟨comp, cA, kA, f1, -, f3, f4, f5⟩ := arrayOverA_spec (hA (.array (.object "TuneLoans$Borrower")) (by decide))
  have g5 : s.vm.findClass ("[" ++ (FieldType.array (.object "TuneLoans$Borrower")).toString) = some (wc w 7) := (hK.1.2 7 _ (tx_ty_at (wc w) (by omega))).2
  obtain ⟨kI, cc0, b1, b2, b3, b4⟩ := (hK.1.2 8 _ (tx_ty_at (wc w) (by omega))).2
  have e1 : cA = wc w 7 := Option.some.inj (f5.symm.trans g5)
  have e2 : comp = wc w 8 := Option.some.inj (f1.symm.trans b4)
  subst e1 e2
  exact ⟨kA, kI, cc0, g5, f3, f4, b1, b2⟩
end TP5
