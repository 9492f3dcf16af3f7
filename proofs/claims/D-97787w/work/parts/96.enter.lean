/-! THE START: the law makes both objects -/
set_option maxRecDepth 100000
def tl_O (w : WT) (own : String) (cc : ByteArray) (nL fr : Nat) : ET → Prop
  | (p, _, Rm, s, m, args, _, meth, c, cells, slots, _) => p.tables.exec = Jvm.exec ∧ c.code = cc ∧ c.maxLocals = nL ∧ s.vm.findClass own = some m.cls ∧ (∀ x ∈ lw_all, x.before args s = true) ∧ tx_K w s ∧ tp_J w ∧ wz w ≤ s.heap.size ∧ meth.locks = false ∧ fr ≤ Rm.frames ∧ 64 * fr ≤ Rm.locals ∧ cells ≤ Rm.cells ∧ slots ≤ Rm.slots
theorem AOA_moved {t : FieldType} {u U : State} (hvm : u.vm.Alike U.vm) (h : (Cond.arrayOver (.array t)).before #[] u = true) : (Cond.arrayOver (.array t)).before #[] U = true := by
  obtain ⟨comp, c, k, h1, h2, h3, h4, h5⟩ := arrayOverA_spec h
  obtain ⟨k', hk', he⟩ := hvm.2.2 _ _ h3
  have hi : (U.vm.classes.findIdx? fun (x : Class) => match x.kind with | .array component _ => component == comp | _ => false) = some c := by
    have hbe : U.vm.bare = u.vm.bare := by first | exact hvm.bare_eq | exact hvm.bare_eq.symm
    have a := va_idx_bare U.vm comp
    have b := va_idx_bare u.vm comp
    rw [hbe] at a
    exact a.symm.trans (b.trans h2)
  have hkind : k'.kind = .array comp (.array t) := by rw [he]; exact h4
  have f1 : U.vm.findClass (FieldType.array t).toString = some comp := by rw [hvm.findClass]; exact h1
  have f2 : U.vm.findClass ("[" ++ (FieldType.array t).toString) = some c := by rw [hvm.findClass]; exact h5
  unfold Cond.before Cond.holds
  simp only [Cond.value]
  rw [f1, Option.bind_some]
  refine (congrArg (fun o : Option Nat => (o.bind (fun c => (U.vm.classes[c]?).map fun (k : Class) => match k.kind with | .array _ ty => decide (ty = FieldType.array t) && decide (U.vm.findClass ("[" ++ (FieldType.array t).toString) = some c) | _ => false) == some true)) hi).trans ?_
  simp [hk', hkind, f2]
theorem tp_AV.moved {u U : State} (hvm : u.vm.Alike U.vm) (h : tp_AV u) : tp_AV U := by
  intro t ht
  have h1 := h t ht
  simp only [List.mem_cons, List.not_mem_nil, or_false] at ht
  rcases ht with rfl | rfl | rfl | rfl | rfl
  · exact AOA_moved hvm h1
  · exact va_AO.moved hvm h1
  · exact AOA_moved hvm h1
  · exact va_AO.moved hvm h1
  · exact va_AO.moved hvm h1
section TL
variable {w : WT} {n : Nat} {E : ET} {own : String} {cc : ByteArray} {nL fr pc : Nat} {lv : List (Nat × Value)} {st : List Value} {R M : TM}
theorem tl_iconst {n1 : Int} (O : tl_O w own cc nL fr E) (hd : decode cc pc = .ok (.iconst n1, 1)) (k : tp_X w n E (pc + 1) lv (iV n1 :: st) R M) : tp_X w n E pc lv (st) R M := by
  obtain ⟨p, e, Rm, s, m, args, below, meth, c, cells, slots, Z⟩ := E
  obtain ⟨hx, hb, hml, hown, hts, hK, hJ, hz, hlk, hfr, hlo, hce, hsl⟩ := O
  intro H locs hH hS ls hl
  exact lv_iconst hx hb hd rfl (k H locs hH hS ls hl)
theorem tl_dup {v : Value} (O : tl_O w own cc nL fr E) (hd : decode cc pc = .ok (.dup, 1)) (hv : v.category = 1) (k : tp_X w n E (pc + 1) lv (v :: v :: st) R M) : tp_X w n E pc lv (v :: st) R M := by
  obtain ⟨p, e, Rm, s, m, args, below, meth, c, cells, slots, Z⟩ := E
  obtain ⟨hx, hb, hml, hown, hts, hK, hJ, hz, hlk, hfr, hlo, hce, hsl⟩ := O
  intro H locs hH hS ls hl
  exact lv_dup hx hb hd hv (k H locs hH hS ls hl)
theorem tl_istore_n {k0 : Fin 4} {i : Nat} {z : Int} {lv' : List (Nat × Value)} (O : tl_O w own cc nL fr E) (hd : decode cc pc = .ok (.istore_n k0, 1)) (hi : (k0 : Nat) = i) (hn : i < nL) (hl' : (i, iV z) :: lv.filter (fun q => !(q.1 == i) && !(q.1 + 1 == i && q.2.category == 2)) = lv') (k : tp_X w n E (pc + 1) lv' st R M) : tp_X w n E pc lv (iV z :: st) R M := by
  obtain ⟨p, e, Rm, s, m, args, below, meth, c, cells, slots, Z⟩ := E
  obtain ⟨hx, hb, hml, hown, hts, hK, hJ, hz, hlk, hfr, hlo, hce, hsl⟩ := O
  intro H locs hH hS ls hl
  exact lv_istore_n hx hb hd hi (by rw [← hml]; exact hl) hn hl' (fun ls' h' => k H locs hH hS ls' (by rw [hml]; exact h'))
theorem tl_astore_n {k0 : Fin 4} {i : Nat} {z : Int} {lv' : List (Nat × Value)} (O : tl_O w own cc nL fr E) (hd : decode cc pc = .ok (.astore_n k0, 1)) (hi : (k0 : Nat) = i) (hn : i < nL) (hz0 : z ≠ 0) (hl' : (i, rV (wa w) z) :: lv.filter (fun q => !(q.1 == i) && !(q.1 + 1 == i && q.2.category == 2)) = lv') (k : tp_X w n E (pc + 1) lv' st R M) : tp_X w n E pc lv (rV (wa w) z :: st) R M := by
  obtain ⟨p, e, Rm, s, m, args, below, meth, c, cells, slots, Z⟩ := E
  obtain ⟨hx, hb, hml, hown, hts, hK, hJ, hz, hlk, hfr, hlo, hce, hsl⟩ := O
  intro H locs hH hS ls hl
  rw [tp_ref hz0] at hl' ⊢
  exact lv_astore_n hx hb hd hi (by rw [← hml]; exact hl) hn hl' (fun ls' h' => k H locs hH hS ls' (by rw [hml]; exact h'))
theorem tl_new {ci N idx : Nat} {C : String} {T : u_T} (i : Int) (O : tl_O w own cc nL fr E) (hd : decode cc pc = .ok (.new idx, 3)) (hl1 : Cond.classLink own idx C ∈ lw_all) (hl2 : Cond.instantiable C N ∈ lw_all) (hl3 : Cond.initialized C ∈ lw_all) (hcl : vwCl[ci]? = some (C, T, N)) (hs : ∃ k0, tx_sh w i = (10 + ci, k0)) (hi : ord i = n ∧ i ≠ 0 ∧ n + 1 ≤ 109) (hc : eC E + 1 ≤ E.2.2.1.cells ∧ eS E + N ≤ E.2.2.1.slots) (hdf : ∀ j, j < N → defaultValue (tyC ci j) = if fI ci j then iV 0 else .null)
    (k : tp_X w (n + 1) (eAt E (eC E + 1) (eS E + N)) (pc + 3) lv (rV (wa w) i :: st) R M) : tp_X w n E pc lv st R M := by
  obtain ⟨p, e, Rm, s, m, args, below, meth, c, cells, slots, Z⟩ := E
  obtain ⟨hx, hb, hml, hown, hts, hK, hJ, hz, hlk, hfr, hlo, hce, hsl⟩ := O
  intro H locs hH hS ls hl
  obtain ⟨i1, i2, i3, i4⟩ := tx_in ci _ hcl
  have hKn := hK.1.1 ci _ hcl
  obtain ⟨k0, hs⟩ := hs
  refine W.newcK hx hb hown (hts _ hl1) (hts _ hl2) (hts _ hl3) rfl hd hc.1 hc.2 hKn.2.1 rfl fun H1 kC hkC e1 z1 o1 => ?_
  have ha : wa w i = H.size := by rw [hJ, hi.1, hH.1]
  have h := k H1 locs (hH.add hi.1 hi.2.2 z1 (by
      rw [tx_ent_o hs, ha]
      refine ⟨_, hcl, (u_born (tyC ci) hts i1 hKn hkC e1 i3).to (fun j hj => ?_)⟩
      have hj2 : j < 26 := Nat.lt_of_lt_of_le hj i2
      rw [hdf j hj]
      simp only [vp_V, List.getD_eq_getElem?_getD, tx_fl_at hj2, Option.getD_some]
      unfold tx_fv
      rw [(hH.2.2.2 i (by omega) j).1, (hH.2.2.2 i (by omega) j).2]
      split <;> rfl) o1) (tp_S.push hS z1 o1) ls hl
  rw [tp_ref hi.2.1, ha] at h
  exact h
theorem tl_callI {y : MethodName} {b : ByteArray} {L fr' mc ms n' idx : Nat} {i : Int} {R' M' : TM} {rest : List Value} (O : tl_O w own cc nL fr E) (hA : tp_AV E.2.2.2.1) (hd : decode cc pc = .ok (.invokespecial idx, 3)) (hl : Cond.methodLink own idx y ∈ lw_all) (hy : y.name = "<init>") (h1 : Cond.instanceMethod y ∈ lw_all) (h2 : Cond.code y b L none ∈ lw_all) (h3 : Cond.initialized y.cls ∈ lw_all) (hv : y.cls ≠ "java/lang/invoke/MethodHandle" ∧ y.cls ≠ "java/lang/invoke/VarHandle" ∧ (parseMethodDescriptor y.desc).map (fun d => d.parameters.length) = some 0) (hL : L ≤ 40) (hfr' : fr' + 1 ≤ fr) (hi : i ≠ 0) (hc : eC E + mc ≤ E.2.2.1.cells ∧ eS E + ms ≤ E.2.2.1.slots) (hrm : (rest.map fun v => v.category).sum ≤ 8) (S : tp_CA w y b L fr' mc ms [rV (wa w) i] n R M n' R' M') (k : tp_X w n' (eAt E (eC E + mc) (eS E + ms)) (pc + 3) lv rest R' M') : tp_X w n E pc lv (rV (wa w) i :: rest) R M := by
  obtain ⟨p, e, Rm, s, m, args, below, meth, c, cells, slots, Z⟩ := E
  obtain ⟨hx, hb, hml, hown, hts, hK, hJ, hz, hlk, hfr, hlo, hce, hsl⟩ := O
  intro H locs hH hS ls hls
  have hA : tp_AV s := hA
  rw [tp_ref hi] at S ⊢
  refine tp_goon (va_runI (As := []) (rest := rest) (nL := nL) (b := wa w i) ⟨hx, hb, hml, hown, hts⟩ S (cwI 0 hts (lw_meth h2) rfl rfl rfl (hts _ h3) (hts _ hl) (hts _ h1) hy hv ⟨?_, ?_⟩) ⟨fun a U g mk h => ⟨tp_blind a U g mk h.1, tp_AV.moved (u := U) (U := U.calling g mk a) (Vm.Alike.refl U.vm) h.2⟩, fun U hU hW => ⟨⟨rfl, by rw [hU]; exact hH, hK.warm hW, hJ, by rw [hU]; exact Nat.le_trans hz hS.1⟩, hA.moved hW.alike⟩⟩ rfl rfl (by rw [← hml]; exact hls.1) rfl (lv_room hrm) hd hc) hS (fun H1 locs1 g2 g3 => k H1 locs1 g2 g3 ls hls)
  · show fr' + 1 ≤ Rm.frames
    omega
  · show 8 + (L + 11) + 64 * fr' ≤ Rm.locals
    omega
end TL
theorem tp_C.wk {w : WT} {y : MethodName} {b : ByteArray} {L fr mc ms : Nat} {as : List Value} {n : Nat} {R M : TM} {n' : Nat} {R' M' : TM} (h : tp_C w y b L fr mc ms as n R M n' R' M') : tp_CA w y b L fr mc ms as n R M n' R' M' := by
  unfold tp_C tp_CA Met at *
  intro p e ha hc hk s m args below hf happ hP hx
  exact h p e ha hc hk s m args below hf happ hP.1 hx
