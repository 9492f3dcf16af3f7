/-! CONSTRUCTION: a world of which the first n cells are made; every cell has its place from the start -/
set_option maxRecDepth 100000
def idL : List Int := [1, 200, 300, 301, 201, 203, 205, 207, 320, 321, 322, 208, 210, 310, 311, 312, 313, 212, 213, 214, 215, 216, 217, 218, 1218, 219, 1219, 220, 221, 600, 601, 602, 603, 400, 1400, 410, 1410, 420, 1420, 500, 510, 520, 401, 1401, 411, 1411, 421, 1421, 501, 511, 521, 402, 1402, 412, 1412, 422, 1422, 502, 512, 522, 403, 1403, 413, 1413, 423, 1423, 503, 513, 523, 404, 1404, 414, 1414, 424, 1424, 504, 514, 524, 405, 1405, 415, 1415, 425, 1425, 505, 515, 525, 2, 100, 101, 102, 103, 105, 106, 108, 109, 111, 113, 115, 116, 117, 118, 119, 120, 121, 122, 123, 124, 125]
def ord (i : Int) : Nat := idL.idxOf i
theorem ord_at {i : Int} {n : Nat} (h : ord i < n) (hn : n ≤ 109) : idL[ord i]? = some i := by
  have h1 : idL.idxOf i < idL.length := Nat.lt_of_lt_of_le h hn
  unfold ord
  rw [List.getElem?_eq_getElem h1]
  congr 1
  exact List.getElem_idxOf h1
theorem ord_inj {i j : Int} {n : Nat} (h : ord i < n) (hn : n ≤ 109) (e : ord i = ord j) : i = j := by
  have h1 := ord_at h hn
  have h2 := ord_at (i := j) (n := n) (by omega) hn
  rw [e, h2] at h1
  exact (Option.some.inj h1).symm
def tp_H (w : WT) (n : Nat) (R M : TM) (H : Heap) : Prop := H.size = wz w + n ∧ n ≤ 109 ∧ (∀ i : Int, ord i < n → va_at (wD w) vwCl (wa w i, tx_ent w R M i) H) ∧ ∀ x : Int, n ≤ ord x → ∀ y : Int, R x y = 0 ∧ M x y = 0
def tp_J (w : WT) : Prop := ∀ i : Int, wa w i = wz w + ord i
def tp_X (w : WT) (n : Nat) : ET → Nat → List (Nat × Value) → List Value → TM → TM → Prop
  | (p, e, Rm, s, m, args, below, meth, c, cells, slots, Z), pc, lv, st, R, M => ∀ (H : Heap) (locs : List Loc), tp_H w n R M H → va_S (tx_A w) s.heap H locs → ∀ ls : Array Slot, lv_has ls c.maxLocals lv → W p (wl w) e Rm s m args below meth c H locs cells slots Z (F0 m pc ls st)
def tp_O (w : WT) (own : String) (cc : ByteArray) (nL fr : Nat) : ET → Prop
  | (p, _, Rm, s, m, args, _, meth, c, cells, slots, _) => p.tables.exec = Jvm.exec ∧ c.code = cc ∧ c.maxLocals = nL ∧ s.vm.findClass own = some m.cls ∧ (∀ x ∈ lw_all, x.before args s = true) ∧ tx_K w s ∧ tp_J w ∧ wz w ≤ s.heap.size ∧ (meth.locks = false ∧ meth.name = "<init>") ∧ fr ≤ Rm.frames ∧ 64 * fr ≤ Rm.locals ∧ cells ≤ Rm.cells ∧ slots ≤ Rm.slots
section TP
variable {w : WT} {n : Nat} {E : ET} {own : String} {cc : ByteArray} {nL fr pc : Nat} {lv : List (Nat × Value)} {st : List Value} {R M : TM}
theorem tp_iconst {n1 : Int} (O : tp_O w own cc nL fr E) (hd : decode cc pc = .ok (.iconst n1, 1)) (k : tp_X w n E (pc + 1) lv (iV n1 :: st) R M) : tp_X w n E pc lv (st) R M := by
  obtain ⟨p, e, Rm, s, m, args, below, meth, c, cells, slots, Z⟩ := E
  obtain ⟨hx, hb, hml, hown, hts, hK, hJ, hz, hlk, hfr, hlo, hce, hsl⟩ := O
  intro H locs hH hS ls hl
  exact lv_iconst hx hb hd rfl (k H locs hH hS ls hl)
theorem tp_bipush {n1 : Int} (O : tp_O w own cc nL fr E) (hd : decode cc pc = .ok (.bipush n1, 2)) (hn : -128 ≤ n1 ∧ n1 ≤ 127) (k : tp_X w n E (pc + 2) lv (iV n1 :: st) R M) : tp_X w n E pc lv st R M := by
  obtain ⟨p, e, Rm, s, m, args, below, meth, c, cells, slots, Z⟩ := E
  obtain ⟨hx, hb, hml, hown, hts, hK, hJ, hz, hlk, hfr, hlo, hce, hsl⟩ := O
  intro H locs hH hS ls hl
  refine lv_bipush hx hb hd ?_ (k H locs hH hS ls hl)
  apply Int32.toInt_inj.mp
  rw [Int8.toInt_toInt32, Int8.toInt_ofInt_of_le (by omega) (by omega), rng_i ⟨by omega, by omega⟩]
theorem tp_sipush {n1 : Int} (O : tp_O w own cc nL fr E) (hd : decode cc pc = .ok (.sipush n1, 3)) (hn : -32768 ≤ n1 ∧ n1 ≤ 32767) (k : tp_X w n E (pc + 3) lv (iV n1 :: st) R M) : tp_X w n E pc lv st R M := by
  obtain ⟨p, e, Rm, s, m, args, below, meth, c, cells, slots, Z⟩ := E
  obtain ⟨hx, hb, hml, hown, hts, hK, hJ, hz, hlk, hfr, hlo, hce, hsl⟩ := O
  intro H locs hH hS ls hl
  refine lv_sipush hx hb hd ?_ (k H locs hH hS ls hl)
  apply Int32.toInt_inj.mp
  rw [Int16.toInt_toInt32, Int16.toInt_ofInt_of_le (by omega) (by omega), rng_i ⟨by omega, by omega⟩]
theorem tp_iload_n {k0 : Fin 4} {i : Nat} {z : Int} (j : Nat) (O : tp_O w own cc nL fr E) (hd : decode cc pc = .ok (.iload_n k0, 1)) (hi : (k0 : Nat) = i) (hj : lv[j]? = some (i, iV z)) (k : tp_X w n E (pc + 1) lv (iV z :: st) R M) : tp_X w n E pc lv st R M := by
  obtain ⟨p, e, Rm, s, m, args, below, meth, c, cells, slots, Z⟩ := E
  obtain ⟨hx, hb, hml, hown, hts, hK, hJ, hz, hlk, hfr, hlo, hce, hsl⟩ := O
  intro H locs hH hS ls hl
  exact lv_iload_n hx hb hd hi (lv_at hl j hj) (k H locs hH hS ls hl)
theorem tp_aload_n {k0 : Fin 4} {i : Nat} {z : Int} (j : Nat) (O : tp_O w own cc nL fr E) (hd : decode cc pc = .ok (.aload_n k0, 1)) (hi : (k0 : Nat) = i) (hj : lv[j]? = some (i, rV (wa w) z)) (k : tp_X w n E (pc + 1) lv (rV (wa w) z :: st) R M) : tp_X w n E pc lv st R M := by
  obtain ⟨p, e, Rm, s, m, args, below, meth, c, cells, slots, Z⟩ := E
  obtain ⟨hx, hb, hml, hown, hts, hK, hJ, hz, hlk, hfr, hlo, hce, hsl⟩ := O
  intro H locs hH hS ls hl
  have k1 := k H locs hH hS ls hl
  have h1 := lv_at hl j hj
  rcases rV_cases (wa w) z with ⟨_, e⟩ | ⟨_, e⟩
  · rw [e] at k1 h1
    exact lv_aload_nN hx hb hd hi h1 k1
  · rw [e] at k1 h1
    exact lv_aload_n hx hb hd hi h1 k1
theorem tp_istore_n {k0 : Fin 4} {i : Nat} {z : Int} {lv' : List (Nat × Value)} (O : tp_O w own cc nL fr E) (hd : decode cc pc = .ok (.istore_n k0, 1)) (hi : (k0 : Nat) = i) (hn : i < nL) (hl' : (i, iV z) :: lv.filter (fun q => !(q.1 == i) && !(q.1 + 1 == i && q.2.category == 2)) = lv') (k : tp_X w n E (pc + 1) lv' st R M) : tp_X w n E pc lv (iV z :: st) R M := by
  obtain ⟨p, e, Rm, s, m, args, below, meth, c, cells, slots, Z⟩ := E
  obtain ⟨hx, hb, hml, hown, hts, hK, hJ, hz, hlk, hfr, hlo, hce, hsl⟩ := O
  intro H locs hH hS ls hl
  exact lv_istore_n hx hb hd hi (by rw [← hml]; exact hl) hn hl' (fun ls' h' => k H locs hH hS ls' (by rw [hml]; exact h'))
theorem tp_iinc {i : Nat} {n1 z : Int} {lv' : List (Nat × Value)} (j : Nat) (O : tp_O w own cc nL fr E) (hd : decode cc pc = .ok (.iinc i n1, 3)) (hj : lv[j]? = some (i, iV z)) (hn : i < nL) (hl' : (i, iV (z + n1)) :: lv.filter (fun q => !(q.1 == i) && !(q.1 + 1 == i && q.2.category == 2)) = lv') (k : tp_X w n E (pc + 3) lv' st R M) : tp_X w n E pc lv st R M := by
  obtain ⟨p, e, Rm, s, m, args, below, meth, c, cells, slots, Z⟩ := E
  obtain ⟨hx, hb, hml, hown, hts, hK, hJ, hz, hlk, hfr, hlo, hce, hsl⟩ := O
  intro H locs hH hS ls hl
  exact lv_iinc (v := Int32.ofInt (z + n1)) hx hb hd (by rw [← hml]; exact hl) hj (by rw [Int32.ofInt_add]) hn hl' (fun ls' h' => k H locs hH hS ls' (by rw [hml]; exact h'))
theorem tp_dup {v : Value} (O : tp_O w own cc nL fr E) (hd : decode cc pc = .ok (.dup, 1)) (hv : v.category = 1) (k : tp_X w n E (pc + 1) lv (v :: v :: st) R M) : tp_X w n E pc lv (v :: st) R M := by
  obtain ⟨p, e, Rm, s, m, args, below, meth, c, cells, slots, Z⟩ := E
  obtain ⟨hx, hb, hml, hown, hts, hK, hJ, hz, hlk, hfr, hlo, hce, hsl⟩ := O
  intro H locs hH hS ls hl
  exact lv_dup hx hb hd hv (k H locs hH hS ls hl)
theorem tp_goto {off : Int} (tgt : Nat) (O : tp_O w own cc nL fr E) (hd : decode cc pc = .ok (.goto off, 3)) (ht : (pc : Int) + off = (tgt : Int)) (k : tp_X w n E tgt lv st R M) : tp_X w n E pc lv st R M := by
  obtain ⟨p, e, Rm, s, m, args, below, meth, c, cells, slots, Z⟩ := E
  obtain ⟨hx, hb, hml, hown, hts, hK, hJ, hz, hlk, hfr, hlo, hce, hsl⟩ := O
  intro H locs hH hS ls hl
  exact lv_goto hx hb hd ht (k H locs hH hS ls hl)
theorem tp_icmp_ge {off a b : Int} (tgt : Nat) (O : tp_O w own cc nL fr E) (hd : decode cc pc = .ok (.if_icmp .ge off, 3)) (ht : (pc : Int) + off = (tgt : Int)) (hr : rng a ∧ rng b) (kt : b ≤ a → tp_X w n E tgt lv st R M) (kf : a < b → tp_X w n E (pc + 3) lv st R M) : tp_X w n E pc lv (iV b :: iV a :: st) R M := by
  obtain ⟨p, e, Rm, s, m, args, below, meth, c, cells, slots, Z⟩ := E
  obtain ⟨hx, hb, hml, hown, hts, hK, hJ, hz, hlk, hfr, hlo, hce, hsl⟩ := O
  intro H locs hH hS ls hl
  have e1 := of_eq hr.1 hr.2
  have e2 := of_lt hr.1 hr.2
  have e3 := of_le hr.1 hr.2
  have e4 := of_lt hr.2 hr.1
  have e5 := of_le hr.2 hr.1
  refine lv_icmp_ge hx hb hd ht (fun q => kt ?_ H locs hH hS ls hl) (fun q => kf ?_ H locs hH hS ls hl)
  · simp only [e1, e2, e3, e4, e5, ne_eq] at q
    omega
  · simp only [e1, e2, e3, e4, e5, ne_eq] at q
    omega
/-- a new cell: the next in order -/
theorem tp_H.add {H H1 : Heap} {i : Int} (hH : tp_H w n R M H) (hi : ord i = n) (hn : n + 1 ≤ 109) (hz : H1.size = H.size + 1) (hnew : va_at (wD w) vwCl (wa w i, tx_ent w R M i) H1) (ho : ∀ q : Nat, q < H.size → H1[q]? = H[q]?) : tp_H w (n + 1) R M H1 := by
  obtain ⟨h1, h2, h3, h4⟩ := hH
  refine ⟨by omega, hn, fun j hj => ?_, fun x hx => h4 x (by omega)⟩
  by_cases e : ord j = n
  · have : j = i := ord_inj (n := n + 1) (by omega) hn (by omega)
    subst this
    exact hnew
  · have hj' := h3 j (by omega)
    exact hj'.kept (ho _ hj'.lt)
/-- one cell's contents change -/
theorem tp_H.set {H H1 : Heap} {i : Int} {R' M' : TM} (hH : tp_H w n R M H) (hJ : tp_J w) (hi : ord i < n) (hz : H1.size = H.size) (he : va_at (wD w) vwCl (wa w i, tx_ent w R' M' i) H1) (ho : ∀ j : Int, j ≠ i → tx_ent w R' M' j = tx_ent w R M j) (hr : ∀ x y : Int, x ≠ i → R' x y = R x y ∧ M' x y = M x y) (oq : ∀ q : Nat, q ≠ wa w i → H1[q]? = H[q]?) : tp_H w n R' M' H1 := by
  obtain ⟨h1, h2, h3, h4⟩ := hH
  refine ⟨by omega, h2, fun j hj => ?_, fun x hx y => ?_⟩
  · by_cases e : j = i
    · subst e; exact he
    · rw [ho j e]
      refine (h3 j hj).kept (oq _ (fun z => e ?_))
      have z : wa w j = wa w i := z
      rw [hJ, hJ] at z
      exact ord_inj hj h2 (by omega)
  · have e : x ≠ i := fun e => by subst e; omega
    rw [(hr x y e).1, (hr x y e).2]
    exact h4 x hx y
theorem tp_ref {i : Int} (h : i ≠ 0) : rV (wa w) i = .ref (wa w i) := by
  rcases rV_cases (wa w) i with ⟨e, _⟩ | ⟨_, e⟩
  · exact absurd e h
  · exact e
theorem tp_S.push {H0 H H1 : Heap} {locs : List Loc} (hS : va_S (tx_A w) H0 H locs) (z : H1.size = H.size + 1) (o1 : ∀ q : Nat, q < H.size → H1[q]? = H[q]?) : va_S (tx_A w) H0 H1 locs := ⟨Nat.le_trans hS.1 (by omega), fun x h1 h2 => (o1 x (Nat.lt_of_lt_of_le h1 hS.1)).trans (hS.2.1 x h1 h2), hS.2.2⟩
theorem tp_newp {z : Int} {at0 : ArrayType} (kd k0 : Nat) (i : Int) (O : tp_O w own cc nL fr E) (hd : decode cc pc = .ok (.newarray at0, 2)) (hk : (kd = 1 ∨ kd = 2) ∧ newarray.typeOf at0 = aty kd) (harr : Cond.arrayClass (aty kd) ∈ lw_all) (hz0 : z = k0 ∧ k0 ≤ 1000) (hs : tx_sh w i = (kd, k0)) (hi : ord i = n ∧ i ≠ 0 ∧ n + 1 ≤ 109) (hc : eC E + 1 ≤ E.2.2.1.cells ∧ eS E + k0 ≤ E.2.2.1.slots)
    (k : tp_X w (n + 1) (eAt E (eC E + 1) (eS E + k0)) (pc + 2) lv (rV (wa w) i :: st) R M) : tp_X w n E pc lv (iV z :: st) R M := by
  obtain ⟨p, e, Rm, s, m, args, below, meth, c, cells, slots, Z⟩ := E
  obtain ⟨hx, hb, hml, hown, hts, hK, hJ, hz, hlk, hfr, hlo, hce, hsl⟩ := O
  intro H locs hH hS ls hl
  obtain ⟨hz1, hz2⟩ := hz0
  subst hz1
  have hr : rng (k0 : Int) := ⟨by omega, by omega⟩
  have hneg : ¬ Int32.ofInt (k0 : Int) < 0 := by
    rw [show (0 : Int32) = Int32.ofInt 0 from rfl, of_lt hr ⟨by omega, by omega⟩]
    omega
  have hb8 : componentBytes (newarray.typeOf at0) ≤ 8 := by
    rw [hk.2]
    rcases hk.1 with e | e <;> subst e <;> decide
  refine va_newaK hx hb (by rw [hk.2]; exact hts _ harr) rfl hd rfl hneg (of_clamp hr) (Nat.le_trans (Nat.mul_le_mul_left _ hb8) (by rw [Int.toNat_natCast]; omega)) hc.1 (by rw [Int.toNat_natCast]; exact hc.2) rfl fun H1 cA e1 z1 o1 hAr hNm => ?_
  rw [Int.toNat_natCast] at e1 ⊢
  have hcA : cA = wc w kd := by
    rw [hk.2] at hNm
    have h2 : s.vm.findClass ("[" ++ (aty kd).toString) = some (wc w kd) := by
      rcases hk.1 with e | e <;> subst e
      · exact (hK.1.2 1 _ (tx_ty_at (wc w) (by omega))).2
      · exact (hK.1.2 2 _ (tx_ty_at (wc w) (by omega))).2
    exact Option.some.inj (hNm.symm.trans h2)
  subst hcA
  have ha : wa w i = H.size := by rw [hJ, hi.1, hH.1]
  have h := k H1 locs (hH.add hi.1 hi.2.2 z1 (by
      rw [tx_ent_p (k := kd) (n := k0) hs (by omega), ha]
      show H1[H.size]? = some (vp_cell _ _)
      rw [e1, vp_cell_i]
      congr 2
      funext q
      rw [(hH.2.2.2 i (by omega) q).2, hk.2]
      rcases hk.1 with e | e <;> subst e <;> rfl) o1) (tp_S.push hS z1 o1) ls hl
  rw [tp_ref hi.2.1, ha] at h
  exact h
theorem tp_new {ci N idx : Nat} {C : String} {T : u_T} (i : Int) (O : tp_O w own cc nL fr E) (hd : decode cc pc = .ok (.new idx, 3)) (hl1 : Cond.classLink own idx C ∈ lw_all) (hl2 : Cond.instantiable C N ∈ lw_all) (hl3 : Cond.initialized C ∈ lw_all) (hcl : vwCl[ci]? = some (C, T, N)) (hs : ∃ k0, tx_sh w i = (10 + ci, k0)) (hi : ord i = n ∧ i ≠ 0 ∧ n + 1 ≤ 109) (hc : eC E + 1 ≤ E.2.2.1.cells ∧ eS E + N ≤ E.2.2.1.slots) (hdf : ∀ j, j < N → defaultValue (tyC ci j) = if fI ci j then iV 0 else .null)
    (k : tp_X w (n + 1) (eAt E (eC E + 1) (eS E + N)) (pc + 3) lv (rV (wa w) i :: st) R M) : tp_X w n E pc lv st R M := by
  obtain ⟨p, e, Rm, s, m, args, below, meth, c, cells, slots, Z⟩ := E
  obtain ⟨hx, hb, hml, hown, hts, hK, hJ, hz, hlk, hfr, hlo, hce, hsl⟩ := O
  intro H locs hH hS ls hl
  obtain ⟨i1, i2, i3, i4⟩ := tx_in ci _ hcl
  have hKn := hK.1.1 ci _ hcl
  obtain ⟨k0, hs⟩ := hs
  refine W.newcK hx hb hown (hts _ hl1) (hts _ hl2) (hts _ hl3) rfl hd hc.1 hc.2 hKn.2.1 rfl fun H1 kC hkC e1 z1 o1 => ?_
  have ha : wa w i = H.size := by rw [hJ, hi.1, hH.1]
  have h := k H1 locs (hH.add hi.1 hi.2.2 z1 (by
      rw [tx_ent_o hs, ha]
      refine ⟨_, hcl, (u_born (tyC ci) hts i1 hKn hkC e1 i3).to (fun j hj => ?_)⟩
      have hj2 : j < 26 := Nat.lt_of_lt_of_le hj i2
      rw [hdf j hj]
      simp only [vp_V, List.getD_eq_getElem?_getD, tx_fl_at hj2, Option.getD_some]
      unfold tx_fv
      rw [(hH.2.2.2 i (by omega) j).1, (hH.2.2.2 i (by omega) j).2]
      split <;> rfl) o1) (tp_S.push hS z1 o1) ls hl
  rw [tp_ref hi.2.1, ha] at h
  exact h
end TP
