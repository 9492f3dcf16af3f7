/-! CONSTRUCTION: contracts of constructors; puts, stores, calls -/
set_option maxRecDepth 100000
def tp_Pc (w : WT) (as : List Value) (n : Nat) (R M : TM) : Array Value → State → Prop := fun v U => v = as.toArray ∧ tp_H w n R M U.heap ∧ tx_K w U ∧ tp_J w ∧ wz w ≤ U.heap.size
def tp_Q (w : WT) (n' : Nat) (R' M' : TM) : Array Value → State → Outcome → State → Prop := fun _ st oc t => (oc = .returned none ∧ tp_H w n' R' M' t.heap) ∧ va_F (tx_A w) st t
def tp_C (w : WT) (y : MethodName) (b : ByteArray) (L fr mc ms : Nat) (as : List Value) (n : Nat) (R M : TM) (n' : Nat) (R' M' : TM) : Prop := Met (wl w) y (ws_ y b L none) { frames := fr, cells := mc, slots := ms, locals := 64 * fr } (tp_Pc w as n R M) (tp_Q w n' R' M') mc ms (tx_A w)
def tp_Z (w : WT) (mc ms n' : Nat) (R' M' : TM) : ET → Prop
  | (_, _, Rm, s, _, args, below, meth, _, cells, slots, Z) => Z = MQ below (tp_Q w n' R' M') args s mc ms (tx_A w) ∧ meth.sig.returnType = none ∧ cells ≤ mc ∧ slots ≤ ms ∧ mc ≤ Rm.cells ∧ ms ≤ Rm.slots
theorem tp_C.of {w : WT} {y : MethodName} {b : ByteArray} {L fr mc ms : Nat} {as : List Value} {n n' : Nat} {R M R' M' : TM} {lv : List (Nat × Value)} (hy : plainName y.cls = true) (hy1 : y.name = "<init>") (hlen : (lg_sl as).length ≤ L) (hlv : lv_args 0 as = lv) (h : ∀ E : ET, tp_O w y.cls b L fr E → tp_Z w mc ms n' R' M' E → eC E = 0 → eS E = 0 → tp_X w n E 0 lv [] R M) : tp_C w y b L fr mc ms as n R M n' R' M' := by
  refine Met.ofW (cc := b) (maxL := L) (ret := none) hy rfl ?_
  intro p e s m args below meth c s₁ B hml hv
  obtain ⟨rfl, hH, hK, hJ, hz⟩ := hv
  have hts0 := atoms_spec (ws := ws_ y b L none) B.pre
  have hts : ∀ x ∈ lw_all, x.before _ s = true := fun x h => hts0 x (List.mem_cons_of_mem _ h)
  have hown : s.vm.findClass y.cls = some m.cls := findClass_of_methodNamed B.named
  have hnm : meth.name = "<init>" := (name_of_methodNamed B.named B.method).1.trans hy1
  have hl := lv_entry as (n := L) hlen
  rw [lg_entry_eq]
  generalize (lg_sl as ++ List.replicate (L - (lg_sl as).length) Slot.unset).toArray = ls at hl ⊢
  rw [hlv] at hl
  exact h (p, e, (headSpec (ws_ y b L none) { frames := fr, cells := mc, slots := ms, locals := 64 * fr }).room, s, m, as.toArray, below, meth, c, 0, 0, MQ below (tp_Q w n' R' M') as.toArray s mc ms (tx_A w)) ⟨B.exec, B.bytes, hml, hown, hts, hK, hJ, hz, ⟨B.notSynchronized, hnm⟩, Nat.le_refl _, Nat.le_refl _, Nat.zero_le _, Nat.zero_le _⟩ ⟨rfl, B.returns, Nat.zero_le _, Nat.zero_le _, Nat.le_refl _, Nat.le_refl _⟩ rfl rfl s.heap [] hH va_S.rf ls (by rw [hml]; exact hl)
theorem tp_C.ofk {w : WT} {y : MethodName} {b : ByteArray} {L fr mc ms : Nat} {as : List Value} {n n' : Nat} {R M R' M' : TM} {lv : List (Nat × Value)} (cs : List Nat) (hy : plainName y.cls = true) (hy1 : y.name = "<init>") (hc : (as.map fun v => v.category) = cs) (hlen : (cs.map fun c => if c = 2 then 2 else 1).sum ≤ L) (hlv : (slotsOf 0 cs).zip as = lv) (h : ∀ E : ET, tp_O w y.cls b L fr E → tp_Z w mc ms n' R' M' E → eC E = 0 → eS E = 0 → tp_X w n E 0 lv [] R M) : tp_C w y b L fr mc ms as n R M n' R' M' := by
  subst hc
  exact tp_C.of hy hy1 (by rw [tx_lsl]; exact hlen) (by rw [tx_slots]; exact hlv) h
section TP2
variable {w : WT} {n : Nat} {E : ET} {own : String} {cc : ByteArray} {nL fr pc : Nat} {lv : List (Nat × Value)} {st : List Value} {R M : TM}
theorem tp_O.at {mc ms n' : Nat} {R' M' : TM} (O : tp_O w own cc nL fr E) (F : tp_Z w mc ms n' R' M' E) {a b : Nat} (ha : a ≤ mc) (hb : b ≤ ms) : tp_O w own cc nL fr (eAt E a b) := by
  obtain ⟨p, e, Rm, s, m, args, below, meth, c, cells, slots, Z⟩ := E
  obtain ⟨hx1, hb1, hml, hown, hts, hK, hJ, hz, hlk, hfr, hlo, hce, hsl⟩ := O
  obtain ⟨-, -, -, -, r1, r2⟩ := F
  exact ⟨hx1, hb1, hml, hown, hts, hK, hJ, hz, hlk, hfr, hlo, Nat.le_trans ha r1, Nat.le_trans hb r2⟩
theorem tp_Z.at {mc ms n' : Nat} {R' M' : TM} (F : tp_Z w mc ms n' R' M' E) {a b : Nat} (ha : a ≤ mc) (hb : b ≤ ms) : tp_Z w mc ms n' R' M' (eAt E a b) := by
  obtain ⟨p, e, Rm, s, m, args, below, meth, c, cells, slots, Z⟩ := E
  obtain ⟨f1, f2, f3, f4, f5, f6⟩ := F
  exact ⟨f1, f2, ha, hb, f5, f6⟩
theorem tp_Z.room {mc ms n' : Nat} {R' M' : TM} (F : tp_Z w mc ms n' R' M' E) : mc ≤ E.2.2.1.cells ∧ ms ≤ E.2.2.1.slots := by
  obtain ⟨p, e, Rm, s, m, args, below, meth, c, cells, slots, Z⟩ := E
  exact ⟨F.2.2.2.2.1, F.2.2.2.2.2⟩
theorem tp_vret {mc ms : Nat} (O : tp_O w own cc nL fr E) (F : tp_Z w mc ms n R M E) (hd : decode cc pc = .ok (.return_, 1)) : tp_X w n E pc lv [] R M := by
  obtain ⟨p, e, Rm, s, m, args, below, meth, c, cells, slots, Z⟩ := E
  obtain ⟨hx1, hb, hml, hown, hts, hK, hJ, hz, hlk, hfr, hlo, hce, hsl⟩ := O
  intro H locs hH hS ls hl T hT X
  obtain ⟨rfl, hr, r1, r2, -⟩ := F
  obtain ⟨t, a1, a2⟩ := W.vret (Qc := tp_Q w n R M) (free := tx_A w) (l := wl w) (e := e) (R := Rm) (s := s) (args := args) (below := below) (cells := cells) (slots := slots) hx1 hb hr (fun t ht _ => ⟨⟨rfl, by rw [ht]; exact hH⟩, hS.F ht⟩) hS.2.2 hd hlk.1 T hT X
  exact ⟨t, a1, a2.mono r1 r2⟩
theorem tp_objInit {idx : Nat} {i : Int} (O : tp_O w own cc nL fr E) (hd : decode cc pc = .ok (.invokespecial idx, 3)) (hl : Cond.methodLink own idx Lib.objectInit ∈ lw_all) (hi : i ≠ 0) (hfr1 : 1 ≤ fr) (k : tp_X w n E (pc + 3) lv [] R M) : tp_X w n E pc lv [rV (wa w) i] R M := by
  obtain ⟨p, e, Rm, s, m, args, below, meth, c, cells, slots, Z⟩ := E
  obtain ⟨hx, hb, hml, hown, hts, hK, hJ, hz, hlk, hfr, hlo, hce, hsl⟩ := O
  intro H locs hH hS ls hl2
  rw [tp_ref hi]
  exact W.objInit hx hb hown (hts _ hl) (hts _ q471) (hts _ q472) (g := F0 m pc ls [.ref (wa w i)]) rfl hl2.1 rfl hd (by omega) (by show 2 * 0 + 0 + 12 ≤ Rm.locals; omega) (k H locs hH hS ls hl2)
theorem tp_obj {i : Int} {ci k0 : Nat} {H : Heap} (hH : tp_H w n R M H) (hs : tx_sh w i = (10 + ci, k0)) (hi : ord i < n) : va_P (wD w) vwCl [(wa w i, .inr (ci, tx_fl w ci R M i))] H := by
  have h1 := hH.2.2.1 i hi
  rw [tx_ent_o hs] at h1
  intro k q hq
  match k, hq with
  | 0, hq => cases hq; exact h1
  | k + 1, hq => simp at hq
theorem tp_put {i : Int} {ci k0 N idx : Nat} {C : String} {T : u_T} {v : Value} {R' M' : TM} (kf : Nat) (O : tp_O w own cc nL fr E) (hd : decode cc pc = .ok (.putfield idx, 3)) (hs : tx_sh w i = (10 + ci, k0)) (hi : ord i < n ∧ i ≠ 0) (hc : vwCl[ci]? = some (C, T, N)) (hkf : kf < N) (hlink : Cond.fieldLink own idx (T kf).1 (T kf).2.1 (T kf).2.2.1 ∈ lw_all) (hdecl : (T kf).2.2.2 = true → (T kf).1 = own) (hn : narrow (tyC ci kf) v = v ∧ fits (tyC ci kf) v = true) (hv : tx_fv w ci R' M' i kf = v) (ho : ∀ j : Nat, j < 26 → j ≠ kf → tx_fv w ci R' M' i j = tx_fv w ci R M i j) (he : ∀ j : Int, j ≠ i → tx_ent w R' M' j = tx_ent w R M j) (hr : ∀ x y : Int, x ≠ i → R' x y = R x y ∧ M' x y = M x y) (k : tp_X w n E (pc + 3) lv st R' M') : tp_X w n E pc lv (v :: rV (wa w) i :: st) R M := by
  obtain ⟨p, e, Rm, s, m, args, below, meth, c, cells, slots, Z⟩ := E
  obtain ⟨hx, hb, hml, hown, hts, hK, hJ, hz, hlk, hfr, hlo, hce, hsl⟩ := O
  intro H locs hH hS ls hl
  have hP := tp_obj hH hs hi.1
  obtain ⟨i1, i2, i3, i4⟩ := tx_in ci _ hc
  have hap := va_apart (own := own) hts i1 (tyC ci) i3 i4 hK.1 hc
  obtain ⟨r, h1, cell, q1, q2, q3, q4⟩ := hP 0 _ rfl
  have hr2 : r = (C, T, N) := Option.some.inj (h1.symm.trans hc)
  subst hr2
  obtain ⟨hSl, hfc, kC, hkC, hkind⟩ := hK.1.1 ci _ hc
  obtain ⟨cf, kfc, fi, f, hi2, hsl2⟩ := hSl kf hkf
  have hlay := hts _ (i1 _ (u_in_lay hkf))
  have hst := (u_facts hfc hkC (u_lays hts i1 hkf) hi2).1
  have fin : ∀ H' : Heap, H'[wa w i]? = some (cell.setSlot f.slot v) → H'.size = H.size → (∀ q, q ≠ wa w i → H'[q]? = H[q]?) → W p (wl w) e Rm s m args below meth c H' (locs ++ [⟨wa w i, f.slot⟩]) cells slots Z (F0 m (pc + 3) ls st) := by
    intro H' e1 e2 e3
    rw [hsl2] at e1 ⊢
    refine k H' _ (hH.set hJ hi.1 e2 ?_ he hr e3) (hS.put e2 e3 (by show wz w ≤ wa w i; rw [hJ]; omega)) ls hl
    rw [tx_ent_o hs]
    refine ⟨_, hc, t_OB.to (V := updV (vp_V (tx_fl w ci R M i)) kf v) ⟨_, e1, q2, q3, t_set q4 hap hkf v⟩ (fun j hj => ?_)⟩
    have hj2 : j < 26 := Nat.lt_of_lt_of_le hj i2
    simp only [updV, vp_V, List.getD_eq_getElem?_getD, tx_fl_at hj2, Option.getD_some]
    by_cases e : j = kf
    · subst e
      simp [hv]
    · simp [e, ho j hj2 e]
  rw [tp_ref hi.2]
  unfold u_lay at hlay
  cases hfin : (T kf).2.2.2 with
  | false =>
    rw [if_neg (by rw [hfin]; decide)] at hlay
    have h6 := u_store hfc hkC hkind hlay hi2 (i3 kf hkf) hn.1 hn.2
    exact W.putK hx hb (f := f) ⟨hown, hts _ hlink, ⟨_, _, _, hi2⟩, hst⟩ (by rw [q2]; exact h6) q1 q3 (by rw [hsl2]; exact k2_hasslot (q4 kf hkf)) rfl rfl hd fin
  | true =>
    rw [if_pos hfin] at hlay
    have hcf : m.cls = cf := by
      obtain ⟨_, _, c', _, _, _, -, -, hf', -, -, -, hown2, -⟩ := Cond.laysFinal_spec hlay
      have e1 : c' = cf := by have := hi2.symm.trans hf'; simp at this; exact this.1.symm
      rw [hdecl hfin] at hown2
      rw [← e1]; exact Option.some.inj (hown.symm.trans hown2)
    have h6 := u_fits hfc hkC hkind (Or.inr hlay) hi2 (i3 kf hkf) hn.1 hn.2
    exact W.putFinK hx hb hown (hts _ hlink) hi2 hst hcf hlk.2 (by rw [q2]; exact h6) q1 q3 (by rw [hsl2]; exact k2_hasslot (q4 kf hkf)) rfl rfl hd fin
theorem tp_putr {i j : Int} {ci k0 N idx : Nat} {C : String} {T : u_T} (kf : Nat) (O : tp_O w own cc nL fr E) (hd : decode cc pc = .ok (.putfield idx, 3)) (hs : tx_sh w i = (10 + ci, k0)) (hi : ord i < n ∧ i ≠ 0) (hc : vwCl[ci]? = some (C, T, N)) (hkf : kf < N) (hlink : Cond.fieldLink own idx (T kf).1 (T kf).2.1 (T kf).2.2.1 ∈ lw_all) (hdecl : (T kf).2.2.2 = true → (T kf).1 = own) (hf : fI ci kf = false) (hn : ∀ v : Value, v = .null ∨ (∃ a, v = .ref a) → narrow (tyC ci kf) v = v ∧ fits (tyC ci kf) v = true) (k : tp_X w n E (pc + 3) lv st (up R i kf j) M) : tp_X w n E pc lv (rV (wa w) j :: rV (wa w) i :: st) R M := by
  refine tp_put kf O hd hs hi hc hkf hlink hdecl (hn _ ?_) ?_ (fun q hq hne => ?_) (fun q hq => up_entR hq) (fun x y hx => ⟨up_n (Or.inl hx), rfl⟩) k
  · rcases rV_cases (wa w) j with ⟨_, e⟩ | ⟨_, e⟩
    · exact Or.inl e
    · exact Or.inr ⟨_, e⟩
  · unfold tx_fv
    rw [hf, up_s]
    rfl
  · unfold tx_fv
    rw [up_n (by omega)]
theorem tp_puti {i v : Int} {ci k0 N idx : Nat} {C : String} {T : u_T} (kf : Nat) (O : tp_O w own cc nL fr E) (hd : decode cc pc = .ok (.putfield idx, 3)) (hs : tx_sh w i = (10 + ci, k0)) (hi : ord i < n ∧ i ≠ 0) (hc : vwCl[ci]? = some (C, T, N)) (hkf : kf < N) (hlink : Cond.fieldLink own idx (T kf).1 (T kf).2.1 (T kf).2.2.1 ∈ lw_all) (hdecl : (T kf).2.2.2 = true → (T kf).1 = own) (hf : fI ci kf = true) (hn : narrow (tyC ci kf) (iV v) = iV v ∧ fits (tyC ci kf) (iV v) = true) (k : tp_X w n E (pc + 3) lv st R (up M i kf v)) : tp_X w n E pc lv (iV v :: rV (wa w) i :: st) R M := by
  refine tp_put kf O hd hs hi hc hkf hlink hdecl hn ?_ (fun q hq hne => ?_) (fun q hq => up_ent hq) (fun x y hx => ⟨rfl, up_n (Or.inl hx)⟩) k
  · unfold tx_fv
    rw [hf, up_s]
    rfl
  · unfold tx_fv
    rw [up_n (by omega)]
theorem tp_getr {i : Int} {ci k0 N idx : Nat} {C : String} {T : u_T} (kf : Nat) (O : tp_O w own cc nL fr E) (hd : decode cc pc = .ok (.getfield idx, 3)) (hs : tx_sh w i = (10 + ci, k0)) (hi : ord i < n ∧ i ≠ 0) (hc : vwCl[ci]? = some (C, T, N)) (hkf : kf < N) (hlink : Cond.fieldLink own idx (T kf).1 (T kf).2.1 (T kf).2.2.1 ∈ lw_all) (hf : fI ci kf = false) (k : tp_X w n E (pc + 3) lv (rV (wa w) (R i kf) :: st) R M) : tp_X w n E pc lv (rV (wa w) i :: st) R M := by
  obtain ⟨p, e, Rm, s, m, args, below, meth, c, cells, slots, Z⟩ := E
  obtain ⟨hx, hb, hml, hown, hts, hK, hJ, hz, hlk, hfr, hlo, hce, hsl⟩ := O
  intro H locs hH hS ls hl
  have hP := tp_obj hH hs hi.1
  obtain ⟨i1, i2, -, -⟩ := tx_in ci _ hc
  rw [tp_ref hi.2]
  refine va_get (C := C) (T := T) (N := N) (ref := (T kf).1) hx hb hts i1 hown hK.1 hP 0 rfl hc kf hkf (hts _ hlink) (fun x h => h) (tx_fl_at (Nat.lt_of_lt_of_le hkf i2)) hd ?_
  have k1 := k H locs hH hS ls hl
  simp only [tx_fv, hf]
  exact k1
theorem tp_iast {i j v : Int} (k0 : Nat) (O : tp_O w own cc nL fr E) (hd : decode cc pc = .ok (.iastore, 1)) (hs : tx_sh w i = (1, k0)) (hi : ord i < n ∧ i ≠ 0) (hj : 0 ≤ j ∧ j < k0) (hk0 : k0 < 1000) (k : tp_X w n E (pc + 1) lv st R (up M i j v)) : tp_X w n E pc lv (iV v :: iV j :: rV (wa w) i :: st) R M := by
  obtain ⟨p, e, Rm, s, m, args, below, meth, c, cells, slots, Z⟩ := E
  obtain ⟨hx, hb, hml, hown, hts, hK, hJ, hz, hlk, hfr, hlo, hce, hsl⟩ := O
  intro H locs hH hS ls hl
  have h1 := hH.2.2.1 i hi.1
  rw [tx_ent_p hs (by omega)] at h1
  have h1 : H[wa w i]? = some (vp_cell (wc w 1) (k0, .inl (fun j : Nat => Int32.ofInt (M i j)))) := h1
  obtain ⟨g1, g2⟩ := of_in hj (by omega)
  rw [tp_ref hi.2]
  refine W.iast hx hb h1 ((hK.1.2 1 _ (tx_ty_at (wc w) (by omega))).1 k0 (fun q => .int (Int32.ofInt (M i (q : Nat))))) (fun q => by cases q) (by show ¬ (Int32.ofInt j < 0 ∨ (arrV _ _ _).slots.size ≤ _); rw [arrV_size]; exact g1) rfl rfl hd fun H1 e1 z oq => ?_
  refine k H1 _ (hH.set hJ hi.1 z ?_ (fun a ha => up_ent ha) (fun x y hx => ⟨rfl, up_n (Or.inl hx)⟩) oq) (hS.put z oq (by show wz w ≤ wa w i; rw [hJ]; omega)) ls hl
  rw [tx_ent_p hs (by omega)]
  show H1[wa w i]? = some (vp_cell _ _)
  rw [e1, vp_cell_i, vp_cell_i, arrV_store, g2]
  congr 2
  funext q
  by_cases hq : q = j.toNat
  · have : (q : Int) = j := by omega
    simp [updV, hq, up, Int.toNat_of_nonneg hj.1]
    try rfl
  · have : ¬ ((q : Int) = j) := by omega
    simp [updV, up, hq, this]
/-- a constructor is called -/
theorem tp_goon {p : Program} {e : Env} {Rm : Room} {s : State} {m : MethodId} {args : Array Value} {below : List Frame} {meth : Method} {c : Code} {cells slots mc ms n' : Nat} {Z : State → Prop} {H : Heap} {locs : List Loc} {ls : Array Slot} {st0 rest : List Value} {R' M' : TM} {a : Array Value}
    (hr : va_Run p (wl w) e Rm s m args below meth c H locs cells slots mc ms (F0 m pc ls st0) rest (tp_Q w n' R' M' a) (tx_A w)) (hS : va_S (tx_A w) s.heap H locs)
    (kk : ∀ (H1 : Heap) (locs1 : List Loc), tp_H w n' R' M' H1 → va_S (tx_A w) s.heap H1 locs1 → W p (wl w) e Rm s m args below meth c H1 locs1 (cells + mc) (slots + ms) Z (F0 m (pc + 3) ls rest)) : W p (wl w) e Rm s m args below meth c H locs cells slots Z (F0 m pc ls st0) := by
  intro T hT X
  obtain ⟨v, st₀, t, T', L, h0, X', hL, e1, e2, ⟨⟨hv, hh⟩, hz, hk⟩, st⟩ := hr T hT X
  cases hv
  rw [h0] at hz hk
  obtain ⟨t2, a1, b1⟩ := kk T'.heap (locs ++ L) (by rw [e1]; exact hh)
    ⟨Nat.le_trans hS.1 (by rw [e1]; exact hz), fun q h1 h2 => by rw [e1, hk q (Nat.lt_of_lt_of_le h1 hS.1) h2]; exact hS.2.1 q h1 h2, fun q hq => by
      rcases List.mem_append.mp hq with h | h
      · exact hS.2.2 q h
      · exact hL q h⟩ T' rfl X'
  exact ⟨t2, st t2 a1, b1⟩
theorem tp_blind {as : List Value} : FrameBlind (tp_Pc w as n R M) := fun a U g mk h => by
  obtain ⟨h1, h2, h3, h4, h5⟩ := h
  exact ⟨h1, h2, ⟨va_K.moved (u := U) (U := U.calling g mk a) (Vm.Alike.refl U.vm) h3.1, tx_N.same (u := U) (U := U.calling g mk a) rfl h3.2⟩, h4, h5⟩
theorem tp_callIN {y : MethodName} {b : ByteArray} {L fr' mc ms n' idx : Nat} {i : Int} {R' M' : TM} {rest : List Value} (O : tp_O w own cc nL fr E) (hd : decode cc pc = .ok (.invokespecial idx, 3)) (hl : Cond.methodLinkNest own idx y "TuneLoans" ∈ tx_nwl) (hy : y.name = "<init>") (h1 : Cond.instanceMethod y ∈ lw_all) (h2 : Cond.code y b L none ∈ lw_all) (h3 : Cond.initialized y.cls ∈ lw_all) (hv : y.cls ≠ "java/lang/invoke/MethodHandle" ∧ y.cls ≠ "java/lang/invoke/VarHandle" ∧ (parseMethodDescriptor y.desc).map (fun d => d.parameters.length) = some 0) (hL : L ≤ 40) (hfr' : fr' + 1 ≤ fr) (hi : i ≠ 0) (hc : eC E + mc ≤ E.2.2.1.cells ∧ eS E + ms ≤ E.2.2.1.slots) (hrm : (rest.map fun v => v.category).sum ≤ 8) (S : tp_C w y b L fr' mc ms [rV (wa w) i] n R M n' R' M') (k : tp_X w n' (eAt E (eC E + mc) (eS E + ms)) (pc + 3) lv rest R' M') : tp_X w n E pc lv (rV (wa w) i :: rest) R M := by
  obtain ⟨p, e, Rm, s, m, args, below, meth, c, cells, slots, Z⟩ := E
  obtain ⟨hx, hb, hml, hown, hts, hK, hJ, hz, hlk, hfr, hlo, hce, hsl⟩ := O
  intro H locs hH hS ls hls
  rw [tp_ref hi] at S ⊢
  refine tp_goon (va_runIN (As := []) (rest := rest) (nL := nL) (b := wa w i) ⟨hx, hb, hml, hown, hts⟩ S ⟨va_cnB 0 hts (lw_meth h2) rfl rfl rfl (hK.2 _ hl) (hts _ h3) hv ⟨?_, ?_⟩, hy, hts _ h1⟩ ⟨tp_blind, fun U hU hW => ⟨rfl, by rw [hU]; exact hH, hK.warm hW, hJ, by rw [hU]; exact Nat.le_trans hz hS.1⟩⟩ rfl rfl (by rw [← hml]; exact hls.1) rfl (lv_room hrm) hd hc) hS (fun H1 locs1 g2 g3 => k H1 locs1 g2 g3 ls hls)
  · show fr' + 1 ≤ Rm.frames
    omega
  · show 8 + (L + 11) + 64 * fr' ≤ Rm.locals
    omega
end TP2
