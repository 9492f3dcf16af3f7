/-! CONSTRUCTION: arrays of references -/
set_option maxRecDepth 100000
def tp_AV (s : State) : Prop := ∀ t ∈ ([.array .int, .object "TuneLoans$Tune", .array (.object "TuneLoans$Borrower"), .object "TuneLoans$Borrower", .object "TuneLoans$Sheet"] : List FieldType), (Cond.arrayOver t).before #[] s = true
section TP3
variable {w : WT} {n : Nat} {E : ET} {own : String} {cc : ByteArray} {nL fr pc : Nat} {lv : List (Nat × Value)} {st : List Value} {R M : TM}
theorem tp_newq {C : String} {idx : Nat} {z : Int} (kd k0 : Nat) (i : Int) (O : tp_O w own cc nL fr E) (hA : tp_AV E.2.2.2.1) (hd : decode cc pc = .ok (.anewarray idx, 3)) (hl : Cond.classLink own idx C ∈ lw_all) (hk : (5 ≤ kd ∧ kd ≤ 9) ∧ aty kd = .object C ∧ .object C ∈ ([.array .int, .object "TuneLoans$Tune", .array (.object "TuneLoans$Borrower"), .object "TuneLoans$Borrower", .object "TuneLoans$Sheet"] : List FieldType)) (hz0 : z = k0 ∧ k0 ≤ 1000) (hs : tx_sh w i = (kd, k0)) (hi : ord i = n ∧ i ≠ 0 ∧ n + 1 ≤ 109) (hc : eC E + 1 ≤ E.2.2.1.cells ∧ eS E + k0 ≤ E.2.2.1.slots)
    (k : tp_X w (n + 1) (eAt E (eC E + 1) (eS E + k0)) (pc + 3) lv (rV (wa w) i :: st) R M) : tp_X w n E pc lv (iV z :: st) R M := by
  obtain ⟨p, e, Rm, s, m, args, below, meth, c, cells, slots, Z⟩ := E
  obtain ⟨hx, hb, hml, hown, hts, hK, hJ, hz, hlk, hfr, hlo, hce, hsl⟩ := O
  intro H locs hH hS ls hls
  obtain ⟨hz1, hz2⟩ := hz0
  subst hz1
  have hr : rng (k0 : Int) := ⟨by omega, by omega⟩
  have hneg : ¬ Int32.ofInt (k0 : Int) < 0 := by
    rw [show (0 : Int32) = Int32.ofInt 0 from rfl, of_lt hr ⟨by omega, by omega⟩]
    omega
  have hcl : (Int32.ofInt (k0 : Int)).toNatClampNeg = k0 := by rw [of_clamp hr, Int.toNat_natCast]
  have hv : (Cond.arrayOver (.object C)).before args s = true := hA _ hk.2.2
  refine W.anew hx hb hown (hts _ hl) hv (g := F0 m pc ls (iV k0 :: st)) rfl hd rfl hneg (by rw [hcl]; omega) hc.1 (by rw [hcl]; exact hc.2) fun cA kA comp f1 f2 f3 f4 => ?_
  rw [hcl]
  have hcA : cA = wc w kd := by
    have h2 := (hK.1.2 kd _ (tx_ty_at (wc w) (by omega))).2
    rw [hk.2.1] at h2
    obtain ⟨_, _, -, -, -, h5⟩ := h2
    exact Option.some.inj (f1.symm.trans h5)
  subst hcA
  generalize hH1 : H.push ({ cls := wc w kd, slots := Array.replicate k0 .null, vm := .none } : Cell) = H1
  have z1 : H1.size = H.size + 1 := by rw [← hH1, Array.size_push]
  have e1 : H1[H.size]? = some (arrV (wc w kd) k0 (fun _ => .null)) := by rw [← hH1, Array.getElem?_push_size, ← arrV_new]
  have o1 : ∀ q : Nat, q < H.size → H1[q]? = H[q]? := fun q hq => by rw [← hH1, Array.getElem?_push, if_neg (Nat.ne_of_lt hq)]
  have ha : wa w i = H.size := by rw [hJ, hi.1, hH.1]
  have h := k H1 locs (hH.add hi.1 hi.2.2 z1 (by
      rw [tx_ent_q (k := kd) (n := k0) hs (by omega) (by omega), ha]
      show H1[H.size]? = some (vp_cell _ _)
      rw [e1, vp_cell_q]
      congr 2
      funext q
      rw [(hH.2.2.2 i (by omega) q).1]
      rfl) o1) (tp_S.push hS z1 o1) ls hls
  rw [tp_ref hi.2.1, ha] at h
  exact h
theorem tp_newA {idx : Nat} {z : Int} (k0 : Nat) (i : Int) (O : tp_O w own cc nL fr E) (hA : tp_AV E.2.2.2.1) (hd : decode cc pc = .ok (.anewarray idx, 3)) (hl : Cond.classLink own idx "[I" ∈ lw_all) (hz0 : z = k0 ∧ k0 ≤ 1000) (hs : tx_sh w i = (5, k0)) (hi : ord i = n ∧ i ≠ 0 ∧ n + 1 ≤ 109) (hc : eC E + 1 ≤ E.2.2.1.cells ∧ eS E + k0 ≤ E.2.2.1.slots)
    (k : tp_X w (n + 1) (eAt E (eC E + 1) (eS E + k0)) (pc + 3) lv (rV (wa w) i :: st) R M) : tp_X w n E pc lv (iV z :: st) R M := by
  obtain ⟨p, e, Rm, s, m, args, below, meth, c, cells, slots, Z⟩ := E
  obtain ⟨hx, hb, hml, hown, hts, hK, hJ, hz, hlk, hfr, hlo, hce, hsl⟩ := O
  intro H locs hH hS ls hls
  obtain ⟨hz1, hz2⟩ := hz0
  subst hz1
  have hr : rng (k0 : Int) := ⟨by omega, by omega⟩
  have hneg : ¬ Int32.ofInt (k0 : Int) < 0 := by
    rw [show (0 : Int32) = Int32.ofInt 0 from rfl, of_lt hr ⟨by omega, by omega⟩]
    omega
  have hcl : (Int32.ofInt (k0 : Int)).toNatClampNeg = k0 := by rw [of_clamp hr, Int.toNat_natCast]
  have hv : (Cond.arrayOver (.array .int)).before args s = true := hA (.array .int) (by decide)
  refine W.anewA (t := .int) hx hb hown (hts _ hl) hv (g := F0 m pc ls (iV k0 :: st)) rfl hd rfl hneg (by rw [hcl]; omega) hc.1 (by rw [hcl]; exact hc.2) fun cA kA comp f1 f2 f3 f4 => ?_
  rw [hcl]
  have hcA : cA = wc w 5 := by
    have h2 : s.vm.findClass ("[" ++ (FieldType.array .int).toString) = some (wc w 5) := (hK.1.2 5 _ (tx_ty_at (wc w) (by omega))).2
    exact Option.some.inj (f1.symm.trans h2)
  subst hcA
  generalize hH1 : H.push ({ cls := wc w 5, slots := Array.replicate k0 .null, vm := .none } : Cell) = H1
  have z1 : H1.size = H.size + 1 := by rw [← hH1, Array.size_push]
  have e1 : H1[H.size]? = some (arrV (wc w 5) k0 (fun _ => .null)) := by rw [← hH1, Array.getElem?_push_size, ← arrV_new]
  have o1 : ∀ q : Nat, q < H.size → H1[q]? = H[q]? := fun q hq => by rw [← hH1, Array.getElem?_push, if_neg (Nat.ne_of_lt hq)]
  have ha : wa w i = H.size := by rw [hJ, hi.1, hH.1]
  have h := k H1 locs (hH.add hi.1 hi.2.2 z1 (by
      rw [tx_ent_q (k := 5) (n := k0) hs (by omega) (by omega), ha]
      show H1[H.size]? = some (vp_cell _ _)
      rw [e1, vp_cell_q]
      congr 2
      funext q
      rw [(hH.2.2.2 i (by omega) q).1]
      rfl) o1) (tp_S.push hS z1 o1) ls hls
  rw [tp_ref hi.2.1, ha] at h
  exact h
theorem tp_arq {i : Int} {kd k0 : Nat} {H : Heap} (hH : tp_H w n R M H) (hs : tx_sh w i = (kd, k0)) (hk : 5 ≤ kd ∧ kd ≤ 9) (hi : ord i < n) : H[wa w i]? = some (vp_cell (wc w kd) (k0, .inr (.inr (.inr (.inr (fun j : Nat => rF (wa w) (R i j))))))) := by
  have h1 := hH.2.2.1 i hi
  rw [tx_ent_q hs (by omega) (by omega)] at h1
  exact h1
theorem tp_aald {i j : Int} (kd k0 : Nat) (O : tp_O w own cc nL fr E) (hd : decode cc pc = .ok (.aaload, 1)) (hs : tx_sh w i = (kd, k0)) (hk : 5 ≤ kd ∧ kd ≤ 9) (hi : ord i < n ∧ i ≠ 0) (hj : 0 ≤ j ∧ j < k0) (hk0 : k0 < 1000) (k : tp_X w n E (pc + 1) lv (rV (wa w) (R i j) :: st) R M) : tp_X w n E pc lv (iV j :: rV (wa w) i :: st) R M := by
  obtain ⟨p, e, Rm, s, m, args, below, meth, c, cells, slots, Z⟩ := E
  obtain ⟨hx, hb, hml, hown, hts, hK, hJ, hz, hlk, hfr, hlo, hce, hsl⟩ := O
  intro H locs hH hS ls hl
  have h1 := tp_arq hH hs hk hi.1
  obtain ⟨g1, g2⟩ := of_in hj (by omega)
  rw [tp_ref hi.2]
  have hlt : (Int32.ofInt j).toNatClampNeg < k0 := Nat.not_le.mp fun q => g1 (Or.inr q)
  refine W.aald (v := va_rf (rF (wa w) (R i ((Int32.ofInt j).toNatClampNeg : Nat)))) (ty := aty kd) hx hb h1 ((hK.1.2 kd _ (tx_ty_at (wc w) (by omega))).1 k0 (fun q => va_rf (rF (wa w) (R i (q : Nat))))) (aty_ref hk) (fun q => by cases q) (by show ¬ (Int32.ofInt j < 0 ∨ (arrV _ _ _).slots.size ≤ _); rw [arrV_size]; exact g1) (by show (arrV _ _ _).slots[_]? = _; rw [arrV_read _ _ hlt]) rfl rfl hd ?_
  rw [g2, Int.toNat_of_nonneg hj.1]
  exact k H locs hH hS ls hl
/-- a reference goes into an array whose component class takes it -/
theorem tp_aast {i j v : Int} (kd k0 : Nat) (O : tp_O w own cc nL fr E) (hd : decode cc pc = .ok (.aastore, 1)) (hs : tx_sh w i = (kd, k0)) (hk : 5 ≤ kd ∧ kd ≤ 9) (hi : ord i < n ∧ i ≠ 0) (hj : 0 ≤ j ∧ j < k0) (hk0 : k0 < 1000) (hv : v ≠ 0) (hel : ∀ (s : State) (H : Heap), s = E.2.2.2.1 → tp_H w n R M H → ∃ (cv : Cell) (comp : ClassId) (kA kv kc : Class), H[wa w v]? = some cv ∧ cv.vm = .none ∧ s.vm.classes[wc w kd]? = some kA ∧ kA.kind = .array comp (aty kd) ∧ s.vm.classes[cv.cls]? = some kv ∧ s.vm.classes[comp]? = some kc ∧ s.vm.assignable cv.cls comp = true) (k : tp_X w n E (pc + 1) lv st (up R i j v) M) : tp_X w n E pc lv (rV (wa w) v :: iV j :: rV (wa w) i :: st) R M := by
  obtain ⟨p, e, Rm, s, m, args, below, meth, c, cells, slots, Z⟩ := E
  obtain ⟨hx, hb, hml, hown, hts, hK, hJ, hz, hlk, hfr, hlo, hce, hsl⟩ := O
  intro H locs hH hS ls hl
  have h1 := tp_arq hH hs hk hi.1
  obtain ⟨cv, comp, kA, kv, kc, c1, c2, c3, c4, c5, c6, c7⟩ := hel s H rfl hH
  obtain ⟨g1, g2⟩ := of_in hj (by omega)
  rw [tp_ref hi.2, tp_ref hv]
  have hlt : (Int32.ofInt j).toNatClampNeg < k0 := by rw [g2]; omega
  have hn0 : ¬ Int32.ofInt j < 0 := fun q => g1 (Or.inl q)
  refine W.aast hx hb h1 (fun q h => by cases h) (fun h => by cases h) c3 c4 (aty_ref hk) c6 ⟨hn0, by show _ < (arrV _ _ _).slots.size; rw [arrV_size]; exact hlt⟩ c1 (fun q h => by rw [c2] at h; cases h) c5 c7 rfl rfl hd fun H1 e1 z oq => ?_
  refine k H1 _ (hH.set hJ hi.1 z ?_ (fun a ha => up_entR ha) (fun x y hx => ⟨up_n (Or.inl hx), rfl⟩) oq) (hS.put z oq (by show wz w ≤ wa w i; rw [hJ]; omega)) ls hl
  rw [tx_ent_q hs (by omega) (by omega)]
  show H1[wa w i]? = some (vp_cell _ _)
  rw [e1, vp_cell_q, vp_cell_q, arrV_store, g2]
  congr 2
  funext q
  by_cases hq : q = j.toNat
  · have : (q : Int) = j := by omega
    simp [updV, hq, up, Int.toNat_of_nonneg hj.1, rF, hv, va_rf]
  · have : ¬ ((q : Int) = j) := by omega
    simp [updV, up, hq, this]
end TP3
