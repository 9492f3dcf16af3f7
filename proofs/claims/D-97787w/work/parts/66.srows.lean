/-! SHEETS: rows for rows of bytes, shorts; the fields of a sheet -/
set_option maxRecDepth 100000
theorem nar_b {v : Int} (h : -128 ≤ v ∧ v ≤ 127) : narrow .byte (.int (Int32.ofInt v)) = .int (Int32.ofInt v) := by
  show Value.int _ = _
  congr 1
  apply Int32.toInt_inj.mp
  rw [Int8.toInt_toInt32, Int32.toInt_toInt8, rng_i ⟨by omega, by omega⟩, Int.bmod_def]
  omega
theorem nar_s {v : Int} (h : -32768 ≤ v ∧ v ≤ 32767) : narrow .short (.int (Int32.ofInt v)) = .int (Int32.ofInt v) := by
  show Value.int _ = _
  congr 1
  apply Int32.toInt_inj.mp
  rw [Int16.toInt_toInt32, Int32.toInt_toInt16, rng_i ⟨by omega, by omega⟩, Int.bmod_def]
  omega
theorem zi2b_rng (v : Int) : -128 ≤ zi2b v ∧ zi2b v ≤ 127 := by
  unfold zi2b
  rw [Int8.toInt_toInt32]
  have h1 := Int8.le_toInt (Int32.ofInt v).toInt8
  have h2 := Int8.toInt_lt (Int32.ofInt v).toInt8
  omega
theorem zi2s_rng (v : Int) : -32768 ≤ zi2s v ∧ zi2s v ≤ 32767 := by
  unfold zi2s
  rw [Int16.toInt_toInt32]
  have h1 := Int16.le_toInt (Int32.ofInt v).toInt16
  have h2 := Int16.toInt_lt (Int32.ofInt v).toInt16
  omega
def kF (f : Int) : Nat := if f = 0 then 3 else if f = 1 then 4 else 1
theorem sh_st (w : WT) {i : Int} (h : 600 ≤ i ∧ i ≤ 603) : tx_sh w i = (12, 0) := by
  unfold tx_sh
  rw [if_pos (by omega)]
  unfold shS
  repeat rw [if_neg (by omega)]
  rw [if_pos (by omega)]
section SROWS
variable {w : WT} {E : ET} {own : String} {cc : ByteArray} {nL fr pc : Nat} {lv : List (Nat × Value)} {st : List Value} {R M : TM}
theorem tx_bast {i j v : Int} (n : Nat) (O : tx_O w own cc nL fr E) (hd : decode cc pc = .ok (.bastore, 1)) (hs : tx_sh w i = (3, n)) (hj : 0 ≤ j ∧ j < n) (hv : -128 ≤ v ∧ v ≤ 127) (k : tx_X w E (pc + 1) lv st R (up M i j v)) : tx_X w E pc lv (iV v :: iV j :: rV (wa w) i :: st) R M := by
  obtain ⟨p, e, Rm, s, m, args, below, meth, c, cells, slots, Z⟩ := E
  obtain ⟨hx, hb, hml, hown, hts, hK, hJ, hz, hlk, hfr, hlo, hce, hsl⟩ := O
  intro H locs hH hS ls hl
  obtain ⟨h0, hP⟩ := tx_arr hH hs (by omega)
  obtain ⟨g1, g2⟩ := of_in hj (tx_len hJ hs)
  rw [tx_ref h0]
  refine W.bast hx hb (hP 0 _ rfl) ((hK.1.2 3 _ (tx_ty_at (wc w) (by omega))).1 n (fun q => .int (Int32.ofInt (M i (q : Nat))))) (fun q => by cases q) (by show ¬ (Int32.ofInt j < 0 ∨ (arrV _ _ _).slots.size ≤ _); rw [arrV_size]; exact g1) rfl rfl hd fun H1 e1 z oq => ?_
  refine k H1 _ (hH.set (i := i) hJ h0 ?_ (fun a ha => up_ent ha) oq) (hS.put z oq (hJ.2.1 i h0)) ls hl
  rw [tx_ent_p hs (by omega)]
  show H1[wa w i]? = some (vp_cell _ _)
  rw [e1, vp_cell_i, vp_cell_i, nar_b hv, arrV_store, g2]
  congr 2
  funext q
  by_cases hq : q = j.toNat
  · have : (q : Int) = j := by omega
    simp [updV, hq, up, Int.toNat_of_nonneg hj.1]
  · have : ¬ ((q : Int) = j) := by omega
    simp [updV, up, hq, this]
theorem tx_sast {i j v : Int} (n : Nat) (O : tx_O w own cc nL fr E) (hd : decode cc pc = .ok (.sastore, 1)) (hs : tx_sh w i = (4, n)) (hj : 0 ≤ j ∧ j < n) (hv : -32768 ≤ v ∧ v ≤ 32767) (k : tx_X w E (pc + 1) lv st R (up M i j v)) : tx_X w E pc lv (iV v :: iV j :: rV (wa w) i :: st) R M := by
  obtain ⟨p, e, Rm, s, m, args, below, meth, c, cells, slots, Z⟩ := E
  obtain ⟨hx, hb, hml, hown, hts, hK, hJ, hz, hlk, hfr, hlo, hce, hsl⟩ := O
  intro H locs hH hS ls hl
  obtain ⟨h0, hP⟩ := tx_arr hH hs (by omega)
  obtain ⟨g1, g2⟩ := of_in hj (tx_len hJ hs)
  rw [tx_ref h0]
  refine W.sast hx hb (hP 0 _ rfl) ((hK.1.2 4 _ (tx_ty_at (wc w) (by omega))).1 n (fun q => .int (Int32.ofInt (M i (q : Nat))))) (fun q => by cases q) (by show ¬ (Int32.ofInt j < 0 ∨ (arrV _ _ _).slots.size ≤ _); rw [arrV_size]; exact g1) rfl rfl hd fun H1 e1 z oq => ?_
  refine k H1 _ (hH.set (i := i) hJ h0 ?_ (fun a ha => up_ent ha) oq) (hS.put z oq (hJ.2.1 i h0)) ls hl
  rw [tx_ent_p hs (by omega)]
  show H1[wa w i]? = some (vp_cell _ _)
  rw [e1, vp_cell_i, vp_cell_i, nar_s hv, arrV_store, g2]
  congr 2
  funext q
  by_cases hq : q = j.toNat
  · have : (q : Int) = j := by omega
    simp [updV, hq, up, Int.toNat_of_nonneg hj.1]
  · have : ¬ ((q : Int) = j) := by omega
    simp [updV, up, hq, this]
theorem tx_castA {i : Int} {idx : Nat} {nm : String} (kd n : Nat) (O : tx_O w own cc nL fr E) (hd : decode cc pc = .ok (.checkcast idx, 3)) (hs : tx_sh w i = (kd, n)) (hk : kd = 1 ∨ kd = 3 ∨ kd = 4) (hn : nm = "[" ++ (aty kd).toString) (hlink : Cond.classLink own idx nm ∈ lw_all) (k : tx_X w E (pc + 3) lv (rV (wa w) i :: st) R M) : tx_X w E pc lv (rV (wa w) i :: st) R M := by
  obtain ⟨p, e, Rm, s, m, args, below, meth, c, cells, slots, Z⟩ := E
  obtain ⟨hx, hb, hml, hown, hts, hK, hJ, hz, hlk, hfr, hlo, hce, hsl⟩ := O
  intro H locs hH hS ls hl
  have k1 := k H locs hH hS ls hl
  obtain ⟨h0, hP⟩ := tx_arr hH hs (by omega)
  rw [tx_ref h0] at k1 ⊢
  exact va_castA hx hb hown (hts _ hlink) hP 0 rfl (by rw [hn]; exact tx_arcls hK hk) hd k1
/-- a sheet's fields -/
theorem fX2_7 {i : Int} (O : tx_O w RX2 cc nL fr E) (hi : 600 ≤ i ∧ i ≤ 603) (hd : decode cc pc = .ok (.getfield 7, 3)) (k : tx_X w E (pc + 3) lv (iV (M i 0) :: st) R M) : tx_X w E pc lv (rV (wa w) i :: st) R M := tx_geti (ci := 2) (C := RX2) (T := TX2) (N := 2) 0 O hd (sh_st w hi) rfl (by decide) ⟨rfl, rfl, rfl⟩ rfl q506 k
theorem fX2_13 {i : Int} (O : tx_O w RX2 cc nL fr E) (hi : 600 ≤ i ∧ i ≤ 603) (hd : decode cc pc = .ok (.getfield 13, 3)) (k : tx_X w E (pc + 3) lv (rV (wa w) (R i 1) :: st) R M) : tx_X w E pc lv (rV (wa w) i :: st) R M := tx_getr (ci := 2) (C := RX2) (T := TX2) (N := 2) 1 O hd (sh_st w hi) rfl (by decide) ⟨rfl, rfl, rfl⟩ rfl q508 k
theorem fX0_324 {i : Int} (O : tx_O w RX0 cc nL fr E) (hi : 600 ≤ i ∧ i ≤ 603) (hd : decode cc pc = .ok (.getfield 324, 3)) (k : tx_X w E (pc + 3) lv (iV (M i 0) :: st) R M) : tx_X w E pc lv (rV (wa w) i :: st) R M := by
  obtain ⟨p, e, Rm, s, m, args, below, meth, c, cells, slots, Z⟩ := E
  obtain ⟨hx, hb, hml, hown, hts, hK, hJ, hz, hlk, hfr, hlo, hce, hsl⟩ := O
  intro H locs hH hS ls hl
  obtain ⟨h0, hP⟩ := tx_obj (ci := 2) hH (sh_st w hi)
  obtain ⟨i1, i2, -, -⟩ := tx_in 2 _ rfl
  rw [tx_ref h0]
  refine va_getN (C := RX2) (T := TX2) (N := 2) (ref := (TX2 0).1) (host := "TuneLoans") hx hb hts i1 hown hK.1 hP 0 rfl rfl 0 (by decide) (va_Nw.use (A := args) rfl (hK.2 _ (by simp [tx_nwl, TX2, RX0, RX2]))) (fun x h => h) (tx_fl_at (by decide)) hd ?_
  exact k H locs hH hS ls hl
theorem fX0_121 {i : Int} (O : tx_O w RX0 cc nL fr E) (hi : 600 ≤ i ∧ i ≤ 603) (hd : decode cc pc = .ok (.getfield 121, 3)) (k : tx_X w E (pc + 3) lv (rV (wa w) (R i 1) :: st) R M) : tx_X w E pc lv (rV (wa w) i :: st) R M := by
  obtain ⟨p, e, Rm, s, m, args, below, meth, c, cells, slots, Z⟩ := E
  obtain ⟨hx, hb, hml, hown, hts, hK, hJ, hz, hlk, hfr, hlo, hce, hsl⟩ := O
  intro H locs hH hS ls hl
  obtain ⟨h0, hP⟩ := tx_obj (ci := 2) hH (sh_st w hi)
  obtain ⟨i1, i2, -, -⟩ := tx_in 2 _ rfl
  rw [tx_ref h0]
  refine va_getN (C := RX2) (T := TX2) (N := 2) (ref := (TX2 1).1) (host := "TuneLoans") hx hb hts i1 hown hK.1 hP 0 rfl rfl 1 (by decide) (va_Nw.use (A := args) rfl (hK.2 _ (by simp [tx_nwl, TX2, RX0, RX2]))) (fun x h => h) (tx_fl_at (by decide)) hd ?_
  exact k H locs hH hS ls hl
theorem tx_putN {i : Int} {idx : Nat} {v : Value} {R' M' : TM} (k0 : Nat) (O : tx_O w RX0 cc nL fr E) (hi : 600 ≤ i ∧ i ≤ 603) (hd : decode cc pc = .ok (.putfield idx, 3)) (hk0 : k0 < 2) (hlink : Cond.fieldLinkNest RX0 idx (TX2 k0).1 (TX2 k0).2.1 (TX2 k0).2.2.1 "TuneLoans" ∈ tx_nwl) (hfin : (TX2 k0).2.2.2 = false) (hn : narrow (tyC 2 k0) v = v ∧ fits (tyC 2 k0) v = true) (hv : tx_fv w 2 R' M' i k0 = v) (ho : ∀ j : Nat, j < 26 → j ≠ k0 → tx_fv w 2 R' M' i j = tx_fv w 2 R M i j) (he : ∀ j : Int, j ≠ i → tx_ent w R' M' j = tx_ent w R M j) (k : tx_X w E (pc + 3) lv st R' M') : tx_X w E pc lv (v :: rV (wa w) i :: st) R M := by
  obtain ⟨p, e, Rm, s, m, args, below, meth, c, cells, slots, Z⟩ := E
  obtain ⟨hx, hb, hml, hown, hts, hK, hJ, hz, hlk, hfr, hlo, hce, hsl⟩ := O
  intro H locs hH hS ls hl
  have hs := sh_st w hi
  obtain ⟨h0, hP⟩ := tx_obj (ci := 2) hH hs
  obtain ⟨i1, i2, i3, i4⟩ := tx_in 2 _ rfl
  have hc : vwCl[2]? = some (RX2, TX2, 2) := rfl
  have hap := va_apart (own := RX0) hts i1 (tyC 2) i3 i4 hK.1 hc
  obtain ⟨r, h1, cell, q1, q2, q3, q4⟩ := hP 0 _ rfl
  have hr : r = (RX2, TX2, 2) := Option.some.inj (h1.symm.trans hc)
  subst hr
  obtain ⟨hSl, hfc, kC, hkC, hkind⟩ := hK.1.1 2 _ hc
  obtain ⟨cf, kf, fi, f, hi2, hsl2⟩ := hSl k0 hk0
  have hlay := hts _ (i1 _ (u_in_lay hk0))
  unfold u_lay at hlay
  rw [if_neg (by rw [hfin]; decide)] at hlay
  have hst := (u_facts hfc hkC (u_lays hts i1 hk0) hi2).1
  have h6 := u_store hfc hkC hkind hlay hi2 (i3 k0 hk0) hn.1 hn.2
  rw [tx_ref h0]
  refine va_WputK hx hb (f := f) hown (va_Nw.use (A := args) rfl (hK.2 _ hlink)) hi2 hst (by rw [q2]; exact h6) q1 q3 (by rw [hsl2]; exact k2_hasslot (q4 k0 hk0)) rfl rfl hd fun H' e1 e2 e3 => ?_
  rw [hsl2] at e1 ⊢
  refine k H' _ (hH.set (i := i) hJ h0 ?_ he e3) (hS.put e2 e3 (hJ.2.1 i h0)) ls hl
  rw [tx_ent_o (c := 2) hs]
  refine ⟨_, hc, t_OB.to (V := updV (vp_V (tx_fl w 2 R M i)) k0 v) ⟨_, e1, q2, q3, t_set q4 hap hk0 v⟩ (fun j hj => ?_)⟩
  have hj2 : j < 26 := Nat.lt_of_lt_of_le hj i2
  have hk2 : k0 < 26 := Nat.lt_of_lt_of_le hk0 i2
  simp only [updV, vp_V, List.getD_eq_getElem?_getD, tx_fl_at hj2, Option.getD_some]
  by_cases e : j = k0
  · subst e
    simp [hv]
  · simp [e, ho j hj2 e]
theorem fX0_324p {i v : Int} (O : tx_O w RX0 cc nL fr E) (hi : 600 ≤ i ∧ i ≤ 603) (hd : decode cc pc = .ok (.putfield 324, 3)) (k : tx_X w E (pc + 3) lv st R (up M i 0 v)) : tx_X w E pc lv (iV v :: rV (wa w) i :: st) R M := by
  refine tx_putN 0 O hi hd (by decide) (by simp [tx_nwl, TX2, RX0, RX2]) rfl ⟨rfl, rfl⟩ ?_ ?_ (fun j hj => up_ent hj) k
  · show iV (up M i 0 v i 0) = iV v
    rw [up_s]
  · intro j hj hne
    unfold tx_fv
    rw [up_n (by omega)]
theorem fX0_121p {i j : Int} (O : tx_O w RX0 cc nL fr E) (hi : 600 ≤ i ∧ i ≤ 603) (hd : decode cc pc = .ok (.putfield 121, 3)) (k : tx_X w E (pc + 3) lv st (up R i 1 j) M) : tx_X w E pc lv (rV (wa w) j :: rV (wa w) i :: st) R M := by
  refine tx_putN 1 O hi hd (by decide) (by simp [tx_nwl, TX2, RX0, RX2]) rfl ?_ ?_ ?_ (fun j hj => up_entR hj) k
  · rcases rV_cases (wa w) j with ⟨_, e⟩ | ⟨_, e⟩ <;> rw [e] <;> exact ⟨rfl, rfl⟩
  · show rV (wa w) (up R i 1 j i 1) = rV (wa w) j
    rw [up_s]
  · intro q hq hne
    unfold tx_fv
    rw [up_n (by omega)]
end SROWS
