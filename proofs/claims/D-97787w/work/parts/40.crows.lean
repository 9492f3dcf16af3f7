/-! ROWS for the component: arraycopy, inherited and overriding calls, borrowers' fields, people -/
set_option maxRecDepth 100000
theorem cpy_ent {w : WT} {R M : TM} {i so j d n a : Int} (h : a ≠ j) : tx_ent w R (cpy M i so j d n) a = tx_ent w R M a := by
  have e : ∀ b, cpy M i so j d n a b = M a b := fun b => cpy_src _ h
  have e2 : ∀ c, tx_fv w c R (cpy M i so j d n) a = tx_fv w c R M a := fun c => by funext q; simp [tx_fv, e]
  simp [tx_ent, tx_fl, e, e2]
section CROWS
variable {w : WT} {E : ET} {own : String} {cc : ByteArray} {nL fr pc : Nat} {lv : List (Nat × Value)} {st : List Value} {R M : TM}
theorem tx_acopy {i j sp dp n : Int} {idx kd n0 n1 : Nat} (O : tx_O w own cc nL fr E) (hd : decode cc pc = .ok (.invokestatic idx, 3)) (hl0 : Cond.methodLink own idx arraycopyName ∈ lw_all) (hs0 : tx_sh w i = (kd, n0)) (hs1 : tx_sh w j = (kd, n1)) (hkd : 1 ≤ kd ∧ kd ≤ 4) (hb1 : 0 ≤ sp ∧ 0 ≤ dp ∧ 0 ≤ n ∧ sp + n ≤ n0 ∧ dp + n ≤ n1) (hfit : ∀ k : Int, 0 ≤ k → k < n → fits (aty kd) (.int (Int32.ofInt (M i (sp + k)))) = true) (hfr1 : 1 ≤ fr) (hrm : (st.map fun v => v.category).sum ≤ 8) (k : tx_X w E (pc + 3) lv st R (cpy M i sp j dp n)) : tx_X w E pc lv (iV n :: iV dp :: rV (wa w) j :: iV sp :: rV (wa w) i :: st) R M := by
  obtain ⟨p, e, Rm, s, m, args, below, meth, c, cells, slots, Z⟩ := E
  obtain ⟨hx, hb, hml, hown, hts, hK, hJ, hz, hlk, hfr, hlo, hce, hsl⟩ := O
  intro H locs hH hS ls hl
  obtain ⟨h0, hP0⟩ := tx_arr hH hs0 hkd
  obtain ⟨h1, hP1⟩ := tx_arr hH hs1 hkd
  have ln0 := tx_len hJ hs0
  have ln1 := tx_len hJ hs1
  obtain ⟨c1, c2, c3, c4, c5⟩ := hb1
  have r1 : rng sp := ⟨by omega, by omega⟩
  have r2 : rng dp := ⟨by omega, by omega⟩
  have r3 : rng n := ⟨by omega, by omega⟩
  have z0 : rng 0 := ⟨by omega, by omega⟩
  have k1 : ¬ Int32.ofInt sp < 0 := by rw [show (0 : Int32) = Int32.ofInt 0 from rfl, of_lt r1 z0]; omega
  have k2 : ¬ Int32.ofInt dp < 0 := by rw [show (0 : Int32) = Int32.ofInt 0 from rfl, of_lt r2 z0]; omega
  have k3 : ¬ Int32.ofInt n < 0 := by rw [show (0 : Int32) = Int32.ofInt 0 from rfl, of_lt r3 z0]; omega
  have t1 : (Int32.ofInt sp).toNatClampNeg = sp.toNat := of_clamp r1
  have t2 : (Int32.ofInt dp).toNatClampNeg = dp.toNat := of_clamp r2
  have t3 : (Int32.ofInt n).toNatClampNeg = n.toNat := of_clamp r3
  rw [tx_ref h0, tx_ref h1]
  intro T hT X
  have hc0 : H[wa w i]? = some (vp_cell (wc w kd) (n0, .inl (fun q : Nat => Int32.ofInt (M i q)))) := hP0 0 _ rfl
  have hc1 : H[wa w j]? = some (vp_cell (wc w kd) (n1, .inl (fun q : Nat => Int32.ofInt (M j q)))) := hP1 0 _ rfl
  obtain ⟨-, kk0, hk0, cm0, hkk0⟩ := (hK.1.2 kd _ (tx_ty_at (wc w) (by omega))).1 n0 (fun q => .int (Int32.ofInt (M i (q : Nat))))
  have hprim : refKind (aty kd) = false := by
    have : kd = 1 ∨ kd = 2 ∨ kd = 3 ∨ kd = 4 := by omega
    rcases this with e | e | e | e <;> subst e <;> rfl
  obtain ⟨vm', X', step⟩ := X.arraycopy hx hown (hts _ hl0) (hts _ q251) (hts _ q250) (hts _ q90) (src := wa w i) (dst := wa w j) (cs := vp_cell (wc w kd) (n0, .inl (fun q : Nat => Int32.ofInt (M i q)))) (cd := vp_cell (wc w kd) (n1, .inl (fun q : Nat => Int32.ofInt (M j q)))) (srcPos := Int32.ofInt sp) (destPos := Int32.ofInt dp) (n := Int32.ofInt n) (by rw [hT]; exact hc0) (by rw [hT]; exact hc1)
    (fun _ h => by cases h) (fun _ h => by cases h) (fun h => by cases h) (fun h => by cases h) hk0 hk0 hkk0 hkk0 (by simp [hprim]) k1 k2 k3
    (by rw [rng_i r1, rng_i r3]; show ¬ _ > ((arrV (wc w kd) n0 (fun q => .int (Int32.ofInt (M i (q : Nat))))).slots.size : Int); rw [arrV_size]; omega)
    (by rw [rng_i r2, rng_i r3]; show ¬ _ > ((arrV (wc w kd) n1 (fun q => .int (Int32.ofInt (M j (q : Nat))))).slots.size : Int); rw [arrV_size]; omega)
    (fun vm₁ _ q hq => by
      rw [t3] at hq
      have e : (vp_cell (wc w kd) (n0, .inl (fun q : Nat => Int32.ofInt (M i q)))).slots.getD ((Int32.ofInt sp).toNatClampNeg + q) .null = .int (Int32.ofInt (M i (sp + q))) := by
        show (arrV (wc w kd) n0 (fun q => .int (Int32.ofInt (M i (q : Nat))))).slots.getD _ _ = _
        rw [Array.getD_eq_getD_getElem?, t1, arrV_read _ _ (by omega)]
        show Value.int (Int32.ofInt (M i ((sp.toNat + q : Nat) : Int))) = _
        rw [show ((sp.toNat + q : Nat) : Int) = sp + q by omega]
      refine ⟨?_, ?_⟩
      · rw [e]
        exact hfit q (by omega) (by omega)
      · rw [e]
        exact trivial)
    (g := F0 m pc ls (.int (Int32.ofInt n) :: .int (Int32.ofInt dp) :: .ref (wa w j) :: .int (Int32.ofInt sp) :: .ref (wa w i) :: st)) rfl hl.1 (rest := st) rfl (by rw [hb]; exact hd) (by omega) (by show 2 * 0 + _ + (5 + 2 + 11) ≤ _; omega)
  have h4 : (Int32.ofInt sp).toNatClampNeg + (Int32.ofInt n).toNatClampNeg ≤ n0 := by rw [t1, t3]; omega
  have e1 : copied (vp_cell (wc w kd) (n0, .inl (fun q : Nat => Int32.ofInt (M i q)))) (vp_cell (wc w kd) (n1, .inl (fun q : Nat => Int32.ofInt (M j q)))) (Int32.ofInt sp) (Int32.ofInt dp) (Int32.ofInt n) = vp_cell (wc w kd) (n1, .inl (va_cpy (fun q : Nat => Int32.ofInt (M i q)) (fun q : Nat => Int32.ofInt (M j q)) (Int32.ofInt sp).toNatClampNeg (Int32.ofInt dp).toNatClampNeg (Int32.ofInt n).toNatClampNeg)) := va_copied (fun z => .int z) (wc w kd) (wc w kd) (fun q : Nat => Int32.ofInt (M i q)) (fun q : Nat => Int32.ofInt (M j q)) h4
  rw [e1] at X' step
  have hlt : wa w j < H.size := (Array.getElem?_eq_some_iff.mp hc1).1
  have e2 : (va_cpy (fun q : Nat => Int32.ofInt (M i q)) (fun q : Nat => Int32.ofInt (M j q)) (Int32.ofInt sp).toNatClampNeg (Int32.ofInt dp).toNatClampNeg (Int32.ofInt n).toNatClampNeg) = (fun q : Nat => Int32.ofInt (cpy M i sp j dp n j q)) := by
    funext q
    unfold va_cpy cpy
    rw [t1, t2, t3]
    by_cases hq : dp ≤ (q : Int) ∧ (q : Int) < dp + n
    · rw [if_pos (by omega), if_pos ⟨rfl, hq⟩]
      show Int32.ofInt (M i ((sp.toNat + (q - dp.toNat) : Nat) : Int)) = _
      rw [show ((sp.toNat + (q - dp.toNat) : Nat) : Int) = sp + ((q : Int) - dp) by omega]
    · rw [if_neg (by omega), if_neg (fun z => hq z.2)]
  rw [e2] at X' step
  have hheap : ((T.setVm vm').setCell (wa w j) (vp_cell (wc w kd) (n1, .inl (fun q : Nat => Int32.ofInt (cpy M i sp j dp n j q))))).heap = H.setIfInBounds (wa w j) (vp_cell (wc w kd) (n1, .inl (fun q : Nat => Int32.ofInt (cpy M i sp j dp n j q)))) := by rw [← hT]; rfl
  have oq : ∀ q : Nat, q ≠ wa w j → (H.setIfInBounds (wa w j) (vp_cell (wc w kd) (n1, .inl (fun q : Nat => Int32.ofInt (cpy M i sp j dp n j q)))))[q]? = H[q]? := fun q hq => by simp [Array.getElem?_setIfInBounds, Ne.symm hq]
  have hH1 : tx_H w R (cpy M i sp j dp n) (H.setIfInBounds (wa w j) (vp_cell (wc w kd) (n1, .inl (fun q : Nat => Int32.ofInt (cpy M i sp j dp n j q))))) := by
    refine hH.set (i := j) hJ h1 ?_ (fun a ha => cpy_ent ha) oq
    rw [tx_ent_p hs1 hkd.2]
    show (H.setIfInBounds (wa w j) _)[wa w j]? = some _
    simp [Array.getElem?_setIfInBounds, hlt]
  obtain ⟨t, a1, b1⟩ := k _ _ hH1 ⟨by simp; exact hS.1, fun q g1 g2 => by
      rw [oq q (fun e => g2 (by rw [e]; exact hJ.2.1 j h1))]
      exact hS.2.1 q g1 g2, fun q hq => by
      rcases List.mem_append.mp hq with h | h
      · exact hS.2.2 q h
      · obtain ⟨z, -, hz2⟩ := List.mem_map.mp h
        rw [← hz2]
        exact hJ.2.1 j h1⟩ ls hl _ hheap X'
  exact ⟨t, step t a1, b1⟩
/-- an inherited or overriding method's call -/
def tx_UW (own : String) (idx : Nat) (C owner : String) (x y : MethodName) (b : ByteArray) (L : Nat) (ret : Option FieldType) (n : Nat) : Prop := ((GoodIn lw_all (va_wsU own idx C owner x y (ws_ y b L ret)) ∧ y = ⟨owner, x.name, x.desc⟩) ∨ (GoodIn lw_all (va_wsO own idx C owner x y (ws_ y b L ret)) ∧ ∃ b0 m0 r0, Cond.code ⟨owner, x.name, x.desc⟩ b0 m0 r0 ∈ lw_all)) ∧ (owner ≠ "java/lang/invoke/MethodHandle" ∧ owner ≠ "java/lang/invoke/VarHandle" ∧ (parseMethodDescriptor x.desc).map (fun d => d.parameters.length) = some n) ∧ L ≤ 40
theorem tx_callU {C owner : String} {x y : MethodName} {b : ByteArray} {L : Nat} {ret : Option FieldType} {n idx fr' ci sn : Nat} {i : Int} {As : List Value} {Q' : Option Value → TM → TM → Prop} (O : tx_O w own cc nL fr E) (hd : decode cc pc = .ok (.invokevirtual idx, 3)) (hv : tx_UW own idx C owner x y b L ret n) (hs : tx_sh w i = (10 + ci, sn)) (hC : (vwCl[ci]?).map (fun q => q.1) = some C) (hfr' : fr' + 1 ≤ fr) (hn : As.length = n) (hrm : (st.map fun v => v.category).sum ≤ 8) (S : tx_S w y b L ret fr' (rV (wa w) i :: As) R M Q') (k : ∀ (v : Option Value) (R' M' : TM), Q' v R' M' → tx_X w E (pc + 3) lv (v.toList ++ st) R' M') : tx_X w E pc lv (As.reverse ++ rV (wa w) i :: st) R M := by
  obtain ⟨p, e, Rm, s, m, args, below, meth, c, cells, slots, Z⟩ := E
  obtain ⟨hx, hb, hml, hown, hts, hK, hJ, hz, hlk, hfr, hlo, hce, hsl⟩ := O
  intro H locs hH hS ls hls
  obtain ⟨v1, v2, v3⟩ := hv
  obtain ⟨h0, hP⟩ := tx_obj hH hs
  rw [tx_ref h0] at S ⊢
  obtain ⟨q, hq, hqC⟩ : ∃ q, vwCl[ci]? = some q ∧ q.1 = C := by
    cases hh : vwCl[ci]? with
    | none => rw [hh] at hC; cases hC
    | some q => rw [hh] at hC; exact ⟨q, rfl, Option.some.inj hC⟩
  have hrv := va_recv hK.1 hP (ci := ci) (q0 := 0) hq rfl
  rw [hqC] at hrv
  have hroom : ({ frames := fr', cells := 0, slots := 0, locals := 64 * fr' } : Room).frames + 1 ≤ Rm.frames ∧ 8 + (L + 11) + ({ frames := fr', cells := 0, slots := 0, locals := 64 * fr' } : Room).locals ≤ Rm.locals := by
    constructor
    · show fr' + 1 ≤ Rm.frames
      omega
    · show 8 + (L + 11) + 64 * fr' ≤ Rm.locals
      omega
  have cw : va_CU Rm s args own C owner idx x y b L ret (ws_ y b L ret) { frames := fr', cells := 0, slots := 0, locals := 64 * fr' } 0 0 n := by
    rcases v1 with ⟨g1, g2⟩ | ⟨g1, b0, m0, r0, g2⟩
    · exact va_cwU n hts g1 rfl rfl rfl g2 v2 hroom
    · exact va_cwO n hts g1 rfl rfl rfl g2 v2 hroom
  exact tx_goon (va_runU (As := As) (rest := st) (nL := nL) ⟨hx, hb, hml, hown, hts⟩ S cw ⟨tx_blind, hrv, fun U hU hW => ⟨rfl, by rw [hU]; exact hH, hK.warm hW, hJ, by rw [hU]; exact Nat.le_trans hz hS.1⟩⟩ rfl hn (by rw [← hml]; exact hls.1) rfl (lv_room hrm) hd ⟨hce, hsl⟩) hS (fun v R' M' H1 locs1 g1 g2 g3 => k v R' M' g1 H1 locs1 g2 g3 ls hls)
/-- a superclass's method, by name -/
theorem tx_callSU {C : String} {y : MethodName} {b : ByteArray} {L : Nat} {ret : Option FieldType} {n idx fr' ci sn : Nat} {i : Int} {As : List Value} {Q' : Option Value → TM → TM → Prop} (O : tx_O w own cc nL fr E) (hd : decode cc pc = .ok (.invokespecial idx, 3)) (hg : GoodIn lw_all (va_wsSU own idx y (ws_ y b L ret))) (hy : y.name ≠ "<init>" ∧ (parseMethodDescriptor y.desc).map (fun d => d.parameters.length) = some n) (hL : L ≤ 40) (hs : tx_sh w i = (10 + ci, sn)) (hC : (vwCl[ci]?).map (fun q => q.1) = some C) (hfr' : fr' + 1 ≤ fr) (hn : As.length = n) (hrm : (st.map fun v => v.category).sum ≤ 8) (S : tx_S w y b L ret fr' (rV (wa w) i :: As) R M Q') (k : ∀ (v : Option Value) (R' M' : TM), Q' v R' M' → tx_X w E (pc + 3) lv (v.toList ++ st) R' M') : tx_X w E pc lv (As.reverse ++ rV (wa w) i :: st) R M := by
  obtain ⟨p, e, Rm, s, m, args, below, meth, c, cells, slots, Z⟩ := E
  obtain ⟨hx, hb, hml, hown, hts, hK, hJ, hz, hlk, hfr, hlo, hce, hsl⟩ := O
  intro H locs hH hS ls hls
  obtain ⟨h0, hP⟩ := tx_obj hH hs
  rw [tx_ref h0] at S ⊢
  obtain ⟨q, hq, hqC⟩ : ∃ q, vwCl[ci]? = some q ∧ q.1 = C := by
    cases hh : vwCl[ci]? with
    | none => rw [hh] at hC; cases hC
    | some q => rw [hh] at hC; exact ⟨q, rfl, Option.some.inj hC⟩
  have hrv := va_recv hK.1 hP (ci := ci) (q0 := 0) hq rfl
  have hat := (hK.1.1 ci q hq).2
  rw [hqC] at hrv hat
  have hroom : ({ frames := fr', cells := 0, slots := 0, locals := 64 * fr' } : Room).frames + 1 ≤ Rm.frames ∧ 8 + (L + 11) + ({ frames := fr', cells := 0, slots := 0, locals := 64 * fr' } : Room).locals ≤ Rm.locals := by
    constructor
    · show fr' + 1 ≤ Rm.frames
      omega
    · show 8 + (L + 11) + 64 * fr' ≤ Rm.locals
      omega
  exact tx_goon (va_runSU (As := As) (rest := st) (nL := nL) hat ⟨hx, hb, hml, hown, hts⟩ S (va_cwSU n hts hg rfl rfl rfl hy hroom) ⟨tx_blind, hrv, fun U hU hW => ⟨rfl, by rw [hU]; exact hH, hK.warm hW, hJ, by rw [hU]; exact Nat.le_trans hz hS.1⟩⟩ rfl hn (by rw [← hml]; exact hls.1) rfl (lv_room hrm) hd ⟨hce, hsl⟩) hS (fun v R' M' H1 locs1 g1 g2 g3 => k v R' M' g1 H1 locs1 g2 g3 ls hls)
/-- a borrower's cell -/
abbrev isBr (i : Int) : Prop := (500 ≤ i ∧ i ≤ 505) ∨ (510 ≤ i ∧ i ≤ 515) ∨ (520 ≤ i ∧ i ≤ 525)
theorem sh_br (w : WT) {i : Int} (h : isBr i) : ∃ ci : Nat, tx_sh w i = (10 + ci, 0) ∧ (ci = 3 ∨ ci = 4 ∨ ci = 5) ∧ (ci = 3 → 500 ≤ i ∧ i ≤ 505) ∧ (ci = 4 → 510 ≤ i ∧ i ≤ 515) ∧ (ci = 5 → 520 ≤ i ∧ i ≤ 525) := by
  rw [sh_lo w (by omega)]
  unfold shS
  rcases h with e | e | e
  · refine ⟨3, ?_, by omega, by omega, by omega, by omega⟩
    repeat (first | rw [if_neg (by omega)] | rw [if_pos (by omega)])
  · refine ⟨4, ?_, by omega, by omega, by omega, by omega⟩
    repeat (first | rw [if_neg (by omega)] | rw [if_pos (by omega)])
  · refine ⟨5, ?_, by omega, by omega, by omega, by omega⟩
    repeat (first | rw [if_neg (by omega)] | rw [if_pos (by omega)])
theorem fX3_7 {i : Int} (O : tx_O w RX3 cc nL fr E) (hi : isBr i) (hd : decode cc pc = .ok (.getfield 7, 3)) (k : tx_X w E (pc + 3) lv (iV (M i 0) :: st) R M) : tx_X w E pc lv (rV (wa w) i :: st) R M := by
  obtain ⟨ci, h1, h2, -⟩ := sh_br w hi
  rcases h2 with e | e | e <;> subst e
  · exact tx_geti (C := RX3) (T := TX3) (N := 2) 0 O hd h1 rfl (by decide) ⟨rfl, rfl, rfl⟩ rfl q520 k
  · exact tx_geti (C := RX4) (T := TX4) (N := 2) 0 O hd h1 rfl (by decide) ⟨rfl, rfl, rfl⟩ rfl q520 k
  · exact tx_geti (C := RX5) (T := TX5) (N := 2) 0 O hd h1 rfl (by decide) ⟨rfl, rfl, rfl⟩ rfl q520 k
theorem fX3_7p {i v : Int} (O : tx_O w RX3 cc nL fr E) (hi : isBr i) (hd : decode cc pc = .ok (.putfield 7, 3)) (k : tx_X w E (pc + 3) lv st R (up M i 0 v)) : tx_X w E pc lv (iV v :: rV (wa w) i :: st) R M := by
  obtain ⟨ci, h1, h2, -⟩ := sh_br w hi
  rcases h2 with e | e | e <;> subst e
  · exact tx_puti (C := RX3) (T := TX3) (N := 2) 0 O hd h1 rfl (by decide) ⟨rfl, rfl, rfl⟩ rfl rfl q520 ⟨rfl, rfl⟩ k
  · exact tx_puti (C := RX4) (T := TX4) (N := 2) 0 O hd h1 rfl (by decide) ⟨rfl, rfl, rfl⟩ rfl rfl q520 ⟨rfl, rfl⟩ k
  · exact tx_puti (C := RX5) (T := TX5) (N := 2) 0 O hd h1 rfl (by decide) ⟨rfl, rfl, rfl⟩ rfl rfl q520 ⟨rfl, rfl⟩ k
theorem fX0_57 {i : Int} (O : tx_O w RX0 cc nL fr E) (hi : isBr i) (hd : decode cc pc = .ok (.getfield 57, 3)) (k : tx_X w E (pc + 3) lv (iV (M i 0) :: st) R M) : tx_X w E pc lv (rV (wa w) i :: st) R M := by
  obtain ⟨ci, h1, h2, -⟩ := sh_br w hi
  rcases h2 with e | e | e <;> subst e
  · exact tx_geti (C := RX3) (T := TX3) (N := 2) 0 O hd h1 rfl (by decide) ⟨rfl, rfl, rfl⟩ rfl q521 k
  · exact tx_geti (C := RX4) (T := TX4) (N := 2) 0 O hd h1 rfl (by decide) ⟨rfl, rfl, rfl⟩ rfl q521 k
  · exact tx_geti (C := RX5) (T := TX5) (N := 2) 0 O hd h1 rfl (by decide) ⟨rfl, rfl, rfl⟩ rfl q521 k
theorem fX0_57p {i v : Int} (O : tx_O w RX0 cc nL fr E) (hi : isBr i) (hd : decode cc pc = .ok (.putfield 57, 3)) (k : tx_X w E (pc + 3) lv st R (up M i 0 v)) : tx_X w E pc lv (iV v :: rV (wa w) i :: st) R M := by
  obtain ⟨ci, h1, h2, -⟩ := sh_br w hi
  rcases h2 with e | e | e <;> subst e
  · exact tx_puti (C := RX3) (T := TX3) (N := 2) 0 O hd h1 rfl (by decide) ⟨rfl, rfl, rfl⟩ rfl rfl q521 ⟨rfl, rfl⟩ k
  · exact tx_puti (C := RX4) (T := TX4) (N := 2) 0 O hd h1 rfl (by decide) ⟨rfl, rfl, rfl⟩ rfl rfl q521 ⟨rfl, rfl⟩ k
  · exact tx_puti (C := RX5) (T := TX5) (N := 2) 0 O hd h1 rfl (by decide) ⟨rfl, rfl, rfl⟩ rfl rfl q521 ⟨rfl, rfl⟩ k
theorem fX3_19 {i : Int} (O : tx_O w RX3 cc nL fr E) (hi : isBr i) (hd : decode cc pc = .ok (.getfield 19, 3)) (k : tx_X w E (pc + 3) lv (iV (M i 1) :: st) R M) : tx_X w E pc lv (rV (wa w) i :: st) R M := by
  obtain ⟨ci, h1, h2, -⟩ := sh_br w hi
  rcases h2 with e | e | e <;> subst e
  · exact tx_geti (C := RX3) (T := TX3) (N := 2) 1 O hd h1 rfl (by decide) ⟨rfl, rfl, rfl⟩ rfl q524 k
  · exact tx_geti (C := RX4) (T := TX4) (N := 2) 1 O hd h1 rfl (by decide) ⟨rfl, rfl, rfl⟩ rfl q524 k
  · exact tx_geti (C := RX5) (T := TX5) (N := 2) 1 O hd h1 rfl (by decide) ⟨rfl, rfl, rfl⟩ rfl q524 k
theorem fX3_19p {i v : Int} (O : tx_O w RX3 cc nL fr E) (hi : isBr i) (hd : decode cc pc = .ok (.putfield 19, 3)) (k : tx_X w E (pc + 3) lv st R (up M i 1 v)) : tx_X w E pc lv (iV v :: rV (wa w) i :: st) R M := by
  obtain ⟨ci, h1, h2, -⟩ := sh_br w hi
  rcases h2 with e | e | e <;> subst e
  · exact tx_puti (C := RX3) (T := TX3) (N := 2) 1 O hd h1 rfl (by decide) ⟨rfl, rfl, rfl⟩ rfl rfl q524 ⟨rfl, rfl⟩ k
  · exact tx_puti (C := RX4) (T := TX4) (N := 2) 1 O hd h1 rfl (by decide) ⟨rfl, rfl, rfl⟩ rfl rfl q524 ⟨rfl, rfl⟩ k
  · exact tx_puti (C := RX5) (T := TX5) (N := 2) 1 O hd h1 rfl (by decide) ⟨rfl, rfl, rfl⟩ rfl rfl q524 ⟨rfl, rfl⟩ k
theorem fX0_62 {i : Int} (O : tx_O w RX0 cc nL fr E) (hi : isBr i) (hd : decode cc pc = .ok (.getfield 62, 3)) (k : tx_X w E (pc + 3) lv (iV (M i 1) :: st) R M) : tx_X w E pc lv (rV (wa w) i :: st) R M := by
  obtain ⟨ci, h1, h2, -⟩ := sh_br w hi
  rcases h2 with e | e | e <;> subst e
  · exact tx_geti (C := RX3) (T := TX3) (N := 2) 1 O hd h1 rfl (by decide) ⟨rfl, rfl, rfl⟩ rfl q525 k
  · exact tx_geti (C := RX4) (T := TX4) (N := 2) 1 O hd h1 rfl (by decide) ⟨rfl, rfl, rfl⟩ rfl q525 k
  · exact tx_geti (C := RX5) (T := TX5) (N := 2) 1 O hd h1 rfl (by decide) ⟨rfl, rfl, rfl⟩ rfl q525 k
theorem fX0_62p {i v : Int} (O : tx_O w RX0 cc nL fr E) (hi : isBr i) (hd : decode cc pc = .ok (.putfield 62, 3)) (k : tx_X w E (pc + 3) lv st R (up M i 1 v)) : tx_X w E pc lv (iV v :: rV (wa w) i :: st) R M := by
  obtain ⟨ci, h1, h2, -⟩ := sh_br w hi
  rcases h2 with e | e | e <;> subst e
  · exact tx_puti (C := RX3) (T := TX3) (N := 2) 1 O hd h1 rfl (by decide) ⟨rfl, rfl, rfl⟩ rfl rfl q525 ⟨rfl, rfl⟩ k
  · exact tx_puti (C := RX4) (T := TX4) (N := 2) 1 O hd h1 rfl (by decide) ⟨rfl, rfl, rfl⟩ rfl rfl q525 ⟨rfl, rfl⟩ k
  · exact tx_puti (C := RX5) (T := TX5) (N := 2) 1 O hd h1 rfl (by decide) ⟨rfl, rfl, rfl⟩ rfl rfl q525 ⟨rfl, rfl⟩ k
theorem fX5_11 {i : Int} (O : tx_O w RX5 cc nL fr E) (hi : 520 ≤ i ∧ i ≤ 525) (hd : decode cc pc = .ok (.getfield 11, 3)) (k : tx_X w E (pc + 3) lv (iV (M i 1) :: st) R M) : tx_X w E pc lv (rV (wa w) i :: st) R M := by
  obtain ⟨ci, h1, h2, h3, h4, h5⟩ := sh_br w (i := i) (Or.inr (Or.inr hi))
  have e : ci = 5 := by omega
  subst e
  obtain ⟨p, e, Rm, s, m, args, below, meth, c, cells, slots, Z⟩ := E
  obtain ⟨hx, hb, hml, hown, hts, hK, hJ, hz, hlk, hfr, hlo, hce, hsl⟩ := O
  intro H locs hH hS ls hl
  obtain ⟨h0, hP⟩ := tx_obj hH h1
  obtain ⟨i1, i2, -, -⟩ := tx_in 5 _ rfl
  rw [tx_ref h0]
  exact va_get (C := RX5) (T := TX5) (N := 2) (ref := "TuneLoans$Changing") hx hb hts i1 hown hK.1 hP 0 rfl rfl 1 (by decide) (hts _ q522) (fun x h => u_same (hts _ q523) x h) (tx_fl_at (by decide)) hd (k H locs hH hS ls hl)
/-- a borrower put among the people -/
theorem tx_aastB {j v : Int} (O : tx_O w own cc nL fr E) (hd : decode cc pc = .ok (.aastore, 1)) (hv : isBr v) (hj : 0 ≤ j ∧ j < 6) (k : tx_X w E (pc + 1) lv st (up R 208 j v) M) : tx_X w E pc lv (rV (wa w) v :: iV j :: rV (wa w) 208 :: st) R M := by
  obtain ⟨ci, hsv, hci, -⟩ := sh_br w hv
  obtain ⟨p, e, Rm, s, m, args, below, meth, c, cells, slots, Z⟩ := E
  obtain ⟨hx, hb, hml, hown, hts, hK, hJ, hz, hlk, hfr, hlo, hce, hsl⟩ := O
  intro H locs hH hS ls hl
  obtain ⟨h0, hP⟩ := tx_arq (kd := 8) hH (sh_208 w) (by omega)
  obtain ⟨hv0, hPv⟩ := tx_obj hH hsv
  obtain ⟨g1, g2⟩ := of_in (n := 6) (by omega : 0 ≤ j ∧ j < ((6 : Nat) : Int)) (by omega)
  rw [tx_ref h0, tx_ref hv0]
  have hlt : (Int32.ofInt j).toNatClampNeg < 6 := by rw [g2]; omega
  have hn0 : ¬ Int32.ofInt j < 0 := fun q => g1 (Or.inl q)
  obtain ⟨r', hr', cellV, c1, c2, c3, -⟩ := hPv 0 _ rfl
  obtain ⟨kA, comp, a1, a2, a3, -⟩ := (hK.1.2 8 _ (tx_ty_at (wc w) (by omega))).2
  obtain ⟨hf3, k3, hk3, hkd3⟩ := (hK.1.1 3 _ rfl).2
  have hcomp : comp = (wD w).1 3 := Option.some.inj (a3.symm.trans hf3)
  subst hcomp
  have hkV : ∃ kv, s.vm.classes[cellV.cls]? = some kv := by
    rw [c2]
    rcases hci with e | e | e <;> subst e
    · exact ⟨_, hk3⟩
    · obtain ⟨-, k4, hk4, -⟩ := (hK.1.1 4 _ rfl).2; exact ⟨k4, hk4⟩
    · obtain ⟨-, k5, hk5, -⟩ := (hK.1.1 5 _ rfl).2; exact ⟨k5, hk5⟩
  obtain ⟨kv, hkv⟩ := hkV
  have hasg : s.vm.assignable cellV.cls ((wD w).1 3) = true := by
    rw [c2]
    rcases hci with e | e | e <;> subst e
    · exact va_assign (hK.1.1 3 _ rfl).2
    · have hw1 := hK.2 (.castable "TuneLoans$Dropping" "TuneLoans$Borrower") (by simp [tx_nwl])
      obtain ⟨x1, x2, y1, y2, y3⟩ := Cond.castable_spec hw1
      have f4 := (hK.1.1 4 _ rfl).2.1
      rw [show x1 = (wD w).1 4 from Option.some.inj (y1.symm.trans f4), show x2 = (wD w).1 3 from Option.some.inj (y2.symm.trans hf3)] at y3
      exact y3
    · have hw1 := hK.2 (.castable "TuneLoans$Changing" "TuneLoans$Borrower") (by simp [tx_nwl])
      obtain ⟨x1, x2, y1, y2, y3⟩ := Cond.castable_spec hw1
      have f5 := (hK.1.1 5 _ rfl).2.1
      rw [show x1 = (wD w).1 5 from Option.some.inj (y1.symm.trans f5), show x2 = (wD w).1 3 from Option.some.inj (y2.symm.trans hf3)] at y3
      exact y3
  refine W.aast hx hb (hP 0 _ rfl) (fun q h => by cases h) (fun h => by cases h) a1 a2 rfl hk3 ⟨hn0, by show _ < (arrV _ _ _).slots.size; rw [arrV_size]; exact hlt⟩ c1 (fun q h => by rw [c3] at h; cases h) hkv hasg rfl rfl hd fun H1 e1 z oq => ?_
  refine k H1 _ (hH.set (i := 208) hJ h0 ?_ (fun a ha => up_entR ha) oq) (hS.put z oq (hJ.2.1 208 h0)) ls hl
  rw [tx_ent_q (sh_208 w) (by omega) (by omega)]
  show H1[wa w 208]? = some (vp_cell _ _)
  rw [e1, vp_cell_q, vp_cell_q, arrV_store, g2]
  have hv9 : v ≠ 0 := by omega
  congr 2
  funext q
  by_cases hq : q = j.toNat
  · have : (q : Int) = j := by omega
    simp [updV, hq, up, Int.toNat_of_nonneg hj.1, rF, hv9, va_rf]
  · have : ¬ ((q : Int) = j) := by omega
    simp [updV, up, hq, this]
end CROWS
theorem u_sings_Borrower : tx_UW "TuneLoans" 165 "TuneLoans$Borrower" "TuneLoans$Borrower" yX3_sings yX3_sings cX3_sings 4 none 2 := by
  refine ⟨Or.inl ⟨?_, rfl⟩, ⟨by decide, by decide, by decide +kernel⟩, by decide⟩
  refine lw_app ?_ (lw_meth q270)
  intro w hw
  simp only [List.mem_cons, List.not_mem_nil, or_false] at hw
  rcases hw with e | e | e | e | e
  · rw [e]; exact q264
  · rw [e]; exact q267
  · rw [e]; exact q266
  · rw [e]; exact q265
  · rw [e]; exact q86
theorem u_sings_Dropping : tx_UW "TuneLoans" 165 "TuneLoans$Dropping" "TuneLoans$Borrower" yX3_sings yX3_sings cX3_sings 4 none 2 := by
  refine ⟨Or.inl ⟨?_, rfl⟩, ⟨by decide, by decide, by decide +kernel⟩, by decide⟩
  refine lw_app ?_ (lw_meth q270)
  intro w hw
  simp only [List.mem_cons, List.not_mem_nil, or_false] at hw
  rcases hw with e | e | e | e | e
  · rw [e]; exact q264
  · rw [e]; exact q267
  · rw [e]; exact q269
  · rw [e]; exact q265
  · rw [e]; exact q86
theorem u_sings_Changing : tx_UW "TuneLoans" 165 "TuneLoans$Changing" "TuneLoans$Borrower" yX3_sings yX3_sings cX3_sings 4 none 2 := by
  refine ⟨Or.inl ⟨?_, rfl⟩, ⟨by decide, by decide, by decide +kernel⟩, by decide⟩
  refine lw_app ?_ (lw_meth q270)
  intro w hw
  simp only [List.mem_cons, List.not_mem_nil, or_false] at hw
  rcases hw with e | e | e | e | e
  · rw [e]; exact q264
  · rw [e]; exact q267
  · rw [e]; exact q268
  · rw [e]; exact q265
  · rw [e]; exact q86
theorem u_kind_Borrower : tx_UW "TuneLoans" 93 "TuneLoans$Borrower" "TuneLoans$Borrower" yX3_kind yX3_kind cX3_kind 1 (some .int) 0 := by
  refine ⟨Or.inl ⟨?_, rfl⟩, ⟨by decide, by decide, by decide +kernel⟩, by decide⟩
  refine lw_app ?_ (lw_meth q181)
  intro w hw
  simp only [List.mem_cons, List.not_mem_nil, or_false] at hw
  rcases hw with e | e | e | e | e
  · rw [e]; exact q171
  · rw [e]; exact q174
  · rw [e]; exact q173
  · rw [e]; exact q172
  · rw [e]; exact q86
theorem u_kind_Dropping : tx_UW "TuneLoans" 93 "TuneLoans$Dropping" "TuneLoans$Borrower" yX3_kind yX4_kind cX4_kind 1 (some .int) 0 := by
  refine ⟨Or.inr ⟨?_, _, _, _, q181⟩, ⟨by decide, by decide, by decide +kernel⟩, by decide⟩
  refine lw_app ?_ (lw_meth q180)
  intro w hw
  simp only [List.mem_cons, List.not_mem_nil, or_false] at hw
  rcases hw with e | e | e | e | e | e
  · rw [e]; exact q171
  · rw [e]; exact q174
  · rw [e]; exact q172
  · rw [e]; exact q178
  · rw [e]; exact q179
  · rw [e]; exact q87
theorem u_kind_Changing : tx_UW "TuneLoans" 93 "TuneLoans$Changing" "TuneLoans$Borrower" yX3_kind yX5_kind cX5_kind 1 (some .int) 0 := by
  refine ⟨Or.inr ⟨?_, _, _, _, q181⟩, ⟨by decide, by decide, by decide +kernel⟩, by decide⟩
  refine lw_app ?_ (lw_meth q177)
  intro w hw
  simp only [List.mem_cons, List.not_mem_nil, or_false] at hw
  rcases hw with e | e | e | e | e | e
  · rw [e]; exact q171
  · rw [e]; exact q174
  · rw [e]; exact q172
  · rw [e]; exact q175
  · rw [e]; exact q176
  · rw [e]; exact q88
theorem u_hums_Borrower : tx_UW "TuneLoans$Borrower" 29 "TuneLoans$Borrower" "TuneLoans$Borrower" yX3_hums yX3_hums cX3_hums 2 none 1 := by
  refine ⟨Or.inl ⟨?_, rfl⟩, ⟨by decide, by decide, by decide +kernel⟩, by decide⟩
  refine lw_app ?_ (lw_meth q284)
  intro w hw
  simp only [List.mem_cons, List.not_mem_nil, or_false] at hw
  rcases hw with e | e | e | e | e
  · rw [e]; exact q271
  · rw [e]; exact q274
  · rw [e]; exact q273
  · rw [e]; exact q272
  · rw [e]; exact q86
theorem u_hums_Dropping : tx_UW "TuneLoans$Borrower" 29 "TuneLoans$Dropping" "TuneLoans$Borrower" yX3_hums yX4_hums cX4_hums 2 none 1 := by
  refine ⟨Or.inr ⟨?_, _, _, _, q284⟩, ⟨by decide, by decide, by decide +kernel⟩, by decide⟩
  refine lw_app ?_ (lw_meth q281)
  intro w hw
  simp only [List.mem_cons, List.not_mem_nil, or_false] at hw
  rcases hw with e | e | e | e | e | e
  · rw [e]; exact q271
  · rw [e]; exact q274
  · rw [e]; exact q272
  · rw [e]; exact q283
  · rw [e]; exact q280
  · rw [e]; exact q87
theorem u_hums_Changing : tx_UW "TuneLoans$Borrower" 29 "TuneLoans$Changing" "TuneLoans$Borrower" yX3_hums yX5_hums cX5_hums 2 none 1 := by
  refine ⟨Or.inr ⟨?_, _, _, _, q284⟩, ⟨by decide, by decide, by decide +kernel⟩, by decide⟩
  refine lw_app ?_ (lw_meth q277)
  intro w hw
  simp only [List.mem_cons, List.not_mem_nil, or_false] at hw
  rcases hw with e | e | e | e | e | e
  · rw [e]; exact q271
  · rw [e]; exact q274
  · rw [e]; exact q272
  · rw [e]; exact q275
  · rw [e]; exact q276
  · rw [e]; exact q88
theorem su_hums : GoodIn lw_all (va_wsSU RX5 7 yX4_hums (ws_ yX4_hums cX4_hums 2 none)) := by
  refine lw_app ?_ (lw_meth q281)
  intro w hw
  simp only [List.mem_cons, List.not_mem_nil, or_false] at hw
  rcases hw with e | e | e | e | e
  · rw [e]; exact q278
  · rw [e]; exact q1268
  · rw [e]; exact q279
  · rw [e]; exact q280
  · rw [e]; exact q87
section QC
variable {w : WT} {E : ET} {pc : Nat} {lv : List (Nat × Value)} {st : List Value} {R M : TM}
/-- answers of methods that may turn references too -/
def QC (P : Int → TM → TM → Prop) : Option Value → TM → TM → Prop := fun v R' M' => ∃ z : Int, v = some (iV z) ∧ P z R' M'
def QCL (P : Int → TM → TM → Prop) : Option Value → TM → TM → Prop := fun v R' M' => ∃ z : Int, v = some (lV z) ∧ P z R' M'
def QCV (P : TM → TM → Prop) : Option Value → TM → TM → Prop := fun v R' M' => v = none ∧ P R' M'
theorem k_C {P : Int → TM → TM → Prop} (k : ∀ (z : Int) (R' M' : TM), P z R' M' → tx_X w E pc lv (iV z :: st) R' M') : ∀ (v : Option Value) (R' M' : TM), QC P v R' M' → tx_X w E pc lv (v.toList ++ st) R' M' := by
  rintro v R' M' ⟨z, rfl, h⟩
  exact k z R' M' h
theorem k_CL {P : Int → TM → TM → Prop} (k : ∀ (z : Int) (R' M' : TM), P z R' M' → tx_X w E pc lv (lV z :: st) R' M') : ∀ (v : Option Value) (R' M' : TM), QCL P v R' M' → tx_X w E pc lv (v.toList ++ st) R' M' := by
  rintro v R' M' ⟨z, rfl, h⟩
  exact k z R' M' h
theorem k_CV {P : TM → TM → Prop} (k : ∀ (R' M' : TM), P R' M' → tx_X w E pc lv st R' M') : ∀ (v : Option Value) (R' M' : TM), QCV P v R' M' → tx_X w E pc lv (v.toList ++ st) R' M' := by
  rintro v R' M' ⟨rfl, h⟩
  exact k R' M' h
theorem tx_QC.mk {P : Int → TM → TM → Prop} {z : Int} (h : P z R M) : QC P (some (iV z)) R M := ⟨z, rfl, h⟩
theorem tx_QCL.mk {P : Int → TM → TM → Prop} {z : Int} (h : P z R M) : QCL P (some (lV z)) R M := ⟨z, rfl, h⟩
theorem tx_QCV.mk {P : TM → TM → Prop} (h : P R M) : QCV P none R M := ⟨rfl, h⟩
end QC
