/-! THE LAW: its loop -/
set_option maxRecDepth 100000
abbrev lE (p : Program) (e : Env) (s : State) (m : MethodId) (bb : Nat) (below : List Frame) (meth : Method) (c : Code) (a b : Nat) : ET := (p, e, room_1, s, m, #[Value.ref bb], below, meth, c, a, b, lw_Z below #[Value.ref bb] s)
theorem law_exit {w : WT} {p : Program} {e : Env} {s : State} {m : MethodId} {bb : Nat} {below : List Frame} {meth : Method} {c : Code} {a b : Nat} {lv : List (Nat × Value)} {R M : TM} (O : tx_O w "TuneLoansLaw" cL_law 4 400 (lE p e s m bb below meth c a b)) (hz : wz w = s.heap.size) (hr : meth.sig.returnType = ret) : tx_X w (lE p e s m bb below meth c a b) 1373 lv [] R M := by
  refine tx_iconst (pc := 1373) O dL_law_1373 ?_
  obtain ⟨hx, hb, hml, hown, hts, hK, hJ, hz1, hlk, hfr, hlo, hce, hsl⟩ := O
  intro H locs hH hS ls hl
  refine va_forget (fun q hq => ?_) ?_
  · have := hS.2.2 q hq
    have h : wz w ≤ q.base := this
    omega
  · exact W.widen (show a ≤ 603072 from hce) (show b ≤ 7262314 from hsl) (lw_ret hx hb hr hlk dL_law_1374)
set_option maxHeartbeats 4000000 in
theorem law_loop (HC : HCopy) {p : Program} {e : Env} {s : State} {m : MethodId} {bb LL : Nat} {xs : Nat → Int32} {below : List Frame} {meth : Method} {c : Code} (hL : LL ≤ 448) (hr : meth.sig.returnType = ret) (c0 s0 : Nat) (hc0 : c0 + 300 ≤ 603072) (hs0 : s0 + 61000 ≤ 7262314) : ∀ (d : Nat) (w : WT) (R M : TM) (a b : Nat) (k : Int), tx_O w "TuneLoansLaw" cL_law 4 400 (lE p e s m bb below meth c a b) → tx_SC w bb LL xs (lE p e s m bb below meth c a b) → tx_B w s → jI w R M → 0 ≤ k → (LL : Int) - 7 * k ≤ 7 * d + 6 → a ≤ c0 + 3 * k.toNat → b ≤ s0 + 610 * k.toNat → 7 * k ≤ LL → tx_X w (lE p e s m bb below meth c a b) 18 [(3, iV (7 * k)), (2, rV (wa w) 2), (1, rV (wa w) 1), (0, .ref bb)] [] R M := by
  intro d
  induction d with
  | zero =>
    intro w R M a b k O C hB h hk hd ha hb hkL
    refine tx_iload_n (pc := 18) 0 O dL_law_18 rfl rfl ?_
    refine tx_aloadx (pc := 19) 3 O dL_law_19 rfl rfl ?_
    refine tx_slen (pc := 20) O C dL_law_20 ?_
    refine tx_bipush (pc := 21) O dL_law_21 (by omega) ?_
    refine tx_isub (pc := 23) O dL_law_23 ?_
    refine tx_icmp_gt (pc := 24) 1373 O dL_law_24 rfl (by omega) (fun c24 => ?_) (fun c24 => absurd c24 (by omega))
    exact law_exit O C.2.2 hr
  | succ d ih =>
    intro w R M a b k O C hB h hk hd ha hb hkL
    refine tx_iload_n (pc := 18) 0 O dL_law_18 rfl rfl ?_
    refine tx_aloadx (pc := 19) 3 O dL_law_19 rfl rfl ?_
    refine tx_slen (pc := 20) O C dL_law_20 ?_
    refine tx_bipush (pc := 21) O dL_law_21 (by omega) ?_
    refine tx_isub (pc := 23) O dL_law_23 ?_
    refine tx_icmp_gt (pc := 24) 1373 O dL_law_24 rfl (by omega) (fun c24 => law_exit O C.2.2 hr) (fun c24 => ?_)
    have hi : 0 ≤ 7 * k ∧ 7 * k + 7 ≤ LL := by omega
    have nx : ∀ (w1 : WT) (R1 M1 : TM) (a1 b1 : Nat), tx_ext w w1 → tx_J w1 → jI w1 R1 M1 → a1 ≤ a + 3 → b1 ≤ b + 610 → tx_X w1 (lE p e s m bb below meth c a1 b1) 1367 [(3, iV (7 * k)), (2, rV (wa w1) 2), (1, rV (wa w1) 1), (0, .ref bb)] [] R1 M1 := by
      intro w1 R1 M1 a1 b1 hx hJ hj h1 h2
      have O1 : tx_O w1 "TuneLoansLaw" cL_law 4 400 (lE p e s m bb below meth c a1 b1) := O.mv hx hJ (show a1 ≤ 603072 by omega) (show b1 ≤ 7262314 by omega)
      have C1 : tx_SC w1 bb LL xs (lE p e s m bb below meth c a1 b1) := C.mv hx a1 b1
      refine tx_iinc (pc := 1367) 0 O1 dL_law_1367 rfl (by decide) (by simp only [List.filter_cons, List.filter_nil, cat_r, cat_i, cat_l]; rfl) ?_
      refine tx_goto (pc := 1370) 18 O1 dL_law_1370 rfl ?_
      rw [show 7 * k + 7 = 7 * (k + 1) by omega]
      exact ih w1 R1 M1 a1 b1 (k + 1) O1 C1 (hx.B hB) hj (by omega) (by omega) (by omega) (by omega) (by omega)
    have nS : ∀ (R1 M1 : TM), jI w R1 M1 → tx_X w (lE p e s m bb below meth c a b) 1367 [(3, iV (7 * k)), (2, rV (wa w) 2), (1, rV (wa w) 1), (0, .ref bb)] [] R1 M1 := fun R1 M1 hj => nx w R1 M1 a b tx_ext.rf O.J hj (by omega) (by omega)
    have hc : eC (lE p e s m bb below meth c a b) + 3 ≤ (603072 : Nat) ∧ eS (lE p e s m bb below meth c a b) + 610 ≤ (7262314 : Nat) := ⟨by show a + 3 ≤ 603072; omega, by show b + 610 ≤ 7262314; omega⟩
    refine tx_aloadx (pc := 27) 3 O dL_law_27 rfl rfl ?_
    refine tx_iload_n (pc := 28) 0 O dL_law_28 rfl rfl ?_
    refine tx_sld (pc := 29) O C dL_law_29 (by omega) (by omega) ?_
    refine tx_bipush (pc := 30) O dL_law_30 (by omega) ?_
    refine tx_iand (pc := 32) O dL_law_32 ?_
    have hv : rng (zand (sc xs (7 * k)) 63) := toInt_rng _
    generalize zand (sc xs (7 * k)) 63 = v at hv ⊢
    rcases (show v = 0 ∨ v = 1 ∨ v = 2 ∨ v = 3 ∨ v = 4 ∨ v = 5 ∨ v = 6 ∨ v = 7 ∨ v = 8 ∨ v = 9 ∨ v = 10 ∨ v = 11 ∨ v = 12 ∨ v = 13 ∨ v = 14 ∨ v = 15 ∨ v = 16 ∨ v = 17 ∨ v = 18 ∨ v = 19 ∨ v = 20 ∨ v = 21 ∨ v = 22 ∨ v = 23 ∨ v = 24 ∨ v = 25 ∨ v = 26 ∨ v = 27 ∨ v = 28 ∨ v = 29 ∨ v = 30 ∨ v = 31 ∨ v = 32 ∨ v = 33 ∨ v = 34 ∨ (v < 0 ∨ 34 < v) by omega) with e33 | e33 | e33 | e33 | e33 | e33 | e33 | e33 | e33 | e33 | e33 | e33 | e33 | e33 | e33 | e33 | e33 | e33 | e33 | e33 | e33 | e33 | e33 | e33 | e33 | e33 | e33 | e33 | e33 | e33 | e33 | e33 | e33 | e33 | e33 | e33
    · subst e33
      refine tx_tableIn (pc := 33) 188 O dL_law_33 (by omega) (by omega) (by omega) rfl rfl ?_
      exact law_type w _ R M (7 * k) O C hL h hi nS
    · subst e33
      refine tx_tableIn (pc := 33) 221 O dL_law_33 (by omega) (by omega) (by omega) rfl rfl ?_
      exact law_wipe w _ R M (7 * k) O C hL h hi nS
    · subst e33
      refine tx_tableIn (pc := 33) 244 O dL_law_33 (by omega) (by omega) (by omega) rfl rfl ?_
      exact law_undo w _ R M (7 * k) O C hL h hi nS
    · subst e33
      refine tx_tableIn (pc := 33) 267 O dL_law_33 (by omega) (by omega) (by omega) rfl rfl ?_
      exact law_fault w _ R M (7 * k) O C hL h hi nS
    · subst e33
      refine tx_tableIn (pc := 33) 290 O dL_law_33 (by omega) (by omega) (by omega) rfl rfl ?_
      exact law_tune w _ R M (7 * k) O C hL h hi nS
    · subst e33
      refine tx_tableIn (pc := 33) 323 O dL_law_33 (by omega) (by omega) (by omega) rfl rfl ?_
      exact law_borrower w _ R M (7 * k) O C hL h hi nS
    · subst e33
      refine tx_tableIn (pc := 33) 356 O dL_law_33 (by omega) (by omega) (by omega) rfl rfl ?_
      exact law_loan w _ R M (7 * k) O C hL h hi nS
    · subst e33
      refine tx_tableIn (pc := 33) 409 O dL_law_33 (by omega) (by omega) (by omega) rfl rfl ?_
      exact law_back w _ R M (7 * k) O C hL h hi nS
    · subst e33
      refine tx_tableIn (pc := 33) 422 O dL_law_33 (by omega) (by omega) (by omega) rfl rfl ?_
      exact law_read w _ R M (7 * k) O C hL h hi nS
    · subst e33
      refine tx_tableIn (pc := 33) 445 O dL_law_33 (by omega) (by omega) (by omega) rfl rfl ?_
      exact law_ear w _ R M (7 * k) O C hL h hi nS
    · subst e33
      refine tx_tableIn (pc := 33) 468 O dL_law_33 (by omega) (by omega) (by omega) rfl rfl ?_
      exact law_notes w _ R M (7 * k) O C hL h hi nS
    · subst e33
      refine tx_tableIn (pc := 33) 511 O dL_law_33 (by omega) (by omega) (by omega) rfl rfl ?_
      exact law_has w _ R M (7 * k) O C hL h hi nS
    · subst e33
      refine tx_tableIn (pc := 33) 544 O dL_law_33 (by omega) (by omega) (by omega) rfl rfl ?_
      exact law_came w _ R M (7 * k) O C hL h hi nS
    · subst e33
      refine tx_tableIn (pc := 33) 577 O dL_law_33 (by omega) (by omega) (by omega) rfl rfl ?_
      exact law_interest w _ R M (7 * k) O C hL h hi nS
    · subst e33
      refine tx_tableIn (pc := 33) 600 O dL_law_33 (by omega) (by omega) (by omega) rfl rfl ?_
      exact law_home w _ R M (7 * k) O C hL h hi nS
    · subst e33
      refine tx_tableIn (pc := 33) 623 O dL_law_33 (by omega) (by omega) (by omega) rfl rfl ?_
      exact law_lend w _ R M (7 * k) O C hL h hi nS
    · subst e33
      refine tx_tableIn (pc := 33) 666 O dL_law_33 (by omega) (by omega) (by omega) rfl rfl ?_
      exact law_longest w _ R M (7 * k) O C hL h hi nS
    · subst e33
      refine tx_tableIn (pc := 33) 709 O dL_law_33 (by omega) (by omega) (by omega) rfl rfl ?_
      exact law_who w _ R M (7 * k) O C hL h hi nS
    · subst e33
      refine tx_tableIn (pc := 33) 752 O dL_law_33 (by omega) (by omega) (by omega) rfl rfl ?_
      exact law_common w _ R M (7 * k) O C hL h hi nS
    · subst e33
      refine tx_tableIn (pc := 33) 785 O dL_law_33 (by omega) (by omega) (by omega) rfl rfl ?_
      exact law_far w _ R M (7 * k) O C hL h hi nS
    · subst e33
      refine tx_tableIn (pc := 33) 818 O dL_law_33 (by omega) (by omega) (by omega) rfl rfl ?_
      exact law_nearest w _ R M (7 * k) O C hL h hi nS
    · subst e33
      refine tx_tableIn (pc := 33) 841 O dL_law_33 (by omega) (by omega) (by omega) rfl rfl ?_
      exact law_mothers w _ R M (7 * k) O C hL h hi nS
    · subst e33
      refine tx_tableIn (pc := 33) 864 O dL_law_33 (by omega) (by omega) (by omega) rfl rfl ?_
      exact law_tells w _ R M (7 * k) O C hL h hi nS
    · subst e33
      refine tx_tableIn (pc := 33) 897 O dL_law_33 (by omega) (by omega) (by omega) rfl rfl ?_
      exact law_loses w _ R M (7 * k) O C hL h hi nS
    · subst e33
      refine tx_tableIn (pc := 33) 920 O dL_law_33 (by omega) (by omega) (by omega) rfl rfl ?_
      exact law_best w _ R M (7 * k) O C hL h hi nS
    · subst e33
      refine tx_tableIn (pc := 33) 943 O dL_law_33 (by omega) (by omega) (by omega) rfl rfl ?_
      exact law_hums w _ R M (7 * k) O C hL h hi nS
    · subst e33
      refine tx_tableIn (pc := 33) 1019 O dL_law_33 (by omega) (by omega) (by omega) rfl rfl ?_
      exact law_fair w _ R M (7 * k) O C hL h hi nS
    · subst e33
      refine tx_tableIn (pc := 33) 1062 O dL_law_33 (by omega) (by omega) (by omega) rfl rfl ?_
      exact law_sheet w _ R M (7 * k) O C hL h hi hB hc (fun w1 R1 M1 a1 b1 hx hJ hj _ h1 h2 => nx w1 R1 M1 a1 b1 hx hJ hj h1 h2)
    · subst e33
      refine tx_tableIn (pc := 33) 1105 O dL_law_33 (by omega) (by omega) (by omega) rfl rfl ?_
      exact law_lose w _ R M (7 * k) O C hL h hi nS
    · subst e33
      refine tx_tableIn (pc := 33) 1128 O dL_law_33 (by omega) (by omega) (by omega) rfl rfl ?_
      exact law_lay w _ R M (7 * k) O C hL h hi hB hc (fun w1 R1 M1 a1 b1 hx hJ hj _ h1 h2 => nx w1 R1 M1 a1 b1 hx hJ hj h1 h2)
    · subst e33
      refine tx_tableIn (pc := 33) 1181 O dL_law_33 (by omega) (by omega) (by omega) rfl rfl ?_
      exact law_get w _ R M (7 * k) O C hL h hi hB hc (fun w1 R1 M1 a1 b1 hx hJ hj _ h1 h2 => nx w1 R1 M1 a1 b1 hx hJ hj h1 h2)
    · subst e33
      refine tx_tableIn (pc := 33) 1224 O dL_law_33 (by omega) (by omega) (by omega) rfl rfl ?_
      exact law_copy w _ R M (7 * k) O C hL h hi HC hB hc (fun w1 R1 M1 a1 b1 hx hJ hj _ h1 h2 => nx w1 R1 M1 a1 b1 hx hJ hj h1 h2)
    · subst e33
      refine tx_tableIn (pc := 33) 1287 O dL_law_33 (by omega) (by omega) (by omega) rfl rfl ?_
      exact law_write w _ R M (7 * k) O C hL h hi nS
    · subst e33
      refine tx_tableIn (pc := 33) 1330 O dL_law_33 (by omega) (by omega) (by omega) rfl rfl ?_
      exact law_count w _ R M (7 * k) O C hL h hi nS
    · subst e33
      refine tx_tableIn (pc := 33) 1353 O dL_law_33 (by omega) (by omega) (by omega) rfl rfl ?_
      exact law_digest w _ R M (7 * k) O C hL h hi nS
    · refine tx_tableOut (pc := 33) 1367 O dL_law_33 (by omega) e33 rfl ?_
      exact nS R M h
