/-! THE START: both objects stand; the law from its entry -/
set_option maxRecDepth 100000
def zT : TM := fun _ _ => 0
def rC : TM := rM6 (rX0 zT)
def mC0 : TM := mM6 (mA zT)
/-- the references by rule -/
def rZ : TM := fun x y => if x = 2 then 100 + y else if x = 1 then 200 + y else if x = 200 then 300 + y else if x = 210 then 310 + y else if x = 205 then 400 + y else if x = 212 then 410 + y else if x = 213 then 420 + y else if isTn x then (if y = 0 then x + 1000 else 0) else if x = 207 then 320 + y else if 320 ≤ x ∧ x ≤ 322 then 500 + 10 * (x - 320) + y else if x = 221 then 600 + y else 0
theorem rZ_RL : RL rZ := by
  refine ⟨fun k => ?_, fun k => ?_, fun k => ?_, fun k => ?_, fun k => ?_, fun k => ?_, fun k => ?_, fun i hi => ?_, fun k => ?_, fun j k h1 h2 => ?_, fun k => ?_⟩ <;> unfold rZ
  · simp
  · simp
  · simp
  · simp
  · simp
  · simp
  · simp
  · have h := hi
    unfold isTn at h
    rw [if_neg (by omega), if_neg (by omega), if_neg (by omega), if_neg (by omega), if_neg (by omega), if_neg (by omega), if_neg (by omega), if_pos hi, if_pos rfl]
  · rw [if_neg (by omega), if_neg (by omega), if_neg (by omega), if_neg (by omega), if_neg (by omega), if_neg (by omega), if_neg (by omega), if_neg (by omega), if_pos rfl]
  · rw [if_neg (by omega), if_neg (by omega), if_neg (by omega), if_neg (by omega), if_neg (by omega), if_neg (by omega), if_neg (by omega), if_neg (by omega), if_neg (by omega), if_pos (by omega)]
    omega
  · rw [if_neg (by omega), if_neg (by omega), if_neg (by omega), if_neg (by omega), if_neg (by omega), if_neg (by omega), if_neg (by omega), if_neg (by omega), if_neg (by omega), if_neg (by omega), if_pos rfl]
def rInS (x : Int) (y : Nat) : Bool := if (shS x).1 ≤ 4 then false else if (shS x).1 ≤ 9 then decide (y < (shS x).2) else decide (y < ((vwCl[(shS x).1 - 10]?).map (fun r => r.2.2)).getD 0) && !(fI ((shS x).1 - 10) y)
theorem rC_rZ : ∀ x ∈ idL, ∀ y : Nat, y < 60 → rInS x y = true → rZ x y = rC x y := by decide +kernel
theorem shS_in : ∀ n : Nat, n < 2000 → (shS n).1 ≠ 0 → (n : Int) ∈ idL := by decide +kernel
theorem shS_len : ∀ n : Nat, n < 2000 → (shS n).2 < 2147483648 := by decide +kernel
theorem idL_y : ∀ x ∈ idL, (shS x).2 ≤ 60 ∨ (shS x).1 ≤ 4 := by decide +kernel
theorem shS_neg {i : Int} (h : i < 0) : shS i = (0, 0) := by
  unfold shS
  repeat rw [if_neg (by omega)]
theorem sh_in {w : WT} {i : Int} (hw : ∀ i, wy w i = (0, 0)) (h : (tx_sh w i).1 ≠ 0) : i ∈ idL := by
  by_cases h1 : i < 2000
  · rw [sh_lo w h1] at h
    by_cases h2 : i < 0
    · rw [shS_neg h2] at h
      exact absurd rfl h
    · obtain ⟨n, rfl⟩ : ∃ n : Nat, i = n := ⟨i.toNat, by omega⟩
      exact shS_in n (by omega) h
  · exfalso
    apply h
    unfold tx_sh
    rw [if_neg h1, hw]
theorem idL_lt {i : Int} (h : i ∈ idL) : ord i < 109 := List.idxOf_lt_length_of_mem h
theorem idL_hi : ∀ x ∈ idL, x < 2000 := by decide +kernel
theorem rIn_S {w : WT} {x : Int} {y : Nat} (hx : x < 2000) : rIn w x y = rInS x y := by
  unfold rIn rInS
  rw [sh_lo w hx]
theorem rInS_y {x : Int} {y : Nat} (hx : x ∈ idL) (h : rInS x y = true) : y < 60 := by
  unfold rInS at h
  have h0 := idL_y x hx
  by_cases h4 : (shS x).1 ≤ 4
  · rw [if_pos h4] at h; cases h
  · rw [if_neg h4] at h
    by_cases h9 : (shS x).1 ≤ 9
    · rw [if_pos h9] at h
      have := of_decide_eq_true h
      omega
    · rw [if_neg h9] at h
      have h1 : y < ((vwCl[(shS x).1 - 10]?).map (fun r => r.2.2)).getD 0 := by
        have h2 := (Bool.and_eq_true _ _ ▸ h : _ ∧ _).1
        exact of_decide_eq_true h2
      cases hv : vwCl[(shS x).1 - 10]? with
      | none => rw [hv] at h1; exact absurd h1 (Nat.not_lt_zero _)
      | some q =>
        rw [hv] at h1
        have h2 := (tx_in _ _ hv).2.1
        have h1 : y < q.2.2 := h1
        omega
theorem ent_at {w : WT} {R R' M : TM} {j : Int} {H : Heap} (hR : ∀ y : Nat, rIn w j y = true → R' j y = R j y) (k : va_at (wD w) vwCl (wa w j, tx_ent w R M j) H) : va_at (wD w) vwCl (wa w j, tx_ent w R' M j) H := by
  unfold tx_ent at k ⊢
  by_cases h4 : (tx_sh w j).1 ≤ 4
  · rw [if_pos h4] at k ⊢
    exact k
  · rw [if_neg h4] at k ⊢
    by_cases h9 : (tx_sh w j).1 ≤ 9
    · rw [if_pos h9] at k ⊢
      have k : H[wa w j]? = some (vp_cell _ _) := k
      refine Eq.trans k (congrArg some (vp_q_ext (fun q hq => ?_)))
      show rF (wa w) (R j q) = rF (wa w) (R' j q)
      rw [hR q (by unfold rIn; rw [if_neg h4, if_pos h9]; exact decide_eq_true hq)]
    · rw [if_neg h9] at k ⊢
      obtain ⟨r, h1, h2⟩ := k
      obtain ⟨-, i2, -, -⟩ := tx_in _ _ h1
      refine ⟨r, h1, t_OB.to h2 (fun q hq => ?_)⟩
      have hq : q < r.2.2 := hq
      have hq2 : q < 26 := Nat.lt_of_lt_of_le hq i2
      simp only [vp_V, List.getD_eq_getElem?_getD, tx_fl_at hq2, Option.getD_some]
      unfold tx_fv
      split
      · rfl
      · rename_i hf
        rw [hR q ?_]
        unfold rIn
        rw [if_neg h4, if_neg h9, show vwCl[(tx_sh w j).1 - 10]? = some r from h1]
        simp only [Option.map_some, Option.getD_some, Bool.and_eq_true, decide_eq_true_eq, Bool.not_eq_true']
        exact ⟨hq, by simpa using hf⟩
theorem st_H {w : WT} {H : Heap} {M : TM} (hw : ∀ i, wy w i = (0, 0)) (h : tp_H w 109 rC M H) : tx_H w rZ M H := by
  intro i hi
  have hm := sh_in hw hi
  refine ent_at (fun y hy => ?_) (h.2.2.1 i (idL_lt hm))
  rw [rIn_S (idL_hi i hm)] at hy
  exact rC_rZ i hm y (rInS_y hm hy) hy
theorem st_J {w : WT} (hw : ∀ i, wy w i = (0, 0)) (hJ : tp_J w) : tx_J w := by
  refine ⟨fun i j hi hj h => ?_, fun i _ => by rw [hJ]; omega, fun i => ?_⟩
  · rw [hJ, hJ] at h
    exact ord_inj (n := 109) (idL_lt (sh_in hw hi)) (Nat.le_refl _) (by omega)
  · by_cases h1 : i < 2000
    · rw [sh_lo w h1]
      by_cases h2 : i < 0
      · rw [shS_neg h2]; decide
      · obtain ⟨n, rfl⟩ : ∃ n : Nat, i = n := ⟨i.toNat, by omega⟩
        exact shS_len n (by omega)
    · unfold tx_sh
      rw [if_neg h1, hw]; decide
theorem mC_0 {a b : Int} (h : ¬ (a = 1 ∧ (b = 2 ∨ b = 11)) ∧ a ≠ 203 ∧ a ≠ 100 ∧ ¬ (a = 2 ∧ b = 14)) : mC0 a b = 0 := by
  unfold mC0 mM6 upL mA
  simp only [List.foldl_cons, List.foldl_nil]
  repeat rw [up_n (by omega)]
  rfl
theorem st_jI {w : WT} (hw : ∀ i, wy w i = (0, 0)) : jI w rZ mC0 := by
  have e201 : mC0 201 0 = 0 := mC_0 (by omega)
  have e201b : mC0 201 1 = 0 := mC_0 (by omega)
  have e19 : mC0 1 9 = 0 := mC_0 (by omega)
  have e111 : mC0 1 11 = 2 := by simp [mC0, mM6, upL, mA, up]
  refine ⟨rZ_RL, ⟨?_, ?_, ?_, fun k a b => ?_, fun k a b => ?_, ?_, fun k j a b => ?_, ?_⟩, Or.inr ⟨?_, ⟨?_, ?_⟩, ⟨?_, ?_⟩, ?_, ?_⟩, ⟨fun s a b => ⟨Or.inl ⟨?_, ?_⟩, ?_, ?_⟩, fun s t a b c d e f => ?_, fun j => ?_⟩, ?_, fun x hx => by rw [hw]; decide⟩
  · show ((0 ≤ mC0 201 0 ∧ mC0 201 0 ≤ 59) ∧ (0 ≤ mC0 201 1 ∧ mC0 201 1 ≤ 23) ∧ (∀ k, 0 ≤ k → k < mC0 201 0 → _) ∧ (∀ k, 0 ≤ k → k < mC0 201 1 → _) ∧ (0 ≤ mC0 1 9 ∧ mC0 1 9 ≤ 12) ∧ (∀ k, 0 ≤ k → k < mC0 1 9 → _) ∧ (0 ≤ mC0 1 11 ∧ mC0 1 11 ≤ 12))
    rw [e201, e201b, e19, e111]
    exact ⟨by omega, by omega, fun k a b => absurd b (by omega), fun k a b => absurd b (by omega), by omega, fun k a b => absurd b (by omega), by omega⟩
  · rw [e201]; exact mC_0 (by omega)
  · rw [e201b]; exact mC_0 (by omega)
  · rw [e201] at b; omega
  · rw [e201b] at b; omega
  · rw [e19]; exact mC_0 (by omega)
  · rw [e19] at b; omega
  · simp [mC0, mM6, upL, mA, up]
  · simp [mC0, mM6, upL, mA, up]
  · have e : uT (uM mC0) = [] := by
      show (pT _ (mC0 201 0)).2 = []
      rw [e201]; simp [pT, pst_0]
    rw [e]; exact mC_0 (by omega)
  · have e : uT (uM mC0) = [] := by
      show (pT _ (mC0 201 0)).2 = []
      rw [e201]; simp [pT, pst_0]
    rw [e]
    intro t h1 h2
    simp at h2
    omega
  · have e : cB (uf1 (uM mC0)) (un1 (uM mC0)) = 0 := by
      show cB _ (mC0 201 1) = 0
      rw [e201b]; simp [cB, fB, bst_0]
    rw [e]; exact mC_0 (by omega)
  · have e : cB (uf1 (uM mC0)) (un1 (uM mC0)) = 0 := by
      show cB _ (mC0 201 1) = 0
      rw [e201b]; simp [cB, fB, bst_0]
    rw [e]
    intro t h1 h2
    omega
  · have e : (pT (uf0 (uM mC0)) (un0 (uM mC0))).1 = -1 := by
      show (pT _ (mC0 201 0)).1 = -1
      rw [e201]; simp [pT, pst_0]
    rw [e]; simp [mC0, mM6, upL, mA, up]
  · have e : fB (uf1 (uM mC0)) (un1 (uM mC0)) = -1 := by
      show fB _ (mC0 201 1) = -1
      rw [e201b]; simp [fB, bst_0]
    rw [e]; simp [mC0, mM6, upL, mA, up]
  · unfold rZ
    rw [if_neg (by omega), if_neg (by omega), if_neg (by omega), if_neg (by omega), if_neg (by omega), if_neg (by omega), if_neg (by omega), if_neg (by omega), if_neg (by omega), if_neg (by omega), if_neg (by omega)]
  · rcases (show s = 0 ∨ s = 1 ∨ s = 2 ∨ s = 3 by omega) with rfl | rfl | rfl | rfl <;> simp [mC0, mM6, upL, mA, up]
  · rw [mC_0 (by omega)]; omega
  · rw [mC_0 (by omega)]; omega
  · exfalso
    apply f
    unfold rZ
    rw [if_neg (by omega), if_neg (by omega), if_neg (by omega), if_neg (by omega), if_neg (by omega), if_neg (by omega), if_neg (by omega), if_neg (by omega), if_neg (by omega), if_neg (by omega), if_neg (by omega)]
  · rw [mC_0 (by omega)]; omega
  · rw [mC_0 (by omega), mC_0 (by omega)]
set_option maxHeartbeats 2000000 in
theorem whole_start0 (HC : HCopy) {p : Program} {e : Env} {s : State} {m : MethodId} {below : List Frame} {meth : Method} {c : Code} (l : Launch) (hl : l.stackTraces = false) {b L : Nat} {xs : Nat → Int32} (hL : L ≤ 448) (C0 : lw_At p s m meth c b L xs) : W p l e room_1 s m #[Value.ref b] below meth c s.heap [] 0 0 (lw_Z below #[Value.ref b] s) (entryFrame m ([Value.ref b] : List Value).toArray 4) := by
  obtain ⟨hx, hb, hr, hml, hown, hts, hX, hbl, hlocks, hgv, hm⟩ := C0
  obtain ⟨D, cw, hK0⟩ := st_K hts
  obtain ⟨w, e1, e2, hK, hJ, hw⟩ : ∃ w : WT, wl w = l ∧ wz w = s.heap.size ∧ tx_K w s ∧ tp_J w ∧ ∀ i, wy w i = (0, 0) := ⟨(l, s.heap.size, D, cw, fun _ => (0, 0), fun i => s.heap.size + ord i), rfl, rfl, ⟨hK0, st_N hts⟩, fun i => rfl, fun i => rfl⟩
  subst e1
  have hB := st_B (w := w) hts e2 hl hgv hm
  have hA := st_AV hts
  have hle := lv_entry [Value.ref b] (n := 4) (Nat.le_of_ble_eq_true rfl)
  rw [lg_entry_eq]
  generalize (lg_sl [Value.ref b] ++ List.replicate (4 - (lg_sl [Value.ref b]).length) Slot.unset).toArray = ls at hle ⊢
  have OA : ∀ a b' : Nat, a ≤ 603072 → b' ≤ 7262314 → tl_O w "TuneLoansLaw" cL_law 4 400 (lE p e s m b below meth c a b') := fun a b' h1 h2 => ⟨hx, hb, hml, hown, fun x h => hts x (lw_all_tbl h), hK, hJ, by omega, hlocks, by decide, by decide, h1, h2⟩
  have OT : tx_O w "TuneLoansLaw" cL_law 4 400 (lE p e s m b below meth c 109 2649) := ⟨hx, hb, hml, hown, fun x h => hts x (lw_all_tbl h), hK, st_J hw hJ, by omega, hlocks, by decide, by decide, by decide, by decide⟩
  have C1 : tx_SC w b L xs (lE p e s m b below meth c 109 2649) := ⟨hX, hbl, e2⟩
  have F1 := law_loop HC (p := p) (e := e) (s := s) (m := m) (bb := b) (LL := L) (xs := xs) (below := below) (meth := meth) (c := c) hL hr 109 2649 (by decide) (by decide) 64 w rZ mC0 109 2649 0 OT C1 hB (st_jI hw) (by omega) (by omega) (by decide) (by decide) (by omega)
  have F2 : tp_X w 109 (lE p e s m b below meth c 109 2649) 18 [(3, iV 0), (2, rV (wa w) 2), (1, rV (wa w) 1), (0, .ref b)] [] rC mC0 := fun H locs hH hS ls h => F1 H locs (st_H hw hH) hS ls h
  have F3 : tp_X w 0 (lE p e s m b below meth c 0 0) 0 [(0, .ref b)] [] zT zT := by
    refine tl_new (pc := 0) (ci := 0) (C := RX0) (T := TX0) (N := 23) 1 (OA 0 0 (by decide) (by decide)) dL_law_0 q466 q126 q83 rfl ⟨0, sh_1 w⟩ ⟨by decide, by decide, by decide⟩ ⟨by show 0 + 1 ≤ 603072; decide, by show 0 + 23 ≤ 7262314; decide⟩ (fun j hj => by rcases (show j = 0 ∨ j = 1 ∨ j = 2 ∨ j = 3 ∨ j = 4 ∨ j = 5 ∨ j = 6 ∨ j = 7 ∨ j = 8 ∨ j = 9 ∨ j = 10 ∨ j = 11 ∨ j = 12 ∨ j = 13 ∨ j = 14 ∨ j = 15 ∨ j = 16 ∨ j = 17 ∨ j = 18 ∨ j = 19 ∨ j = 20 ∨ j = 21 ∨ j = 22 by omega) with rfl | rfl | rfl | rfl | rfl | rfl | rfl | rfl | rfl | rfl | rfl | rfl | rfl | rfl | rfl | rfl | rfl | rfl | rfl | rfl | rfl | rfl | rfl <;> rfl) ?_
    show tp_X w 1 (lE p e s m b below meth c 1 23) 3 _ _ _ _
    refine tl_dup (pc := 3) (OA 1 23 (by decide) (by decide)) dL_law_3 (cat_r _ _) ?_
    refine tl_callI (pc := 4) (y := yX0_init) (b := cX0_init) (L := 2) (fr' := 5) (mc := 86) (ms := 1156) (OA 1 23 (by decide) (by decide)) hA dL_law_4 q467 rfl q468 q469 q83 (by decide +kernel) (by decide) (by decide) (by decide) ⟨by show 1 + 86 ≤ 603072; decide, by show 23 + 1156 ≤ 7262314; decide⟩ (by simp only [List.map_cons, List.map_nil, cat_r]; decide) (sX0_init w zT zT) ?_
    show tp_X w 87 (lE p e s m b below meth c 87 1179) 7 _ _ _ _
    refine tl_astore_n (pc := 7) (OA 87 1179 (by decide) (by decide)) dL_law_7 rfl (by decide) (by decide) (by simp only [List.filter_cons, List.filter_nil]; rfl) ?_
    refine tl_new (pc := 8) (ci := 6) (C := RX6) (T := TX6) (N := 26) 2 (OA 87 1179 (by decide) (by decide)) dL_law_8 q817 q818 q89 rfl ⟨0, sh_2 w⟩ ⟨by decide, by decide, by decide⟩ ⟨by show 87 + 1 ≤ 603072; decide, by show 1179 + 26 ≤ 7262314; decide⟩ (fun j hj => by rcases (show j = 0 ∨ j = 1 ∨ j = 2 ∨ j = 3 ∨ j = 4 ∨ j = 5 ∨ j = 6 ∨ j = 7 ∨ j = 8 ∨ j = 9 ∨ j = 10 ∨ j = 11 ∨ j = 12 ∨ j = 13 ∨ j = 14 ∨ j = 15 ∨ j = 16 ∨ j = 17 ∨ j = 18 ∨ j = 19 ∨ j = 20 ∨ j = 21 ∨ j = 22 ∨ j = 23 ∨ j = 24 ∨ j = 25 by omega) with rfl | rfl | rfl | rfl | rfl | rfl | rfl | rfl | rfl | rfl | rfl | rfl | rfl | rfl | rfl | rfl | rfl | rfl | rfl | rfl | rfl | rfl | rfl | rfl | rfl | rfl <;> rfl) ?_
    show tp_X w 88 (lE p e s m b below meth c 88 1205) 11 _ _ _ _
    refine tl_dup (pc := 11) (OA 88 1205 (by decide) (by decide)) dL_law_11 (cat_r _ _) ?_
    refine tl_callI (pc := 12) (y := yX6_init) (b := cX6_init) (L := 2) (fr' := 2) (mc := 21) (ms := 1444) (OA 88 1205 (by decide) (by decide)) hA dL_law_12 q819 rfl q820 q821 q89 (by decide +kernel) (by decide) (by decide) (by decide) ⟨by show 88 + 21 ≤ 603072; decide, by show 1205 + 1444 ≤ 7262314; decide⟩ (by simp only [List.map_cons, List.map_nil, cat_r]; decide) (sX6_init w (rX0 zT) (mA zT)).wk ?_
    show tp_X w 109 (lE p e s m b below meth c 109 2649) 15 _ _ _ _
    refine tl_astore_n (pc := 15) (OA 109 2649 (by decide) (by decide)) dL_law_15 rfl (by decide) (by decide) (by simp only [List.filter_cons, List.filter_nil, cat_r]; rfl) ?_
    refine tl_iconst (pc := 16) (OA 109 2649 (by decide) (by decide)) dL_law_16 ?_
    refine tl_istore_n (pc := 17) (OA 109 2649 (by decide) (by decide)) dL_law_17 rfl (by decide) (by simp only [List.filter_cons, List.filter_nil, cat_r]; rfl) ?_
    exact F2
  exact F3 s.heap [] ⟨by rw [e2]; rfl, by decide, fun i hi => absurd hi (Nat.not_lt_zero _), fun x _ y => ⟨rfl, rfl⟩⟩ va_S.rf ls (by rw [hml]; exact hle)
