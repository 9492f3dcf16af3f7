/-! THROWS: the rows that throw -/
set_option maxRecDepth 100000
theorem out_in {j : Int} {n : Nat} (hr : rng j) (hj : ¬ (0 ≤ j ∧ j < n)) : Int32.ofInt j < 0 ∨ n ≤ (Int32.ofInt j).toNatClampNeg := by
  rw [show (0 : Int32) = Int32.ofInt 0 from rfl, of_lt hr ⟨by omega, by omega⟩, of_clamp hr]
  omega
theorem fc_spec {vm : Vm} {nm : String} {c : ClassId} (h : vm.findClass nm = some c) : ∃ k, vm.classes[c]? = some k ∧ k.name = nm ∧ k.hidden = none ∧ k.loader = none := by
  unfold Vm.findClass at h
  obtain ⟨hlt, hp, -⟩ := Array.findIdx?_eq_some_iff_getElem.mp h
  refine ⟨vm.classes[c], Array.getElem?_eq_getElem hlt, ?_⟩
  simp only [Bool.and_eq_true, beq_iff_eq, Option.isNone_iff_eq_none] at hp
  exact ⟨hp.1.1.1, hp.1.1.2, hp.2⟩
def cceT (x y h : String) (q : Bool) : String := "class " ++ dotted x ++ " cannot be cast to class " ++ dotted y ++ " (" ++ (if q then dotted x ++ " and " ++ dotted y ++ " are in " ++ h else dotted x ++ " is in " ++ h ++ "; " ++ dotted y ++ " is in " ++ h) ++ ")"
theorem thr_go {p : Program} {e : Env} {below : List Frame} {A B : State} {Z : State → Prop} (h : ∀ t, Steps p.tables e below A t → Steps p.tables e below B t) (k : ∃ t, Steps p.tables e below A t ∧ Z t) : ∃ t, Steps p.tables e below B t ∧ Z t := by
  obtain ⟨t, a, b⟩ := k
  exact ⟨t, h t a, b⟩
theorem cceT_ok0 : ∀ x ∈ ["[B", "[S", "[I"], ∀ y ∈ ["[B", "[S", "[I"], ∀ h ∈ ["module java.base of loader 'bootstrap'", "unnamed module of loader 'bootstrap'"], ∀ q ∈ [true, false], (cceT x y h q == notModelled) = false ∧ (cceT x y h q).toList.length ≤ 150 := by decide +kernel
theorem cceT_ok : ∀ x ∈ ["[B", "[S", "[I"], ∀ y ∈ ["[B", "[S", "[I"], ∀ h ∈ ["module java.base of loader 'bootstrap'", "unnamed module of loader 'bootstrap'"], ∀ q ∈ [true, false], (cceT x y h q == notModelled) = false ∧ (stringBytes (stringToUtf16 (cceT x y h q))).size ≤ 600 := by
  intro x hx y hy h hh q hq
  obtain ⟨h1, h2⟩ := cceT_ok0 x hx y hy h hh q hq
  have b1 := stringBytes_size_le (stringToUtf16 (cceT x y h q))
  have b2 := utf16_size_le (cceT x y h q)
  exact ⟨h1, by omega⟩
theorem cce_home {vm : Vm} {k : Class} (hp : k.ofPrimitives = true) (hl : k.loader = none) : vm.home k ∈ ["module java.base of loader 'bootstrap'", "unnamed module of loader 'bootstrap'"] ∧ ∀ k' : Class, k'.ofPrimitives = true → k'.loader = none → vm.home k' = vm.home k := by
  constructor
  · unfold Vm.home Vm.moduleOf Vm.loaderName
    rw [if_pos hp, hl]
    cases h : vm.modules.find? (·.name == "java.base") with
    | none =>
      show ("unnamed module" ++ " of loader " ++ "'bootstrap'") ∈ _
      decide
    | some m =>
      have := List.find?_some h
      simp only [beq_iff_eq] at this
      show (("module " ++ m.name) ++ " of loader " ++ "'bootstrap'") ∈ _
      rw [this]
      decide
  · intro k' hp' hl'
    unfold Vm.home Vm.moduleOf
    rw [if_pos hp, if_pos hp', hl, hl']
theorem cce_text {vm : Vm} {a b : Class} {x y : String} (ha : a.name = x) (hb : b.name = y) (ha1 : a.hidden = none) (hb1 : b.hidden = none) (ha2 : a.loader = none) (hb2 : b.loader = none) (ha3 : a.ofPrimitives = true) (hb3 : b.ofPrimitives = true) : Op.checkcast.message vm a b = cceT x y (vm.home a) (vm.sameModule a b) := by
  have e := (cce_home (vm := vm) ha3 ha2).2 b hb3 hb2
  have e1 : a.shown = dotted x := by unfold Class.shown; rw [ha1, ha]
  have e2 : b.shown = dotted y := by unfold Class.shown; rw [hb1, hb]
  unfold Op.checkcast.message Vm.homes cceT
  rw [e1, e2, e]
  cases vm.sameModule a b <;> rfl
def knm (kd : Nat) : String := if kd = 1 then "[I" else if kd = 3 then "[B" else "[S"
section ENDS
variable {w : WT} {E : ET} {own : String} {cc : ByteArray} {nL fr pc : Nat} {lv : List (Nat × Value)} {st : List Value} {R M : TM} {mc ms : Nat}
theorem ty_bastoreN {v j : Int} (O : tx_O w own cc nL fr E) (F : tx_TZ w "java/lang/NullPointerException" R M mc ms E) (h1 : 1 ≤ mc) (h8 : 8 ≤ ms) (hd : decode cc pc = .ok (.bastore, 1)) (hst : (st.map fun v => v.category).sum ≤ 600) : tx_Y w E pc lv (iV v :: iV j :: rV (wa w) 0 :: st) := by
  obtain ⟨p, e, Rm, s, m, args, below, meth, c, cells, slots, Z⟩ := E
  obtain ⟨hx, hb, hml, hown, hts, hK, hJ, hz, hlk, hfr, hlo, hce, hsl⟩ := O
  intro ls hl T hT X
  obtain ⟨t, a1, a2⟩ := arm_npe (pc := pc) (ls := ls) (st := st) hx hlk hts hK.2 F h1 h8 hl.1 hst X
  exact ⟨t, X.bastoreNull hx (g := F0 m pc ls (iV v :: iV j :: rV (wa w) 0 :: st)) rfl (rest := st) rfl (by rw [hb]; exact hd) t a1, a2⟩
theorem ty_bastoreO {v j : Int} {i : Int} (n : Nat) (O : tx_O w own cc nL fr E) (F : tx_TZ w "java/lang/ArrayIndexOutOfBoundsException" R M mc ms E) (h1 : 3 ≤ mc) (h8 : 610 ≤ ms) (hd : decode cc pc = .ok (.bastore, 1)) (hs : tx_sh w i = (3, n)) (hr : rng j) (hj : ¬ (0 ≤ j ∧ j < n)) (hst : (st.map fun v => v.category).sum ≤ 600) : tx_Y w E pc lv (iV v :: iV j :: rV (wa w) i :: st) := by
  obtain ⟨p, e, Rm, s, m, args, below, meth, c, cells, slots, Z⟩ := E
  obtain ⟨hx, hb, hml, hown, hts, hK, hJ, hz, hlk, hfr, hlo, hce, hsl⟩ := O
  intro ls hl T hT X
  obtain ⟨h0, hP⟩ := tx_arr F.2.1 hs (by omega)
  have hn := tx_len hJ hs
  rw [tx_ref h0]
  have hc := hP 0 _ rfl
  rw [← hT] at hc
  have hsz : (vp_cell (wc w 3) (n, .inl (fun j : Nat => Int32.ofInt (M i j)))).slots.size = n := by rw [vp_cell_i]; exact arrV_size _ _ _
  exact thr_go (X.bastoreOut hx (g := F0 m pc ls (iV v :: iV j :: .ref (wa w i) :: st)) hc ((hK.1.2 3 _ (tx_ty_at (wc w) (by omega))).1 n (fun q => .int (Int32.ofInt (M i (q : Nat))))) (by rw [hsz]; exact out_in hr hj) rfl (rest := st) rfl (by rw [hb]; exact hd)) (arm_msg (nm := "java/lang/ArrayIndexOutOfBoundsException") (pc := pc) (ls := ls) (st := st) hx hlk hts hK.2 F (by decide) (by decide) (by decide) (by decide) aio_in (by decide) (index_text_modelled _ _) (Nat.le_trans (index_text_bytes _ (by rw [hsz]; omega)) (by omega)) h1 h8 hl.1 hst X)
theorem ty_sastoreN {v j : Int} (O : tx_O w own cc nL fr E) (F : tx_TZ w "java/lang/NullPointerException" R M mc ms E) (h1 : 1 ≤ mc) (h8 : 8 ≤ ms) (hd : decode cc pc = .ok (.sastore, 1)) (hst : (st.map fun v => v.category).sum ≤ 600) : tx_Y w E pc lv (iV v :: iV j :: rV (wa w) 0 :: st) := by
  obtain ⟨p, e, Rm, s, m, args, below, meth, c, cells, slots, Z⟩ := E
  obtain ⟨hx, hb, hml, hown, hts, hK, hJ, hz, hlk, hfr, hlo, hce, hsl⟩ := O
  intro ls hl T hT X
  obtain ⟨t, a1, a2⟩ := arm_npe (pc := pc) (ls := ls) (st := st) hx hlk hts hK.2 F h1 h8 hl.1 hst X
  exact ⟨t, X.sastoreNull hx (g := F0 m pc ls (iV v :: iV j :: rV (wa w) 0 :: st)) rfl (rest := st) rfl (by rw [hb]; exact hd) t a1, a2⟩
theorem ty_sastoreO {v j : Int} {i : Int} (n : Nat) (O : tx_O w own cc nL fr E) (F : tx_TZ w "java/lang/ArrayIndexOutOfBoundsException" R M mc ms E) (h1 : 3 ≤ mc) (h8 : 610 ≤ ms) (hd : decode cc pc = .ok (.sastore, 1)) (hs : tx_sh w i = (4, n)) (hr : rng j) (hj : ¬ (0 ≤ j ∧ j < n)) (hst : (st.map fun v => v.category).sum ≤ 600) : tx_Y w E pc lv (iV v :: iV j :: rV (wa w) i :: st) := by
  obtain ⟨p, e, Rm, s, m, args, below, meth, c, cells, slots, Z⟩ := E
  obtain ⟨hx, hb, hml, hown, hts, hK, hJ, hz, hlk, hfr, hlo, hce, hsl⟩ := O
  intro ls hl T hT X
  obtain ⟨h0, hP⟩ := tx_arr F.2.1 hs (by omega)
  have hn := tx_len hJ hs
  rw [tx_ref h0]
  have hc := hP 0 _ rfl
  rw [← hT] at hc
  have hsz : (vp_cell (wc w 4) (n, .inl (fun j : Nat => Int32.ofInt (M i j)))).slots.size = n := by rw [vp_cell_i]; exact arrV_size _ _ _
  exact thr_go (X.sastoreOut hx (g := F0 m pc ls (iV v :: iV j :: .ref (wa w i) :: st)) hc ((hK.1.2 4 _ (tx_ty_at (wc w) (by omega))).1 n (fun q => .int (Int32.ofInt (M i (q : Nat))))) (by rw [hsz]; exact out_in hr hj) rfl (rest := st) rfl (by rw [hb]; exact hd)) (arm_msg (nm := "java/lang/ArrayIndexOutOfBoundsException") (pc := pc) (ls := ls) (st := st) hx hlk hts hK.2 F (by decide) (by decide) (by decide) (by decide) aio_in (by decide) (index_text_modelled _ _) (Nat.le_trans (index_text_bytes _ (by rw [hsz]; omega)) (by omega)) h1 h8 hl.1 hst X)
theorem ty_iastoreN {v j : Int} (O : tx_O w own cc nL fr E) (F : tx_TZ w "java/lang/NullPointerException" R M mc ms E) (h1 : 1 ≤ mc) (h8 : 8 ≤ ms) (hd : decode cc pc = .ok (.iastore, 1)) (hst : (st.map fun v => v.category).sum ≤ 600) : tx_Y w E pc lv (iV v :: iV j :: rV (wa w) 0 :: st) := by
  obtain ⟨p, e, Rm, s, m, args, below, meth, c, cells, slots, Z⟩ := E
  obtain ⟨hx, hb, hml, hown, hts, hK, hJ, hz, hlk, hfr, hlo, hce, hsl⟩ := O
  intro ls hl T hT X
  obtain ⟨t, a1, a2⟩ := arm_npe (pc := pc) (ls := ls) (st := st) hx hlk hts hK.2 F h1 h8 hl.1 hst X
  exact ⟨t, X.iastoreNull hx (g := F0 m pc ls (iV v :: iV j :: rV (wa w) 0 :: st)) rfl (rest := st) rfl (by rw [hb]; exact hd) t a1, a2⟩
theorem ty_iastoreO {v j : Int} {i : Int} (n : Nat) (O : tx_O w own cc nL fr E) (F : tx_TZ w "java/lang/ArrayIndexOutOfBoundsException" R M mc ms E) (h1 : 3 ≤ mc) (h8 : 610 ≤ ms) (hd : decode cc pc = .ok (.iastore, 1)) (hs : tx_sh w i = (1, n)) (hr : rng j) (hj : ¬ (0 ≤ j ∧ j < n)) (hst : (st.map fun v => v.category).sum ≤ 600) : tx_Y w E pc lv (iV v :: iV j :: rV (wa w) i :: st) := by
  obtain ⟨p, e, Rm, s, m, args, below, meth, c, cells, slots, Z⟩ := E
  obtain ⟨hx, hb, hml, hown, hts, hK, hJ, hz, hlk, hfr, hlo, hce, hsl⟩ := O
  intro ls hl T hT X
  obtain ⟨h0, hP⟩ := tx_arr F.2.1 hs (by omega)
  have hn := tx_len hJ hs
  rw [tx_ref h0]
  have hc := hP 0 _ rfl
  rw [← hT] at hc
  have hsz : (vp_cell (wc w 1) (n, .inl (fun j : Nat => Int32.ofInt (M i j)))).slots.size = n := by rw [vp_cell_i]; exact arrV_size _ _ _
  exact thr_go (X.iastoreOut hx (g := F0 m pc ls (iV v :: iV j :: .ref (wa w i) :: st)) hc ((hK.1.2 1 _ (tx_ty_at (wc w) (by omega))).1 n (fun q => .int (Int32.ofInt (M i (q : Nat))))) (by rw [hsz]; exact out_in hr hj) rfl (rest := st) rfl (by rw [hb]; exact hd)) (arm_msg (nm := "java/lang/ArrayIndexOutOfBoundsException") (pc := pc) (ls := ls) (st := st) hx hlk hts hK.2 F (by decide) (by decide) (by decide) (by decide) aio_in (by decide) (index_text_modelled _ _) (Nat.le_trans (index_text_bytes _ (by rw [hsz]; omega)) (by omega)) h1 h8 hl.1 hst X)
theorem ty_baloadN {j : Int} (O : tx_O w own cc nL fr E) (F : tx_TZ w "java/lang/NullPointerException" R M mc ms E) (h1 : 1 ≤ mc) (h8 : 8 ≤ ms) (hd : decode cc pc = .ok (.baload, 1)) (hst : (st.map fun v => v.category).sum ≤ 600) : tx_Y w E pc lv (iV j :: rV (wa w) 0 :: st) := by
  obtain ⟨p, e, Rm, s, m, args, below, meth, c, cells, slots, Z⟩ := E
  obtain ⟨hx, hb, hml, hown, hts, hK, hJ, hz, hlk, hfr, hlo, hce, hsl⟩ := O
  intro ls hl T hT X
  obtain ⟨t, a1, a2⟩ := arm_npe (pc := pc) (ls := ls) (st := st) hx hlk hts hK.2 F h1 h8 hl.1 hst X
  exact ⟨t, X.baloadNull hx (g := F0 m pc ls (iV j :: rV (wa w) 0 :: st)) rfl (rest := st) rfl (by rw [hb]; exact hd) t a1, a2⟩
theorem ty_baloadO {j : Int} {i : Int} (n : Nat) (O : tx_O w own cc nL fr E) (F : tx_TZ w "java/lang/ArrayIndexOutOfBoundsException" R M mc ms E) (h1 : 3 ≤ mc) (h8 : 610 ≤ ms) (hd : decode cc pc = .ok (.baload, 1)) (hs : tx_sh w i = (3, n)) (hr : rng j) (hj : ¬ (0 ≤ j ∧ j < n)) (hst : (st.map fun v => v.category).sum ≤ 600) : tx_Y w E pc lv (iV j :: rV (wa w) i :: st) := by
  obtain ⟨p, e, Rm, s, m, args, below, meth, c, cells, slots, Z⟩ := E
  obtain ⟨hx, hb, hml, hown, hts, hK, hJ, hz, hlk, hfr, hlo, hce, hsl⟩ := O
  intro ls hl T hT X
  obtain ⟨h0, hP⟩ := tx_arr F.2.1 hs (by omega)
  have hn := tx_len hJ hs
  rw [tx_ref h0]
  have hc := hP 0 _ rfl
  rw [← hT] at hc
  have hsz : (vp_cell (wc w 3) (n, .inl (fun j : Nat => Int32.ofInt (M i j)))).slots.size = n := by rw [vp_cell_i]; exact arrV_size _ _ _
  exact thr_go (X.baloadOut hx (g := F0 m pc ls (iV j :: .ref (wa w i) :: st)) hc ((hK.1.2 3 _ (tx_ty_at (wc w) (by omega))).1 n (fun q => .int (Int32.ofInt (M i (q : Nat))))) (by rw [hsz]; exact out_in hr hj) rfl (rest := st) rfl (by rw [hb]; exact hd)) (arm_msg (nm := "java/lang/ArrayIndexOutOfBoundsException") (pc := pc) (ls := ls) (st := st) hx hlk hts hK.2 F (by decide) (by decide) (by decide) (by decide) aio_in (by decide) (index_text_modelled _ _) (Nat.le_trans (index_text_bytes _ (by rw [hsz]; omega)) (by omega)) h1 h8 hl.1 hst X)
theorem ty_saloadN {j : Int} (O : tx_O w own cc nL fr E) (F : tx_TZ w "java/lang/NullPointerException" R M mc ms E) (h1 : 1 ≤ mc) (h8 : 8 ≤ ms) (hd : decode cc pc = .ok (.saload, 1)) (hst : (st.map fun v => v.category).sum ≤ 600) : tx_Y w E pc lv (iV j :: rV (wa w) 0 :: st) := by
  obtain ⟨p, e, Rm, s, m, args, below, meth, c, cells, slots, Z⟩ := E
  obtain ⟨hx, hb, hml, hown, hts, hK, hJ, hz, hlk, hfr, hlo, hce, hsl⟩ := O
  intro ls hl T hT X
  obtain ⟨t, a1, a2⟩ := arm_npe (pc := pc) (ls := ls) (st := st) hx hlk hts hK.2 F h1 h8 hl.1 hst X
  exact ⟨t, X.saloadNull hx (g := F0 m pc ls (iV j :: rV (wa w) 0 :: st)) rfl (rest := st) rfl (by rw [hb]; exact hd) t a1, a2⟩
theorem ty_saloadO {j : Int} {i : Int} (n : Nat) (O : tx_O w own cc nL fr E) (F : tx_TZ w "java/lang/ArrayIndexOutOfBoundsException" R M mc ms E) (h1 : 3 ≤ mc) (h8 : 610 ≤ ms) (hd : decode cc pc = .ok (.saload, 1)) (hs : tx_sh w i = (4, n)) (hr : rng j) (hj : ¬ (0 ≤ j ∧ j < n)) (hst : (st.map fun v => v.category).sum ≤ 600) : tx_Y w E pc lv (iV j :: rV (wa w) i :: st) := by
  obtain ⟨p, e, Rm, s, m, args, below, meth, c, cells, slots, Z⟩ := E
  obtain ⟨hx, hb, hml, hown, hts, hK, hJ, hz, hlk, hfr, hlo, hce, hsl⟩ := O
  intro ls hl T hT X
  obtain ⟨h0, hP⟩ := tx_arr F.2.1 hs (by omega)
  have hn := tx_len hJ hs
  rw [tx_ref h0]
  have hc := hP 0 _ rfl
  rw [← hT] at hc
  have hsz : (vp_cell (wc w 4) (n, .inl (fun j : Nat => Int32.ofInt (M i j)))).slots.size = n := by rw [vp_cell_i]; exact arrV_size _ _ _
  exact thr_go (X.saloadOut hx (g := F0 m pc ls (iV j :: .ref (wa w i) :: st)) hc ((hK.1.2 4 _ (tx_ty_at (wc w) (by omega))).1 n (fun q => .int (Int32.ofInt (M i (q : Nat))))) (by rw [hsz]; exact out_in hr hj) rfl (rest := st) rfl (by rw [hb]; exact hd)) (arm_msg (nm := "java/lang/ArrayIndexOutOfBoundsException") (pc := pc) (ls := ls) (st := st) hx hlk hts hK.2 F (by decide) (by decide) (by decide) (by decide) aio_in (by decide) (index_text_modelled _ _) (Nat.le_trans (index_text_bytes _ (by rw [hsz]; omega)) (by omega)) h1 h8 hl.1 hst X)
theorem ty_ialoadN {j : Int} (O : tx_O w own cc nL fr E) (F : tx_TZ w "java/lang/NullPointerException" R M mc ms E) (h1 : 1 ≤ mc) (h8 : 8 ≤ ms) (hd : decode cc pc = .ok (.iaload, 1)) (hst : (st.map fun v => v.category).sum ≤ 600) : tx_Y w E pc lv (iV j :: rV (wa w) 0 :: st) := by
  obtain ⟨p, e, Rm, s, m, args, below, meth, c, cells, slots, Z⟩ := E
  obtain ⟨hx, hb, hml, hown, hts, hK, hJ, hz, hlk, hfr, hlo, hce, hsl⟩ := O
  intro ls hl T hT X
  obtain ⟨t, a1, a2⟩ := arm_npe (pc := pc) (ls := ls) (st := st) hx hlk hts hK.2 F h1 h8 hl.1 hst X
  exact ⟨t, X.ialoadNull hx (g := F0 m pc ls (iV j :: rV (wa w) 0 :: st)) rfl (rest := st) rfl (by rw [hb]; exact hd) t a1, a2⟩
theorem ty_ialoadO {j : Int} {i : Int} (n : Nat) (O : tx_O w own cc nL fr E) (F : tx_TZ w "java/lang/ArrayIndexOutOfBoundsException" R M mc ms E) (h1 : 3 ≤ mc) (h8 : 610 ≤ ms) (hd : decode cc pc = .ok (.iaload, 1)) (hs : tx_sh w i = (1, n)) (hr : rng j) (hj : ¬ (0 ≤ j ∧ j < n)) (hst : (st.map fun v => v.category).sum ≤ 600) : tx_Y w E pc lv (iV j :: rV (wa w) i :: st) := by
  obtain ⟨p, e, Rm, s, m, args, below, meth, c, cells, slots, Z⟩ := E
  obtain ⟨hx, hb, hml, hown, hts, hK, hJ, hz, hlk, hfr, hlo, hce, hsl⟩ := O
  intro ls hl T hT X
  obtain ⟨h0, hP⟩ := tx_arr F.2.1 hs (by omega)
  have hn := tx_len hJ hs
  rw [tx_ref h0]
  have hc := hP 0 _ rfl
  rw [← hT] at hc
  have hsz : (vp_cell (wc w 1) (n, .inl (fun j : Nat => Int32.ofInt (M i j)))).slots.size = n := by rw [vp_cell_i]; exact arrV_size _ _ _
  exact thr_go (X.ialoadOut hx (g := F0 m pc ls (iV j :: .ref (wa w i) :: st)) hc ((hK.1.2 1 _ (tx_ty_at (wc w) (by omega))).1 n (fun q => .int (Int32.ofInt (M i (q : Nat))))) (by rw [hsz]; exact out_in hr hj) rfl (rest := st) rfl (by rw [hb]; exact hd)) (arm_msg (nm := "java/lang/ArrayIndexOutOfBoundsException") (pc := pc) (ls := ls) (st := st) hx hlk hts hK.2 F (by decide) (by decide) (by decide) (by decide) aio_in (by decide) (index_text_modelled _ _) (Nat.le_trans (index_text_bytes _ (by rw [hsz]; omega)) (by omega)) h1 h8 hl.1 hst X)
theorem ty_cce {i : Int} {idx : Nat} (kd kt n : Nat) (O : tx_O w own cc nL fr E) (F : tx_TZ w "java/lang/ClassCastException" R M mc ms E) (h1 : 3 ≤ mc) (h8 : 610 ≤ ms) (hd : decode cc pc = .ok (.checkcast idx, 3)) (hs : tx_sh w i = (kd, n)) (hk : (kd = 1 ∨ kd = 3 ∨ kd = 4) ∧ (kt = 1 ∨ kt = 3 ∨ kt = 4) ∧ kd ≠ kt) (hlink : Cond.classLink own idx (knm kt) ∈ lw_all) (hst : ((rV (wa w) i :: st).map fun v => v.category).sum ≤ 600) : tx_Y w E pc lv (rV (wa w) i :: st) := by
  obtain ⟨p, e, Rm, s, m, args, below, meth, c, cells, slots, Z⟩ := E
  obtain ⟨hx, hb, hml, hown, hts, hK, hJ, hz, hlk, hfr, hlo, hce, hsl⟩ := O
  intro ls hl T hT X
  obtain ⟨h0, hP⟩ := tx_arr F.2.1 hs (by omega)
  rw [tx_ref h0] at hst ⊢
  have hc := hP 0 _ rfl
  rw [← hT] at hc
  have hpl : e.platform.magicAccessors = ({} : Platform).magicAccessors := by rw [X.admits.platform]
  obtain ⟨c', hc', hcl⟩ := Cond.classLink_spec hown (hts _ hlink) e.platform hpl
  obtain ⟨dk, _, _, kt0, hd0, _, _, _, _, hkt, _, hopen⟩ := hcl.here
  have hcl₀ := X.warmed.classLinks hcl
  have hW' : s.WarmedH (T.vm.noted m.cls idx (.cls c')) := X.warmed.noted hd0 hopen (State.rightAt_cls hcl)
  have hkn : ∀ k, k = 1 ∨ k = 3 ∨ k = 4 → "[" ++ (aty k).toString = knm k := by
    rintro k (rfl | rfl | rfl) <;> decide
  have f1 : s.vm.findClass (knm kd) = some (wc w kd) := by rw [← hkn kd hk.1]; exact tx_arcls hK hk.1
  have f2 : s.vm.findClass (knm kt) = some (wc w kt) := by rw [← hkn kt hk.2.1]; exact tx_arcls hK hk.2.1
  have ec : c' = wc w kt := Option.some.inj (hc'.symm.trans f2)
  subst ec
  have hpr : ∀ k, k = 1 ∨ k = 3 ∨ k = 4 → ∃ q : Class, (T.vm.noted m.cls idx (.cls (wc w kt))).classes[wc w k]? = some q ∧ q.name = knm k ∧ q.hidden = none ∧ q.loader = none ∧ q.ofPrimitives = true := by
    intro k hk0
    have f3 : s.vm.findClass (knm k) = some (wc w k) := by rw [← hkn k hk0]; exact tx_arcls hK hk0
    obtain ⟨q, q1, q2, q3, q4⟩ := fc_spec (by rw [hW'.alike.findClass]; exact f3)
    refine ⟨q, q1, q2, q3, q4, ?_⟩
    have hA := (hK.1.2 k _ (tx_ty_at (wc w) (by omega))).1 0 (fun _ => .int 0)
    obtain ⟨-, k5, hk5, comp, hkk⟩ := hA
    obtain ⟨k6, hk6, he6⟩ := hW'.alike.2.2 _ _ hk5
    cases hk6.symm.trans q1
    unfold Class.ofPrimitives
    rw [show q.kind = .array comp (aty k) by rw [he6]; exact hkk, q2]
    show ((withoutBrackets (knm k)).length == 1) = true
    rcases hk0 with rfl | rfl | rfl <;> decide
  obtain ⟨ks, ks1, ks2, ks3, ks4, ks5⟩ := hpr kd hk.1
  obtain ⟨kt1, kt2, kt3, kt4, kt5, kt6⟩ := hpr kt hk.2.1
  have hmem : ∀ k, k = 1 ∨ k = 3 ∨ k = 4 → knm k ∈ ["[B", "[S", "[I"] := by rintro k (rfl | rfl | rfl) <;> decide
  obtain ⟨g1, g2⟩ := cceT_ok _ (hmem kd hk.1) _ (hmem kt hk.2.1) _ (cce_home (vm := T.vm.noted m.cls idx (.cls (wc w kt))) ks5 ks4).1 ((T.vm.noted m.cls idx (.cls (wc w kt))).sameModule ks kt1) (by cases (T.vm.noted m.cls idx (.cls (wc w kt))).sameModule ks kt1 <;> decide)
  rw [← cce_text ks2 kt3 ks3 kt4 ks4 kt5 ks5 kt6] at g1 g2
  have X' : Stand p (wl w) e Rm s m args below meth c (T.setVm (T.vm.noted m.cls idx (.cls (wc w kt)))) [] 0 0 := X.noted hW'
  obtain ⟨t, a1, a2⟩ := arm_msg (nm := "java/lang/ClassCastException") (text := Op.checkcast.message (T.vm.noted m.cls idx (.cls (wc w kt))) ks kt1) (pc := pc) (ls := ls) (st := .ref (wa w i) :: st) hx hlk hts hK.2 F (by decide) (by decide) (by decide) (by decide) cce_in (by decide) g1 g2 h1 h8 hl.1 hst X'
  refine ⟨t, ?_, a2⟩
  have hq : (knm kd, knm kt) ∈ ncL := by
    rcases hk with ⟨h1, h2, h3⟩
    rcases h1 with rfl | rfl | rfl <;> rcases h2 with rfl | rfl | rfl <;> first | exact absurd rfl h3 | decide
  obtain ⟨cs, ct, n1, n2, n3⟩ := F.2.2.1.nc hq
  cases n1.symm.trans f1
  cases n2.symm.trans f2
  subst hb
  have hdg : decode c.code (F0 m pc ls (.ref (wa w i) :: st)).pc = .ok (.checkcast idx, 3) := hd
  jvm_step X.here [hx, hdg, Op.checkcast.wp_cold (e := e) (s := T) (f := F0 m pc ls (.ref (wa w i) :: st)) X.here.top rfl (resolveClass_links e.toSetting hcl₀) hcl₀.ready, Op.checkcast.wp_ready (e := e) (s := T.setVm (T.vm.noted m.cls idx (.cls (wc w kt)))) (f := F0 m pc ls (.ref (wa w i) :: st)) X.here.top hcl₀.ready rfl]
  rw [hc]
  refine ⟨_, rfl, (by intro k h; cases h), ks, ks1, kt1, kt2, ?_⟩
  rw [if_neg (by rw [hW'.alike.assignable]; exact (by rw [show (vp_cell (wc w kd) (n, .inl (fun j : Nat => Int32.ofInt (M i j)))).cls = wc w kd from rfl, n3]; decide))]
  exact a1
theorem ty_neg {z : Int} {at0 : ArrayType} (O : tx_O w own cc nL fr E) (F : tx_TZ w "java/lang/NegativeArraySizeException" R M mc ms E) (h1 : 3 ≤ mc) (h8 : 610 ≤ ms) (hd : decode cc pc = .ok (.newarray at0, 2)) (hr : rng z) (hz0 : z < 0) (hst : (st.map fun v => v.category).sum ≤ 600) : tx_Y w E pc lv (iV z :: st) := by
  obtain ⟨p, e, Rm, s, m, args, below, meth, c, cells, slots, Z⟩ := E
  obtain ⟨hx, hb, hml, hown, hts, hK, hJ, hz, hlk, hfr, hlo, hce, hsl⟩ := O
  intro ls hl T hT X
  have hneg : Int32.ofInt z < 0 := by
    rw [show (0 : Int32) = Int32.ofInt 0 from rfl, of_lt hr ⟨by omega, by omega⟩]
    exact hz0
  obtain ⟨t, a1, a2⟩ := arm_msg (nm := "java/lang/NegativeArraySizeException") (text := toString (Int32.ofInt z)) (pc := pc) (ls := ls) (st := st) hx hlk hts hK.2 F (by decide) (by decide) (by decide) (by decide) nas_in (by decide) (negative_text_modelled hneg) (Nat.le_trans (negative_text_bytes _) (by omega)) h1 h8 hl.1 hst X
  exact ⟨t, X.newarrayNegative hx (g := F0 m pc ls (iV z :: st)) rfl hneg (rest := st) rfl (by rw [hb]; exact hd) t a1, a2⟩
end ENDS
