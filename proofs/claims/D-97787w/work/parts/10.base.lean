/-! BASE: one world of cells for every method; the memory holds integers (M: numbers, R: which cell a reference names, 0 for null). -/
set_option maxRecDepth 100000
abbrev TM : Type := Int → Int → Int
def iV (z : Int) : Value := .int (Int32.ofInt z)
def lV (z : Int) : Value := .long (Int64.ofInt z)
def rF (ad : Int → Nat) (i : Int) : Option Nat := if i = 0 then none else some (ad i)
def rV (ad : Int → Nat) (i : Int) : Value := va_rf (rF ad i)
abbrev vwCl : List vw_C := [(RX0, TX0, 23), (RX1, TX1, 2), (RX2, TX2, 2), (RX3, TX3, 2), (RX4, TX4, 2), (RX5, TX5, 2), (RX6, TX6, 26)]
def tyC (c : Nat) : Nat → FieldType := match c with
  | 0 => tyX0
  | 1 => tyX1
  | 2 => tyX2
  | 3 => tyX3
  | 4 => tyX4
  | 5 => tyX5
  | _ => tyX6
def fI (c k : Nat) : Bool := match tyC c k with
  | .int => true
  | .boolean => true
  | _ => false
/-- launch, heap's size at the law's start, classes, array classes, shapes of the cells made later, addresses -/
abbrev WT : Type := Launch × Nat × va_G × (Nat → ClassId) × (Int → Nat × Nat) × (Int → Nat)
abbrev wl (w : WT) : Launch := w.1
abbrev wz (w : WT) : Nat := w.2.1
abbrev wD (w : WT) : va_G := w.2.2.1
abbrev wc (w : WT) : Nat → ClassId := w.2.2.2.1
abbrev wy (w : WT) : Int → Nat × Nat := w.2.2.2.2.1
abbrev wa (w : WT) : Int → Nat := w.2.2.2.2.2
/-- array class k is over this type -/
def aty (k : Nat) : FieldType := match k with
  | 1 => .int
  | 2 => .boolean
  | 3 => .byte
  | 4 => .short
  | 5 => .array .int
  | 6 => .object "TuneLoans$Tune"
  | 7 => .array (.object "TuneLoans$Borrower")
  | 8 => .object "TuneLoans$Borrower"
  | _ => .object "TuneLoans$Sheet"
def tysl (f : Nat → ClassId) : List (ClassId × FieldType) := (List.range 10).map (fun k => (f k, aty k))
/-- lengths of the model's arrays, by field -/
def mlen (k : Int) : Nat := if k = 0 then 4 else if k = 1 then 4 else if k = 2 then 240 else if k = 3 then 60 else if k = 5 then 120 else if k = 6 then 2 else if k = 8 then 240 else if k = 9 then 6 else if k = 11 then 18 else if k = 13 then 48 else if k = 15 then 280 else if k = 16 then 7 else if k = 17 then 240 else if k = 18 then 6 else if k = 19 then 6 else if k = 20 then 6 else if k = 21 then 12 else if k = 22 then 12 else if k = 23 then 12 else if k = 24 then 80 else if k = 25 then 41 else 0
/-- shapes of the cells that the constructors make: (kind, length); kinds 1 .. 9 arrays, 10 + c an object of class c -/
def shS (i : Int) : Nat × Nat :=
  if i = 1 then (10, 0) else if i = 2 then (16, 0)
  else if 100 ≤ i ∧ i ≤ 125 then (if mlen (i - 100) = 0 then (0, 0) else (1, mlen (i - 100)))
  else if i = 200 then (5, 2) else if i = 201 then (1, 2) else if i = 203 then (1, 2) else if i = 205 then (6, 6) else if i = 207 then (7, 3) else if i = 208 then (8, 6) else if i = 210 then (5, 4) else if i = 212 then (6, 6) else if i = 213 then (6, 6) else if i = 214 then (1, 6) else if i = 215 then (2, 12) else if i = 216 then (2, 12) else if i = 217 then (1, 12) else if i = 218 then (11, 0) else if i = 219 then (11, 0) else if i = 220 then (1, 41) else if i = 221 then (9, 4)
  else if i = 300 then (1, 59) else if i = 301 then (1, 23) else if 310 ≤ i ∧ i ≤ 313 then (1, 12) else if 320 ≤ i ∧ i ≤ 322 then (8, 6)
  else if 400 ≤ i ∧ i ≤ 405 then (11, 0) else if 410 ≤ i ∧ i ≤ 415 then (11, 0) else if 420 ≤ i ∧ i ≤ 425 then (11, 0)
  else if 500 ≤ i ∧ i ≤ 505 then (13, 0) else if 510 ≤ i ∧ i ≤ 515 then (14, 0) else if 520 ≤ i ∧ i ≤ 525 then (15, 0)
  else if 600 ≤ i ∧ i ≤ 603 then (12, 0)
  else if i = 1218 ∨ i = 1219 then (1, 40) else if 1400 ≤ i ∧ i ≤ 1405 then (1, 40) else if 1410 ≤ i ∧ i ≤ 1415 then (1, 40) else if 1420 ≤ i ∧ i ≤ 1425 then (1, 40)
  else (0, 0)
def tx_sh (w : WT) (i : Int) : Nat × Nat := if i < 2000 then shS i else wy w i
/-- a field's value, a cell's contents -/
def tx_fv (w : WT) (c : Nat) (R M : TM) (i : Int) (k : Nat) : Value := if fI c k then iV (M i k) else rV (wa w) (R i k)
def tx_fl (w : WT) (c : Nat) (R M : TM) (i : Int) : List Value := (List.range 26).map (tx_fv w c R M i)
def tx_ent (w : WT) (R M : TM) (i : Int) : va_E :=
  if (tx_sh w i).1 ≤ 4 then .inl (wc w (tx_sh w i).1, ((tx_sh w i).2, .inl (fun j : Nat => Int32.ofInt (M i j))))
  else if (tx_sh w i).1 ≤ 9 then .inl (wc w (tx_sh w i).1, ((tx_sh w i).2, .inr (.inr (.inr (.inr (fun j : Nat => rF (wa w) (R i j)))))))
  else .inr ((tx_sh w i).1 - 10, tx_fl w ((tx_sh w i).1 - 10) R M i)
def tx_H (w : WT) (R M : TM) (H : Heap) : Prop := ∀ i : Int, (tx_sh w i).1 ≠ 0 → va_at (wD w) vwCl (wa w i, tx_ent w R M i) H
def tx_J (w : WT) : Prop := (∀ i j : Int, (tx_sh w i).1 ≠ 0 → (tx_sh w j).1 ≠ 0 → wa w i = wa w j → i = j) ∧ (∀ i : Int, (tx_sh w i).1 ≠ 0 → wz w ≤ wa w i) ∧ (∀ i : Int, (tx_sh w i).2 < 2147483648)
def tx_A (w : WT) : Nat → Prop := fun q => wz w ≤ q
/-- words that don't ride in lw_all: nest mates' links, casts, declarations -/
def tx_nwl : List Cond := [(Jvm.Cond.methodLinkNest "TuneLoans$Sheet" (23 : Nat) ({ cls := "TuneLoans", name := "taken", desc := "(Ljava/lang/Object;II)I" } : Jvm.MethodName) "TuneLoans"), (Jvm.Cond.methodLinkNest "TuneLoans" (306 : Nat) ({ cls := "TuneLoans$Tune", name := "<init>", desc := "()V" } : Jvm.MethodName) "TuneLoans"), (Jvm.Cond.methodLinkNest "TuneLoans" (307 : Nat) ({ cls := "TuneLoans$Sheet", name := "<init>", desc := "()V" } : Jvm.MethodName) "TuneLoans"), (Jvm.Cond.fieldLinkNest "TuneLoans" (324 : Nat) "TuneLoans$Sheet" "form" "I" "TuneLoans"), (Jvm.Cond.fieldLinkNest "TuneLoans" (121 : Nat) "TuneLoans$Sheet" "row" "Ljava/lang/Object;" "TuneLoans"), (Jvm.Cond.methodLinkNest "TuneLoans" (308 : Nat) ({ cls := "TuneLoans$Borrower", name := "<init>", desc := "()V" } : Jvm.MethodName) "TuneLoans"), (Jvm.Cond.methodLinkNest "TuneLoans" (311 : Nat) ({ cls := "TuneLoans$Dropping", name := "<init>", desc := "()V" } : Jvm.MethodName) "TuneLoans"), (Jvm.Cond.methodLinkNest "TuneLoans$Dropping" (1 : Nat) ({ cls := "TuneLoans$Borrower", name := "<init>", desc := "()V" } : Jvm.MethodName) "TuneLoans"), (Jvm.Cond.methodLinkNest "TuneLoans" (314 : Nat) ({ cls := "TuneLoans$Changing", name := "<init>", desc := "()V" } : Jvm.MethodName) "TuneLoans"), (Jvm.Cond.methodLinkNest "TuneLoans$Changing" (1 : Nat) ({ cls := "TuneLoans$Dropping", name := "<init>", desc := "()V" } : Jvm.MethodName) "TuneLoans"), (Jvm.Cond.declares ({ cls := "java/lang/Throwable", name := "fillInStackTrace", desc := "()Ljava/lang/Throwable;" } : Jvm.MethodName)), (Jvm.Cond.castable "java/lang/NegativeArraySizeException" "java/lang/NegativeArraySizeException"), (Jvm.Cond.declares ({ cls := "java/lang/RuntimeException", name := "<init>", desc := "()V" } : Jvm.MethodName)), (Jvm.Cond.declares ({ cls := "java/lang/RuntimeException", name := "<init>", desc := "(Ljava/lang/String;)V" } : Jvm.MethodName)), (Jvm.Cond.declares ({ cls := "java/lang/Exception", name := "<init>", desc := "()V" } : Jvm.MethodName)), (Jvm.Cond.declares ({ cls := "java/lang/Exception", name := "<init>", desc := "(Ljava/lang/String;)V" } : Jvm.MethodName)), (Jvm.Cond.declares ({ cls := "java/lang/Throwable", name := "<init>", desc := "()V" } : Jvm.MethodName)), (Jvm.Cond.declares ({ cls := "java/lang/Throwable", name := "<init>", desc := "(Ljava/lang/String;)V" } : Jvm.MethodName)), (Jvm.Cond.castable "java/lang/NullPointerException" "java/lang/NullPointerException"), (Jvm.Cond.castable "java/lang/RuntimeException" "java/lang/Throwable"), (Jvm.Cond.castable "java/lang/ClassCastException" "java/lang/ClassCastException"), (Jvm.Cond.castable "java/lang/ArrayIndexOutOfBoundsException" "java/lang/ArrayIndexOutOfBoundsException"), (Jvm.Cond.declares ({ cls := "java/lang/IndexOutOfBoundsException", name := "<init>", desc := "()V" } : Jvm.MethodName)), (Jvm.Cond.declares ({ cls := "java/lang/IndexOutOfBoundsException", name := "<init>", desc := "(Ljava/lang/String;)V" } : Jvm.MethodName)), (Jvm.Cond.castable "java/lang/ArrayIndexOutOfBoundsException" "java/lang/IndexOutOfBoundsException"), (Jvm.Cond.castable "TuneLoans$Dropping" "TuneLoans$Borrower"), (Jvm.Cond.castable "TuneLoans$Changing" "TuneLoans$Borrower")]
def tx_N (U : State) : Prop := ∀ x ∈ tx_nwl, va_Nw x U
def tx_K (w : WT) (U : State) : Prop := va_K (wD w) vwCl (tysl (wc w)) U ∧ tx_N U
theorem tx_N.warm {s U : State} (hW : s.WarmedH U.vm) (h : tx_N s) : tx_N U := by
  intro x hx
  have h1 := h x hx
  simp only [tx_nwl, List.mem_cons, List.not_mem_nil, or_false] at hx
  rcases hx with e | e | e | e | e | e | e | e | e | e | e | e | e | e | e | e | e | e | e | e | e | e | e | e | e | e | e <;> subst e <;> first | exact va_Nw.warmF hW h1 | exact va_Nw.warmM hW h1 | exact va_Nw.warmC hW h1 | exact va_Nw.warmD hW h1
theorem tx_N.same {u U : State} (h : u.vm = U.vm) (hZ : tx_N u) : tx_N U := by
  intro x hx
  have h1 := hZ x hx
  simp only [tx_nwl, List.mem_cons, List.not_mem_nil, or_false] at hx
  rcases hx with e | e | e | e | e | e | e | e | e | e | e | e | e | e | e | e | e | e | e | e | e | e | e | e | e | e | e <;> subst e <;> exact va_Nw.same rfl h h1
theorem tx_K.warm {w : WT} {s U : State} (hW : s.WarmedH U.vm) (h : tx_K w s) : tx_K w U := ⟨va_K.moved hW.alike h.1, h.2.warm hW⟩
/-- the machine's part of a judgement -/
abbrev ET : Type := Program × Env × Room × State × MethodId × Array Value × List Frame × Method × Code × Nat × Nat × (State → Prop)
def tx_X (w : WT) : ET → Nat → List (Nat × Value) → List Value → TM → TM → Prop
  | (p, e, Rm, s, m, args, below, meth, c, cells, slots, Z), pc, lv, st, R, M => ∀ (H : Heap) (locs : List Loc), tx_H w R M H → va_S (tx_A w) s.heap H locs → ∀ ls : Array Slot, lv_has ls c.maxLocals lv → W p (wl w) e Rm s m args below meth c H locs cells slots Z (F0 m pc ls st)
def tx_O (w : WT) (own : String) (cc : ByteArray) (nL fr : Nat) : ET → Prop
  | (p, _, Rm, s, m, args, _, meth, c, cells, slots, _) => p.tables.exec = Jvm.exec ∧ c.code = cc ∧ c.maxLocals = nL ∧ s.vm.findClass own = some m.cls ∧ (∀ x ∈ lw_all, x.before args s = true) ∧ tx_K w s ∧ tx_J w ∧ wz w ≤ s.heap.size ∧ meth.locks = false ∧ fr ≤ Rm.frames ∧ 64 * fr ≤ Rm.locals ∧ cells ≤ Rm.cells ∧ slots ≤ Rm.slots
def tx_Q (w : WT) (Q : Option Value → TM → TM → Prop) : Array Value → State → Outcome → State → Prop := fun _ st oc t => (∃ (v : Option Value) (R' M' : TM), oc = .returned v ∧ Q v R' M' ∧ tx_H w R' M' t.heap) ∧ va_F (tx_A w) st t
def tx_Pc (w : WT) (as : List Value) (R M : TM) : Array Value → State → Prop := fun v U => v = as.toArray ∧ tx_H w R M U.heap ∧ tx_K w U ∧ tx_J w ∧ wz w ≤ U.heap.size
def tx_S (w : WT) (y : MethodName) (b : ByteArray) (L : Nat) (ret : Option FieldType) (fr : Nat) (as : List Value) (R M : TM) (Q : Option Value → TM → TM → Prop) : Prop := Met (wl w) y (ws_ y b L ret) { frames := fr, cells := 0, slots := 0, locals := 64 * fr } (tx_Pc w as R M) (tx_Q w Q) 0 0 (tx_A w)
def tx_Z (w : WT) (ret : Option FieldType) (Q : Option Value → TM → TM → Prop) : ET → Prop
  | (_, _, _, s, _, args, below, meth, _, cells, slots, Z) => Z = MQ below (tx_Q w Q) args s cells slots (tx_A w) ∧ meth.sig.returnType = ret ∧ cells = 0 ∧ slots = 0
/-- what a void, an int, a long answer with nothing new among the references says -/
def QV (R : TM) (P : TM → Prop) : Option Value → TM → TM → Prop := fun v R' M' => v = none ∧ R' = R ∧ P M'
def QI (R : TM) (P : Int → TM → Prop) : Option Value → TM → TM → Prop := fun v R' M' => R' = R ∧ ∃ z : Int, v = some (iV z) ∧ P z M'
def QL (R : TM) (P : Int → TM → Prop) : Option Value → TM → TM → Prop := fun v R' M' => R' = R ∧ ∃ z : Int, v = some (lV z) ∧ P z M'
abbrev rng (z : Int) : Prop := -2147483648 ≤ z ∧ z ≤ 2147483647
abbrev rngL (z : Int) : Prop := -9223372036854775808 ≤ z ∧ z ≤ 9223372036854775807
theorem rng_i {z : Int} (h : rng z) : (Int32.ofInt z).toInt = z := Int32.toInt_ofInt_of_le (by have := h.1; omega) (by have := h.2; omega)
theorem rng_l {z : Int} (h : rngL z) : (Int64.ofInt z).toInt = z := Int64.toInt_ofInt_of_le (by have := h.1; omega) (by have := h.2; omega)
theorem of_lt {a b : Int} (ha : rng a) (hb : rng b) : Int32.ofInt a < Int32.ofInt b ↔ a < b := by rw [Int32.lt_iff_toInt_lt, rng_i ha, rng_i hb]
theorem of_le {a b : Int} (ha : rng a) (hb : rng b) : Int32.ofInt a ≤ Int32.ofInt b ↔ a ≤ b := by rw [Int32.le_iff_toInt_le, rng_i ha, rng_i hb]
theorem of_eq {a b : Int} (ha : rng a) (hb : rng b) : Int32.ofInt a = Int32.ofInt b ↔ a = b := by rw [← Int32.toInt_inj, rng_i ha, rng_i hb]
theorem ofL_lt {a b : Int} (ha : rngL a) (hb : rngL b) : Int64.ofInt a < Int64.ofInt b ↔ a < b := by rw [Int64.lt_iff_toInt_lt, rng_l ha, rng_l hb]
theorem ofL_eq {a b : Int} (ha : rngL a) (hb : rngL b) : Int64.ofInt a = Int64.ofInt b ↔ a = b := by rw [← Int64.toInt_inj, rng_l ha, rng_l hb]
theorem of_0 : Int32.ofInt 0 = 0 := rfl
theorem of_clamp {z : Int} (h : rng z) : (Int32.ofInt z).toNatClampNeg = z.toNat := Int32.toNatClampNeg_ofInt_of_le (by have := h.1; omega) (by have := h.2; omega)
theorem of_in {z : Int} {n : Nat} (h : 0 ≤ z ∧ z < n) (hn : n < 2147483648) : vp_in (Int32.ofInt z) n ∧ (Int32.ofInt z).toNatClampNeg = z.toNat := by
  have hr : rng z := ⟨by omega, by omega⟩
  refine ⟨?_, of_clamp hr⟩
  intro q
  rw [of_clamp hr] at q
  rcases q with q | q
  · rw [show (0 : Int32) = Int32.ofInt 0 from rfl, of_lt hr ⟨by omega, by omega⟩] at q
    omega
  · omega
theorem tx_in : ∀ (ci : Nat) (q : vw_C), vwCl[ci]? = some q → (∀ x ∈ u_ws q.1 q.2.1 q.2.2, x ∈ lw_all) ∧ q.2.2 ≤ 26 ∧ (∀ k, k < q.2.2 → parseFieldDescriptor (q.2.1 k).2.2.1 = some (tyC ci k)) ∧ (∀ a, a < q.2.2 → ∀ b, b < q.2.2 → a ≠ b → (q.2.1 a).2.1 ≠ (q.2.1 b).2.1) := by
  intro ci q hq
  match ci, hq with
  | 0, hq => cases hq; exact ⟨in_X0, by decide, tyX0_ok, nmX0⟩
  | 1, hq => cases hq; exact ⟨in_X1, by decide, tyX1_ok, nmX1⟩
  | 2, hq => cases hq; exact ⟨in_X2, by decide, tyX2_ok, nmX2⟩
  | 3, hq => cases hq; exact ⟨in_X3, by decide, tyX3_ok, nmX3⟩
  | 4, hq => cases hq; exact ⟨in_X4, by decide, tyX4_ok, nmX4⟩
  | 5, hq => cases hq; exact ⟨in_X5, by decide, tyX5_ok, nmX5⟩
  | 6, hq => cases hq; exact ⟨in_X6, by decide, tyX6_ok, nmX6⟩
  | k + 7, hq => simp [vwCl] at hq
theorem tx_ref {w : WT} {i : Int} (h : (tx_sh w i).1 ≠ 0) : rV (wa w) i = .ref (wa w i) := by
  have : i ≠ 0 := by
    intro e
    subst e
    exact h (by simp [tx_sh, shS])
  simp [rV, rF, this, va_rf]
theorem tx_fl_at {w : WT} {c : Nat} {R M : TM} {i : Int} {k : Nat} (h : k < 26) : (tx_fl w c R M i)[k]? = some (tx_fv w c R M i k) := by
  simp [tx_fl, h]
theorem tx_ty_at (f : Nat → ClassId) {k : Nat} (h : k < 10) : (tysl f)[k]? = some (f k, aty k) := by
  simp [tysl, h]
theorem tx_ent_p {w : WT} {R M : TM} {i : Int} {k n : Nat} (hs : tx_sh w i = (k, n)) (h : k ≤ 4) : tx_ent w R M i = .inl (wc w k, (n, .inl (fun j : Nat => Int32.ofInt (M i j)))) := by
  simp [tx_ent, hs, h]
theorem tx_ent_q {w : WT} {R M : TM} {i : Int} {k n : Nat} (hs : tx_sh w i = (k, n)) (h1 : ¬ k ≤ 4) (h : k ≤ 9) : tx_ent w R M i = .inl (wc w k, (n, .inr (.inr (.inr (.inr (fun j : Nat => rF (wa w) (R i j))))))) := by
  simp [tx_ent, hs, h1, h]
theorem tx_ent_o {w : WT} {R M : TM} {i : Int} {c n : Nat} (hs : tx_sh w i = (10 + c, n)) : tx_ent w R M i = .inr (c, tx_fl w c R M i) := by
  have h1 : ¬ 10 + c ≤ 4 := by omega
  have h2 : ¬ 10 + c ≤ 9 := by omega
  have h3 : 10 + c - 10 = c := by omega
  simp [tx_ent, hs, h1, h2, h3]
/-- one cell's contents change: the others stay -/
theorem tx_H.set {w : WT} {R M R' M' : TM} {H H1 : Heap} {i : Int} (h : tx_H w R M H) (hJ : tx_J w) (hi : (tx_sh w i).1 ≠ 0) (he : va_at (wD w) vwCl (wa w i, tx_ent w R' M' i) H1) (ho : ∀ j : Int, j ≠ i → tx_ent w R' M' j = tx_ent w R M j) (oq : ∀ q : Nat, q ≠ wa w i → H1[q]? = H[q]?) : tx_H w R' M' H1 := by
  intro j hj
  by_cases e : j = i
  · subst e; exact he
  · rw [ho j e]
    exact (h j hj).kept (oq _ (fun z => e (hJ.1 j i hj hi z)))
/-- one number of the memory changes -/
def up (M : TM) (i k v : Int) : TM := fun a b => if a = i ∧ b = k then v else M a b
theorem up_ent {w : WT} {R M : TM} {i k v j : Int} (h : j ≠ i) : tx_ent w R (up M i k v) j = tx_ent w R M j := by
  have e : ∀ b, up M i k v j b = M j b := fun b => by simp [up, h]
  have e2 : ∀ c, tx_fv w c R (up M i k v) j = tx_fv w c R M j := fun c => by funext q; simp [tx_fv, e]
  simp [tx_ent, tx_fl, e, e2]
theorem up_entR {w : WT} {R M : TM} {i k v j : Int} (h : j ≠ i) : tx_ent w (up R i k v) M j = tx_ent w R M j := by
  have e : ∀ b, up R i k v j b = R j b := fun b => by simp [up, h]
  have e2 : ∀ c, tx_fv w c (up R i k v) M j = tx_fv w c R M j := fun c => by funext q; simp [tx_fv, e]
  simp [tx_ent, tx_fl, e, e2]
theorem up_s {M : TM} {i k v : Int} : up M i k v i k = v := by simp [up]
theorem up_n {M : TM} {i k v a b : Int} (h : a ≠ i ∨ b ≠ k) : up M i k v a b = M a b := by
  have : ¬ (a = i ∧ b = k) := by omega
  simp [up, this]
section BASE
variable {w : WT} {E : ET} {own : String} {cc : ByteArray} {nL fr pc : Nat} {lv : List (Nat × Value)} {st : List Value} {R M : TM}
theorem tx_iconst {n : Int} (O : tx_O w own cc nL fr E) (hd : decode cc pc = .ok (.iconst n, 1)) (k : tx_X w E (pc + 1) lv (iV n :: st) R M) : tx_X w E pc lv (st) R M := by
  obtain ⟨p, e, Rm, s, m, args, below, meth, c, cells, slots, Z⟩ := E
  obtain ⟨hx, hb, hml, hown, hts, hK, hJ, hz, hlk, hfr, hlo, hce, hsl⟩ := O
  intro H locs hH hS ls hl
  exact lv_iconst hx hb hd rfl (k H locs hH hS ls hl)
theorem tx_bipush {n : Int} (O : tx_O w own cc nL fr E) (hd : decode cc pc = .ok (.bipush n, 2)) (hn : -128 ≤ n ∧ n ≤ 127) (k : tx_X w E (pc + 2) lv (iV n :: st) R M) : tx_X w E pc lv st R M := by
  obtain ⟨p, e, Rm, s, m, args, below, meth, c, cells, slots, Z⟩ := E
  obtain ⟨hx, hb, hml, hown, hts, hK, hJ, hz, hlk, hfr, hlo, hce, hsl⟩ := O
  intro H locs hH hS ls hl
  refine lv_bipush hx hb hd ?_ (k H locs hH hS ls hl)
  apply Int32.toInt_inj.mp
  rw [Int8.toInt_toInt32, Int8.toInt_ofInt_of_le (by omega) (by omega), rng_i ⟨by omega, by omega⟩]
theorem tx_sipush {n : Int} (O : tx_O w own cc nL fr E) (hd : decode cc pc = .ok (.sipush n, 3)) (hn : -32768 ≤ n ∧ n ≤ 32767) (k : tx_X w E (pc + 3) lv (iV n :: st) R M) : tx_X w E pc lv st R M := by
  obtain ⟨p, e, Rm, s, m, args, below, meth, c, cells, slots, Z⟩ := E
  obtain ⟨hx, hb, hml, hown, hts, hK, hJ, hz, hlk, hfr, hlo, hce, hsl⟩ := O
  intro H locs hH hS ls hl
  refine lv_sipush hx hb hd ?_ (k H locs hH hS ls hl)
  apply Int32.toInt_inj.mp
  rw [Int16.toInt_toInt32, Int16.toInt_ofInt_of_le (by omega) (by omega), rng_i ⟨by omega, by omega⟩]
theorem tx_lconst0 (O : tx_O w own cc nL fr E) (hd : decode cc pc = .ok (.lconst 0, 1)) (k : tx_X w E (pc + 1) lv (lV 0 :: st) R M) : tx_X w E pc lv st R M := by
  obtain ⟨p, e, Rm, s, m, args, below, meth, c, cells, slots, Z⟩ := E
  obtain ⟨hx, hb, hml, hown, hts, hK, hJ, hz, hlk, hfr, hlo, hce, hsl⟩ := O
  intro H locs hH hS ls hl
  exact lv_lconst hx hb hd rfl (k H locs hH hS ls hl)
theorem tx_lconst1 (O : tx_O w own cc nL fr E) (hd : decode cc pc = .ok (.lconst 1, 1)) (k : tx_X w E (pc + 1) lv (lV 1 :: st) R M) : tx_X w E pc lv st R M := by
  obtain ⟨p, e, Rm, s, m, args, below, meth, c, cells, slots, Z⟩ := E
  obtain ⟨hx, hb, hml, hown, hts, hK, hJ, hz, hlk, hfr, hlo, hce, hsl⟩ := O
  intro H locs hH hS ls hl
  exact lv_lconst hx hb hd rfl (k H locs hH hS ls hl)
theorem tx_ldc {idx : Nat} {v : Int32} {z : Int} (O : tx_O w own cc nL fr E) (hd : decode cc pc = .ok (.ldc idx, 2)) (hc : Cond.constant own idx v ∈ lw_all) (hv : v = Int32.ofInt z) (k : tx_X w E (pc + 2) lv (iV z :: st) R M) : tx_X w E pc lv st R M := by
  obtain ⟨p, e, Rm, s, m, args, below, meth, c, cells, slots, Z⟩ := E
  obtain ⟨hx, hb, hml, hown, hts, hK, hJ, hz, hlk, hfr, hlo, hce, hsl⟩ := O
  intro H locs hH hS ls hl
  subst hv
  exact lv_ldc hx hb hown (hts _ hc) hd (k H locs hH hS ls hl)
theorem tx_ldcw {idx : Nat} {v : Int32} {z : Int} (O : tx_O w own cc nL fr E) (hd : decode cc pc = .ok (.ldc_w idx, 3)) (hc : Cond.constant own idx v ∈ lw_all) (hv : v = Int32.ofInt z) (k : tx_X w E (pc + 3) lv (iV z :: st) R M) : tx_X w E pc lv st R M := by
  obtain ⟨p, e, Rm, s, m, args, below, meth, c, cells, slots, Z⟩ := E
  obtain ⟨hx, hb, hml, hown, hts, hK, hJ, hz, hlk, hfr, hlo, hce, hsl⟩ := O
  intro H locs hH hS ls hl
  subst hv
  exact lv_ldcw hx hb hown (hts _ hc) hd (k H locs hH hS ls hl)
theorem tx_ldc2 {idx : Nat} {v : Int64} {z : Int} (O : tx_O w own cc nL fr E) (hd : decode cc pc = .ok (.ldc2_w idx, 3)) (hc : Cond.constantLong own idx v ∈ lw_all) (hv : v = Int64.ofInt z) (k : tx_X w E (pc + 3) lv (lV z :: st) R M) : tx_X w E pc lv st R M := by
  obtain ⟨p, e, Rm, s, m, args, below, meth, c, cells, slots, Z⟩ := E
  obtain ⟨hx, hb, hml, hown, hts, hK, hJ, hz, hlk, hfr, hlo, hce, hsl⟩ := O
  intro H locs hH hS ls hl
  subst hv
  exact lv_ldc2 hx hb hown (hts _ hc) hd (k H locs hH hS ls hl)
theorem tx_iload_n {k0 : Fin 4} {i : Nat} {z : Int} (j : Nat) (O : tx_O w own cc nL fr E) (hd : decode cc pc = .ok (.iload_n k0, 1)) (hi : (k0 : Nat) = i) (hj : lv[j]? = some (i, iV z)) (k : tx_X w E (pc + 1) lv (iV z :: st) R M) : tx_X w E pc lv st R M := by
  obtain ⟨p, e, Rm, s, m, args, below, meth, c, cells, slots, Z⟩ := E
  obtain ⟨hx, hb, hml, hown, hts, hK, hJ, hz, hlk, hfr, hlo, hce, hsl⟩ := O
  intro H locs hH hS ls hl
  exact lv_iload_n hx hb hd hi (lv_at hl j hj) (k H locs hH hS ls hl)
theorem tx_iload {i : Nat} {z : Int} (j : Nat) (O : tx_O w own cc nL fr E) (hd : decode cc pc = .ok (.iload i, 2)) (hj : lv[j]? = some (i, iV z)) (k : tx_X w E (pc + 2) lv (iV z :: st) R M) : tx_X w E pc lv st R M := by
  obtain ⟨p, e, Rm, s, m, args, below, meth, c, cells, slots, Z⟩ := E
  obtain ⟨hx, hb, hml, hown, hts, hK, hJ, hz, hlk, hfr, hlo, hce, hsl⟩ := O
  intro H locs hH hS ls hl
  exact lv_iload hx hb hd (lv_at hl j hj) (k H locs hH hS ls hl)
theorem tx_lload_n {k0 : Fin 4} {i : Nat} {z : Int} (j : Nat) (O : tx_O w own cc nL fr E) (hd : decode cc pc = .ok (.lload_n k0, 1)) (hi : (k0 : Nat) = i) (hj : lv[j]? = some (i, lV z)) (k : tx_X w E (pc + 1) lv (lV z :: st) R M) : tx_X w E pc lv st R M := by
  obtain ⟨p, e, Rm, s, m, args, below, meth, c, cells, slots, Z⟩ := E
  obtain ⟨hx, hb, hml, hown, hts, hK, hJ, hz, hlk, hfr, hlo, hce, hsl⟩ := O
  intro H locs hH hS ls hl
  exact lv_lload_n hx hb hd hi (lv_at hl j hj) (k H locs hH hS ls hl)
theorem tx_lload {i : Nat} {z : Int} (j : Nat) (O : tx_O w own cc nL fr E) (hd : decode cc pc = .ok (.lload i, 2)) (hj : lv[j]? = some (i, lV z)) (k : tx_X w E (pc + 2) lv (lV z :: st) R M) : tx_X w E pc lv st R M := by
  obtain ⟨p, e, Rm, s, m, args, below, meth, c, cells, slots, Z⟩ := E
  obtain ⟨hx, hb, hml, hown, hts, hK, hJ, hz, hlk, hfr, hlo, hce, hsl⟩ := O
  intro H locs hH hS ls hl
  exact lv_lload hx hb hd (lv_at hl j hj) (k H locs hH hS ls hl)
theorem rV_cases (ad : Int → Nat) (i : Int) : (i = 0 ∧ rV ad i = .null) ∨ (i ≠ 0 ∧ rV ad i = .ref (ad i)) := by
  by_cases h : i = 0
  · left; simp [rV, rF, h, va_rf]
  · right; simp [rV, rF, h, va_rf]
theorem tx_aload_n {k0 : Fin 4} {i : Nat} {z : Int} (j : Nat) (O : tx_O w own cc nL fr E) (hd : decode cc pc = .ok (.aload_n k0, 1)) (hi : (k0 : Nat) = i) (hj : lv[j]? = some (i, rV (wa w) z)) (k : tx_X w E (pc + 1) lv (rV (wa w) z :: st) R M) : tx_X w E pc lv st R M := by
  obtain ⟨p, e, Rm, s, m, args, below, meth, c, cells, slots, Z⟩ := E
  obtain ⟨hx, hb, hml, hown, hts, hK, hJ, hz, hlk, hfr, hlo, hce, hsl⟩ := O
  intro H locs hH hS ls hl
  have k1 := k H locs hH hS ls hl
  have h1 := lv_at hl j hj
  rcases rV_cases (wa w) z with ⟨_, e⟩ | ⟨_, e⟩
  · rw [e] at k1 h1
    exact lv_aload_nN hx hb hd hi h1 k1
  · rw [e] at k1 h1
    exact lv_aload_n hx hb hd hi h1 k1
theorem tx_aload {i : Nat} {z : Int} (j : Nat) (O : tx_O w own cc nL fr E) (hd : decode cc pc = .ok (.aload i, 2)) (hj : lv[j]? = some (i, rV (wa w) z)) (k : tx_X w E (pc + 2) lv (rV (wa w) z :: st) R M) : tx_X w E pc lv st R M := by
  obtain ⟨p, e, Rm, s, m, args, below, meth, c, cells, slots, Z⟩ := E
  obtain ⟨hx, hb, hml, hown, hts, hK, hJ, hz, hlk, hfr, hlo, hce, hsl⟩ := O
  intro H locs hH hS ls hl
  have k1 := k H locs hH hS ls hl
  have h1 := lv_at hl j hj
  rcases rV_cases (wa w) z with ⟨_, e⟩ | ⟨_, e⟩
  · rw [e] at k1 h1
    exact lv_aloadN hx hb hd h1 k1
  · rw [e] at k1 h1
    exact lv_aload hx hb hd h1 k1
theorem tx_istore_n {k0 : Fin 4} {i : Nat} {z : Int} {lv' : List (Nat × Value)} (O : tx_O w own cc nL fr E) (hd : decode cc pc = .ok (.istore_n k0, 1)) (hi : (k0 : Nat) = i) (hn : i < nL) (hl' : (i, iV z) :: lv.filter (fun q => !(q.1 == i) && !(q.1 + 1 == i && q.2.category == 2)) = lv') (k : tx_X w E (pc + 1) lv' st R M) : tx_X w E pc lv (iV z :: st) R M := by
  obtain ⟨p, e, Rm, s, m, args, below, meth, c, cells, slots, Z⟩ := E
  obtain ⟨hx, hb, hml, hown, hts, hK, hJ, hz, hlk, hfr, hlo, hce, hsl⟩ := O
  intro H locs hH hS ls hl
  exact lv_istore_n hx hb hd hi (by rw [← hml]; exact hl) hn hl' (fun ls' h' => k H locs hH hS ls' (by rw [hml]; exact h'))
theorem tx_istore {i : Nat} {z : Int} {lv' : List (Nat × Value)} (O : tx_O w own cc nL fr E) (hd : decode cc pc = .ok (.istore i, 2)) (hn : i < nL) (hl' : (i, iV z) :: lv.filter (fun q => !(q.1 == i) && !(q.1 + 1 == i && q.2.category == 2)) = lv') (k : tx_X w E (pc + 2) lv' st R M) : tx_X w E pc lv (iV z :: st) R M := by
  obtain ⟨p, e, Rm, s, m, args, below, meth, c, cells, slots, Z⟩ := E
  obtain ⟨hx, hb, hml, hown, hts, hK, hJ, hz, hlk, hfr, hlo, hce, hsl⟩ := O
  intro H locs hH hS ls hl
  exact lv_istore hx hb hd (by rw [← hml]; exact hl) hn hl' (fun ls' h' => k H locs hH hS ls' (by rw [hml]; exact h'))
theorem tx_lstore_n {k0 : Fin 4} {i : Nat} {z : Int} {lv' : List (Nat × Value)} (O : tx_O w own cc nL fr E) (hd : decode cc pc = .ok (.lstore_n k0, 1)) (hi : (k0 : Nat) = i) (hn : i + 1 < nL) (hl' : (i, lV z) :: lv.filter (fun q => !(q.1 == i) && (!(q.1 == i + 1) && !(q.1 + 1 == i && q.2.category == 2))) = lv') (k : tx_X w E (pc + 1) lv' st R M) : tx_X w E pc lv (lV z :: st) R M := by
  obtain ⟨p, e, Rm, s, m, args, below, meth, c, cells, slots, Z⟩ := E
  obtain ⟨hx, hb, hml, hown, hts, hK, hJ, hz, hlk, hfr, hlo, hce, hsl⟩ := O
  intro H locs hH hS ls hl
  exact lv_lstore_n hx hb hd hi (by rw [← hml]; exact hl) hn hl' (fun ls' h' => k H locs hH hS ls' (by rw [hml]; exact h'))
theorem tx_lstore {i : Nat} {z : Int} {lv' : List (Nat × Value)} (O : tx_O w own cc nL fr E) (hd : decode cc pc = .ok (.lstore i, 2)) (hn : i + 1 < nL) (hl' : (i, lV z) :: lv.filter (fun q => !(q.1 == i) && (!(q.1 == i + 1) && !(q.1 + 1 == i && q.2.category == 2))) = lv') (k : tx_X w E (pc + 2) lv' st R M) : tx_X w E pc lv (lV z :: st) R M := by
  obtain ⟨p, e, Rm, s, m, args, below, meth, c, cells, slots, Z⟩ := E
  obtain ⟨hx, hb, hml, hown, hts, hK, hJ, hz, hlk, hfr, hlo, hce, hsl⟩ := O
  intro H locs hH hS ls hl
  exact lv_lstore hx hb hd (by rw [← hml]; exact hl) hn hl' (fun ls' h' => k H locs hH hS ls' (by rw [hml]; exact h'))
theorem tx_astore_n {k0 : Fin 4} {i : Nat} {z : Int} {lv' : List (Nat × Value)} (O : tx_O w own cc nL fr E) (hd : decode cc pc = .ok (.astore_n k0, 1)) (hi : (k0 : Nat) = i) (hn : i < nL) (hl' : (i, rV (wa w) z) :: lv.filter (fun q => !(q.1 == i) && !(q.1 + 1 == i && q.2.category == 2)) = lv') (k : tx_X w E (pc + 1) lv' st R M) : tx_X w E pc lv (rV (wa w) z :: st) R M := by
  obtain ⟨p, e, Rm, s, m, args, below, meth, c, cells, slots, Z⟩ := E
  obtain ⟨hx, hb, hml, hown, hts, hK, hJ, hz, hlk, hfr, hlo, hce, hsl⟩ := O
  intro H locs hH hS ls hl
  rcases rV_cases (wa w) z with ⟨_, ez⟩ | ⟨_, ez⟩
  · rw [ez] at hl' ⊢
    exact lv_astore_nN hx hb hd hi (by rw [← hml]; exact hl) hn hl' (fun ls' h' => k H locs hH hS ls' (by rw [hml]; exact h'))
  · rw [ez] at hl' ⊢
    exact lv_astore_n hx hb hd hi (by rw [← hml]; exact hl) hn hl' (fun ls' h' => k H locs hH hS ls' (by rw [hml]; exact h'))
theorem tx_astore {i : Nat} {z : Int} {lv' : List (Nat × Value)} (O : tx_O w own cc nL fr E) (hd : decode cc pc = .ok (.astore i, 2)) (hn : i < nL) (hl' : (i, rV (wa w) z) :: lv.filter (fun q => !(q.1 == i) && !(q.1 + 1 == i && q.2.category == 2)) = lv') (k : tx_X w E (pc + 2) lv' st R M) : tx_X w E pc lv (rV (wa w) z :: st) R M := by
  obtain ⟨p, e, Rm, s, m, args, below, meth, c, cells, slots, Z⟩ := E
  obtain ⟨hx, hb, hml, hown, hts, hK, hJ, hz, hlk, hfr, hlo, hce, hsl⟩ := O
  intro H locs hH hS ls hl
  rcases rV_cases (wa w) z with ⟨_, ez⟩ | ⟨_, ez⟩
  · rw [ez] at hl' ⊢
    exact lv_astoreN hx hb hd (by rw [← hml]; exact hl) hn hl' (fun ls' h' => k H locs hH hS ls' (by rw [hml]; exact h'))
  · rw [ez] at hl' ⊢
    exact lv_astore hx hb hd (by rw [← hml]; exact hl) hn hl' (fun ls' h' => k H locs hH hS ls' (by rw [hml]; exact h'))
theorem tx_iinc {i : Nat} {n z : Int} {lv' : List (Nat × Value)} (j : Nat) (O : tx_O w own cc nL fr E) (hd : decode cc pc = .ok (.iinc i n, 3)) (hj : lv[j]? = some (i, iV z)) (hn : i < nL) (hl' : (i, iV (z + n)) :: lv.filter (fun q => !(q.1 == i) && !(q.1 + 1 == i && q.2.category == 2)) = lv') (k : tx_X w E (pc + 3) lv' st R M) : tx_X w E pc lv st R M := by
  obtain ⟨p, e, Rm, s, m, args, below, meth, c, cells, slots, Z⟩ := E
  obtain ⟨hx, hb, hml, hown, hts, hK, hJ, hz, hlk, hfr, hlo, hce, hsl⟩ := O
  intro H locs hH hS ls hl
  exact lv_iinc (v := Int32.ofInt (z + n)) hx hb hd (by rw [← hml]; exact hl) hj (by rw [Int32.ofInt_add]) hn hl' (fun ls' h' => k H locs hH hS ls' (by rw [hml]; exact h'))
theorem tx_iadd {a b : Int} (O : tx_O w own cc nL fr E) (hd : decode cc pc = .ok (.iadd, 1)) (k : tx_X w E (pc + 1) lv (iV (a + b) :: st) R M) : tx_X w E pc lv (iV b :: iV a :: st) R M := by
  obtain ⟨p, e, Rm, s, m, args, below, meth, c, cells, slots, Z⟩ := E
  obtain ⟨hx, hb, hml, hown, hts, hK, hJ, hz, hlk, hfr, hlo, hce, hsl⟩ := O
  intro H locs hH hS ls hl
  refine lv_iadd hx hb hd ?_
  rw [← Int32.ofInt_add]
  exact k H locs hH hS ls hl
theorem tx_isub {a b : Int} (O : tx_O w own cc nL fr E) (hd : decode cc pc = .ok (.isub, 1)) (k : tx_X w E (pc + 1) lv (iV (a - b) :: st) R M) : tx_X w E pc lv (iV b :: iV a :: st) R M := by
  obtain ⟨p, e, Rm, s, m, args, below, meth, c, cells, slots, Z⟩ := E
  obtain ⟨hx, hb, hml, hown, hts, hK, hJ, hz, hlk, hfr, hlo, hce, hsl⟩ := O
  intro H locs hH hS ls hl
  refine lv_isub hx hb hd ?_
  rw [← Int32.ofInt_sub]
  exact k H locs hH hS ls hl
theorem tx_imul {a b : Int} (O : tx_O w own cc nL fr E) (hd : decode cc pc = .ok (.imul, 1)) (k : tx_X w E (pc + 1) lv (iV (a * b) :: st) R M) : tx_X w E pc lv (iV b :: iV a :: st) R M := by
  obtain ⟨p, e, Rm, s, m, args, below, meth, c, cells, slots, Z⟩ := E
  obtain ⟨hx, hb, hml, hown, hts, hK, hJ, hz, hlk, hfr, hlo, hce, hsl⟩ := O
  intro H locs hH hS ls hl
  refine lv_imul hx hb hd ?_
  rw [← Int32.ofInt_mul]
  exact k H locs hH hS ls hl
theorem tx_ladd {a b : Int} (O : tx_O w own cc nL fr E) (hd : decode cc pc = .ok (.ladd, 1)) (k : tx_X w E (pc + 1) lv (lV (a + b) :: st) R M) : tx_X w E pc lv (lV b :: lV a :: st) R M := by
  obtain ⟨p, e, Rm, s, m, args, below, meth, c, cells, slots, Z⟩ := E
  obtain ⟨hx, hb, hml, hown, hts, hK, hJ, hz, hlk, hfr, hlo, hce, hsl⟩ := O
  intro H locs hH hS ls hl
  refine lv_ladd hx hb hd ?_
  rw [← Int64.ofInt_add]
  exact k H locs hH hS ls hl
theorem tx_lsub {a b : Int} (O : tx_O w own cc nL fr E) (hd : decode cc pc = .ok (.lsub, 1)) (k : tx_X w E (pc + 1) lv (lV (a - b) :: st) R M) : tx_X w E pc lv (lV b :: lV a :: st) R M := by
  obtain ⟨p, e, Rm, s, m, args, below, meth, c, cells, slots, Z⟩ := E
  obtain ⟨hx, hb, hml, hown, hts, hK, hJ, hz, hlk, hfr, hlo, hce, hsl⟩ := O
  intro H locs hH hS ls hl
  refine lv_lsub hx hb hd ?_
  rw [← Int64.ofInt_sub]
  exact k H locs hH hS ls hl
theorem tx_lmul {a b : Int} (O : tx_O w own cc nL fr E) (hd : decode cc pc = .ok (.lmul, 1)) (k : tx_X w E (pc + 1) lv (lV (a * b) :: st) R M) : tx_X w E pc lv (lV b :: lV a :: st) R M := by
  obtain ⟨p, e, Rm, s, m, args, below, meth, c, cells, slots, Z⟩ := E
  obtain ⟨hx, hb, hml, hown, hts, hK, hJ, hz, hlk, hfr, hlo, hce, hsl⟩ := O
  intro H locs hH hS ls hl
  refine lv_lmul hx hb hd ?_
  rw [← Int64.ofInt_mul]
  exact k H locs hH hS ls hl
end BASE
def zand (a b : Int) : Int := (Int32.ofInt a &&& Int32.ofInt b).toInt
def zor (a b : Int) : Int := (Int32.ofInt a ||| Int32.ofInt b).toInt
def zxor (a b : Int) : Int := (Int32.ofInt a ^^^ Int32.ofInt b).toInt
def zshl (a b : Int) : Int := (Int32.ofInt a <<< (Int32.ofInt b &&& 31)).toInt
def zshr (a b : Int) : Int := (Int32.ofInt a >>> (Int32.ofInt b &&& 31)).toInt
def zushr (a b : Int) : Int := ((Int32.ofInt a).toUInt32 >>> ((Int32.ofInt b).toUInt32 &&& Int32.toUInt32 31)).toInt32.toInt
def zi2b (a : Int) : Int := (Int32.ofInt a).toInt8.toInt32.toInt
def zi2s (a : Int) : Int := (Int32.ofInt a).toInt16.toInt32.toInt
def zlshl (a b : Int) : Int := (Int64.ofInt a <<< ((Int32.ofInt b).toInt64 &&& 63)).toInt
def zcmp (a b : Int) : Int := if b < a then 1 else if a = b then 0 else -1
theorem iV_to (x : Int32) : iV x.toInt = .int x := by simp [iV]
theorem lV_to (x : Int64) : lV x.toInt = .long x := by simp [lV]
theorem toInt_rng (x : Int32) : rng x.toInt := ⟨by have := x.le_toInt; omega, by have := x.toInt_lt; omega⟩
theorem div_of {a b : Int} (ha : 0 ≤ a ∧ a ≤ 2147483647) (hb : 0 < b ∧ b ≤ 2147483647) : Int32.ofInt a / Int32.ofInt b = Int32.ofInt (a / b) := by
  obtain ⟨x, rfl⟩ := Int.eq_ofNat_of_zero_le ha.1
  obtain ⟨y, rfl⟩ := Int.eq_ofNat_of_zero_le (Int.le_of_lt hb.1)
  have h := pk_div (a := x) (d := y) (by omega) (by omega) (by omega)
  rw [Int32.ofInt_eq_ofNat, Int32.ofInt_eq_ofNat, ← Int.natCast_ediv, Int32.ofInt_eq_ofNat]
  exact h
theorem rem_of {a b : Int} (ha : 0 ≤ a ∧ a ≤ 2147483647) (hb : 0 < b ∧ b ≤ 2147483647) : Int32.ofInt a - Int32.ofInt a / Int32.ofInt b * Int32.ofInt b = Int32.ofInt (a % b) := by
  rw [div_of ha hb, ← Int32.ofInt_mul, ← Int32.ofInt_sub]
  congr 1
  have := Int.mul_ediv_add_emod a b
  rw [Int.mul_comm] at this
  omega
theorem divL_of {a b : Int} (ha : 0 ≤ a ∧ a ≤ 9223372036854775807) (hb : 0 < b ∧ b ≤ 9223372036854775807) : Int64.ofInt a / Int64.ofInt b = Int64.ofInt (a / b) := by
  obtain ⟨x, rfl⟩ := Int.eq_ofNat_of_zero_le ha.1
  obtain ⟨y, rfl⟩ := Int.eq_ofNat_of_zero_le (Int.le_of_lt hb.1)
  have h := pk_lDiv (a := x) (b := y) (by omega) (by omega) (by omega)
  rw [Int64.ofInt_eq_ofNat, Int64.ofInt_eq_ofNat, ← Int.natCast_ediv, Int64.ofInt_eq_ofNat]
  exact h
theorem remL_of {a b : Int} (ha : 0 ≤ a ∧ a ≤ 9223372036854775807) (hb : 0 < b ∧ b ≤ 9223372036854775807) : Int64.ofInt a - Int64.ofInt a / Int64.ofInt b * Int64.ofInt b = Int64.ofInt (a % b) := by
  rw [divL_of ha hb, ← Int64.ofInt_mul, ← Int64.ofInt_sub]
  congr 1
  have := Int.mul_ediv_add_emod a b
  rw [Int.mul_comm] at this
  omega
theorem i2l_of {a : Int} (h : rng a) : (Int32.ofInt a).toInt64 = Int64.ofInt a := by
  apply Int64.toInt_inj.mp
  rw [Int32.toInt_toInt64, rng_i h, rng_l ⟨by have := h.1; omega, by have := h.2; omega⟩]
section BASE2
variable {w : WT} {E : ET} {own : String} {cc : ByteArray} {nL fr pc : Nat} {lv : List (Nat × Value)} {st : List Value} {R M : TM}
theorem tx_iand {a b : Int} (O : tx_O w own cc nL fr E) (hd : decode cc pc = .ok (.iand, 1)) (k : tx_X w E (pc + 1) lv (iV (zand a b) :: st) R M) : tx_X w E pc lv (iV b :: iV a :: st) R M := by
  obtain ⟨p, e, Rm, s, m, args, below, meth, c, cells, slots, Z⟩ := E
  obtain ⟨hx, hb, hml, hown, hts, hK, hJ, hz, hlk, hfr, hlo, hce, hsl⟩ := O
  intro H locs hH hS ls hl
  refine lv_iand hx hb hd ?_
  have k1 := k H locs hH hS ls hl
  rw [zand, iV_to] at k1
  exact k1
theorem tx_ior {a b : Int} (O : tx_O w own cc nL fr E) (hd : decode cc pc = .ok (.ior, 1)) (k : tx_X w E (pc + 1) lv (iV (zor a b) :: st) R M) : tx_X w E pc lv (iV b :: iV a :: st) R M := by
  obtain ⟨p, e, Rm, s, m, args, below, meth, c, cells, slots, Z⟩ := E
  obtain ⟨hx, hb, hml, hown, hts, hK, hJ, hz, hlk, hfr, hlo, hce, hsl⟩ := O
  intro H locs hH hS ls hl
  refine lv_ior hx hb hd ?_
  have k1 := k H locs hH hS ls hl
  rw [zor, iV_to] at k1
  exact k1
theorem tx_ixor {a b : Int} (O : tx_O w own cc nL fr E) (hd : decode cc pc = .ok (.ixor, 1)) (k : tx_X w E (pc + 1) lv (iV (zxor a b) :: st) R M) : tx_X w E pc lv (iV b :: iV a :: st) R M := by
  obtain ⟨p, e, Rm, s, m, args, below, meth, c, cells, slots, Z⟩ := E
  obtain ⟨hx, hb, hml, hown, hts, hK, hJ, hz, hlk, hfr, hlo, hce, hsl⟩ := O
  intro H locs hH hS ls hl
  refine lv_ixor hx hb hd ?_
  have k1 := k H locs hH hS ls hl
  rw [zxor, iV_to] at k1
  exact k1
theorem tx_ishl {a b : Int} (O : tx_O w own cc nL fr E) (hd : decode cc pc = .ok (.ishl, 1)) (k : tx_X w E (pc + 1) lv (iV (zshl a b) :: st) R M) : tx_X w E pc lv (iV b :: iV a :: st) R M := by
  obtain ⟨p, e, Rm, s, m, args, below, meth, c, cells, slots, Z⟩ := E
  obtain ⟨hx, hb, hml, hown, hts, hK, hJ, hz, hlk, hfr, hlo, hce, hsl⟩ := O
  intro H locs hH hS ls hl
  refine lv_ishl hx hb hd ?_
  have k1 := k H locs hH hS ls hl
  rw [zshl, iV_to] at k1
  exact k1
theorem tx_ishr {a b : Int} (O : tx_O w own cc nL fr E) (hd : decode cc pc = .ok (.ishr, 1)) (k : tx_X w E (pc + 1) lv (iV (zshr a b) :: st) R M) : tx_X w E pc lv (iV b :: iV a :: st) R M := by
  obtain ⟨p, e, Rm, s, m, args, below, meth, c, cells, slots, Z⟩ := E
  obtain ⟨hx, hb, hml, hown, hts, hK, hJ, hz, hlk, hfr, hlo, hce, hsl⟩ := O
  intro H locs hH hS ls hl
  refine lv_ishr hx hb hd ?_
  have k1 := k H locs hH hS ls hl
  rw [zshr, iV_to] at k1
  exact k1
theorem tx_iushr {a b : Int} (O : tx_O w own cc nL fr E) (hd : decode cc pc = .ok (.iushr, 1)) (k : tx_X w E (pc + 1) lv (iV (zushr a b) :: st) R M) : tx_X w E pc lv (iV b :: iV a :: st) R M := by
  obtain ⟨p, e, Rm, s, m, args, below, meth, c, cells, slots, Z⟩ := E
  obtain ⟨hx, hb, hml, hown, hts, hK, hJ, hz, hlk, hfr, hlo, hce, hsl⟩ := O
  intro H locs hH hS ls hl
  refine lv_iushr hx hb hd rfl ?_
  have k1 := k H locs hH hS ls hl
  rw [zushr, iV_to] at k1
  exact k1
theorem tx_i2b {a : Int} (O : tx_O w own cc nL fr E) (hd : decode cc pc = .ok (.i2b, 1)) (k : tx_X w E (pc + 1) lv (iV (zi2b a) :: st) R M) : tx_X w E pc lv (iV a :: st) R M := by
  obtain ⟨p, e, Rm, s, m, args, below, meth, c, cells, slots, Z⟩ := E
  obtain ⟨hx, hb, hml, hown, hts, hK, hJ, hz, hlk, hfr, hlo, hce, hsl⟩ := O
  intro H locs hH hS ls hl
  refine lv_i2b hx hb hd rfl ?_
  have k1 := k H locs hH hS ls hl
  rw [zi2b, iV_to] at k1
  exact k1
theorem tx_i2s {a : Int} (O : tx_O w own cc nL fr E) (hd : decode cc pc = .ok (.i2s, 1)) (k : tx_X w E (pc + 1) lv (iV (zi2s a) :: st) R M) : tx_X w E pc lv (iV a :: st) R M := by
  obtain ⟨p, e, Rm, s, m, args, below, meth, c, cells, slots, Z⟩ := E
  obtain ⟨hx, hb, hml, hown, hts, hK, hJ, hz, hlk, hfr, hlo, hce, hsl⟩ := O
  intro H locs hH hS ls hl
  refine lv_i2s hx hb hd rfl ?_
  have k1 := k H locs hH hS ls hl
  rw [zi2s, iV_to] at k1
  exact k1
theorem tx_lshl {a b : Int} (O : tx_O w own cc nL fr E) (hd : decode cc pc = .ok (.lshl, 1)) (k : tx_X w E (pc + 1) lv (lV (zlshl a b) :: st) R M) : tx_X w E pc lv (iV b :: lV a :: st) R M := by
  obtain ⟨p, e, Rm, s, m, args, below, meth, c, cells, slots, Z⟩ := E
  obtain ⟨hx, hb, hml, hown, hts, hK, hJ, hz, hlk, hfr, hlo, hce, hsl⟩ := O
  intro H locs hH hS ls hl
  refine lv_lshl hx hb hd rfl ?_
  have k1 := k H locs hH hS ls hl
  rw [zlshl, lV_to] at k1
  exact k1
theorem tx_i2l {a : Int} (O : tx_O w own cc nL fr E) (hd : decode cc pc = .ok (.i2l, 1)) (ha : rng a) (k : tx_X w E (pc + 1) lv (lV a :: st) R M) : tx_X w E pc lv (iV a :: st) R M := by
  obtain ⟨p, e, Rm, s, m, args, below, meth, c, cells, slots, Z⟩ := E
  obtain ⟨hx, hb, hml, hown, hts, hK, hJ, hz, hlk, hfr, hlo, hce, hsl⟩ := O
  intro H locs hH hS ls hl
  exact lv_i2l hx hb hd (i2l_of ha) (k H locs hH hS ls hl)
theorem tx_idiv {a b : Int} (O : tx_O w own cc nL fr E) (hd : decode cc pc = .ok (.idiv, 1)) (ha : 0 ≤ a ∧ a ≤ 2147483647) (hb0 : 0 < b ∧ b ≤ 2147483647) (k : tx_X w E (pc + 1) lv (iV (a / b) :: st) R M) : tx_X w E pc lv (iV b :: iV a :: st) R M := by
  obtain ⟨p, e, Rm, s, m, args, below, meth, c, cells, slots, Z⟩ := E
  obtain ⟨hx, hb, hml, hown, hts, hK, hJ, hz, hlk, hfr, hlo, hce, hsl⟩ := O
  intro H locs hH hS ls hl
  refine lv_idiv hx hb hd (fun q => ?_) ?_
  · rw [show (0 : Int32) = Int32.ofInt 0 from rfl, of_eq ⟨by omega, by omega⟩ ⟨by omega, by omega⟩] at q
    omega
  · rw [div_of ha hb0]
    exact k H locs hH hS ls hl
theorem tx_irem {a b : Int} (O : tx_O w own cc nL fr E) (hd : decode cc pc = .ok (.irem, 1)) (ha : 0 ≤ a ∧ a ≤ 2147483647) (hb0 : 0 < b ∧ b ≤ 2147483647) (k : tx_X w E (pc + 1) lv (iV (a % b) :: st) R M) : tx_X w E pc lv (iV b :: iV a :: st) R M := by
  obtain ⟨p, e, Rm, s, m, args, below, meth, c, cells, slots, Z⟩ := E
  obtain ⟨hx, hb, hml, hown, hts, hK, hJ, hz, hlk, hfr, hlo, hce, hsl⟩ := O
  intro H locs hH hS ls hl
  refine lv_irem hx hb hd (fun q => ?_) ?_
  · rw [show (0 : Int32) = Int32.ofInt 0 from rfl, of_eq ⟨by omega, by omega⟩ ⟨by omega, by omega⟩] at q
    omega
  · rw [rem_of ha hb0]
    exact k H locs hH hS ls hl
theorem tx_ldiv {a b : Int} (O : tx_O w own cc nL fr E) (hd : decode cc pc = .ok (.ldiv, 1)) (ha : 0 ≤ a ∧ a ≤ 9223372036854775807) (hb0 : 0 < b ∧ b ≤ 9223372036854775807) (k : tx_X w E (pc + 1) lv (lV (a / b) :: st) R M) : tx_X w E pc lv (lV b :: lV a :: st) R M := by
  obtain ⟨p, e, Rm, s, m, args, below, meth, c, cells, slots, Z⟩ := E
  obtain ⟨hx, hb, hml, hown, hts, hK, hJ, hz, hlk, hfr, hlo, hce, hsl⟩ := O
  intro H locs hH hS ls hl
  refine lv_ldiv hx hb hd (fun q => ?_) ?_
  · rw [show (0 : Int64) = Int64.ofInt 0 from rfl, ofL_eq ⟨by omega, by omega⟩ ⟨by omega, by omega⟩] at q
    omega
  · rw [divL_of ha hb0]
    exact k H locs hH hS ls hl
theorem tx_lrem {a b : Int} (O : tx_O w own cc nL fr E) (hd : decode cc pc = .ok (.lrem, 1)) (ha : 0 ≤ a ∧ a ≤ 9223372036854775807) (hb0 : 0 < b ∧ b ≤ 9223372036854775807) (k : tx_X w E (pc + 1) lv (lV (a % b) :: st) R M) : tx_X w E pc lv (lV b :: lV a :: st) R M := by
  obtain ⟨p, e, Rm, s, m, args, below, meth, c, cells, slots, Z⟩ := E
  obtain ⟨hx, hb, hml, hown, hts, hK, hJ, hz, hlk, hfr, hlo, hce, hsl⟩ := O
  intro H locs hH hS ls hl
  refine lv_lrem hx hb hd (fun q => ?_) ?_
  · rw [show (0 : Int64) = Int64.ofInt 0 from rfl, ofL_eq ⟨by omega, by omega⟩ ⟨by omega, by omega⟩] at q
    omega
  · rw [remL_of ha hb0]
    exact k H locs hH hS ls hl
theorem tx_lcmp {a b : Int} (O : tx_O w own cc nL fr E) (hd : decode cc pc = .ok (.lcmp, 1)) (ha : rngL a) (hb0 : rngL b) (k : tx_X w E (pc + 1) lv (iV (zcmp a b) :: st) R M) : tx_X w E pc lv (lV b :: lV a :: st) R M := by
  obtain ⟨p, e, Rm, s, m, args, below, meth, c, cells, slots, Z⟩ := E
  obtain ⟨hx, hb, hml, hown, hts, hK, hJ, hz, hlk, hfr, hlo, hce, hsl⟩ := O
  intro H locs hH hS ls hl
  refine W.lcmp hx hb hd ?_
  have e1 : lg_cmp (Int64.ofInt a) (Int64.ofInt b) = Int32.ofInt (zcmp a b) := by
    unfold lg_cmp zcmp
    simp only [gt_iff_lt, ofL_lt hb0 ha, ofL_eq ha hb0]
    split
    · rfl
    · split <;> rfl
  rw [e1]
  exact k H locs hH hS ls hl
theorem cat_i (z : Int) : (iV z).category = 1 := rfl
theorem cat_l (z : Int) : (lV z).category = 2 := rfl
theorem cat_r (ad : Int → Nat) (i : Int) : (rV ad i).category = 1 := by
  rcases rV_cases ad i with ⟨_, e⟩ | ⟨_, e⟩ <;> rw [e] <;> rfl
theorem tx_dup {v : Value} (O : tx_O w own cc nL fr E) (hd : decode cc pc = .ok (.dup, 1)) (hv : v.category = 1) (k : tx_X w E (pc + 1) lv (v :: v :: st) R M) : tx_X w E pc lv (v :: st) R M := by
  obtain ⟨p, e, Rm, s, m, args, below, meth, c, cells, slots, Z⟩ := E
  obtain ⟨hx, hb, hml, hown, hts, hK, hJ, hz, hlk, hfr, hlo, hce, hsl⟩ := O
  intro H locs hH hS ls hl
  exact lv_dup hx hb hd hv (k H locs hH hS ls hl)
theorem tx_pop {v : Value} (O : tx_O w own cc nL fr E) (hd : decode cc pc = .ok (.pop, 1)) (hv : v.category = 1) (k : tx_X w E (pc + 1) lv st R M) : tx_X w E pc lv (v :: st) R M := by
  obtain ⟨p, e, Rm, s, m, args, below, meth, c, cells, slots, Z⟩ := E
  obtain ⟨hx, hb, hml, hown, hts, hK, hJ, hz, hlk, hfr, hlo, hce, hsl⟩ := O
  intro H locs hH hS ls hl
  exact lv_pop hx hb hd hv (k H locs hH hS ls hl)
theorem tx_dup2 {v u : Value} (O : tx_O w own cc nL fr E) (hd : decode cc pc = .ok (.dup2, 1)) (hv : v.category = 1) (hu : u.category = 1) (k : tx_X w E (pc + 1) lv (v :: u :: v :: u :: st) R M) : tx_X w E pc lv (v :: u :: st) R M := by
  obtain ⟨p, e, Rm, s, m, args, below, meth, c, cells, slots, Z⟩ := E
  obtain ⟨hx, hb, hml, hown, hts, hK, hJ, hz, hlk, hfr, hlo, hce, hsl⟩ := O
  intro H locs hH hS ls hl
  exact lv_dup2_11 hx hb hd hv hu (k H locs hH hS ls hl)
theorem tx_goto {off : Int} (tgt : Nat) (O : tx_O w own cc nL fr E) (hd : decode cc pc = .ok (.goto off, 3)) (ht : (pc : Int) + off = (tgt : Int)) (k : tx_X w E tgt lv st R M) : tx_X w E pc lv st R M := by
  obtain ⟨p, e, Rm, s, m, args, below, meth, c, cells, slots, Z⟩ := E
  obtain ⟨hx, hb, hml, hown, hts, hK, hJ, hz, hlk, hfr, hlo, hce, hsl⟩ := O
  intro H locs hH hS ls hl
  exact lv_goto hx hb hd ht (k H locs hH hS ls hl)
theorem tx_cast {x y : Nat} (h : x = y) (k : tx_X w E y lv st R M) : tx_X w E x lv st R M := h ▸ k
theorem tx_lv {lv' : List (Nat × Value)} (ks : List Nat) (h : lv_pick lv ks = lv') (k : tx_X w E pc lv' st R M) : tx_X w E pc lv st R M := by
  obtain ⟨p, e, Rm, s, m, args, below, meth, c, cells, slots, Z⟩ := E
  intro H locs hH hS ls hl
  exact k H locs hH hS ls (lv_sub hl ks h)
theorem tx_icmp_eq {off a b : Int} (tgt : Nat) (O : tx_O w own cc nL fr E) (hd : decode cc pc = .ok (.if_icmp .eq off, 3)) (ht : (pc : Int) + off = (tgt : Int)) (hr : rng a ∧ rng b) (kt : a = b → tx_X w E tgt lv st R M) (kf : ¬ a = b → tx_X w E (pc + 3) lv st R M) : tx_X w E pc lv (iV b :: iV a :: st) R M := by
  obtain ⟨p, e, Rm, s, m, args, below, meth, c, cells, slots, Z⟩ := E
  obtain ⟨hx, hb, hml, hown, hts, hK, hJ, hz, hlk, hfr, hlo, hce, hsl⟩ := O
  intro H locs hH hS ls hl
  have e1 := of_eq hr.1 hr.2
  have e2 := of_lt hr.1 hr.2
  have e3 := of_le hr.1 hr.2
  have e4 := of_lt hr.2 hr.1
  have e5 := of_le hr.2 hr.1
  refine lv_icmp_eq hx hb hd ht (fun q => kt ?_ H locs hH hS ls hl) (fun q => kf ?_ H locs hH hS ls hl)
  · simp only [e1, e2, e3, e4, e5, ne_eq] at q
    omega
  · simp only [e1, e2, e3, e4, e5, ne_eq] at q
    omega
theorem tx_if_eq {off a : Int} (tgt : Nat) (O : tx_O w own cc nL fr E) (hd : decode cc pc = .ok (.ifCond .eq off, 3)) (ht : (pc : Int) + off = (tgt : Int)) (hr : rng a) (kt : a = 0 → tx_X w E tgt lv st R M) (kf : ¬ a = 0 → tx_X w E (pc + 3) lv st R M) : tx_X w E pc lv (iV a :: st) R M := by
  obtain ⟨p, e, Rm, s, m, args, below, meth, c, cells, slots, Z⟩ := E
  obtain ⟨hx, hb, hml, hown, hts, hK, hJ, hz, hlk, hfr, hlo, hce, hsl⟩ := O
  intro H locs hH hS ls hl
  have h0 : rng 0 := ⟨by omega, by omega⟩
  have e1 := of_eq hr h0
  have e2 := of_lt hr h0
  have e3 := of_le hr h0
  have e4 := of_lt h0 hr
  have e5 := of_le h0 hr
  rw [of_0] at e1 e2 e3 e4 e5
  refine lv_if_eq hx hb hd ht (fun q => kt ?_ H locs hH hS ls hl) (fun q => kf ?_ H locs hH hS ls hl)
  · simp only [e1, e2, e3, e4, e5, ne_eq] at q
    omega
  · simp only [e1, e2, e3, e4, e5, ne_eq] at q
    omega
theorem tx_icmp_ne {off a b : Int} (tgt : Nat) (O : tx_O w own cc nL fr E) (hd : decode cc pc = .ok (.if_icmp .ne off, 3)) (ht : (pc : Int) + off = (tgt : Int)) (hr : rng a ∧ rng b) (kt : ¬ a = b → tx_X w E tgt lv st R M) (kf : a = b → tx_X w E (pc + 3) lv st R M) : tx_X w E pc lv (iV b :: iV a :: st) R M := by
  obtain ⟨p, e, Rm, s, m, args, below, meth, c, cells, slots, Z⟩ := E
  obtain ⟨hx, hb, hml, hown, hts, hK, hJ, hz, hlk, hfr, hlo, hce, hsl⟩ := O
  intro H locs hH hS ls hl
  have e1 := of_eq hr.1 hr.2
  have e2 := of_lt hr.1 hr.2
  have e3 := of_le hr.1 hr.2
  have e4 := of_lt hr.2 hr.1
  have e5 := of_le hr.2 hr.1
  refine lv_icmp_ne hx hb hd ht (fun q => kt ?_ H locs hH hS ls hl) (fun q => kf ?_ H locs hH hS ls hl)
  · simp only [e1, e2, e3, e4, e5, ne_eq] at q
    omega
  · simp only [e1, e2, e3, e4, e5, ne_eq] at q
    omega
theorem tx_if_ne {off a : Int} (tgt : Nat) (O : tx_O w own cc nL fr E) (hd : decode cc pc = .ok (.ifCond .ne off, 3)) (ht : (pc : Int) + off = (tgt : Int)) (hr : rng a) (kt : ¬ a = 0 → tx_X w E tgt lv st R M) (kf : a = 0 → tx_X w E (pc + 3) lv st R M) : tx_X w E pc lv (iV a :: st) R M := by
  obtain ⟨p, e, Rm, s, m, args, below, meth, c, cells, slots, Z⟩ := E
  obtain ⟨hx, hb, hml, hown, hts, hK, hJ, hz, hlk, hfr, hlo, hce, hsl⟩ := O
  intro H locs hH hS ls hl
  have h0 : rng 0 := ⟨by omega, by omega⟩
  have e1 := of_eq hr h0
  have e2 := of_lt hr h0
  have e3 := of_le hr h0
  have e4 := of_lt h0 hr
  have e5 := of_le h0 hr
  rw [of_0] at e1 e2 e3 e4 e5
  refine lv_if_ne hx hb hd ht (fun q => kt ?_ H locs hH hS ls hl) (fun q => kf ?_ H locs hH hS ls hl)
  · simp only [e1, e2, e3, e4, e5, ne_eq] at q
    omega
  · simp only [e1, e2, e3, e4, e5, ne_eq] at q
    omega
theorem tx_icmp_lt {off a b : Int} (tgt : Nat) (O : tx_O w own cc nL fr E) (hd : decode cc pc = .ok (.if_icmp .lt off, 3)) (ht : (pc : Int) + off = (tgt : Int)) (hr : rng a ∧ rng b) (kt : a < b → tx_X w E tgt lv st R M) (kf : b ≤ a → tx_X w E (pc + 3) lv st R M) : tx_X w E pc lv (iV b :: iV a :: st) R M := by
  obtain ⟨p, e, Rm, s, m, args, below, meth, c, cells, slots, Z⟩ := E
  obtain ⟨hx, hb, hml, hown, hts, hK, hJ, hz, hlk, hfr, hlo, hce, hsl⟩ := O
  intro H locs hH hS ls hl
  have e1 := of_eq hr.1 hr.2
  have e2 := of_lt hr.1 hr.2
  have e3 := of_le hr.1 hr.2
  have e4 := of_lt hr.2 hr.1
  have e5 := of_le hr.2 hr.1
  refine lv_icmp_lt hx hb hd ht (fun q => kt ?_ H locs hH hS ls hl) (fun q => kf ?_ H locs hH hS ls hl)
  · simp only [e1, e2, e3, e4, e5, ne_eq] at q
    omega
  · simp only [e1, e2, e3, e4, e5, ne_eq] at q
    omega
theorem tx_if_lt {off a : Int} (tgt : Nat) (O : tx_O w own cc nL fr E) (hd : decode cc pc = .ok (.ifCond .lt off, 3)) (ht : (pc : Int) + off = (tgt : Int)) (hr : rng a) (kt : a < 0 → tx_X w E tgt lv st R M) (kf : 0 ≤ a → tx_X w E (pc + 3) lv st R M) : tx_X w E pc lv (iV a :: st) R M := by
  obtain ⟨p, e, Rm, s, m, args, below, meth, c, cells, slots, Z⟩ := E
  obtain ⟨hx, hb, hml, hown, hts, hK, hJ, hz, hlk, hfr, hlo, hce, hsl⟩ := O
  intro H locs hH hS ls hl
  have h0 : rng 0 := ⟨by omega, by omega⟩
  have e1 := of_eq hr h0
  have e2 := of_lt hr h0
  have e3 := of_le hr h0
  have e4 := of_lt h0 hr
  have e5 := of_le h0 hr
  rw [of_0] at e1 e2 e3 e4 e5
  refine lv_if_lt hx hb hd ht (fun q => kt ?_ H locs hH hS ls hl) (fun q => kf ?_ H locs hH hS ls hl)
  · simp only [e1, e2, e3, e4, e5, ne_eq] at q
    omega
  · simp only [e1, e2, e3, e4, e5, ne_eq] at q
    omega
theorem tx_icmp_ge {off a b : Int} (tgt : Nat) (O : tx_O w own cc nL fr E) (hd : decode cc pc = .ok (.if_icmp .ge off, 3)) (ht : (pc : Int) + off = (tgt : Int)) (hr : rng a ∧ rng b) (kt : b ≤ a → tx_X w E tgt lv st R M) (kf : a < b → tx_X w E (pc + 3) lv st R M) : tx_X w E pc lv (iV b :: iV a :: st) R M := by
  obtain ⟨p, e, Rm, s, m, args, below, meth, c, cells, slots, Z⟩ := E
  obtain ⟨hx, hb, hml, hown, hts, hK, hJ, hz, hlk, hfr, hlo, hce, hsl⟩ := O
  intro H locs hH hS ls hl
  have e1 := of_eq hr.1 hr.2
  have e2 := of_lt hr.1 hr.2
  have e3 := of_le hr.1 hr.2
  have e4 := of_lt hr.2 hr.1
  have e5 := of_le hr.2 hr.1
  refine lv_icmp_ge hx hb hd ht (fun q => kt ?_ H locs hH hS ls hl) (fun q => kf ?_ H locs hH hS ls hl)
  · simp only [e1, e2, e3, e4, e5, ne_eq] at q
    omega
  · simp only [e1, e2, e3, e4, e5, ne_eq] at q
    omega
theorem tx_if_ge {off a : Int} (tgt : Nat) (O : tx_O w own cc nL fr E) (hd : decode cc pc = .ok (.ifCond .ge off, 3)) (ht : (pc : Int) + off = (tgt : Int)) (hr : rng a) (kt : 0 ≤ a → tx_X w E tgt lv st R M) (kf : a < 0 → tx_X w E (pc + 3) lv st R M) : tx_X w E pc lv (iV a :: st) R M := by
  obtain ⟨p, e, Rm, s, m, args, below, meth, c, cells, slots, Z⟩ := E
  obtain ⟨hx, hb, hml, hown, hts, hK, hJ, hz, hlk, hfr, hlo, hce, hsl⟩ := O
  intro H locs hH hS ls hl
  have h0 : rng 0 := ⟨by omega, by omega⟩
  have e1 := of_eq hr h0
  have e2 := of_lt hr h0
  have e3 := of_le hr h0
  have e4 := of_lt h0 hr
  have e5 := of_le h0 hr
  rw [of_0] at e1 e2 e3 e4 e5
  refine lv_if_ge hx hb hd ht (fun q => kt ?_ H locs hH hS ls hl) (fun q => kf ?_ H locs hH hS ls hl)
  · simp only [e1, e2, e3, e4, e5, ne_eq] at q
    omega
  · simp only [e1, e2, e3, e4, e5, ne_eq] at q
    omega
theorem tx_icmp_gt {off a b : Int} (tgt : Nat) (O : tx_O w own cc nL fr E) (hd : decode cc pc = .ok (.if_icmp .gt off, 3)) (ht : (pc : Int) + off = (tgt : Int)) (hr : rng a ∧ rng b) (kt : b < a → tx_X w E tgt lv st R M) (kf : a ≤ b → tx_X w E (pc + 3) lv st R M) : tx_X w E pc lv (iV b :: iV a :: st) R M := by
  obtain ⟨p, e, Rm, s, m, args, below, meth, c, cells, slots, Z⟩ := E
  obtain ⟨hx, hb, hml, hown, hts, hK, hJ, hz, hlk, hfr, hlo, hce, hsl⟩ := O
  intro H locs hH hS ls hl
  have e1 := of_eq hr.1 hr.2
  have e2 := of_lt hr.1 hr.2
  have e3 := of_le hr.1 hr.2
  have e4 := of_lt hr.2 hr.1
  have e5 := of_le hr.2 hr.1
  refine lv_icmp_gt hx hb hd ht (fun q => kt ?_ H locs hH hS ls hl) (fun q => kf ?_ H locs hH hS ls hl)
  · simp only [e1, e2, e3, e4, e5, ne_eq] at q
    omega
  · simp only [e1, e2, e3, e4, e5, ne_eq] at q
    omega
theorem tx_if_gt {off a : Int} (tgt : Nat) (O : tx_O w own cc nL fr E) (hd : decode cc pc = .ok (.ifCond .gt off, 3)) (ht : (pc : Int) + off = (tgt : Int)) (hr : rng a) (kt : 0 < a → tx_X w E tgt lv st R M) (kf : a ≤ 0 → tx_X w E (pc + 3) lv st R M) : tx_X w E pc lv (iV a :: st) R M := by
  obtain ⟨p, e, Rm, s, m, args, below, meth, c, cells, slots, Z⟩ := E
  obtain ⟨hx, hb, hml, hown, hts, hK, hJ, hz, hlk, hfr, hlo, hce, hsl⟩ := O
  intro H locs hH hS ls hl
  have h0 : rng 0 := ⟨by omega, by omega⟩
  have e1 := of_eq hr h0
  have e2 := of_lt hr h0
  have e3 := of_le hr h0
  have e4 := of_lt h0 hr
  have e5 := of_le h0 hr
  rw [of_0] at e1 e2 e3 e4 e5
  refine lv_if_gt hx hb hd ht (fun q => kt ?_ H locs hH hS ls hl) (fun q => kf ?_ H locs hH hS ls hl)
  · simp only [e1, e2, e3, e4, e5, ne_eq] at q
    omega
  · simp only [e1, e2, e3, e4, e5, ne_eq] at q
    omega
theorem tx_icmp_le {off a b : Int} (tgt : Nat) (O : tx_O w own cc nL fr E) (hd : decode cc pc = .ok (.if_icmp .le off, 3)) (ht : (pc : Int) + off = (tgt : Int)) (hr : rng a ∧ rng b) (kt : a ≤ b → tx_X w E tgt lv st R M) (kf : b < a → tx_X w E (pc + 3) lv st R M) : tx_X w E pc lv (iV b :: iV a :: st) R M := by
  obtain ⟨p, e, Rm, s, m, args, below, meth, c, cells, slots, Z⟩ := E
  obtain ⟨hx, hb, hml, hown, hts, hK, hJ, hz, hlk, hfr, hlo, hce, hsl⟩ := O
  intro H locs hH hS ls hl
  have e1 := of_eq hr.1 hr.2
  have e2 := of_lt hr.1 hr.2
  have e3 := of_le hr.1 hr.2
  have e4 := of_lt hr.2 hr.1
  have e5 := of_le hr.2 hr.1
  refine lv_icmp_le hx hb hd ht (fun q => kt ?_ H locs hH hS ls hl) (fun q => kf ?_ H locs hH hS ls hl)
  · simp only [e1, e2, e3, e4, e5, ne_eq] at q
    omega
  · simp only [e1, e2, e3, e4, e5, ne_eq] at q
    omega
theorem tx_if_le {off a : Int} (tgt : Nat) (O : tx_O w own cc nL fr E) (hd : decode cc pc = .ok (.ifCond .le off, 3)) (ht : (pc : Int) + off = (tgt : Int)) (hr : rng a) (kt : a ≤ 0 → tx_X w E tgt lv st R M) (kf : 0 < a → tx_X w E (pc + 3) lv st R M) : tx_X w E pc lv (iV a :: st) R M := by
  obtain ⟨p, e, Rm, s, m, args, below, meth, c, cells, slots, Z⟩ := E
  obtain ⟨hx, hb, hml, hown, hts, hK, hJ, hz, hlk, hfr, hlo, hce, hsl⟩ := O
  intro H locs hH hS ls hl
  have h0 : rng 0 := ⟨by omega, by omega⟩
  have e1 := of_eq hr h0
  have e2 := of_lt hr h0
  have e3 := of_le hr h0
  have e4 := of_lt h0 hr
  have e5 := of_le h0 hr
  rw [of_0] at e1 e2 e3 e4 e5
  refine lv_if_le hx hb hd ht (fun q => kt ?_ H locs hH hS ls hl) (fun q => kf ?_ H locs hH hS ls hl)
  · simp only [e1, e2, e3, e4, e5, ne_eq] at q
    omega
  · simp only [e1, e2, e3, e4, e5, ne_eq] at q
    omega
theorem tx_ifnull {off i : Int} (tgt : Nat) (O : tx_O w own cc nL fr E) (hd : decode cc pc = .ok (.ifnull off, 3)) (ht : (pc : Int) + off = (tgt : Int)) (kt : i = 0 → tx_X w E tgt lv st R M) (kf : i ≠ 0 → tx_X w E (pc + 3) lv st R M) : tx_X w E pc lv (rV (wa w) i :: st) R M := by
  obtain ⟨p, e, Rm, s, m, args, below, meth, c, cells, slots, Z⟩ := E
  obtain ⟨hx, hb, hml, hown, hts, hK, hJ, hz, hlk, hfr, hlo, hce, hsl⟩ := O
  intro H locs hH hS ls hl
  rcases rV_cases (wa w) i with ⟨h, ez⟩ | ⟨h, ez⟩
  · rw [ez]
    exact lv_ifnullN hx hb hd ht (kt h H locs hH hS ls hl)
  · rw [ez]
    exact lv_ifnull hx hb hd (kf h H locs hH hS ls hl)
theorem tx_ifnonnull {off i : Int} (tgt : Nat) (O : tx_O w own cc nL fr E) (hd : decode cc pc = .ok (.ifnonnull off, 3)) (ht : (pc : Int) + off = (tgt : Int)) (kt : i ≠ 0 → tx_X w E tgt lv st R M) (kf : i = 0 → tx_X w E (pc + 3) lv st R M) : tx_X w E pc lv (rV (wa w) i :: st) R M := by
  obtain ⟨p, e, Rm, s, m, args, below, meth, c, cells, slots, Z⟩ := E
  obtain ⟨hx, hb, hml, hown, hts, hK, hJ, hz, hlk, hfr, hlo, hce, hsl⟩ := O
  intro H locs hH hS ls hl
  rcases rV_cases (wa w) i with ⟨h, ez⟩ | ⟨h, ez⟩
  · rw [ez]
    exact lv_ifnonnullN hx hb hd (kf h H locs hH hS ls hl)
  · rw [ez]
    exact lv_ifnonnull hx hb hd ht (kt h H locs hH hS ls hl)
theorem tx_lookup {dflt z off : Int} {ps : Array (Int × Int)} {len : Nat} (tgt : Nat) (O : tx_O w own cc nL fr E) (hd : decode cc pc = .ok (.lookupswitch dflt ps, len)) (hp : (ps.toList.zip (ps.toList.drop 1)).all (fun (a, next) => a.1 < next.1) = true) (hr : rng z) (ho : Op.lookupswitch.offset ps.toList dflt z = off) (ht : (pc : Int) + off = (tgt : Int)) (k : tx_X w E tgt lv st R M) : tx_X w E pc lv (iV z :: st) R M := by
  obtain ⟨p, e, Rm, s, m, args, below, meth, c, cells, slots, Z⟩ := E
  obtain ⟨hx, hb, hml, hown, hts, hK, hJ, hz, hlk, hfr, hlo, hce, hsl⟩ := O
  intro H locs hH hS ls hl
  exact lv_lookup hx hb hd hp (by rw [rng_i hr]; exact ho) ht (k H locs hH hS ls hl)
theorem tx_tableIn {dflt lo hi z off : Int} {offs : Array Int} {len : Nat} (tgt : Nat) (O : tx_O w own cc nL fr E) (hd : decode cc pc = .ok (.tableswitch dflt lo hi offs, len)) (hr : rng z) (h1 : lo ≤ z) (h2 : z ≤ hi) (ho : offs[(z - lo).toNat]? = some off) (ht : (pc : Int) + off = (tgt : Int)) (k : tx_X w E tgt lv st R M) : tx_X w E pc lv (iV z :: st) R M := by
  obtain ⟨p, e, Rm, s, m, args, below, meth, c, cells, slots, Z⟩ := E
  obtain ⟨hx, hb, hml, hown, hts, hK, hJ, hz, hlk, hfr, hlo, hce, hsl⟩ := O
  intro H locs hH hS ls hl
  exact lv_tableIn hx hb hd (by rw [rng_i hr]; omega) (by rw [rng_i hr]; omega) (by rw [rng_i hr]; exact ho) ht (k H locs hH hS ls hl)
theorem tx_tableOut {dflt lo hi z : Int} {offs : Array Int} {len : Nat} (tgt : Nat) (O : tx_O w own cc nL fr E) (hd : decode cc pc = .ok (.tableswitch dflt lo hi offs, len)) (hr : rng z) (h1 : z < lo ∨ hi < z) (ht : (pc : Int) + dflt = (tgt : Int)) (k : tx_X w E tgt lv st R M) : tx_X w E pc lv (iV z :: st) R M := by
  obtain ⟨p, e, Rm, s, m, args, below, meth, c, cells, slots, Z⟩ := E
  obtain ⟨hx, hb, hml, hown, hts, hK, hJ, hz, hlk, hfr, hlo, hce, hsl⟩ := O
  intro H locs hH hS ls hl
  exact lv_tableOut hx hb hd (by rw [rng_i hr]; exact h1) ht (k H locs hH hS ls hl)
theorem tx_obj {i : Int} {ci n : Nat} {H : Heap} (hH : tx_H w R M H) (hs : tx_sh w i = (10 + ci, n)) : (tx_sh w i).1 ≠ 0 ∧ va_P (wD w) vwCl [(wa w i, .inr (ci, tx_fl w ci R M i))] H := by
  have h0 : (tx_sh w i).1 ≠ 0 := by rw [hs]; show 10 + ci ≠ 0; omega
  refine ⟨h0, ?_⟩
  have h1 := hH i h0
  rw [tx_ent_o hs] at h1
  intro k q hq
  match k, hq with
  | 0, hq => cases hq; exact h1
  | k + 1, hq => simp at hq
theorem tx_geti {i : Int} {ci n idx : Nat} {C : String} {T : u_T} {N : Nat} {ref nm ds : String} (k0 : Nat) (O : tx_O w own cc nL fr E) (hd : decode cc pc = .ok (.getfield idx, 3)) (hs : tx_sh w i = (10 + ci, n)) (hc : vwCl[ci]? = some (C, T, N)) (hk0 : k0 < N) (hT : (T k0).1 = ref ∧ (T k0).2.1 = nm ∧ (T k0).2.2.1 = ds) (hf : fI ci k0 = true) (hlink : Cond.fieldLink own idx ref nm ds ∈ lw_all) (k : tx_X w E (pc + 3) lv (iV (M i k0) :: st) R M) : tx_X w E pc lv (rV (wa w) i :: st) R M := by
  obtain ⟨p, e, Rm, s, m, args, below, meth, c, cells, slots, Z⟩ := E
  obtain ⟨hx, hb, hml, hown, hts, hK, hJ, hz, hlk, hfr, hlo, hce, hsl⟩ := O
  intro H locs hH hS ls hl
  obtain ⟨h0, hP⟩ := tx_obj hH hs
  obtain ⟨i1, i2, -, -⟩ := tx_in ci _ hc
  obtain ⟨rfl, rfl, rfl⟩ := hT
  rw [tx_ref h0]
  refine va_get (C := C) (T := T) (N := N) (ref := (T k0).1) hx hb hts i1 hown hK.1 hP 0 rfl hc k0 hk0 (hts _ hlink) (fun x h => h) (tx_fl_at (Nat.lt_of_lt_of_le hk0 i2)) hd ?_
  have k1 := k H locs hH hS ls hl
  simp only [tx_fv, hf, if_true]
  exact k1
theorem tx_getr {i : Int} {ci n idx : Nat} {C : String} {T : u_T} {N : Nat} {ref nm ds : String} (k0 : Nat) (O : tx_O w own cc nL fr E) (hd : decode cc pc = .ok (.getfield idx, 3)) (hs : tx_sh w i = (10 + ci, n)) (hc : vwCl[ci]? = some (C, T, N)) (hk0 : k0 < N) (hT : (T k0).1 = ref ∧ (T k0).2.1 = nm ∧ (T k0).2.2.1 = ds) (hf : fI ci k0 = false) (hlink : Cond.fieldLink own idx ref nm ds ∈ lw_all) (k : tx_X w E (pc + 3) lv (rV (wa w) (R i k0) :: st) R M) : tx_X w E pc lv (rV (wa w) i :: st) R M := by
  obtain ⟨p, e, Rm, s, m, args, below, meth, c, cells, slots, Z⟩ := E
  obtain ⟨hx, hb, hml, hown, hts, hK, hJ, hz, hlk, hfr, hlo, hce, hsl⟩ := O
  intro H locs hH hS ls hl
  obtain ⟨h0, hP⟩ := tx_obj hH hs
  obtain ⟨i1, i2, -, -⟩ := tx_in ci _ hc
  obtain ⟨rfl, rfl, rfl⟩ := hT
  rw [tx_ref h0]
  refine va_get (C := C) (T := T) (N := N) (ref := (T k0).1) hx hb hts i1 hown hK.1 hP 0 rfl hc k0 hk0 (hts _ hlink) (fun x h => h) (tx_fl_at (Nat.lt_of_lt_of_le hk0 i2)) hd ?_
  have k1 := k H locs hH hS ls hl
  simp only [tx_fv, hf]
  exact k1
theorem tx_puti {i v : Int} {ci n idx : Nat} {C : String} {T : u_T} {N : Nat} {ref nm ds : String} (k0 : Nat) (O : tx_O w own cc nL fr E) (hd : decode cc pc = .ok (.putfield idx, 3)) (hs : tx_sh w i = (10 + ci, n)) (hc : vwCl[ci]? = some (C, T, N)) (hk0 : k0 < N) (hT : (T k0).1 = ref ∧ (T k0).2.1 = nm ∧ (T k0).2.2.1 = ds) (hf : fI ci k0 = true) (hfin : (T k0).2.2.2 = false) (hlink : Cond.fieldLink own idx ref nm ds ∈ lw_all) (hn : narrow (tyC ci k0) (iV v) = iV v ∧ fits (tyC ci k0) (iV v) = true) (k : tx_X w E (pc + 3) lv st R (up M i k0 v)) : tx_X w E pc lv (iV v :: rV (wa w) i :: st) R M := by
  obtain ⟨p, e, Rm, s, m, args, below, meth, c, cells, slots, Z⟩ := E
  obtain ⟨hx, hb, hml, hown, hts, hK, hJ, hz, hlk, hfr, hlo, hce, hsl⟩ := O
  intro H locs hH hS ls hl
  obtain ⟨h0, hP⟩ := tx_obj hH hs
  obtain ⟨i1, i2, i3, i4⟩ := tx_in ci _ hc
  obtain ⟨rfl, rfl, rfl⟩ := hT
  have hap := va_apart (own := own) hts i1 (tyC ci) i3 i4 hK.1 hc
  obtain ⟨r, h1, cell, q1, q2, q3, q4⟩ := hP 0 _ rfl
  have hr : r = (C, T, N) := Option.some.inj (h1.symm.trans hc)
  subst hr
  obtain ⟨hSl, hfc, kC, hkC, hkind⟩ := hK.1.1 ci _ hc
  obtain ⟨cf, kf, fi, f, hi, hsl2⟩ := hSl k0 hk0
  have hlay := hts _ (i1 _ (u_in_lay hk0))
  unfold u_lay at hlay
  rw [if_neg (by rw [hfin]; decide)] at hlay
  have hst := (u_facts hfc hkC (u_lays hts i1 hk0) hi).1
  have h6 := u_store hfc hkC hkind hlay hi (i3 k0 hk0) hn.1 hn.2
  rw [tx_ref h0]
  refine W.putK hx hb (f := f) ⟨hown, hts _ hlink, ⟨_, _, _, hi⟩, hst⟩ (by rw [q2]; exact h6) q1 q3 (by rw [hsl2]; exact k2_hasslot (q4 k0 hk0)) rfl rfl hd fun H' e1 e2 e3 => ?_
  rw [hsl2] at e1 ⊢
  refine k H' _ (hH.set (i := i) hJ h0 ?_ (fun j hj => up_ent hj) e3) (hS.put e2 e3 (hJ.2.1 i h0)) ls hl
  rw [tx_ent_o hs]
  refine ⟨_, hc, t_OB.to (V := updV (vp_V (tx_fl w ci R M i)) k0 (iV v)) ⟨_, e1, q2, q3, t_set q4 hap hk0 (iV v)⟩ (fun j hj => ?_)⟩
  have hj2 : j < 26 := Nat.lt_of_lt_of_le hj i2
  have hk2 : k0 < 26 := Nat.lt_of_lt_of_le hk0 i2
  simp only [updV, vp_V, List.getD_eq_getElem?_getD, tx_fl_at hj2, Option.getD_some]
  by_cases e0 : j = k0
  · subst e0
    simp [tx_fv, hf, up]
  · have e9 : ¬ ((j : Int) = (k0 : Int)) := by omega
    simp [e0, tx_fv, up, e9]
theorem tx_arr {i : Int} {kd n : Nat} {H : Heap} (hH : tx_H w R M H) (hs : tx_sh w i = (kd, n)) (h1 : 1 ≤ kd ∧ kd ≤ 4) : (tx_sh w i).1 ≠ 0 ∧ va_P (wD w) vwCl [(wa w i, .inl (wc w kd, (n, .inl (fun j : Nat => Int32.ofInt (M i j)))))] H := by
  have h0 : (tx_sh w i).1 ≠ 0 := by rw [hs]; show kd ≠ 0; omega
  refine ⟨h0, ?_⟩
  have h2 := hH i h0
  rw [tx_ent_p hs h1.2] at h2
  intro k q hq
  match k, hq with
  | 0, hq => cases hq; exact h2
  | k + 1, hq => simp at hq
theorem tx_arq {i : Int} {kd n : Nat} {H : Heap} (hH : tx_H w R M H) (hs : tx_sh w i = (kd, n)) (h1 : 5 ≤ kd ∧ kd ≤ 9) : (tx_sh w i).1 ≠ 0 ∧ va_P (wD w) vwCl [(wa w i, .inl (wc w kd, (n, .inr (.inr (.inr (.inr (fun j : Nat => rF (wa w) (R i j))))))))] H := by
  have h0 : (tx_sh w i).1 ≠ 0 := by rw [hs]; show kd ≠ 0; omega
  refine ⟨h0, ?_⟩
  have h2 := hH i h0
  rw [tx_ent_q hs (by omega) h1.2] at h2
  intro k q hq
  match k, hq with
  | 0, hq => cases hq; exact h2
  | k + 1, hq => simp at hq
theorem tx_len (hJ : tx_J w) {i : Int} {kd n : Nat} (hs : tx_sh w i = (kd, n)) : n < 2147483648 := by
  have := hJ.2.2 i
  rw [hs] at this
  exact this
theorem toNat_M {M : TM} {i j : Int} (h : 0 ≤ j) : M i ((j.toNat : Nat) : Int) = M i j := by rw [Int.toNat_of_nonneg h]
theorem tx_iald {i j : Int} (n : Nat) (O : tx_O w own cc nL fr E) (hd : decode cc pc = .ok (.iaload, 1)) (hs : tx_sh w i = (1, n)) (hj : 0 ≤ j ∧ j < n) (k : tx_X w E (pc + 1) lv (iV (M i j) :: st) R M) : tx_X w E pc lv (iV j :: rV (wa w) i :: st) R M := by
  obtain ⟨p, e, Rm, s, m, args, below, meth, c, cells, slots, Z⟩ := E
  obtain ⟨hx, hb, hml, hown, hts, hK, hJ, hz, hlk, hfr, hlo, hce, hsl⟩ := O
  intro H locs hH hS ls hl
  obtain ⟨h0, hP⟩ := tx_arr hH hs (by omega)
  obtain ⟨g1, g2⟩ := of_in hj (tx_len hJ hs)
  rw [tx_ref h0]
  refine va_iald hx hb hK.1 hP 0 1 rfl (tx_ty_at (wc w) (by omega)) g1 hd ?_
  rw [g2, Int.toNat_of_nonneg hj.1]
  exact k H locs hH hS ls hl
theorem tx_zald {i j : Int} (n : Nat) (O : tx_O w own cc nL fr E) (hd : decode cc pc = .ok (.baload, 1)) (hs : tx_sh w i = (2, n)) (hj : 0 ≤ j ∧ j < n) (k : tx_X w E (pc + 1) lv (iV (M i j) :: st) R M) : tx_X w E pc lv (iV j :: rV (wa w) i :: st) R M := by
  obtain ⟨p, e, Rm, s, m, args, below, meth, c, cells, slots, Z⟩ := E
  obtain ⟨hx, hb, hml, hown, hts, hK, hJ, hz, hlk, hfr, hlo, hce, hsl⟩ := O
  intro H locs hH hS ls hl
  obtain ⟨h0, hP⟩ := tx_arr hH hs (by omega)
  obtain ⟨g1, g2⟩ := of_in hj (tx_len hJ hs)
  rw [tx_ref h0]
  refine va_zald hx hb hK.1 hP 0 2 rfl (tx_ty_at (wc w) (by omega)) g1 hd ?_
  rw [g2, Int.toNat_of_nonneg hj.1]
  exact k H locs hH hS ls hl
theorem tx_bald {i j : Int} (n : Nat) (O : tx_O w own cc nL fr E) (hd : decode cc pc = .ok (.baload, 1)) (hs : tx_sh w i = (3, n)) (hj : 0 ≤ j ∧ j < n) (k : tx_X w E (pc + 1) lv (iV (M i j) :: st) R M) : tx_X w E pc lv (iV j :: rV (wa w) i :: st) R M := by
  obtain ⟨p, e, Rm, s, m, args, below, meth, c, cells, slots, Z⟩ := E
  obtain ⟨hx, hb, hml, hown, hts, hK, hJ, hz, hlk, hfr, hlo, hce, hsl⟩ := O
  intro H locs hH hS ls hl
  obtain ⟨h0, hP⟩ := tx_arr hH hs (by omega)
  obtain ⟨g1, g2⟩ := of_in hj (tx_len hJ hs)
  rw [tx_ref h0]
  refine va_bald hx hb hK.1 hP 0 3 rfl (tx_ty_at (wc w) (by omega)) g1 hd ?_
  rw [g2, Int.toNat_of_nonneg hj.1]
  exact k H locs hH hS ls hl
theorem tx_sald {i j : Int} (n : Nat) (O : tx_O w own cc nL fr E) (hd : decode cc pc = .ok (.saload, 1)) (hs : tx_sh w i = (4, n)) (hj : 0 ≤ j ∧ j < n) (k : tx_X w E (pc + 1) lv (iV (M i j) :: st) R M) : tx_X w E pc lv (iV j :: rV (wa w) i :: st) R M := by
  obtain ⟨p, e, Rm, s, m, args, below, meth, c, cells, slots, Z⟩ := E
  obtain ⟨hx, hb, hml, hown, hts, hK, hJ, hz, hlk, hfr, hlo, hce, hsl⟩ := O
  intro H locs hH hS ls hl
  obtain ⟨h0, hP⟩ := tx_arr hH hs (by omega)
  obtain ⟨g1, g2⟩ := of_in hj (tx_len hJ hs)
  rw [tx_ref h0]
  refine va_sald hx hb hK.1 hP 0 4 rfl (tx_ty_at (wc w) (by omega)) g1 hd ?_
  rw [g2, Int.toNat_of_nonneg hj.1]
  exact k H locs hH hS ls hl
theorem tx_alen {i : Int} (kd n : Nat) (O : tx_O w own cc nL fr E) (hd : decode cc pc = .ok (.arraylength, 1)) (hs : tx_sh w i = (kd, n)) (hk : 1 ≤ kd ∧ kd ≤ 4) (k : tx_X w E (pc + 1) lv (iV n :: st) R M) : tx_X w E pc lv (rV (wa w) i :: st) R M := by
  obtain ⟨p, e, Rm, s, m, args, below, meth, c, cells, slots, Z⟩ := E
  obtain ⟨hx, hb, hml, hown, hts, hK, hJ, hz, hlk, hfr, hlo, hce, hsl⟩ := O
  intro H locs hH hS ls hl
  obtain ⟨h0, hP⟩ := tx_arr hH hs hk
  rw [tx_ref h0]
  exact va_alen (v := Int32.ofInt (n : Int)) hx hb hK.1 hP 0 kd rfl (tx_ty_at (wc w) (by omega)) Int32.ofInt_eq_ofNat.symm hd (k H locs hH hS ls hl)
theorem aty_ref {kd : Nat} (h : 5 ≤ kd ∧ kd ≤ 9) : (aty kd).isReference = true := by
  have : kd = 5 ∨ kd = 6 ∨ kd = 7 ∨ kd = 8 ∨ kd = 9 := by omega
  rcases this with e | e | e | e | e <;> subst e <;> rfl
theorem tx_aald {i j : Int} (kd n : Nat) (O : tx_O w own cc nL fr E) (hd : decode cc pc = .ok (.aaload, 1)) (hs : tx_sh w i = (kd, n)) (hk : 5 ≤ kd ∧ kd ≤ 9) (hj : 0 ≤ j ∧ j < n) (k : tx_X w E (pc + 1) lv (rV (wa w) (R i j) :: st) R M) : tx_X w E pc lv (iV j :: rV (wa w) i :: st) R M := by
  obtain ⟨p, e, Rm, s, m, args, below, meth, c, cells, slots, Z⟩ := E
  obtain ⟨hx, hb, hml, hown, hts, hK, hJ, hz, hlk, hfr, hlo, hce, hsl⟩ := O
  intro H locs hH hS ls hl
  obtain ⟨h0, hP⟩ := tx_arq hH hs hk
  obtain ⟨g1, g2⟩ := of_in hj (tx_len hJ hs)
  rw [tx_ref h0]
  have hlt : (Int32.ofInt j).toNatClampNeg < n := Nat.not_le.mp fun q => g1 (Or.inr q)
  refine W.aald (v := va_rf (rF (wa w) (R i ((Int32.ofInt j).toNatClampNeg : Nat)))) (ty := aty kd) hx hb (hP 0 _ rfl) ((hK.1.2 kd _ (tx_ty_at (wc w) (by omega))).1 n (fun q => va_rf (rF (wa w) (R i (q : Nat))))) (aty_ref hk) (fun q => by cases q) (by show ¬ (Int32.ofInt j < 0 ∨ (arrV _ _ _).slots.size ≤ _); rw [arrV_size]; exact g1) (by show (arrV _ _ _).slots[_]? = _; rw [arrV_read _ _ hlt]) rfl rfl hd ?_
  rw [g2, Int.toNat_of_nonneg hj.1]
  exact k H locs hH hS ls hl
theorem tx_iast {i j v : Int} (n : Nat) (O : tx_O w own cc nL fr E) (hd : decode cc pc = .ok (.iastore, 1)) (hs : tx_sh w i = (1, n)) (hj : 0 ≤ j ∧ j < n) (k : tx_X w E (pc + 1) lv st R (up M i j v)) : tx_X w E pc lv (iV v :: iV j :: rV (wa w) i :: st) R M := by
  obtain ⟨p, e, Rm, s, m, args, below, meth, c, cells, slots, Z⟩ := E
  obtain ⟨hx, hb, hml, hown, hts, hK, hJ, hz, hlk, hfr, hlo, hce, hsl⟩ := O
  intro H locs hH hS ls hl
  obtain ⟨h0, hP⟩ := tx_arr hH hs (by omega)
  obtain ⟨g1, g2⟩ := of_in hj (tx_len hJ hs)
  rw [tx_ref h0]
  refine W.iast hx hb (hP 0 _ rfl) ((hK.1.2 1 _ (tx_ty_at (wc w) (by omega))).1 n (fun q => .int (Int32.ofInt (M i (q : Nat))))) (fun q => by cases q) (by show ¬ (Int32.ofInt j < 0 ∨ (arrV _ _ _).slots.size ≤ _); rw [arrV_size]; exact g1) rfl rfl hd fun H1 e1 z oq => ?_
  refine k H1 _ (hH.set (i := i) hJ h0 ?_ (fun a ha => up_ent ha) oq) (hS.put z oq (hJ.2.1 i h0)) ls hl
  rw [tx_ent_p hs (by omega)]
  show H1[wa w i]? = some (vp_cell _ _)
  rw [e1, vp_cell_i, vp_cell_i, arrV_store, g2]
  congr 2
  funext q
  by_cases hq : q = j.toNat
  · have : (q : Int) = j := by omega
    simp [updV, hq, up, Int.toNat_of_nonneg hj.1]
  · have : ¬ ((q : Int) = j) := by omega
    simp [updV, up, hq, this]
theorem nar_z {v : Int} (h : v = 0 ∨ v = 1) : narrow .boolean (.int (Int32.ofInt v)) = .int (Int32.ofInt v) := by
  rcases h with e | e <;> subst e <;> rfl
theorem tx_zast {i j v : Int} (n : Nat) (O : tx_O w own cc nL fr E) (hd : decode cc pc = .ok (.bastore, 1)) (hs : tx_sh w i = (2, n)) (hj : 0 ≤ j ∧ j < n) (hv : v = 0 ∨ v = 1) (k : tx_X w E (pc + 1) lv st R (up M i j v)) : tx_X w E pc lv (iV v :: iV j :: rV (wa w) i :: st) R M := by
  obtain ⟨p, e, Rm, s, m, args, below, meth, c, cells, slots, Z⟩ := E
  obtain ⟨hx, hb, hml, hown, hts, hK, hJ, hz, hlk, hfr, hlo, hce, hsl⟩ := O
  intro H locs hH hS ls hl
  obtain ⟨h0, hP⟩ := tx_arr hH hs (by omega)
  obtain ⟨g1, g2⟩ := of_in hj (tx_len hJ hs)
  rw [tx_ref h0]
  refine W.zast hx hb (hP 0 _ rfl) ((hK.1.2 2 _ (tx_ty_at (wc w) (by omega))).1 n (fun q => .int (Int32.ofInt (M i (q : Nat))))) (fun q => by cases q) (by show ¬ (Int32.ofInt j < 0 ∨ (arrV _ _ _).slots.size ≤ _); rw [arrV_size]; exact g1) rfl rfl hd fun H1 e1 z oq => ?_
  refine k H1 _ (hH.set (i := i) hJ h0 ?_ (fun a ha => up_ent ha) oq) (hS.put z oq (hJ.2.1 i h0)) ls hl
  rw [tx_ent_p hs (by omega)]
  show H1[wa w i]? = some (vp_cell _ _)
  rw [e1, vp_cell_i, vp_cell_i, nar_z hv, arrV_store, g2]
  congr 2
  funext q
  by_cases hq : q = j.toNat
  · have : (q : Int) = j := by omega
    simp [updV, hq, up, Int.toNat_of_nonneg hj.1]
  · have : ¬ ((q : Int) = j) := by omega
    simp [updV, up, hq, this]
theorem tx_end {Q : Option Value → TM → TM → Prop} {s t : State} {H : Heap} {locs : List Loc} {v : Option Value} {args : Array Value} (hH : tx_H w R M H) (hS : va_S (tx_A w) s.heap H locs) (ht : t.heap = H) (h : Q v R M) : tx_Q w Q args s (.returned v) t := ⟨⟨v, R, M, rfl, h, by rw [ht]; exact hH⟩, hS.F ht⟩
theorem tx_iret {Q : Option Value → TM → TM → Prop} {z : Int} (O : tx_O w own cc nL fr E) (F : tx_Z w (some .int) Q E) (hd : decode cc pc = .ok (.ireturn, 1)) (h : Q (some (iV z)) R M) : tx_X w E pc lv [iV z] R M := by
  obtain ⟨p, e, Rm, s, m, args, below, meth, c, cells, slots, Z⟩ := E
  obtain ⟨hx, hb, hml, hown, hts, hK, hJ, hz, hlk, hfr, hlo, hce, hsl⟩ := O
  intro H locs hH hS ls hl
  obtain ⟨rfl, hr, rfl, rfl⟩ := F
  exact W.iret hx hb hr (fun t ht hW => tx_end hH hS ht h) hS.2.2 hd
theorem tx_zret {Q : Option Value → TM → TM → Prop} {z : Int} (O : tx_O w own cc nL fr E) (F : tx_Z w (some .boolean) Q E) (hd : decode cc pc = .ok (.ireturn, 1)) (hz : z = 0 ∨ z = 1) (h : Q (some (iV z)) R M) : tx_X w E pc lv [iV z] R M := by
  obtain ⟨p, e, Rm, s, m, args, below, meth, c, cells, slots, Z⟩ := E
  obtain ⟨hx, hb, hml, hown, hts, hK, hJ, hz1, hlk, hfr, hlo, hce, hsl⟩ := O
  intro H locs hH hS ls hl
  obtain ⟨rfl, hr, rfl, rfl⟩ := F
  exact W.zret hx hb hr (nar_z hz) (fun t ht hW => tx_end hH hS ht h) hS.2.2 hd
theorem tx_lret {Q : Option Value → TM → TM → Prop} {z : Int} (O : tx_O w own cc nL fr E) (F : tx_Z w (some .long) Q E) (hd : decode cc pc = .ok (.lreturn, 1)) (h : Q (some (lV z)) R M) : tx_X w E pc lv [lV z] R M := by
  obtain ⟨p, e, Rm, s, m, args, below, meth, c, cells, slots, Z⟩ := E
  obtain ⟨hx, hb, hml, hown, hts, hK, hJ, hz, hlk, hfr, hlo, hce, hsl⟩ := O
  intro H locs hH hS ls hl
  obtain ⟨rfl, hr, rfl, rfl⟩ := F
  exact W.lret hx hb hr (fun t ht hW => tx_end hH hS ht h) hS.2.2 hd
theorem tx_vret {Q : Option Value → TM → TM → Prop} (O : tx_O w own cc nL fr E) (F : tx_Z w none Q E) (hd : decode cc pc = .ok (.return_, 1)) (h : Q none R M) : tx_X w E pc lv [] R M := by
  obtain ⟨p, e, Rm, s, m, args, below, meth, c, cells, slots, Z⟩ := E
  obtain ⟨hx, hb, hml, hown, hts, hK, hJ, hz, hlk, hfr, hlo, hce, hsl⟩ := O
  intro H locs hH hS ls hl
  obtain ⟨rfl, hr, rfl, rfl⟩ := F
  exact W.vret hx hb hr (fun t ht hW => tx_end hH hS ht h) hS.2.2 hd
end BASE2
theorem tx_S.of {w : WT} {y : MethodName} {b : ByteArray} {L : Nat} {ret : Option FieldType} {fr : Nat} {as : List Value} {R M : TM} {Q : Option Value → TM → TM → Prop} {lv : List (Nat × Value)} (hy : plainName y.cls = true) (hlen : (lg_sl as).length ≤ L) (hlv : lv_args 0 as = lv) (h : ∀ E : ET, tx_O w y.cls b L fr E → tx_Z w ret Q E → tx_X w E 0 lv [] R M) : tx_S w y b L ret fr as R M Q := by
  refine Met.ofW (cc := b) (maxL := L) (ret := ret) hy rfl ?_
  intro p e s m args below meth c s₁ B hml hv
  obtain ⟨rfl, hH, hK, hJ, hz⟩ := hv
  have hts := atoms_spec (ws := ws_ y b L ret) B.pre
  have hts : ∀ x ∈ lw_all, x.before _ s = true := fun x h => hts x (List.mem_cons_of_mem _ h)
  have hown : s.vm.findClass y.cls = some m.cls := findClass_of_methodNamed B.named
  have hl := lv_entry as (n := L) hlen
  rw [lg_entry_eq]
  generalize (lg_sl as ++ List.replicate (L - (lg_sl as).length) Slot.unset).toArray = ls at hl ⊢
  rw [hlv] at hl
  exact h (p, e, (headSpec (ws_ y b L ret) { frames := fr, cells := 0, slots := 0, locals := 64 * fr }).room, s, m, as.toArray, below, meth, c, 0, 0, MQ below (tx_Q w Q) as.toArray s 0 0 (tx_A w)) ⟨B.exec, B.bytes, hml, hown, hts, hK, hJ, hz, B.notSynchronized, Nat.le_refl _, Nat.le_refl _, Nat.le_refl _, Nat.le_refl _⟩ ⟨rfl, B.returns, rfl, rfl⟩ s.heap [] hH va_S.rf ls (by rw [hml]; exact hl)
