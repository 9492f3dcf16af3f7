/-! THROWS: what a throw asks beside the tables' words, carried along -/
set_option maxRecDepth 100000
def ncL : List (String × String) := [("[I", "[B"), ("[I", "[S"), ("[B", "[S"), ("[B", "[I"), ("[S", "[B"), ("[S", "[I"), ("java/lang/ClassCastException", "java/lang/NullPointerException"), ("java/lang/ArrayIndexOutOfBoundsException", "java/lang/NullPointerException"), ("java/lang/ArrayIndexOutOfBoundsException", "java/lang/ClassCastException")]
/-- a static that holds a reference or null; its cell is older than the law's call -/
def tx_st (w : WT) (U : State) (O f d : String) : Prop := ∃ c k i fd a cell, U.vm.findClass O = some c ∧ U.fieldFound? O f d = some (c, k, i, fd) ∧ fd.isStatic = true ∧ k.statics = some a ∧ U.heap[a]? = some cell ∧ cell.vm.isStatics = true ∧ cell.cls = c ∧ fd.slot < cell.slots.size ∧ k.staticTypes[fd.slot]? = some fd.type ∧ a < wz w ∧ ∃ r : RefV, cell.slots[fd.slot]? = some r.v
def tx_B (w : WT) (U : State) : Prop := (∀ q ∈ ncL, (Cond.not (.castable q.1 q.2)).before #[] U = true) ∧ modulesRight_1 U = true ∧ tx_st w U "java/lang/Throwable" "UNASSIGNED_STACK" "[Ljava/lang/StackTraceElement;" ∧ tx_st w U "java/lang/Throwable" "SUPPRESSED_SENTINEL" "Ljava/util/List;" ∧ (wl w).stackTraces = false
theorem tx_st.lays {w : WT} {U : State} {O f d : String} (h : tx_st w U O f d) (args : Array Value) : (Cond.laysStatic O f d).before args U = true := by
  obtain ⟨c, k, i, fd, a, cell, h1, h2, h3, h4, h5, h6, h7, h8, h9, -⟩ := h
  simp [Cond.before, Cond.holds, Cond.value, h1, h2, h3, h4, h5, h6, h7, h8, h9]
theorem tx_st.isRef {w : WT} {U : State} {O f d : String} (h : tx_st w U O f d) (args : Array Value) : (Cond.isRef (.static O f d)).before args U = true := by
  obtain ⟨c, k, i, fd, a, cell, h1, h2, h3, h4, h5, h6, h7, h8, h9, h10, r, h11⟩ := h
  have he : (Term.static O f d).eval args U none [] U = some r.v := by
    simp [Term.eval, State.fieldNamed?, h2, h3, h4, h5, h6, h11]
  simp only [Cond.before, Cond.holds, Cond.value, he]
  obtain ⟨v, hv⟩ := r
  cases v <;> simp [Value.isRef] at hv <;> rfl
theorem tx_st.moved {w : WT} {s U : State} {O f d : String} (h : tx_st w s O f d) (hW : s.WarmedH U.vm) (hH : ∀ q : Nat, q < wz w → U.heap[q]? = s.heap[q]?) : tx_st w U O f d := by
  obtain ⟨c, k, i, fd, a, cell, h1, h2, h3, h4, h5, h6, h7, h8, h9, h10, r, h11⟩ := h
  obtain ⟨k', hk', he⟩ := State.fieldFound?_setVm hW.alike h2
  refine ⟨c, k', i, fd, a, cell, ?_, hk', h3, by rw [he]; exact h4, by rw [hH a h10]; exact h5, h6, h7, h8, by rw [he]; exact h9, h10, r, h11⟩
  rw [hW.alike.findClass]; exact h1
theorem nc_moved {args args' : Array Value} {s U : State} (hal : s.vm.Alike U.vm) {a b : String} (h : (Cond.not (.castable a b)).before args s = true) : (Cond.not (.castable a b)).before args' U = true := by
  simp only [Cond.before, Cond.holds, Cond.value, hal.findClass, hal.assignable] at h ⊢
  exact h
theorem nc_spec {args : Array Value} {s : State} {a b : String} (h : (Cond.not (.castable a b)).before args s = true) : ∃ c t, s.vm.findClass a = some c ∧ s.vm.findClass b = some t ∧ s.vm.assignable c t = false := by
  simp only [Cond.before, Cond.holds, Cond.value] at h
  cases h1 : s.vm.findClass a with
  | none => simp [h1] at h
  | some c =>
    cases h2 : s.vm.findClass b with
    | none => simp [h1, h2] at h
    | some t => exact ⟨c, t, rfl, rfl, by simpa [h1, h2] using h⟩
theorem al_modules {a b : Vm} (h : a.Alike b) : b.modules = a.modules := by rw [h.1]
theorem tx_B.moved {w : WT} {s U : State} (h : tx_B w s) (hW : s.WarmedH U.vm) (hH : ∀ q : Nat, q < wz w → U.heap[q]? = s.heap[q]?) : tx_B w U := by
  obtain ⟨h1, h2, h3, h4, h5⟩ := h
  refine ⟨fun q hq => ?_, ?_, h3.moved hW hH, h4.moved hW hH, h5⟩
  · exact nc_moved hW.alike (h1 q hq)
  · unfold modulesRight_1 at h2 ⊢
    rw [al_modules hW.alike]; exact h2
theorem tx_B.nc {w : WT} {U : State} (h : tx_B w U) {a b : String} (hq : (a, b) ∈ ncL) : ∃ c t, U.vm.findClass a = some c ∧ U.vm.findClass b = some t ∧ U.vm.assignable c t = false := nc_spec (h.1 _ hq)
/-- at any point of a walk the older cells are as they were -/
theorem tx_old {w : WT} {s : State} {H : Heap} {locs : List Loc} (hS : va_S (tx_A w) s.heap H locs) (hz : wz w ≤ s.heap.size) : ∀ q : Nat, q < wz w → H[q]? = s.heap[q]? := fun q hq => hS.2.1 q (by omega) (by show ¬ wz w ≤ q; omega)
