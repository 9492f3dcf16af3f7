/-! CONSTRUCTION: multianewarray of two dimensions, as one row -/
set_option maxRecDepth 100000
/-- the outer array when m inner ones are in it -/
def mnC (cA : ClassId) (N b m : Nat) : Cell := arrV cA N (fun j => if j < m then .ref (b + 1 + j) else .null)
def mnU (T : State) (cA cI : ClassId) (N K : Nat) (dv : Value) : Nat → State
  | 0 => T.pushCell (mnC cA N T.heap.size 0)
  | m + 1 => ((mnU T cA cI N K dv m).pushCell (arrV cI K (fun _ => dv))).setCell T.heap.size (mnC cA N T.heap.size (m + 1))
theorem arr_ext {cA : ClassId} {N : Nat} {f g : Nat → Value} (h : ∀ q, q < N → f q = g q) : arrV cA N f = arrV cA N g := by
  unfold arrV
  congr 1
  congr 1
  funext q
  exact h q.val q.isLt
theorem mnC_set {cA : ClassId} {N b m : Nat} : (mnC cA N b m).setSlot m (.ref (b + 1 + m)) = mnC cA N b (m + 1) := by
  unfold mnC
  rw [arrV_store]
  congr 1
  funext j
  unfold updV
  by_cases e : j = m
  · rw [if_pos e, if_pos (by omega), e]
  · rw [if_neg e]
    dsimp only
    by_cases h : j < m
    · rw [if_pos h, if_pos (by omega)]
    · rw [if_neg h, if_neg (by omega)]
section MN
variable {T : State} {cA cI : ClassId} {N K : Nat} {dv : Value}
theorem mnU_facts (m : Nat) : (mnU T cA cI N K dv m).heap.size = T.heap.size + 1 + m ∧ (mnU T cA cI N K dv m).heap[T.heap.size]? = some (mnC cA N T.heap.size m) ∧ (mnU T cA cI N K dv m).vm = T.vm ∧ (∀ q : Nat, q < T.heap.size → (mnU T cA cI N K dv m).heap[q]? = T.heap[q]?) ∧ ∀ j : Nat, j < m → (mnU T cA cI N K dv m).heap[T.heap.size + 1 + j]? = some (arrV cI K (fun _ => dv)) := by
  induction m with
  | zero =>
    refine ⟨?_, ?_, rfl, fun q hq => ?_, fun j hj => absurd hj (Nat.not_lt_zero _)⟩
    · show (T.heap.push _).size = _
      simp
    · show (T.heap.push _)[T.heap.size]? = _
      simp
    · show (T.heap.push _)[q]? = _
      rw [Array.getElem?_push, if_neg (Nat.ne_of_lt hq)]
  | succ m ih =>
    obtain ⟨h1, h2, h3, h4, h5⟩ := ih
    have hb : T.heap.size < ((mnU T cA cI N K dv m).pushCell (arrV cI K (fun _ => dv))).heap.size := by
      show _ < ((mnU T cA cI N K dv m).heap.push _).size
      rw [Array.size_push]; omega
    have ho : ∀ q : Nat, q ≠ T.heap.size → (mnU T cA cI N K dv (m + 1)).heap[q]? = ((mnU T cA cI N K dv m).heap.push (arrV cI K (fun _ => dv)))[q]? := fun q hq => heapAt_setCell_ne _ (Ne.symm hq)
    refine ⟨?_, heapAt_setCell_self _ hb, h3, fun q hq => ?_, fun j hj => ?_⟩
    · show ((((mnU T cA cI N K dv m).pushCell (arrV cI K (fun _ => dv))).setCell T.heap.size _).heap).size = _
      rw [size_setCell, size_pushCell, h1]; omega
    · rw [ho q (by omega), Array.getElem?_push, if_neg (by omega)]
      exact h4 q hq
    · rw [ho _ (by omega), Array.getElem?_push]
      by_cases e : j = m
      · rw [if_pos (by omega)]
      · rw [if_neg (by omega)]
        exact h5 j (by omega)
theorem mnU_top (f : JFrame) (m : Nat) : mnU (T.setTop f) cA cI N K dv m = (mnU T cA cI N K dv m).setTop f := by
  induction m with
  | zero => rfl
  | succ m ih => simp only [mnU, ih, State.heap_setTop, State.pushCell_setTop, State.setCell_setTop]
end MN
section MNW
variable {E : CtlPost} {e : Env} {d : Bool} {acts : List Action} {s : State}
theorem mn_inner {cI cc : ClassId} {kI : Class} {ty : FieldType} {z : Int32} {K : Nat} {dv : Value} (hk : s.vm.classes[cI]? = some kI) (hkind : kI.kind = .array cc ty) (hz : ¬ z < 0) (hK : z.toNatClampNeg = K) (hl : ¬ K > e.platform.arrayLengthLimit) (hh : ¬ K * componentBytes ty > e.platform.maxHeapBytes) (hdv : defaultValue ty = dv) (hfit : fits ty dv = true) (h1 : s.heap.size < e.platform.maxCells) (h2 : s.slotsUsed + K ≤ e.platform.maxSlots) {Q : Addr → Pre} (hq : ∀ acts', Q s.heap.size d acts' (s.pushCell (arrV cI K (fun _ => dv)))) : wp (Op.multianewarray.make cI [z]) Q E e d acts s := by
  subst hK hdv
  rw [Op.multianewarray.make]
  simp only [wp_bind', W.ite, hz, if_false, wp_pure', W.theClass, hk, hkind, Option.some.injEq, exists_eq_left']
  refine W.newArray_of hk hkind hl hh h1 h2 hfit (fun acts' => ?_)
  have := hq acts'
  rw [← arrV_new] at this
  exact this
theorem mn_outer {cA cI cc : ClassId} {kA kI : Class} {t0 ty : FieldType} {y z : Int32} {N K : Nat} {dv : Value} (hkA : s.vm.classes[cA]? = some kA) (hkindA : kA.kind = .array cI t0) (href : t0.isReference = true) (hk : s.vm.classes[cI]? = some kI) (hkind : kI.kind = .array cc ty) (hy : ¬ y < 0) (hN : y.toNatClampNeg = N) (hN0 : (y == 0) = false) (hz : ¬ z < 0) (hK : z.toNatClampNeg = K) (hlA : ¬ N > e.platform.arrayLengthLimit) (hhA : ¬ N * componentBytes t0 > e.platform.maxHeapBytes) (hl : ¬ K > e.platform.arrayLengthLimit) (hh : ¬ K * componentBytes ty > e.platform.maxHeapBytes) (hdv : defaultValue ty = dv) (hfit : fits ty dv = true) (h1 : s.heap.size + 1 + N ≤ e.platform.maxCells) (h2 : s.slotsUsed + N + N * K ≤ e.platform.maxSlots) {Q : Addr → Pre} (hq : ∀ d' acts', Q s.heap.size d' acts' (mnU s cA cI N K dv N)) : wp (Op.multianewarray.make cA [y, z]) Q E e d acts s := by
  rw [Op.multianewarray.make]
  simp only [wp_bind', W.ite, hy, if_false, wp_pure', W.theClass, hkA, hkindA, Option.some.injEq, exists_eq_left', hN]
  have hf0 : fits t0 .null = true := by cases t0 <;> simp [FieldType.isReference] at href <;> rfl
  have hfr : ∀ a : Addr, fits t0 (.ref a) = true := fun a => by cases t0 <;> simp [FieldType.isReference] at href <;> rfl
  refine W.newArray_of hkA hkindA hlA hhA (by omega) (by omega) hf0 (fun acts' => ?_)
  rw [show ({ cls := cA, slots := Array.replicate N .null } : Cell) = mnC cA N s.heap.size 0 from by
    unfold mnC
    rw [show ({ cls := cA, slots := Array.replicate N .null } : Cell) = ({ cls := cA, slots := Array.replicate N .null, vm := .none } : Cell) from rfl, arrV_new]
    congr 1]
  have hfd : ([z].find? (· < 0)) = none := by simp [hz]
  simp only [hfd]
  rw [ite_self, wp_bind', Std.Legacy.Range.forIn_eq_forIn_range']
  have hsz : ([:N] : Std.Legacy.Range).size = N := by simp [Std.Legacy.Range.size]
  rw [hsz]
  show wp (forIn (List.range' 0 N 1) PUnit.unit _) _ E e d acts' _
  have hus : ∀ i, (mnU s cA cI N K dv i).slotsUsed = s.slotsUsed + N + i * K := by
    intro i
    induction i with
    | zero =>
      show s.slotsUsed + (mnC cA N s.heap.size 0).slots.size = _
      rw [show (mnC cA N s.heap.size 0).slots.size = N from arrV_size _ _ _]; omega
    | succ i ih =>
      show (mnU s cA cI N K dv i).slotsUsed + (arrV cI K (fun _ => dv)).slots.size = _
      rw [ih, arrV_size, Nat.succ_mul]; omega
  refine wp_forIn_inv (fun rest s' => ∃ i, i ≤ N ∧ rest = List.range' i (N - i) ∧ s' = mnU s cA cI N K dv i) _ _ ⟨0, Nat.zero_le _, rfl, rfl⟩ ?_ ?_
  · rintro x rest s' d' acts2 Q' ⟨i, hi, hl0, rfl⟩ hnext
    have hlt : i < N := by
      rcases Nat.lt_or_ge i N with h | h
      · exact h
      · rw [show N - i = 0 from by omega] at hl0; simp at hl0
    rw [show N - i = (N - (i + 1)) + 1 from by omega, List.range'_succ] at hl0
    obtain ⟨rfl, hrest⟩ : x = i ∧ rest = List.range' (i + 1) (N - (i + 1)) := ⟨(List.cons.inj hl0).1, (List.cons.inj hl0).2⟩
    obtain ⟨f1, f2, f3, f4, f5⟩ := mnU_facts (T := s) (cA := cA) (cI := cI) (N := N) (K := K) (dv := dv) x
    have hmul : x * K + K ≤ N * K := by
      have := Nat.mul_le_mul_right K (show x + 1 ≤ N from hlt)
      rw [Nat.succ_mul] at this; exact this
    simp only [wp_bind']
    refine mn_inner (by rw [f3]; exact hk) hkind hz hK hl hh hdv hfit (by rw [f1]; omega) (by rw [hus]; omega) (fun acts3 => ?_)
    have hc : ((mnU s cA cI N K dv x).pushCell (arrV cI K (fun _ => dv))).heap[s.heap.size]? = some (mnC cA N s.heap.size x) := by
      show ((mnU s cA cI N K dv x).heap.push _)[_]? = _
      rw [Array.getElem?_push, if_neg (by omega)]
      exact f2
    simp only [wp_bind', W.writeLoc, wp_pure']
    refine ⟨mnC cA N s.heap.size x, hc, (fun h => by cases h), (by rw [show (mnC cA N s.heap.size x).slots.size = N from arrV_size _ _ _]; exact hlt), ?_, hnext _ _ _ ⟨x + 1, hlt, hrest, ?_⟩⟩
    · have hkA2 : (mnU s cA cI N K dv x).vm.classes[cA]? = some kA := by
        rw [f3]; exact hkA
      show State.fitsSlot _ cA .none x _ = true
      simp [State.fitsSlot, State.slotType?, hkA2, hkindA, hfr]
    · rw [f1, mnC_set]
      rfl
  · rintro s' d' acts2 ⟨i, hi, hl0, rfl⟩
    have hiN : i = N := by
      rcases Nat.lt_or_ge i N with h | h
      · rw [show N - i = (N - (i + 1)) + 1 from by omega, List.range'_succ] at hl0; cases hl0
      · omega
    subst hiN
    simp only [wp_pure']
    exact hq _ _
end MNW
section MNS
variable {p : Program} {l : Launch} {e : Env} {R : Room} {s : State} {m : MethodId} {args : Array Value} {below : List Frame} {meth : Method} {c : Code} {T : State} {locs : List Loc} {cells slots : Nat} {cA cI : ClassId} {N K : Nat} {dv : Value}
theorem mnU_stand (X : Stand p l e R s m args below meth c T locs cells slots) (k : Nat) : Stand p l e R s m args below meth c (mnU T cA cI N K dv k) (locs ++ (List.range k).map fun j => ⟨T.heap.size, j⟩) (cells + 1 + k) (slots + N + k * K) := by
  induction k with
  | zero =>
    have h := X.pushed (mnC cA N T.heap.size 0)
    rw [show (mnC cA N T.heap.size 0).slots.size = N from arrV_size _ _ _] at h
    simpa [mnU] using h
  | succ k ih =>
    obtain ⟨h1, h2, h3, h4, h5⟩ := mnU_facts (T := T) (cA := cA) (cI := cI) (N := N) (K := K) (dv := dv) k
    have hc : ((mnU T cA cI N K dv k).pushCell (arrV cI K (fun _ => dv))).heap[T.heap.size]? = some (mnC cA N T.heap.size k) := by
      show ((mnU T cA cI N K dv k).heap.push _)[_]? = _
      rw [Array.getElem?_push, if_neg (by omega)]
      exact h2
    have h := (ih.pushed (arrV cI K (fun _ => dv))).stored hc k (.ref (T.heap.size + 1 + k))
    rw [mnC_set, show (arrV cI K (fun _ => dv)).slots.size = K from arrV_size _ _ _] at h
    have e2 : (locs ++ (List.range (k + 1)).map fun j => (⟨T.heap.size, j⟩ : Loc)) = (locs ++ (List.range k).map fun j => (⟨T.heap.size, j⟩ : Loc)) ++ [⟨T.heap.size, k⟩] := by simp [List.range_succ]
    rw [e2, show slots + N + (k + 1) * K = slots + N + k * K + K by rw [Nat.succ_mul]; omega]
    exact h
end MNS
section TP4
variable {w : WT} {n : Nat} {E : ET} {own : String} {cc : ByteArray} {nL fr pc : Nat} {lv : List (Nat × Value)} {st : List Value} {R M : TM}
/-- references in a row of an array -/
def rowR (R : TM) (i : Int) (f : Nat → Int) (m : Nat) : TM := fun a b => if a = i ∧ 0 ≤ b ∧ b < m then f b.toNat else R a b
theorem tp_multi {idx : Nat} {nm : String} {y z : Int} (kd ki N K : Nat) (i : Int) (f : Nat → Int) (O : tp_O w own cc nL fr E) (hd : decode cc pc = .ok (.multianewarray idx 2, 4)) (hl : Cond.classLink own idx nm ∈ lw_all)
    (hcls : ∀ s : State, s = E.2.2.2.1 → ∃ (kA kI : Class) (cc0 : ClassId), s.vm.findClass nm = some (wc w kd) ∧ s.vm.classes[wc w kd]? = some kA ∧ kA.kind = .array (wc w ki) (aty kd) ∧ s.vm.classes[wc w ki]? = some kI ∧ kI.kind = .array cc0 (aty ki))
    (hk : (5 ≤ kd ∧ kd ≤ 9) ∧ (ki = 1 ∨ ki = 8)) (hy : y = N ∧ 1 ≤ N ∧ N ≤ 100) (hz : z = K ∧ K ≤ 100) (hs : tx_sh w i = (kd, N)) (hi : ord i = n ∧ i ≠ 0) (hf : ∀ j : Nat, j < N → tx_sh w (f j) = (ki, K) ∧ ord (f j) = n + 1 + j ∧ f j ≠ 0) (hn : n + 1 + N ≤ 109) (hc : eC E + 1 + N ≤ E.2.2.1.cells ∧ eS E + N + N * K ≤ E.2.2.1.slots)
    (k : tp_X w (n + 1 + N) (eAt E (eC E + 1 + N) (eS E + N + N * K)) (pc + 4) lv (rV (wa w) i :: st) (rowR R i f N) M) : tp_X w n E pc lv (iV z :: iV y :: st) R M := by
  obtain ⟨p, e, Rm, s, m, args, below, meth, c, cells, slots, Z⟩ := E
  obtain ⟨hx, hb, hml, hown, hts, hK, hJ, hz9, hlk, hfr, hlo, hce, hsl⟩ := O
  intro H locs hH hS ls hls T hT X
  obtain ⟨rfl, hN1, hN2⟩ := hy
  obtain ⟨rfl, hK2⟩ := hz
  obtain ⟨kA, kI, cc0, g1, g2, g3, g4, g5⟩ := hcls s rfl
  have ryN : rng (N : Int) := ⟨by omega, by omega⟩
  have rzK : rng (K : Int) := ⟨by omega, by omega⟩
  have hpl : e.platform.magicAccessors = ({} : Platform).magicAccessors := by rw [X.admits.platform]
  obtain ⟨c0, hc0, hcl⟩ := Cond.classLink_spec hown (hts _ hl) e.platform hpl
  have ec : c0 = wc w kd := Option.some.inj (hc0.symm.trans g1)
  subst ec
  obtain ⟨hg₁, hwarm₁, hready₁⟩ := State.classEntry (e := e) X.warmed hcl
  generalize T.vm.noted m.cls idx (.cls (wc w kd)) = vm₁ at hg₁ hwarm₁ hready₁
  have hal : s.vm.Alike vm₁ := hwarm₁.alike
  obtain ⟨kA₁, hkA₁, heA⟩ := hal.2.2 _ _ g2
  obtain ⟨kI₁, hkI₁, heI⟩ := hal.2.2 _ _ g4
  have hkindA₁ : kA₁.kind = .array (wc w ki) (aty kd) := by rw [heA]; exact g3
  have hkindI₁ : kI₁.kind = .array cc0 (aty ki) := by rw [heI]; exact g5
  have X₁ := X.noted hwarm₁
  have hdvx : ∃ dv : Value, defaultValue (aty ki) = dv ∧ fits (aty ki) dv = true := by
    rcases hk.2 with e | e <;> subst e
    · exact ⟨_, rfl, rfl⟩
    · exact ⟨_, rfl, rfl⟩
  obtain ⟨dv, hdv, hfit⟩ := hdvx
  have XF := mnU_stand (cA := wc w kd) (cI := wc w ki) (N := N) (K := K) (dv := dv) X₁ N
  obtain ⟨f1, f2, f3, f4, f5⟩ := mnU_facts (T := T.setVm vm₁) (cA := wc w kd) (cI := wc w ki) (N := N) (K := K) (dv := dv) N
  have hTs : (T.setVm vm₁).heap.size = H.size := by rw [← hT]; rfl
  have hTq : ∀ q : Nat, (T.setVm vm₁).heap[q]? = H[q]? := fun q => by rw [← hT]; rfl
  rw [hTs] at f1 f2 f4 f5 XF
  have hHn := hH.1
  have h109 := hH.2.1
  have hrow : ∀ (a b : Int), a ≠ i → rowR R i f N a b = R a b := fun a b h => by unfold rowR; rw [if_neg (fun z => h z.1)]
  have hent : ∀ j : Int, j ≠ i → tx_ent w (rowR R i f N) M j = tx_ent w R M j := by
    intro j hj
    unfold tx_ent tx_fl tx_fv
    simp only [hrow j _ hj]
  have hHF : tp_H w (n + 1 + N) (rowR R i f N) M (mnU (T.setVm vm₁) (wc w kd) (wc w ki) N K dv N).heap := by
    refine ⟨by rw [f1]; omega, hn, fun j hj => ?_, fun x hx y => ?_⟩
    · by_cases h1 : ord j < n
      · have hne : j ≠ i := fun e => by subst e; omega
        rw [hent j hne]
        have := hH.2.2.1 j h1
        exact this.kept ((f4 _ this.lt).trans (hTq _))
      · by_cases h2 : ord j = n
        · have : j = i := ord_inj (n := n + 1 + N) hj hn (by omega)
          subst this
          rw [tx_ent_q hs (by omega) (by omega), hJ, h2, ← hHn]
          show _ = some (vp_cell _ _)
          rw [f2, vp_cell_q]
          unfold mnC
          refine congrArg some (arr_ext (fun q hq => ?_))
          rw [if_pos hq]
          have hr : rowR R j f N j (q : Int) = f q := by
            unfold rowR
            rw [if_pos ⟨rfl, by omega, by omega⟩, Int.toNat_natCast]
          rw [hr]
          have e6 : H.size + 1 + q = wz w + (n + 1 + q) := by omega
          unfold rF
          rw [if_neg (hf q hq).2.2, hJ (f q), (hf q hq).2.1, e6]
          rfl
        · obtain ⟨q, hq, hq2⟩ : ∃ q, q < N ∧ ord j = n + 1 + q := ⟨ord j - (n + 1), by omega, by omega⟩
          have : j = f q := ord_inj (n := n + 1 + N) hj hn (by rw [hq2, (hf q hq).2.1])
          subst this
          have hne : f q ≠ i := fun e => by have := (hf q hq).2.1; rw [e, hi.1] at this; omega
          have h0 := hH.2.2.2 (f q) (by omega)
          rw [hent _ hne, hJ, hq2]
          have e5 := f5 q hq
          rw [show H.size + 1 + q = wz w + (n + 1 + q) by omega] at e5
          rcases hk.2 with e | e <;> subst e
          · rw [tx_ent_p (hf q hq).1 (by omega)]
            show _ = some (vp_cell _ _)
            rw [e5, vp_cell_i]
            refine congrArg some (arr_ext (fun x _ => ?_))
            rw [(h0 x).2, ← hdv]
            rfl
          · rw [tx_ent_q (hf q hq).1 (by omega) (by omega)]
            show _ = some (vp_cell _ _)
            rw [e5, vp_cell_q]
            refine congrArg some (arr_ext (fun x _ => ?_))
            rw [(h0 x).1, ← hdv]
            rfl
    · have hne : x ≠ i := fun e => by subst e; omega
      rw [hrow x y hne]
      exact hH.2.2.2 x (by omega) y
  have hSF : va_S (tx_A w) s.heap (mnU (T.setVm vm₁) (wc w kd) (wc w ki) N K dv N).heap (locs ++ (List.range N).map fun j => (⟨H.size, j⟩ : Loc)) := by
    refine ⟨by rw [f1]; have := hS.1; omega, fun q h1 h2 => by rw [f4 q (Nat.lt_of_lt_of_le h1 hS.1), hTq]; exact hS.2.1 q h1 h2, fun q hq => ?_⟩
    rcases List.mem_append.mp hq with h | h
    · exact hS.2.2 q h
    · obtain ⟨j, -, rfl⟩ := List.mem_map.mp h
      show wz w ≤ H.size
      omega
  obtain ⟨t, a1, a2⟩ := k _ _ hHF hSF ls hls _ rfl XF
  refine ⟨t, ?_, a2⟩
  have hlim : ∀ q : Nat, q ≤ 100 → ¬ q > e.platform.arrayLengthLimit := fun q hq => by rw [Launch.admits_arrayLengthLimit X.admits]; omega
  have hby : ∀ (q : Nat) (t0 : FieldType), q ≤ 100 → componentBytes t0 ≤ 8 → ¬ q * componentBytes t0 > e.platform.maxHeapBytes := fun q t0 hq h8 => by
    rw [Launch.admits_maxHeapBytes X.admits]
    have := Nat.mul_le_mul hq h8
    omega
  have b1 : componentBytes (aty kd) ≤ 8 := by
    rcases (show kd = 5 ∨ kd = 6 ∨ kd = 7 ∨ kd = 8 ∨ kd = 9 by omega) with e | e | e | e | e <;> subst e <;> decide
  have b2 : componentBytes (aty ki) ≤ 8 := by rcases hk.2 with e | e <;> subst e <;> decide
  have ny : ¬ Int32.ofInt (N : Int) < 0 := by
    rw [show (0 : Int32) = Int32.ofInt 0 from rfl, of_lt ryN ⟨by omega, by omega⟩]
    omega
  have nz : ¬ Int32.ofInt (K : Int) < 0 := by
    rw [show (0 : Int32) = Int32.ofInt 0 from rfl, of_lt rzK ⟨by omega, by omega⟩]
    omega
  have n0 : (Int32.ofInt (N : Int) == 0) = false := by
    rw [beq_eq_false_iff_ne]
    intro h
    rw [show (0 : Int32) = Int32.ofInt 0 from rfl, of_eq ryN ⟨by omega, by omega⟩] at h
    omega
  obtain ⟨hr1, hr2⟩ := X.heapHas (a := 1 + N) (b := N + N * K) (by have := hc.1; show cells + (1 + N) ≤ Rm.cells; have h : cells + 1 + N ≤ Rm.cells := this; omega) (by have := hc.2; show slots + (N + N * K) ≤ Rm.slots; have h : slots + N + N * K ≤ Rm.slots := this; omega)
  subst hb
  have hdg : decode c.code (F0 m pc ls (iV K :: iV N :: st)).pc = .ok (.multianewarray idx 2, 4) := hd
  jvm_step X.here [hx, hdg]
  simp only [Op.multianewarray.sem, wp_bind', W.resolveClassAt_links (State.method?_setTop (F0 m pc ls (iV K :: iV N :: st)) X.here.top) hg₁]
  rw [W.popN, if_neg (by decide)]
  refine ⟨F0 m pc ls (iV K :: iV N :: st), State.topJava?_setTop' (s := T.setVm vm₁) (F0 m pc ls (iV K :: iV N :: st)) X.here.top, [iV N, iV K], st, rfl, rfl, ?_⟩
  simp only [List.mapM_cons, List.mapM_nil, wp_bind', wp_pure', iV]
  refine mn_outer (kA := kA₁) (kI := kI₁) (cI := wc w ki) (cc := cc0) (t0 := aty kd) (ty := aty ki) (N := N) (K := K) (dv := dv) hkA₁ hkindA₁ (aty_ref hk.1) hkI₁ hkindI₁ ny (by rw [of_clamp ryN, Int.toNat_natCast]) n0 nz (by rw [of_clamp rzK, Int.toNat_natCast]) (hlim _ hN2) (hby _ _ hN2 b1) (hlim _ hK2) (hby _ _ hK2 b2) hdv hfit (by show T.heap.size + 1 + N ≤ _; omega) (by show T.slotsUsed + N + N * K ≤ _; omega) (fun d' acts' => ?_)
  have eS : ∀ X0 : JFrame, ((T.setTop X0).setVm vm₁).setTop { method := m, pc := pc, locals := ls, stack := st, locked := none } = (T.setVm vm₁).setTop { method := m, pc := pc, locals := ls, stack := st, locked := none } := by
    intro X0
    show ((T.setVm vm₁).setTop _).setTop _ = _
    rw [State.setTop_setTop]
  rw [eS, mnU_top]
  simp only [wp_bind', W.mark, W.pushRef, State.topJava?_setTop' _ XF.here.top, Option.some.injEq, exists_eq_left', State.setTop_setTop, State.heap_setTop]
  rw [tp_ref hi.2, hJ, hi.1, ← hHn] at a1
  intro acts
  simp [jvm, XF.here.top]
  rw [hT]
  exact a1
end TP4
