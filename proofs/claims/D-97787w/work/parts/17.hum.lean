/-! PURE: a tune hummed once; the longest common row -/
set_option maxRecDepth 100000
def humf (q : Int × Int × Int) (a : Int) : List Int := if a = q.1 then (if q.2.1 = 0 then [a, q.2.2] else if q.2.1 = 1 then [] else [q.2.2]) else [a]
def hmI (q : Int × Int × Int) (l : List Int) (i : Int) : List Int := itI (fun i c => c ++ humf q (ga l i)) [] i
def hum (q : Int × Int × Int) (l : List Int) : List Int := (hmI q l l.length).take 40
theorem hmI_0 (q : Int × Int × Int) (l : List Int) : hmI q l 0 = [] := rfl
theorem hmI_1 (q : Int × Int × Int) (l : List Int) {i : Int} (h : 0 ≤ i) : hmI q l (i + 1) = hmI q l i ++ humf q (ga l i) := itI_1 _ _ h
theorem humf_len (q : Int × Int × Int) (a : Int) : (humf q a).length ≤ 2 := by
  unfold humf
  (repeat' split) <;> simp
/-- notes, as a list may hold them -/
def okN (l : List Int) : Prop := l.length ≤ 40 ∧ ∀ x ∈ l, 0 ≤ x ∧ x ≤ 6
def okq (q : Int × Int × Int) : Prop := 0 ≤ q.1 ∧ q.1 ≤ 6 ∧ 0 ≤ q.2.1 ∧ q.2.1 ≤ 2 ∧ 0 ≤ q.2.2 ∧ q.2.2 ≤ 6
theorem hmI_ok {q : Int × Int × Int} {l : List Int} (hq : okq q) (hl : ∀ x ∈ l, 0 ≤ x ∧ x ≤ 6) : ∀ i, 0 ≤ i → i ≤ (l.length : Int) → ((hmI q l i).length : Int) ≤ 2 * i ∧ ∀ x ∈ hmI q l i, 0 ≤ x ∧ x ≤ 6 := by
  refine itI_ind (fun i (c : List Int) => (c.length : Int) ≤ 2 * i ∧ ∀ x ∈ c, 0 ≤ x ∧ x ≤ 6) l.length ⟨by simp, by simp⟩ ?_
  intro i c h0 hn ⟨h1, h2⟩
  have h3 := humf_len q (ga l i)
  refine ⟨by simp; omega, ?_⟩
  intro x hx
  rcases List.mem_append.mp hx with e | e
  · exact h2 x e
  · have hg := hl _ (ga_mem h0 hn)
    unfold humf at e
    obtain ⟨q1, q2, q3, q4, q5, q6⟩ := hq
    split at e
    · split at e
      · simp at e; rcases e with e | e <;> subst e <;> omega
      · split at e
        · simp at e
        · simp at e; subst e; omega
    · simp at e; subst e; omega
theorem hum_ok {q : Int × Int × Int} {l : List Int} (hq : okq q) (hl : okN l) : okN (hum q l) := by
  obtain ⟨h1, h2⟩ := hmI_ok hq hl.2 l.length (by omega) (Int.le_refl _)
  refine ⟨by unfold hum; simp; omega, fun x hx => h2 x (List.mem_of_mem_take hx)⟩
theorem okN_of {l : List Int} (h : okT l) : okN l := ⟨by have := h.1; omega, h.2⟩
theorem ga_take {l : List Int} {i : Int} {n : Nat} (h0 : 0 ≤ i) (h : i < n) : ga (l.take n) i = ga l i := by
  unfold ga
  rw [List.getD_eq_getElem?_getD, List.getD_eq_getElem?_getD, List.getElem?_take, if_pos (by omega)]
theorem ga_app1 {D : List Int} {l : List Int} {i : Int} (h0 : 0 ≤ i) (h : i < D.length) : ga (D ++ l) i = ga D i := by
  unfold ga
  rw [List.getD_eq_getElem?_getD, List.getD_eq_getElem?_getD, List.getElem?_append_left (by omega)]
theorem ga_app2 {D : List Int} {l : List Int} {i : Int} (h : (D.length : Int) ≤ i) : ga (D ++ l) i = ga l (i - D.length) := by
  unfold ga
  rw [List.getD_eq_getElem?_getD, List.getD_eq_getElem?_getD, List.getElem?_append_right (by omega)]
  congr 2
  omega
theorem ga_0 {x : Int} {l : List Int} : ga (x :: l) 0 = x := rfl
theorem ga_s {x : Int} {l : List Int} : ga (x :: l) 1 = ga l 0 := rfl
/-- rows of the longest common row's table -/
def lcRow (prev : Nat → Int) (x : Int) (b : List Int) : Nat → Int
  | 0 => 0
  | k + 1 => if x = ga b k then prev k + 1 else max (prev (k + 1)) (lcRow prev x b k)
def lc (a b : List Int) : Nat → Nat → Int
  | 0 => fun _ => 0
  | i + 1 => lcRow (lc a b i) (ga a i) b
def lcI (a b : List Int) (i k : Int) : Int := lc a b i.toNat k.toNat
theorem lc_z (a b : List Int) (i : Nat) : lc a b i 0 = 0 := by cases i <;> rfl
theorem lc_s (a b : List Int) (i k : Nat) : lc a b (i + 1) (k + 1) = if ga a i = ga b k then lc a b i k + 1 else max (lc a b i (k + 1)) (lc a b (i + 1) k) := rfl
theorem lc_sym (a b : List Int) : ∀ i k : Nat, lc a b i k = lc b a k i := by
  intro i
  induction i with
  | zero => intro k; rw [lc_z]; rfl
  | succ i ih =>
    intro k
    induction k with
    | zero => rw [lc_z]; rfl
    | succ k ih2 =>
      rw [lc_s, lc_s, ih k, ih (k + 1), ih2]
      by_cases e : ga a i = ga b k
      · rw [if_pos e, if_pos e.symm]
      · rw [if_neg e, if_neg (fun q => e q.symm), Int.max_comm]
theorem lc_le (a b : List Int) : ∀ i k : Nat, 0 ≤ lc a b i k ∧ lc a b i k ≤ i := by
  intro i
  induction i with
  | zero => intro k; exact ⟨Int.le_refl _, Int.le_refl _⟩
  | succ i ih =>
    intro k
    induction k with
    | zero => rw [lc_z]; omega
    | succ k ih2 =>
      rw [lc_s]
      have h1 := ih k
      have h2 := ih (k + 1)
      split <;> omega
theorem lcI_0 (a b : List Int) (k : Int) : lcI a b 0 k = 0 := rfl
theorem lcI_z (a b : List Int) (i : Int) : lcI a b i 0 = 0 := lc_z a b _
theorem lcI_s (a b : List Int) {i k : Int} (hi : 0 ≤ i) (hk : 1 ≤ k) : lcI a b (i + 1) k = if ga a i = ga b (k - 1) then lcI a b i (k - 1) + 1 else max (lcI a b i k) (lcI a b (i + 1) (k - 1)) := by
  obtain ⟨x, rfl⟩ := Int.eq_ofNat_of_zero_le hi
  obtain ⟨y, hy⟩ := Int.eq_ofNat_of_zero_le (show 0 ≤ k - 1 by omega)
  have : k = (y : Int) + 1 := by omega
  subst this
  unfold lcI
  rw [show ((x : Int) + 1).toNat = x + 1 by omega, show ((y : Int) + 1).toNat = y + 1 by omega, show ((y : Int) + 1 - 1) = y by omega, Int.toNat_natCast, Int.toNat_natCast]
  exact lc_s a b x y
theorem lcI_le (a b : List Int) {i : Int} (k : Int) (h : 0 ≤ i) : 0 ≤ lcI a b i k ∧ lcI a b i k ≤ i := by
  have := lc_le a b i.toNat k.toNat
  unfold lcI
  omega
def lcs (a b : List Int) : Int := lcI a b a.length b.length
theorem lcs_sym (a b : List Int) : lcs a b = lcs b a := by
  unfold lcs lcI
  exact lc_sym a b _ _
theorem lcs_le (a b : List Int) : 0 ≤ lcs a b ∧ lcs a b ≤ a.length := lcI_le a b _ (by omega)
