/-! PURE: words of the common mathematical value -/
set_option maxRecDepth 100000
/-- a place of a list, by an Int -/
def ga (l : List Int) (i : Int) : Int := l.getD i.toNat 0
/-- a step, done so often -/
def itr {α : Type} (f : Int → α → α) (a : α) : Nat → α
  | 0 => a
  | n + 1 => f n (itr f a n)
def itI {α : Type} (f : Int → α → α) (a : α) (i : Int) : α := itr f a i.toNat
theorem itI_0 {α : Type} (f : Int → α → α) (a : α) : itI f a 0 = a := rfl
theorem itI_1 {α : Type} (f : Int → α → α) (a : α) {i : Int} (h : 0 ≤ i) : itI f a (i + 1) = f i (itI f a i) := by
  have e : (i + 1).toNat = i.toNat + 1 := by omega
  unfold itI
  rw [e]
  show f (i.toNat : Int) _ = _
  rw [Int.toNat_of_nonneg h]
/-- what holds at the start and is kept by each step -/
theorem itI_ind {α : Type} {f : Int → α → α} {a : α} (P : Int → α → Prop) (n : Int) (h0 : P 0 a) (hs : ∀ i x, 0 ≤ i → i < n → P i x → P (i + 1) (f i x)) : ∀ i, 0 ≤ i → i ≤ n → P i (itI f a i) := by
  have key : ∀ k : Nat, (k : Int) ≤ n → P k (itr f a k) := by
    intro k
    induction k with
    | zero => intro _; exact h0
    | succ k ih =>
      intro hk
      have h1 := ih (by omega)
      have h2 := hs k _ (by omega) (by omega) h1
      rw [show ((k + 1 : Nat) : Int) = (k : Int) + 1 by omega]
      exact h2
  intro i h1 h2
  have := key i.toNat (by omega)
  rw [Int.toNat_of_nonneg h1] at this
  exact this
/-- steps that agree as far as they go -/
theorem itI_congr {α : Type} {f g : Int → α → α} {a : α} (n : Int) (h : ∀ i x, 0 ≤ i → i < n → f i x = g i x) : ∀ i, i ≤ n → itI f a i = itI g a i := by
  have key : ∀ k : Nat, (k : Int) ≤ n → itr f a k = itr g a k := by
    intro k
    induction k with
    | zero => intro _; rfl
    | succ k ih =>
      intro hk
      show f k (itr f a k) = g k (itr g a k)
      rw [ih (by omega), h k _ (by omega) (by omega)]
  intro i hi
  by_cases h0 : 0 ≤ i
  · exact key i.toNat (by omega)
  · have : i.toNat = 0 := by omega
    unfold itI
    rw [this]
    rfl
/-- the number of ones among twelve bits -/
def pcN (n : Nat) : Nat := n % 2 + n / 2 % 2 + n / 4 % 2 + n / 8 % 2 + n / 16 % 2 + n / 32 % 2 + n / 64 % 2 + n / 128 % 2 + n / 256 % 2 + n / 512 % 2 + n / 1024 % 2 + n / 2048 % 2
def pc (v : Int) : Int := (pcN v.toNat : Nat)
theorem pcN_pred : ∀ n, n < 4096 → n = 0 ∨ (n &&& (n - 1) < n ∧ pcN (n &&& (n - 1)) + 1 = pcN n) := by decide +kernel
theorem pcN_half : ∀ n, n < 4096 → pcN n = n % 2 + pcN (n / 2) := by
  intro n h
  unfold pcN
  omega
theorem zand_nat {a b : Nat} (ha : a < 2147483648) (hb : b < 2147483648) : zand a b = ((a &&& b : Nat) : Int) := by
  unfold zand
  rw [Int32.ofInt_eq_ofNat, Int32.ofInt_eq_ofNat]
  have h1 : (Int32.ofNat a &&& Int32.ofNat b) = Int32.ofNat (a &&& b) := by
    apply Int32.toBitVec.inj
    simp [Int32.toBitVec_and, Int32.toBitVec_ofNat']
  rw [h1]
  have h2 : a &&& b ≤ a := Nat.and_le_left
  rw [← Int32.ofInt_eq_ofNat, rng_i ⟨by omega, by omega⟩]
theorem zand_pred {b : Int} (h : 0 ≤ b ∧ b < 4096) (h0 : ¬ b = 0) : 0 ≤ zand b (b - 1) ∧ zand b (b - 1) < b ∧ pc (zand b (b - 1)) + 1 = pc b := by
  obtain ⟨n, rfl⟩ := Int.eq_ofNat_of_zero_le h.1
  have e : ((n : Int) - 1) = ((n - 1 : Nat) : Int) := by omega
  rw [e, zand_nat (by omega) (by omega)]
  rcases pcN_pred n (by omega) with q | ⟨q1, q2⟩
  · omega
  · refine ⟨by omega, by omega, ?_⟩
    unfold pc
    simp only [Int.toNat_natCast]
    omega
def gI (a b : Int) : Int := (Nat.gcd a.toNat b.toNat : Nat)
theorem gI_0 {a : Int} (h : 0 ≤ a) : gI a 0 = a := by
  unfold gI
  simp
  omega
theorem gI_step {a b : Int} (ha : 0 ≤ a) (hb : 0 < b) : gI b (a % b) = gI a b := by
  obtain ⟨x, rfl⟩ := Int.eq_ofNat_of_zero_le ha
  obtain ⟨y, rfl⟩ := Int.eq_ofNat_of_zero_le (Int.le_of_lt hb)
  unfold gI
  rw [← Int.natCast_emod]
  simp only [Int.toNat_natCast]
  rw [Nat.gcd_comm x y, Nat.gcd_rec y x, Nat.gcd_comm]
