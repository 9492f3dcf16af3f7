/-! PURE: chances, lots, sheets read as loans, counts -/
set_option maxRecDepth 100000
/-- ways in which n years hum o times, each by c sixteenths -/
def wys (c : Int) : Nat → Int → Int
  | 0, o => if o = 0 then 1 else 0
  | n + 1, o => if o < 0 ∨ (n : Int) + 1 < o then 0 else c * wys c n (o - 1) + (16 - c) * wys c n o
def mC (y k : Int) : Int := itI (fun k x => x * (y - k) / (k + 1)) 1 k
def mW (c y k n : Int) : Int := itI (fun i x => x * (if i < k then c else 16 - c)) (mC y k) n
def wyB (y k : Nat) : Bool := decide (0 ≤ mC y k) && decide (mC y k ≤ 1000) && (List.range 17).all fun c => decide (mW c y k y = wys c y k) && decide (0 ≤ wys c y k) && decide (wys c y k ≤ 68719476736)
theorem wy_allB : ((List.range 10).all fun y => (List.range (y + 1)).all fun k => wyB y k) = true := by decide +kernel
theorem wy_all (y : Nat) (hy : y < 10) (k : Nat) (hk : k ≤ y) : (0 ≤ mC y k ∧ mC y k ≤ 1000) ∧ ∀ c : Nat, c < 17 → mW c y k y = wys c y k ∧ 0 ≤ wys c y k ∧ wys c y k ≤ 68719476736 := by
  have h1 := List.all_eq_true.mp wy_allB y (List.mem_range.mpr hy)
  have h2 := List.all_eq_true.mp h1 k (List.mem_range.mpr (by omega))
  unfold wyB at h2
  simp only [Bool.and_eq_true, decide_eq_true_eq] at h2
  refine ⟨h2.1, fun c hc => ?_⟩
  have h3 := List.all_eq_true.mp h2.2 c (List.mem_range.mpr hc)
  simp only [Bool.and_eq_true, decide_eq_true_eq] at h3
  exact ⟨h3.1.1, h3.1.2, h3.2⟩
theorem wy_ok {c y k : Int} (hc : 0 ≤ c ∧ c ≤ 16) (hy : 0 ≤ y ∧ y ≤ 9) (hk : 0 ≤ k ∧ k ≤ y) : (0 ≤ mC y k ∧ mC y k ≤ 1000) ∧ mW c y k y = wys c y.toNat k ∧ 0 ≤ wys c y.toNat k ∧ wys c y.toNat k ≤ 68719476736 := by
  obtain ⟨c, rfl⟩ := Int.eq_ofNat_of_zero_le hc.1
  obtain ⟨y, rfl⟩ := Int.eq_ofNat_of_zero_le hy.1
  obtain ⟨k, rfl⟩ := Int.eq_ofNat_of_zero_le hk.1
  obtain ⟨h1, h2⟩ := wy_all y (by omega) k (by omega)
  exact ⟨h1, h2 c (by omega)⟩
/-- a tune hummed k times by one -/
def hmk (u : PU) (t b k : Int) : List Int := itI (fun _ l => hum (uq u b) l) (gl (uT u) t) k
theorem hmk_1 (u : PU) (t b : Int) {k : Int} (h : 0 ≤ k) : hmk u t b (k + 1) = hum (uq u b) (hmk u t b k) := itI_1 _ _ h
theorem hmk_ok {u : PU} (hu : uOk u) {t b : Int} (ht : 0 ≤ t ∧ t < (uT u).length) (hb : 0 ≤ b ∧ b < uB u) : ∀ k, 0 ≤ k → okN (hmk u t b k) := by
  intro k hk
  exact itI_ind (f := fun _ l => hum (uq u b) l) (a := gl (uT u) t) (fun _ l => okN l) k (okN_of ((uT_ok hu).2 _ (gl_mem ht.1 ht.2)).1) (fun i x _ _ hx => hum_ok (uq_ok hu hb.1 hb.2) hx) k hk (Int.le_refl _)
def hmS (u : PU) (c t b y wish k : Int) : Int := itI (fun k s => s + (if wish ≤ (hmk u t b k).length then wys c y.toNat k else 0)) 0 k
theorem hmS_1 (u : PU) (c t b y wish : Int) {k : Int} (h : 0 ≤ k) : hmS u c t b y wish (k + 1) = hmS u c t b y wish k + (if wish ≤ (hmk u t b k).length then wys c y.toNat k else 0) := itI_1 _ _ h
theorem hmS_ok {u : PU} {c t b y wish : Int} (hc : 0 ≤ c ∧ c ≤ 16) (hy : 0 ≤ y ∧ y ≤ 9) : ∀ k, 0 ≤ k → k ≤ y + 1 → 0 ≤ hmS u c t b y wish k ∧ hmS u c t b y wish k ≤ 68719476736 * k := by
  refine itI_ind (f := fun k s => s + (if wish ≤ (hmk u t b k).length then wys c y.toNat k else 0)) (a := (0 : Int)) (fun k s => 0 ≤ s ∧ s ≤ 68719476736 * k) (y + 1) (by omega) ?_
  intro i x h0 h1 h2
  have := (wy_ok hc hy (k := i) (by omega)).2.2
  split <;> omega
theorem pw16 {y : Int} (h : 0 ≤ y ∧ y ≤ 9) : 1 ≤ pw 16 y ∧ pw 16 y ≤ 68719476736 := by
  have e : y = 0 ∨ y = 1 ∨ y = 2 ∨ y = 3 ∨ y = 4 ∨ y = 5 ∨ y = 6 ∨ y = 7 ∨ y = 8 ∨ y = 9 := by omega
  rcases e with e | e | e | e | e | e | e | e | e | e <;> subst e <;> decide
def humsP (u : PU) (c t b y wish what : Int) : Int := (if what = 0 then hmS u c t b y wish (y + 1) else pw 16 y) / gI (hmS u c t b y wish (y + 1)) (pw 16 y)
theorem zushr_ok (a : Int) : 0 ≤ zushr a 16 ∧ zushr a 16 < 65536 := by
  unfold zushr
  have h := pk_ushr (Int32.ofInt a) (Int32.ofInt 16) 16 (by decide +kernel)
  generalize ((Int32.ofInt a).toUInt32 >>> ((Int32.ofInt 16).toUInt32 &&& Int32.toUInt32 31)).toInt32 = x at h ⊢
  have h1 := (Int32.ofInt a).toBitVec.isLt
  have h2 : x.toBitVec.toNat < 65536 := by rw [h]; omega
  have h3 : x.toInt = (x.toBitVec.toNat : Int) := by
    show x.toBitVec.toInt = _
    exact BitVec.toInt_eq_toNat_of_lt (by omega)
  rw [h3]
  omega
abbrev FS : Type := Int × (Int → List Int)
def lot1 (x : Int) : Int := 1103515245 * x + 12345
def fairI (u : PU) (_ : Int) (s : FS) : FS := (lot1 (lot1 s.1), fu s.2 (zushr (lot1 s.1) 16 % (uT u).length) (hum (uq u (zushr (lot1 (lot1 s.1)) 16 % uB u)) (s.2 (zushr (lot1 s.1) 16 % (uT u).length))))
def fairS (u : PU) (seed n : Int) : FS := itI (fairI u) (seed, fun t => gl (uT u) t) n
def fairP (u : PU) (seed years t : Int) : Int := (((fairS u seed (if 0 < uB u then years else 0)).2 t).length : Nat)
theorem fairS_ok {u : PU} (hu : uOk u) (hB : 0 < uB u) (hT : 0 < ((uT u).length : Int)) (seed n : Int) : ∀ k, 0 ≤ k → k ≤ n → ∀ t : Int, 0 ≤ t → t < (uT u).length → okN ((fairS u seed k).2 t) := by
  refine itI_ind (f := fairI u) (a := ((seed, fun t => gl (uT u) t) : FS)) (fun _ (s : FS) => ∀ t : Int, 0 ≤ t → t < (uT u).length → okN (s.2 t)) n ?_ ?_
  · intro t h0 h1
    exact okN_of ((uT_ok hu).2 _ (gl_mem h0 h1)).1
  · intro i s _ _ hs t h0 h1
    unfold fairI
    dsimp only
    have hm : ∀ x : Int, 0 ≤ zushr x 16 % (uT u).length ∧ zushr x 16 % (uT u).length < (uT u).length := fun x => ⟨Int.emod_nonneg _ (by omega), Int.emod_lt_of_pos _ hT⟩
    by_cases e : t = zushr (lot1 s.1) 16 % (uT u).length
    · rw [e, fu_s]
      exact hum_ok (uq_ok hu (Int.emod_nonneg _ (by omega)) (Int.emod_lt_of_pos _ hB)) (hs _ (hm _).1 (hm _).2)
    · rw [fu_n e]; exact hs t h0 h1
/-- a loan that may be -/
def okL (q : Int → Int → Int) (k : Int) : Prop := (0 ≤ q k 0 ∧ q k 0 ≤ 39) ∧ (0 ≤ q k 1 ∧ q k 1 ≤ 5) ∧ (0 ≤ q k 2 ∧ q k 2 ≤ 5) ∧ (1 ≤ q k 3 ∧ q k 3 ≤ 9)
noncomputable def rdI (q : Int → Int → Int) (nl k x : Int) : Int := @ite Int (x = k ∧ okL q k ∧ nl + k < 12) (Classical.propDecidable _) (x + 1) x
noncomputable def rdS (q : Int → Int → Int) (nl n : Int) : Int := itI (rdI q nl) 0 n
theorem rdS_y {q : Int → Int → Int} {nl n : Int} (h : 0 ≤ n) (h1 : rdS q nl n = n) (h2 : okL q n ∧ nl + n < 12) : rdS q nl (n + 1) = n + 1 := by
  unfold rdS at h1 ⊢
  rw [itI_1 _ _ h, h1]
  exact if_pos ⟨rfl, h2⟩
theorem rdS_n {q : Int → Int → Int} {nl n : Int} (h : 0 ≤ n) (h1 : rdS q nl n = n) (h2 : ¬ (okL q n ∧ nl + n < 12)) : ∀ m, n ≤ m → rdS q nl m = n := by
  intro m hm
  have key : ∀ d : Nat, rdS q nl (n + d) = n := by
    intro d
    induction d with
    | zero => simpa using h1
    | succ d ih =>
      unfold rdS at ih ⊢
      rw [show n + ((d + 1 : Nat) : Int) = (n + d) + 1 by omega, itI_1 _ _ (by omega), ih]
      refine if_neg (fun z => ?_)
      have e : (d : Int) = 0 := by have := z.1; omega
      rw [e, show n + 0 = n by omega] at z
      exact h2 z.2
  have := key (m - n).toNat
  rw [show n + ((m - n).toNat : Int) = m by omega] at this
  exact this
def sumCnt (r : RS) (n : Int) : Int := itI (fun k s => s + rCnt r k) 0 n
def sumLen (u : PU) (n : Int) : Int := itI (fun t s => s + ((gl (uT u) t).length : Int)) 0 n
theorem zcut_small {form x : Int} (hf : 0 ≤ form ∧ form ≤ 2) (hx : 0 ≤ x ∧ x ≤ 6) : zcut form x = x := by
  have h1 : form = 0 ∨ form = 1 ∨ form = 2 := by omega
  have h2 : x = 0 ∨ x = 1 ∨ x = 2 ∨ x = 3 ∨ x = 4 ∨ x = 5 ∨ x = 6 := by omega
  rcases h1 with e | e | e <;> subst e <;> rcases h2 with e | e | e | e | e | e | e <;> subst e <;> decide +kernel
