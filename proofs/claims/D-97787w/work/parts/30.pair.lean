/-! PURE: tunes together, places that tell, ears -/
set_option maxRecDepth 100000
def farP (u : PU) (a b : Int) : Int := (gl (uT u) a).length + (gl (uT u) b).length - 2 * lcs (gl (uT u) a) (gl (uT u) b)
def nearI (u : PU) (t v best : Int) : Int := if v ≠ t ∧ (best = -1 ∨ farP u t v < farP u t best) then v else best
def nearP (u : PU) (t : Int) : Int := itI (nearI u t) (-1) (uT u).length
theorem near_ok (u : PU) (t : Int) : ∀ v, 0 ≤ v → v ≤ ((uT u).length : Int) → -1 ≤ itI (nearI u t) (-1) v ∧ itI (nearI u t) (-1) v < v := by
  refine itI_ind (f := nearI u t) (a := (-1 : Int)) (fun v x => -1 ≤ x ∧ x < v) (uT u).length (by omega) ?_
  intro i x h0 h1 h2
  unfold nearI
  split <;> omega
theorem far_ok {u : PU} (hu : uOk u) {a b : Int} (ha : 0 ≤ a ∧ a < (uT u).length) (hb : 0 ≤ b ∧ b < (uT u).length) : -24 ≤ farP u a b ∧ farP u a b ≤ 24 := by
  have h1 := ((uT_ok hu).2 _ (gl_mem ha.1 ha.2)).1.1
  have h2 := ((uT_ok hu).2 _ (gl_mem hb.1 hb.2)).1.1
  have h3 := lcs_le (gl (uT u) a) (gl (uT u) b)
  unfold farP
  omega
def mothI (u : PU) (t v bits : Int) : Int := zor bits (if v ≠ t ∧ lcs (gl (uT u) v) (gl (uT u) t) = (gl (uT u) v).length then zshl 1 v else 0)
def mothP (u : PU) (t : Int) : Int := itI (mothI u t) 0 (uT u).length
/-- a place's note, or none -/
def nat12 (l : List Int) (i : Int) : Int := if i < l.length then ga l i else -1
def tb (set i : Int) : Prop := set.toNat / 2 ^ i.toNat % 2 = 1
def tell1 (u : PU) (t v set : Int) : Prop := v = t ∨ ∃ i : Int, 0 ≤ i ∧ i < 12 ∧ tb set i ∧ nat12 (gl (uT u) v) i ≠ nat12 (gl (uT u) t) i
def okSet (u : PU) (t set : Int) : Prop := ∀ v : Int, 0 ≤ v → v < (uT u).length → tell1 u t v set
noncomputable def tellI (u : PU) (t set best : Int) : Int := @ite Int ((best = -1 ∨ pc set < pc best) ∧ okSet u t set) (Classical.propDecidable _) set best
noncomputable def tellS (u : PU) (t n : Int) : Int := itI (tellI u t) (-1) n
noncomputable def tellP (u : PU) (t what : Int) : Int := if tellS u t 4096 = -1 ∨ what = 1 then tellS u t 4096 else pc (tellS u t 4096)
theorem tellI_y {u : PU} {t set best : Int} (h : (best = -1 ∨ pc set < pc best) ∧ okSet u t set) : tellI u t set best = set := if_pos h
theorem tellI_n {u : PU} {t set best : Int} (h : ¬ ((best = -1 ∨ pc set < pc best) ∧ okSet u t set)) : tellI u t set best = best := if_neg h
theorem tellS_ok (u : PU) (t : Int) : ∀ n, 0 ≤ n → n ≤ 4096 → -1 ≤ tellS u t n ∧ tellS u t n < n := by
  refine itI_ind (f := tellI u t) (a := (-1 : Int)) (fun v x => -1 ≤ x ∧ x < v) 4096 (by omega) ?_
  intro i x h0 h1 h2
  by_cases h : (x = -1 ∨ pc i < pc x) ∧ okSet u t i
  · rw [tellI_y h]; omega
  · rw [tellI_n h]; omega
theorem tellS_1 (u : PU) (t : Int) {n : Int} (h : 0 ≤ n) : tellS u t (n + 1) = tellI u t n (tellS u t n) := itI_1 _ _ h
theorem pc_ok (v : Int) : 0 ≤ pc v ∧ pc v ≤ 12 := by
  unfold pc pcN
  omega
theorem shr_amt : ∀ k, k < 32 → ((Int32.ofNat k &&& 31).toBitVec.smod 32).toNat = k := by decide +kernel
theorem zshr_nat {n k : Nat} (hn : n < 2147483648) (hk : k < 32) : zshr n k = ((n / 2 ^ k : Nat) : Int) := by
  unfold zshr
  rw [Int32.ofInt_eq_ofNat, Int32.ofInt_eq_ofNat]
  have h := pk_shrN (n := n) (by omega) (Int32.ofNat k &&& 31) k (shr_amt k hk)
  unfold nI at h
  have h2 := Nat.div_le_self n (2 ^ k)
  generalize n / 2 ^ k = m at h h2 ⊢
  rw [h, ← Int32.ofInt_eq_ofNat, rng_i ⟨by omega, by omega⟩]
theorem isIn_tb {b k : Int} (hb : 0 ≤ b ∧ b < 4096) (hk : 0 ≤ k ∧ k < 12) : zand (zshr b k) 1 = 1 ↔ tb b k := by
  obtain ⟨n, rfl⟩ := Int.eq_ofNat_of_zero_le hb.1
  obtain ⟨m, rfl⟩ := Int.eq_ofNat_of_zero_le hk.1
  have h1 := Nat.div_le_self n (2 ^ m)
  rw [zshr_nat (by omega) (by omega), show (1 : Int) = ((1 : Nat) : Int) from rfl, zand_nat (by omega) (by omega), Nat.and_one_is_mod]
  unfold tb
  simp only [Int.toNat_natCast]
  omega
theorem intP_ok {u : PU} (hu : uOk u) {r : RS} (h : ∀ t : Int, 0 ≤ t → t < (uT u).length → okN (rNow r t)) : -72 ≤ intP u r ∧ intP u r ≤ 240 := by
  have hT := uT_ok hu
  have h6 := hT.1
  have key := itI_ind (f := fun t s => s + (((rNow r t).length : Int) - (gl (uT u) t).length)) (a := (0 : Int)) (fun t s => -12 * t ≤ s ∧ s ≤ 40 * t) (uT u).length (by omega) (by
    intro i x h0 h1 h2
    have a1 := (h i h0 h1).1
    have a2 := (hT.2 _ (gl_mem h0 h1)).1.1
    omega) (uT u).length (by omega) (Int.le_refl _)
  unfold intP
  omega
def bestI (u : PU) (wish j x : Int) : Int := if x ≠ -1 then x else if wish ≤ intP u (runP u (12 - j) 40) then 12 - j else -1
def bestS (u : PU) (wish n : Int) : Int := itI (bestI u wish) (-1) n
def bestP (u : PU) (wish : Int) : Int := bestS u wish 13
theorem bestS_1 {u : PU} {wish n : Int} (h : 0 ≤ n) (h1 : bestS u wish n = -1) : bestS u wish (n + 1) = if wish ≤ intP u (runP u (12 - n) 40) then 12 - n else -1 := by
  have := itI_1 (bestI u wish) (-1 : Int) h
  unfold bestS at h1 ⊢
  rw [this, h1]
  simp [bestI]
theorem bestS_stay {u : PU} {wish k n : Int} (h : 0 ≤ k) (hk : k ≤ n) (h1 : bestS u wish k ≠ -1) : bestS u wish n = bestS u wish k :=
  itI_stay (f := bestI u wish) (a := (-1 : Int)) (fun s : Int => s ≠ -1) (fun i x hx => by unfold bestI; rw [if_pos hx]) h hk h1
