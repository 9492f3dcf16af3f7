/-! PURE: years: lent, hummed, come back -/
set_option maxRecDepth 100000
def fu {α : Type} (f : Int → α) (k : Int) (v : α) : Int → α := fun j => if j = k then v else f j
theorem fu_s {α : Type} {f : Int → α} {k : Int} {v : α} : fu f k v k = v := by simp [fu]
theorem fu_n {α : Type} {f : Int → α} {k j : Int} {v : α} (h : j ≠ k) : fu f k v j = f j := by simp [fu, h]
theorem fu_comm {α : Type} {f : Int → α} {i j : Int} {v w : α} (h : i ≠ j) : fu (fu f i v) j w = fu (fu f j w) i v := by
  funext k
  unfold fu
  by_cases e : k = j
  · by_cases e2 : k = i
    · omega
    · simp [e, Ne.symm h]
  · simp [e]
/-- now, lent, by, counts, bad, gains -/
abbrev RS : Type := (Int → List Int) × (Int → List Int) × (Int → Int) × (Int → Int) × (Int → Int) × (Int → Int)
abbrev rNow (r : RS) : Int → List Int := r.1
abbrev rLent (r : RS) : Int → List Int := r.2.1
abbrev rBy (r : RS) : Int → Int := r.2.2.1
abbrev rCnt (r : RS) : Int → Int := r.2.2.2.1
abbrev rBad (r : RS) : Int → Int := r.2.2.2.2.1
abbrev rGain (r : RS) : Int → Int := r.2.2.2.2.2
def lendS (u : PU) (y k : Int) (r : RS) : RS := if ulo u k 0 = y ∧ ulo u k 1 < (uT u).length ∧ ulo u k 2 < uB u ∧ rBy r (ulo u k 1) = -1 then (rNow r, fu (rLent r) (ulo u k 1) (rNow r (ulo u k 1)), fu (rBy r) (ulo u k 1) k, fu (rCnt r) k 1, rBad r, rGain r) else r
def humS (u : PU) (t : Int) (r : RS) : RS := if rBy r t = -1 then r else (fu (rNow r) t (hum (uq u (ulo u (rBy r t) 2)) (rNow r t)), rLent r, rBy r, rCnt r, rBad r, rGain r)
def badP (e : Int) (l n : List Int) : Prop := lcs l n < min e l.length
def retS (u : PU) (e y t : Int) (r : RS) : RS := if rBy r t ≠ -1 ∧ ulo u (rBy r t) 0 + ulo u (rBy r t) 3 = y + 1 then (fu (rNow r) t (if lcs (rLent r t) (rNow r t) < min e (rLent r t).length then rLent r t else rNow r t), rLent r, fu (rBy r) t (-1), rCnt r, fu (rBad r) (rBy r t) (if lcs (rLent r t) (rNow r t) < min e (rLent r t).length then 1 else 0), fu (rGain r) (rBy r t) ((rNow r t).length - (rLent r t).length)) else r
def yearM (u : PU) (e y : Int) (r : RS) : RS := itI (retS u e y) (itI (humS u) (itI (lendS u y) r (unl u)) (uT u).length) (uT u).length
def yearC (u : PU) (e y : Int) (r : RS) : RS := itI (fun t r => retS u e y t (humS u t r)) (itI (lendS u y) r (unl u)) (uT u).length
theorem itI_split {α : Type} {f g : Int → α → α} {x : α} (h : ∀ i j y, 0 ≤ i → i < j → g i (f j y) = f j (g i y)) : ∀ n : Int, 0 ≤ n → itI g (itI f x n) n = itI (fun i y => g i (f i y)) x n := by
  have com : ∀ (m : Nat) (j : Int) (y : α), (m : Int) ≤ j → itI g (f j y) m = f j (itI g y m) := by
    intro m
    induction m with
    | zero => intro j y _; rfl
    | succ m ih =>
      intro j y hj
      rw [show ((m + 1 : Nat) : Int) = (m : Int) + 1 by omega, itI_1 _ _ (by omega), itI_1 _ _ (by omega), ih j y (by omega), h _ _ _ (by omega) (by omega)]
  have key : ∀ m : Nat, itI g (itI f x m) m = itI (fun i y => g i (f i y)) x m := by
    intro m
    induction m with
    | zero => rfl
    | succ m ih =>
      rw [show ((m + 1 : Nat) : Int) = (m : Int) + 1 by omega, itI_1 f x (by omega), itI_1 g _ (by omega), itI_1 (fun i y => g i (f i y)) x (by omega), com m _ _ (Int.le_refl _), ih]
  intro n hn
  have := key n.toNat
  rw [Int.toNat_of_nonneg hn] at this
  exact this
theorem year_eq (u : PU) (e y : Int) (r : RS) : yearM u e y r = yearC u e y r := by
  unfold yearM yearC
  refine itI_split ?_ _ (by omega)
  intro i j r h0 hij
  have hne : i ≠ j := by omega
  unfold humS
  by_cases h1 : rBy r j = -1
  · rw [if_pos h1]
    have h2 : rBy (retS u e y i r) j = -1 := by
      unfold retS
      split
      · show fu (rBy r) i (-1) j = -1
        rw [fu_n (Ne.symm hne)]; exact h1
      · exact h1
    rw [if_pos h2]
  · rw [if_neg h1]
    have h2 : rBy (retS u e y i r) j = rBy r j := by
      unfold retS
      split
      · show fu (rBy r) i (-1) j = _
        rw [fu_n (Ne.symm hne)]
      · rfl
    rw [if_neg (by rw [h2]; exact h1), h2]
    by_cases h3 : rBy r i ≠ -1 ∧ ulo u (rBy r i) 0 + ulo u (rBy r i) 3 = y + 1
    · rw [show retS u e y i r = _ from if_pos h3, show retS u e y i (fu (rNow r) j (hum (uq u (ulo u (rBy r j) 2)) (rNow r j)), rLent r, rBy r, rCnt r, rBad r, rGain r) = _ from if_pos h3]
      dsimp only [rNow, rLent, rBy, rCnt, rBad, rGain]
      simp only [fu_n hne, fu_n (Ne.symm hne)]
      rw [fu_comm (Ne.symm hne)]
    · rw [show retS u e y i r = _ from if_neg h3, show retS u e y i (fu (rNow r) j (hum (uq u (ulo u (rBy r j) 2)) (rNow r j)), rLent r, rBy r, rCnt r, rBad r, rGain r) = _ from if_neg h3]
def startS (u : PU) : RS := (fun t => gl (uT u) t, fun _ => [], fun _ => -1, fun _ => 0, fun _ => 0, fun _ => 0)
/-- so many years from the start -/
def runP (u : PU) (e n : Int) : RS := itI (yearM u e) (startS u) n
/-- what holds of a run's state in year y; from year z on no loan is bad yet -/
def okR (u : PU) (y z : Int) (r : RS) : Prop := (∀ t : Int, 0 ≤ t → t < (uT u).length → okN (rNow r t)) ∧ (∀ t : Int, 0 ≤ t → t < (uT u).length → rBy r t = -1 ∨ (0 ≤ rBy r t ∧ rBy r t < unl u ∧ ulo u (rBy r t) 1 = t ∧ ulo u (rBy r t) 2 < uB u ∧ ulo u (rBy r t) 0 ≤ y ∧ okN (rLent r t) ∧ rBad r (rBy r t) = 0)) ∧ (∀ k, 0 ≤ k → k < unl u → z ≤ ulo u k 0 → rBad r k = 0)
theorem okR_start {u : PU} (h : uOk u) (y z : Int) : okR u y z (startS u) := by
  have h1 := uT_ok h
  exact ⟨fun t q1 q2 => okN_of (h1.2 _ (gl_mem q1 q2)).1, fun t _ _ => Or.inl rfl, fun _ _ _ _ => rfl⟩
theorem okR_lend {u : PU} (h : uOk u) {y k : Int} {r : RS} (hk : 0 ≤ k ∧ k < unl u) (hr : okR u y y r) : okR u y y (lendS u y k r) := by
  unfold lendS
  split
  · rename_i hc
    obtain ⟨c1, c2, c3, c4⟩ := hc
    have hl := (h.2.2.2.2.2.1 k hk.1 hk.2)
    refine ⟨hr.1, fun t q1 q2 => ?_, hr.2.2⟩
    dsimp only [rBy, rLent, rNow, rBad] at c4 ⊢
    by_cases e : t = ulo u k 1
    · subst e
      right
      rw [fu_s, fu_s]
      exact ⟨hk.1, hk.2, rfl, c3, by omega, hr.1 _ q1 q2, hr.2.2 k hk.1 hk.2 (by omega)⟩
    · rw [fu_n e, fu_n e]
      exact hr.2.1 t q1 q2
  · exact hr
theorem okR_hum {u : PU} (h : uOk u) {y z t : Int} {r : RS} (ht : 0 ≤ t ∧ t < (uT u).length) (hr : okR u y z r) : okR u y z (humS u t r) := by
  unfold humS
  split
  · exact hr
  · rename_i hc
    refine ⟨fun s q1 q2 => ?_, hr.2.1, hr.2.2⟩
    dsimp only [rNow, rBy] at hc ⊢
    by_cases e : s = t
    · subst e
      rw [fu_s]
      rcases hr.2.1 s q1 q2 with q | q
      · exact absurd q hc
      · have hl := h.2.2.2.2.2.1 _ q.1 q.2.1
        exact hum_ok (uq_ok h hl.2.2.1.1 q.2.2.2.1) (hr.1 s q1 q2)
    · rw [fu_n e]
      exact hr.1 s q1 q2
theorem okR_ret {u : PU} (h : uOk u) {e y t : Int} {r : RS} (ht : 0 ≤ t ∧ t < (uT u).length) (hr : okR u y (y + 1) r) : okR u y (y + 1) (retS u e y t r) := by
  unfold retS
  split
  · rename_i hc
    obtain ⟨c1, c2⟩ := hc
    have hb := (hr.2.1 t ht.1 ht.2).resolve_left c1
    refine ⟨fun s q1 q2 => ?_, fun s q1 q2 => ?_, fun k q1 q2 q3 => ?_⟩
    · dsimp only [rNow]
      by_cases e1 : s = t
      · subst e1
        rw [fu_s]
        split
        · exact hb.2.2.2.2.2.1
        · exact hr.1 s q1 q2
      · rw [fu_n e1]; exact hr.1 s q1 q2
    · dsimp only [rBy, rLent, rBad]
      by_cases e1 : s = t
      · subst e1
        rw [fu_s]; exact Or.inl rfl
      · rw [fu_n e1]
        rcases hr.2.1 s q1 q2 with q | q
        · exact Or.inl q
        · right
          refine ⟨q.1, q.2.1, q.2.2.1, q.2.2.2.1, q.2.2.2.2.1, q.2.2.2.2.2.1, ?_⟩
          rw [fu_n (fun z => e1 (by rw [← q.2.2.1, ← hb.2.2.1]; exact congrArg (fun x => ulo u x 1) z))]
          exact q.2.2.2.2.2.2
    · dsimp only [rBad]
      rw [fu_n (fun z => by rw [z] at q3; have := hb.2.2.2.2.1; omega)]
      exact hr.2.2 k q1 q2 q3
  · exact hr
theorem okR.le {u : PU} {y z y' z' : Int} {r : RS} (h : okR u y z r) (hy : y ≤ y') (hz : z ≤ z') : okR u y' z' r := by
  refine ⟨h.1, fun t q1 q2 => ?_, fun k q1 q2 q3 => h.2.2 k q1 q2 (by omega)⟩
  rcases h.2.1 t q1 q2 with q | q
  · exact Or.inl q
  · exact Or.inr ⟨q.1, q.2.1, q.2.2.1, q.2.2.2.1, by omega, q.2.2.2.2.2⟩
theorem okR_year {u : PU} (h : uOk u) {e y : Int} {r : RS} (hr : okR u y y r) : okR u (y + 1) (y + 1) (yearM u e y r) := by
  unfold yearM
  have h1 := itI_ind (f := lendS u y) (a := r) (fun _ r => okR u y y r) (unl u) hr (fun i x q1 q2 q3 => okR_lend h ⟨q1, q2⟩ q3) (unl u) h.2.2.2.2.1.1 (Int.le_refl _)
  have h2 := itI_ind (f := humS u) (a := itI (lendS u y) r (unl u)) (fun _ r => okR u y y r) (uT u).length h1 (fun i x q1 q2 q3 => okR_hum h ⟨q1, q2⟩ q3) (uT u).length (by omega) (Int.le_refl _)
  have h3 := itI_ind (f := retS u e y) (a := itI (humS u) (itI (lendS u y) r (unl u)) (uT u).length) (fun _ r => okR u y (y + 1) r) (uT u).length (h2.le (by omega) (by omega)) (fun i x q1 q2 q3 => okR_ret h ⟨q1, q2⟩ q3) (uT u).length (by omega) (Int.le_refl _)
  exact h3.le (by omega) (by omega)
theorem okR_run {u : PU} (h : uOk u) (e : Int) {n : Int} (hn : 0 ≤ n) : okR u n n (runP u e n) :=
  itI_ind (f := yearM u e) (a := startS u) (fun y r => okR u y y r) n (okR_start h 0 0) (fun i x q1 q2 q3 => okR_year h q3) n hn (Int.le_refl _)
