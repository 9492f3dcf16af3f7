/-! PURE: what a text means: tunes (lists of notes), borrowers (by threes) -/
set_option maxRecDepth 100000
theorem itI_stay {α : Type} {f : Int → α → α} {a : α} (P : α → Prop) (hP : ∀ i x, P x → f i x = x) {k n : Int} (h0 : 0 ≤ k) (hk : k ≤ n) (h : P (itI f a k)) : itI f a n = itI f a k := by
  have key : ∀ d : Nat, itI f a (k + d) = itI f a k := by
    intro d
    induction d with
    | zero => simp
    | succ d ih =>
      rw [show k + ((d + 1 : Nat) : Int) = (k + d) + 1 by omega, itI_1 _ _ (by omega), ih, hP _ _ h]
  have := key (n - k).toNat
  rw [show k + ((n - k).toNat : Int) = n by omega] at this
  exact this
/-- a row of a list of rows, by an Int -/
def gl (D : List (List Int)) (t : Int) : List Int := D.getD t.toNat []
theorem gl_lt {D : List (List Int)} {c : List Int} {t : Int} (h0 : 0 ≤ t) (h : t < D.length) : gl (D ++ [c]) t = gl D t := by
  unfold gl
  rw [List.getD_eq_getElem?_getD, List.getD_eq_getElem?_getD, List.getElem?_append_left (by omega)]
theorem gl_eq {D : List (List Int)} {c : List Int} : gl (D ++ [c]) (D.length : Int) = c := by
  unfold gl
  simp
theorem ga_lt {D : List Int} {c i : Int} (h0 : 0 ≤ i) (h : i < D.length) : ga (D ++ [c]) i = ga D i := by
  unfold ga
  rw [List.getD_eq_getElem?_getD, List.getD_eq_getElem?_getD, List.getElem?_append_left (by omega)]
theorem ga_eq {D : List Int} {c : Int} : ga (D ++ [c]) (D.length : Int) = c := by
  unfold ga
  simp
abbrev PS : Type := List (List Int) × List Int × Int
def pstep (f : Int → Int) (k : Int) (s : PS) : PS := if s.2.2 ≠ -1 then s else if f k = 59 then (if s.2.1 = [] then ([], [], k) else (s.1 ++ [s.2.1], [], -1)) else if f k < 97 ∨ 103 < f k ∨ s.2.1.length = 12 ∨ s.1.length = 6 then ([], [], k) else (s.1, s.2.1 ++ [f k - 97], -1)
def pst (f : Int → Int) (k : Int) : PS := itI (pstep f) ([], [], -1) k
/-- the fault's place (-1: none), and the tunes -/
def pT (f : Int → Int) (n : Int) : Int × List (List Int) := if (pst f n).2.2 ≠ -1 then ((pst f n).2.2, []) else if (pst f n).2.1 = [] then (if n = 0 then (-1, []) else (n, [])) else (-1, (pst f n).1 ++ [(pst f n).2.1])
theorem pst_0 (f : Int → Int) : pst f 0 = ([], [], -1) := rfl
theorem pst_1 (f : Int → Int) {k : Int} (h : 0 ≤ k) : pst f (k + 1) = pstep f k (pst f k) := itI_1 _ _ h
theorem pT_fault {f : Int → Int} {k n : Int} (h : 0 ≤ k) (hn : k < n) (e : pst f (k + 1) = ([], [], k)) : pT f n = (k, []) := by
  have h1 : pst f n = ([], [], k) := by
    have := itI_stay (f := pstep f) (a := ([], [], -1)) (fun s : PS => s.2.2 ≠ -1) (fun i x hx => by unfold pstep; rw [if_pos hx]) (k := k + 1) (n := n) (by omega) (by omega) (by
      show (pst f (k + 1)).2.2 ≠ -1
      rw [e]; show k ≠ -1; omega)
    exact this.trans e
  unfold pT
  rw [h1]
  simp only
  rw [if_pos (by omega)]
theorem pT_none {f : Int → Int} {n : Int} {D : List (List Int)} (e : pst f n = (D, [], -1)) : pT f n = if n = 0 then (-1, []) else (n, []) := by
  unfold pT
  rw [e]
  simp
theorem pT_all {f : Int → Int} {n : Int} {D : List (List Int)} {c : List Int} (hc : c ≠ []) (e : pst f n = (D, c, -1)) : pT f n = (-1, D ++ [c]) := by
  unfold pT
  rw [e]
  simp [hc]
theorem ps_semi0 {f : Int → Int} {k : Int} {D : List (List Int)} (h : 0 ≤ k) (e : pst f k = (D, [], -1)) (hf : f k = 59) : pst f (k + 1) = ([], [], k) := by
  rw [pst_1 f h, e]; simp [pstep, hf]
theorem ps_semi {f : Int → Int} {k : Int} {D : List (List Int)} {c : List Int} (h : 0 ≤ k) (hc : c ≠ []) (e : pst f k = (D, c, -1)) (hf : f k = 59) : pst f (k + 1) = (D ++ [c], [], -1) := by
  rw [pst_1 f h, e]; simp [pstep, hf, hc]
theorem ps_bad {f : Int → Int} {k : Int} {D : List (List Int)} {c : List Int} (h : 0 ≤ k) (e : pst f k = (D, c, -1)) (hf : ¬ f k = 59) (hb : f k < 97 ∨ 103 < f k ∨ c.length = 12 ∨ D.length = 6) : pst f (k + 1) = ([], [], k) := by
  rw [pst_1 f h, e]; simp [pstep, hf, hb]
theorem ps_note {f : Int → Int} {k : Int} {D : List (List Int)} {c : List Int} (h : 0 ≤ k) (e : pst f k = (D, c, -1)) (hb : ¬ (f k < 97 ∨ 103 < f k ∨ c.length = 12 ∨ D.length = 6)) : pst f (k + 1) = (D, c ++ [f k - 97], -1) := by
  have hf : ¬ f k = 59 := by omega
  rw [pst_1 f h, e]; simp [pstep, hf, hb]
/-- a tune as it may be told; tunes as they may be told -/
def okT (l : List Int) : Prop := l.length ≤ 12 ∧ ∀ x ∈ l, 0 ≤ x ∧ x ≤ 6
def okD (D : List (List Int)) : Prop := D.length ≤ 6 ∧ ∀ l ∈ D, okT l ∧ l ≠ []
theorem pst_ok (f : Int → Int) (n : Int) : ∀ k, 0 ≤ k → k ≤ n → okD (pst f k).1 ∧ okT (pst f k).2.1 ∧ ((pst f k).2.1 ≠ [] → (pst f k).1.length ≤ 5) := by
  refine itI_ind (fun _ (s : PS) => okD s.1 ∧ okT s.2.1 ∧ (s.2.1 ≠ [] → s.1.length ≤ 5)) n ?_ ?_
  · exact ⟨⟨by simp, by simp⟩, ⟨by simp, by simp⟩, by simp⟩
  · rintro i ⟨D, c, ft⟩ h0 hn ⟨h1, h2, h3⟩
    dsimp only at h1 h2 h3
    unfold pstep
    dsimp only
    split
    · exact ⟨h1, h2, h3⟩
    · split
      · split
        · exact ⟨⟨by simp, by simp⟩, ⟨by simp, by simp⟩, by simp⟩
        · rename_i hc
          have h4 := h3 hc
          refine ⟨⟨by simp; omega, ?_⟩, ⟨by simp, by simp⟩, by simp⟩
          intro l hl
          rcases List.mem_append.mp hl with q | q
          · exact h1.2 l q
          · rw [List.mem_singleton.mp q]; exact ⟨h2, hc⟩
      · split
        · exact ⟨⟨by simp, by simp⟩, ⟨by simp, by simp⟩, by simp⟩
        · rename_i hb
          refine ⟨h1, ⟨?_, ?_⟩, ?_⟩
          · have := h2.1
            simp
            omega
          · intro x hx
            rcases List.mem_append.mp hx with q | q
            · exact h2.2 x q
            · rw [List.mem_singleton.mp q]; omega
          · intro _
            have := h1.1
            dsimp only
            omega
theorem pT_ok (f : Int → Int) {n : Int} (h : 0 ≤ n) : okD (pT f n).2 := by
  obtain ⟨h1, h2, h3⟩ := pst_ok f n n h (Int.le_refl _)
  unfold pT
  split
  · exact ⟨by simp, by simp⟩
  · split
    · split <;> exact ⟨by simp, by simp⟩
    · rename_i hc
      refine ⟨by have := h3 hc; simp; omega, ?_⟩
      intro l hl
      rcases List.mem_append.mp hl with q | q
      · exact h1.2 l q
      · rw [List.mem_singleton.mp q]; exact ⟨h2, hc⟩
theorem gl_mem {D : List (List Int)} {t : Int} (h0 : 0 ≤ t) (h : t < D.length) : gl D t ∈ D := by
  unfold gl
  have h1 : t.toNat < D.length := by omega
  rw [List.getD_eq_getElem?_getD, List.getElem?_eq_getElem h1]
  exact List.getElem_mem h1
theorem ga_mem {l : List Int} {i : Int} (h0 : 0 ≤ i) (h : i < l.length) : ga l i ∈ l := by
  unfold ga
  have h1 : i.toNat < l.length := by omega
  rw [List.getD_eq_getElem?_getD, List.getElem?_eq_getElem h1]
  exact List.getElem_mem h1
/-- how a borrower hums, by its sign -/
def howP (b : Int) : Int := if b = 43 then 0 else if b = 45 then 1 else if b = 47 then 2 else -1
def bval (f : Int → Int) (k : Int) : Int := if k % 4 = 3 then (if f k = 59 then 0 else -1) else if k % 4 = 1 then howP (f k) else if 97 ≤ f k ∧ f k ≤ 103 then f k - 97 else -1
def bst (f : Int → Int) (k : Int) : Int := itI (fun k x => if x ≠ -1 then x else if bval f k = -1 then k else -1) (-1) k
def fB (f : Int → Int) (n : Int) : Int := if bst f n ≠ -1 then bst f n else if n % 4 ≠ 3 ∧ 0 < n then n else -1
def cB (f : Int → Int) (n : Int) : Int := if fB f n = -1 then (n + 1) / 4 else 0
theorem bst_0 (f : Int → Int) : bst f 0 = -1 := rfl
theorem bst_1 (f : Int → Int) {k : Int} (h : 0 ≤ k) (e : bst f k = -1) : bst f (k + 1) = if bval f k = -1 then k else -1 := by
  have := itI_1 (fun k x => if x ≠ -1 then x else if bval f k = -1 then k else -1) (-1 : Int) h
  unfold bst at e ⊢
  rw [this, e]
  simp
theorem fB_fault {f : Int → Int} {k n : Int} (h : 0 ≤ k) (hn : k < n) (e : bst f k = -1) (hb : bval f k = -1) : fB f n = k := by
  have h1 : bst f (k + 1) = k := by rw [bst_1 f h e, if_pos hb]
  have h2 : bst f n = k := by
    have := itI_stay (f := fun k x => if x ≠ -1 then x else if bval f k = -1 then k else -1) (a := (-1 : Int)) (fun s : Int => s ≠ -1) (fun i x hx => by rw [if_pos hx]) (k := k + 1) (n := n) (by omega) (by omega) (by
      show bst f (k + 1) ≠ -1
      rw [h1]; omega)
    exact this.trans h1
  unfold fB
  rw [h2, if_pos (by omega)]
theorem fB_end {f : Int → Int} {n : Int} (e : bst f n = -1) : fB f n = if n % 4 ≠ 3 ∧ 0 < n then n else -1 := by
  unfold fB
  rw [e]
  simp
/-- a borrower: the note it minds, how, the other one -/
def bq (f : Int → Int) (b : Int) : Int × Int × Int := (f (4 * b) - 97, howP (f (4 * b + 1)), f (4 * b + 2) - 97)
theorem bst_all (f : Int → Int) (n : Int) : ∀ k, 0 ≤ k → k ≤ n → bst f k = -1 → ∀ j, 0 ≤ j → j < k → bval f j ≠ -1 := by
  refine itI_ind (f := fun k x => if x ≠ -1 then x else if bval f k = -1 then k else -1) (a := (-1 : Int)) (fun k (x : Int) => x = -1 → ∀ j, 0 ≤ j → j < k → bval f j ≠ -1) n ?_ ?_
  · intro _ j h1 h2; omega
  · intro i x h0 hn ih hx j h1 h2
    by_cases hx0 : x = -1
    · subst hx0
      simp only [ne_eq, not_true, if_false] at hx
      by_cases hb : bval f i = -1
      · rw [if_pos hb] at hx; omega
      · by_cases e : j = i
        · subst e; exact hb
        · exact ih rfl j h1 (by omega)
    · rw [if_pos hx0] at hx
      exact absurd hx hx0
theorem cB_ok {f : Int → Int} {n : Int} (hn : 0 ≤ n ∧ n ≤ 23) {b : Int} (h0 : 0 ≤ b) (h : b < cB f n) : 0 ≤ (bq f b).1 ∧ (bq f b).1 ≤ 6 ∧ 0 ≤ (bq f b).2.1 ∧ (bq f b).2.1 ≤ 2 ∧ 0 ≤ (bq f b).2.2 ∧ (bq f b).2.2 ≤ 6 ∧ bval f (4 * b) = (bq f b).1 ∧ bval f (4 * b + 1) = (bq f b).2.1 ∧ bval f (4 * b + 2) = (bq f b).2.2 := by
  unfold cB at h
  by_cases e : fB f n = -1
  · rw [if_pos e] at h
    have e2 : bst f n = -1 := by
      apply Classical.byContradiction
      intro q
      unfold fB at e
      rw [if_pos q] at e
      exact q e
    have hmod : ¬ (n % 4 ≠ 3 ∧ 0 < n) := by
      intro q
      rw [fB_end e2, if_pos q] at e
      omega
    have hall := bst_all f n n hn.1 (Int.le_refl _) e2
    have a0 := hall (4 * b) (by omega) (by omega)
    have a1 := hall (4 * b + 1) (by omega) (by omega)
    have a2 := hall (4 * b + 2) (by omega) (by omega)
    unfold bq
    dsimp only
    unfold bval at a0 a1 a2 ⊢
    rw [if_neg (by omega), if_neg (by omega)] at a0 a2
    rw [if_neg (by omega), if_pos (by omega)] at a1
    have b0 : 97 ≤ f (4 * b) ∧ f (4 * b) ≤ 103 := by
      apply Classical.byContradiction
      intro q; rw [if_neg q] at a0; exact a0 rfl
    have b2 : 97 ≤ f (4 * b + 2) ∧ f (4 * b + 2) ≤ 103 := by
      apply Classical.byContradiction
      intro q; rw [if_neg q] at a2; exact a2 rfl
    have b1 : 0 ≤ howP (f (4 * b + 1)) ∧ howP (f (4 * b + 1)) ≤ 2 := by
      unfold howP at a1 ⊢
      (repeat' split) <;> first | omega | (exfalso; simp_all)
    refine ⟨by omega, by omega, b1.1, b1.2, by omega, by omega, ?_, ?_, ?_⟩
    · rw [if_neg (by omega), if_neg (by omega), if_pos b0]
    · rw [if_neg (by omega), if_pos (by omega)]
    · rw [if_neg (by omega), if_neg (by omega), if_pos b2]
  · rw [if_neg e] at h
    omega
theorem cB_le {f : Int → Int} {n : Int} (hn : 0 ≤ n ∧ n ≤ 23) : 0 ≤ cB f n ∧ cB f n ≤ 6 := by
  unfold cB
  split <;> omega
