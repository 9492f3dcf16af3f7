/-! THE LAW: what both objects hold together -/
set_option maxRecDepth 100000
def uM (M : TM) : PU := (fun k => M 300 k, M 201 0, fun k => M 301 k, M 201 1, fun k j => if 0 ≤ j ∧ j ≤ 3 then M (310 + j) k else 0, M 1 9, M 1 11)
theorem uM_lo {M : TM} {k j : Int} (h : 0 ≤ j ∧ j ≤ 3) : ulo (uM M) k j = M (310 + j) k := if_pos h
theorem uM_eq {M M' : TM} (k : ∀ a b : Int, (a = 201 ∨ a = 300 ∨ a = 301 ∨ (310 ≤ a ∧ a ≤ 313) ∨ (a = 1 ∧ (b = 9 ∨ b = 11))) → M' a b = M a b) : uM M' = uM M := by
  unfold uM
  rw [k 201 0 (by omega), k 201 1 (by omega), k 1 9 (by omega), k 1 11 (by omega), show (fun q => M' 300 q) = fun q => M 300 q from funext fun q => k _ _ (by omega), show (fun q => M' 301 q) = fun q => M 301 q from funext fun q => k _ _ (by omega)]
  have e : (fun a j : Int => if 0 ≤ j ∧ j ≤ 3 then M' (310 + j) a else 0) = fun a j : Int => if 0 ≤ j ∧ j ≤ 3 then M (310 + j) a else 0 := by
    funext a j
    by_cases h : 0 ≤ j ∧ j ≤ 3
    · rw [if_pos h, if_pos h, k _ _ (by omega)]
    · rw [if_neg h, if_neg h]
  rw [e]
def jD (M : TM) : Prop := uOk (uM M) ∧ M 106 0 = M 201 0 ∧ M 106 1 = M 201 1 ∧ (∀ k : Int, 0 ≤ k → k < M 201 0 → M 105 k = M 300 k) ∧ (∀ k : Int, 0 ≤ k → k < M 201 1 → M 105 (60 + k) = M 301 k) ∧ M 2 12 = M 1 9 ∧ (∀ k j : Int, 0 ≤ k → k < M 1 9 → 0 ≤ j → j ≤ 3 → M 113 (4 * k + j) = M (310 + j) k) ∧ M 2 14 = M 1 11
def jSh (w : WT) (R M : TM) : Prop := (∀ s : Int, 0 ≤ s → s ≤ 3 → ((R (600 + s) 1 = 0 ∧ M 100 s = -1) ∨ (shC w R M s (M 101 s).toNat ∧ M 100 s = M (600 + s) 0 ∧ ∀ j : Int, 0 ≤ j → j < M 101 s → M (R (600 + s) 1) j = M 102 (60 * s + j))) ∧ 0 ≤ M 101 s ∧ M 101 s ≤ 60) ∧ (∀ s t : Int, 0 ≤ s → s ≤ 3 → 0 ≤ t → t ≤ 3 → s ≠ t → R (600 + s) 1 ≠ 0 → R (600 + s) 1 ≠ R (600 + t) 1) ∧ ∀ j : Int, rng (M 102 j)
def jI (w : WT) (R M : TM) : Prop := RL R ∧ jD M ∧ (M 1 2 = 0 ∨ (M 1 2 = 1 ∧ cRd R M (uM M))) ∧ jSh w R M ∧ M 1 22 = M 2 4 ∧ ∀ x : Int, 2000 ≤ x → (wy w x).1 ≤ 4
theorem jI.c {w : WT} {R M : TM} (h : jI w R M) : cT R M (uM M) := ⟨⟨h.2.1.1, rfl, rfl, fun _ _ _ => rfl, fun _ _ _ => rfl, rfl, fun _ _ _ _ a b => (uM_lo ⟨a, b⟩).symm, rfl⟩, h.2.2.1⟩
theorem jI.m {w : WT} {R M : TM} (h : jI w R M) : mT M (uM M) := ⟨h.2.1.1, h.2.1.2.1, h.2.1.2.2.1, h.2.1.2.2.2.1, h.2.1.2.2.2.2.1, h.2.1.2.2.2.2.2.1, fun k j a b c d => by rw [uM_lo ⟨c, d⟩]; exact h.2.1.2.2.2.2.2.2.1 k j a b c d, h.2.1.2.2.2.2.2.2.2⟩
/-- the data's places -/
def dI (a b : Int) : Prop := a = 201 ∨ a = 300 ∨ a = 301 ∨ (310 ≤ a ∧ a ≤ 313) ∨ (a = 1 ∧ (b = 9 ∨ b = 11)) ∨ a = 105 ∨ a = 106 ∨ a = 113 ∨ (a = 2 ∧ (b = 12 ∨ b = 14))
theorem jD.keep {M M' : TM} (h : jD M) (k : ∀ a b : Int, dI a b → M' a b = M a b) : jD M' := by
  obtain ⟨h1, h2, h3, h4, h5, h6, h7, h8⟩ := h
  have g : ∀ a b : Int, dI a b → M' a b = M a b := k
  unfold dI at g
  refine ⟨by rw [uM_eq (fun a b q => g a b (by omega))]; exact h1, ?_, ?_, fun x a b => ?_, fun x a b => ?_, ?_, fun x j a b c d => ?_, ?_⟩
  · rw [g _ _ (by omega), g 201 _ (by omega)]; exact h2
  · rw [g _ _ (by omega), g 201 _ (by omega)]; exact h3
  · rw [g 201 _ (by omega)] at b; rw [g _ _ (by omega), g 300 _ (by omega)]; exact h4 x a b
  · rw [g 201 _ (by omega)] at b; rw [g _ _ (by omega), g 301 _ (by omega)]; exact h5 x a b
  · rw [g _ _ (by omega), g 1 _ (by omega)]; exact h6
  · rw [g 1 _ (by omega)] at b; rw [g _ _ (by omega), g (310 + j) _ (by omega)]; exact h7 x j a b c d
  · rw [g _ _ (by omega), g 1 _ (by omega)]; exact h8
theorem jSh.keep {w : WT} {R M R' M' : TM} (h : jSh w R M) (hR : ∀ s : Int, 0 ≤ s → s ≤ 3 → R' (600 + s) 1 = R (600 + s) 1) (k : ∀ a b : Int, ((100 ≤ a ∧ a ≤ 102) ∨ (600 ≤ a ∧ a ≤ 603) ∨ 2000 ≤ a) → M' a b = M a b) : jSh w R' M' := by
  obtain ⟨h1, h2, h3⟩ := h
  refine ⟨fun s a b => ?_, fun s t a b c d e => ?_, fun j => by rw [k _ _ (by omega)]; exact h3 j⟩
  · obtain ⟨q1, q2⟩ := h1 s a b
    rw [k 101 s (by omega)]
    refine ⟨?_, q2⟩
    rcases q1 with q | ⟨q, q3, q4⟩
    · left; rw [hR s a b, k 100 _ (by omega)]; exact q
    · right
      have hx : 2000 ≤ R (600 + s) 1 := q.2.2.1
      refine ⟨?_, by rw [k 100 _ (by omega), k (600 + s) _ (by omega)]; exact q3, fun j c d => ?_⟩
      · unfold shC at q ⊢
        rw [hR s a b, k (600 + s) _ (by omega)]
        exact q
      · rw [hR s a b, k (R (600 + s) 1) _ (by omega), k 102 _ (by omega)]
        exact q4 j c d
  · rw [hR s a b, hR t c d]; exact h2 s t a b c d e
/-- both questions asked: nothing told -/
theorem jI.q {w : WT} {R M R' M1 M2 : TM} (h : jI w R M) (hc : cW (uM M) R M R' M1) (hm : kpQ M1 M2) : jI w R' M2 := by
  obtain ⟨h1, h2, h3, h4, h5, h6⟩ := h
  obtain ⟨c1, c2, c3, c4⟩ := hc
  have g : ∀ a b : Int, dI a b → M2 a b = M a b := by
    intro a b q
    unfold dI at q
    rw [hm a b (by omega), c2 a b (by omega)]
  have g' := g
  unfold dI at g'
  have eu : uM M2 = uM M := uM_eq (fun a b q => g' a b (by omega))
  have hu : cD M1 (uM M) := c1.1
  refine ⟨h1.kp c3, h2.keep g, ?_, h4.keep (fun s _ _ => c3 _ _ (by omega)) (fun a b q => by rw [hm a b (by omega), c2 a b (by omega)]), by rw [hm 1 22 (by omega), hm 2 4 (by omega), c2 1 22 (by omega), c2 2 4 (by omega)]; exact h5, h6⟩
  rw [eu, hm 1 2 (by omega)]
  rcases c1.2 with q | ⟨q, r⟩
  · exact Or.inl q
  · right
    obtain ⟨r1, r2, r3, r4⟩ := r
    exact ⟨q, r1.keep (uT_ok hu.1).1 (fun a b q => hm a b (by omega)), r2.keep (uB_ok hu.1).2 (fun a b q => hm a b (by omega)), by rw [hm _ _ (by omega)]; exact r3, by rw [hm _ _ (by omega)]; exact r4⟩
/-- the read texts are as they were -/
theorem rd_keep {R M M' : TM} (hok : uOk (uM M)) (h : M 1 2 = 0 ∨ (M 1 2 = 1 ∧ cRd R M (uM M))) (e : uf0 (uM M') = uf0 (uM M) ∧ un0 (uM M') = un0 (uM M) ∧ uf1 (uM M') = uf1 (uM M) ∧ un1 (uM M') = un1 (uM M)) (k : ∀ a b : Int, ((a = 1 ∧ (b = 2 ∨ b = 4 ∨ b = 6)) ∨ a = 203 ∨ (400 ≤ a ∧ a ≤ 405) ∨ (1400 ≤ a ∧ a ≤ 1405) ∨ (500 ≤ a ∧ a ≤ 525)) → M' a b = M a b) : M' 1 2 = 0 ∨ (M' 1 2 = 1 ∧ cRd R M' (uM M')) := by
  obtain ⟨e1, e2, e3, e4⟩ := e
  rw [k 1 2 (by omega)]
  rcases h with q | ⟨q, r1, r2, r3, r4⟩
  · exact Or.inl q
  · right
    refine ⟨q, ?_, ?_, ?_, ?_⟩
    · unfold uT
      rw [e1, e2]
      exact r1.keep (uT_ok hok).1 (fun a b q => k a b (by omega))
    · rw [e3, e4]
      exact r2.keep (uB_ok hok).2 (fun a b q => k a b (by omega))
    · rw [e1, e2, k _ _ (by omega)]; exact r3
    · rw [e3, e4, k _ _ (by omega)]; exact r4
