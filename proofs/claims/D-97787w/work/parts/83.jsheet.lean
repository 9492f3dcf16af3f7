/-! THE LAW: sheets, on both sides -/
set_option maxRecDepth 100000
theorem itI_ext {α : Type} {f g : Int → α → α} {a : α} : ∀ n : Nat, (∀ k : Int, 0 ≤ k → k < n → ∀ x, f k x = g k x) → itI f a n = itI g a n := by
  intro n
  induction n with
  | zero => intro _; rfl
  | succ n ih =>
    intro h
    rw [show ((n + 1 : Nat) : Int) = (n : Int) + 1 by omega, itI_1 _ _ (by omega), itI_1 _ _ (by omega), ih (fun k h1 h2 => h k h1 (by omega))]
    exact h n (by omega) (by omega) _
theorem rdS_ext {q q' : Int → Int → Int} {nl n : Int} (hn : 0 ≤ n) (h : ∀ k j : Int, 0 ≤ k → k < n → 0 ≤ j → j ≤ 3 → q k j = q' k j) : rdS q nl n = rdS q' nl n := by
  unfold rdS
  have e := itI_ext (f := rdI q nl) (g := rdI q' nl) (a := (0 : Int)) n.toNat (fun k h1 h2 x => by
    unfold rdI okL
    rw [h k 0 h1 (by omega) (by omega) (by omega), h k 1 h1 (by omega) (by omega) (by omega), h k 2 h1 (by omega) (by omega) (by omega), h k 3 h1 (by omega) (by omega) (by omega)])
  rw [show ((n.toNat : Nat) : Int) = n by omega] at e
  exact e
theorem rdS_le {q : Int → Int → Int} {nl n : Int} (hn : 0 ≤ n) : rdS q nl n ≤ n := by
  refine itI_ind (f := rdI q nl) (a := (0 : Int)) (fun i x => x ≤ i) n (by omega) (fun i x h1 h2 h3 => ?_) n hn (by omega)
  unfold rdI
  split <;> omega
theorem rd_keepR {R R' M M' : TM} (hok : uOk (uM M)) (h : M 1 2 = 0 ∨ (M 1 2 = 1 ∧ cRd R M (uM M))) (hR : ∀ b : Int, R' 208 b = R 208 b) (e : uf0 (uM M') = uf0 (uM M) ∧ un0 (uM M') = un0 (uM M) ∧ uf1 (uM M') = uf1 (uM M) ∧ un1 (uM M') = un1 (uM M)) (k : ∀ a b : Int, ((a = 1 ∧ (b = 2 ∨ b = 4 ∨ b = 6)) ∨ a = 203 ∨ (400 ≤ a ∧ a ≤ 405) ∨ (1400 ≤ a ∧ a ≤ 1405) ∨ (500 ≤ a ∧ a ≤ 525)) → M' a b = M a b) : M' 1 2 = 0 ∨ (M' 1 2 = 1 ∧ cRd R' M' (uM M')) := by
  rcases rd_keep hok h e k with q | ⟨q, r1, r2, r3, r4⟩
  · exact Or.inl q
  · refine Or.inr ⟨q, r1, ⟨r2.1, fun b b1 b2 => ?_⟩, r3, r4⟩
    rw [hR]
    exact r2.2 b b1 b2
theorem jI.n {w : WT} {R M : TM} (h : jI w R M) : mSh M := by
  intro s a b
  obtain ⟨q1, q2, q3⟩ := h.2.2.2.1.1 s a b
  rcases q1 with q | ⟨q, q4, -⟩
  · exact ⟨by omega, by omega, q2, q3⟩
  · have := q.2.1; exact ⟨by omega, by omega, q2, q3⟩
theorem jI.hc {w : WT} {R M : TM} (h : jI w R M) (s : Int) : 0 ≤ s → s ≤ 3 → R (600 + s) 1 = 0 ∨ shC w R M s (M 101 s).toNat := by
  intro a b
  obtain ⟨q1, q2, q3⟩ := h.2.2.2.1.1 s a b
  rcases q1 with q | q
  · exact Or.inl q.1
  · exact Or.inr q.1
/-- a finding on both sides -/
theorem j_find {w : WT} {R M M2 : TM} {k : Int} (h : jI w R M) (e : M2 = up (up M 1 22 k) 2 4 k) : jI w R M2 := by
  obtain ⟨i1, d, i3, i4, i5, i6⟩ := id h
  subst e
  have kk : ∀ a b : Int, (a ≠ 1 ∨ b ≠ 22) → (a ≠ 2 ∨ b ≠ 4) → up (up M 1 22 k) 2 4 k a b = M a b := fun a b h1 h2 => by rw [up_n h2, up_n h1]
  refine ⟨i1, d.keep (fun a b q => kk a b (by unfold dI at q; omega) (by unfold dI at q; omega)), rd_keep d.1 i3 (txt_keep (fun a b q => kk a b (by omega) (by omega))) (fun a b q => kk a b (by omega) (by omega)), h.sh (fun a b q => kk a b (by omega) (by omega)), ?_, i6⟩
  rw [up_s, up_n (by omega), up_s]
/-- the form's sign on both sides -/
theorem jI.sg {w : WT} {R M : TM} (h : jI w R M) {s : Int} (hs : 0 ≤ s ∧ s ≤ 3) : (R (600 + s) 1 = 0 ∧ M 100 s < 0) ∨ (R (600 + s) 1 ≠ 0 ∧ 0 ≤ M 100 s ∧ M 100 s = M (600 + s) 0) := by
  obtain ⟨q1, q2, q3⟩ := h.2.2.2.1.1 s hs.1 hs.2
  rcases q1 with q | ⟨q, q4, -⟩
  · exact Or.inl ⟨q.1, by omega⟩
  · right
    have := q.2.1
    have := q.2.2.1
    exact ⟨by omega, by omega, q4⟩
theorem jI.len {w : WT} {R M : TM} (h : jI w R M) {s : Int} (hs : 0 ≤ s ∧ s ≤ 3) : (((M 101 s).toNat : Nat) : Int) = M 101 s ∧ M 101 s ≤ 60 := by
  obtain ⟨q1, q2, q3⟩ := h.2.2.2.1.1 s hs.1 hs.2
  exact ⟨by omega, q3⟩
theorem j_read {w : WT} {R M M1 M2 : TM} {s z1 z2 : Int} (h : jI w R M) (h1 : ((s < 0 ∨ 3 < s) ∧ z1 = -2 ∧ M1 = M) ∨ ((0 ≤ s ∧ s ≤ 3) ∧ ((R (600 + s) 1 = 0 ∧ z1 = -11 ∧ M1 = up M 1 22 1) ∨ (shC w R M s (M 101 s).toNat ∧ z1 = rdS (rowC R M s) (M 1 9) ((M 101 s).toNat / 4) ∧ (0 ≤ z1 ∧ M 1 9 + z1 ≤ 12) ∧ M1 1 9 = M 1 9 + z1 ∧ (∀ k j : Int, 0 ≤ k → k < z1 → 0 ≤ j → j ≤ 3 → M1 (310 + j) (M 1 9 + k) = rowC R M s k j ∧ okL (rowC R M s) k) ∧ (∀ a b : Int, ((a < 310 ∨ 313 < a ∨ b < M 1 9) ∧ (a ≠ 1 ∨ b ≠ 9)) → M1 a b = M a b)))))
    (h2 : ((s < 0 ∨ 3 < s) ∧ z2 = -2 ∧ M2 = M1) ∨ ((0 ≤ s ∧ s ≤ 3) ∧ ((M1 100 s < 0 ∧ z2 = -11 ∧ M2 = up M1 2 4 1) ∨ (0 ≤ M1 100 s ∧ z2 = rdS (shQ M1 s) (M1 2 12) (M1 101 s / 4) ∧ (0 ≤ z2 ∧ M1 2 12 + z2 ≤ 12) ∧ M2 2 12 = M1 2 12 + z2 ∧ (∀ k j : Int, 0 ≤ k → k < z2 → 0 ≤ j → j ≤ 3 → M2 113 (4 * (M1 2 12 + k) + j) = shQ M1 s k j ∧ okL (shQ M1 s) k) ∧ (∀ a b : Int, ((a ≠ 113 ∨ b < 4 * M1 2 12) ∧ (a ≠ 2 ∨ b ≠ 12)) → M2 a b = M1 a b))))) : z1 = z2 ∧ jI w R M2 := by
  have d6 := h.2.1.2.2.2.2.2.1
  rcases h1 with ⟨a1, a2, rfl⟩ | ⟨a1, ⟨a2, a3, rfl⟩ | ⟨a2, a3, a4, a5, a6, a7⟩⟩
  · rcases h2 with ⟨b1, b2, rfl⟩ | ⟨b1, -⟩
    · exact ⟨by omega, h⟩
    · omega
  · have sg := h.sg a1
    rw [up_n (by omega)] at h2
    rcases h2 with ⟨b1, -⟩ | ⟨b1, ⟨b2, b3, rfl⟩ | ⟨b2, -⟩⟩
    · omega
    · exact ⟨by omega, j_find h rfl⟩
    · omega
  · have sg := h.sg a1
    obtain ⟨ln, l60⟩ := h.len a1
    have l0 := (h.2.2.2.1.1 s a1.1 a1.2).2.1
    obtain ⟨-, cont⟩ := ((h.2.2.2.1.1 s a1.1 a1.2).1.resolve_left (by have := a2.2.2.1; omega)).2
    have hx := a2.2.2.1
    have e0 : M1 100 s = M 100 s := a7 _ _ (by omega)
    have e1 : M1 101 s = M 101 s := a7 _ _ (by omega)
    have e2 : M1 2 12 = M 1 9 := by rw [a7 _ _ (by omega)]; exact d6
    have eq0 : ∀ k j : Int, 0 ≤ k → k < M 101 s / 4 → 0 ≤ j → j ≤ 3 → rowC R M s k j = shQ M1 s k j := by
      intro k j k1 k2 j1 j2
      unfold rowC shQ
      rw [a7 _ _ (by omega), cont _ (by omega) (by omega), show 60 * s + 4 * k + j = 60 * s + (4 * k + j) by omega]
    rcases h2 with ⟨b1, -⟩ | ⟨b1, ⟨b2, -⟩ | ⟨b2, b3, b4, b5, b6, b7⟩⟩
    · omega
    · omega
    · rw [e2] at b3 b4 b5 b6 b7
      rw [e1] at b3
      rw [ln] at a3
      have ez : z1 = z2 := by
        rw [a3, b3]
        exact rdS_ext (by omega) eq0
      have zb : z1 ≤ M 101 s / 4 := by
        rw [a3]
        exact rdS_le (by omega)
      refine ⟨ez, j_loans (n := z1) (rowC R M s) h a4 (fun k k1 k2 => (a6 k 0 k1 k2 (by omega) (by omega)).2) ?_ ?_ (fun k j k1 k2 k3 k4 => ?_) (fun k j k1 k2 k3 k4 => ?_) (fun a b q => ?_)⟩
      · rw [b7 _ _ (by omega)]; exact a5
      · rw [b5]; omega
      · rw [b7 _ _ (by omega)]; exact (a6 k j k1 k2 k3 k4).1
      · rw [(b6 k j k1 (by omega) k3 k4).1]; exact (eq0 k j k1 (by omega) k3 k4).symm
      · rw [b7 _ _ (by omega)]; exact a7 _ _ (by omega)
theorem j_sheet {w : WT} {R M R' M1 M2 : TM} {w' : WT} {s form n i z1 z2 : Int} (h : jI w R M) (hi : 2000 ≤ i) (hfree : ∀ t : Int, 0 ≤ t → t ≤ 3 → R (600 + t) 1 ≠ i) (h1 : ((s < 0 ∨ 3 < s ∨ form < 0 ∨ 2 < form ∨ 60 < n) ∧ z1 = -2 ∧ w' = w ∧ R' = R ∧ M1 = M) ∨ ((0 ≤ s ∧ s ≤ 3 ∧ 0 ≤ form ∧ form ≤ 2 ∧ n ≤ 60) ∧ ((n < 0 ∧ z1 = -15 ∧ w' = w ∧ R' = R ∧ M1 = up M 1 22 5) ∨ (0 ≤ n ∧ z1 = n ∧ ∃ a : Nat, w' = wN w i (kF form) n.toNat a ∧ R' = up R (600 + s) 1 i ∧ M1 = up (zM M i) (600 + s) 0 form))))
    (h2 : ((s < 0 ∨ 3 < s ∨ form < 0 ∨ 2 < form ∨ 60 < n) ∧ z2 = -2 ∧ M2 = M1) ∨ ((0 ≤ s ∧ s ≤ 3 ∧ 0 ≤ form ∧ form ≤ 2 ∧ n < 0) ∧ z2 = -15 ∧ M2 = up M1 2 4 5) ∨ ((0 ≤ s ∧ s ≤ 3 ∧ 0 ≤ form ∧ form ≤ 2 ∧ 0 ≤ n ∧ n ≤ 60) ∧ z2 = n ∧ M2 = zfill (up (up M1 100 s form) 101 s n) 102 (60 * s) (60 * s + n))) : z1 = z2 ∧ jI w' R' M2 := by
  rcases h1 with ⟨a1, a2, rfl, rfl, rfl⟩ | ⟨a1, ⟨a2, a3, rfl, rfl, rfl⟩ | ⟨a2, a3, a, rfl, rfl, e1⟩⟩
  · rcases h2 with ⟨b1, b2, rfl⟩ | ⟨b1, -⟩ | ⟨b1, -⟩
    · exact ⟨by omega, h⟩
    · omega
    · omega
  · rcases h2 with ⟨b1, -⟩ | ⟨b1, b2, rfl⟩ | ⟨b1, -⟩
    · omega
    · exact ⟨by omega, j_find h rfl⟩
    · omega
  · rcases h2 with ⟨b1, -⟩ | ⟨b1, -⟩ | ⟨b1, b2, e2⟩
    · omega
    · omega
    · obtain ⟨i1, d, i3, ⟨s1, s2, s3⟩, i5, i6⟩ := id h
      have kk : ∀ x y : Int, x ≠ i → (x < 600 ∨ 603 < x) → (x < 100 ∨ 102 < x) → M2 x y = M x y := by
        intro x y c1 c2 c3
        rw [e2, e1]
        unfold zfill
        rw [if_neg (by omega), up_n (by omega), up_n (by omega), up_n (by omega)]
        unfold zM
        rw [if_neg c1]
      refine ⟨by omega, i1.st (by omega), d.keep (fun x y q => kk x y (by unfold dI at q; omega) (by unfold dI at q; omega) (by unfold dI at q; omega)), rd_keepR d.1 i3 (fun b => up_n (by omega)) (txt_keep (fun x y q => kk x y (by omega) (by omega) (by omega))) (fun x y q => kk x y (by omega) (by omega) (by omega)), ?_, by rw [kk 1 22 (by omega) (by omega) (by omega), kk 2 4 (by omega) (by omega) (by omega)]; exact i5, fun x hx => ?_⟩
      · have m100 : ∀ t : Int, M2 100 t = if t = s then form else M 100 t := by
          intro t
          rw [e2, e1]
          unfold zfill
          rw [if_neg (by omega), up_n (by omega)]
          by_cases e : t = s
          · rw [if_pos e, e, up_s]
          · rw [if_neg e, up_n (by omega), up_n (by omega)]
            unfold zM
            rw [if_neg (by omega)]
        have m101 : ∀ t : Int, M2 101 t = if t = s then n else M 101 t := by
          intro t
          rw [e2, e1]
          unfold zfill
          rw [if_neg (by omega)]
          by_cases e : t = s
          · rw [if_pos e, e, up_s]
          · rw [if_neg e, up_n (by omega), up_n (by omega), up_n (by omega)]
            unfold zM
            rw [if_neg (by omega)]
        have m102 : ∀ j : Int, M2 102 j = if 60 * s ≤ j ∧ j < 60 * s + n then 0 else M 102 j := by
          intro j
          rw [e2, e1]
          unfold zfill
          by_cases e : 60 * s ≤ j ∧ j < 60 * s + n
          · rw [if_pos ⟨rfl, e⟩, if_pos e]
          · rw [if_neg (by omega), if_neg e, up_n (by omega), up_n (by omega), up_n (by omega)]
            unfold zM
            rw [if_neg (by omega)]
        have m600 : ∀ t : Int, 0 ≤ t → t ≤ 3 → M2 (600 + t) 0 = if t = s then form else M (600 + t) 0 := by
          intro t t1 t2
          rw [e2, e1]
          unfold zfill
          rw [if_neg (by omega), up_n (by omega), up_n (by omega)]
          by_cases e : t = s
          · rw [if_pos e, e, up_s]
          · rw [if_neg e, up_n (by omega)]
            unfold zM
            rw [if_neg (by omega)]
        have mi : ∀ j : Int, M2 i j = 0 := by
          intro j
          rw [e2, e1]
          unfold zfill
          rw [if_neg (by omega), up_n (by omega), up_n (by omega), up_n (by omega)]
          unfold zM
          rw [if_pos rfl]
        refine ⟨fun t t1 t2 => ?_, fun t v t1 t2 v1 v2 hne h0 => ?_, fun j => ?_⟩
        · rw [m100, m101]
          by_cases e : t = s
          · rw [if_pos e, if_pos e]
            subst e
            refine ⟨Or.inr ⟨⟨?_, ?_, ?_, ?_⟩, ?_, fun j j1 j2 => ?_⟩, by omega, by omega⟩
            · rw [up_s, m600 t t1 t2, if_pos rfl]; exact wN_s hi
            · rw [m600 t t1 t2, if_pos rfl]; omega
            · rw [up_s]; exact hi
            · omega
            · rw [m600 t t1 t2, if_pos rfl]
            · rw [up_s, mi, m102, if_pos (by omega)]
          · rw [if_neg e, if_neg e]
            obtain ⟨q1, q2, q3⟩ := s1 t t1 t2
            refine ⟨?_, q2, q3⟩
            rw [up_n (by omega)]
            rcases q1 with q | ⟨⟨q4, q5, q6, q7⟩, q8, q9⟩
            · exact Or.inl q
            · right
              have hne := hfree t t1 t2
              refine ⟨⟨?_, ?_, ?_, ?_⟩, ?_, fun j j1 j2 => ?_⟩
              · rw [up_n (by omega), m600 t t1 t2, if_neg e, wN_n hne]; exact q4
              · rw [m600 t t1 t2, if_neg e]; exact q5
              · rw [up_n (by omega)]; exact q6
              · exact q7
              · rw [m600 t t1 t2, if_neg e]; exact q8
              · rw [kk _ _ hne (by omega) (by omega), m102, if_neg (by omega)]; exact q9 j j1 j2
        · by_cases e : t = s
          · subst e
            rw [up_s, up_n (by omega)]
            exact (hfree v v1 v2).symm
          · rw [up_n (by omega)] at h0 ⊢
            by_cases e' : v = s
            · subst e'
              rw [up_s]
              exact hfree t t1 t2
            · rw [up_n (by omega)]
              exact s2 t v t1 t2 v1 v2 hne h0
        · rw [m102]
          split
          · omega
          · exact s3 j
      · show (if x = i then (kF form, n.toNat) else wy w x).1 ≤ 4
        by_cases e : x = i
        · rw [if_pos e]
          have := kF_k form
          show kF form ≤ 4
          omega
        · rw [if_neg e]; exact i6 x hx
theorem j_lose {w : WT} {R M R' M1 M2 : TM} {s z1 z2 : Int} (h : jI w R M) (h1 : ((s < 0 ∨ 3 < s) ∧ z1 = -2 ∧ R' = R ∧ M1 = M) ∨ ((0 ≤ s ∧ s ≤ 3) ∧ ((R (600 + s) 1 = 0 ∧ z1 = -11 ∧ R' = R ∧ M1 = up M 1 22 1) ∨ (shC w R M s (M 101 s).toNat ∧ z1 = (M 101 s).toNat ∧ R' = up R (600 + s) 1 0 ∧ M1 = M))))
    (h2 : ((s < 0 ∨ 3 < s) ∧ z2 = -2 ∧ M2 = M1) ∨ ((0 ≤ s ∧ s ≤ 3 ∧ M1 100 s < 0) ∧ z2 = -11 ∧ M2 = up M1 2 4 1) ∨ ((0 ≤ s ∧ s ≤ 3 ∧ 0 ≤ M1 100 s) ∧ z2 = M1 101 s ∧ M2 = up M1 100 s (-1))) : z1 = z2 ∧ jI w R' M2 := by
  rcases h1 with ⟨a1, a2, rfl, rfl⟩ | ⟨a1, ⟨a2, a3, rfl, rfl⟩ | ⟨a2, a3, rfl, rfl⟩⟩
  · rcases h2 with ⟨b1, b2, rfl⟩ | ⟨b1, -⟩ | ⟨b1, -⟩
    · exact ⟨by omega, h⟩
    · omega
    · omega
  · have sg := h.sg a1
    rw [up_n (by omega)] at h2
    rcases h2 with ⟨b1, -⟩ | ⟨b1, b2, rfl⟩ | ⟨b1, -⟩
    · omega
    · exact ⟨by omega, j_find h rfl⟩
    · omega
  · have sg := h.sg a1
    have hx := a2.2.2.1
    obtain ⟨ln, l60⟩ := h.len a1
    rcases h2 with ⟨b1, -⟩ | ⟨b1, -⟩ | ⟨b1, b2, rfl⟩
    · omega
    · omega
    · obtain ⟨i1, d, i3, ⟨s1, s2, s3⟩, i5, i6⟩ := id h
      refine ⟨by omega, i1.st a1, d.keep (fun x y q => up_n (by unfold dI at q; omega)), rd_keepR d.1 i3 (fun b => up_n (by omega)) (txt_keep (fun x y q => up_n (by omega))) (fun x y q => up_n (by omega)), ⟨fun t t1 t2 => ?_, fun t v t1 t2 v1 v2 hne h0 => ?_, fun j => by rw [up_n (by omega)]; exact s3 j⟩, by rw [up_n (by omega), up_n (by omega)]; exact i5, i6⟩
      · obtain ⟨q1, q2, q3⟩ := s1 t t1 t2
        rw [up_n (i := 100) (a := 101) (by omega)]
        refine ⟨?_, q2, q3⟩
        by_cases e : t = s
        · subst e
          rw [up_s, up_s]
          exact Or.inl ⟨rfl, rfl⟩
        · rw [up_n (by omega), up_n (by omega)]
          rcases q1 with q | ⟨⟨q4, q5, q6, q7⟩, q8, q9⟩
          · exact Or.inl q
          · right
            refine ⟨⟨?_, ?_, ?_, q7⟩, ?_, fun j j1 j2 => ?_⟩
            · rw [up_n (by omega), up_n (by omega)]; exact q4
            · rw [up_n (by omega)]; exact q5
            · rw [up_n (by omega)]; exact q6
            · rw [up_n (by omega)]; exact q8
            · rw [up_n (by omega), up_n (by omega)]; exact q9 j j1 j2
      · by_cases e : t = s
        · subst e
          rw [up_s] at h0
          exact absurd rfl h0
        · rw [up_n (by omega)] at h0 ⊢
          by_cases e' : v = s
          · subst e'
            rw [up_s]
            exact h0
          · rw [up_n (by omega)]
            exact s2 t v t1 t2 v1 v2 hne h0

