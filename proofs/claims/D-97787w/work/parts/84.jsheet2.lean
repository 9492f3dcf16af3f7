/-! THE LAW: lay, get, write on both sides -/
set_option maxRecDepth 100000
theorem zcut_rng {form v : Int} (hv : rng v) : rng (zcut form v) := by
  unfold zcut
  split
  · have := zi2b_rng v; exact ⟨by omega, by omega⟩
  · split
    · have := zi2s_rng v; exact ⟨by omega, by omega⟩
    · exact hv
/-- items of one sheet change, on both sides alike: places 0 .. n of its row -/
theorem j_items {w : WT} {R M M2 : TM} {s : Int} (h : jI w R M) (hs : 0 ≤ s ∧ s ≤ 3) (hc : shC w R M s (M 101 s).toNat) (h1 : ∀ j : Int, 0 ≤ j → j < M 101 s → M2 (R (600 + s) 1) j = M2 102 (60 * s + j) ∧ rng (M2 102 (60 * s + j))) (h2 : ∀ a b : Int, (a ≠ R (600 + s) 1) → (a ≠ 102 ∨ b < 60 * s ∨ 60 * s + M 101 s ≤ b) → a ≠ 103 → M2 a b = M a b) : jI w R M2 := by
  obtain ⟨i1, d, i3, ⟨s1, s2, s3⟩, i5, i6⟩ := id h
  have hx := hc.2.2.1
  obtain ⟨ln, l60⟩ := h.len hs
  refine ⟨i1, d.keep (fun x y q => h2 x y (by unfold dI at q; omega) (by unfold dI at q; omega) (by unfold dI at q; omega)), rd_keep d.1 i3 (txt_keep (fun x y q => h2 x y (by omega) (by omega) (by omega))) (fun x y q => h2 x y (by omega) (by omega) (by omega)), ⟨fun t t1 t2 => ?_, s2, fun j => ?_⟩, by rw [h2 1 22 (by omega) (by omega) (by omega), h2 2 4 (by omega) (by omega) (by omega)]; exact i5, i6⟩
  · obtain ⟨q1, q2, q3⟩ := s1 t t1 t2
    rw [h2 101 t (by omega) (by omega) (by omega), h2 100 t (by omega) (by omega) (by omega)]
    refine ⟨?_, q2, q3⟩
    rcases q1 with q | ⟨⟨q4, q5, q6, q7⟩, q8, q9⟩
    · exact Or.inl q
    · right
      refine ⟨⟨?_, ?_, q6, q7⟩, ?_, fun j j1 j2 => ?_⟩
      · rw [h2 (600 + t) _ (by omega) (by omega) (by omega)]; exact q4
      · rw [h2 (600 + t) _ (by omega) (by omega) (by omega)]; exact q5
      · rw [h2 (600 + t) _ (by omega) (by omega) (by omega)]; exact q8
      · by_cases e : t = s
        · subst e
          exact (h1 j j1 j2).1
        · have hne := s2 t s t1 t2 hs.1 hs.2 e (by omega)
          rw [h2 _ _ hne (by omega) (by omega), h2 102 _ (by omega) (by omega) (by omega)]
          exact q9 j j1 j2
  · by_cases e : 60 * s ≤ j ∧ j < 60 * s + M 101 s
    · have := (h1 (j - 60 * s) (by omega) (by omega)).2
      rw [show 60 * s + (j - 60 * s) = j by omega] at this
      exact this
    · rw [h2 102 _ (by omega) (by omega) (by omega)]; exact s3 j
theorem j_lay {w : WT} {R M M1 M2 : TM} {s form i v z1 z2 : Int} (h : jI w R M) (hv : rng v) (h1 : layC w s form i v (M 101 s).toNat R M z1 M1)
    (h2 : ((s < 0 ∨ 3 < s ∨ form < 0 ∨ 2 < form) ∧ z2 = -2 ∧ M2 = M1) ∨ ((0 ≤ s ∧ s ≤ 3 ∧ 0 ≤ form ∧ form ≤ 2) ∧ ((M1 100 s < 0 ∧ z2 = -11 ∧ M2 = up M1 2 4 1) ∨ (0 ≤ M1 100 s ∧ M1 100 s ≠ form ∧ z2 = -13 ∧ M2 = up M1 2 4 3) ∨ (M1 100 s = form ∧ (i < 0 ∨ M1 101 s ≤ i) ∧ z2 = -12 ∧ M2 = up M1 2 4 2) ∨ (M1 100 s = form ∧ 0 ≤ i ∧ i < M1 101 s ∧ z2 = 1 ∧ M2 = up M1 102 (60 * s + i) (zcut form v))))) : z1 = z2 ∧ jI w R M2 := by
  rcases h1 with ⟨a1, a2, rfl⟩ | ⟨a1, h1⟩
  · rcases h2 with ⟨b1, b2, rfl⟩ | ⟨b1, -⟩
    · exact ⟨by omega, h⟩
    · omega
  · have hs : 0 ≤ s ∧ s ≤ 3 := by omega
    have sg := h.sg hs
    obtain ⟨ln, l60⟩ := h.len hs
    rcases h2 with ⟨b1, -⟩ | ⟨b1, h2⟩
    · omega
    · rcases h1 with ⟨c1, c2, rfl⟩ | ⟨c1, c2, c3, rfl⟩ | ⟨c1, c2, c3, c4, rfl⟩ | ⟨c1, c2, c3, c4, e1⟩
      · rw [up_n (by omega), up_n (by omega)] at h2
        rcases h2 with ⟨g1, g2, rfl⟩ | ⟨g1, -⟩ | ⟨g1, -⟩ | ⟨g1, -⟩
        · exact ⟨by omega, j_find h rfl⟩
        · omega
        · omega
        · omega
      · have hx := c1.2.2.1
        rw [up_n (by omega), up_n (by omega)] at h2
        rcases h2 with ⟨g1, -⟩ | ⟨g1, g2, g3, rfl⟩ | ⟨g1, -⟩ | ⟨g1, -⟩
        · omega
        · exact ⟨by omega, j_find h rfl⟩
        · omega
        · omega
      · have hx := c1.2.2.1
        rw [up_n (by omega), up_n (by omega)] at h2
        rcases h2 with ⟨g1, -⟩ | ⟨g1, g2, -⟩ | ⟨g1, g2, g3, rfl⟩ | ⟨g1, g2, g3, -⟩
        · omega
        · omega
        · exact ⟨by omega, j_find h rfl⟩
        · omega
      · have hx := c1.2.2.1
        have f0 : M1 100 s = M 100 s := by rw [e1, up_n (by omega)]
        have f1 : M1 101 s = M 101 s := by rw [e1, up_n (by omega)]
        rw [f0, f1] at h2
        rcases h2 with ⟨g1, -⟩ | ⟨g1, g2, -⟩ | ⟨g1, g2, -⟩ | ⟨g1, g2, g3, g4, e2⟩
        · omega
        · omega
        · omega
        · refine ⟨by omega, j_items h hs c1 (fun j j1 j2 => ?_) (fun a b q1 q2 q3 => ?_)⟩
          · have cont := ((h.2.2.2.1.1 s hs.1 hs.2).1.resolve_left (by omega)).2.2 j j1 j2
            by_cases e : j = i
            · subst e
              rw [e2, up_s, up_n (by omega), e1, up_s]
              exact ⟨rfl, zcut_rng hv⟩
            · rw [e2, up_n (by omega), up_n (by omega), e1, up_n (by omega), up_n (by omega)]
              exact ⟨cont, h.2.2.2.1.2.2 _⟩
          · rw [e2, up_n (by omega), e1, up_n (by omega)]
theorem j_get {w : WT} {R M M1 M2 : TM} {s form i z1 z2 : Int} (h : jI w R M) (h1 : getC w s form i (M 101 s).toNat R M z1 M1)
    (h2 : ((s < 0 ∨ 3 < s ∨ form < 0 ∨ 2 < form) ∧ z2 = -2147483648 ∧ M2 = M1) ∨ ((0 ≤ s ∧ s ≤ 3 ∧ 0 ≤ form ∧ form ≤ 2) ∧ ((M1 100 s < 0 ∧ z2 = -2147483648 ∧ M2 = up M1 2 4 1) ∨ (0 ≤ M1 100 s ∧ M1 100 s ≠ form ∧ z2 = -2147483648 ∧ M2 = up M1 2 4 3) ∨ (M1 100 s = form ∧ (i < 0 ∨ M1 101 s ≤ i) ∧ z2 = -2147483648 ∧ M2 = up M1 2 4 2) ∨ (M1 100 s = form ∧ 0 ≤ i ∧ i < M1 101 s ∧ z2 = M1 102 (60 * s + i) ∧ M2 = M1)))) : z1 = z2 ∧ jI w R M2 := by
  rcases h1 with ⟨a1, a2, rfl⟩ | ⟨a1, h1⟩
  · rcases h2 with ⟨b1, b2, rfl⟩ | ⟨b1, -⟩
    · exact ⟨by omega, h⟩
    · omega
  · have hs : 0 ≤ s ∧ s ≤ 3 := by omega
    have sg := h.sg hs
    obtain ⟨ln, l60⟩ := h.len hs
    rcases h2 with ⟨b1, -⟩ | ⟨b1, h2⟩
    · omega
    · rcases h1 with ⟨c1, c2, rfl⟩ | ⟨c1, c2, c3, rfl⟩ | ⟨c1, c2, c3, c4, rfl⟩ | ⟨c1, c2, c3, c4, rfl⟩
      · rw [up_n (by omega), up_n (by omega)] at h2
        rcases h2 with ⟨g1, g2, rfl⟩ | ⟨g1, -⟩ | ⟨g1, -⟩ | ⟨g1, -⟩
        · exact ⟨by omega, j_find h rfl⟩
        · omega
        · omega
        · omega
      · have hx := c1.2.2.1
        rw [up_n (by omega), up_n (by omega)] at h2
        rcases h2 with ⟨g1, -⟩ | ⟨g1, g2, g3, rfl⟩ | ⟨g1, -⟩ | ⟨g1, -⟩
        · omega
        · exact ⟨by omega, j_find h rfl⟩
        · omega
        · omega
      · have hx := c1.2.2.1
        rw [up_n (by omega), up_n (by omega)] at h2
        rcases h2 with ⟨g1, -⟩ | ⟨g1, g2, -⟩ | ⟨g1, g2, g3, rfl⟩ | ⟨g1, g2, g3, -⟩
        · omega
        · omega
        · exact ⟨by omega, j_find h rfl⟩
        · omega
      · have hx := c1.2.2.1
        rcases h2 with ⟨g1, -⟩ | ⟨g1, g2, -⟩ | ⟨g1, g2, -⟩ | ⟨g1, g2, g3, g4, rfl⟩
        · omega
        · omega
        · omega
        · have cont := ((h.2.2.2.1.1 s hs.1 hs.2).1.resolve_left (by omega)).2.2 i (by omega) (by omega)
          exact ⟨by omega, h⟩
theorem mT.keep' {M M' : TM} {u : PU} (h : mT M u) (k : ∀ a b : Int, (a = 105 ∨ a = 106 ∨ a = 113 ∨ (a = 2 ∧ (b = 12 ∨ b = 14))) → M' a b = M a b) : mT M' u := by
  obtain ⟨h0, h1, h2, h3, h4, h5, h6, h7⟩ := h
  exact ⟨h0, by rw [k _ _ (by omega)]; exact h1, by rw [k _ _ (by omega)]; exact h2, fun i q1 q2 => by rw [k _ _ (by omega)]; exact h3 i q1 q2, fun i q1 q2 => by rw [k _ _ (by omega)]; exact h4 i q1 q2, by rw [k _ _ (by omega)]; exact h5, fun i j q1 q2 q3 q4 => by rw [k _ _ (by omega)]; exact h6 i j q1 q2 q3 q4, by rw [k _ _ (by omega)]; exact h7⟩
/-- the model alone asked itself -/
theorem jI.q2 {w : WT} {R M M2 : TM} (h : jI w R M) (hm : kpQ M M2) : jI w R M2 := h.q h.c.s hm
theorem j_write {w : WT} {R M R' M1 M2 : TM} {y t s z1 z2 : Int} (h : jI w R M)
    (h1 : ((y < 0 ∨ 39 < y ∨ t < 0 ∨ (uT (uM M)).length ≤ t ∨ s < 0 ∨ 3 < s) ∧ z1 = -2 ∧ cW (uM M) R M R' M1) ∨ ((0 ≤ y ∧ y ≤ 39 ∧ 0 ≤ t ∧ t < (uT (uM M)).length ∧ 0 ≤ s ∧ s ≤ 3) ∧ ((R (600 + s) 1 = 0 ∧ z1 = -11 ∧ ∃ Mx, cW (uM M) R M R' Mx ∧ M1 = up Mx 1 22 1) ∨ (shC w R M s (M 101 s).toNat ∧ z1 = min ((M 101 s).toNat : Int) ((rNow (runP (uM M) (uear (uM M)) (y + 1)) t).length : Int) ∧ ∃ Mx, cW (uM M) R M R' Mx ∧ (∀ i : Int, 0 ≤ i → i < z1 → M1 (R (600 + s) 1) i = ga (rNow (runP (uM M) (uear (uM M)) (y + 1)) t) i) ∧ ∀ a b : Int, (a ≠ R (600 + s) 1 ∨ b < 0 ∨ z1 ≤ b) → M1 a b = Mx a b))))
    (h2 : ((y < 0 ∨ 39 < y ∨ t < 0 ∨ (uT (uM M)).length ≤ t ∨ s < 0 ∨ 3 < s) ∧ z2 = -2 ∧ kpQ M1 M2) ∨ ((0 ≤ y ∧ y ≤ 39 ∧ 0 ≤ t ∧ t < (uT (uM M)).length ∧ 0 ≤ s ∧ s ≤ 3) ∧ ((M1 100 s < 0 ∧ z2 = -11 ∧ kpQ (up M1 2 4 1) M2) ∨ (0 ≤ M1 100 s ∧ z2 = min (M1 101 s) ((rNow (runP (uM M) (uear (uM M)) (y + 1)) t).length : Int) ∧ (∀ i : Int, 0 ≤ i → i < z2 → M2 102 (60 * s + i) = ga (rNow (runP (uM M) (uear (uM M)) (y + 1)) t) i) ∧ (∀ a b : Int, ((a < 108 ∨ 125 < a ∨ a = 113) ∧ (a ≠ 2 ∨ (b ≠ 7 ∧ b ≠ 10)) ∧ (a ≠ 102 ∨ b < 60 * s ∨ 60 * s + z2 ≤ b)) → M2 a b = M1 a b))))) : z1 = z2 ∧ jI w R' M2 := by
  rcases h1 with ⟨a1, a2, a3⟩ | ⟨a1, ⟨a2, a3, Mx, a4, rfl⟩ | ⟨a2, a3, Mx, a4, a5, a6⟩⟩
  · rcases h2 with ⟨b1, b2, b3⟩ | ⟨b1, -⟩
    · exact ⟨by omega, h.q a3 b3⟩
    · omega
  · have sg := h.sg (show 0 ≤ s ∧ s ≤ 3 by omega)
    have e0 : up Mx 1 22 1 100 s = M 100 s := by rw [up_n (by omega)]; exact a4.2.1 _ _ (by omega)
    rw [e0] at h2
    rcases h2 with ⟨b1, -⟩ | ⟨b1, ⟨b2, b3, b4⟩ | ⟨b2, -⟩⟩
    · omega
    · refine ⟨by omega, ?_⟩
      have hj := h.q a4 kpQ.rf
      exact (j_find hj rfl).q2 b4
    · omega
  · have hs : 0 ≤ s ∧ s ≤ 3 := by omega
    have sg := h.sg hs
    have hx := a2.2.2.1
    obtain ⟨ln, l60⟩ := h.len hs
    have o1 := (okR_run h.2.1.1 (uear (uM M)) (n := y + 1) (by omega)).1 t (by omega) (by omega)
    have km : ∀ a b : Int, 2 ≤ a ∧ a ≤ 125 → M1 a b = M a b := fun a b q => by rw [a6 _ _ (by omega)]; exact a4.2.1 a b (by omega)
    rw [km 100 s (by omega), km 101 s (by omega)] at h2
    rcases h2 with ⟨b1, -⟩ | ⟨b1, ⟨b2, -⟩ | ⟨b2, b3, b4, b5⟩⟩
    · omega
    · omega
    · rw [ln] at a3
      have ez : z1 = z2 := by omega
      have z60 : z1 ≤ M 101 s := by omega
      refine ⟨ez, ?_⟩
      have hj := h.q a4 kpQ.rf
      have eR : R' (600 + s) 1 = R (600 + s) 1 := a4.2.2.1 _ _ (by omega)
      have ex : ∀ a b : Int, (2 ≤ a ∧ a ≤ 201) ∨ (600 ≤ a ∧ a ≤ 603) ∨ 2000 ≤ a → Mx a b = M a b := fun a b q => a4.2.1 a b (by omega)
      have hcx : shC w R' Mx s (Mx 101 s).toNat := by
        unfold shC at a2 ⊢
        rw [eR, ex 101 s (by omega), ex (600 + s) 0 (by omega)]
        exact a2
      have key : jI w R' (fun a b => if a = 2 ∨ (108 ≤ a ∧ a ≤ 125 ∧ a ≠ 113) then Mx a b else M2 a b) := by
        refine j_items hj hs hcx (fun j j1 j2 => ?_) (fun a b q1 q2 q3 => ?_)
        · rw [ex 101 s (by omega)] at j2
          rw [eR, if_neg (by omega), if_neg (by omega)]
          by_cases e : j < z1
          · rw [b5 _ _ (by omega), a5 j j1 e, b4 j j1 (by omega)]
            have := o1.2 _ (ga_mem (l := rNow (runP (uM M) (uear (uM M)) (y + 1)) t) j1 (by omega))
            exact ⟨rfl, by omega, by omega⟩
          · rw [b5 _ _ (by omega), b5 _ _ (by omega), a6 _ _ (by omega), a6 _ _ (by omega), ex _ _ (by omega), ex _ _ (by omega)]
            exact ⟨((h.2.2.2.1.1 s hs.1 hs.2).1.resolve_left (by omega)).2.2 j j1 j2, h.2.2.2.1.2.2 _⟩
        · rw [eR] at q1
          rw [ex 101 s (by omega)] at q2
          by_cases e : a = 2 ∨ (108 ≤ a ∧ a ≤ 125 ∧ a ≠ 113)
          · rw [if_pos e]
          · rw [if_neg e, b5 _ _ (by omega), a6 _ _ (by omega)]
      refine key.q2 (fun a b q => ?_)
      dsimp only
      by_cases e : a = 2 ∨ (108 ≤ a ∧ a ≤ 125 ∧ a ≠ 113)
      · rw [if_pos e, b5 _ _ (by omega), a6 _ _ (by omega)]
      · rw [if_neg e]
def copyC (s i t j n : Int) (ns nt : Nat) (R M : TM) (z : Int) (M' : TM) : Prop := ((s < 0 ∨ 3 < s ∨ t < 0 ∨ 3 < t) ∧ z = -2 ∧ M' = M) ∨ ((0 ≤ s ∧ s ≤ 3 ∧ 0 ≤ t ∧ t ≤ 3) ∧ (((R (600 + s) 1 = 0 ∨ R (600 + t) 1 = 0) ∧ z = -11 ∧ M' = up M 1 22 1) ∨ ((R (600 + s) 1 ≠ 0 ∧ R (600 + t) 1 ≠ 0 ∧ M (600 + s) 0 ≠ M (600 + t) 0) ∧ z = -14 ∧ M' = up M 1 22 4) ∨ ((R (600 + s) 1 ≠ 0 ∧ R (600 + t) 1 ≠ 0 ∧ M (600 + s) 0 = M (600 + t) 0) ∧ (i < 0 ∨ j < 0 ∨ n < 0 ∨ ns < i + n ∨ nt < j + n) ∧ z = -12 ∧ M' = up M 1 22 2) ∨ ((R (600 + s) 1 ≠ 0 ∧ R (600 + t) 1 ≠ 0 ∧ M (600 + s) 0 = M (600 + t) 0) ∧ (0 ≤ i ∧ 0 ≤ j ∧ 0 ≤ n ∧ i + n ≤ ns ∧ j + n ≤ nt) ∧ z = 1 ∧ M' = cpy M (R (600 + s) 1) i (R (600 + t) 1) j n)))
theorem j_copy {w : WT} {R M M1 M2 : TM} {s i t j n z1 z2 : Int} (h : jI w R M) (h1 : copyC s i t j n (M 101 s).toNat (M 101 t).toNat R M z1 M1)
    (h2 : ((s < 0 ∨ 3 < s ∨ t < 0 ∨ 3 < t) ∧ z2 = -2 ∧ M2 = M1) ∨ ((0 ≤ s ∧ s ≤ 3 ∧ 0 ≤ t ∧ t ≤ 3) ∧ (((M1 100 s < 0 ∨ M1 100 t < 0) ∧ z2 = -11 ∧ M2 = up M1 2 4 1) ∨ ((0 ≤ M1 100 s ∧ 0 ≤ M1 100 t ∧ M1 100 s ≠ M1 100 t) ∧ z2 = -14 ∧ M2 = up M1 2 4 4) ∨ ((0 ≤ M1 100 s ∧ M1 100 s = M1 100 t) ∧ (i < 0 ∨ j < 0 ∨ n < 0 ∨ M1 101 s < i + n ∨ M1 101 t < j + n) ∧ z2 = -12 ∧ M2 = up M1 2 4 2) ∨ ((0 ≤ M1 100 s ∧ M1 100 s = M1 100 t) ∧ (0 ≤ i ∧ 0 ≤ j ∧ 0 ≤ n ∧ i + n ≤ M1 101 s ∧ j + n ≤ M1 101 t) ∧ z2 = 1 ∧ M2 = cpy (cpy M1 102 (60 * s + i) 103 0 n) 103 0 102 (60 * t + j) n)))) : z1 = z2 ∧ jI w R M2 := by
  rcases h1 with ⟨a1, a2, rfl⟩ | ⟨a1, h1⟩
  · rcases h2 with ⟨b1, b2, rfl⟩ | ⟨b1, -⟩
    · exact ⟨by omega, h⟩
    · omega
  · have hs : 0 ≤ s ∧ s ≤ 3 := by omega
    have ht : 0 ≤ t ∧ t ≤ 3 := by omega
    have sgs := h.sg hs
    have sgt := h.sg ht
    obtain ⟨lns, l60s⟩ := h.len hs
    obtain ⟨lnt, l60t⟩ := h.len ht
    rcases h2 with ⟨b1, -⟩ | ⟨b1, h2⟩
    · omega
    · rcases h1 with ⟨c1, c2, rfl⟩ | ⟨c1, c2, rfl⟩ | ⟨c1, c2, c3, rfl⟩ | ⟨c1, c2, c3, e1⟩
      · simp only [up_n (show (100 : Int) ≠ 1 ∨ _ ≠ (22 : Int) from Or.inl (by omega)), up_n (show (101 : Int) ≠ 1 ∨ _ ≠ (22 : Int) from Or.inl (by omega))] at h2
        rcases h2 with ⟨g1, g2, rfl⟩ | ⟨g1, -⟩ | ⟨g1, -⟩ | ⟨g1, -⟩
        · exact ⟨by omega, j_find h rfl⟩
        · omega
        · omega
        · omega
      · simp only [up_n (show (100 : Int) ≠ 1 ∨ _ ≠ (22 : Int) from Or.inl (by omega)), up_n (show (101 : Int) ≠ 1 ∨ _ ≠ (22 : Int) from Or.inl (by omega))] at h2
        rcases h2 with ⟨g1, -⟩ | ⟨g1, g2, rfl⟩ | ⟨g1, -⟩ | ⟨g1, -⟩
        · omega
        · exact ⟨by omega, j_find h rfl⟩
        · omega
        · omega
      · simp only [up_n (show (100 : Int) ≠ 1 ∨ _ ≠ (22 : Int) from Or.inl (by omega)), up_n (show (101 : Int) ≠ 1 ∨ _ ≠ (22 : Int) from Or.inl (by omega))] at h2
        rcases h2 with ⟨g1, -⟩ | ⟨g1, -⟩ | ⟨g1, g2, g3, rfl⟩ | ⟨g1, g2, -⟩
        · omega
        · omega
        · exact ⟨by omega, j_find h rfl⟩
        · omega
      · have hcs := (h.hc s hs.1 hs.2).resolve_left c1.1
        have hct := (h.hc t ht.1 ht.2).resolve_left c1.2.1
        have xs := hcs.2.2.1
        have xt := hct.2.2.1
        have f : ∀ x y : Int, x < 2000 → M1 x y = M x y := fun x y q => by rw [e1]; exact cpy_src _ (by omega)
        rw [f 100 s (by omega), f 100 t (by omega), f 101 s (by omega), f 101 t (by omega)] at h2
        rcases h2 with ⟨g1, -⟩ | ⟨g1, -⟩ | ⟨g1, g2, -⟩ | ⟨g1, g2, g3, e2⟩
        · omega
        · omega
        · omega
        · have cs := ((h.2.2.2.1.1 s hs.1 hs.2).1.resolve_left (by omega)).2.2
          have ct := ((h.2.2.2.1.1 t ht.1 ht.2).1.resolve_left (by omega)).2.2
          refine ⟨by omega, j_items h ht hct (fun q q1 q2 => ?_) (fun a b q1 q2 q3 => ?_)⟩
          · have m1 : M2 (R (600 + t) 1) q = if j ≤ q ∧ q < j + n then M (R (600 + s) 1) (i + (q - j)) else M (R (600 + t) 1) q := by
              rw [e2, cpy_src _ (by omega), cpy_src _ (by omega), e1]
              unfold cpy
              by_cases e : j ≤ q ∧ q < j + n
              · rw [if_pos ⟨rfl, e⟩, if_pos e]
              · rw [if_neg (by omega), if_neg e]
            have m2 : M2 102 (60 * t + q) = if j ≤ q ∧ q < j + n then M 102 (60 * s + (i + (q - j))) else M 102 (60 * t + q) := by
              rw [e2]
              unfold cpy
              by_cases e : j ≤ q ∧ q < j + n
              · rw [if_pos ⟨rfl, by omega, by omega⟩, if_pos ⟨rfl, by omega, by omega⟩, if_pos e, f _ _ (by omega)]
                congr 1
                omega
              · rw [if_neg (by omega), if_neg (by omega), if_neg e, f _ _ (by omega)]
            rw [m1, m2]
            by_cases e : j ≤ q ∧ q < j + n
            · rw [if_pos e, if_pos e]
              exact ⟨cs _ (by omega) (by omega), h.2.2.2.1.2.2 _⟩
            · rw [if_neg e, if_neg e]
              exact ⟨ct q q1 q2, h.2.2.2.1.2.2 _⟩
          · rw [e2]
            have : cpy (cpy M1 102 (60 * s + i) 103 0 n) 103 0 102 (60 * t + j) n a b = M1 a b := by
              unfold cpy
              rw [if_neg (by omega), if_neg (by omega)]
            rw [this, e1]
            exact cpy_src _ q1

