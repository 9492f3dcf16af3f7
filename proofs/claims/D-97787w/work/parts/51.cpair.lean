/-! COMPONENT, tunes together: common, far, nearest, mothers, tells -/
set_option maxRecDepth 100000
theorem zor_nat {a b : Nat} (ha : a < 4096) (hb : b < 4096) : zor a b = ((a ||| b : Nat) : Int) := by
  unfold zor
  rw [Int32.ofInt_eq_ofNat, Int32.ofInt_eq_ofNat]
  have h1 : (Int32.ofNat a ||| Int32.ofNat b) = Int32.ofNat (a ||| b) := by
    apply Int32.toBitVec.inj
    simp [Int32.toBitVec_or, Int32.toBitVec_ofNat']
  rw [h1]
  have h2 : a ||| b < 2 ^ 12 := Nat.or_lt_two_pow (by omega) (by omega)
  rw [← Int32.ofInt_eq_ofNat, rng_i ⟨by omega, by omega⟩]
theorem zshl_1n : ∀ k, k < 12 → zshl 1 (k : Nat) = ((2 ^ k : Nat) : Int) := by
  intro k hk
  rcases (show k = 0 ∨ k = 1 ∨ k = 2 ∨ k = 3 ∨ k = 4 ∨ k = 5 ∨ k = 6 ∨ k = 7 ∨ k = 8 ∨ k = 9 ∨ k = 10 ∨ k = 11 by omega) with e | e | e | e | e | e | e | e | e | e | e | e <;> subst e <;> decide +kernel
/-- places where two tunes are unlike, as bits -/
def ulI (a b : List Int) (i s : Int) : Int := zor s (if nat12 a i = nat12 b i then 0 else zshl 1 i)
def ulP (a b : List Int) : Int := itI (ulI a b) 0 12
theorem ul_bits (a b : List Int) : ∀ n : Nat, n ≤ 12 → ∃ N : Nat, itI (ulI a b) 0 n = (N : Int) ∧ N < 2 ^ n ∧ ∀ i : Nat, N.testBit i = true ↔ (i < n ∧ nat12 a i ≠ nat12 b i) := by
  intro n
  induction n with
  | zero => intro _; exact ⟨0, rfl, by decide, fun i => by simp⟩
  | succ n ih =>
    intro hn
    obtain ⟨N, h1, h2, h3⟩ := ih (by omega)
    have h4 : N < 4096 := Nat.lt_of_lt_of_le h2 (Nat.pow_le_pow_right (n := 2) (by omega) (show n ≤ 12 by omega))
    have h5 : 2 ^ n < 4096 := Nat.lt_of_lt_of_le (Nat.pow_lt_pow_right (by omega) (Nat.lt_succ_self n)) (Nat.pow_le_pow_right (n := 2) (by omega) (show n + 1 ≤ 12 by omega))
    rw [show ((n + 1 : Nat) : Int) = (n : Int) + 1 by omega, itI_1 _ _ (by omega), h1]
    unfold ulI
    by_cases e : nat12 a n = nat12 b n
    · rw [if_pos e, show (0 : Int) = ((0 : Nat) : Int) from rfl, zor_nat h4 (by omega)]
      refine ⟨N ||| 0, rfl, by simp; exact Nat.lt_of_lt_of_le h2 (Nat.pow_le_pow_right (by omega) (by omega)), fun i => ?_⟩
      rw [Nat.or_zero, h3]
      constructor
      · rintro ⟨q1, q2⟩; exact ⟨by omega, q2⟩
      · rintro ⟨q1, q2⟩
        refine ⟨?_, q2⟩
        apply Classical.byContradiction
        intro q
        have : i = n := by omega
        subst this
        exact q2 e
    · rw [if_neg e, zshl_1n n (by omega), zor_nat h4 h5]
      refine ⟨N ||| 2 ^ n, rfl, Nat.or_lt_two_pow (Nat.lt_of_lt_of_le h2 (Nat.pow_le_pow_right (by omega) (by omega))) (Nat.pow_lt_pow_right (by omega) (by omega)), fun i => ?_⟩
      rw [Nat.testBit_or, Bool.or_eq_true, h3, Nat.testBit_two_pow, decide_eq_true_iff]
      constructor
      · rintro (q | q)
        · exact ⟨by omega, q.2⟩
        · subst q; exact ⟨by omega, e⟩
      · rintro ⟨q1, q2⟩
        by_cases q : n = i
        · exact Or.inr q
        · exact Or.inl ⟨by omega, q2⟩
theorem ul_zand {a b : List Int} {set : Int} (h : 0 ≤ set ∧ set < 4096) : rng (zand (ulP a b) set) ∧ (¬ zand (ulP a b) set = 0 ↔ ∃ i : Int, 0 ≤ i ∧ i < 12 ∧ tb set i ∧ nat12 a i ≠ nat12 b i) := by
  refine ⟨rng_zand _ _, ?_⟩
  obtain ⟨s, rfl⟩ := Int.eq_ofNat_of_zero_le h.1
  obtain ⟨N, h1, h2, h3⟩ := ul_bits a b 12 (Nat.le_refl _)
  have e1 : ulP a b = (N : Int) := h1
  rw [e1, zand_nat (by omega) (by omega)]
  constructor
  · intro q
    apply Classical.byContradiction
    intro hno
    apply q
    have : N &&& s = 0 := by
      apply Nat.eq_of_testBit_eq
      intro i
      rw [Nat.testBit_and, Nat.zero_testBit]
      cases hN : N.testBit i with
      | false => rfl
      | true =>
        cases hS : s.testBit i with
        | false => rfl
        | true =>
          exfalso
          obtain ⟨q1, q2⟩ := (h3 i).mp hN
          refine hno ⟨i, by omega, by omega, ?_, q2⟩
          unfold tb
          simp only [Int.toNat_natCast]
          rw [Nat.testBit_eq_decide_div_mod_eq, decide_eq_true_iff] at hS
          exact hS
    rw [this]
    rfl
  · rintro ⟨i, i1, i2, i3, i4⟩ q
    obtain ⟨k, rfl⟩ := Int.eq_ofNat_of_zero_le i1
    have hz : N &&& s = 0 := by omega
    have hb : (N &&& s).testBit k = true := by
      rw [Nat.testBit_and, (h3 k).mpr ⟨by omega, i4⟩, Bool.true_and, Nat.testBit_eq_decide_div_mod_eq, decide_eq_true_iff]
      unfold tb at i3
      simp only [Int.toNat_natCast] at i3
      exact i3
    rw [hz, Nat.zero_testBit] at hb
    cases hb
theorem k220 {M M' : TM} (h : ∀ a b : Int, a ≠ 220 → M' a b = M a b) : kcU M M' := fun a b q => h a b (by omega)
theorem sX0_common (w : WT) (a b : Int) (R M : TM) (u : PU) (hR : RL R) (hu : cT R M u) (ha : rng a) (hb : rng b) : tx_S w yX0_common cX0_common 3 (some .int) 6 [rV (wa w) 1, iV a, iV b] R M (QC (fun z R' M' => ((a < 0 ∨ (uT u).length ≤ a ∨ b < 0 ∨ (uT u).length ≤ b) ∧ z = -2 ∨ (0 ≤ a ∧ a < (uT u).length ∧ 0 ≤ b ∧ b < (uT u).length) ∧ z = lcs (gl (uT u) a) (gl (uT u) b)) ∧ cW u R M R' M')) := by
  have hok := hu.1.1
  have hD1 := (uT_ok hok).1
  refine tx_S.ofk (lv := [(0, _), (1, _), (2, _)]) [1, 1, 1] (by decide) (by simp only [List.map_cons, List.map_nil, cat_i, cat_l, cat_r]) (by decide) rfl (fun E O F => ?_)
  refine tx_aload_n (pc := 0) 0 O dX0_common_0 rfl rfl ?_
  refine tx_iload_n (pc := 1) 1 O dX0_common_1 rfl rfl ?_
  refine tx_cV1 (pc := 2) O dX0_common_2 q152 vX0_isTune (sh_1 w) rfl (by decide) (Nat.zero_le _) (sX0_isTune w _ _ _ u hR hu (by omega)) (k_C (fun z2 R2 M2 h2 => ?_))
  obtain ⟨g1, g2⟩ := h2
  have hR := hR.kp g2.2.2
  have hu := g2.1.t
  refine tx_if_eq (pc := 5) 35 O dX0_common_5 rfl (by omega) (fun c5 => ?_) (fun c5 => ?_)
  · refine tx_bipush (pc := 35) O dX0_common_35 (by decide) ?_
    exact tx_iret O F dX0_common_37 (tx_QC.mk (by first | exact ⟨Or.inl ⟨by omega, rfl⟩, g2.w⟩ | exact ⟨Or.inl ⟨by omega, rfl⟩, (g2.tr g3).w⟩ | exact ⟨Or.inr ⟨by omega, h29.1⟩, (g2.tr (g3.u (k220 h29.2))).w⟩))
  · refine tx_aload_n (pc := 8) 0 O dX0_common_8 rfl rfl ?_
    refine tx_iload_n (pc := 9) 2 O dX0_common_9 rfl rfl ?_
    refine tx_cV1 (pc := 10) O dX0_common_10 q152 vX0_isTune (sh_1 w) rfl (by decide) (Nat.zero_le _) (sX0_isTune w _ _ _ u hR hu (by omega)) (k_C (fun z10 R10 M10 h10 => ?_))
    obtain ⟨g3', g3⟩ := h10
    have hR := hR.kp g3.2.2
    refine tx_if_eq (pc := 13) 35 O dX0_common_13 rfl (by omega) (fun c13 => ?_) (fun c13 => ?_)
    · refine tx_bipush (pc := 35) O dX0_common_35 (by decide) ?_
      exact tx_iret O F dX0_common_37 (tx_QC.mk (by first | exact ⟨Or.inl ⟨by omega, rfl⟩, g2.w⟩ | exact ⟨Or.inl ⟨by omega, rfl⟩, (g2.tr g3).w⟩ | exact ⟨Or.inr ⟨by omega, h29.1⟩, (g2.tr (g3.u (k220 h29.2))).w⟩))
    · refine tx_aload_n (pc := 16) 0 O dX0_common_16 rfl rfl ?_
      refine tx_aload_n (pc := 17) 0 O dX0_common_17 rfl rfl ?_
      refine fX0_33 (pc := 18) O hR dX0_common_18 ?_
      refine tx_iload_n (pc := 21) 1 O dX0_common_21 rfl rfl ?_
      refine tx_aald (pc := 22) _ _ O dX0_common_22 (sh_205 w) (by decide) (by omega) ?_
      rw [hR.2.2.2.2.1]
      refine tx_aload_n (pc := 23) 0 O dX0_common_23 rfl rfl ?_
      refine fX0_33 (pc := 24) O hR dX0_common_24 ?_
      refine tx_iload_n (pc := 27) 2 O dX0_common_27 rfl rfl ?_
      refine tx_aald (pc := 28) _ _ O dX0_common_28 (sh_205 w) (by decide) (by omega) ?_
      rw [hR.2.2.2.2.1]
      refine tx_cV2 (pc := 29) O dX0_common_29 q290 vX0_commonOf (sh_1 w) rfl (by decide) (Nat.zero_le _) (sX0_commonOf w _ _ _ _ _ _ hR (by omega) (by omega) (g3.1.tu (by omega)) (g3.1.tu (by omega)) (okTn hok (by omega)) (okTn hok (by omega))) (k_I (fun z29 M29 h29 => ?_))
      refine tx_goto (pc := 32) 37 O dX0_common_32 rfl ?_
      exact tx_iret O F dX0_common_37 (tx_QC.mk (by first | exact ⟨Or.inl ⟨by omega, rfl⟩, g2.w⟩ | exact ⟨Or.inl ⟨by omega, rfl⟩, (g2.tr g3).w⟩ | exact ⟨Or.inr ⟨by omega, h29.1⟩, (g2.tr (g3.u (k220 h29.2))).w⟩))
theorem sX0_farOf (w : WT) (a b : Int) (R M : TM) (u : PU) (hR : RL R) (hu : cP R M u) (ha : 0 ≤ a ∧ a < (uT u).length) (hb : 0 ≤ b ∧ b < (uT u).length) : tx_S w yX0_farOf cX0_farOf 3 (some .int) 3 [rV (wa w) 1, iV a, iV b] R M (QI R (fun z M' => z = farP u a b ∧ kcU M M')) := by
  have hok := hu.1.1
  have hD1 := (uT_ok hok).1
  refine tx_S.ofk (lv := [(0, _), (1, _), (2, _)]) [1, 1, 1] (by decide) (by simp only [List.map_cons, List.map_nil, cat_i, cat_l, cat_r]) (by decide) rfl (fun E O F => ?_)
  refine tx_aload_n (pc := 0) 0 O dX0_farOf_0 rfl rfl ?_
  refine fX0_33 (pc := 1) O hR dX0_farOf_1 ?_
  refine tx_iload_n (pc := 4) 1 O dX0_farOf_4 rfl rfl ?_
  refine tx_aald (pc := 5) _ _ O dX0_farOf_5 (sh_205 w) (by decide) (by omega) ?_
  rw [hR.2.2.2.2.1]
  refine fX0_37 (pc := 6) O (by omega) dX0_farOf_6 ?_
  rw [(hu.tu ha).1]
  refine tx_aload_n (pc := 9) 0 O dX0_farOf_9 rfl rfl ?_
  refine fX0_33 (pc := 10) O hR dX0_farOf_10 ?_
  refine tx_iload_n (pc := 13) 2 O dX0_farOf_13 rfl rfl ?_
  refine tx_aald (pc := 14) _ _ O dX0_farOf_14 (sh_205 w) (by decide) (by omega) ?_
  rw [hR.2.2.2.2.1]
  refine fX0_37 (pc := 15) O (by omega) dX0_farOf_15 ?_
  rw [(hu.tu hb).1]
  refine tx_iadd (pc := 18) O dX0_farOf_18 ?_
  refine tx_iconst (pc := 19) O dX0_farOf_19 ?_
  refine tx_aload_n (pc := 20) 0 O dX0_farOf_20 rfl rfl ?_
  refine tx_aload_n (pc := 21) 0 O dX0_farOf_21 rfl rfl ?_
  refine fX0_33 (pc := 22) O hR dX0_farOf_22 ?_
  refine tx_iload_n (pc := 25) 1 O dX0_farOf_25 rfl rfl ?_
  refine tx_aald (pc := 26) _ _ O dX0_farOf_26 (sh_205 w) (by decide) (by omega) ?_
  rw [hR.2.2.2.2.1]
  refine tx_aload_n (pc := 27) 0 O dX0_farOf_27 rfl rfl ?_
  refine fX0_33 (pc := 28) O hR dX0_farOf_28 ?_
  refine tx_iload_n (pc := 31) 2 O dX0_farOf_31 rfl rfl ?_
  refine tx_aald (pc := 32) _ _ O dX0_farOf_32 (sh_205 w) (by decide) (by omega) ?_
  rw [hR.2.2.2.2.1]
  refine tx_cV2 (pc := 33) O dX0_farOf_33 q290 vX0_commonOf (sh_1 w) rfl (by decide) (Nat.le_of_ble_eq_true rfl) (sX0_commonOf w _ _ _ _ _ _ hR (by omega) (by omega) (hu.tu ha) (hu.tu hb) (okTn hok ha) (okTn hok hb)) (k_I (fun z33 M33 h33 => ?_))
  refine tx_imul (pc := 36) O dX0_farOf_36 ?_
  refine tx_isub (pc := 37) O dX0_farOf_37 ?_
  exact tx_iret O F dX0_farOf_38 (tx_QI.mk ⟨by rw [h33.1]; rfl, k220 h33.2⟩)
theorem sX0_far (w : WT) (a b : Int) (R M : TM) (u : PU) (hR : RL R) (hu : cT R M u) (ha : rng a) (hb : rng b) : tx_S w yX0_far cX0_far 3 (some .int) 6 [rV (wa w) 1, iV a, iV b] R M (QC (fun z R' M' => ((a < 0 ∨ (uT u).length ≤ a ∨ b < 0 ∨ (uT u).length ≤ b) ∧ z = -2 ∨ (0 ≤ a ∧ a < (uT u).length ∧ 0 ≤ b ∧ b < (uT u).length) ∧ z = farP u a b) ∧ cW u R M R' M')) := by
  refine tx_S.ofk (lv := [(0, _), (1, _), (2, _)]) [1, 1, 1] (by decide) (by simp only [List.map_cons, List.map_nil, cat_i, cat_l, cat_r]) (by decide) rfl (fun E O F => ?_)
  refine tx_aload_n (pc := 0) 0 O dX0_far_0 rfl rfl ?_
  refine tx_iload_n (pc := 1) 1 O dX0_far_1 rfl rfl ?_
  refine tx_cV1 (pc := 2) O dX0_far_2 q152 vX0_isTune (sh_1 w) rfl (by decide) (Nat.zero_le _) (sX0_isTune w _ _ _ u hR hu (by omega)) (k_C (fun z2 R2 M2 h2 => ?_))
  obtain ⟨g1, g2⟩ := h2
  have hR := hR.kp g2.2.2
  have hu := g2.1.t
  refine tx_if_eq (pc := 5) 25 O dX0_far_5 rfl (by omega) (fun c5 => ?_) (fun c5 => ?_)
  · refine tx_bipush (pc := 25) O dX0_far_25 (by decide) ?_
    exact tx_iret O F dX0_far_27 (tx_QC.mk (by first | exact ⟨Or.inl ⟨by omega, rfl⟩, g2.w⟩ | exact ⟨Or.inl ⟨by omega, rfl⟩, (g2.tr g3).w⟩ | exact ⟨Or.inr ⟨by omega, h19.1⟩, (g2.tr (g3.u h19.2)).w⟩))
  · refine tx_aload_n (pc := 8) 0 O dX0_far_8 rfl rfl ?_
    refine tx_iload_n (pc := 9) 2 O dX0_far_9 rfl rfl ?_
    refine tx_cV1 (pc := 10) O dX0_far_10 q152 vX0_isTune (sh_1 w) rfl (by decide) (Nat.zero_le _) (sX0_isTune w _ _ _ u hR hu (by omega)) (k_C (fun z10 R10 M10 h10 => ?_))
    obtain ⟨g3', g3⟩ := h10
    have hR := hR.kp g3.2.2
    have hu := g3.1
    refine tx_if_eq (pc := 13) 25 O dX0_far_13 rfl (by omega) (fun c13 => ?_) (fun c13 => ?_)
    · refine tx_bipush (pc := 25) O dX0_far_25 (by decide) ?_
      exact tx_iret O F dX0_far_27 (tx_QC.mk (by first | exact ⟨Or.inl ⟨by omega, rfl⟩, g2.w⟩ | exact ⟨Or.inl ⟨by omega, rfl⟩, (g2.tr g3).w⟩ | exact ⟨Or.inr ⟨by omega, h19.1⟩, (g2.tr (g3.u h19.2)).w⟩))
    · refine tx_aload_n (pc := 16) 0 O dX0_far_16 rfl rfl ?_
      refine tx_iload_n (pc := 17) 1 O dX0_far_17 rfl rfl ?_
      refine tx_iload_n (pc := 18) 2 O dX0_far_18 rfl rfl ?_
      refine tx_cV2 (pc := 19) O dX0_far_19 q388 vX0_farOf (sh_1 w) rfl (by decide) (Nat.zero_le _) (sX0_farOf w _ _ _ _ u hR hu (by omega) (by omega)) (k_I (fun z19 M19 h19 => ?_))
      refine tx_goto (pc := 22) 27 O dX0_far_22 rfl ?_
      exact tx_iret O F dX0_far_27 (tx_QC.mk (by first | exact ⟨Or.inl ⟨by omega, rfl⟩, g2.w⟩ | exact ⟨Or.inl ⟨by omega, rfl⟩, (g2.tr g3).w⟩ | exact ⟨Or.inr ⟨by omega, h19.1⟩, (g2.tr (g3.u h19.2)).w⟩))
theorem sX0_nearestOf (w : WT) (t : Int) (R M : TM) (u : PU) (hR : RL R) (hu : cP R M u) (ht : 0 ≤ t ∧ t < (uT u).length) : tx_S w yX0_nearestOf cX0_nearestOf 4 (some .int) 4 [rV (wa w) 1, iV t] R M (QI R (fun z M' => z = nearP u t ∧ kcU M M')) := by
  have hok := hu.1.1
  have hD1 := (uT_ok hok).1
  refine tx_S.ofk (lv := [(0, _), (1, _)]) [1, 1] (by decide) (by simp only [List.map_cons, List.map_nil, cat_i, cat_l, cat_r]) (by decide) rfl (fun E O F => ?_)
  have K : ∀ (v : Int) (M' : TM), (0 ≤ v ∧ v ≤ (uT u).length ∧ kcU M M') → ∀ b : Int, b = itI (nearI u t) (-1) v → tx_X w E 4 [(3, iV v), (2, iV b), (0, rV (wa w) 1), (1, iV t)] [] R M' := by
    refine lp_up _ _ (uT u).length ?_
    rintro v M' ⟨h1, h2, h3⟩ ih b hb
    have hu := hu.keep h3
    have hbd := near_ok u t v h1 h2
    rw [← hb] at hbd
    have hst := itI_1 (nearI u t) (-1) h1
    rw [← hb] at hst
    refine tx_iload_n (pc := 4) 0 O dX0_nearestOf_4 rfl rfl ?_
    refine tx_aload_n (pc := 5) 2 O dX0_nearestOf_5 rfl rfl ?_
    refine fX0_25 (pc := 6) O dX0_nearestOf_6 ?_
    rw [hu.tun]
    refine tx_icmp_ge (pc := 9) 49 O dX0_nearestOf_9 rfl (by omega) (fun c9 => ?_) (fun c9 => ?_)
    · refine tx_iload_n (pc := 49) 1 O dX0_nearestOf_49 rfl rfl ?_
      exact tx_iret O F dX0_nearestOf_50 (tx_QI.mk ⟨by unfold nearP; rw [hb, show ((uT u).length : Int) = v by omega], h3⟩)
    · refine tx_iload_n (pc := 12) 0 O dX0_nearestOf_12 rfl rfl ?_
      refine tx_iload_n (pc := 13) 3 O dX0_nearestOf_13 rfl rfl ?_
      refine tx_icmp_eq (pc := 14) 41 O dX0_nearestOf_14 rfl (by omega) (fun c14 => ?_) (fun c14 => ?_)
      · refine tx_iload_n (pc := 41) 1 O dX0_nearestOf_41 rfl rfl ?_
        refine tx_istore_n (pc := 42) (lv' := [(2, _), (3, _), (0, _), (1, _)]) O dX0_nearestOf_42 rfl (by decide) rfl ?_
        refine tx_iinc (pc := 43) (lv' := [(3, _), (2, _), (0, _), (1, _)]) 1 O dX0_nearestOf_43 rfl (by decide) rfl ?_
        refine tx_goto (pc := 46) 4 O dX0_nearestOf_46 rfl ?_
        first
          | (refine ih _ _ ⟨by omega, by omega, h3⟩ (by omega) (by omega) _ ?_
             rw [hst]; unfold nearI; first | exact (if_neg (fun q => q.1 c14)).symm | exact (if_pos ⟨c14, Or.inl c19⟩).symm)
          | (refine ih _ _ ⟨by omega, by omega, (h3.tr k2).tr j2⟩ (by omega) (by omega) _ ?_
             rw [hst]; unfold nearI; first | exact (if_pos ⟨c14, Or.inr (by omega)⟩).symm | exact (if_neg (fun q => by rcases q.2 with z | z <;> omega)).symm)
      · refine tx_iload_n (pc := 17) 1 O dX0_nearestOf_17 rfl rfl ?_
        refine tx_iconst (pc := 18) O dX0_nearestOf_18 ?_
        refine tx_icmp_eq (pc := 19) 37 O dX0_nearestOf_19 rfl (by omega) (fun c19 => ?_) (fun c19 => ?_)
        · refine tx_iload_n (pc := 37) 0 O dX0_nearestOf_37 rfl rfl ?_
          refine tx_goto (pc := 38) 42 O dX0_nearestOf_38 rfl ?_
          refine tx_istore_n (pc := 42) (lv' := [(2, _), (3, _), (0, _), (1, _)]) O dX0_nearestOf_42 rfl (by decide) rfl ?_
          refine tx_iinc (pc := 43) (lv' := [(3, _), (2, _), (0, _), (1, _)]) 1 O dX0_nearestOf_43 rfl (by decide) rfl ?_
          refine tx_goto (pc := 46) 4 O dX0_nearestOf_46 rfl ?_
          first
            | (refine ih _ _ ⟨by omega, by omega, h3⟩ (by omega) (by omega) _ ?_
               rw [hst]; unfold nearI; first | exact (if_neg (fun q => q.1 c14)).symm | exact (if_pos ⟨c14, Or.inl c19⟩).symm)
            | (refine ih _ _ ⟨by omega, by omega, (h3.tr k2).tr j2⟩ (by omega) (by omega) _ ?_
               rw [hst]; unfold nearI; first | exact (if_pos ⟨c14, Or.inr (by omega)⟩).symm | exact (if_neg (fun q => by rcases q.2 with z | z <;> omega)).symm)
        · refine tx_aload_n (pc := 22) 2 O dX0_nearestOf_22 rfl rfl ?_
          refine tx_iload_n (pc := 23) 3 O dX0_nearestOf_23 rfl rfl ?_
          refine tx_iload_n (pc := 24) 0 O dX0_nearestOf_24 rfl rfl ?_
          refine tx_cV2 (pc := 25) O dX0_nearestOf_25 q388 vX0_farOf (sh_1 w) rfl (by decide) (Nat.zero_le _) (sX0_farOf w _ _ _ _ u hR hu (by omega) (by omega)) (k_I (fun z25 M25 h25 => ?_))
          obtain ⟨k1, k2⟩ := h25
          have hu := hu.keep k2
          have f1 := far_ok hok ht (b := v) (by omega)
          refine tx_aload_n (pc := 28) 2 O dX0_nearestOf_28 rfl rfl ?_
          refine tx_iload_n (pc := 29) 3 O dX0_nearestOf_29 rfl rfl ?_
          refine tx_iload_n (pc := 30) 1 O dX0_nearestOf_30 rfl rfl ?_
          refine tx_cV2 (pc := 31) O dX0_nearestOf_31 q388 vX0_farOf (sh_1 w) rfl (by decide) (Nat.le_of_ble_eq_true rfl) (sX0_farOf w _ _ _ _ u hR hu (by omega) (by omega)) (k_I (fun z31 M31 h31 => ?_))
          obtain ⟨j1, j2⟩ := h31
          have f2 := far_ok hok ht (b := b) (by omega)
          refine tx_icmp_ge (pc := 34) 41 O dX0_nearestOf_34 rfl (by omega) (fun c34 => ?_) (fun c34 => ?_)
          · refine tx_iload_n (pc := 41) 1 O dX0_nearestOf_41 rfl rfl ?_
            refine tx_istore_n (pc := 42) (lv' := [(2, _), (3, _), (0, _), (1, _)]) O dX0_nearestOf_42 rfl (by decide) rfl ?_
            refine tx_iinc (pc := 43) (lv' := [(3, _), (2, _), (0, _), (1, _)]) 1 O dX0_nearestOf_43 rfl (by decide) rfl ?_
            refine tx_goto (pc := 46) 4 O dX0_nearestOf_46 rfl ?_
            first
              | (refine ih _ _ ⟨by omega, by omega, h3⟩ (by omega) (by omega) _ ?_
                 rw [hst]; unfold nearI; first | exact (if_neg (fun q => q.1 c14)).symm | exact (if_pos ⟨c14, Or.inl c19⟩).symm)
              | (refine ih _ _ ⟨by omega, by omega, (h3.tr k2).tr j2⟩ (by omega) (by omega) _ ?_
                 rw [hst]; unfold nearI; first | exact (if_pos ⟨c14, Or.inr (by omega)⟩).symm | exact (if_neg (fun q => by rcases q.2 with z | z <;> omega)).symm)
          · refine tx_iload_n (pc := 37) 0 O dX0_nearestOf_37 rfl rfl ?_
            refine tx_goto (pc := 38) 42 O dX0_nearestOf_38 rfl ?_
            refine tx_istore_n (pc := 42) (lv' := [(2, _), (3, _), (0, _), (1, _)]) O dX0_nearestOf_42 rfl (by decide) rfl ?_
            refine tx_iinc (pc := 43) (lv' := [(3, _), (2, _), (0, _), (1, _)]) 1 O dX0_nearestOf_43 rfl (by decide) rfl ?_
            refine tx_goto (pc := 46) 4 O dX0_nearestOf_46 rfl ?_
            first
              | (refine ih _ _ ⟨by omega, by omega, h3⟩ (by omega) (by omega) _ ?_
                 rw [hst]; unfold nearI; first | exact (if_neg (fun q => q.1 c14)).symm | exact (if_pos ⟨c14, Or.inl c19⟩).symm)
              | (refine ih _ _ ⟨by omega, by omega, (h3.tr k2).tr j2⟩ (by omega) (by omega) _ ?_
                 rw [hst]; unfold nearI; first | exact (if_pos ⟨c14, Or.inr (by omega)⟩).symm | exact (if_neg (fun q => by rcases q.2 with z | z <;> omega)).symm)
  refine tx_iconst (pc := 0) O dX0_nearestOf_0 ?_
  refine tx_istore_n (pc := 1) (lv' := [(2, _), (0, _), (1, _)]) O dX0_nearestOf_1 rfl (by decide) rfl ?_
  refine tx_iconst (pc := 2) O dX0_nearestOf_2 ?_
  refine tx_istore_n (pc := 3) (lv' := [(3, _), (2, _), (0, _), (1, _)]) O dX0_nearestOf_3 rfl (by decide) rfl ?_
  exact K 0 M ⟨by omega, by omega, kcU.rf⟩ (-1) rfl
theorem sX0_nearest (w : WT) (t : Int) (R M : TM) (u : PU) (hR : RL R) (hu : cT R M u) (ht : rng t) : tx_S w yX0_nearest cX0_nearest 2 (some .int) 6 [rV (wa w) 1, iV t] R M (QC (fun z R' M' => ((t < 0 ∨ (uT u).length ≤ t) ∧ z = -2 ∨ (0 ≤ t ∧ t < (uT u).length) ∧ z = nearP u t) ∧ cW u R M R' M')) := by
  refine tx_S.ofk (lv := [(0, _), (1, _)]) [1, 1] (by decide) (by simp only [List.map_cons, List.map_nil, cat_i, cat_l, cat_r]) (by decide) rfl (fun E O F => ?_)
  refine tx_aload_n (pc := 0) 0 O dX0_nearest_0 rfl rfl ?_
  refine tx_iload_n (pc := 1) 1 O dX0_nearest_1 rfl rfl ?_
  refine tx_cV1 (pc := 2) O dX0_nearest_2 q152 vX0_isTune (sh_1 w) rfl (by decide) (Nat.zero_le _) (sX0_isTune w _ _ _ u hR hu (by omega)) (k_C (fun z2 R2 M2 h2 => ?_))
  obtain ⟨g1, g2⟩ := h2
  have hR := hR.kp g2.2.2
  refine tx_if_eq (pc := 5) 16 O dX0_nearest_5 rfl (by omega) (fun c5 => ?_) (fun c5 => ?_)
  · refine tx_bipush (pc := 16) O dX0_nearest_16 (by decide) ?_
    exact tx_iret O F dX0_nearest_18 (tx_QC.mk (by first | exact ⟨Or.inl ⟨by omega, rfl⟩, g2.w⟩ | exact ⟨Or.inr ⟨by omega, h10.1⟩, (g2.u h10.2).w⟩))
  · refine tx_aload_n (pc := 8) 0 O dX0_nearest_8 rfl rfl ?_
    refine tx_iload_n (pc := 9) 1 O dX0_nearest_9 rfl rfl ?_
    refine tx_cV1 (pc := 10) O dX0_nearest_10 q396 vX0_nearestOf (sh_1 w) rfl (by decide) (Nat.zero_le _) (sX0_nearestOf w _ _ _ u hR g2.1 (by omega)) (k_I (fun z10 M10 h10 => ?_))
    refine tx_goto (pc := 13) 18 O dX0_nearest_13 rfl ?_
    exact tx_iret O F dX0_nearest_18 (tx_QC.mk (by first | exact ⟨Or.inl ⟨by omega, rfl⟩, g2.w⟩ | exact ⟨Or.inr ⟨by omega, h10.1⟩, (g2.u h10.2).w⟩))
theorem sX0_mothersOf (w : WT) (t : Int) (R M : TM) (u : PU) (hR : RL R) (hu : cP R M u) (ht : 0 ≤ t ∧ t < (uT u).length) : tx_S w yX0_mothersOf cX0_mothersOf 4 (some .int) 4 [rV (wa w) 1, iV t] R M (QI R (fun z M' => z = mothP u t ∧ kcU M M')) := by
  have hok := hu.1.1
  have hT := uT_ok hok
  have hD1 := hT.1
  refine tx_S.ofk (lv := [(0, _), (1, _)]) [1, 1] (by decide) (by simp only [List.map_cons, List.map_nil, cat_i, cat_l, cat_r]) (by decide) rfl (fun E O F => ?_)
  have K : ∀ (v : Int) (M' : TM), (0 ≤ v ∧ v ≤ (uT u).length ∧ kcU M M') → ∀ b : Int, b = itI (mothI u t) 0 v → tx_X w E 4 [(3, iV v), (2, iV b), (0, rV (wa w) 1), (1, iV t)] [] R M' := by
    refine lp_up _ _ (uT u).length ?_
    rintro v M' ⟨h1, h2, h3⟩ ih b hb
    have hu := hu.keep h3
    have hst := itI_1 (mothI u t) 0 h1
    rw [← hb] at hst
    refine tx_iload_n (pc := 4) 0 O dX0_mothersOf_4 rfl rfl ?_
    refine tx_aload_n (pc := 5) 2 O dX0_mothersOf_5 rfl rfl ?_
    refine fX0_25 (pc := 6) O dX0_mothersOf_6 ?_
    rw [hu.tun]
    refine tx_icmp_ge (pc := 9) 61 O dX0_mothersOf_9 rfl (by omega) (fun c9 => ?_) (fun c9 => ?_)
    · refine tx_iload_n (pc := 61) 1 O dX0_mothersOf_61 rfl rfl ?_
      exact tx_iret O F dX0_mothersOf_62 (tx_QI.mk ⟨by unfold mothP; rw [hb, show ((uT u).length : Int) = v by omega], h3⟩)
    · refine tx_iload_n (pc := 12) 1 O dX0_mothersOf_12 rfl rfl ?_
      refine tx_iload_n (pc := 13) 0 O dX0_mothersOf_13 rfl rfl ?_
      refine tx_iload_n (pc := 14) 3 O dX0_mothersOf_14 rfl rfl ?_
      refine tx_icmp_eq (pc := 15) 52 O dX0_mothersOf_15 rfl (by omega) (fun c15 => ?_) (fun c15 => ?_)
      · refine tx_iconst (pc := 52) O dX0_mothersOf_52 ?_
        refine tx_ior (pc := 53) O dX0_mothersOf_53 ?_
        refine tx_istore_n (pc := 54) (lv' := [(2, _), (3, _), (0, _), (1, _)]) O dX0_mothersOf_54 rfl (by decide) rfl ?_
        refine tx_iinc (pc := 55) (lv' := [(3, _), (2, _), (0, _), (1, _)]) 1 O dX0_mothersOf_55 rfl (by decide) rfl ?_
        refine tx_goto (pc := 58) 4 O dX0_mothersOf_58 rfl ?_
        first
          | (refine ih _ _ ⟨by omega, by omega, h3⟩ (by omega) (by omega) _ ?_
             rw [hst]; unfold mothI; exact congrArg (zor b) (if_neg (fun q => q.1 c15)).symm)
          | (refine ih _ _ ⟨by omega, by omega, h3.tr k2⟩ (by omega) (by omega) _ ?_
             rw [hst]; unfold mothI; first | exact congrArg (zor b) (if_pos ⟨c15, by omega⟩).symm | exact congrArg (zor b) (if_neg (fun q => by have := q.2; omega)).symm)
      · refine tx_aload_n (pc := 18) 2 O dX0_mothersOf_18 rfl rfl ?_
        refine tx_aload_n (pc := 19) 2 O dX0_mothersOf_19 rfl rfl ?_
        refine fX0_33 (pc := 20) O hR dX0_mothersOf_20 ?_
        refine tx_iload_n (pc := 23) 3 O dX0_mothersOf_23 rfl rfl ?_
        refine tx_aald (pc := 24) _ _ O dX0_mothersOf_24 (sh_205 w) (by decide) (by omega) ?_
        rw [hR.2.2.2.2.1]
        refine tx_aload_n (pc := 25) 2 O dX0_mothersOf_25 rfl rfl ?_
        refine fX0_33 (pc := 26) O hR dX0_mothersOf_26 ?_
        refine tx_iload_n (pc := 29) 0 O dX0_mothersOf_29 rfl rfl ?_
        refine tx_aald (pc := 30) _ _ O dX0_mothersOf_30 (sh_205 w) (by decide) (by omega) ?_
        rw [hR.2.2.2.2.1]
        refine tx_cV2 (pc := 31) O dX0_mothersOf_31 q290 vX0_commonOf (sh_1 w) rfl (by decide) (Nat.le_of_ble_eq_true rfl) (sX0_commonOf w _ _ _ _ _ _ hR (by omega) (by omega) (hu.tu ht) (hu.tu (by omega)) (okTn hok ht) (okTn hok (by omega))) (k_I (fun z31 M31 h31 => ?_))
        obtain ⟨k1, k2'⟩ := h31
        have k2 := k220 k2'
        have hu := hu.keep k2
        rw [lcs_sym] at k1
        have f1 := lcs_le (gl (uT u) v) (gl (uT u) t)
        have f2 := (hT.2 _ (gl_mem (t := v) h1 (by omega))).1.1
        refine tx_aload_n (pc := 34) 2 O dX0_mothersOf_34 rfl rfl ?_
        refine fX0_33 (pc := 35) O hR dX0_mothersOf_35 ?_
        refine tx_iload_n (pc := 38) 0 O dX0_mothersOf_38 rfl rfl ?_
        refine tx_aald (pc := 39) _ _ O dX0_mothersOf_39 (sh_205 w) (by decide) (by omega) ?_
        rw [hR.2.2.2.2.1]
        refine fX0_37 (pc := 40) O (by omega) dX0_mothersOf_40 ?_
        rw [(hu.tu (t := v) (by omega)).1]
        refine tx_icmp_ne (pc := 43) 52 O dX0_mothersOf_43 rfl (by omega) (fun c43 => ?_) (fun c43 => ?_)
        · refine tx_iconst (pc := 52) O dX0_mothersOf_52 ?_
          refine tx_ior (pc := 53) O dX0_mothersOf_53 ?_
          refine tx_istore_n (pc := 54) (lv' := [(2, _), (3, _), (0, _), (1, _)]) O dX0_mothersOf_54 rfl (by decide) rfl ?_
          refine tx_iinc (pc := 55) (lv' := [(3, _), (2, _), (0, _), (1, _)]) 1 O dX0_mothersOf_55 rfl (by decide) rfl ?_
          refine tx_goto (pc := 58) 4 O dX0_mothersOf_58 rfl ?_
          first
            | (refine ih _ _ ⟨by omega, by omega, h3⟩ (by omega) (by omega) _ ?_
               rw [hst]; unfold mothI; exact congrArg (zor b) (if_neg (fun q => q.1 c15)).symm)
            | (refine ih _ _ ⟨by omega, by omega, h3.tr k2⟩ (by omega) (by omega) _ ?_
               rw [hst]; unfold mothI; first | exact congrArg (zor b) (if_pos ⟨c15, by omega⟩).symm | exact congrArg (zor b) (if_neg (fun q => by have := q.2; omega)).symm)
        · refine tx_iconst (pc := 46) O dX0_mothersOf_46 ?_
          refine tx_iload_n (pc := 47) 0 O dX0_mothersOf_47 rfl rfl ?_
          refine tx_ishl (pc := 48) O dX0_mothersOf_48 ?_
          refine tx_goto (pc := 49) 53 O dX0_mothersOf_49 rfl ?_
          refine tx_ior (pc := 53) O dX0_mothersOf_53 ?_
          refine tx_istore_n (pc := 54) (lv' := [(2, _), (3, _), (0, _), (1, _)]) O dX0_mothersOf_54 rfl (by decide) rfl ?_
          refine tx_iinc (pc := 55) (lv' := [(3, _), (2, _), (0, _), (1, _)]) 1 O dX0_mothersOf_55 rfl (by decide) rfl ?_
          refine tx_goto (pc := 58) 4 O dX0_mothersOf_58 rfl ?_
          first
            | (refine ih _ _ ⟨by omega, by omega, h3⟩ (by omega) (by omega) _ ?_
               rw [hst]; unfold mothI; exact congrArg (zor b) (if_neg (fun q => q.1 c15)).symm)
            | (refine ih _ _ ⟨by omega, by omega, h3.tr k2⟩ (by omega) (by omega) _ ?_
               rw [hst]; unfold mothI; first | exact congrArg (zor b) (if_pos ⟨c15, by omega⟩).symm | exact congrArg (zor b) (if_neg (fun q => by have := q.2; omega)).symm)
  refine tx_iconst (pc := 0) O dX0_mothersOf_0 ?_
  refine tx_istore_n (pc := 1) (lv' := [(2, _), (0, _), (1, _)]) O dX0_mothersOf_1 rfl (by decide) rfl ?_
  refine tx_iconst (pc := 2) O dX0_mothersOf_2 ?_
  refine tx_istore_n (pc := 3) (lv' := [(3, _), (2, _), (0, _), (1, _)]) O dX0_mothersOf_3 rfl (by decide) rfl ?_
  exact K 0 M ⟨by omega, by omega, kcU.rf⟩ 0 rfl
theorem sX0_mothers (w : WT) (t : Int) (R M : TM) (u : PU) (hR : RL R) (hu : cT R M u) (ht : rng t) : tx_S w yX0_mothers cX0_mothers 2 (some .int) 6 [rV (wa w) 1, iV t] R M (QC (fun z R' M' => ((t < 0 ∨ (uT u).length ≤ t) ∧ z = -2 ∨ (0 ≤ t ∧ t < (uT u).length) ∧ z = mothP u t) ∧ cW u R M R' M')) := by
  refine tx_S.ofk (lv := [(0, _), (1, _)]) [1, 1] (by decide) (by simp only [List.map_cons, List.map_nil, cat_i, cat_l, cat_r]) (by decide) rfl (fun E O F => ?_)
  refine tx_aload_n (pc := 0) 0 O dX0_mothers_0 rfl rfl ?_
  refine tx_iload_n (pc := 1) 1 O dX0_mothers_1 rfl rfl ?_
  refine tx_cV1 (pc := 2) O dX0_mothers_2 q152 vX0_isTune (sh_1 w) rfl (by decide) (Nat.zero_le _) (sX0_isTune w _ _ _ u hR hu (by omega)) (k_C (fun z2 R2 M2 h2 => ?_))
  obtain ⟨g1, g2⟩ := h2
  have hR := hR.kp g2.2.2
  refine tx_if_eq (pc := 5) 16 O dX0_mothers_5 rfl (by omega) (fun c5 => ?_) (fun c5 => ?_)
  · refine tx_bipush (pc := 16) O dX0_mothers_16 (by decide) ?_
    exact tx_iret O F dX0_mothers_18 (tx_QC.mk (by first | exact ⟨Or.inl ⟨by omega, rfl⟩, g2.w⟩ | exact ⟨Or.inr ⟨by omega, h10.1⟩, (g2.u h10.2).w⟩))
  · refine tx_aload_n (pc := 8) 0 O dX0_mothers_8 rfl rfl ?_
    refine tx_iload_n (pc := 9) 1 O dX0_mothers_9 rfl rfl ?_
    refine tx_cV1 (pc := 10) O dX0_mothers_10 q404 vX0_mothersOf (sh_1 w) rfl (by decide) (Nat.zero_le _) (sX0_mothersOf w _ _ _ u hR g2.1 (by omega)) (k_I (fun z10 M10 h10 => ?_))
    refine tx_goto (pc := 13) 18 O dX0_mothers_13 rfl ?_
    exact tx_iret O F dX0_mothers_18 (tx_QC.mk (by first | exact ⟨Or.inl ⟨by omega, rfl⟩, g2.w⟩ | exact ⟨Or.inr ⟨by omega, h10.1⟩, (g2.u h10.2).w⟩))
theorem noteP_12 {l : List Int} {i : Int} (h : 0 ≤ i) : noteP l i = nat12 l i := by unfold noteP nat12; rw [if_neg (by omega)]
theorem nat12_rng {l : List Int} (h : okN l) {i : Int} (hi : 0 ≤ i) : -1 ≤ nat12 l i ∧ nat12 l i ≤ 6 := by
  unfold nat12
  split
  · rename_i q
    have := h.2 _ (ga_mem hi q)
    omega
  · omega
theorem sX0_unlike (w : WT) (ia ib : Int) (la lb : List Int) (R M : TM) (hR : RL R) (ha : isTn ia) (hb : isTn ib) (ca : tuIs M ia la) (cb : tuIs M ib lb) (oa : okN la) (ob : okN lb) : tx_S w yX0_unlike cX0_unlike 5 (some .int) 2 [rV (wa w) 1, rV (wa w) ia, rV (wa w) ib] R M (QP R M (fun z => z = ulP la lb)) := by
  have a40 := oa.1
  have b40 := ob.1
  refine tx_S.ofk (lv := [(0, _), (1, _), (2, _)]) [1, 1, 1] (by decide) (by simp only [List.map_cons, List.map_nil, cat_i, cat_l, cat_r]) (by decide) rfl (fun E O F => ?_)
  have K : ∀ (i : Int) (M' : TM), (0 ≤ i ∧ i ≤ 12 ∧ M' = M) → ∀ s : Int, s = itI (ulI la lb) 0 i → tx_X w E 5 [(4, iV i), (3, iV s), (0, rV (wa w) 1), (1, rV (wa w) ia), (2, rV (wa w) ib)] [] R M' := by
    refine lp_up _ _ 12 ?_
    rintro i M' ⟨h1, h2, rfl⟩ ih s hs
    have hst := itI_1 (ulI la lb) (0 : Int) h1
    rw [← hs] at hst
    have r1 := nat12_rng oa h1
    have r2 := nat12_rng ob h1
    refine tx_iload (pc := 5) 0 O dX0_unlike_5 rfl ?_
    refine tx_bipush (pc := 7) O dX0_unlike_7 (by decide) ?_
    refine tx_icmp_ge (pc := 9) 44 O dX0_unlike_9 rfl (by omega) (fun c9 => ?_) (fun c9 => ?_)
    · refine tx_iload_n (pc := 44) 1 O dX0_unlike_44 rfl rfl ?_
      exact tx_iret O F dX0_unlike_45 (tx_QP.mk (by unfold ulP; rw [hs, show (12 : Int) = i by omega]))
    · refine tx_iload_n (pc := 12) 1 O dX0_unlike_12 rfl rfl ?_
      refine tx_aload_n (pc := 13) 3 O dX0_unlike_13 rfl rfl ?_
      refine tx_iload (pc := 14) 0 O dX0_unlike_14 rfl ?_
      refine tx_cS2 (pc := 16) O dX0_unlike_16 q156 vX0_noteOf (by decide) (Nat.le_of_ble_eq_true rfl) (sX0_noteOf w _ _ _ _ _ hR ha ca a40 (by omega)) (k_P (fun z16 h16 => ?_))
      rw [noteP_12 h1] at h16
      subst h16
      refine tx_aload_n (pc := 19) 4 O dX0_unlike_19 rfl rfl ?_
      refine tx_iload (pc := 20) 0 O dX0_unlike_20 rfl ?_
      refine tx_cS2 (pc := 22) O dX0_unlike_22 q156 vX0_noteOf (by decide) (Nat.le_of_ble_eq_true rfl) (sX0_noteOf w _ _ _ _ _ hR hb cb b40 (by omega)) (k_P (fun z22 h22 => ?_))
      rw [noteP_12 h1] at h22
      subst h22
      refine tx_icmp_eq (pc := 25) 35 O dX0_unlike_25 rfl (by omega) (fun c25 => ?_) (fun c25 => ?_)
      · refine tx_iconst (pc := 35) O dX0_unlike_35 ?_
        refine tx_ior (pc := 36) O dX0_unlike_36 ?_
        refine tx_istore_n (pc := 37) (lv' := [(3, _), (4, _), (0, _), (1, _), (2, _)]) O dX0_unlike_37 rfl (by decide) (by simp only [List.filter_cons, List.filter_nil, cat_r, cat_i, cat_l]; rfl) ?_
        refine tx_iinc (pc := 38) (lv' := [(4, _), (3, _), (0, _), (1, _), (2, _)]) 1 O dX0_unlike_38 rfl (by decide) rfl ?_
        refine tx_goto (pc := 41) 5 O dX0_unlike_41 rfl ?_
        refine ih _ _ ⟨by omega, by omega, rfl⟩ (by omega) (by omega) _ ?_
        rw [hst]
        unfold ulI
        first
          | exact congrArg (zor s) (if_pos c25).symm
          | exact congrArg (zor s) (if_neg c25).symm
      · refine tx_iconst (pc := 28) O dX0_unlike_28 ?_
        refine tx_iload (pc := 29) 0 O dX0_unlike_29 rfl ?_
        refine tx_ishl (pc := 31) O dX0_unlike_31 ?_
        refine tx_goto (pc := 32) 36 O dX0_unlike_32 rfl ?_
        refine tx_ior (pc := 36) O dX0_unlike_36 ?_
        refine tx_istore_n (pc := 37) (lv' := [(3, _), (4, _), (0, _), (1, _), (2, _)]) O dX0_unlike_37 rfl (by decide) (by simp only [List.filter_cons, List.filter_nil, cat_r, cat_i, cat_l]; rfl) ?_
        refine tx_iinc (pc := 38) (lv' := [(4, _), (3, _), (0, _), (1, _), (2, _)]) 1 O dX0_unlike_38 rfl (by decide) rfl ?_
        refine tx_goto (pc := 41) 5 O dX0_unlike_41 rfl ?_
        refine ih _ _ ⟨by omega, by omega, rfl⟩ (by omega) (by omega) _ ?_
        rw [hst]
        unfold ulI
        first
          | exact congrArg (zor s) (if_pos c25).symm
          | exact congrArg (zor s) (if_neg c25).symm
  refine tx_iconst (pc := 0) O dX0_unlike_0 ?_
  refine tx_istore_n (pc := 1) (lv' := [(3, _), (0, _), (1, _), (2, _)]) O dX0_unlike_1 rfl (by decide) (by simp only [List.filter_cons, List.filter_nil, cat_r, cat_i, cat_l]; rfl) ?_
  refine tx_iconst (pc := 2) O dX0_unlike_2 ?_
  refine tx_istore (pc := 3) (lv' := [(4, _), (3, _), (0, _), (1, _), (2, _)]) O dX0_unlike_3 (by decide) rfl ?_
  exact K 0 M ⟨by omega, by omega, rfl⟩ 0 rfl
theorem sX0_tellsOf (w : WT) (t what : Int) (R M : TM) (u : PU) (hR : RL R) (hu : cP R M u) (ht : 0 ≤ t ∧ t < (uT u).length) (hw : 0 ≤ what ∧ what ≤ 1) : tx_S w yX0_tellsOf cX0_tellsOf 7 (some .int) 3 [rV (wa w) 1, iV t, iV what] R M (QP R M (fun z => z = tellP u t what)) := by
  have hok := hu.1.1
  have hD1 := (uT_ok hok).1
  refine tx_S.ofk (lv := [(0, _), (1, _), (2, _)]) [1, 1, 1] (by decide) (by simp only [List.map_cons, List.map_nil, cat_i, cat_l, cat_r]) (by decide) rfl (fun E O F => ?_)
  have K : ∀ (n : Int) (M' : TM), (0 ≤ n ∧ n ≤ 4096 ∧ M' = M) → ∀ b : Int, b = tellS u t n → tx_X w E 5 [(4, iV n), (3, iV b), (0, rV (wa w) 1), (1, iV t), (2, iV what)] [] R M' := by
    refine lp_up _ _ 4096 ?_
    rintro n M' ⟨h1, h2, rfl⟩ ih b hb
    have hbd := tellS_ok u t n h1 h2
    rw [← hb] at hbd
    have hst := tellS_1 u t h1
    rw [← hb] at hst
    have pn := pc_ok n
    have pb := pc_ok b
    have K2 : n < 4096 → ∀ (v : Int) (M2 : TM), (0 ≤ v ∧ v ≤ (uT u).length ∧ M2 = M') → ∀ a : Int, (a = 1 ∧ (b = -1 ∨ pc n < pc b) ∧ ∀ x : Int, 0 ≤ x → x < v → tell1 u t x n) ∨ (a = 0 ∧ ¬ ((b = -1 ∨ pc n < pc b) ∧ okSet u t n)) → tx_X w E 40 [(6, iV v), (5, iV a), (4, iV n), (3, iV b), (0, rV (wa w) 1), (1, iV t), (2, iV what)] [] R M2 := by
      intro hn4
      refine lp_up _ _ (uT u).length ?_
      rintro v M2 ⟨g1, g2, rfl⟩ ih2 a ha
      have S : ((a = 1 ∧ (b = -1 ∨ pc n < pc b) ∧ okSet u t n) ∨ (a = 0 ∧ ¬ ((b = -1 ∨ pc n < pc b) ∧ okSet u t n))) → tx_X w E 96 [(6, iV v), (5, iV a), (4, iV n), (3, iV b), (0, rV (wa w) 1), (1, iV t), (2, iV what)] [] R M2 := by
        intro hh
        refine tx_iload (pc := 96) 1 O dX0_tellsOf_96 rfl ?_
        refine tx_if_eq (pc := 98) 106 O dX0_tellsOf_98 rfl (by rcases hh with q | q <;> (rw [q.1]; omega)) (fun c98 => ?_) (fun c98 => ?_)
        · have hno : ¬ ((b = -1 ∨ pc n < pc b) ∧ okSet u t n) := by
            rcases hh with q | q
            · rw [q.1] at c98; exact absurd c98 (by decide)
            · exact q.2
          have e9 := tellI_n hno
          rw [e9] at hst
          refine tx_iload_n (pc := 106) 3 O dX0_tellsOf_106 rfl rfl ?_
          refine tx_istore_n (pc := 107) (lv' := [(3, _), (6, _), (5, _), (4, _), (0, _), (1, _), (2, _)]) O dX0_tellsOf_107 rfl (by decide) rfl ?_
          refine tx_iinc (pc := 108) (lv' := [(4, _), (3, _), (6, _), (5, _), (0, _), (1, _), (2, _)]) 3 O dX0_tellsOf_108 rfl (by decide) rfl ?_
          refine tx_goto (pc := 111) 5 O dX0_tellsOf_111 rfl ?_
          refine tx_lv (lv' := [(4, _), (3, _), (0, _), (1, _), (2, _)]) [0, 1, 4, 5, 6] rfl ?_
          exact ih _ _ ⟨by omega, by omega, rfl⟩ (by omega) (by omega) _ hst.symm
        · have hyes : (b = -1 ∨ pc n < pc b) ∧ okSet u t n := by
            rcases hh with q | q
            · exact q.2
            · exact absurd q.1 c98
          have e9 := tellI_y hyes
          rw [e9] at hst
          refine tx_iload (pc := 101) 2 O dX0_tellsOf_101 rfl ?_
          refine tx_goto (pc := 103) 107 O dX0_tellsOf_103 rfl ?_
          refine tx_istore_n (pc := 107) (lv' := [(3, _), (6, _), (5, _), (4, _), (0, _), (1, _), (2, _)]) O dX0_tellsOf_107 rfl (by decide) rfl ?_
          refine tx_iinc (pc := 108) (lv' := [(4, _), (3, _), (6, _), (5, _), (0, _), (1, _), (2, _)]) 3 O dX0_tellsOf_108 rfl (by decide) rfl ?_
          refine tx_goto (pc := 111) 5 O dX0_tellsOf_111 rfl ?_
          refine tx_lv (lv' := [(4, _), (3, _), (0, _), (1, _), (2, _)]) [0, 1, 4, 5, 6] rfl ?_
          exact ih _ _ ⟨by omega, by omega, rfl⟩ (by omega) (by omega) _ hst.symm
      refine tx_iload (pc := 40) 0 O dX0_tellsOf_40 rfl ?_
      refine tx_aload_n (pc := 42) 4 O dX0_tellsOf_42 rfl rfl ?_
      refine fX0_25 (pc := 43) O dX0_tellsOf_43 ?_
      rw [hu.tun]
      refine tx_icmp_ge (pc := 46) 96 O dX0_tellsOf_46 rfl (by omega) (fun c46 => ?_) (fun c46 => ?_)
      · refine S ?_
        rcases ha with q | q
        · first
            | exact Or.inl ⟨q.1, q.2.1, fun x q1 q2 => q.2.2 x q1 (by omega)⟩
            | (exfalso; have := q.1; omega)
        · exact Or.inr q
      · refine tx_iload (pc := 49) 1 O dX0_tellsOf_49 rfl ?_
        refine tx_if_eq (pc := 51) 96 O dX0_tellsOf_51 rfl (by rcases ha with q | q <;> (rw [q.1]; omega)) (fun c51 => ?_) (fun c51 => ?_)
        · refine S ?_
          rcases ha with q | q
          · first
              | exact Or.inl ⟨q.1, q.2.1, fun x q1 q2 => q.2.2 x q1 (by omega)⟩
              | (exfalso; have := q.1; omega)
          · exact Or.inr q
        · have hq : (b = -1 ∨ pc n < pc b) ∧ ∀ x : Int, 0 ≤ x → x < v → tell1 u t x n := by
            rcases ha with q | q
            · exact q.2
            · exact absurd q.1 c51
          refine tx_iload (pc := 54) 0 O dX0_tellsOf_54 rfl ?_
          refine tx_iload_n (pc := 56) 5 O dX0_tellsOf_56 rfl rfl ?_
          refine tx_icmp_eq (pc := 57) 83 O dX0_tellsOf_57 rfl (by omega) (fun c57 => ?_) (fun c57 => ?_)
          · have ht1 : tell1 u t v n := Or.inl c57
            refine tx_iconst (pc := 83) O dX0_tellsOf_83 ?_
            refine tx_goto (pc := 84) 88 O dX0_tellsOf_84 rfl ?_
            refine tx_istore (pc := 88) (lv' := [(5, _), (6, _), (4, _), (3, _), (0, _), (1, _), (2, _)]) O dX0_tellsOf_88 (by decide) rfl ?_
            refine tx_iinc (pc := 90) (lv' := [(6, _), (5, _), (4, _), (3, _), (0, _), (1, _), (2, _)]) 1 O dX0_tellsOf_90 rfl (by decide) rfl ?_
            refine tx_goto (pc := 93) 40 O dX0_tellsOf_93 rfl ?_
            first
              | (refine ih2 _ _ ⟨by omega, by omega, rfl⟩ (by omega) (by omega) 1 (Or.inl ⟨rfl, hq.1, fun x q1 q2 => ?_⟩)
                 by_cases e : x = v
                 · subst e; exact ht1
                 · exact hq.2 x q1 (by omega))
              | exact ih2 _ _ ⟨by omega, by omega, rfl⟩ (by omega) (by omega) 0 (Or.inr ⟨rfl, fun q => ht0 (q.2 v g1 (by omega))⟩)
          · refine tx_aload_n (pc := 60) 4 O dX0_tellsOf_60 rfl rfl ?_
            refine tx_aload_n (pc := 61) 4 O dX0_tellsOf_61 rfl rfl ?_
            refine fX0_33 (pc := 62) O hR dX0_tellsOf_62 ?_
            refine tx_iload_n (pc := 65) 5 O dX0_tellsOf_65 rfl rfl ?_
            refine tx_aald (pc := 66) _ _ O dX0_tellsOf_66 (sh_205 w) (by decide) (by omega) ?_
            rw [hR.2.2.2.2.1]
            refine tx_aload_n (pc := 67) 4 O dX0_tellsOf_67 rfl rfl ?_
            refine fX0_33 (pc := 68) O hR dX0_tellsOf_68 ?_
            refine tx_iload (pc := 71) 0 O dX0_tellsOf_71 rfl ?_
            refine tx_aald (pc := 73) _ _ O dX0_tellsOf_73 (sh_205 w) (by decide) (by omega) ?_
            rw [hR.2.2.2.2.1]
            refine tx_cV2 (pc := 74) O dX0_tellsOf_74 q419 vX0_unlike (sh_1 w) rfl (by decide) (Nat.zero_le _) (sX0_unlike w _ _ _ _ _ _ hR (by omega) (by omega) (hu.tu ht) (hu.tu (by omega)) (okTn hok ht) (okTn hok (by omega))) (k_P (fun z74 h74 => ?_))
            subst h74
            obtain ⟨z1, z2⟩ := ul_zand (a := gl (uT u) t) (b := gl (uT u) v) (set := n) ⟨h1, by omega⟩
            refine tx_iload (pc := 77) 2 O dX0_tellsOf_77 rfl ?_
            refine tx_iand (pc := 79) O dX0_tellsOf_79 ?_
            refine tx_if_eq (pc := 80) 87 O dX0_tellsOf_80 rfl (z1) (fun c80 => ?_) (fun c80 => ?_)
            · have ht0 : ¬ tell1 u t v n := by
                rintro (q | ⟨i, i1, i2, i3, i4⟩)
                · exact c57 q
                · exact (z2.mpr ⟨i, i1, i2, i3, fun q => i4 q.symm⟩) c80
              refine tx_iconst (pc := 87) O dX0_tellsOf_87 ?_
              refine tx_istore (pc := 88) (lv' := [(5, _), (6, _), (4, _), (3, _), (0, _), (1, _), (2, _)]) O dX0_tellsOf_88 (by decide) rfl ?_
              refine tx_iinc (pc := 90) (lv' := [(6, _), (5, _), (4, _), (3, _), (0, _), (1, _), (2, _)]) 1 O dX0_tellsOf_90 rfl (by decide) rfl ?_
              refine tx_goto (pc := 93) 40 O dX0_tellsOf_93 rfl ?_
              first
                | (refine ih2 _ _ ⟨by omega, by omega, rfl⟩ (by omega) (by omega) 1 (Or.inl ⟨rfl, hq.1, fun x q1 q2 => ?_⟩)
                   by_cases e : x = v
                   · subst e; exact ht1
                   · exact hq.2 x q1 (by omega))
                | exact ih2 _ _ ⟨by omega, by omega, rfl⟩ (by omega) (by omega) 0 (Or.inr ⟨rfl, fun q => ht0 (q.2 v g1 (by omega))⟩)
            · have ht1 : tell1 u t v n := by
                obtain ⟨i, i1, i2, i3, i4⟩ := z2.mp c80
                exact Or.inr ⟨i, i1, i2, i3, fun q => i4 q.symm⟩
              refine tx_iconst (pc := 83) O dX0_tellsOf_83 ?_
              refine tx_goto (pc := 84) 88 O dX0_tellsOf_84 rfl ?_
              refine tx_istore (pc := 88) (lv' := [(5, _), (6, _), (4, _), (3, _), (0, _), (1, _), (2, _)]) O dX0_tellsOf_88 (by decide) rfl ?_
              refine tx_iinc (pc := 90) (lv' := [(6, _), (5, _), (4, _), (3, _), (0, _), (1, _), (2, _)]) 1 O dX0_tellsOf_90 rfl (by decide) rfl ?_
              refine tx_goto (pc := 93) 40 O dX0_tellsOf_93 rfl ?_
              first
                | (refine ih2 _ _ ⟨by omega, by omega, rfl⟩ (by omega) (by omega) 1 (Or.inl ⟨rfl, hq.1, fun x q1 q2 => ?_⟩)
                   by_cases e : x = v
                   · subst e; exact ht1
                   · exact hq.2 x q1 (by omega))
                | exact ih2 _ _ ⟨by omega, by omega, rfl⟩ (by omega) (by omega) 0 (Or.inr ⟨rfl, fun q => ht0 (q.2 v g1 (by omega))⟩)
    refine tx_iload (pc := 5) 0 O dX0_tellsOf_5 rfl ?_
    refine tx_sipush (pc := 7) O dX0_tellsOf_7 (by decide) ?_
    refine tx_icmp_ge (pc := 10) 114 O dX0_tellsOf_10 rfl (by omega) (fun c10 => ?_) (fun c10 => ?_)
    · refine tx_iload_n (pc := 114) 1 O dX0_tellsOf_114 rfl rfl ?_
      refine tx_iconst (pc := 115) O dX0_tellsOf_115 ?_
      refine tx_icmp_eq (pc := 116) 124 O dX0_tellsOf_116 rfl (by omega) (fun c116 => ?_) (fun c116 => ?_)
      · refine tx_iload_n (pc := 124) 1 O dX0_tellsOf_124 rfl rfl ?_
        refine tx_goto (pc := 125) 132 O dX0_tellsOf_125 rfl ?_
        exact tx_iret O F dX0_tellsOf_132 (tx_QP.mk (by
          have en : n = 4096 := by omega
          subst en
          unfold tellP
          rw [← hb]
          first
            | exact (if_pos (by omega)).symm
            | exact (if_neg (by omega)).symm))
      · refine tx_iload_n (pc := 119) 4 O dX0_tellsOf_119 rfl rfl ?_
        refine tx_iconst (pc := 120) O dX0_tellsOf_120 ?_
        refine tx_icmp_ne (pc := 121) 128 O dX0_tellsOf_121 rfl (by omega) (fun c121 => ?_) (fun c121 => ?_)
        · refine tx_iload_n (pc := 128) 1 O dX0_tellsOf_128 rfl rfl ?_
          refine tx_cS1 (pc := 129) O dX0_tellsOf_129 q416 vX0_many (by decide) (Nat.zero_le _) (sX0_many w _ _ _ (by omega)) (k_P (fun z129 h129 => ?_))
          subst h129
          exact tx_iret O F dX0_tellsOf_132 (tx_QP.mk (by
            have en : n = 4096 := by omega
            subst en
            unfold tellP
            rw [← hb]
            first
              | exact (if_pos (by omega)).symm
              | exact (if_neg (by omega)).symm))
        · refine tx_iload_n (pc := 124) 1 O dX0_tellsOf_124 rfl rfl ?_
          refine tx_goto (pc := 125) 132 O dX0_tellsOf_125 rfl ?_
          exact tx_iret O F dX0_tellsOf_132 (tx_QP.mk (by
            have en : n = 4096 := by omega
            subst en
            unfold tellP
            rw [← hb]
            first
              | exact (if_pos (by omega)).symm
              | exact (if_neg (by omega)).symm))
    · refine tx_iload_n (pc := 13) 1 O dX0_tellsOf_13 rfl rfl ?_
      refine tx_iconst (pc := 14) O dX0_tellsOf_14 ?_
      refine tx_icmp_eq (pc := 15) 30 O dX0_tellsOf_15 rfl (by omega) (fun c15 => ?_) (fun c15 => ?_)
      · refine tx_iconst (pc := 30) O dX0_tellsOf_30 ?_
        refine tx_goto (pc := 31) 35 O dX0_tellsOf_31 rfl ?_
        refine tx_istore (pc := 35) (lv' := [(5, _), (4, _), (3, _), (0, _), (1, _), (2, _)]) O dX0_tellsOf_35 (by decide) rfl ?_
        refine tx_iconst (pc := 37) O dX0_tellsOf_37 ?_
        refine tx_istore (pc := 38) (lv' := [(6, _), (5, _), (4, _), (3, _), (0, _), (1, _), (2, _)]) O dX0_tellsOf_38 (by decide) rfl ?_
        first
          | exact K2 (by omega) 0 _ ⟨by omega, by omega, rfl⟩ 1 (Or.inl ⟨rfl, by omega, fun x q1 q2 => by omega⟩)
          | exact K2 (by omega) 0 _ ⟨by omega, by omega, rfl⟩ 0 (Or.inr ⟨rfl, fun q => by have := q.1; omega⟩)
      · refine tx_iload (pc := 18) 0 O dX0_tellsOf_18 rfl ?_
        refine tx_cS1 (pc := 20) O dX0_tellsOf_20 q416 vX0_many (by decide) (Nat.zero_le _) (sX0_many w _ _ _ (by omega)) (k_P (fun z20 h20 => ?_))
        subst h20
        refine tx_iload_n (pc := 23) 1 O dX0_tellsOf_23 rfl rfl ?_
        refine tx_cS1 (pc := 24) O dX0_tellsOf_24 q416 vX0_many (by decide) (Nat.le_of_ble_eq_true rfl) (sX0_many w _ _ _ (by omega)) (k_P (fun z24 h24 => ?_))
        subst h24
        refine tx_icmp_ge (pc := 27) 34 O dX0_tellsOf_27 rfl (by omega) (fun c27 => ?_) (fun c27 => ?_)
        · refine tx_iconst (pc := 34) O dX0_tellsOf_34 ?_
          refine tx_istore (pc := 35) (lv' := [(5, _), (4, _), (3, _), (0, _), (1, _), (2, _)]) O dX0_tellsOf_35 (by decide) rfl ?_
          refine tx_iconst (pc := 37) O dX0_tellsOf_37 ?_
          refine tx_istore (pc := 38) (lv' := [(6, _), (5, _), (4, _), (3, _), (0, _), (1, _), (2, _)]) O dX0_tellsOf_38 (by decide) rfl ?_
          first
            | exact K2 (by omega) 0 _ ⟨by omega, by omega, rfl⟩ 1 (Or.inl ⟨rfl, by omega, fun x q1 q2 => by omega⟩)
            | exact K2 (by omega) 0 _ ⟨by omega, by omega, rfl⟩ 0 (Or.inr ⟨rfl, fun q => by have := q.1; omega⟩)
        · refine tx_iconst (pc := 30) O dX0_tellsOf_30 ?_
          refine tx_goto (pc := 31) 35 O dX0_tellsOf_31 rfl ?_
          refine tx_istore (pc := 35) (lv' := [(5, _), (4, _), (3, _), (0, _), (1, _), (2, _)]) O dX0_tellsOf_35 (by decide) rfl ?_
          refine tx_iconst (pc := 37) O dX0_tellsOf_37 ?_
          refine tx_istore (pc := 38) (lv' := [(6, _), (5, _), (4, _), (3, _), (0, _), (1, _), (2, _)]) O dX0_tellsOf_38 (by decide) rfl ?_
          first
            | exact K2 (by omega) 0 _ ⟨by omega, by omega, rfl⟩ 1 (Or.inl ⟨rfl, by omega, fun x q1 q2 => by omega⟩)
            | exact K2 (by omega) 0 _ ⟨by omega, by omega, rfl⟩ 0 (Or.inr ⟨rfl, fun q => by have := q.1; omega⟩)
  refine tx_iconst (pc := 0) O dX0_tellsOf_0 ?_
  refine tx_istore_n (pc := 1) (lv' := [(3, _), (0, _), (1, _), (2, _)]) O dX0_tellsOf_1 rfl (by decide) rfl ?_
  refine tx_iconst (pc := 2) O dX0_tellsOf_2 ?_
  refine tx_istore (pc := 3) (lv' := [(4, _), (3, _), (0, _), (1, _), (2, _)]) O dX0_tellsOf_3 (by decide) rfl ?_
  exact K 0 M ⟨by omega, by omega, rfl⟩ (-1) rfl
theorem sX0_tells (w : WT) (t what : Int) (R M : TM) (u : PU) (hR : RL R) (hu : cT R M u) (ht : rng t) (hw : rng what) : tx_S w yX0_tells cX0_tells 3 (some .int) 6 [rV (wa w) 1, iV t, iV what] R M (QC (fun z R' M' => ((t < 0 ∨ (uT u).length ≤ t ∨ what < 0 ∨ 1 < what) ∧ z = -2 ∨ (0 ≤ t ∧ t < (uT u).length ∧ 0 ≤ what ∧ what ≤ 1) ∧ z = tellP u t what) ∧ cW u R M R' M')) := by
  refine tx_S.ofk (lv := [(0, _), (1, _), (2, _)]) [1, 1, 1] (by decide) (by simp only [List.map_cons, List.map_nil, cat_i, cat_l, cat_r]) (by decide) rfl (fun E O F => ?_)
  refine tx_aload_n (pc := 0) 0 O dX0_tells_0 rfl rfl ?_
  refine tx_iload_n (pc := 1) 1 O dX0_tells_1 rfl rfl ?_
  refine tx_cV1 (pc := 2) O dX0_tells_2 q152 vX0_isTune (sh_1 w) rfl (by decide) (Nat.zero_le _) (sX0_isTune w _ _ _ u hR hu (by omega)) (k_C (fun z2 R2 M2 h2 => ?_))
  obtain ⟨g1, g2⟩ := h2
  have hR := hR.kp g2.2.2
  refine tx_if_eq (pc := 5) 24 O dX0_tells_5 rfl (by omega) (fun c5 => ?_) (fun c5 => ?_)
  · refine tx_bipush (pc := 24) O dX0_tells_24 (by decide) ?_
    exact tx_iret O F dX0_tells_26 (tx_QC.mk (by first | exact ⟨Or.inl ⟨by omega, rfl⟩, g2.w⟩ | exact ⟨Or.inr ⟨by omega, h18⟩, g2.w⟩))
  · refine tx_iload_n (pc := 8) 2 O dX0_tells_8 rfl rfl ?_
    refine tx_cS1 (pc := 9) O dX0_tells_9 q105 vX0_isTwo (by decide) (Nat.zero_le _) (sX0_isTwo w _ _ _ (by omega)) (k_P (fun z9 h9 => ?_))
    refine tx_if_eq (pc := 12) 24 O dX0_tells_12 rfl (by omega) (fun c12 => ?_) (fun c12 => ?_)
    · refine tx_bipush (pc := 24) O dX0_tells_24 (by decide) ?_
      exact tx_iret O F dX0_tells_26 (tx_QC.mk (by first | exact ⟨Or.inl ⟨by omega, rfl⟩, g2.w⟩ | exact ⟨Or.inr ⟨by omega, h18⟩, g2.w⟩))
    · refine tx_aload_n (pc := 15) 0 O dX0_tells_15 rfl rfl ?_
      refine tx_iload_n (pc := 16) 1 O dX0_tells_16 rfl rfl ?_
      refine tx_iload_n (pc := 17) 2 O dX0_tells_17 rfl rfl ?_
      refine tx_cV2 (pc := 18) O dX0_tells_18 q412 vX0_tellsOf (sh_1 w) rfl (by decide) (Nat.zero_le _) (sX0_tellsOf w _ _ _ _ u hR g2.1 (by omega) (by omega)) (k_P (fun z18 h18 => ?_))
      refine tx_goto (pc := 21) 26 O dX0_tells_21 rfl ?_
      exact tx_iret O F dX0_tells_26 (tx_QC.mk (by first | exact ⟨Or.inl ⟨by omega, rfl⟩, g2.w⟩ | exact ⟨Or.inr ⟨by omega, h18⟩, g2.w⟩))

