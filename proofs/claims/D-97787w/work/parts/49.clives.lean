/-! COMPONENT, questions of a run: notes, has, came, interest, home -/
set_option maxRecDepth 100000
theorem sX0_notesOf (w : WT) (y t i : Int) (R M : TM) (u : PU) (hR : RL R) (hu : cT R M u) (hy : 0 ≤ y ∧ y ≤ 39) (ht : 0 ≤ t ∧ t < (uT u).length) (hi : -1 ≤ i ∧ i ≤ 39) : tx_S w yX0_notesOf cX0_notesOf 4 (some .int) 7 [rV (wa w) 1, iV y, iV t, iV i] R M (QC (fun z R' M' => z = noteP (rNow (runP u (uear u) (y + 1)) t) i ∧ cS u R M R' M')) := by
  have hD1 := (uT_ok hu.1.1).1
  have hok := hu.1.1
  refine tx_S.ofk (lv := [(0, _), (1, _), (2, _), (3, _)]) [1, 1, 1, 1] (by decide) (by simp only [List.map_cons, List.map_nil, cat_i, cat_l, cat_r]) (by decide) rfl (fun E O F => ?_)
  refine tx_aload_n (pc := 0) 0 O dX0_notesOf_0 rfl rfl ?_
  refine tx_iload_n (pc := 1) 1 O dX0_notesOf_1 rfl rfl ?_
  refine tx_cV1 (pc := 2) O dX0_notesOf_2 q237 vX0_runs (sh_1 w) rfl (by decide) (Nat.zero_le _) (sX0_runs w _ _ _ u hR hu (by omega)) (k_CV (fun R2 M2 h2 => ?_))
  obtain ⟨g1, g2⟩ := h2
  have hR := hR.kp g1.2.2
  have o1 := (okR_run hok (uear u) (n := y + 1) (by omega)).1 t ht.1 ht.2
  refine tx_aload_n (pc := 5) 0 O dX0_notesOf_5 rfl rfl ?_
  refine fX0_141 (pc := 6) O hR dX0_notesOf_6 ?_
  refine tx_iload_n (pc := 9) 2 O dX0_notesOf_9 rfl rfl ?_
  refine tx_aald (pc := 10) _ _ O dX0_notesOf_10 (sh_212 w) (by decide) (by omega) ?_
  rw [hR.2.2.2.2.2.1]
  refine tx_iload_n (pc := 11) 3 O dX0_notesOf_11 rfl rfl ?_
  refine tx_cS2 (pc := 12) O dX0_notesOf_12 q156 vX0_noteOf (by decide) (Nat.zero_le _) (sX0_noteOf w _ _ _ _ _ hR (by omega) (g2.1 t ht.1 ht.2).1 o1.1 (by omega)) (k_P (fun z12 h12 => ?_))
  exact tx_iret O F dX0_notesOf_15 (tx_QC.mk ⟨h12, g1⟩)
theorem sX0_notes (w : WT) (y t i : Int) (R M : TM) (u : PU) (hR : RL R) (hu : cT R M u) (hy : rng y) (ht : rng t) (hi : rng i) : tx_S w yX0_notes cX0_notes 4 (some .int) 8 [rV (wa w) 1, iV y, iV t, iV i] R M (QC (fun z R' M' => ((y < 0 ∨ 39 < y ∨ t < 0 ∨ (uT u).length ≤ t ∨ i < -1 ∨ 39 < i) ∧ z = -2 ∨ (0 ≤ y ∧ y ≤ 39 ∧ 0 ≤ t ∧ t < (uT u).length ∧ -1 ≤ i ∧ i ≤ 39) ∧ z = noteP (rNow (runP u (uear u) (y + 1)) t) i) ∧ cW u R M R' M')) := by
  refine tx_S.ofk (lv := [(0, _), (1, _), (2, _), (3, _)]) [1, 1, 1, 1] (by decide) (by simp only [List.map_cons, List.map_nil, cat_i, cat_l, cat_r]) (by decide) rfl (fun E O F => ?_)
  refine tx_iload_n (pc := 0) 1 O dX0_notes_0 rfl rfl ?_
  refine tx_cS1 (pc := 1) O dX0_notes_1 q186 vX0_isYear (by decide) (Nat.zero_le _) (sX0_isYear w _ _ _ (by omega)) (k_P (fun z1 h1 => ?_))
  refine tx_if_eq (pc := 4) 35 O dX0_notes_4 rfl (by omega) (fun c4 => ?_) (fun c4 => ?_)
  · refine tx_bipush (pc := 35) O dX0_notes_35 (by decide) ?_
    exact tx_iret O F dX0_notes_37 (tx_QC.mk (by first | exact ⟨Or.inl ⟨by omega, rfl⟩, hu.s⟩ | exact ⟨Or.inl ⟨by omega, rfl⟩, g2.w⟩ | exact ⟨Or.inr ⟨by omega, h29.1⟩, (g2.tr h29.2).w⟩))
  · refine tx_aload_n (pc := 7) 0 O dX0_notes_7 rfl rfl ?_
    refine tx_iload_n (pc := 8) 2 O dX0_notes_8 rfl rfl ?_
    refine tx_cV1 (pc := 9) O dX0_notes_9 q152 vX0_isTune (sh_1 w) rfl (by decide) (Nat.zero_le _) (sX0_isTune w _ _ _ u hR hu (by omega)) (k_C (fun z9 R9 M9 h9 => ?_))
    obtain ⟨g1, g2⟩ := h9
    have hR := hR.kp g2.2.2
    have hu := g2.1.t
    refine tx_if_eq (pc := 12) 35 O dX0_notes_12 rfl (by omega) (fun c12 => ?_) (fun c12 => ?_)
    · refine tx_bipush (pc := 35) O dX0_notes_35 (by decide) ?_
      exact tx_iret O F dX0_notes_37 (tx_QC.mk (by first | exact ⟨Or.inl ⟨by omega, rfl⟩, hu.s⟩ | exact ⟨Or.inl ⟨by omega, rfl⟩, g2.w⟩ | exact ⟨Or.inr ⟨by omega, h29.1⟩, (g2.tr h29.2).w⟩))
    · refine tx_iload_n (pc := 15) 3 O dX0_notes_15 rfl rfl ?_
      refine tx_iconst (pc := 16) O dX0_notes_16 ?_
      refine tx_bipush (pc := 17) O dX0_notes_17 (by decide) ?_
      refine tx_cS3 (pc := 19) O dX0_notes_19 q108 vX0_in (by decide) (Nat.zero_le _) (sX0_in w _ _ _ _ _ (by omega) (by omega) (by omega)) (k_P (fun z19 h19 => ?_))
      refine tx_if_eq (pc := 22) 35 O dX0_notes_22 rfl (by omega) (fun c22 => ?_) (fun c22 => ?_)
      · refine tx_bipush (pc := 35) O dX0_notes_35 (by decide) ?_
        exact tx_iret O F dX0_notes_37 (tx_QC.mk (by first | exact ⟨Or.inl ⟨by omega, rfl⟩, hu.s⟩ | exact ⟨Or.inl ⟨by omega, rfl⟩, g2.w⟩ | exact ⟨Or.inr ⟨by omega, h29.1⟩, (g2.tr h29.2).w⟩))
      · refine tx_aload_n (pc := 25) 0 O dX0_notes_25 rfl rfl ?_
        refine tx_iload_n (pc := 26) 1 O dX0_notes_26 rfl rfl ?_
        refine tx_iload_n (pc := 27) 2 O dX0_notes_27 rfl rfl ?_
        refine tx_iload_n (pc := 28) 3 O dX0_notes_28 rfl rfl ?_
        refine tx_cV3 (pc := 29) O dX0_notes_29 q233 vX0_notesOf (sh_1 w) rfl (by decide) (Nat.zero_le _) (sX0_notesOf w _ _ _ _ _ u hR hu (by omega) (by omega) (by omega)) (k_C (fun z29 R29 M29 h29 => ?_))
        refine tx_goto (pc := 32) 37 O dX0_notes_32 rfl ?_
        exact tx_iret O F dX0_notes_37 (tx_QC.mk (by first | exact ⟨Or.inl ⟨by omega, rfl⟩, hu.s⟩ | exact ⟨Or.inl ⟨by omega, rfl⟩, g2.w⟩ | exact ⟨Or.inr ⟨by omega, h29.1⟩, (g2.tr h29.2).w⟩))
theorem sX0_hasOf (w : WT) (y t : Int) (R M : TM) (u : PU) (hR : RL R) (hu : cT R M u) (hy : 0 ≤ y ∧ y ≤ 39) (ht : 0 ≤ t ∧ t < (uT u).length) : tx_S w yX0_hasOf cX0_hasOf 3 (some .int) 7 [rV (wa w) 1, iV y, iV t] R M (QC (fun z R' M' => z = hasP u (runP u (uear u) (y + 1)) t ∧ cS u R M R' M')) := by
  have hD1 := (uT_ok hu.1.1).1
  have hok := hu.1.1
  have hnl := hok.2.2.2.2.1
  refine tx_S.ofk (lv := [(0, _), (1, _), (2, _)]) [1, 1, 1] (by decide) (by simp only [List.map_cons, List.map_nil, cat_i, cat_l, cat_r]) (by decide) rfl (fun E O F => ?_)
  refine tx_aload_n (pc := 0) 0 O dX0_hasOf_0 rfl rfl ?_
  refine tx_iload_n (pc := 1) 1 O dX0_hasOf_1 rfl rfl ?_
  refine tx_cV1 (pc := 2) O dX0_hasOf_2 q237 vX0_runs (sh_1 w) rfl (by decide) (Nat.zero_le _) (sX0_runs w _ _ _ u hR hu (by omega)) (k_CV (fun R2 M2 h2 => ?_))
  obtain ⟨g1, g2⟩ := h2
  have hR := hR.kp g1.2.2
  have o1 := (okR_run hok (uear u) (n := y + 1) (by omega)).2.1 t ht.1 ht.2
  have n2 := (g2.1 t ht.1 ht.2).2.1
  have nr : -1 ≤ rBy (runP u (uear u) (y + 1)) t ∧ rBy (runP u (uear u) (y + 1)) t < 12 := by
    rcases o1 with q | q
    · omega
    · have := q.1; have := q.2.1; omega
  refine tx_aload_n (pc := 5) 0 O dX0_hasOf_5 rfl rfl ?_
  refine fX0_148 (pc := 6) O hR dX0_hasOf_6 ?_
  refine tx_iload_n (pc := 9) 2 O dX0_hasOf_9 rfl rfl ?_
  refine tx_iald (pc := 10) _ O dX0_hasOf_10 (sh_214 w) (by omega) ?_
  rw [n2]
  refine tx_iconst (pc := 11) O dX0_hasOf_11 ?_
  refine tx_icmp_ne (pc := 12) 19 O dX0_hasOf_12 rfl (by omega) (fun c12 => ?_) (fun c12 => ?_)
  · refine tx_aload_n (pc := 19) 0 O dX0_hasOf_19 rfl rfl ?_
    refine fX0_111 (pc := 20) O hR dX0_hasOf_20 ?_
    refine tx_iconst (pc := 23) O dX0_hasOf_23 ?_
    refine tx_aald (pc := 24) _ _ O dX0_hasOf_24 (sh_210 w) (by decide) (by omega) ?_
    rw [hR.2.2.2.1 2, show (310 : Int) + 2 = 312 from rfl]
    refine tx_aload_n (pc := 25) 0 O dX0_hasOf_25 rfl rfl ?_
    refine fX0_148 (pc := 26) O hR dX0_hasOf_26 ?_
    refine tx_iload_n (pc := 29) 2 O dX0_hasOf_29 rfl rfl ?_
    refine tx_iald (pc := 30) _ O dX0_hasOf_30 (sh_214 w) (by omega) ?_
    rw [n2]
    refine tx_iald (pc := 31) _ O dX0_hasOf_31 (sh_312 w) (by omega) ?_
    exact tx_iret O F dX0_hasOf_32 (tx_QC.mk (by
      unfold hasP
      first
        | exact ⟨(if_pos c12).symm, g1⟩
        | (have b := o1.resolve_left c12
           exact ⟨by rw [if_neg c12]; exact g1.1.1.2.2.2.2.2.2.1 _ 2 b.1 b.2.1 (by omega) (by omega), g1⟩)))
  · skip
    refine tx_iconst (pc := 15) O dX0_hasOf_15 ?_
    refine tx_goto (pc := 16) 32 O dX0_hasOf_16 rfl ?_
    exact tx_iret O F dX0_hasOf_32 (tx_QC.mk (by
      unfold hasP
      first
        | exact ⟨(if_pos c12).symm, g1⟩
        | (have b := o1.resolve_left c12
           exact ⟨by rw [if_neg c12]; exact g1.1.1.2.2.2.2.2.2.1 _ 2 b.1 b.2.1 (by omega) (by omega), g1⟩)))
theorem sX0_has (w : WT) (y t : Int) (R M : TM) (u : PU) (hR : RL R) (hu : cT R M u) (hy : rng y) (ht : rng t) : tx_S w yX0_has cX0_has 3 (some .int) 8 [rV (wa w) 1, iV y, iV t] R M (QC (fun z R' M' => ((y < 0 ∨ 39 < y ∨ t < 0 ∨ (uT u).length ≤ t) ∧ z = -2 ∨ (0 ≤ y ∧ y ≤ 39 ∧ 0 ≤ t ∧ t < (uT u).length) ∧ z = hasP u (runP u (uear u) (y + 1)) t) ∧ cW u R M R' M')) := by
  refine tx_S.ofk (lv := [(0, _), (1, _), (2, _)]) [1, 1, 1] (by decide) (by simp only [List.map_cons, List.map_nil, cat_i, cat_l, cat_r]) (by decide) rfl (fun E O F => ?_)
  refine tx_iload_n (pc := 0) 1 O dX0_has_0 rfl rfl ?_
  refine tx_cS1 (pc := 1) O dX0_has_1 q186 vX0_isYear (by decide) (Nat.zero_le _) (sX0_isYear w _ _ _ (by omega)) (k_P (fun z1 h1 => ?_))
  refine tx_if_eq (pc := 4) 24 O dX0_has_4 rfl (by omega) (fun c4 => ?_) (fun c4 => ?_)
  · refine tx_bipush (pc := 24) O dX0_has_24 (by decide) ?_
    exact tx_iret O F dX0_has_26 (tx_QC.mk (by first | exact ⟨Or.inl ⟨by omega, rfl⟩, hu.s⟩ | exact ⟨Or.inl ⟨by omega, rfl⟩, g2.w⟩ | exact ⟨Or.inr ⟨by omega, h18.1⟩, (g2.tr h18.2).w⟩))
  · refine tx_aload_n (pc := 7) 0 O dX0_has_7 rfl rfl ?_
    refine tx_iload_n (pc := 8) 2 O dX0_has_8 rfl rfl ?_
    refine tx_cV1 (pc := 9) O dX0_has_9 q152 vX0_isTune (sh_1 w) rfl (by decide) (Nat.zero_le _) (sX0_isTune w _ _ _ u hR hu (by omega)) (k_C (fun z9 R9 M9 h9 => ?_))
    obtain ⟨g1, g2⟩ := h9
    have hR := hR.kp g2.2.2
    have hu := g2.1.t
    refine tx_if_eq (pc := 12) 24 O dX0_has_12 rfl (by omega) (fun c12 => ?_) (fun c12 => ?_)
    · refine tx_bipush (pc := 24) O dX0_has_24 (by decide) ?_
      exact tx_iret O F dX0_has_26 (tx_QC.mk (by first | exact ⟨Or.inl ⟨by omega, rfl⟩, hu.s⟩ | exact ⟨Or.inl ⟨by omega, rfl⟩, g2.w⟩ | exact ⟨Or.inr ⟨by omega, h18.1⟩, (g2.tr h18.2).w⟩))
    · refine tx_aload_n (pc := 15) 0 O dX0_has_15 rfl rfl ?_
      refine tx_iload_n (pc := 16) 1 O dX0_has_16 rfl rfl ?_
      refine tx_iload_n (pc := 17) 2 O dX0_has_17 rfl rfl ?_
      refine tx_cV2 (pc := 18) O dX0_has_18 q304 vX0_hasOf (sh_1 w) rfl (by decide) (Nat.zero_le _) (sX0_hasOf w _ _ _ _ u hR hu (by omega) (by omega)) (k_C (fun z18 R18 M18 h18 => ?_))
      refine tx_goto (pc := 21) 26 O dX0_has_21 rfl ?_
      exact tx_iret O F dX0_has_26 (tx_QC.mk (by first | exact ⟨Or.inl ⟨by omega, rfl⟩, hu.s⟩ | exact ⟨Or.inl ⟨by omega, rfl⟩, g2.w⟩ | exact ⟨Or.inr ⟨by omega, h18.1⟩, (g2.tr h18.2).w⟩))
theorem sX0_cameOf (w : WT) (k what : Int) (R M : TM) (u : PU) (hR : RL R) (hu : cT R M u) (hk : 0 ≤ k ∧ k < unl u) (hw : 0 ≤ what ∧ what ≤ 2) : tx_S w yX0_cameOf cX0_cameOf 3 (some .int) 7 [rV (wa w) 1, iV k, iV what] R M (QC (fun z R' M' => z = cameP (runP u (uear u) 40) k what ∧ cS u R M R' M')) := by
  have hok := hu.1.1
  have hnl := hok.2.2.2.2.1
  refine tx_S.ofk (lv := [(0, _), (1, _), (2, _)]) [1, 1, 1] (by decide) (by simp only [List.map_cons, List.map_nil, cat_i, cat_l, cat_r]) (by decide) rfl (fun E O F => ?_)
  refine tx_aload_n (pc := 0) 0 O dX0_cameOf_0 rfl rfl ?_
  refine tx_bipush (pc := 1) O dX0_cameOf_1 (by decide) ?_
  refine tx_cV1 (pc := 3) O dX0_cameOf_3 q237 vX0_runs (sh_1 w) rfl (by decide) (Nat.zero_le _) (sX0_runs w _ _ _ u hR hu (by omega)) (k_CV (fun R3 M3 h3 => ?_))
  obtain ⟨g1, g2⟩ := h3
  have hR := hR.kp g1.2.2
  rw [show (39 : Int) + 1 = 40 from rfl] at g2
  have o1 := okG_run hok (uear u) (n := 40) (by omega) k hk.1 (by omega)
  obtain ⟨p1, p2, p3⟩ := g2.2 k hk.1 (by omega)
  refine tx_iload_n (pc := 6) 2 O dX0_cameOf_6 rfl rfl ?_
  refine tx_if_ne (pc := 7) 27 O dX0_cameOf_7 rfl (by omega) (fun c7 => ?_) (fun c7 => ?_)
  · refine tx_iload_n (pc := 27) 2 O dX0_cameOf_27 rfl rfl ?_
    refine tx_iconst (pc := 28) O dX0_cameOf_28 ?_
    refine tx_icmp_ne (pc := 29) 49 O dX0_cameOf_29 rfl (by omega) (fun c29 => ?_) (fun c29 => ?_)
    · refine tx_aload_n (pc := 49) 0 O dX0_cameOf_49 rfl rfl ?_
      refine fX0_158 (pc := 50) O hR dX0_cameOf_50 ?_
      refine tx_iload_n (pc := 53) 1 O dX0_cameOf_53 rfl rfl ?_
      refine tx_iald (pc := 54) _ O dX0_cameOf_54 (sh_217 w) (by omega) ?_
      exact tx_iret O F dX0_cameOf_55 (tx_QC.mk (by
        refine ⟨?_, g1⟩
        unfold cameP
        first
          | (rw [if_pos c7]; omega)
          | (rw [if_neg c7, if_pos (by omega)]; omega)
          | (rw [if_neg c7, if_neg (by omega)]; exact p3)))
    · refine tx_aload_n (pc := 32) 0 O dX0_cameOf_32 rfl rfl ?_
      refine fX0_155 (pc := 33) O hR dX0_cameOf_33 ?_
      refine tx_iload_n (pc := 36) 1 O dX0_cameOf_36 rfl rfl ?_
      refine tx_zald (pc := 37) _ O dX0_cameOf_37 (sh_216 w) (by omega) ?_
      rw [p2]
      refine tx_if_eq (pc := 38) 45 O dX0_cameOf_38 rfl (by omega) (fun c38 => ?_) (fun c38 => ?_)
      · refine tx_iconst (pc := 45) O dX0_cameOf_45 ?_
        refine tx_goto (pc := 46) 55 O dX0_cameOf_46 rfl ?_
        exact tx_iret O F dX0_cameOf_55 (tx_QC.mk (by
          refine ⟨?_, g1⟩
          unfold cameP
          first
            | (rw [if_pos c7]; omega)
            | (rw [if_neg c7, if_pos (by omega)]; omega)
            | (rw [if_neg c7, if_neg (by omega)]; exact p3)))
      · refine tx_iconst (pc := 41) O dX0_cameOf_41 ?_
        refine tx_goto (pc := 42) 55 O dX0_cameOf_42 rfl ?_
        exact tx_iret O F dX0_cameOf_55 (tx_QC.mk (by
          refine ⟨?_, g1⟩
          unfold cameP
          first
            | (rw [if_pos c7]; omega)
            | (rw [if_neg c7, if_pos (by omega)]; omega)
            | (rw [if_neg c7, if_neg (by omega)]; exact p3)))
  · refine tx_aload_n (pc := 10) 0 O dX0_cameOf_10 rfl rfl ?_
    refine fX0_151 (pc := 11) O hR dX0_cameOf_11 ?_
    refine tx_iload_n (pc := 14) 1 O dX0_cameOf_14 rfl rfl ?_
    refine tx_zald (pc := 15) _ O dX0_cameOf_15 (sh_215 w) (by omega) ?_
    rw [p1]
    refine tx_if_eq (pc := 16) 23 O dX0_cameOf_16 rfl (by omega) (fun c16 => ?_) (fun c16 => ?_)
    · refine tx_iconst (pc := 23) O dX0_cameOf_23 ?_
      refine tx_goto (pc := 24) 55 O dX0_cameOf_24 rfl ?_
      exact tx_iret O F dX0_cameOf_55 (tx_QC.mk (by
        refine ⟨?_, g1⟩
        unfold cameP
        first
          | (rw [if_pos c7]; omega)
          | (rw [if_neg c7, if_pos (by omega)]; omega)
          | (rw [if_neg c7, if_neg (by omega)]; exact p3)))
    · refine tx_iconst (pc := 19) O dX0_cameOf_19 ?_
      refine tx_goto (pc := 20) 55 O dX0_cameOf_20 rfl ?_
      exact tx_iret O F dX0_cameOf_55 (tx_QC.mk (by
        refine ⟨?_, g1⟩
        unfold cameP
        first
          | (rw [if_pos c7]; omega)
          | (rw [if_neg c7, if_pos (by omega)]; omega)
          | (rw [if_neg c7, if_neg (by omega)]; exact p3)))
theorem sX0_came (w : WT) (k what : Int) (R M : TM) (u : PU) (hR : RL R) (hu : cT R M u) (hk : rng k) (hw : rng what) : tx_S w yX0_came cX0_came 3 (some .int) 8 [rV (wa w) 1, iV k, iV what] R M (QC (fun z R' M' => ((k < 0 ∨ unl u ≤ k ∨ what < 0 ∨ 2 < what) ∧ z = -1002 ∨ (0 ≤ k ∧ k < unl u ∧ 0 ≤ what ∧ what ≤ 2) ∧ z = cameP (runP u (uear u) 40) k what) ∧ cW u R M R' M')) := by
  have hnl := hu.1.1.2.2.2.2.1
  refine tx_S.ofk (lv := [(0, _), (1, _), (2, _)]) [1, 1, 1] (by decide) (by simp only [List.map_cons, List.map_nil, cat_i, cat_l, cat_r]) (by decide) rfl (fun E O F => ?_)
  refine tx_iload_n (pc := 0) 1 O dX0_came_0 rfl rfl ?_
  refine tx_iconst (pc := 1) O dX0_came_1 ?_
  refine tx_aload_n (pc := 2) 0 O dX0_came_2 rfl rfl ?_
  refine fX0_108 (pc := 3) O dX0_came_3 ?_
  rw [hu.1.2.2.2.2.2.1]
  refine tx_iconst (pc := 6) O dX0_came_6 ?_
  refine tx_isub (pc := 7) O dX0_came_7 ?_
  refine tx_cS3 (pc := 8) O dX0_came_8 q108 vX0_in (by decide) (Nat.zero_le _) (sX0_in w _ _ _ _ _ (by omega) (by omega) (by omega)) (k_P (fun z8 h8 => ?_))
  refine tx_if_eq (pc := 11) 32 O dX0_came_11 rfl (by omega) (fun c11 => ?_) (fun c11 => ?_)
  · refine tx_sipush (pc := 32) O dX0_came_32 (by decide) ?_
    exact tx_iret O F dX0_came_35 (tx_QC.mk (by first | exact ⟨Or.inl ⟨by omega, rfl⟩, hu.s⟩ | exact ⟨Or.inr ⟨by omega, h26.1⟩, h26.2.w⟩))
  · refine tx_iload_n (pc := 14) 2 O dX0_came_14 rfl rfl ?_
    refine tx_iconst (pc := 15) O dX0_came_15 ?_
    refine tx_iconst (pc := 16) O dX0_came_16 ?_
    refine tx_cS3 (pc := 17) O dX0_came_17 q108 vX0_in (by decide) (Nat.zero_le _) (sX0_in w _ _ _ _ _ (by omega) (by omega) (by omega)) (k_P (fun z17 h17 => ?_))
    refine tx_if_eq (pc := 20) 32 O dX0_came_20 rfl (by omega) (fun c20 => ?_) (fun c20 => ?_)
    · refine tx_sipush (pc := 32) O dX0_came_32 (by decide) ?_
      exact tx_iret O F dX0_came_35 (tx_QC.mk (by first | exact ⟨Or.inl ⟨by omega, rfl⟩, hu.s⟩ | exact ⟨Or.inr ⟨by omega, h26.1⟩, h26.2.w⟩))
    · refine tx_aload_n (pc := 23) 0 O dX0_came_23 rfl rfl ?_
      refine tx_iload_n (pc := 24) 1 O dX0_came_24 rfl rfl ?_
      refine tx_iload_n (pc := 25) 2 O dX0_came_25 rfl rfl ?_
      refine tx_cV2 (pc := 26) O dX0_came_26 q312 vX0_cameOf (sh_1 w) rfl (by decide) (Nat.zero_le _) (sX0_cameOf w _ _ _ _ u hR hu (by omega) (by omega)) (k_C (fun z26 R26 M26 h26 => ?_))
      refine tx_goto (pc := 29) 35 O dX0_came_29 rfl ?_
      exact tx_iret O F dX0_came_35 (tx_QC.mk (by first | exact ⟨Or.inl ⟨by omega, rfl⟩, hu.s⟩ | exact ⟨Or.inr ⟨by omega, h26.1⟩, h26.2.w⟩))
theorem sX0_interestOf (w : WT) (y : Int) (R M : TM) (u : PU) (hR : RL R) (hu : cT R M u) (hy : 0 ≤ y ∧ y ≤ 39) : tx_S w yX0_interestOf cX0_interestOf 4 (some .int) 7 [rV (wa w) 1, iV y] R M (QC (fun z R' M' => z = intP u (runP u (uear u) (y + 1)) ∧ cS u R M R' M')) := by
  have hD1 := (uT_ok hu.1.1).1
  have hok := hu.1.1
  have hl40 : ∀ t : Int, 0 ≤ t → t < (uT u).length → (gl (uT u) t).length ≤ 12 := fun t q1 q2 => ((uT_ok hok).2 _ (gl_mem q1 q2)).1.1
  have hn40 : ∀ t : Int, 0 ≤ t → t < (uT u).length → (rNow (runP u (uear u) (y + 1)) t).length ≤ 40 := fun t q1 q2 => ((okR_run hok (uear u) (n := y + 1) (by omega)).1 t q1 q2).1
  refine tx_S.ofk (lv := [(0, _), (1, _)]) [1, 1] (by decide) (by simp only [List.map_cons, List.map_nil, cat_i, cat_l, cat_r]) (by decide) rfl (fun E O F => ?_)
  have K : ∀ (R' M' : TM), RL R' → cS u R M R' M' → RunC M' u (runP u (uear u) (y + 1)) → ∀ (t : Int) (M2 : TM), (0 ≤ t ∧ t ≤ (uT u).length ∧ M2 = M') → tx_X w E 9 [(3, iV t), (2, iV (itI (fun t s => s + (((rNow (runP u (uear u) (y + 1)) t).length : Int) - (gl (uT u) t).length)) 0 t)), (0, rV (wa w) 1)] [] R' M2 := by
    intro R' M' hR g1 g2
    refine lp_up _ _ (uT u).length ?_
    rintro t M2 ⟨h1, h2, rfl⟩ ih
    have hst := itI_1 (fun t s => s + (((rNow (runP u (uear u) (y + 1)) t).length : Int) - (gl (uT u) t).length)) (0 : Int) h1
    have e4 : M2 1 4 = (uT u).length := g1.1.2.2.1.1
    refine tx_iload_n (pc := 9) 0 O dX0_interestOf_9 rfl rfl ?_
    refine tx_aload_n (pc := 10) 2 O dX0_interestOf_10 rfl rfl ?_
    refine fX0_25 (pc := 11) O dX0_interestOf_11 ?_
    rw [e4]
    refine tx_icmp_ge (pc := 14) 45 O dX0_interestOf_14 rfl (by omega) (fun c14 => ?_) (fun c14 => ?_)
    · refine tx_iload_n (pc := 45) 1 O dX0_interestOf_45 rfl rfl ?_
      exact tx_iret O F dX0_interestOf_46 (tx_QC.mk ⟨by unfold intP; rw [show ((uT u).length : Int) = t by omega], g1⟩)
    · refine tx_iload_n (pc := 17) 1 O dX0_interestOf_17 rfl rfl ?_
      refine tx_aload_n (pc := 18) 2 O dX0_interestOf_18 rfl rfl ?_
      refine fX0_141 (pc := 19) O hR dX0_interestOf_19 ?_
      refine tx_iload_n (pc := 22) 0 O dX0_interestOf_22 rfl rfl ?_
      refine tx_aald (pc := 23) _ _ O dX0_interestOf_23 (sh_212 w) (by decide) (by omega) ?_
      rw [hR.2.2.2.2.2.1]
      refine fX0_37 (pc := 24) O (by omega) dX0_interestOf_24 ?_
      rw [(g2.1 t h1 (by omega)).1.1]
      refine tx_aload_n (pc := 27) 2 O dX0_interestOf_27 rfl rfl ?_
      refine fX0_33 (pc := 28) O hR dX0_interestOf_28 ?_
      refine tx_iload_n (pc := 31) 0 O dX0_interestOf_31 rfl rfl ?_
      refine tx_aald (pc := 32) _ _ O dX0_interestOf_32 (sh_205 w) (by decide) (by omega) ?_
      rw [hR.2.2.2.2.1]
      refine fX0_37 (pc := 33) O (by omega) dX0_interestOf_33 ?_
      rw [(g1.1.2.2.1.2 t h1 (by omega)).1]
      refine tx_isub (pc := 36) O dX0_interestOf_36 ?_
      refine tx_iadd (pc := 37) O dX0_interestOf_37 ?_
      refine tx_istore_n (pc := 38) (lv' := [(2, _), (3, _), (0, _)]) O dX0_interestOf_38 rfl (by decide) rfl ?_
      refine tx_iinc (pc := 39) (lv' := [(3, _), (2, _), (0, _)]) 1 O dX0_interestOf_39 rfl (by decide) rfl ?_
      refine tx_goto (pc := 42) 9 O dX0_interestOf_42 rfl ?_
      have := ih (t + 1) M2 ⟨by omega, by omega, rfl⟩ (by omega) (by omega)
      rw [hst] at this
      exact this
  refine tx_aload_n (pc := 0) 0 O dX0_interestOf_0 rfl rfl ?_
  refine tx_iload_n (pc := 1) 1 O dX0_interestOf_1 rfl rfl ?_
  refine tx_cV1 (pc := 2) O dX0_interestOf_2 q237 vX0_runs (sh_1 w) rfl (by decide) (Nat.zero_le _) (sX0_runs w _ _ _ u hR hu (by omega)) (k_CV (fun R2 M2 h2 => ?_))
  refine tx_iconst (pc := 5) O dX0_interestOf_5 ?_
  refine tx_istore_n (pc := 6) (lv' := [(2, _), (0, _), (1, _)]) O dX0_interestOf_6 rfl (by decide) rfl ?_
  refine tx_iconst (pc := 7) O dX0_interestOf_7 ?_
  refine tx_istore_n (pc := 8) (lv' := [(3, _), (2, _), (0, _), (1, _)]) O dX0_interestOf_8 rfl (by decide) rfl ?_
  refine tx_lv (lv' := [(3, _), (2, _), (0, _)]) [0, 1, 2] rfl ?_
  exact K _ _ (hR.kp h2.1.2.2) h2.1 h2.2 0 _ ⟨by omega, by omega, rfl⟩
theorem sX0_interest (w : WT) (y : Int) (R M : TM) (u : PU) (hR : RL R) (hu : cT R M u) (hy : rng y) : tx_S w yX0_interest cX0_interest 2 (some .int) 8 [rV (wa w) 1, iV y] R M (QC (fun z R' M' => ((y < 0 ∨ 39 < y) ∧ z = -1002 ∨ (0 ≤ y ∧ y ≤ 39) ∧ z = intP u (runP u (uear u) (y + 1))) ∧ cW u R M R' M')) := by
  refine tx_S.ofk (lv := [(0, _), (1, _)]) [1, 1] (by decide) (by simp only [List.map_cons, List.map_nil, cat_i, cat_l, cat_r]) (by decide) rfl (fun E O F => ?_)
  refine tx_iload_n (pc := 0) 1 O dX0_interest_0 rfl rfl ?_
  refine tx_cS1 (pc := 1) O dX0_interest_1 q186 vX0_isYear (by decide) (Nat.zero_le _) (sX0_isYear w _ _ _ (by omega)) (k_P (fun z1 h1 => ?_))
  refine tx_if_eq (pc := 4) 15 O dX0_interest_4 rfl (by omega) (fun c4 => ?_) (fun c4 => ?_)
  · refine tx_sipush (pc := 15) O dX0_interest_15 (by decide) ?_
    exact tx_iret O F dX0_interest_18 (tx_QC.mk (by first | exact ⟨Or.inl ⟨by omega, rfl⟩, hu.s⟩ | exact ⟨Or.inr ⟨by omega, h9.1⟩, h9.2.w⟩))
  · refine tx_aload_n (pc := 7) 0 O dX0_interest_7 rfl rfl ?_
    refine tx_iload_n (pc := 8) 1 O dX0_interest_8 rfl rfl ?_
    refine tx_cV1 (pc := 9) O dX0_interest_9 q320 vX0_interestOf (sh_1 w) rfl (by decide) (Nat.zero_le _) (sX0_interestOf w _ _ _ u hR hu (by omega)) (k_C (fun z9 R9 M9 h9 => ?_))
    refine tx_goto (pc := 12) 18 O dX0_interest_12 rfl ?_
    exact tx_iret O F dX0_interest_18 (tx_QC.mk (by first | exact ⟨Or.inl ⟨by omega, rfl⟩, hu.s⟩ | exact ⟨Or.inr ⟨by omega, h9.1⟩, h9.2.w⟩))
theorem sX0_homeOf (w : WT) (year : Int) (R M : TM) (u : PU) (hR : RL R) (hu : cT R M u) (hy : 0 ≤ year ∧ year ≤ 39) : tx_S w yX0_homeOf cX0_homeOf 5 (some .int) 6 [rV (wa w) 1, iV year] R M (QC (fun z R' M' => z = homeP u (uear u) year 40 ∧ cS u R M R' M')) := by
  have hD1 := (uT_ok hu.1.1).1
  have hok := hu.1.1
  have hnl := hok.2.2.2.2.1
  refine tx_S.ofk (lv := [(0, _), (1, _)]) [1, 1] (by decide) (by simp only [List.map_cons, List.map_nil, cat_i, cat_l, cat_r]) (by decide) rfl (fun E O F => ?_)
  have K : ∀ (R' : TM) (y : Int) (M' : TM), (0 ≤ y ∧ y ≤ 40 ∧ RL R' ∧ cS u R M R' M' ∧ RunC M' u (runP u (uear u) y) ∧ homeP u (uear u) year y = -1) → tx_X w E 6 [(2, iV y), (0, rV (wa w) 1), (1, iV year)] [] R' M' := by
    intro R'
    refine lp_up _ _ 40 ?_
    rintro y M' ⟨h1, h2, hR, h3, h4, h5⟩ ih
    have hst : runP u (uear u) (y + 1) = yearC u (uear u) y (runP u (uear u) y) := by
      have := itI_1 (yearM u (uear u)) (startS u) h1
      rw [year_eq] at this
      exact this
    have K2 : y < 40 → ∀ (M2 : TM), cS u R M R' M2 → RunC M2 u (runP u (uear u) (y + 1)) → ∀ (t : Int) (M3 : TM), (0 ≤ t ∧ t ≤ (uT u).length ∧ M3 = M2) → tx_X w E 31 [(4, iV t), (3, iV (homeB u (runP u (uear u) (y + 1)) (if year ≤ y then 1 else 0) t)), (2, iV y), (0, rV (wa w) 1), (1, iV year)] [] R' M3 := by
      intro hy40 M2 g1 g2
      refine lp_up _ _ (uT u).length ?_
      rintro t M3 ⟨q1, q2, rfl⟩ ih2
      have hs2 := itI_1 (fun t s => if s = 1 ∧ rBy (runP u (uear u) (y + 1)) t = -1 then 1 else 0) (if year ≤ y then 1 else 0 : Int) q1
      have e4 : M3 1 4 = (uT u).length := g1.1.2.2.1.1
      have hz : homeB u (runP u (uear u) (y + 1)) (if year ≤ y then 1 else 0) t = 0 ∨ homeB u (runP u (uear u) (y + 1)) (if year ≤ y then 1 else 0) t = 1 := by
        exact itI_ind (f := fun t s => if s = 1 ∧ rBy (runP u (uear u) (y + 1)) t = -1 then 1 else 0) (a := (if year ≤ y then 1 else 0 : Int)) (fun _ s => s = 0 ∨ s = 1) (uT u).length (by split <;> omega) (fun i x _ _ _ => by split <;> omega) t q1 q2
      change homeB u (runP u (uear u) (y + 1)) (if year ≤ y then 1 else 0) (t + 1) = (if homeB u (runP u (uear u) (y + 1)) (if year ≤ y then 1 else 0) t = 1 ∧ rBy (runP u (uear u) (y + 1)) t = -1 then 1 else 0) at hs2
      have G : ∀ v : Int, v = homeB u (runP u (uear u) (y + 1)) (if year ≤ y then 1 else 0) (t + 1) → t < (uT u).length → tx_X w E 31 [(4, iV (t + 1)), (3, iV v), (2, iV y), (0, rV (wa w) 1), (1, iV year)] [] R' M3 := by
        rintro v rfl hlt
        exact ih2 (t + 1) M3 ⟨by omega, by omega, rfl⟩ (by omega) (by omega)
      refine tx_iload (pc := 31) 0 O dX0_homeOf_31 rfl ?_
      refine tx_aload_n (pc := 33) 3 O dX0_homeOf_33 rfl rfl ?_
      refine fX0_25 (pc := 34) O dX0_homeOf_34 ?_
      rw [e4]
      refine tx_icmp_ge (pc := 37) 67 O dX0_homeOf_37 rfl (by omega) (fun c37 => ?_) (fun c37 => ?_)
      · have et : t = (uT u).length := by omega
        subst et
        have hp := homeP_1 h1 h5
        refine tx_iload_n (pc := 67) 1 O dX0_homeOf_67 rfl rfl ?_
        refine tx_if_eq (pc := 68) 73 O dX0_homeOf_68 rfl (by omega) (fun c68 => ?_) (fun c68 => ?_)
        · refine tx_iinc (pc := 73) (lv' := [(2, _), (4, _), (3, _), (0, _), (1, _)]) 2 O dX0_homeOf_73 rfl (by decide) rfl ?_
          refine tx_goto (pc := 76) 6 O dX0_homeOf_76 rfl ?_
          refine tx_lv (lv' := [(2, _), (0, _), (1, _)]) [0, 3, 4] rfl ?_
          rw [if_neg (by omega)] at hp
          exact ih _ _ ⟨by omega, by omega, hR, g1, g2, hp⟩ (by omega) (by omega)
        · refine tx_iload_n (pc := 71) 2 O dX0_homeOf_71 rfl rfl ?_
          exact tx_iret O F dX0_homeOf_72 (tx_QC.mk (by
            rw [if_pos (by omega)] at hp
            exact ⟨by rw [homeP_stay (k := y + 1) (n := 40) (by omega) (by omega) (by omega)]; exact hp.symm, g1⟩))
      · have n2 := (g2.1 t q1 (by omega)).2.1
        have o1 := (okR_run hok (uear u) (n := y + 1) (by omega)).2.1 t q1 (by omega)
        have nr : -1 ≤ rBy (runP u (uear u) (y + 1)) t ∧ rBy (runP u (uear u) (y + 1)) t < 12 := by
          rcases o1 with q | q
          · omega
          · have := q.1; have := q.2.1; omega
        refine tx_iload_n (pc := 40) 1 O dX0_homeOf_40 rfl rfl ?_
        refine tx_if_eq (pc := 41) 59 O dX0_homeOf_41 rfl (by omega) (fun c41 => ?_) (fun c41 => ?_)
        · refine tx_iconst (pc := 59) O dX0_homeOf_59 ?_
          refine tx_istore_n (pc := 60) (lv' := [(3, _), (4, _), (2, _), (0, _), (1, _)]) O dX0_homeOf_60 rfl (by decide) rfl ?_
          refine tx_iinc (pc := 61) (lv' := [(4, _), (3, _), (2, _), (0, _), (1, _)]) 1 O dX0_homeOf_61 rfl (by decide) rfl ?_
          refine tx_goto (pc := 64) 31 O dX0_homeOf_64 rfl ?_
          first
            | exact G 1 (by rw [hs2]; exact (if_pos ⟨by omega, by omega⟩).symm) (by omega)
            | exact G 0 (by rw [hs2]; exact (if_neg (by omega)).symm) (by omega)
        · refine tx_aload_n (pc := 44) 3 O dX0_homeOf_44 rfl rfl ?_
          refine fX0_148 (pc := 45) O hR dX0_homeOf_45 ?_
          refine tx_iload (pc := 48) 0 O dX0_homeOf_48 rfl ?_
          refine tx_iald (pc := 50) _ O dX0_homeOf_50 (sh_214 w) (by omega) ?_
          rw [n2]
          refine tx_iconst (pc := 51) O dX0_homeOf_51 ?_
          refine tx_icmp_ne (pc := 52) 59 O dX0_homeOf_52 rfl (by omega) (fun c52 => ?_) (fun c52 => ?_)
          · refine tx_iconst (pc := 59) O dX0_homeOf_59 ?_
            refine tx_istore_n (pc := 60) (lv' := [(3, _), (4, _), (2, _), (0, _), (1, _)]) O dX0_homeOf_60 rfl (by decide) rfl ?_
            refine tx_iinc (pc := 61) (lv' := [(4, _), (3, _), (2, _), (0, _), (1, _)]) 1 O dX0_homeOf_61 rfl (by decide) rfl ?_
            refine tx_goto (pc := 64) 31 O dX0_homeOf_64 rfl ?_
            first
              | exact G 1 (by rw [hs2]; exact (if_pos ⟨by omega, by omega⟩).symm) (by omega)
              | exact G 0 (by rw [hs2]; exact (if_neg (by omega)).symm) (by omega)
          · refine tx_iconst (pc := 55) O dX0_homeOf_55 ?_
            refine tx_goto (pc := 56) 60 O dX0_homeOf_56 rfl ?_
            refine tx_istore_n (pc := 60) (lv' := [(3, _), (4, _), (2, _), (0, _), (1, _)]) O dX0_homeOf_60 rfl (by decide) rfl ?_
            refine tx_iinc (pc := 61) (lv' := [(4, _), (3, _), (2, _), (0, _), (1, _)]) 1 O dX0_homeOf_61 rfl (by decide) rfl ?_
            refine tx_goto (pc := 64) 31 O dX0_homeOf_64 rfl ?_
            first
              | exact G 1 (by rw [hs2]; exact (if_pos ⟨by omega, by omega⟩).symm) (by omega)
              | exact G 0 (by rw [hs2]; exact (if_neg (by omega)).symm) (by omega)
    refine tx_iload_n (pc := 6) 0 O dX0_homeOf_6 rfl rfl ?_
    refine tx_bipush (pc := 7) O dX0_homeOf_7 (by decide) ?_
    refine tx_icmp_ge (pc := 9) 79 O dX0_homeOf_9 rfl (by omega) (fun c9 => ?_) (fun c9 => ?_)
    · refine tx_iconst (pc := 79) O dX0_homeOf_79 ?_
      exact tx_iret O F dX0_homeOf_80 (tx_QC.mk ⟨by rw [show (40 : Int) = y by omega, h5], h3⟩)
    · refine tx_aload_n (pc := 12) 1 O dX0_homeOf_12 rfl rfl ?_
      refine tx_iload_n (pc := 13) 0 O dX0_homeOf_13 rfl rfl ?_
      refine tx_cV1 (pc := 14) O dX0_homeOf_14 q252 vX0_goesBy (sh_1 w) rfl (by decide) (Nat.zero_le _) (sX0_goesBy w _ _ _ u _ hR h3.1 h4 (okR_run hok _ h1) (okG_run hok _ h1) (by omega)) (k_V (fun M14 h14 => ?_))
      rw [← hst] at h14
      refine tx_iload_n (pc := 17) 0 O dX0_homeOf_17 rfl rfl ?_
      refine tx_iload_n (pc := 18) 2 O dX0_homeOf_18 rfl rfl ?_
      refine tx_icmp_lt (pc := 19) 26 O dX0_homeOf_19 rfl (by omega) (fun c19 => ?_) (fun c19 => ?_)
      · refine tx_iconst (pc := 26) O dX0_homeOf_26 ?_
        refine tx_istore_n (pc := 27) (lv' := [(3, _), (2, _), (0, _), (1, _)]) O dX0_homeOf_27 rfl (by decide) rfl ?_
        refine tx_iconst (pc := 28) O dX0_homeOf_28 ?_
        refine tx_istore (pc := 29) (lv' := [(4, _), (3, _), (2, _), (0, _), (1, _)]) O dX0_homeOf_29 (by decide) rfl ?_
        have := K2 (by omega) _ (h3.u h14.2) h14.1 0 _ ⟨by omega, by omega, rfl⟩
        first
          | (rw [if_pos (by omega)] at this; exact this)
          | (rw [if_neg (by omega)] at this; exact this)
      · refine tx_iconst (pc := 22) O dX0_homeOf_22 ?_
        refine tx_goto (pc := 23) 27 O dX0_homeOf_23 rfl ?_
        refine tx_istore_n (pc := 27) (lv' := [(3, _), (2, _), (0, _), (1, _)]) O dX0_homeOf_27 rfl (by decide) rfl ?_
        refine tx_iconst (pc := 28) O dX0_homeOf_28 ?_
        refine tx_istore (pc := 29) (lv' := [(4, _), (3, _), (2, _), (0, _), (1, _)]) O dX0_homeOf_29 (by decide) rfl ?_
        have := K2 (by omega) _ (h3.u h14.2) h14.1 0 _ ⟨by omega, by omega, rfl⟩
        first
          | (rw [if_pos (by omega)] at this; exact this)
          | (rw [if_neg (by omega)] at this; exact this)
  refine tx_aload_n (pc := 0) 0 O dX0_homeOf_0 rfl rfl ?_
  refine tx_cV0 (pc := 1) O dX0_homeOf_1 q241 vX0_begins (sh_1 w) rfl (by decide) (Nat.zero_le _) (sX0_begins w _ _ u hR hu) (k_CV (fun R1 M1 h1 => ?_))
  refine tx_iconst (pc := 4) O dX0_homeOf_4 ?_
  refine tx_istore_n (pc := 5) (lv' := [(2, _), (0, _), (1, _)]) O dX0_homeOf_5 rfl (by decide) rfl ?_
  exact K _ 0 _ ⟨by omega, by omega, hR.kp h1.1.2.2, h1.1, h1.2, rfl⟩
theorem sX0_home (w : WT) (y : Int) (R M : TM) (u : PU) (hR : RL R) (hu : cT R M u) (hy : rng y) : tx_S w yX0_home cX0_home 2 (some .int) 7 [rV (wa w) 1, iV y] R M (QC (fun z R' M' => ((y < 0 ∨ 39 < y) ∧ z = -2 ∨ (0 ≤ y ∧ y ≤ 39) ∧ z = homeP u (uear u) y 40) ∧ cW u R M R' M')) := by
  refine tx_S.ofk (lv := [(0, _), (1, _)]) [1, 1] (by decide) (by simp only [List.map_cons, List.map_nil, cat_i, cat_l, cat_r]) (by decide) rfl (fun E O F => ?_)
  refine tx_iload_n (pc := 0) 1 O dX0_home_0 rfl rfl ?_
  refine tx_cS1 (pc := 1) O dX0_home_1 q186 vX0_isYear (by decide) (Nat.zero_le _) (sX0_isYear w _ _ _ (by omega)) (k_P (fun z1 h1 => ?_))
  refine tx_if_eq (pc := 4) 15 O dX0_home_4 rfl (by omega) (fun c4 => ?_) (fun c4 => ?_)
  · refine tx_bipush (pc := 15) O dX0_home_15 (by decide) ?_
    exact tx_iret O F dX0_home_17 (tx_QC.mk (by first | exact ⟨Or.inl ⟨by omega, rfl⟩, hu.s⟩ | exact ⟨Or.inr ⟨by omega, h9.1⟩, h9.2.w⟩))
  · refine tx_aload_n (pc := 7) 0 O dX0_home_7 rfl rfl ?_
    refine tx_iload_n (pc := 8) 1 O dX0_home_8 rfl rfl ?_
    refine tx_cV1 (pc := 9) O dX0_home_9 q328 vX0_homeOf (sh_1 w) rfl (by decide) (Nat.zero_le _) (sX0_homeOf w _ _ _ u hR hu (by omega)) (k_C (fun z9 R9 M9 h9 => ?_))
    refine tx_goto (pc := 12) 17 O dX0_home_12 rfl ?_
    exact tx_iret O F dX0_home_17 (tx_QC.mk (by first | exact ⟨Or.inl ⟨by omega, rfl⟩, hu.s⟩ | exact ⟨Or.inr ⟨by omega, h9.1⟩, h9.2.w⟩))

