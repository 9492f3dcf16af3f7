/-! COMPONENT, state: reads, fault, isTune, isBorrower, tune, borrower, loan, back, ear -/
set_option maxRecDepth 100000
/-- the component holds the pure state; it has read its texts -/
def cD (M : TM) (u : PU) : Prop := uOk u ∧ M 201 0 = un0 u ∧ M 201 1 = un1 u ∧ (∀ k, 0 ≤ k → k < un0 u → M 300 k = uf0 u k) ∧ (∀ k, 0 ≤ k → k < un1 u → M 301 k = uf1 u k) ∧ M 1 9 = unl u ∧ (∀ k j, 0 ≤ k → k < unl u → 0 ≤ j → j ≤ 3 → M (310 + j) k = ulo u k j) ∧ M 1 11 = uear u
def cRd (R M : TM) (u : PU) : Prop := toldC M (uT u) ∧ humC R M (uf1 u) (un1 u) ∧ M 203 0 = (pT (uf0 u) (un0 u)).1 ∧ M 203 1 = fB (uf1 u) (un1 u)
def cT (R M : TM) (u : PU) : Prop := cD M u ∧ (M 1 2 = 0 ∨ (M 1 2 = 1 ∧ cRd R M u))
def cP (R M : TM) (u : PU) : Prop := cD M u ∧ M 1 2 = 1 ∧ cRd R M u
/-- what a question leaves alone; what a run leaves alone -/
def kcQ (M M' : TM) : Prop := ∀ a b : Int, ((a = 1 ∧ b ≠ 2 ∧ b ≠ 4 ∧ b ≠ 6) ∨ (2 ≤ a ∧ a ≤ 201) ∨ (300 ≤ a ∧ a ≤ 322) ∨ (600 ≤ a ∧ a ≤ 603) ∨ 2000 ≤ a) → M' a b = M a b
def kcU (M M' : TM) : Prop := ∀ a b : Int, ((a < 214 ∨ 220 < a) ∧ (a < 410 ∨ 425 < a) ∧ (a < 1410 ∨ 1425 < a) ∧ a ≠ 1218 ∧ a ≠ 1219) → M' a b = M a b
theorem kcQ.rf {M : TM} : kcQ M M := fun _ _ _ => rfl
theorem kcU.rf {M : TM} : kcU M M := fun _ _ _ => rfl
theorem kcQ.tr {M M' M'' : TM} (h : kcQ M M') (h' : kcQ M' M'') : kcQ M M'' := fun a b q => (h' a b q).trans (h a b q)
theorem kcU.tr {M M' M'' : TM} (h : kcU M M') (h' : kcU M' M'') : kcU M M'' := fun a b q => (h' a b q).trans (h a b q)
theorem kcU.q {M M' : TM} (h : kcU M M') : kcQ M M' := fun a b q => h a b (by omega)
theorem cD.keep {M M' : TM} {u : PU} (h : cD M u) (k : kcQ M M') : cD M' u := by
  obtain ⟨h0, h1, h2, h3, h4, h5, h6, h7⟩ := h
  exact ⟨h0, by rw [k _ _ (by omega)]; exact h1, by rw [k _ _ (by omega)]; exact h2, fun i q1 q2 => by rw [k _ _ (by omega)]; exact h3 i q1 q2, fun i q1 q2 => by rw [k _ _ (by omega)]; exact h4 i q1 q2, by rw [k _ _ (by omega)]; exact h5, fun i j q1 q2 q3 q4 => by rw [k _ _ (by omega)]; exact h6 i j q1 q2 q3 q4, by rw [k _ _ (by omega)]; exact h7⟩
theorem tuIs.keep {M M' : TM} {i : Int} {l : List Int} (h : tuIs M i l) (k : ∀ b, M' i b = M i b) (k' : ∀ b, M' (i + 1000) b = M (i + 1000) b) : tuIs M' i l := ⟨by rw [k]; exact h.1, fun j q1 q2 => by rw [k']; exact h.2 j q1 q2⟩
theorem toldC.keep {M M' : TM} {D : List (List Int)} (h : toldC M D) (hD : D.length ≤ 6) (k : ∀ a b : Int, ((a = 1 ∧ b = 4) ∨ (400 ≤ a ∧ a ≤ 405) ∨ (1400 ≤ a ∧ a ≤ 1405)) → M' a b = M a b) : toldC M' D := ⟨by rw [k _ _ (by omega)]; exact h.1, fun t q1 q2 => (h.2 t q1 q2).keep (fun b => k _ _ (by omega)) (fun b => k _ _ (by omega))⟩
theorem humC.keep {R M M' : TM} {f : Int → Int} {n : Int} (h : humC R M f n) (hn : cB f n ≤ 6) (k : ∀ a b : Int, ((a = 1 ∧ b = 6) ∨ (500 ≤ a ∧ a ≤ 525)) → M' a b = M a b) : humC R M' f n := ⟨by rw [k _ _ (by omega)]; exact h.1, fun b q1 q2 => by
  obtain ⟨y1, y2, y3, y4, y5⟩ := h.2 b q1 q2
  exact ⟨y1, by rw [k _ _ (by omega)]; exact y2, by rw [k _ _ (by omega)]; exact y3, y4, y5⟩⟩
theorem cP.keep {R M M' : TM} {u : PU} (h : cP R M u) (k : kcU M M') : cP R M' u := by
  obtain ⟨h1, h2, h3, h4, h5, h6⟩ := h
  exact ⟨h1.keep k.q, by rw [k _ _ (by omega)]; exact h2, h3.keep (uT_ok h1.1).1 (fun a b q => k a b (by omega)), h4.keep (uB_ok h1.1).2 (fun a b q => k a b (by omega)), by rw [k _ _ (by omega)]; exact h5, by rw [k _ _ (by omega)]; exact h6⟩
theorem cP.t {R M : TM} {u : PU} (h : cP R M u) : cT R M u := ⟨h.1, Or.inr h.2⟩
/-- a question's end: the texts are read, the rest is as it was -/
def cS (u : PU) (R M R' M' : TM) : Prop := cP R' M' u ∧ kcQ M M' ∧ kR R R'
theorem cS.tr {u : PU} {R M R' M' R'' M'' : TM} (h : cS u R M R' M') (h' : cS u R' M' R'' M'') : cS u R M R'' M'' := ⟨h'.1, h.2.1.tr h'.2.1, h.2.2.tr h'.2.2⟩
theorem cS.u {u : PU} {R M R' M' M'' : TM} (h : cS u R M R' M') (k : kcU M' M'') : cS u R M R' M'' := ⟨h.1.keep k, h.2.1.tr k.q, h.2.2⟩
theorem cP.s {R M : TM} {u : PU} (h : cP R M u) : cS u R M R M := ⟨h, kcQ.rf, kR.rf⟩
/-- a question that may have read nothing -/
def cW (u : PU) (R M R' M' : TM) : Prop := cT R' M' u ∧ kcQ M M' ∧ kR R R' ∧ (cP R M u → cP R' M' u)
theorem cS.w {u : PU} {R M R' M' : TM} (h : cS u R M R' M') : cW u R M R' M' := ⟨h.1.t, h.2.1, h.2.2, fun _ => h.1⟩
theorem cT.s {R M : TM} {u : PU} (h : cT R M u) : cW u R M R M := ⟨h, kcQ.rf, kR.rf, fun q => q⟩
theorem cW.tr {u : PU} {R M R' M' R'' M'' : TM} (h : cW u R M R' M') (h' : cW u R' M' R'' M'') : cW u R M R'' M'' := ⟨h'.1, h.2.1.tr h'.2.1, h.2.2.1.tr h'.2.2.1, fun q => h'.2.2.2 (h.2.2.2 q)⟩
theorem cW.trs {u : PU} {R M R' M' R'' M'' : TM} (h : cW u R M R' M') (h' : cS u R' M' R'' M'') : cS u R M R'' M'' := ⟨h'.1, h.2.1.tr h'.2.1, h.2.2.1.tr h'.2.2⟩
theorem cS.trw {u : PU} {R M R' M' R'' M'' : TM} (h : cS u R M R' M') (h' : cW u R' M' R'' M'') : cS u R M R'' M'' := ⟨h'.2.2.2 h.1, h.2.1.tr h'.2.1, h.2.2.tr h'.2.2.1⟩
theorem cD.rT {M M' : TM} {u : PU} (h : cD M u) (k : kcQ M M') : ∀ i, 0 ≤ i → i < un0 u → M' 300 i = uf0 u i ∧ 0 ≤ uf0 u i ∧ uf0 u i ≤ 255 := fun i h1 h2 => ⟨(h.keep k).2.2.2.1 i h1 h2, h.1.2.2.1 i h1 h2⟩
theorem cD.rB {M M' : TM} {u : PU} (h : cD M u) (k : kcQ M M') : ∀ i, 0 ≤ i → i < un1 u → M' 301 i = uf1 u i ∧ 0 ≤ uf1 u i ∧ uf1 u i ≤ 255 := fun i h1 h2 => ⟨(h.keep k).2.2.2.2.1 i h1 h2, h.1.2.2.2.1 i h1 h2⟩
theorem sX0_reads (w : WT) (R M : TM) (u : PU) (hR : RL R) (hu0 : cT R M u) : tx_S w yX0_reads cX0_reads 1 none 4 [rV (wa w) 1] R M (QCV (fun R' M' => cS u R M R' M')) := by
  obtain ⟨hu, hr⟩ := hu0
  have k1 : kcQ M (up M 1 2 1) := fun a b q => by rw [up_n (by omega)]
  refine tx_S.ofk (lv := [(0, _)]) [1] (by decide) (by simp only [List.map_cons, List.map_nil, cat_i, cat_l, cat_r]) (by decide) rfl (fun E O F => ?_)
  refine tx_aload_n (pc := 0) 0 O dX0_reads_0 rfl rfl ?_
  refine fX0_21 (pc := 1) O dX0_reads_1 ?_
  refine tx_if_ne (pc := 4) 32 O dX0_reads_4 rfl (by omega) (fun c4 => ?_) (fun c4 => ?_)
  · exact tx_vret O F dX0_reads_32 (tx_QCV.mk (by
      first
        | (rcases hr with q | q
           · exact absurd q c4
           · exact (show cP R M u from ⟨hu, q⟩).s)
        | (have k3 : kcQ M (up M28 203 1 z28) := fun a b q => by rw [up_n (by omega), e6 _ _ (by omega)]; exact k2 a b q
           refine ⟨⟨hu.keep k3, by rw [up_n (by omega), e6 _ _ (by omega), up_n (by omega), e3 _ _ (by omega), up_s], ?_, ?_, ?_, ?_⟩, k3, e7⟩
           · exact e2.keep (uT_ok hu.1).1 (fun a b q => by rw [up_n (by omega), e6 _ _ (by omega), up_n (by omega)])
           · exact e5.keep (uB_ok hu.1).2 (fun a b q => by rw [up_n (by omega)])
           · rw [up_n (by omega), e6 _ _ (by omega), up_s]; exact e1
           · rw [up_s]; exact e4)))
  · refine tx_aload_n (pc := 7) 0 O dX0_reads_7 rfl rfl ?_
    refine tx_iconst (pc := 8) O dX0_reads_8 ?_
    refine fX0_21p (pc := 9) O dX0_reads_9 (by omega) ?_
    refine tx_aload_n (pc := 12) 0 O dX0_reads_12 rfl rfl ?_
    refine fX0_65 (pc := 13) O hR dX0_reads_13 ?_
    refine tx_iconst (pc := 16) O dX0_reads_16 ?_
    refine tx_aload_n (pc := 17) 0 O dX0_reads_17 rfl rfl ?_
    refine tx_cV0 (pc := 18) O dX0_reads_18 q132 vX0_readsTunes (sh_1 w) rfl (by decide) (by simp only [List.map_cons, List.map_nil, cat_i, cat_l, cat_r, List.sum_cons, List.sum_nil]; decide) (sX0_readsTunes w _ _ (uf0 u) (un0 u) hR (hu.keep k1).2.1 hu.1.1 (hu.rT k1)) (k_I (fun z18 M18 h18 => ?_))
    obtain ⟨e1, e2, e3⟩ := h18
    have k2 : kcQ M (up M18 203 0 z18) := fun a b q => by rw [up_n (by omega), e3 _ _ (by omega)]; exact k1 a b q
    refine tx_iast (pc := 21) _ O dX0_reads_21 (sh_203 w) (by omega) ?_
    refine tx_aload_n (pc := 22) 0 O dX0_reads_22 rfl rfl ?_
    refine fX0_65 (pc := 23) O hR dX0_reads_23 ?_
    refine tx_iconst (pc := 26) O dX0_reads_26 ?_
    refine tx_aload_n (pc := 27) 0 O dX0_reads_27 rfl rfl ?_
    refine tx_cV0 (pc := 28) O dX0_reads_28 q144 vX0_readsBorrowers (sh_1 w) rfl (by decide) (by simp only [List.map_cons, List.map_nil, cat_i, cat_l, cat_r, List.sum_cons, List.sum_nil]; decide) (sX0_readsBorrowers w _ _ (uf1 u) (un1 u) hR (hu.keep k2).2.2.1 hu.1.2.1 (hu.rB k2)) (k_C (fun z28 R28 M28 h28 => ?_))
    obtain ⟨e4, e5, e6, e7⟩ := h28
    refine tx_iast (pc := 31) _ O dX0_reads_31 (sh_203 w) (by omega) ?_
    exact tx_vret O F dX0_reads_32 (tx_QCV.mk (by
      first
        | (rcases hr with q | q
           · exact absurd q c4
           · exact (show cP R M u from ⟨hu, q⟩).s)
        | (have k3 : kcQ M (up M28 203 1 z28) := fun a b q => by rw [up_n (by omega), e6 _ _ (by omega)]; exact k2 a b q
           refine ⟨⟨hu.keep k3, by rw [up_n (by omega), e6 _ _ (by omega), up_n (by omega), e3 _ _ (by omega), up_s], ?_, ?_, ?_, ?_⟩, k3, e7⟩
           · exact e2.keep (uT_ok hu.1).1 (fun a b q => by rw [up_n (by omega), e6 _ _ (by omega), up_n (by omega)])
           · exact e5.keep (uB_ok hu.1).2 (fun a b q => by rw [up_n (by omega)])
           · rw [up_n (by omega), e6 _ _ (by omega), up_s]; exact e1
           · rw [up_s]; exact e4)))
theorem sX0_faultOf (w : WT) (t : Int) (R M : TM) (u : PU) (hR : RL R) (hu : cT R M u) (ht : 0 ≤ t ∧ t ≤ 1) : tx_S w yX0_faultOf cX0_faultOf 2 (some .int) 5 [rV (wa w) 1, iV t] R M (QC (fun z R' M' => (t = 0 ∧ z = (pT (uf0 u) (un0 u)).1 ∨ t = 1 ∧ z = fB (uf1 u) (un1 u)) ∧ cS u R M R' M')) := by
  refine tx_S.ofk (lv := [(0, _), (1, _)]) [1, 1] (by decide) (by simp only [List.map_cons, List.map_nil, cat_i, cat_l, cat_r]) (by decide) rfl (fun E O F => ?_)
  refine tx_aload_n (pc := 0) 0 O dX0_faultOf_0 rfl rfl ?_
  refine tx_cV0 (pc := 1) O dX0_faultOf_1 q128 vX0_reads (sh_1 w) rfl (by decide) (Nat.zero_le _) (sX0_reads w _ _ u hR hu) (k_CV (fun R1 M1 h1 => ?_))
  have hR := hR.kp h1.2.2
  refine tx_aload_n (pc := 4) 0 O dX0_faultOf_4 rfl rfl ?_
  refine fX0_65 (pc := 5) O hR dX0_faultOf_5 ?_
  refine tx_iload_n (pc := 8) 1 O dX0_faultOf_8 rfl rfl ?_
  refine tx_iald (pc := 9) _ O dX0_faultOf_9 (sh_203 w) (by omega) ?_
  exact tx_iret O F dX0_faultOf_10 (tx_QC.mk ⟨by
    rcases (show t = 0 ∨ t = 1 by omega) with e | e <;> subst e
    · exact Or.inl ⟨rfl, h1.1.2.2.2.2.1⟩
    · exact Or.inr ⟨rfl, h1.1.2.2.2.2.2⟩, h1⟩)
theorem sX0_fault (w : WT) (t : Int) (R M : TM) (u : PU) (hR : RL R) (hu : cT R M u) (ht : rng t) : tx_S w yX0_fault cX0_fault 2 (some .int) 6 [rV (wa w) 1, iV t] R M (QC (fun z R' M' => ((t < 0 ∨ 1 < t) ∧ z = -2 ∨ t = 0 ∧ z = (pT (uf0 u) (un0 u)).1 ∨ t = 1 ∧ z = fB (uf1 u) (un1 u)) ∧ cW u R M R' M')) := by
  refine tx_S.ofk (lv := [(0, _), (1, _)]) [1, 1] (by decide) (by simp only [List.map_cons, List.map_nil, cat_i, cat_l, cat_r]) (by decide) rfl (fun E O F => ?_)
  refine tx_iload_n (pc := 0) 1 O dX0_fault_0 rfl rfl ?_
  refine tx_cS1 (pc := 1) O dX0_fault_1 q105 vX0_isTwo (by decide) (Nat.zero_le _) (sX0_isTwo w _ _ _ (by omega)) (k_P (fun z1 h1 => ?_))
  refine tx_if_eq (pc := 4) 15 O dX0_fault_4 rfl (by omega) (fun c4 => ?_) (fun c4 => ?_)
  · refine tx_bipush (pc := 15) O dX0_fault_15 (by decide) ?_
    exact tx_iret O F dX0_fault_17 (tx_QC.mk (by first | exact ⟨Or.inl ⟨by omega, rfl⟩, hu.s⟩ | exact ⟨Or.inr h9.1, h9.2.w⟩))
  · refine tx_aload_n (pc := 7) 0 O dX0_fault_7 rfl rfl ?_
    refine tx_iload_n (pc := 8) 1 O dX0_fault_8 rfl rfl ?_
    refine tx_cV1 (pc := 9) O dX0_fault_9 q123 vX0_faultOf (sh_1 w) rfl (by decide) (Nat.zero_le _) (sX0_faultOf w _ _ _ u hR hu (by omega)) (k_C (fun z9 R9 M9 h9 => ?_))
    refine tx_goto (pc := 12) 17 O dX0_fault_12 rfl ?_
    exact tx_iret O F dX0_fault_17 (tx_QC.mk (by first | exact ⟨Or.inl ⟨by omega, rfl⟩, hu.s⟩ | exact ⟨Or.inr h9.1, h9.2.w⟩))
theorem sX0_isTune (w : WT) (t : Int) (R M : TM) (u : PU) (hR : RL R) (hu : cT R M u) (ht : rng t) : tx_S w yX0_isTune cX0_isTune 2 (some .boolean) 5 [rV (wa w) 1, iV t] R M (QC (fun z R' M' => btw z t 0 ((uT u).length - 1) ∧ cS u R M R' M')) := by
  have h6 := (uT_ok hu.1.1).1
  refine tx_S.ofk (lv := [(0, _), (1, _)]) [1, 1] (by decide) (by simp only [List.map_cons, List.map_nil, cat_i, cat_l, cat_r]) (by decide) rfl (fun E O F => ?_)
  refine tx_aload_n (pc := 0) 0 O dX0_isTune_0 rfl rfl ?_
  refine tx_cV0 (pc := 1) O dX0_isTune_1 q128 vX0_reads (sh_1 w) rfl (by decide) (Nat.zero_le _) (sX0_reads w _ _ u hR hu) (k_CV (fun R1 M1 h1 => ?_))
  refine tx_iload_n (pc := 4) 1 O dX0_isTune_4 rfl rfl ?_
  refine tx_iconst (pc := 5) O dX0_isTune_5 ?_
  refine tx_aload_n (pc := 6) 0 O dX0_isTune_6 rfl rfl ?_
  refine fX0_25 (pc := 7) O dX0_isTune_7 ?_
  rw [h1.1.2.2.1.1]
  refine tx_iconst (pc := 10) O dX0_isTune_10 ?_
  refine tx_isub (pc := 11) O dX0_isTune_11 ?_
  refine tx_cS3 (pc := 12) O dX0_isTune_12 q108 vX0_in (by decide) (Nat.zero_le _) (sX0_in w _ _ _ _ _ (by omega) (by omega) (by omega)) (k_P (fun z12 h12 => ?_))
  exact tx_zret O F dX0_isTune_15 (by omega) (tx_QC.mk ⟨h12, h1⟩)
theorem sX0_isBorrower (w : WT) (t : Int) (R M : TM) (u : PU) (hR : RL R) (hu : cT R M u) (ht : rng t) : tx_S w yX0_isBorrower cX0_isBorrower 2 (some .boolean) 5 [rV (wa w) 1, iV t] R M (QC (fun z R' M' => btw z t 0 (uB u - 1) ∧ cS u R M R' M')) := by
  have h6 := uB_ok hu.1.1
  refine tx_S.ofk (lv := [(0, _), (1, _)]) [1, 1] (by decide) (by simp only [List.map_cons, List.map_nil, cat_i, cat_l, cat_r]) (by decide) rfl (fun E O F => ?_)
  refine tx_aload_n (pc := 0) 0 O dX0_isBorrower_0 rfl rfl ?_
  refine tx_cV0 (pc := 1) O dX0_isBorrower_1 q128 vX0_reads (sh_1 w) rfl (by decide) (Nat.zero_le _) (sX0_reads w _ _ u hR hu) (k_CV (fun R1 M1 h1 => ?_))
  refine tx_iload_n (pc := 4) 1 O dX0_isBorrower_4 rfl rfl ?_
  refine tx_iconst (pc := 5) O dX0_isBorrower_5 ?_
  refine tx_aload_n (pc := 6) 0 O dX0_isBorrower_6 rfl rfl ?_
  refine fX0_46 (pc := 7) O dX0_isBorrower_7 ?_
  rw [show M1 1 6 = uB u from h1.1.2.2.2.1.1]
  refine tx_iconst (pc := 10) O dX0_isBorrower_10 ?_
  refine tx_isub (pc := 11) O dX0_isBorrower_11 ?_
  refine tx_cS3 (pc := 12) O dX0_isBorrower_12 q108 vX0_in (by decide) (Nat.zero_le _) (sX0_in w _ _ _ _ _ (by omega) (by omega) (by omega)) (k_P (fun z12 h12 => ?_))
  exact tx_zret O F dX0_isBorrower_15 (by omega) (tx_QC.mk ⟨h12, h1⟩)
theorem sX0_noteOf (w : WT) (i j : Int) (R M : TM) (l : List Int) (hR : RL R) (hi : isTn i) (hl : tuIs M i l) (h40 : l.length ≤ 40) (hj : -1 ≤ j ∧ j ≤ 1000) : tx_S w yX0_noteOf cX0_noteOf 2 (some .int) 1 [rV (wa w) i, iV j] R M (QP R M (fun z => z = noteP l j)) := by
  refine tx_S.ofk (lv := [(0, _), (1, _)]) [1, 1] (by decide) (by simp only [List.map_cons, List.map_nil, cat_i, cat_l, cat_r]) (by decide) rfl (fun E O F => ?_)
  refine tx_iload_n (pc := 0) 1 O dX0_noteOf_0 rfl rfl ?_
  refine tx_iconst (pc := 1) O dX0_noteOf_1 ?_
  refine tx_icmp_ne (pc := 2) 12 O dX0_noteOf_2 rfl (by omega) (fun c2 => ?_) (fun c2 => ?_)
  · refine tx_iload_n (pc := 12) 1 O dX0_noteOf_12 rfl rfl ?_
    refine tx_aload_n (pc := 13) 0 O dX0_noteOf_13 rfl rfl ?_
    refine fX0_37 (pc := 14) O (hi) dX0_noteOf_14 ?_
    rw [hl.1]
    refine tx_icmp_ge (pc := 17) 29 O dX0_noteOf_17 rfl (by omega) (fun c17 => ?_) (fun c17 => ?_)
    · refine tx_iconst (pc := 29) O dX0_noteOf_29 ?_
      exact tx_iret O F dX0_noteOf_30 (tx_QP.mk (by unfold noteP; first | (rw [if_pos c2]; done) | (rw [if_neg c2, if_pos (by omega)]; done) | (rw [if_neg c2, if_neg (by omega)]; done)))
    · refine tx_aload_n (pc := 20) 0 O dX0_noteOf_20 rfl rfl ?_
      refine fX0_83 (pc := 21) O (hi) hR dX0_noteOf_21 ?_
      refine tx_iload_n (pc := 24) 1 O dX0_noteOf_24 rfl rfl ?_
      refine tx_iald (pc := 25) _ O dX0_noteOf_25 (sh_tr w (hi)) (by omega) ?_
      rw [hl.2 j (by omega) (by omega)]
      refine tx_goto (pc := 26) 30 O dX0_noteOf_26 rfl ?_
      exact tx_iret O F dX0_noteOf_30 (tx_QP.mk (by unfold noteP; first | (rw [if_pos c2]; done) | (rw [if_neg c2, if_pos (by omega)]; done) | (rw [if_neg c2, if_neg (by omega)]; done)))
  · refine tx_aload_n (pc := 5) 0 O dX0_noteOf_5 rfl rfl ?_
    refine fX0_37 (pc := 6) O (hi) dX0_noteOf_6 ?_
    rw [hl.1]
    refine tx_goto (pc := 9) 30 O dX0_noteOf_9 rfl ?_
    exact tx_iret O F dX0_noteOf_30 (tx_QP.mk (by unfold noteP; first | (rw [if_pos c2]; done) | (rw [if_neg c2, if_pos (by omega)]; done) | (rw [if_neg c2, if_neg (by omega)]; done)))
theorem sX0_tune (w : WT) (t i : Int) (R M : TM) (u : PU) (hR : RL R) (hu : cT R M u) (ht : rng t) (hi : rng i) : tx_S w yX0_tune cX0_tune 3 (some .int) 6 [rV (wa w) 1, iV t, iV i] R M (QC (fun z R' M' => ((t < 0 ∨ (uT u).length ≤ t ∨ i < -1 ∨ 11 < i) ∧ z = -2 ∨ (0 ≤ t ∧ t < (uT u).length ∧ -1 ≤ i ∧ i ≤ 11) ∧ z = noteP (gl (uT u) t) i) ∧ cW u R M R' M')) := by
  have h6 := (uT_ok hu.1.1).1
  refine tx_S.ofk (lv := [(0, _), (1, _), (2, _)]) [1, 1, 1] (by decide) (by simp only [List.map_cons, List.map_nil, cat_i, cat_l, cat_r]) (by decide) rfl (fun E O F => ?_)
  refine tx_aload_n (pc := 0) 0 O dX0_tune_0 rfl rfl ?_
  refine tx_iload_n (pc := 1) 1 O dX0_tune_1 rfl rfl ?_
  refine tx_cV1 (pc := 2) O dX0_tune_2 q152 vX0_isTune (sh_1 w) rfl (by decide) (Nat.zero_le _) (sX0_isTune w _ _ _ u hR hu (by omega)) (k_C (fun z2 R2 M2 h2 => ?_))
  obtain ⟨g1, g2⟩ := h2
  have hR := hR.kp g2.2.2
  refine tx_if_eq (pc := 5) 31 O dX0_tune_5 rfl (by omega) (fun c5 => ?_) (fun c5 => ?_)
  · refine tx_bipush (pc := 31) O dX0_tune_31 (by decide) ?_
    exact tx_iret O F dX0_tune_33 (tx_QC.mk (by first | exact ⟨Or.inl ⟨by omega, rfl⟩, g2.w⟩ | exact ⟨Or.inr ⟨by omega, h25⟩, g2.w⟩))
  · have hl := ((uT_ok hu.1.1).2 _ (gl_mem (t := t) (by omega) (by omega))).1.1
    have htu := g2.1.2.2.1.2 t (by omega) (by omega)
    refine tx_iload_n (pc := 8) 2 O dX0_tune_8 rfl rfl ?_
    refine tx_iconst (pc := 9) O dX0_tune_9 ?_
    refine tx_bipush (pc := 10) O dX0_tune_10 (by decide) ?_
    refine tx_cS3 (pc := 12) O dX0_tune_12 q108 vX0_in (by decide) (Nat.zero_le _) (sX0_in w _ _ _ _ _ (by omega) (by omega) (by omega)) (k_P (fun z12 h12 => ?_))
    refine tx_if_eq (pc := 15) 31 O dX0_tune_15 rfl (by omega) (fun c15 => ?_) (fun c15 => ?_)
    · refine tx_bipush (pc := 31) O dX0_tune_31 (by decide) ?_
      exact tx_iret O F dX0_tune_33 (tx_QC.mk (by first | exact ⟨Or.inl ⟨by omega, rfl⟩, g2.w⟩ | exact ⟨Or.inr ⟨by omega, h25⟩, g2.w⟩))
    · refine tx_aload_n (pc := 18) 0 O dX0_tune_18 rfl rfl ?_
      refine fX0_33 (pc := 19) O hR dX0_tune_19 ?_
      refine tx_iload_n (pc := 22) 1 O dX0_tune_22 rfl rfl ?_
      refine tx_aald (pc := 23) _ _ O dX0_tune_23 (sh_205 w) (by decide) (by omega) ?_
      rw [hR.2.2.2.2.1]
      refine tx_iload_n (pc := 24) 2 O dX0_tune_24 rfl rfl ?_
      refine tx_cS2 (pc := 25) O dX0_tune_25 q156 vX0_noteOf (by decide) (Nat.zero_le _) (sX0_noteOf w _ _ _ _ _ hR (by omega) htu (by omega) (by omega)) (k_P (fun z25 h25 => ?_))
      refine tx_goto (pc := 28) 33 O dX0_tune_28 rfl ?_
      exact tx_iret O F dX0_tune_33 (tx_QC.mk (by first | exact ⟨Or.inl ⟨by omega, rfl⟩, g2.w⟩ | exact ⟨Or.inr ⟨by omega, h25⟩, g2.w⟩))
theorem cP.br {R M : TM} {u : PU} (h : cP R M u) {b : Int} (h0 : 0 ≤ b) (h1 : b < uB u) : isBr (R 208 b) ∧ brq M (R 208 b) = uq u b := by
  obtain ⟨y1, y2, y3, y4, y5⟩ := h.2.2.2.1.2 b h0 h1
  have h6 := uB_ok h.1.1
  rw [y1]
  refine ⟨by omega, ?_⟩
  unfold brq uq
  rw [y2, y3, show (500 + 10 * (bq (uf1 u) b).2.1 + b - 500) / 10 = (bq (uf1 u) b).2.1 by omega]
theorem sX0_borrowerOf (w : WT) (t i : Int) (R M : TM) (u : PU) (hR : RL R) (hu : cP R M u) (ht : 0 ≤ t ∧ t < uB u) (hi : rng i) : tx_S w yX0_borrowerOf cX0_borrowerOf 3 (some .int) 2 [rV (wa w) 1, iV t, iV i] R M (QP R M (fun z => z = (if i = 0 then (uq u t).1 else if i = 1 then (uq u t).2.1 else (uq u t).2.2))) := by
  have h6 := uB_ok hu.1.1
  obtain ⟨hb, hq⟩ := hu.br ht.1 ht.2
  have q1 : M (R 208 t) 0 = (uq u t).1 := by rw [← hq]; rfl
  have q2 : (R 208 t - 500) / 10 = (uq u t).2.1 := by rw [← hq]; rfl
  have q3 : M (R 208 t) 1 = (uq u t).2.2 := by rw [← hq]; rfl
  refine tx_S.ofk (lv := [(0, _), (1, _), (2, _)]) [1, 1, 1] (by decide) (by simp only [List.map_cons, List.map_nil, cat_i, cat_l, cat_r]) (by decide) rfl (fun E O F => ?_)
  refine tx_iload_n (pc := 0) 2 O dX0_borrowerOf_0 rfl rfl ?_
  refine tx_if_ne (pc := 1) 16 O dX0_borrowerOf_1 rfl (by omega) (fun c1 => ?_) (fun c1 => ?_)
  · refine tx_iload_n (pc := 16) 2 O dX0_borrowerOf_16 rfl rfl ?_
    refine tx_iconst (pc := 17) O dX0_borrowerOf_17 ?_
    refine tx_icmp_ne (pc := 18) 33 O dX0_borrowerOf_18 rfl (by omega) (fun c18 => ?_) (fun c18 => ?_)
    · refine tx_aload_n (pc := 33) 0 O dX0_borrowerOf_33 rfl rfl ?_
      refine fX0_49 (pc := 34) O hR dX0_borrowerOf_34 ?_
      refine tx_iload_n (pc := 37) 1 O dX0_borrowerOf_37 rfl rfl ?_
      refine tx_aald (pc := 38) _ _ O dX0_borrowerOf_38 (sh_208 w) (by decide) (by omega) ?_
      refine fX0_62 (pc := 39) O (hb) dX0_borrowerOf_39 ?_
      exact tx_iret O F dX0_borrowerOf_42 (tx_QP.mk (by first | (rw [if_pos c1]; exact q1) | (rw [if_neg c1, if_pos c18]; exact q2) | (rw [if_neg c1, if_neg c18]; exact q3)))
    · refine tx_aload_n (pc := 21) 0 O dX0_borrowerOf_21 rfl rfl ?_
      refine fX0_49 (pc := 22) O hR dX0_borrowerOf_22 ?_
      refine tx_iload_n (pc := 25) 1 O dX0_borrowerOf_25 rfl rfl ?_
      refine tx_aald (pc := 26) _ _ O dX0_borrowerOf_26 (sh_208 w) (by decide) (by omega) ?_
      refine tx_kind (pc := 27) O dX0_borrowerOf_27 (by decide) (Nat.zero_le _) hb ?_
      refine tx_goto (pc := 30) 42 O dX0_borrowerOf_30 rfl ?_
      exact tx_iret O F dX0_borrowerOf_42 (tx_QP.mk (by first | (rw [if_pos c1]; exact q1) | (rw [if_neg c1, if_pos c18]; exact q2) | (rw [if_neg c1, if_neg c18]; exact q3)))
  · refine tx_aload_n (pc := 4) 0 O dX0_borrowerOf_4 rfl rfl ?_
    refine fX0_49 (pc := 5) O hR dX0_borrowerOf_5 ?_
    refine tx_iload_n (pc := 8) 1 O dX0_borrowerOf_8 rfl rfl ?_
    refine tx_aald (pc := 9) _ _ O dX0_borrowerOf_9 (sh_208 w) (by decide) (by omega) ?_
    refine fX0_57 (pc := 10) O (hb) dX0_borrowerOf_10 ?_
    refine tx_goto (pc := 13) 42 O dX0_borrowerOf_13 rfl ?_
    exact tx_iret O F dX0_borrowerOf_42 (tx_QP.mk (by first | (rw [if_pos c1]; exact q1) | (rw [if_neg c1, if_pos c18]; exact q2) | (rw [if_neg c1, if_neg c18]; exact q3)))
theorem sX0_borrower (w : WT) (t i : Int) (R M : TM) (u : PU) (hR : RL R) (hu : cT R M u) (ht : rng t) (hi : rng i) : tx_S w yX0_borrower cX0_borrower 3 (some .int) 6 [rV (wa w) 1, iV t, iV i] R M (QC (fun z R' M' => ((t < 0 ∨ uB u ≤ t ∨ i < 0 ∨ 2 < i) ∧ z = -2 ∨ (0 ≤ t ∧ t < uB u ∧ 0 ≤ i ∧ i ≤ 2) ∧ z = (if i = 0 then (uq u t).1 else if i = 1 then (uq u t).2.1 else (uq u t).2.2)) ∧ cW u R M R' M')) := by
  refine tx_S.ofk (lv := [(0, _), (1, _), (2, _)]) [1, 1, 1] (by decide) (by simp only [List.map_cons, List.map_nil, cat_i, cat_l, cat_r]) (by decide) rfl (fun E O F => ?_)
  refine tx_aload_n (pc := 0) 0 O dX0_borrower_0 rfl rfl ?_
  refine tx_iload_n (pc := 1) 1 O dX0_borrower_1 rfl rfl ?_
  refine tx_cV1 (pc := 2) O dX0_borrower_2 q163 vX0_isBorrower (sh_1 w) rfl (by decide) (Nat.zero_le _) (sX0_isBorrower w _ _ _ u hR hu (by omega)) (k_C (fun z2 R2 M2 h2 => ?_))
  obtain ⟨g1, g2⟩ := h2
  have hR := hR.kp g2.2.2
  refine tx_if_eq (pc := 5) 26 O dX0_borrower_5 rfl (by omega) (fun c5 => ?_) (fun c5 => ?_)
  · refine tx_bipush (pc := 26) O dX0_borrower_26 (by decide) ?_
    exact tx_iret O F dX0_borrower_28 (tx_QC.mk (by first | exact ⟨Or.inl ⟨by omega, rfl⟩, g2.w⟩ | exact ⟨Or.inr ⟨by omega, h20⟩, g2.w⟩))
  · refine tx_iload_n (pc := 8) 2 O dX0_borrower_8 rfl rfl ?_
    refine tx_iconst (pc := 9) O dX0_borrower_9 ?_
    refine tx_iconst (pc := 10) O dX0_borrower_10 ?_
    refine tx_cS3 (pc := 11) O dX0_borrower_11 q108 vX0_in (by decide) (Nat.zero_le _) (sX0_in w _ _ _ _ _ (by omega) (by omega) (by omega)) (k_P (fun z11 h11 => ?_))
    refine tx_if_eq (pc := 14) 26 O dX0_borrower_14 rfl (by omega) (fun c14 => ?_) (fun c14 => ?_)
    · refine tx_bipush (pc := 26) O dX0_borrower_26 (by decide) ?_
      exact tx_iret O F dX0_borrower_28 (tx_QC.mk (by first | exact ⟨Or.inl ⟨by omega, rfl⟩, g2.w⟩ | exact ⟨Or.inr ⟨by omega, h20⟩, g2.w⟩))
    · refine tx_aload_n (pc := 17) 0 O dX0_borrower_17 rfl rfl ?_
      refine tx_iload_n (pc := 18) 1 O dX0_borrower_18 rfl rfl ?_
      refine tx_iload_n (pc := 19) 2 O dX0_borrower_19 rfl rfl ?_
      refine tx_cV2 (pc := 20) O dX0_borrower_20 q167 vX0_borrowerOf (sh_1 w) rfl (by decide) (Nat.zero_le _) (sX0_borrowerOf w _ _ _ _ u hR g2.1 (by omega) (by omega)) (k_P (fun z20 h20 => ?_))
      refine tx_goto (pc := 23) 28 O dX0_borrower_23 rfl ?_
      exact tx_iret O F dX0_borrower_28 (tx_QC.mk (by first | exact ⟨Or.inl ⟨by omega, rfl⟩, g2.w⟩ | exact ⟨Or.inr ⟨by omega, h20⟩, g2.w⟩))
theorem sX0_loan (w : WT) (y t b n : Int) (R M : TM) (hR : RL R) (hl : 0 ≤ M 1 9 ∧ M 1 9 ≤ 12) (hy : rng y) (ht : rng t) (hb : rng b) (hn : rng n) : tx_S w yX0_loan cX0_loan 5 (some .int) 3 [rV (wa w) 1, iV y, iV t, iV b, iV n] R M (QI R (fun z M' => ((y < 0 ∨ 39 < y ∨ t < 0 ∨ 5 < t ∨ b < 0 ∨ 5 < b ∨ n < 1 ∨ 9 < n) ∧ z = -2 ∧ M' = M) ∨ ((0 ≤ y ∧ y ≤ 39 ∧ 0 ≤ t ∧ t ≤ 5 ∧ 0 ≤ b ∧ b ≤ 5 ∧ 1 ≤ n ∧ n ≤ 9) ∧ ((M 1 9 = 12 ∧ z = -4 ∧ M' = M) ∨ (M 1 9 < 12 ∧ z = M 1 9 + 1 ∧ M' = up (up (up (up (up M 310 (M 1 9) y) 311 (M 1 9) t) 312 (M 1 9) b) 313 (M 1 9) n) 1 9 (M 1 9 + 1)))))) := by
  refine tx_S.ofk (lv := [(0, _), (1, _), (2, _), (3, _), (4, _)]) [1, 1, 1, 1, 1] (by decide) (by simp only [List.map_cons, List.map_nil, cat_i, cat_l, cat_r]) (by decide) rfl (fun E O F => ?_)
  refine tx_iload_n (pc := 0) 1 O dX0_loan_0 rfl rfl ?_
  refine tx_cS1 (pc := 1) O dX0_loan_1 q186 vX0_isYear (by decide) (Nat.zero_le _) (sX0_isYear w _ _ _ (by omega)) (k_P (fun z1 h1 => ?_))
  refine tx_if_eq (pc := 4) 32 O dX0_loan_4 rfl (by omega) (fun c4 => ?_) (fun c4 => ?_)
  · refine tx_bipush (pc := 32) O dX0_loan_32 (by decide) ?_
    exact tx_iret O F dX0_loan_34 (tx_QI.mk (by first | exact Or.inl ⟨by omega, rfl, rfl⟩ | exact Or.inr ⟨by omega, Or.inl ⟨by omega, rfl, rfl⟩⟩ | exact Or.inr ⟨by omega, Or.inr ⟨by omega, rfl, rfl⟩⟩))
  · refine tx_iload_n (pc := 7) 2 O dX0_loan_7 rfl rfl ?_
    refine tx_cS1 (pc := 8) O dX0_loan_8 q189 vX0_isSix (by decide) (Nat.zero_le _) (sX0_isSix w _ _ _ (by omega)) (k_P (fun z8 h8 => ?_))
    refine tx_if_eq (pc := 11) 32 O dX0_loan_11 rfl (by omega) (fun c11 => ?_) (fun c11 => ?_)
    · refine tx_bipush (pc := 32) O dX0_loan_32 (by decide) ?_
      exact tx_iret O F dX0_loan_34 (tx_QI.mk (by first | exact Or.inl ⟨by omega, rfl, rfl⟩ | exact Or.inr ⟨by omega, Or.inl ⟨by omega, rfl, rfl⟩⟩ | exact Or.inr ⟨by omega, Or.inr ⟨by omega, rfl, rfl⟩⟩))
    · refine tx_iload_n (pc := 14) 3 O dX0_loan_14 rfl rfl ?_
      refine tx_cS1 (pc := 15) O dX0_loan_15 q189 vX0_isSix (by decide) (Nat.zero_le _) (sX0_isSix w _ _ _ (by omega)) (k_P (fun z15 h15 => ?_))
      refine tx_if_eq (pc := 18) 32 O dX0_loan_18 rfl (by omega) (fun c18 => ?_) (fun c18 => ?_)
      · refine tx_bipush (pc := 32) O dX0_loan_32 (by decide) ?_
        exact tx_iret O F dX0_loan_34 (tx_QI.mk (by first | exact Or.inl ⟨by omega, rfl, rfl⟩ | exact Or.inr ⟨by omega, Or.inl ⟨by omega, rfl, rfl⟩⟩ | exact Or.inr ⟨by omega, Or.inr ⟨by omega, rfl, rfl⟩⟩))
      · refine tx_iload (pc := 21) 4 O dX0_loan_21 rfl ?_
        refine tx_iconst (pc := 23) O dX0_loan_23 ?_
        refine tx_bipush (pc := 24) O dX0_loan_24 (by decide) ?_
        refine tx_cS3 (pc := 26) O dX0_loan_26 q108 vX0_in (by decide) (Nat.zero_le _) (sX0_in w _ _ _ _ _ (by omega) (by omega) (by omega)) (k_P (fun z26 h26 => ?_))
        refine tx_if_ne (pc := 29) 35 O dX0_loan_29 rfl (by omega) (fun c29 => ?_) (fun c29 => ?_)
        · refine tx_aload_n (pc := 35) 0 O dX0_loan_35 rfl rfl ?_
          refine fX0_108 (pc := 36) O dX0_loan_36 ?_
          refine tx_bipush (pc := 39) O dX0_loan_39 (by decide) ?_
          refine tx_icmp_ne (pc := 41) 47 O dX0_loan_41 rfl (by omega) (fun c41 => ?_) (fun c41 => ?_)
          · refine tx_aload_n (pc := 47) 0 O dX0_loan_47 rfl rfl ?_
            refine fX0_111 (pc := 48) O hR dX0_loan_48 ?_
            refine tx_iconst (pc := 51) O dX0_loan_51 ?_
            refine tx_aald (pc := 52) _ _ O dX0_loan_52 (sh_210 w) (by decide) (by omega) ?_
            rw [hR.2.2.2.1 0, show (310 : Int) + 0 = 310 from rfl]
            refine tx_aload_n (pc := 53) 0 O dX0_loan_53 rfl rfl ?_
            refine fX0_108 (pc := 54) O dX0_loan_54 ?_
            refine tx_iload_n (pc := 57) 1 O dX0_loan_57 rfl rfl ?_
            refine tx_iast (pc := 58) _ O dX0_loan_58 (sh_310 w) (by omega) ?_
            refine tx_aload_n (pc := 59) 0 O dX0_loan_59 rfl rfl ?_
            refine fX0_111 (pc := 60) O hR dX0_loan_60 ?_
            refine tx_iconst (pc := 63) O dX0_loan_63 ?_
            refine tx_aald (pc := 64) _ _ O dX0_loan_64 (sh_210 w) (by decide) (by omega) ?_
            rw [hR.2.2.2.1 1, show (310 : Int) + 1 = 311 from rfl]
            refine tx_aload_n (pc := 65) 0 O dX0_loan_65 rfl rfl ?_
            refine fX0_108 (pc := 66) O dX0_loan_66 ?_
            rw [up_n (by omega)]
            refine tx_iload_n (pc := 69) 2 O dX0_loan_69 rfl rfl ?_
            refine tx_iast (pc := 70) _ O dX0_loan_70 (sh_311 w) (by omega) ?_
            refine tx_aload_n (pc := 71) 0 O dX0_loan_71 rfl rfl ?_
            refine fX0_111 (pc := 72) O hR dX0_loan_72 ?_
            refine tx_iconst (pc := 75) O dX0_loan_75 ?_
            refine tx_aald (pc := 76) _ _ O dX0_loan_76 (sh_210 w) (by decide) (by omega) ?_
            rw [hR.2.2.2.1 2, show (310 : Int) + 2 = 312 from rfl]
            refine tx_aload_n (pc := 77) 0 O dX0_loan_77 rfl rfl ?_
            refine fX0_108 (pc := 78) O dX0_loan_78 ?_
            rw [up_n (by omega), up_n (by omega)]
            refine tx_iload_n (pc := 81) 3 O dX0_loan_81 rfl rfl ?_
            refine tx_iast (pc := 82) _ O dX0_loan_82 (sh_312 w) (by omega) ?_
            refine tx_aload_n (pc := 83) 0 O dX0_loan_83 rfl rfl ?_
            refine fX0_111 (pc := 84) O hR dX0_loan_84 ?_
            refine tx_iconst (pc := 87) O dX0_loan_87 ?_
            refine tx_aald (pc := 88) _ _ O dX0_loan_88 (sh_210 w) (by decide) (by omega) ?_
            rw [hR.2.2.2.1 3, show (310 : Int) + 3 = 313 from rfl]
            refine tx_aload_n (pc := 89) 0 O dX0_loan_89 rfl rfl ?_
            refine fX0_108 (pc := 90) O dX0_loan_90 ?_
            rw [up_n (by omega), up_n (by omega), up_n (by omega)]
            refine tx_iload (pc := 93) 4 O dX0_loan_93 rfl ?_
            refine tx_iast (pc := 95) _ O dX0_loan_95 (sh_313 w) (by omega) ?_
            refine tx_aload_n (pc := 96) 0 O dX0_loan_96 rfl rfl ?_
            refine tx_dup (pc := 97) O dX0_loan_97 (cat_r _ _) ?_
            refine fX0_108 (pc := 98) O dX0_loan_98 ?_
            rw [up_n (by omega), up_n (by omega), up_n (by omega), up_n (by omega)]
            refine tx_iconst (pc := 101) O dX0_loan_101 ?_
            refine tx_iadd (pc := 102) O dX0_loan_102 ?_
            refine fX0_108p (pc := 103) O dX0_loan_103 ?_
            refine tx_aload_n (pc := 106) 0 O dX0_loan_106 rfl rfl ?_
            refine fX0_108 (pc := 107) O dX0_loan_107 ?_
            rw [up_s]
            exact tx_iret O F dX0_loan_110 (tx_QI.mk (by first | exact Or.inl ⟨by omega, rfl, rfl⟩ | exact Or.inr ⟨by omega, Or.inl ⟨by omega, rfl, rfl⟩⟩ | exact Or.inr ⟨by omega, Or.inr ⟨by omega, rfl, rfl⟩⟩))
          · refine tx_bipush (pc := 44) O dX0_loan_44 (by decide) ?_
            exact tx_iret O F dX0_loan_46 (tx_QI.mk (by first | exact Or.inl ⟨by omega, rfl, rfl⟩ | exact Or.inr ⟨by omega, Or.inl ⟨by omega, rfl, rfl⟩⟩ | exact Or.inr ⟨by omega, Or.inr ⟨by omega, rfl, rfl⟩⟩))
        · refine tx_bipush (pc := 32) O dX0_loan_32 (by decide) ?_
          exact tx_iret O F dX0_loan_34 (tx_QI.mk (by first | exact Or.inl ⟨by omega, rfl, rfl⟩ | exact Or.inr ⟨by omega, Or.inl ⟨by omega, rfl, rfl⟩⟩ | exact Or.inr ⟨by omega, Or.inr ⟨by omega, rfl, rfl⟩⟩))
theorem sX0_back (w : WT) (R M : TM) (hl : 0 ≤ M 1 9 ∧ M 1 9 ≤ 12) : tx_S w yX0_back cX0_back 1 (some .int) 1 [rV (wa w) 1] R M (QI R (fun z M' => (M 1 9 = 0 ∧ z = -3 ∧ M' = M) ∨ (0 < M 1 9 ∧ z = M 1 9 - 1 ∧ M' = up M 1 9 (M 1 9 - 1)))) := by
  refine tx_S.ofk (lv := [(0, _)]) [1] (by decide) (by simp only [List.map_cons, List.map_nil, cat_i, cat_l, cat_r]) (by decide) rfl (fun E O F => ?_)
  refine tx_aload_n (pc := 0) 0 O dX0_back_0 rfl rfl ?_
  refine fX0_108 (pc := 1) O dX0_back_1 ?_
  refine tx_if_ne (pc := 4) 10 O dX0_back_4 rfl (by omega) (fun c4 => ?_) (fun c4 => ?_)
  · refine tx_aload_n (pc := 10) 0 O dX0_back_10 rfl rfl ?_
    refine tx_dup (pc := 11) O dX0_back_11 (cat_r _ _) ?_
    refine fX0_108 (pc := 12) O dX0_back_12 ?_
    refine tx_iconst (pc := 15) O dX0_back_15 ?_
    refine tx_isub (pc := 16) O dX0_back_16 ?_
    refine fX0_108p (pc := 17) O dX0_back_17 ?_
    refine tx_aload_n (pc := 20) 0 O dX0_back_20 rfl rfl ?_
    refine fX0_108 (pc := 21) O dX0_back_21 ?_
    rw [up_s]
    exact tx_iret O F dX0_back_24 (tx_QI.mk (Or.inr ⟨by omega, rfl, rfl⟩))
  · refine tx_bipush (pc := 7) O dX0_back_7 (by decide) ?_
    exact tx_iret O F dX0_back_9 (tx_QI.mk (Or.inl ⟨by omega, rfl, rfl⟩))
theorem sX0_ear (w : WT) (v : Int) (R M : TM) (hv : rng v) : tx_S w yX0_ear cX0_ear 3 (some .int) 2 [rV (wa w) 1, iV v] R M (QI R (fun z M' => ((v < 0 ∨ 12 < v) ∧ z = -2 ∧ M' = M) ∨ ((0 ≤ v ∧ v ≤ 12) ∧ z = M 1 11 ∧ M' = up M 1 11 v))) := by
  refine tx_S.ofk (lv := [(0, _), (1, _)]) [1, 1] (by decide) (by simp only [List.map_cons, List.map_nil, cat_i, cat_l, cat_r]) (by decide) rfl (fun E O F => ?_)
  refine tx_iload_n (pc := 0) 1 O dX0_ear_0 rfl rfl ?_
  refine tx_iconst (pc := 1) O dX0_ear_1 ?_
  refine tx_bipush (pc := 2) O dX0_ear_2 (by decide) ?_
  refine tx_cS3 (pc := 4) O dX0_ear_4 q108 vX0_in (by decide) (Nat.zero_le _) (sX0_in w _ _ _ _ _ (by omega) (by omega) (by omega)) (k_P (fun z4 h4 => ?_))
  refine tx_if_ne (pc := 7) 13 O dX0_ear_7 rfl (by omega) (fun c7 => ?_) (fun c7 => ?_)
  · refine tx_aload_n (pc := 13) 0 O dX0_ear_13 rfl rfl ?_
    refine fX0_138 (pc := 14) O dX0_ear_14 ?_
    refine tx_istore_n (pc := 17) (lv' := [(2, _), (0, _), (1, _)]) O dX0_ear_17 rfl (by decide) rfl ?_
    refine tx_aload_n (pc := 18) 1 O dX0_ear_18 rfl rfl ?_
    refine tx_iload_n (pc := 19) 2 O dX0_ear_19 rfl rfl ?_
    refine fX0_138p (pc := 20) O dX0_ear_20 ?_
    refine tx_iload_n (pc := 23) 0 O dX0_ear_23 rfl rfl ?_
    exact tx_iret O F dX0_ear_24 (tx_QI.mk (by first | exact Or.inl ⟨by omega, rfl, rfl⟩ | exact Or.inr ⟨by omega, rfl, rfl⟩))
  · refine tx_bipush (pc := 10) O dX0_ear_10 (by decide) ?_
    exact tx_iret O F dX0_ear_12 (tx_QI.mk (by first | exact Or.inl ⟨by omega, rfl, rfl⟩ | exact Or.inr ⟨by omega, rfl, rfl⟩))

