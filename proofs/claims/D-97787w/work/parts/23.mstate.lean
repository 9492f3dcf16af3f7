/-! MODEL, state: reads, fault, isTune, isBorrower, tune, borrower, loan, back, read, ear -/
set_option maxRecDepth 100000
/-- the pure state: texts (their bytes, their lengths), loans (four numbers each), how many, the ear -/
abbrev PU : Type := (Int → Int) × Int × (Int → Int) × Int × (Int → Int → Int) × Int × Int
abbrev uf0 (u : PU) : Int → Int := u.1
abbrev un0 (u : PU) : Int := u.2.1
abbrev uf1 (u : PU) : Int → Int := u.2.2.1
abbrev un1 (u : PU) : Int := u.2.2.2.1
abbrev ulo (u : PU) : Int → Int → Int := u.2.2.2.2.1
abbrev unl (u : PU) : Int := u.2.2.2.2.2.1
abbrev uear (u : PU) : Int := u.2.2.2.2.2.2
/-- its tunes, its borrowers -/
def uT (u : PU) : List (List Int) := (pT (uf0 u) (un0 u)).2
def uB (u : PU) : Int := cB (uf1 u) (un1 u)
def uq (u : PU) (b : Int) : Int × Int × Int := bq (uf1 u) b
def uOk (u : PU) : Prop := (0 ≤ un0 u ∧ un0 u ≤ 59) ∧ (0 ≤ un1 u ∧ un1 u ≤ 23) ∧ (∀ k, 0 ≤ k → k < un0 u → 0 ≤ uf0 u k ∧ uf0 u k ≤ 255) ∧ (∀ k, 0 ≤ k → k < un1 u → 0 ≤ uf1 u k ∧ uf1 u k ≤ 255) ∧ (0 ≤ unl u ∧ unl u ≤ 12) ∧ (∀ k, 0 ≤ k → k < unl u → (0 ≤ ulo u k 0 ∧ ulo u k 0 ≤ 39) ∧ (0 ≤ ulo u k 1 ∧ ulo u k 1 ≤ 5) ∧ (0 ≤ ulo u k 2 ∧ ulo u k 2 ≤ 5) ∧ (1 ≤ ulo u k 3 ∧ ulo u k 3 ≤ 9)) ∧ (0 ≤ uear u ∧ uear u ≤ 12)
theorem uT_ok {u : PU} (h : uOk u) : okD (uT u) := pT_ok _ h.1.1
theorem uB_ok {u : PU} (h : uOk u) : 0 ≤ uB u ∧ uB u ≤ 6 := cB_le h.2.1
theorem uq_ok {u : PU} (h : uOk u) {b : Int} (h0 : 0 ≤ b) (h1 : b < uB u) : okq (uq u b) := by
  have := cB_ok (f := uf1 u) h.2.1 h0 h1
  exact ⟨this.1, this.2.1, this.2.2.1, this.2.2.2.1, this.2.2.2.2.1, this.2.2.2.2.2.1⟩
/-- the model holds the pure state -/
def mT (M : TM) (u : PU) : Prop := uOk u ∧ M 106 0 = un0 u ∧ M 106 1 = un1 u ∧ (∀ k, 0 ≤ k → k < un0 u → M 105 k = uf0 u k) ∧ (∀ k, 0 ≤ k → k < un1 u → M 105 (60 + k) = uf1 u k) ∧ M 2 12 = unl u ∧ (∀ k j, 0 ≤ k → k < unl u → 0 ≤ j → j ≤ 3 → M 113 (4 * k + j) = ulo u k j) ∧ M 2 14 = uear u
/-- .. and has read its texts -/
def mP (M : TM) (u : PU) : Prop := mT M u ∧ toldM M (uT u) ∧ humM M (uf1 u) (un1 u)
/-- what a question leaves alone; what a run leaves alone -/
def kpQ (M M' : TM) : Prop := ∀ a b : Int, ((a < 108 ∨ 125 < a ∨ a = 113) ∧ (a ≠ 2 ∨ (b ≠ 7 ∧ b ≠ 10))) → M' a b = M a b
def kpR (M M' : TM) : Prop := ∀ a b : Int, (a < 115 ∨ 125 < a) → M' a b = M a b
theorem kpQ.rf {M : TM} : kpQ M M := fun _ _ _ => rfl
theorem kpR.rf {M : TM} : kpR M M := fun _ _ _ => rfl
theorem kpR.q {M M' : TM} (h : kpR M M') : kpQ M M' := fun a b q => by
  by_cases e : a < 115 ∨ 125 < a
  · exact h a b e
  · exfalso; omega
theorem kpQ.tr {M M' M'' : TM} (h : kpQ M M') (h' : kpQ M' M'') : kpQ M M'' := fun a b q => (h' a b q).trans (h a b q)
theorem kpR.tr {M M' M'' : TM} (h : kpR M M') (h' : kpR M' M'') : kpR M M'' := fun a b q => (h' a b q).trans (h a b q)
theorem mT.keep {M M' : TM} {u : PU} (h : mT M u) (k : kpQ M M') : mT M' u := by
  obtain ⟨h0, h1, h2, h3, h4, h5, h6, h7⟩ := h
  exact ⟨h0, by rw [k _ _ (by omega)]; exact h1, by rw [k _ _ (by omega)]; exact h2, fun i q1 q2 => by rw [k _ _ (by omega)]; exact h3 i q1 q2, fun i q1 q2 => by rw [k _ _ (by omega)]; exact h4 i q1 q2, by rw [k _ _ (by omega)]; exact h5, fun i j q1 q2 q3 q4 => by rw [k _ _ (by omega)]; exact h6 i j q1 q2 q3 q4, by rw [k _ _ (by omega)]; exact h7⟩
theorem mP.keep {M M' : TM} {u : PU} (h : mP M u) (k : kpR M M') : mP M' u := by
  obtain ⟨h1, h2, h3⟩ := h
  refine ⟨h1.keep k.q, ⟨by rw [k _ _ (by omega)]; exact h2.1, fun t q1 q2 => ?_⟩, ⟨by rw [k _ _ (by omega)]; exact h3.1, fun b q1 q2 => ?_⟩⟩
  · have := h2.2 t q1 q2
    exact ⟨by rw [k _ _ (by omega)]; exact this.1, fun i r1 r2 => by rw [k _ _ (by omega)]; exact this.2 i r1 r2⟩
  · rw [k _ _ (by omega), k _ _ (by omega), k _ _ (by omega)]
    exact h3.2 b q1 q2
theorem mT.rT {M : TM} {u : PU} (h : mT M u) : ∀ k, 0 ≤ k → k < un0 u → M 105 k = uf0 u k ∧ 0 ≤ uf0 u k ∧ uf0 u k ≤ 255 := fun k h1 h2 => ⟨h.2.2.2.1 k h1 h2, h.1.2.2.1 k h1 h2⟩
theorem mT.rB {M : TM} {u : PU} (h : mT M u) : ∀ k, 0 ≤ k → k < un1 u → M 105 (60 + k) = uf1 u k ∧ 0 ≤ uf1 u k ∧ uf1 u k ≤ 255 := fun k h1 h2 => ⟨h.2.2.2.2.1 k h1 h2, h.1.2.2.2.1 k h1 h2⟩
theorem kpT.q {M M' : TM} (h : kpT M M') : kpQ M M' := fun a b q => h a b (by omega)
theorem kpB.q {M M' : TM} (h : kpB M M') : kpQ M M' := fun a b q => h a b (by omega)
theorem toldM.keepB {M M' : TM} {D : List (List Int)} (h : toldM M D) (k : kpB M M') : toldM M' D := ⟨by rw [k _ _ (by omega)]; exact h.1, fun t q1 q2 => ⟨by rw [k _ _ (by omega)]; exact (h.2 t q1 q2).1, fun i r1 r2 => by rw [k _ _ (by omega)]; exact (h.2 t q1 q2).2 i r1 r2⟩⟩
theorem humM.keepT {M M' : TM} {f : Int → Int} {n : Int} (h : humM M f n) (k : kpT M M') : humM M' f n := ⟨by rw [k _ _ (by omega)]; exact h.1, fun b q1 q2 => by rw [k _ _ (by omega), k _ _ (by omega), k _ _ (by omega)]; exact h.2 b q1 q2⟩
theorem sX6_reads (w : WT) (R M : TM) (u : PU) (hR : RL R) (hu : mT M u) : tx_S w yX6_reads cX6_reads 1 none 3 [rV (wa w) 2] R M (QV R (fun M' => mP M' u ∧ kpQ M M')) := by
  refine tx_S.ofk (lv := [(0, _)]) [1] (by decide) (by simp only [List.map_cons, List.map_nil, cat_i, cat_l, cat_r]) (by decide) rfl (fun E O F => ?_)
  refine tx_aload_n (pc := 0) 0 O dX6_reads_0 rfl rfl ?_
  refine tx_cV0 (pc := 1) O dX6_reads_1 q962 vX6_readsTunes (sh_2 w) rfl (by decide) (Nat.zero_le _) (sX6_readsTunes w _ _ (uf0 u) (un0 u) hR hu.2.1 hu.1.1 hu.rT) (k_I (fun z1 M1 h1 => ?_))
  obtain ⟨g1, g2, g3⟩ := h1
  have hu := hu.keep g3.q
  refine tx_pop (pc := 4) O dX6_reads_4 (cat_i _) ?_
  refine tx_aload_n (pc := 5) 0 O dX6_reads_5 rfl rfl ?_
  refine tx_cV0 (pc := 6) O dX6_reads_6 q972 vX6_readsBorrowers (sh_2 w) rfl (by decide) (Nat.zero_le _) (sX6_readsBorrowers w _ _ (uf1 u) (un1 u) hR hu.2.2.1 hu.1.2.1 hu.rB) (k_I (fun z6 M6 h6 => ?_))
  obtain ⟨k1, k2, k3⟩ := h6
  have hu := hu.keep k3.q
  refine tx_pop (pc := 9) O dX6_reads_9 (cat_i _) ?_
  exact tx_vret O F dX6_reads_10 (tx_QV.mk ⟨⟨hu, g2.keepB k3, k2⟩, g3.q.tr k3.q⟩)
theorem sX6_fault (w : WT) (t : Int) (R M : TM) (u : PU) (hR : RL R) (hu : mT M u) (ht : rng t) : tx_S w yX6_fault cX6_fault 2 (some .int) 4 [rV (wa w) 2, iV t] R M (QI R (fun z M' => ((t < 0 ∨ 1 < t) ∧ z = -2 ∨ t = 0 ∧ z = (pT (uf0 u) (un0 u)).1 ∨ t = 1 ∧ z = fB (uf1 u) (un1 u)) ∧ kpQ M M')) := by
  refine tx_S.ofk (lv := [(0, _), (1, _)]) [1, 1] (by decide) (by simp only [List.map_cons, List.map_nil, cat_i, cat_l, cat_r]) (by decide) rfl (fun E O F => ?_)
  refine tx_iload_n (pc := 0) 1 O dX6_fault_0 rfl rfl ?_
  refine tx_cS1 (pc := 1) O dX6_fault_1 q946 vX6_isTwo (by decide) (Nat.zero_le _) (sX6_isTwo w _ _ _ (by omega)) (k_P (fun z1 h1 => ?_))
  refine tx_if_ne (pc := 4) 12 O dX6_fault_4 rfl (by omega) (fun c4 => ?_) (fun c4 => ?_)
  · refine tx_iload_n (pc := 12) 1 O dX6_fault_12 rfl rfl ?_
    refine tx_if_ne (pc := 13) 23 O dX6_fault_13 rfl (by omega) (fun c13 => ?_) (fun c13 => ?_)
    · refine tx_aload_n (pc := 23) 0 O dX6_fault_23 rfl rfl ?_
      refine tx_cV0 (pc := 24) O dX6_fault_24 q972 vX6_readsBorrowers (sh_2 w) rfl (by decide) (Nat.zero_le _) (sX6_readsBorrowers w _ _ (uf1 u) (un1 u) hR hu.2.2.1 hu.1.2.1 hu.rB) (k_I (fun z24 M24 h24 => ?_))
      exact tx_iret O F dX6_fault_27 (tx_QI.mk (by first | exact ⟨Or.inl ⟨by omega, rfl⟩, kpQ.rf⟩ | exact ⟨Or.inr (Or.inl ⟨by omega, h17.1⟩), h17.2.2.q⟩ | exact ⟨Or.inr (Or.inr ⟨by omega, h24.1⟩), h24.2.2.q⟩))
    · refine tx_aload_n (pc := 16) 0 O dX6_fault_16 rfl rfl ?_
      refine tx_cV0 (pc := 17) O dX6_fault_17 q962 vX6_readsTunes (sh_2 w) rfl (by decide) (Nat.zero_le _) (sX6_readsTunes w _ _ (uf0 u) (un0 u) hR hu.2.1 hu.1.1 hu.rT) (k_I (fun z17 M17 h17 => ?_))
      refine tx_goto (pc := 20) 27 O dX6_fault_20 rfl ?_
      exact tx_iret O F dX6_fault_27 (tx_QI.mk (by first | exact ⟨Or.inl ⟨by omega, rfl⟩, kpQ.rf⟩ | exact ⟨Or.inr (Or.inl ⟨by omega, h17.1⟩), h17.2.2.q⟩ | exact ⟨Or.inr (Or.inr ⟨by omega, h24.1⟩), h24.2.2.q⟩))
  · refine tx_bipush (pc := 7) O dX6_fault_7 (by decide) ?_
    refine tx_goto (pc := 9) 27 O dX6_fault_9 rfl ?_
    exact tx_iret O F dX6_fault_27 (tx_QI.mk (by first | exact ⟨Or.inl ⟨by omega, rfl⟩, kpQ.rf⟩ | exact ⟨Or.inr (Or.inl ⟨by omega, h17.1⟩), h17.2.2.q⟩ | exact ⟨Or.inr (Or.inr ⟨by omega, h24.1⟩), h24.2.2.q⟩))
theorem sX6_isTune (w : WT) (t : Int) (R M : TM) (u : PU) (hu : mP M u) (ht : rng t) : tx_S w yX6_isTune cX6_isTune 2 (some .boolean) 2 [rV (wa w) 2, iV t] R M (QP R M (fun z => btw z t 0 ((uT u).length - 1))) := by
  have h1 := hu.2.1.1
  have h2 := (uT_ok hu.1.1).1
  refine tx_S.ofk (lv := [(0, _), (1, _)]) [1, 1] (by decide) (by simp only [List.map_cons, List.map_nil, cat_i, cat_l, cat_r]) (by decide) rfl (fun E O F => ?_)
  refine tx_iload_n (pc := 0) 1 O dX6_isTune_0 rfl rfl ?_
  refine tx_i2l (pc := 1) O dX6_isTune_1 (by omega) ?_
  refine tx_lconst0 (pc := 2) O dX6_isTune_2 ?_
  refine tx_aload_n (pc := 3) 0 O dX6_isTune_3 rfl rfl ?_
  refine fX6_112 (pc := 4) O dX6_isTune_4 ?_
  rw [h1]
  refine tx_iconst (pc := 7) O dX6_isTune_7 ?_
  refine tx_isub (pc := 8) O dX6_isTune_8 ?_
  refine tx_i2l (pc := 9) O dX6_isTune_9 (by omega) ?_
  refine tx_cS3 (pc := 10) O dX6_isTune_10 q910 vX6_in (by decide) (Nat.zero_le _) (sX6_in w _ _ _ _ _ (by omega) (by omega) (by omega)) (k_P (fun z10 h10 => ?_))
  exact tx_zret O F dX6_isTune_13 (by omega) (tx_QP.mk h10)
theorem sX6_isBorrower (w : WT) (t : Int) (R M : TM) (u : PU) (hu : mP M u) (ht : rng t) : tx_S w yX6_isBorrower cX6_isBorrower 2 (some .boolean) 2 [rV (wa w) 2, iV t] R M (QP R M (fun z => btw z t 0 (uB u - 1))) := by
  have h1 : M 2 10 = uB u := hu.2.2.1
  have h2 := uB_ok hu.1.1
  refine tx_S.ofk (lv := [(0, _), (1, _)]) [1, 1] (by decide) (by simp only [List.map_cons, List.map_nil, cat_i, cat_l, cat_r]) (by decide) rfl (fun E O F => ?_)
  refine tx_iload_n (pc := 0) 1 O dX6_isBorrower_0 rfl rfl ?_
  refine tx_i2l (pc := 1) O dX6_isBorrower_1 (by omega) ?_
  refine tx_lconst0 (pc := 2) O dX6_isBorrower_2 ?_
  refine tx_aload_n (pc := 3) 0 O dX6_isBorrower_3 rfl rfl ?_
  refine fX6_122 (pc := 4) O dX6_isBorrower_4 ?_
  rw [h1]
  refine tx_iconst (pc := 7) O dX6_isBorrower_7 ?_
  refine tx_isub (pc := 8) O dX6_isBorrower_8 ?_
  refine tx_i2l (pc := 9) O dX6_isBorrower_9 (by omega) ?_
  refine tx_cS3 (pc := 10) O dX6_isBorrower_10 q910 vX6_in (by decide) (Nat.zero_le _) (sX6_in w _ _ _ _ _ (by omega) (by omega) (by omega)) (k_P (fun z10 h10 => ?_))
  exact tx_zret O F dX6_isBorrower_13 (by omega) (tx_QP.mk h10)
/-- a note of a list, its length at -1 -/
def noteP (l : List Int) (i : Int) : Int := if i = -1 then l.length else if i < l.length then ga l i else -1
theorem sX6_tune (w : WT) (t i : Int) (R M : TM) (u : PU) (hR : RL R) (hu : mT M u) (ht : rng t) (hi : rng i) : tx_S w yX6_tune cX6_tune 3 (some .int) 4 [rV (wa w) 2, iV t, iV i] R M (QI R (fun z M' => ((t < 0 ∨ (uT u).length ≤ t ∨ i < -1 ∨ 11 < i) ∧ z = -2 ∨ (0 ≤ t ∧ t < (uT u).length ∧ -1 ≤ i ∧ i ≤ 11) ∧ z = noteP (gl (uT u) t) i) ∧ kpQ M M')) := by
  refine tx_S.ofk (lv := [(0, _), (1, _), (2, _)]) [1, 1, 1] (by decide) (by simp only [List.map_cons, List.map_nil, cat_i, cat_l, cat_r]) (by decide) rfl (fun E O F => ?_)
  refine tx_aload_n (pc := 0) 0 O dX6_tune_0 rfl rfl ?_
  refine tx_cV0 (pc := 1) O dX6_tune_1 q983 vX6_reads (sh_2 w) rfl (by decide) (Nat.zero_le _) (sX6_reads w _ _ u hR hu) (k_V (fun M1 h1 => ?_))
  obtain ⟨hu, hk⟩ := h1
  refine tx_aload_n (pc := 4) 0 O dX6_tune_4 rfl rfl ?_
  refine tx_iload_n (pc := 5) 1 O dX6_tune_5 rfl rfl ?_
  refine tx_cV1 (pc := 6) O dX6_tune_6 q987 vX6_isTune (sh_2 w) rfl (by decide) (Nat.zero_le _) (sX6_isTune w _ _ _ u hu (by omega)) (k_P (fun z6 h6 => ?_))
  refine tx_if_eq (pc := 9) 26 O dX6_tune_9 rfl (by omega) (fun c9 => ?_) (fun c9 => ?_)
  · refine tx_bipush (pc := 26) O dX6_tune_26 (by decide) ?_
    refine tx_goto (pc := 28) 70 O dX6_tune_28 rfl ?_
    exact tx_iret O F dX6_tune_70 (tx_QI.mk (by first | exact ⟨Or.inl ⟨by omega, rfl⟩, hk⟩ | exact ⟨Or.inr ⟨by omega, by unfold noteP; rw [if_pos c33]⟩, hk⟩ | exact ⟨Or.inr ⟨by omega, by unfold noteP; rw [if_neg c33, if_pos c52]⟩, hk⟩ | exact ⟨Or.inr ⟨by omega, by unfold noteP; rw [if_neg c33, if_neg (by omega)]⟩, hk⟩))
  · have hD := (uT_ok hu.1.1).1
    obtain ⟨hr1, hr2⟩ := hu.2.1.2 t (by omega) (by omega)
    have hl := ((uT_ok hu.1.1).2 _ (gl_mem (t := t) (by omega) (by omega))).1.1
    refine tx_iload_n (pc := 12) 2 O dX6_tune_12 rfl rfl ?_
    refine tx_i2l (pc := 13) O dX6_tune_13 (by omega) ?_
    refine tx_ldc2 (pc := 14) (z := -1) O dX6_tune_14 q991 rfl ?_
    refine tx_ldc2 (pc := 17) (z := 11) O dX6_tune_17 q992 rfl ?_
    refine tx_cS3 (pc := 20) O dX6_tune_20 q910 vX6_in (by decide) (Nat.zero_le _) (sX6_in w _ _ _ _ _ (by omega) (by omega) (by omega)) (k_P (fun z20 h20 => ?_))
    refine tx_if_ne (pc := 23) 31 O dX6_tune_23 rfl (by omega) (fun c23 => ?_) (fun c23 => ?_)
    · refine tx_iload_n (pc := 31) 2 O dX6_tune_31 rfl rfl ?_
      refine tx_iconst (pc := 32) O dX6_tune_32 ?_
      refine tx_icmp_ne (pc := 33) 45 O dX6_tune_33 rfl (by omega) (fun c33 => ?_) (fun c33 => ?_)
      · refine tx_iload_n (pc := 45) 2 O dX6_tune_45 rfl rfl ?_
        refine tx_aload_n (pc := 46) 0 O dX6_tune_46 rfl rfl ?_
        refine fX6_31 (pc := 47) O hR dX6_tune_47 ?_
        refine tx_iload_n (pc := 50) 1 O dX6_tune_50 rfl rfl ?_
        refine tx_iald (pc := 51) _ O dX6_tune_51 (sh_109 w) (by omega) ?_
        rw [hr1]
        refine tx_icmp_ge (pc := 52) 69 O dX6_tune_52 rfl (by omega) (fun c52 => ?_) (fun c52 => ?_)
        · refine tx_iconst (pc := 69) O dX6_tune_69 ?_
          exact tx_iret O F dX6_tune_70 (tx_QI.mk (by first | exact ⟨Or.inl ⟨by omega, rfl⟩, hk⟩ | exact ⟨Or.inr ⟨by omega, by unfold noteP; rw [if_pos c33]⟩, hk⟩ | exact ⟨Or.inr ⟨by omega, by unfold noteP; rw [if_neg c33, if_pos c52]⟩, hk⟩ | exact ⟨Or.inr ⟨by omega, by unfold noteP; rw [if_neg c33, if_neg (by omega)]⟩, hk⟩))
        · refine tx_aload_n (pc := 55) 0 O dX6_tune_55 rfl rfl ?_
          refine fX6_28 (pc := 56) O hR dX6_tune_56 ?_
          refine tx_bipush (pc := 59) O dX6_tune_59 (by decide) ?_
          refine tx_iload_n (pc := 61) 1 O dX6_tune_61 rfl rfl ?_
          refine tx_imul (pc := 62) O dX6_tune_62 ?_
          refine tx_iload_n (pc := 63) 2 O dX6_tune_63 rfl rfl ?_
          refine tx_iadd (pc := 64) O dX6_tune_64 ?_
          refine tx_iald (pc := 65) _ O dX6_tune_65 (sh_108 w) (by omega) ?_
          rw [hr2 i (by omega) c52]
          refine tx_goto (pc := 66) 70 O dX6_tune_66 rfl ?_
          exact tx_iret O F dX6_tune_70 (tx_QI.mk (by first | exact ⟨Or.inl ⟨by omega, rfl⟩, hk⟩ | exact ⟨Or.inr ⟨by omega, by unfold noteP; rw [if_pos c33]⟩, hk⟩ | exact ⟨Or.inr ⟨by omega, by unfold noteP; rw [if_neg c33, if_pos c52]⟩, hk⟩ | exact ⟨Or.inr ⟨by omega, by unfold noteP; rw [if_neg c33, if_neg (by omega)]⟩, hk⟩))
      · refine tx_aload_n (pc := 36) 0 O dX6_tune_36 rfl rfl ?_
        refine fX6_31 (pc := 37) O hR dX6_tune_37 ?_
        refine tx_iload_n (pc := 40) 1 O dX6_tune_40 rfl rfl ?_
        refine tx_iald (pc := 41) _ O dX6_tune_41 (sh_109 w) (by omega) ?_
        rw [hr1]
        refine tx_goto (pc := 42) 70 O dX6_tune_42 rfl ?_
        exact tx_iret O F dX6_tune_70 (tx_QI.mk (by first | exact ⟨Or.inl ⟨by omega, rfl⟩, hk⟩ | exact ⟨Or.inr ⟨by omega, by unfold noteP; rw [if_pos c33]⟩, hk⟩ | exact ⟨Or.inr ⟨by omega, by unfold noteP; rw [if_neg c33, if_pos c52]⟩, hk⟩ | exact ⟨Or.inr ⟨by omega, by unfold noteP; rw [if_neg c33, if_neg (by omega)]⟩, hk⟩))
    · refine tx_bipush (pc := 26) O dX6_tune_26 (by decide) ?_
      refine tx_goto (pc := 28) 70 O dX6_tune_28 rfl ?_
      exact tx_iret O F dX6_tune_70 (tx_QI.mk (by first | exact ⟨Or.inl ⟨by omega, rfl⟩, hk⟩ | exact ⟨Or.inr ⟨by omega, by unfold noteP; rw [if_pos c33]⟩, hk⟩ | exact ⟨Or.inr ⟨by omega, by unfold noteP; rw [if_neg c33, if_pos c52]⟩, hk⟩ | exact ⟨Or.inr ⟨by omega, by unfold noteP; rw [if_neg c33, if_neg (by omega)]⟩, hk⟩))
theorem sX6_borrower (w : WT) (t i : Int) (R M : TM) (u : PU) (hR : RL R) (hu : mT M u) (ht : rng t) (hi : rng i) : tx_S w yX6_borrower cX6_borrower 3 (some .int) 4 [rV (wa w) 2, iV t, iV i] R M (QI R (fun z M' => ((t < 0 ∨ uB u ≤ t ∨ i < 0 ∨ 2 < i) ∧ z = -2 ∨ (0 ≤ t ∧ t < uB u ∧ 0 ≤ i ∧ i ≤ 2) ∧ z = (if i = 0 then (uq u t).1 else if i = 1 then (uq u t).2.1 else (uq u t).2.2)) ∧ kpQ M M')) := by
  refine tx_S.ofk (lv := [(0, _), (1, _), (2, _)]) [1, 1, 1] (by decide) (by simp only [List.map_cons, List.map_nil, cat_i, cat_l, cat_r]) (by decide) rfl (fun E O F => ?_)
  refine tx_aload_n (pc := 0) 0 O dX6_borrower_0 rfl rfl ?_
  refine tx_cV0 (pc := 1) O dX6_borrower_1 q983 vX6_reads (sh_2 w) rfl (by decide) (Nat.zero_le _) (sX6_reads w _ _ u hR hu) (k_V (fun M1 h1 => ?_))
  obtain ⟨hu, hk⟩ := h1
  refine tx_aload_n (pc := 4) 0 O dX6_borrower_4 rfl rfl ?_
  refine tx_iload_n (pc := 5) 1 O dX6_borrower_5 rfl rfl ?_
  refine tx_cV1 (pc := 6) O dX6_borrower_6 q997 vX6_isBorrower (sh_2 w) rfl (by decide) (Nat.zero_le _) (sX6_isBorrower w _ _ _ u hu (by omega)) (k_P (fun z6 h6 => ?_))
  refine tx_if_eq (pc := 9) 37 O dX6_borrower_9 rfl (by omega) (fun c9 => ?_) (fun c9 => ?_)
  · refine tx_bipush (pc := 37) O dX6_borrower_37 (by decide) ?_
    exact tx_iret O F dX6_borrower_39 (tx_QI.mk (by first
        | exact ⟨Or.inl ⟨by omega, rfl⟩, hk⟩
        | (refine ⟨Or.inr ⟨by omega, ?_⟩, hk⟩
           rcases (show i = 0 ∨ i = 1 ∨ i = 2 by omega) with e | e | e
           · subst e; rw [if_pos rfl, show 3 * t + 0 = 3 * t by omega]; exact hr1
           · subst e; rw [if_neg (by decide), if_pos rfl]; exact hr2
           · subst e; rw [if_neg (by decide), if_neg (by decide)]; exact hr3)))
  · have hD := uB_ok hu.1.1
    obtain ⟨hr1, hr2, hr3⟩ := hu.2.2.2 t (by omega) (by show t < uB u; omega)
    refine tx_iload_n (pc := 12) 2 O dX6_borrower_12 rfl rfl ?_
    refine tx_i2l (pc := 13) O dX6_borrower_13 (by omega) ?_
    refine tx_lconst0 (pc := 14) O dX6_borrower_14 ?_
    refine tx_ldc2 (pc := 15) (z := 2) O dX6_borrower_15 q913 rfl ?_
    refine tx_cS3 (pc := 18) O dX6_borrower_18 q910 vX6_in (by decide) (Nat.zero_le _) (sX6_in w _ _ _ _ _ (by omega) (by omega) (by omega)) (k_P (fun z18 h18 => ?_))
    refine tx_if_eq (pc := 21) 37 O dX6_borrower_21 rfl (by omega) (fun c21 => ?_) (fun c21 => ?_)
    · refine tx_bipush (pc := 37) O dX6_borrower_37 (by decide) ?_
      exact tx_iret O F dX6_borrower_39 (tx_QI.mk (by first
          | exact ⟨Or.inl ⟨by omega, rfl⟩, hk⟩
          | (refine ⟨Or.inr ⟨by omega, ?_⟩, hk⟩
             rcases (show i = 0 ∨ i = 1 ∨ i = 2 by omega) with e | e | e
             · subst e; rw [if_pos rfl, show 3 * t + 0 = 3 * t by omega]; exact hr1
             · subst e; rw [if_neg (by decide), if_pos rfl]; exact hr2
             · subst e; rw [if_neg (by decide), if_neg (by decide)]; exact hr3)))
    · refine tx_aload_n (pc := 24) 0 O dX6_borrower_24 rfl rfl ?_
      refine fX6_34 (pc := 25) O hR dX6_borrower_25 ?_
      refine tx_iconst (pc := 28) O dX6_borrower_28 ?_
      refine tx_iload_n (pc := 29) 1 O dX6_borrower_29 rfl rfl ?_
      refine tx_imul (pc := 30) O dX6_borrower_30 ?_
      refine tx_iload_n (pc := 31) 2 O dX6_borrower_31 rfl rfl ?_
      refine tx_iadd (pc := 32) O dX6_borrower_32 ?_
      refine tx_iald (pc := 33) _ O dX6_borrower_33 (sh_111 w) (by omega) ?_
      refine tx_goto (pc := 34) 39 O dX6_borrower_34 rfl ?_
      exact tx_iret O F dX6_borrower_39 (tx_QI.mk (by first
          | exact ⟨Or.inl ⟨by omega, rfl⟩, hk⟩
          | (refine ⟨Or.inr ⟨by omega, ?_⟩, hk⟩
             rcases (show i = 0 ∨ i = 1 ∨ i = 2 by omega) with e | e | e
             · subst e; rw [if_pos rfl, show 3 * t + 0 = 3 * t by omega]; exact hr1
             · subst e; rw [if_neg (by decide), if_pos rfl]; exact hr2
             · subst e; rw [if_neg (by decide), if_neg (by decide)]; exact hr3)))
theorem sX6_loan (w : WT) (y t b n : Int) (R M : TM) (hR : RL R) (hl : 0 ≤ M 2 12 ∧ M 2 12 ≤ 12) (hy : rng y) (ht : rng t) (hb : rng b) (hn : rng n) : tx_S w yX6_loan cX6_loan 5 (some .int) 3 [rV (wa w) 2, iV y, iV t, iV b, iV n] R M (QI R (fun z M' => ((y < 0 ∨ 39 < y ∨ t < 0 ∨ 5 < t ∨ b < 0 ∨ 5 < b ∨ n < 1 ∨ 9 < n) ∧ z = -2 ∧ M' = M) ∨ ((0 ≤ y ∧ y ≤ 39 ∧ 0 ≤ t ∧ t ≤ 5 ∧ 0 ≤ b ∧ b ≤ 5 ∧ 1 ≤ n ∧ n ≤ 9) ∧ ((M 2 12 = 12 ∧ z = -4 ∧ M' = M) ∨ (M 2 12 < 12 ∧ z = M 2 12 + 1 ∧ M' = up (up (up (up (up M 113 (4 * M 2 12) y) 113 (4 * M 2 12 + 1) t) 113 (4 * M 2 12 + 2) b) 113 (4 * M 2 12 + 3) n) 2 12 (M 2 12 + 1)))))) := by
  refine tx_S.ofk (lv := [(0, _), (1, _), (2, _), (3, _), (4, _)]) [1, 1, 1, 1, 1] (by decide) (by simp only [List.map_cons, List.map_nil, cat_i, cat_l, cat_r]) (by decide) rfl (fun E O F => ?_)
  refine tx_iload_n (pc := 0) 1 O dX6_loan_0 rfl rfl ?_
  refine tx_cS1 (pc := 1) O dX6_loan_1 q1005 vX6_isYear (by decide) (Nat.zero_le _) (sX6_isYear w _ _ _ (by omega)) (k_P (fun z1 h1 => ?_))
  refine tx_if_eq (pc := 4) 44 O dX6_loan_4 rfl (by omega) (fun c4 => ?_) (fun c4 => ?_)
  · refine tx_bipush (pc := 44) O dX6_loan_44 (by decide) ?_
    exact tx_iret O F dX6_loan_46 (tx_QI.mk (Or.inl ⟨by omega, rfl, rfl⟩))
  · refine tx_iload_n (pc := 7) 2 O dX6_loan_7 rfl rfl ?_
    refine tx_i2l (pc := 8) O dX6_loan_8 (by omega) ?_
    refine tx_lconst0 (pc := 9) O dX6_loan_9 ?_
    refine tx_ldc2 (pc := 10) (z := 5) O dX6_loan_10 q1009 rfl ?_
    refine tx_cS3 (pc := 13) O dX6_loan_13 q910 vX6_in (by decide) (Nat.zero_le _) (sX6_in w _ _ _ _ _ (by omega) (by omega) (by omega)) (k_P (fun z13 h13 => ?_))
    refine tx_if_eq (pc := 16) 44 O dX6_loan_16 rfl (by omega) (fun c16 => ?_) (fun c16 => ?_)
    · refine tx_bipush (pc := 44) O dX6_loan_44 (by decide) ?_
      exact tx_iret O F dX6_loan_46 (tx_QI.mk (Or.inl ⟨by omega, rfl, rfl⟩))
    · refine tx_iload_n (pc := 19) 3 O dX6_loan_19 rfl rfl ?_
      refine tx_i2l (pc := 20) O dX6_loan_20 (by omega) ?_
      refine tx_lconst0 (pc := 21) O dX6_loan_21 ?_
      refine tx_ldc2 (pc := 22) (z := 5) O dX6_loan_22 q1009 rfl ?_
      refine tx_cS3 (pc := 25) O dX6_loan_25 q910 vX6_in (by decide) (Nat.zero_le _) (sX6_in w _ _ _ _ _ (by omega) (by omega) (by omega)) (k_P (fun z25 h25 => ?_))
      refine tx_if_eq (pc := 28) 44 O dX6_loan_28 rfl (by omega) (fun c28 => ?_) (fun c28 => ?_)
      · refine tx_bipush (pc := 44) O dX6_loan_44 (by decide) ?_
        exact tx_iret O F dX6_loan_46 (tx_QI.mk (Or.inl ⟨by omega, rfl, rfl⟩))
      · refine tx_iload (pc := 31) 4 O dX6_loan_31 rfl ?_
        refine tx_i2l (pc := 33) O dX6_loan_33 (by omega) ?_
        refine tx_lconst1 (pc := 34) O dX6_loan_34 ?_
        refine tx_ldc2 (pc := 35) (z := 9) O dX6_loan_35 q1010 rfl ?_
        refine tx_cS3 (pc := 38) O dX6_loan_38 q910 vX6_in (by decide) (Nat.zero_le _) (sX6_in w _ _ _ _ _ (by omega) (by omega) (by omega)) (k_P (fun z38 h38 => ?_))
        refine tx_if_ne (pc := 41) 47 O dX6_loan_41 rfl (by omega) (fun c41 => ?_) (fun c41 => ?_)
        · refine tx_aload_n (pc := 47) 0 O dX6_loan_47 rfl rfl ?_
          refine fX6_157 (pc := 48) O dX6_loan_48 ?_
          refine tx_bipush (pc := 51) O dX6_loan_51 (by decide) ?_
          refine tx_icmp_ne (pc := 53) 59 O dX6_loan_53 rfl (by omega) (fun c53 => ?_) (fun c53 => ?_)
          · refine tx_aload_n (pc := 59) 0 O dX6_loan_59 rfl rfl ?_
            refine fX6_37 (pc := 60) O hR dX6_loan_60 ?_
            refine tx_iconst (pc := 63) O dX6_loan_63 ?_
            refine tx_aload_n (pc := 64) 0 O dX6_loan_64 rfl rfl ?_
            refine fX6_157 (pc := 65) O dX6_loan_65 ?_
            refine tx_imul (pc := 68) O dX6_loan_68 ?_
            refine tx_iload_n (pc := 69) 1 O dX6_loan_69 rfl rfl ?_
            refine tx_iast (pc := 70) _ O dX6_loan_70 (sh_113 w) (by omega) ?_
            refine tx_aload_n (pc := 71) 0 O dX6_loan_71 rfl rfl ?_
            refine fX6_37 (pc := 72) O hR dX6_loan_72 ?_
            refine tx_iconst (pc := 75) O dX6_loan_75 ?_
            refine tx_aload_n (pc := 76) 0 O dX6_loan_76 rfl rfl ?_
            refine fX6_157 (pc := 77) O dX6_loan_77 ?_
            rw [up_n (by omega)]
            refine tx_imul (pc := 80) O dX6_loan_80 ?_
            refine tx_iconst (pc := 81) O dX6_loan_81 ?_
            refine tx_iadd (pc := 82) O dX6_loan_82 ?_
            refine tx_iload_n (pc := 83) 2 O dX6_loan_83 rfl rfl ?_
            refine tx_iast (pc := 84) _ O dX6_loan_84 (sh_113 w) (by omega) ?_
            refine tx_aload_n (pc := 85) 0 O dX6_loan_85 rfl rfl ?_
            refine fX6_37 (pc := 86) O hR dX6_loan_86 ?_
            refine tx_iconst (pc := 89) O dX6_loan_89 ?_
            refine tx_aload_n (pc := 90) 0 O dX6_loan_90 rfl rfl ?_
            refine fX6_157 (pc := 91) O dX6_loan_91 ?_
            rw [up_n (by omega), up_n (by omega)]
            refine tx_imul (pc := 94) O dX6_loan_94 ?_
            refine tx_iconst (pc := 95) O dX6_loan_95 ?_
            refine tx_iadd (pc := 96) O dX6_loan_96 ?_
            refine tx_iload_n (pc := 97) 3 O dX6_loan_97 rfl rfl ?_
            refine tx_iast (pc := 98) _ O dX6_loan_98 (sh_113 w) (by omega) ?_
            refine tx_aload_n (pc := 99) 0 O dX6_loan_99 rfl rfl ?_
            refine fX6_37 (pc := 100) O hR dX6_loan_100 ?_
            refine tx_iconst (pc := 103) O dX6_loan_103 ?_
            refine tx_aload_n (pc := 104) 0 O dX6_loan_104 rfl rfl ?_
            refine fX6_157 (pc := 105) O dX6_loan_105 ?_
            rw [up_n (by omega), up_n (by omega), up_n (by omega)]
            refine tx_imul (pc := 108) O dX6_loan_108 ?_
            refine tx_iconst (pc := 109) O dX6_loan_109 ?_
            refine tx_iadd (pc := 110) O dX6_loan_110 ?_
            refine tx_iload (pc := 111) 4 O dX6_loan_111 rfl ?_
            refine tx_iast (pc := 113) _ O dX6_loan_113 (sh_113 w) (by omega) ?_
            refine tx_aload_n (pc := 114) 0 O dX6_loan_114 rfl rfl ?_
            refine tx_dup (pc := 115) O dX6_loan_115 (cat_r _ _) ?_
            refine fX6_157 (pc := 116) O dX6_loan_116 ?_
            rw [up_n (by omega), up_n (by omega), up_n (by omega), up_n (by omega)]
            refine tx_iconst (pc := 119) O dX6_loan_119 ?_
            refine tx_iadd (pc := 120) O dX6_loan_120 ?_
            refine fX6_157p (pc := 121) O dX6_loan_121 ?_
            refine tx_aload_n (pc := 124) 0 O dX6_loan_124 rfl rfl ?_
            refine fX6_157 (pc := 125) O dX6_loan_125 ?_
            rw [up_s]
            exact tx_iret O F dX6_loan_128 (tx_QI.mk (Or.inr ⟨by omega, Or.inr ⟨by omega, rfl, rfl⟩⟩))
          · refine tx_bipush (pc := 56) O dX6_loan_56 (by decide) ?_
            exact tx_iret O F dX6_loan_58 (tx_QI.mk (Or.inr ⟨by omega, Or.inl ⟨by omega, rfl, rfl⟩⟩))
        · refine tx_bipush (pc := 44) O dX6_loan_44 (by decide) ?_
          exact tx_iret O F dX6_loan_46 (tx_QI.mk (Or.inl ⟨by omega, rfl, rfl⟩))
theorem sX6_back (w : WT) (R M : TM) (hl : 0 ≤ M 2 12 ∧ M 2 12 ≤ 12) : tx_S w yX6_back cX6_back 1 (some .int) 1 [rV (wa w) 2] R M (QI R (fun z M' => (M 2 12 = 0 ∧ z = -3 ∧ M' = M) ∨ (0 < M 2 12 ∧ z = M 2 12 - 1 ∧ M' = up M 2 12 (M 2 12 - 1)))) := by
  refine tx_S.ofk (lv := [(0, _)]) [1] (by decide) (by simp only [List.map_cons, List.map_nil, cat_i, cat_l, cat_r]) (by decide) rfl (fun E O F => ?_)
  refine tx_aload_n (pc := 0) 0 O dX6_back_0 rfl rfl ?_
  refine fX6_157 (pc := 1) O dX6_back_1 ?_
  refine tx_if_ne (pc := 4) 10 O dX6_back_4 rfl (by omega) (fun c4 => ?_) (fun c4 => ?_)
  · refine tx_aload_n (pc := 10) 0 O dX6_back_10 rfl rfl ?_
    refine tx_dup (pc := 11) O dX6_back_11 (cat_r _ _) ?_
    refine fX6_157 (pc := 12) O dX6_back_12 ?_
    refine tx_iconst (pc := 15) O dX6_back_15 ?_
    refine tx_isub (pc := 16) O dX6_back_16 ?_
    refine fX6_157p (pc := 17) O dX6_back_17 ?_
    refine tx_aload_n (pc := 20) 0 O dX6_back_20 rfl rfl ?_
    refine fX6_157 (pc := 21) O dX6_back_21 ?_
    rw [up_s]
    exact tx_iret O F dX6_back_24 (tx_QI.mk (Or.inr ⟨by omega, rfl, rfl⟩))
  · refine tx_bipush (pc := 7) O dX6_back_7 (by decide) ?_
    exact tx_iret O F dX6_back_9 (tx_QI.mk (Or.inl ⟨by omega, rfl, rfl⟩))
theorem sX6_ear (w : WT) (v : Int) (R M : TM) (hv : rng v) : tx_S w yX6_ear cX6_ear 3 (some .int) 2 [rV (wa w) 2, iV v] R M (QI R (fun z M' => ((v < 0 ∨ 12 < v) ∧ z = -2 ∧ M' = M) ∨ ((0 ≤ v ∧ v ≤ 12) ∧ z = M 2 14 ∧ M' = up M 2 14 v))) := by
  refine tx_S.ofk (lv := [(0, _), (1, _)]) [1, 1] (by decide) (by simp only [List.map_cons, List.map_nil, cat_i, cat_l, cat_r]) (by decide) rfl (fun E O F => ?_)
  refine tx_iload_n (pc := 0) 1 O dX6_ear_0 rfl rfl ?_
  refine tx_i2l (pc := 1) O dX6_ear_1 (by omega) ?_
  refine tx_lconst0 (pc := 2) O dX6_ear_2 ?_
  refine tx_ldc2 (pc := 3) (z := 12) O dX6_ear_3 q1024 rfl ?_
  refine tx_cS3 (pc := 6) O dX6_ear_6 q910 vX6_in (by decide) (Nat.zero_le _) (sX6_in w _ _ _ _ _ (by omega) (by omega) (by omega)) (k_P (fun z6 h6 => ?_))
  refine tx_if_ne (pc := 9) 15 O dX6_ear_9 rfl (by omega) (fun c9 => ?_) (fun c9 => ?_)
  · refine tx_aload_n (pc := 15) 0 O dX6_ear_15 rfl rfl ?_
    refine fX6_73 (pc := 16) O dX6_ear_16 ?_
    refine tx_istore_n (pc := 19) (lv' := [(2, _), (0, _), (1, _)]) O dX6_ear_19 rfl (by decide) rfl ?_
    refine tx_aload_n (pc := 20) 1 O dX6_ear_20 rfl rfl ?_
    refine tx_iload_n (pc := 21) 2 O dX6_ear_21 rfl rfl ?_
    refine fX6_73p (pc := 22) O dX6_ear_22 ?_
    refine tx_iload_n (pc := 25) 0 O dX6_ear_25 rfl rfl ?_
    exact tx_iret O F dX6_ear_26 (tx_QI.mk (Or.inr ⟨by omega, rfl, rfl⟩))
  · refine tx_bipush (pc := 12) O dX6_ear_12 (by decide) ?_
    exact tx_iret O F dX6_ear_14 (tx_QI.mk (Or.inl ⟨by omega, rfl, rfl⟩))

