/-! MODEL, turns: codes, figureOf, turns, notesNow, lend, longest, isNow, rowOf, who -/
set_option maxRecDepth 100000
theorem mP.bor {M : TM} {u : PU} (h : mP M u) : M 2 10 = uB u := h.2.2.1
theorem sX6_codes (w : WT) (n : Int) (R M : TM) (u : PU) (hu : mP M u) (hn : 0 ≤ n ∧ n ≤ 3) : tx_S w yX6_codes cX6_codes 4 (some .int) 1 [rV (wa w) 2, iV n] R M (QP R M (fun z => z = pw (uB u) n)) := by
  refine tx_S.ofk (lv := [(0, _), (1, _)]) [1, 1] (by decide) (by simp only [List.map_cons, List.map_nil, cat_i, cat_l, cat_r]) (by decide) rfl (fun E O F => ?_)
  have K : ∀ (i : Int) (M' : TM), (0 ≤ i ∧ i ≤ n ∧ M' = M) → tx_X w E 4 [(3, iV i), (2, iV (pw (uB u) i)), (0, rV (wa w) 2), (1, iV n)] [] R M' := by
    refine lp_up _ _ n ?_
    rintro i M' ⟨h1, h2, rfl⟩ ih
    refine tx_iload_n (pc := 4) 0 O dX6_codes_4 rfl rfl ?_
    refine tx_iload_n (pc := 5) 3 O dX6_codes_5 rfl rfl ?_
    refine tx_icmp_ge (pc := 6) 22 O dX6_codes_6 rfl (by omega) (fun c6 => ?_) (fun c6 => ?_)
    · refine tx_iload_n (pc := 22) 1 O dX6_codes_22 rfl rfl ?_
      exact tx_iret O F dX6_codes_23 (tx_QP.mk (by rw [show n = i by omega]))
    · refine tx_iload_n (pc := 9) 1 O dX6_codes_9 rfl rfl ?_
      refine tx_aload_n (pc := 10) 2 O dX6_codes_10 rfl rfl ?_
      refine fX6_122 (pc := 11) O dX6_codes_11 ?_
      rw [hu.bor]
      refine tx_imul (pc := 14) O dX6_codes_14 ?_
      refine tx_istore_n (pc := 15) (lv' := [(2, _), (3, _), (0, _), (1, _)]) O dX6_codes_15 rfl (by decide) rfl ?_
      refine tx_iinc (pc := 16) (lv' := [(3, _), (2, _), (0, _), (1, _)]) 1 O dX6_codes_16 rfl (by decide) rfl ?_
      refine tx_goto (pc := 19) 4 O dX6_codes_19 rfl ?_
      have := ih (i + 1) M' ⟨by omega, by omega, rfl⟩ (by omega) (by omega)
      rw [pw_1 _ h1] at this
      exact this
  refine tx_iconst (pc := 0) O dX6_codes_0 ?_
  refine tx_istore_n (pc := 1) (lv' := [(2, _), (0, _), (1, _)]) O dX6_codes_1 rfl (by decide) rfl ?_
  refine tx_iconst (pc := 2) O dX6_codes_2 ?_
  refine tx_istore_n (pc := 3) (lv' := [(3, _), (2, _), (0, _), (1, _)]) O dX6_codes_3 rfl (by decide) rfl ?_
  exact K 0 M ⟨by omega, hn.1, rfl⟩
theorem sX6_figureOf (w : WT) (code n i : Int) (R M : TM) (u : PU) (hu : mP M u) (hB : 0 < uB u) (hc : 0 ≤ code ∧ code ≤ 216) (hn : 1 ≤ n ∧ n ≤ 3) (hi : 0 ≤ i ∧ i < n) : tx_S w yX6_figureOf cX6_figureOf 6 (some .int) 1 [rV (wa w) 2, iV code, iV n, iV i] R M (QP R M (fun z => z = fig (uB u) code n i)) := by
  have hB6 := uB_ok hu.1.1
  refine tx_S.ofk (lv := [(0, _), (1, _), (2, _), (3, _)]) [1, 1, 1, 1] (by decide) (by simp only [List.map_cons, List.map_nil, cat_i, cat_l, cat_r]) (by decide) rfl (fun E O F => ?_)
  have K : ∀ (j : Int) (M' : TM), (0 ≤ j ∧ j ≤ n - 1 - i ∧ M' = M) → tx_X w E 8 [(5, iV (n - 1 - j)), (4, iV (itI (fun _ x => x / uB u) code j)), (0, rV (wa w) 2), (1, iV code), (2, iV n), (3, iV i)] [] R M' := by
    refine lp_up _ _ (n - 1 - i) ?_
    rintro j M' ⟨h1, h2, rfl⟩ ih
    have hb := fig_it hB hc.1 j h1
    have hst := itI_1 (fun _ x => x / uB u) code h1
    refine tx_iload (pc := 8) 0 O dX6_figureOf_8 rfl ?_
    refine tx_iload_n (pc := 10) 5 O dX6_figureOf_10 rfl rfl ?_
    refine tx_icmp_le (pc := 11) 29 O dX6_figureOf_11 rfl (by omega) (fun c11 => ?_) (fun c11 => ?_)
    · refine tx_iload (pc := 29) 1 O dX6_figureOf_29 rfl ?_
      refine tx_aload_n (pc := 31) 2 O dX6_figureOf_31 rfl rfl ?_
      refine fX6_122 (pc := 32) O dX6_figureOf_32 ?_
      rw [hu.bor]
      refine tx_irem (pc := 35) O dX6_figureOf_35 (by omega) (by omega) ?_
      exact tx_iret O F dX6_figureOf_36 (tx_QP.mk (by unfold fig; rw [show n - 1 - i = j by omega]))
    · refine tx_iload (pc := 14) 1 O dX6_figureOf_14 rfl ?_
      refine tx_aload_n (pc := 16) 2 O dX6_figureOf_16 rfl rfl ?_
      refine fX6_122 (pc := 17) O dX6_figureOf_17 ?_
      rw [hu.bor]
      refine tx_idiv (pc := 20) O dX6_figureOf_20 (by omega) (by omega) ?_
      refine tx_istore (pc := 21) (lv' := [(4, _), (5, _), (0, _), (1, _), (2, _), (3, _)]) O dX6_figureOf_21 (by decide) rfl ?_
      refine tx_iinc (pc := 23) (lv' := [(5, _), (4, _), (0, _), (1, _), (2, _), (3, _)]) 1 O dX6_figureOf_23 rfl (by decide) rfl ?_
      refine tx_goto (pc := 26) 8 O dX6_figureOf_26 rfl ?_
      have := ih (j + 1) M' ⟨by omega, by omega, rfl⟩ (by omega) (by omega)
      rw [hst] at this
      rw [show n - 1 - j + -1 = n - 1 - (j + 1) by omega]
      exact this
  refine tx_iload_n (pc := 0) 1 O dX6_figureOf_0 rfl rfl ?_
  refine tx_istore (pc := 1) (lv' := [(4, _), (0, _), (1, _), (2, _), (3, _)]) O dX6_figureOf_1 (by decide) rfl ?_
  refine tx_iload_n (pc := 3) 3 O dX6_figureOf_3 rfl rfl ?_
  refine tx_iconst (pc := 4) O dX6_figureOf_4 ?_
  refine tx_isub (pc := 5) O dX6_figureOf_5 ?_
  refine tx_istore (pc := 6) (lv' := [(5, _), (4, _), (0, _), (1, _), (2, _), (3, _)]) O dX6_figureOf_6 (by decide) rfl ?_
  have := K 0 M ⟨by omega, by omega, rfl⟩
  rw [show n - 1 - 0 = n - 1 by omega] at this
  exact this
theorem kpN.rf {s : Int} {M : TM} : kpN s M M := fun _ _ _ => rfl
theorem kpN.tr {s : Int} {M M' M'' : TM} (h : kpN s M M') (h' : kpN s M' M'') : kpN s M M'' := fun a b q => (h' a b q).trans (h a b q)
theorem sX6_turns (w : WT) (t code n : Int) (R M : TM) (u : PU) (hR : RL R) (hu : mP M u) (ht : 0 ≤ t ∧ t < (uT u).length) (hc : 0 ≤ code ∧ code ≤ 216) (hn : 0 ≤ n ∧ n ≤ 3) (hB : 0 < n → 0 < uB u) : tx_S w yX6_turns cX6_turns 5 none 3 [rV (wa w) 2, iV t, iV code, iV n] R M (QV R (fun M' => nowIs M' 6 (trn u t code n) ∧ kpN 6 M M')) := by
  have hok := hu.1.1
  have hT := uT_ok hok
  refine tx_S.ofk (lv := [(0, _), (1, _), (2, _), (3, _)]) [1, 1, 1, 1] (by decide) (by simp only [List.map_cons, List.map_nil, cat_i, cat_l, cat_r]) (by decide) rfl (fun E O F => ?_)
  have K : ∀ (i : Int) (M' : TM), (0 ≤ i ∧ i ≤ n ∧ nowIs M' 6 (turnP u code n (gl (uT u) t) i) ∧ kpN 6 M M') → tx_X w E 10 [(4, iV i), (0, rV (wa w) 2), (1, iV t), (2, iV code), (3, iV n)] [] R M' := by
    refine lp_up _ _ n ?_
    rintro i M' ⟨h1, h2, h3, h4⟩ ih
    have hu := hu.keep h4.r
    have hl : okN (turnP u code n (gl (uT u) t) i) := turnP_ok hok (okN_of (hT.2 _ (gl_mem ht.1 ht.2)).1) i h1 (fun q => hB (by omega))
    refine tx_iload (pc := 10) 0 O dX6_turns_10 rfl ?_
    refine tx_iload_n (pc := 12) 4 O dX6_turns_12 rfl rfl ?_
    refine tx_icmp_ge (pc := 13) 36 O dX6_turns_13 rfl (by omega) (fun c13 => ?_) (fun c13 => ?_)
    · exact tx_vret O F dX6_turns_36 (tx_QV.mk ⟨by unfold trn; rw [show n = i by omega] at h3 ⊢; exact h3, h4⟩)
    · have hB := hB (by omega)
      have hf := fig_ok (code := code) (n := n) (i := i) hB
      refine tx_aload_n (pc := 16) 1 O dX6_turns_16 rfl rfl ?_
      refine tx_bipush (pc := 17) O dX6_turns_17 (by decide) ?_
      refine tx_aload_n (pc := 19) 1 O dX6_turns_19 rfl rfl ?_
      refine tx_iload_n (pc := 20) 3 O dX6_turns_20 rfl rfl ?_
      refine tx_iload_n (pc := 21) 4 O dX6_turns_21 rfl rfl ?_
      refine tx_iload (pc := 22) 0 O dX6_turns_22 rfl ?_
      refine tx_cV3 (pc := 24) O dX6_turns_24 q1120 vX6_figureOf (sh_2 w) rfl (by decide) (by simp only [List.map_cons, List.map_nil, cat_i, cat_l, cat_r, List.sum_cons, List.sum_nil]; decide) (sX6_figureOf w _ _ _ _ _ u hu (by omega) (by omega) (by omega) (by omega)) (k_P (fun z24 h24 => ?_))
      subst h24
      refine tx_cV2 (pc := 27) O dX6_turns_27 q1053 vX6_hummed (sh_2 w) rfl (by decide) (Nat.zero_le _) (sX6_hummed w _ _ _ _ u _ hR hu hf (by omega) h3 hl) (k_V (fun M27 h27 => ?_))
      refine tx_iinc (pc := 30) (lv' := [(4, _), (0, _), (1, _), (2, _), (3, _)]) 0 O dX6_turns_30 rfl (by decide) rfl ?_
      refine tx_goto (pc := 33) 10 O dX6_turns_33 rfl ?_
      exact ih _ _ ⟨by omega, by omega, by rw [turnP_1 _ _ _ _ h1]; exact h27.1, h4.tr h27.2⟩ (by omega) (by omega)
  refine tx_aload_n (pc := 0) 0 O dX6_turns_0 rfl rfl ?_
  refine tx_iload_n (pc := 1) 1 O dX6_turns_1 rfl rfl ?_
  refine tx_bipush (pc := 2) O dX6_turns_2 (by decide) ?_
  refine tx_cV2 (pc := 4) O dX6_turns_4 q1041 vX6_begins (sh_2 w) rfl (by decide) (Nat.zero_le _) (sX6_begins w _ _ _ _ u hR hu ht (by omega)) (k_V (fun M4 h4 => ?_))
  refine tx_iconst (pc := 7) O dX6_turns_7 ?_
  refine tx_istore (pc := 8) (lv' := [(4, _), (0, _), (1, _), (2, _), (3, _)]) O dX6_turns_8 (by decide) rfl ?_
  exact K 0 _ ⟨by omega, hn.1, h4.1, h4.2⟩
theorem sX6_notesNow (w : WT) (R M : TM) (l : List Int) (hR : RL R) (hl : nowIs M 6 l) (hok : okN l) : tx_S w yX6_notesNow cX6_notesNow 3 (some .int) 1 [rV (wa w) 2] R M (QP R M (fun z => z = bitsP l)) := by
  have h40 := hok.1
  refine tx_S.ofk (lv := [(0, _)]) [1] (by decide) (by simp only [List.map_cons, List.map_nil, cat_i, cat_l, cat_r]) (by decide) rfl (fun E O F => ?_)
  have K : ∀ (i : Int) (M' : TM), (0 ≤ i ∧ i ≤ l.length ∧ M' = M) → tx_X w E 4 [(2, iV i), (1, iV (itI (fun i b => zor b (zshl 1 (ga l i))) 0 i)), (0, rV (wa w) 2)] [] R M' := by
    refine lp_up _ _ l.length ?_
    rintro i M' ⟨h1, h2, rfl⟩ ih
    have hst := itI_1 (fun i b => zor b (zshl 1 (ga l i))) 0 h1
    refine tx_iload_n (pc := 4) 0 O dX6_notesNow_4 rfl rfl ?_
    refine tx_aload_n (pc := 5) 2 O dX6_notesNow_5 rfl rfl ?_
    refine fX6_43 (pc := 6) O hR dX6_notesNow_6 ?_
    refine tx_bipush (pc := 9) O dX6_notesNow_9 (by decide) ?_
    refine tx_iald (pc := 11) _ O dX6_notesNow_11 (sh_116 w) (by omega) ?_
    rw [hl.1]
    refine tx_icmp_ge (pc := 12) 36 O dX6_notesNow_12 rfl (by omega) (fun c12 => ?_) (fun c12 => ?_)
    · refine tx_iload_n (pc := 36) 1 O dX6_notesNow_36 rfl rfl ?_
      exact tx_iret O F dX6_notesNow_37 (tx_QP.mk (by unfold bitsP; rw [show (l.length : Int) = i by omega]))
    · refine tx_iload_n (pc := 15) 1 O dX6_notesNow_15 rfl rfl ?_
      refine tx_iconst (pc := 16) O dX6_notesNow_16 ?_
      refine tx_aload_n (pc := 17) 2 O dX6_notesNow_17 rfl rfl ?_
      refine fX6_40 (pc := 18) O hR dX6_notesNow_18 ?_
      refine tx_sipush (pc := 21) O dX6_notesNow_21 (by decide) ?_
      refine tx_iload_n (pc := 24) 0 O dX6_notesNow_24 rfl rfl ?_
      refine tx_iadd (pc := 25) O dX6_notesNow_25 ?_
      refine tx_iald (pc := 26) _ O dX6_notesNow_26 (sh_115 w) (by omega) ?_
      rw [show (240 : Int) + i = 40 * 6 + i by omega, hl.2 i h1 c12]
      refine tx_ishl (pc := 27) O dX6_notesNow_27 ?_
      refine tx_ior (pc := 28) O dX6_notesNow_28 ?_
      refine tx_istore_n (pc := 29) (lv' := [(1, _), (2, _), (0, _)]) O dX6_notesNow_29 rfl (by decide) rfl ?_
      refine tx_iinc (pc := 30) (lv' := [(2, _), (1, _), (0, _)]) 1 O dX6_notesNow_30 rfl (by decide) rfl ?_
      refine tx_goto (pc := 33) 4 O dX6_notesNow_33 rfl ?_
      have := ih (i + 1) M' ⟨by omega, by omega, rfl⟩ (by omega) (by omega)
      rw [hst] at this
      exact this
  refine tx_iconst (pc := 0) O dX6_notesNow_0 ?_
  refine tx_istore_n (pc := 1) (lv' := [(1, _), (0, _)]) O dX6_notesNow_1 rfl (by decide) rfl ?_
  refine tx_iconst (pc := 2) O dX6_notesNow_2 ?_
  refine tx_istore_n (pc := 3) (lv' := [(2, _), (1, _), (0, _)]) O dX6_notesNow_3 rfl (by decide) rfl ?_
  exact K 0 M ⟨by omega, by omega, rfl⟩
theorem sX6_lendOf (w : WT) (t wish i : Int) (R M : TM) (u : PU) (hR : RL R) (hu : mP M u) (ht : 0 ≤ t ∧ t < (uT u).length) (hw : rng wish) (hi : -1 ≤ i ∧ i ≤ 2) : tx_S w yX6_lendOf cX6_lendOf 6 (some .int) 4 [rV (wa w) 2, iV t, iV wish, iV i] R M (QI R (fun z M' => z = lendP u t wish i ∧ kpR M M')) := by
  have hok := hu.1.1
  have hD1 := (uT_ok hok).1
  have hB6 := uB_ok hok
  refine tx_S.ofk (lv := [(0, _), (1, _), (2, _), (3, _)]) [1, 1, 1, 1] (by decide) (by simp only [List.map_cons, List.map_nil, cat_i, cat_l, cat_r]) (by decide) rfl (fun E O F => ?_)
  have K1 : ∀ (n : Int) (M' : TM), (0 ≤ n ∧ n ≤ 4 ∧ itI (lendR u t wish i) (0, -1) n = (0, -1) ∧ kpN 6 M M') → tx_X w E 3 [(4, iV n), (0, rV (wa w) 2), (1, iV t), (2, iV wish), (3, iV i)] [] R M' := by
    refine lp_up _ _ 4 ?_
    rintro n M' ⟨h1, h2, h3, h4⟩ ih
    have K2 : n < 4 → ∀ (c : Int) (M2 : TM), (0 ≤ c ∧ c ≤ pw (uB u) n ∧ itI (lendI u t wish i n) (0, -1) c = (0, -1) ∧ kpN 6 M M2) → tx_X w E 12 [(5, iV c), (4, iV n), (0, rV (wa w) 2), (1, iV t), (2, iV wish), (3, iV i)] [] R M2 := by
      intro hn4
      have hp := pw_ok hB6 (n := n) (by omega)
      refine lp_up _ _ (pw (uB u) n) ?_
      rintro c M2 ⟨g1, g2, g3, g4⟩ ih2
      have hu := hu.keep g4.r
      refine tx_iload (pc := 12) 0 O dX6_lendOf_12 rfl ?_
      refine tx_aload_n (pc := 14) 2 O dX6_lendOf_14 rfl rfl ?_
      refine tx_iload (pc := 15) 1 O dX6_lendOf_15 rfl ?_
      refine tx_cV1 (pc := 17) O dX6_lendOf_17 q1112 vX6_codes (sh_2 w) rfl (by decide) (Nat.le_of_ble_eq_true rfl) (sX6_codes w _ _ _ u hu (by omega)) (k_P (fun z17 h17 => ?_))
      subst h17
      refine tx_icmp_ge (pc := 20) 79 O dX6_lendOf_20 rfl (by omega) (fun c20 => ?_) (fun c20 => ?_)
      · refine tx_iinc (pc := 79) (lv' := [(4, _), (5, _), (0, _), (1, _), (2, _), (3, _)]) 1 O dX6_lendOf_79 rfl (by decide) rfl ?_
        refine tx_goto (pc := 82) 3 O dX6_lendOf_82 rfl ?_
        refine tx_lv (lv' := [(4, _), (0, _), (1, _), (2, _), (3, _)]) [0, 2, 3, 4, 5] rfl ?_
        exact ih _ _ ⟨by omega, by omega, lendR_no h1 h3 (by rw [show pw (uB u) n = c by omega]; exact g3), g4⟩ (by omega) (by omega)
      · have hB : 0 < n → 0 < uB u := fun q => by
          rcases (show uB u = 0 ∨ 0 < uB u by omega) with e | e
          · have := hp.2.2 e q; omega
          · exact e
        have hl : okN (trn u t c n) := trn_ok hok ht h1 hB
        refine tx_aload_n (pc := 23) 2 O dX6_lendOf_23 rfl rfl ?_
        refine tx_iload_n (pc := 24) 3 O dX6_lendOf_24 rfl rfl ?_
        refine tx_iload (pc := 25) 0 O dX6_lendOf_25 rfl ?_
        refine tx_iload (pc := 27) 1 O dX6_lendOf_27 rfl ?_
        refine tx_cV3 (pc := 29) O dX6_lendOf_29 q1116 vX6_turns (sh_2 w) rfl (by decide) (Nat.zero_le _) (sX6_turns w _ _ _ _ _ u hR hu ht (by omega) (by omega) hB) (k_V (fun M29 h29 => ?_))
        obtain ⟨k1, k2⟩ := h29
        have hu := hu.keep k2.r
        refine tx_iload_n (pc := 32) 4 O dX6_lendOf_32 rfl rfl ?_
        refine tx_aload_n (pc := 33) 2 O dX6_lendOf_33 rfl rfl ?_
        refine tx_cV0 (pc := 34) O dX6_lendOf_34 q1124 vX6_notesNow (sh_2 w) rfl (by decide) (Nat.le_of_ble_eq_true rfl) (sX6_notesNow w _ _ _ hR k1 hl) (k_P (fun z34 h34 => ?_))
        subst h34
        refine tx_iconst (pc := 37) O dX6_lendOf_37 ?_
        refine tx_ixor (pc := 38) O dX6_lendOf_38 ?_
        refine tx_iand (pc := 39) O dX6_lendOf_39 ?_
        refine tx_if_ne (pc := 40) 73 O dX6_lendOf_40 rfl (rng_zand _ _) (fun c40 => ?_) (fun c40 => ?_)
        · refine tx_iinc (pc := 73) (lv' := [(5, _), (4, _), (0, _), (1, _), (2, _), (3, _)]) 0 O dX6_lendOf_73 rfl (by decide) rfl ?_
          refine tx_goto (pc := 76) 12 O dX6_lendOf_76 rfl ?_
          exact ih2 _ _ ⟨by omega, by omega, lendI_no g1 g3 c40, g4.tr k2⟩ (by omega) (by omega)
        · have hfo := lendP_found ⟨h1, hn4⟩ ⟨g1, c20⟩ h3 g3 c40
          refine tx_iload_n (pc := 43) 5 O dX6_lendOf_43 rfl rfl ?_
          refine tx_iconst (pc := 44) O dX6_lendOf_44 ?_
          refine tx_icmp_ne (pc := 45) 53 O dX6_lendOf_45 rfl (by omega) (fun c45 => ?_) (fun c45 => ?_)
          · refine tx_iload_n (pc := 53) 5 O dX6_lendOf_53 rfl rfl ?_
            refine tx_iload (pc := 54) 1 O dX6_lendOf_54 rfl ?_
            refine tx_icmp_ge (pc := 56) 71 O dX6_lendOf_56 rfl (by omega) (fun c56 => ?_) (fun c56 => ?_)
            · refine tx_iconst (pc := 71) O dX6_lendOf_71 ?_
              exact tx_iret O F dX6_lendOf_72 (tx_QI.mk ⟨by rw [hfo]; unfold lendV; first | rw [if_pos c45] | (rw [if_neg c45, if_pos c56]; exact h65) | rw [if_neg c45, if_neg (by omega)], (g4.tr k2).r⟩)
            · refine tx_aload_n (pc := 59) 2 O dX6_lendOf_59 rfl rfl ?_
              refine tx_iload (pc := 60) 0 O dX6_lendOf_60 rfl ?_
              refine tx_iload (pc := 62) 1 O dX6_lendOf_62 rfl ?_
              refine tx_iload_n (pc := 64) 5 O dX6_lendOf_64 rfl rfl ?_
              refine tx_cV3 (pc := 65) O dX6_lendOf_65 q1120 vX6_figureOf (sh_2 w) rfl (by decide) (Nat.zero_le _) (sX6_figureOf w _ _ _ _ _ u hu (hB (by omega)) (by omega) (by omega) (by omega)) (k_P (fun z65 h65 => ?_))
              refine tx_goto (pc := 68) 72 O dX6_lendOf_68 rfl ?_
              exact tx_iret O F dX6_lendOf_72 (tx_QI.mk ⟨by rw [hfo]; unfold lendV; first | rw [if_pos c45] | (rw [if_neg c45, if_pos c56]; exact h65) | rw [if_neg c45, if_neg (by omega)], (g4.tr k2).r⟩)
          · refine tx_iload (pc := 48) 1 O dX6_lendOf_48 rfl ?_
            refine tx_goto (pc := 50) 72 O dX6_lendOf_50 rfl ?_
            exact tx_iret O F dX6_lendOf_72 (tx_QI.mk ⟨by rw [hfo]; unfold lendV; first | rw [if_pos c45] | (rw [if_neg c45, if_pos c56]; exact h65) | rw [if_neg c45, if_neg (by omega)], (g4.tr k2).r⟩)
    refine tx_iload (pc := 3) 0 O dX6_lendOf_3 rfl ?_
    refine tx_iconst (pc := 5) O dX6_lendOf_5 ?_
    refine tx_icmp_ge (pc := 6) 85 O dX6_lendOf_6 rfl (by omega) (fun c6 => ?_) (fun c6 => ?_)
    · refine tx_iconst (pc := 85) O dX6_lendOf_85 ?_
      exact tx_iret O F dX6_lendOf_86 (tx_QI.mk ⟨by unfold lendP; rw [show (4 : Int) = n by omega, h3], h4.r⟩)
    · refine tx_iconst (pc := 9) O dX6_lendOf_9 ?_
      refine tx_istore (pc := 10) (lv' := [(5, _), (4, _), (0, _), (1, _), (2, _), (3, _)]) O dX6_lendOf_10 (by decide) rfl ?_
      exact K2 c6 0 _ ⟨by omega, (pw_ok hB6 (n := n) (by omega)).1, rfl, h4⟩
  refine tx_iconst (pc := 0) O dX6_lendOf_0 ?_
  refine tx_istore (pc := 1) (lv' := [(4, _), (0, _), (1, _), (2, _), (3, _)]) O dX6_lendOf_1 (by decide) rfl ?_
  exact K1 0 M ⟨by omega, by omega, rfl, kpN.rf⟩
theorem sX6_lend (w : WT) (t wish i : Int) (R M : TM) (u : PU) (hR : RL R) (hu : mT M u) (ht : rng t) (hw : rng wish) (hi : rng i) : tx_S w yX6_lend cX6_lend 4 (some .int) 5 [rV (wa w) 2, iV t, iV wish, iV i] R M (QI R (fun z M' => ((t < 0 ∨ (uT u).length ≤ t ∨ wish < 0 ∨ 127 < wish ∨ i < -1 ∨ 2 < i) ∧ z = -2 ∨ (0 ≤ t ∧ t < (uT u).length ∧ 0 ≤ wish ∧ wish ≤ 127 ∧ -1 ≤ i ∧ i ≤ 2) ∧ z = lendP u t wish i) ∧ kpQ M M')) := by
  refine tx_S.ofk (lv := [(0, _), (1, _), (2, _), (3, _)]) [1, 1, 1, 1] (by decide) (by simp only [List.map_cons, List.map_nil, cat_i, cat_l, cat_r]) (by decide) rfl (fun E O F => ?_)
  refine tx_aload_n (pc := 0) 0 O dX6_lend_0 rfl rfl ?_
  refine tx_cV0 (pc := 1) O dX6_lend_1 q983 vX6_reads (sh_2 w) rfl (by decide) (Nat.zero_le _) (sX6_reads w _ _ u hR hu) (k_V (fun M1 h1 => ?_))
  obtain ⟨hu, hk⟩ := h1
  refine tx_aload_n (pc := 4) 0 O dX6_lend_4 rfl rfl ?_
  refine tx_iload_n (pc := 5) 1 O dX6_lend_5 rfl rfl ?_
  refine tx_cV1 (pc := 6) O dX6_lend_6 q987 vX6_isTune (sh_2 w) rfl (by decide) (Nat.zero_le _) (sX6_isTune w _ _ _ u hu (by omega)) (k_P (fun z6 h6 => ?_))
  refine tx_if_eq (pc := 9) 48 O dX6_lend_9 rfl (by omega) (fun c9 => ?_) (fun c9 => ?_)
  · refine tx_bipush (pc := 48) O dX6_lend_48 (by decide) ?_
    exact tx_iret O F dX6_lend_50 (tx_QI.mk (by first | exact ⟨Or.inr ⟨by omega, h42.1⟩, hk.tr h42.2.q⟩ | exact ⟨Or.inl ⟨by omega, rfl⟩, hk⟩))
  · refine tx_iload_n (pc := 12) 2 O dX6_lend_12 rfl rfl ?_
    refine tx_i2l (pc := 13) O dX6_lend_13 (by omega) ?_
    refine tx_lconst0 (pc := 14) O dX6_lend_14 ?_
    refine tx_ldc2 (pc := 15) (z := 127) O dX6_lend_15 q1107 rfl ?_
    refine tx_cS3 (pc := 18) O dX6_lend_18 q910 vX6_in (by decide) (Nat.zero_le _) (sX6_in w _ _ _ _ _ (by omega) (by omega) (by omega)) (k_P (fun z18 h18 => ?_))
    refine tx_if_eq (pc := 21) 48 O dX6_lend_21 rfl (by omega) (fun c21 => ?_) (fun c21 => ?_)
    · refine tx_bipush (pc := 48) O dX6_lend_48 (by decide) ?_
      exact tx_iret O F dX6_lend_50 (tx_QI.mk (by first | exact ⟨Or.inr ⟨by omega, h42.1⟩, hk.tr h42.2.q⟩ | exact ⟨Or.inl ⟨by omega, rfl⟩, hk⟩))
    · refine tx_iload_n (pc := 24) 3 O dX6_lend_24 rfl rfl ?_
      refine tx_i2l (pc := 25) O dX6_lend_25 (by omega) ?_
      refine tx_ldc2 (pc := 26) (z := -1) O dX6_lend_26 q991 rfl ?_
      refine tx_ldc2 (pc := 29) (z := 2) O dX6_lend_29 q913 rfl ?_
      refine tx_cS3 (pc := 32) O dX6_lend_32 q910 vX6_in (by decide) (Nat.zero_le _) (sX6_in w _ _ _ _ _ (by omega) (by omega) (by omega)) (k_P (fun z32 h32 => ?_))
      refine tx_if_eq (pc := 35) 48 O dX6_lend_35 rfl (by omega) (fun c35 => ?_) (fun c35 => ?_)
      · refine tx_bipush (pc := 48) O dX6_lend_48 (by decide) ?_
        exact tx_iret O F dX6_lend_50 (tx_QI.mk (by first | exact ⟨Or.inr ⟨by omega, h42.1⟩, hk.tr h42.2.q⟩ | exact ⟨Or.inl ⟨by omega, rfl⟩, hk⟩))
      · refine tx_aload_n (pc := 38) 0 O dX6_lend_38 rfl rfl ?_
        refine tx_iload_n (pc := 39) 1 O dX6_lend_39 rfl rfl ?_
        refine tx_iload_n (pc := 40) 2 O dX6_lend_40 rfl rfl ?_
        refine tx_iload_n (pc := 41) 3 O dX6_lend_41 rfl rfl ?_
        refine tx_cV3 (pc := 42) O dX6_lend_42 q1108 vX6_lendOf (sh_2 w) rfl (by decide) (Nat.zero_le _) (sX6_lendOf w _ _ _ _ _ u hR hu (by omega) (by omega) (by omega)) (k_I (fun z42 M42 h42 => ?_))
        refine tx_goto (pc := 45) 50 O dX6_lend_45 rfl ?_
        exact tx_iret O F dX6_lend_50 (tx_QI.mk (by first | exact ⟨Or.inr ⟨by omega, h42.1⟩, hk.tr h42.2.q⟩ | exact ⟨Or.inl ⟨by omega, rfl⟩, hk⟩))
theorem sX6_longestOf (w : WT) (t n i : Int) (R M : TM) (u : PU) (hR : RL R) (hu : mP M u) (ht : 0 ≤ t ∧ t < (uT u).length) (hn : 1 ≤ n ∧ n ≤ 3) (hi : -1 ≤ i ∧ i < n) : tx_S w yX6_longestOf cX6_longestOf 7 (some .int) 4 [rV (wa w) 2, iV t, iV n, iV i] R M (QI R (fun z M' => z = longP u t n i ∧ kpR M M')) := by
  have hok := hu.1.1
  have hD1 := (uT_ok hok).1
  have hB6 := uB_ok hok
  have hp := pw_ok hB6 (n := n) (by omega)
  refine tx_S.ofk (lv := [(0, _), (1, _), (2, _), (3, _)]) [1, 1, 1, 1] (by decide) (by simp only [List.map_cons, List.map_nil, cat_i, cat_l, cat_r]) (by decide) rfl (fun E O F => ?_)
  have K : ∀ (c : Int) (M' : TM), (0 ≤ c ∧ c ≤ pw (uB u) n ∧ kpN 6 M M') → tx_X w E 9 [(6, iV c), (5, iV (itI (longI u t n) (-1, -1) c).2), (4, iV (itI (longI u t n) (-1, -1) c).1), (0, rV (wa w) 2), (1, iV t), (2, iV n), (3, iV i)] [] R M' := by
    refine lp_up _ _ (pw (uB u) n) ?_
    rintro c M' ⟨h1, h2, h3⟩ ih
    have hu := hu.keep h3.r
    have hlo := longI_ok hok ht (n := n) (by omega) c h1 h2
    have hst := itI_1 (longI u t n) (-1, -1) h1
    have S : c < pw (uB u) n → ∀ (b m : Int) (M2 : TM), longI u t n c (itI (longI u t n) (-1, -1) c) = (b, m) → kpN 6 M M2 → tx_X w E 9 [(6, iV (c + 1)), (5, iV m), (4, iV b), (0, rV (wa w) 2), (1, iV t), (2, iV n), (3, iV i)] [] R M2 := by
      intro q b m M2 q1 q2
      have := ih (c + 1) M2 ⟨by omega, by omega, q2⟩ (by omega) (by omega)
      rw [hst, q1] at this
      exact this
    have hfin : ¬ c < pw (uB u) n → longP u t n i = if (itI (longI u t n) (-1, -1) c).1 = -1 then -1 else if i = -1 then (itI (longI u t n) (-1, -1) c).2 else fig (uB u) (itI (longI u t n) (-1, -1) c).1 n i := by
      intro q
      unfold longP
      rw [show pw (uB u) n = c by omega]
    clear ih hst
    generalize itI (longI u t n) (-1, -1) c = s at hlo S hfin ⊢
    obtain ⟨b, m⟩ := s
    dsimp only at hlo S hfin ⊢
    refine tx_iload (pc := 9) 0 O dX6_longestOf_9 rfl ?_
    refine tx_aload_n (pc := 11) 3 O dX6_longestOf_11 rfl rfl ?_
    refine tx_iload_n (pc := 12) 5 O dX6_longestOf_12 rfl rfl ?_
    refine tx_cV1 (pc := 13) O dX6_longestOf_13 q1112 vX6_codes (sh_2 w) rfl (by decide) (Nat.le_of_ble_eq_true rfl) (sX6_codes w _ _ _ u hu (by omega)) (k_P (fun z13 h13 => ?_))
    subst h13
    refine tx_icmp_ge (pc := 16) 68 O dX6_longestOf_16 rfl (by omega) (fun c16 => ?_) (fun c16 => ?_)
    · have hfin := hfin (by omega)
      refine tx_iload (pc := 68) 2 O dX6_longestOf_68 rfl ?_
      refine tx_iconst (pc := 70) O dX6_longestOf_70 ?_
      refine tx_icmp_ne (pc := 71) 78 O dX6_longestOf_71 rfl (by omega) (fun c71 => ?_) (fun c71 => ?_)
      · refine tx_iload_n (pc := 78) 6 O dX6_longestOf_78 rfl rfl ?_
        refine tx_iconst (pc := 79) O dX6_longestOf_79 ?_
        refine tx_icmp_ne (pc := 80) 88 O dX6_longestOf_80 rfl (by omega) (fun c80 => ?_) (fun c80 => ?_)
        · refine tx_aload_n (pc := 88) 3 O dX6_longestOf_88 rfl rfl ?_
          refine tx_iload (pc := 89) 2 O dX6_longestOf_89 rfl ?_
          refine tx_iload_n (pc := 91) 5 O dX6_longestOf_91 rfl rfl ?_
          refine tx_iload_n (pc := 92) 6 O dX6_longestOf_92 rfl rfl ?_
          refine tx_cV3 (pc := 93) O dX6_longestOf_93 q1120 vX6_figureOf (sh_2 w) rfl (by decide) (Nat.zero_le _) (sX6_figureOf w _ _ _ _ _ u hu (by omega) (by omega) (by omega) (by omega)) (k_P (fun z93 h93 => ?_))
          exact tx_iret O F dX6_longestOf_96 (tx_QI.mk ⟨by rw [hfin]; first | rw [if_pos c71] | rw [if_neg c71, if_pos c80] | (rw [if_neg c71, if_neg c80]; exact h93), h3.r⟩)
        · have hB : 0 < uB u := by
            rcases (show uB u = 0 ∨ 0 < uB u by omega) with e | e
            · have := hp.2.2 e (by omega); omega
            · exact e
          refine tx_iload (pc := 83) 1 O dX6_longestOf_83 rfl ?_
          refine tx_goto (pc := 85) 96 O dX6_longestOf_85 rfl ?_
          exact tx_iret O F dX6_longestOf_96 (tx_QI.mk ⟨by rw [hfin]; first | rw [if_pos c71] | rw [if_neg c71, if_pos c80] | (rw [if_neg c71, if_neg c80]; exact h93), h3.r⟩)
      · refine tx_iconst (pc := 74) O dX6_longestOf_74 ?_
        refine tx_goto (pc := 75) 96 O dX6_longestOf_75 rfl ?_
        exact tx_iret O F dX6_longestOf_96 (tx_QI.mk ⟨by rw [hfin]; first | rw [if_pos c71] | rw [if_neg c71, if_pos c80] | (rw [if_neg c71, if_neg c80]; exact h93), h3.r⟩)
    · have hB : 0 < uB u := by
        rcases (show uB u = 0 ∨ 0 < uB u by omega) with e | e
        · have := hp.2.2 e (by omega); omega
        · exact e
      have hl : okN (trn u t c n) := trn_ok hok ht (by omega) (fun _ => hB)
      have hl1 := hl.1
      refine tx_aload_n (pc := 19) 3 O dX6_longestOf_19 rfl rfl ?_
      refine tx_iload_n (pc := 20) 4 O dX6_longestOf_20 rfl rfl ?_
      refine tx_iload (pc := 21) 0 O dX6_longestOf_21 rfl ?_
      refine tx_iload_n (pc := 23) 5 O dX6_longestOf_23 rfl rfl ?_
      refine tx_cV3 (pc := 24) O dX6_longestOf_24 q1116 vX6_turns (sh_2 w) rfl (by decide) (Nat.zero_le _) (sX6_turns w _ _ _ _ _ u hR hu ht (by omega) (by omega) (fun _ => hB)) (k_V (fun M24 h24 => ?_))
      obtain ⟨k1, k2⟩ := h24
      have hu := hu.keep k2.r
      refine tx_aload_n (pc := 27) 3 O dX6_longestOf_27 rfl rfl ?_
      refine fX6_43 (pc := 28) O hR dX6_longestOf_28 ?_
      refine tx_bipush (pc := 31) O dX6_longestOf_31 (by decide) ?_
      refine tx_iald (pc := 33) _ O dX6_longestOf_33 (sh_116 w) (by omega) ?_
      rw [k1.1]
      refine tx_iload (pc := 34) 1 O dX6_longestOf_34 rfl ?_
      refine tx_icmp_le (pc := 36) 44 O dX6_longestOf_36 rfl (by omega) (fun c36 => ?_) (fun c36 => ?_)
      · refine tx_iload (pc := 44) 2 O dX6_longestOf_44 rfl ?_
        refine tx_istore (pc := 46) (lv' := [(4, _), (6, _), (5, _), (0, _), (1, _), (2, _), (3, _)]) O dX6_longestOf_46 (by decide) rfl ?_
        refine tx_aload_n (pc := 48) 3 O dX6_longestOf_48 rfl rfl ?_
        refine fX6_43 (pc := 49) O hR dX6_longestOf_49 ?_
        refine tx_bipush (pc := 52) O dX6_longestOf_52 (by decide) ?_
        refine tx_iald (pc := 54) _ O dX6_longestOf_54 (sh_116 w) (by omega) ?_
        rw [k1.1]
        refine tx_iload (pc := 55) 2 O dX6_longestOf_55 rfl ?_
        refine tx_cS2 (pc := 57) O dX6_longestOf_57 q1068 vX6_greater (by decide) (Nat.zero_le _) (sX6_greater w _ _ _ _ (by omega)) (k_P (fun z57 h57 => ?_))
        subst h57
        refine tx_istore (pc := 60) (lv' := [(5, _), (4, _), (6, _), (0, _), (1, _), (2, _), (3, _)]) O dX6_longestOf_60 (by decide) rfl ?_
        refine tx_iinc (pc := 62) (lv' := [(6, _), (5, _), (4, _), (0, _), (1, _), (2, _), (3, _)]) 2 O dX6_longestOf_62 rfl (by decide) rfl ?_
        refine tx_goto (pc := 65) 9 O dX6_longestOf_65 rfl ?_
        refine S c16 _ _ _ ?_ (h3.tr k2)
        unfold longI
        dsimp only
        first
          | rw [if_pos (by omega), Int.max_comm]
          | rw [if_neg (by omega), Int.max_comm]
      · refine tx_iload (pc := 39) 0 O dX6_longestOf_39 rfl ?_
        refine tx_goto (pc := 41) 46 O dX6_longestOf_41 rfl ?_
        refine tx_istore (pc := 46) (lv' := [(4, _), (6, _), (5, _), (0, _), (1, _), (2, _), (3, _)]) O dX6_longestOf_46 (by decide) rfl ?_
        refine tx_aload_n (pc := 48) 3 O dX6_longestOf_48 rfl rfl ?_
        refine fX6_43 (pc := 49) O hR dX6_longestOf_49 ?_
        refine tx_bipush (pc := 52) O dX6_longestOf_52 (by decide) ?_
        refine tx_iald (pc := 54) _ O dX6_longestOf_54 (sh_116 w) (by omega) ?_
        rw [k1.1]
        refine tx_iload (pc := 55) 2 O dX6_longestOf_55 rfl ?_
        refine tx_cS2 (pc := 57) O dX6_longestOf_57 q1068 vX6_greater (by decide) (Nat.zero_le _) (sX6_greater w _ _ _ _ (by omega)) (k_P (fun z57 h57 => ?_))
        subst h57
        refine tx_istore (pc := 60) (lv' := [(5, _), (4, _), (6, _), (0, _), (1, _), (2, _), (3, _)]) O dX6_longestOf_60 (by decide) rfl ?_
        refine tx_iinc (pc := 62) (lv' := [(6, _), (5, _), (4, _), (0, _), (1, _), (2, _), (3, _)]) 2 O dX6_longestOf_62 rfl (by decide) rfl ?_
        refine tx_goto (pc := 65) 9 O dX6_longestOf_65 rfl ?_
        refine S c16 _ _ _ ?_ (h3.tr k2)
        unfold longI
        dsimp only
        first
          | rw [if_pos (by omega), Int.max_comm]
          | rw [if_neg (by omega), Int.max_comm]
  refine tx_iconst (pc := 0) O dX6_longestOf_0 ?_
  refine tx_istore (pc := 1) (lv' := [(4, _), (0, _), (1, _), (2, _), (3, _)]) O dX6_longestOf_1 (by decide) rfl ?_
  refine tx_iconst (pc := 3) O dX6_longestOf_3 ?_
  refine tx_istore (pc := 4) (lv' := [(5, _), (4, _), (0, _), (1, _), (2, _), (3, _)]) O dX6_longestOf_4 (by decide) rfl ?_
  refine tx_iconst (pc := 6) O dX6_longestOf_6 ?_
  refine tx_istore (pc := 7) (lv' := [(6, _), (5, _), (4, _), (0, _), (1, _), (2, _), (3, _)]) O dX6_longestOf_7 (by decide) rfl ?_
  exact K 0 M ⟨by omega, hp.1, kpN.rf⟩
theorem sX6_longest (w : WT) (t n i : Int) (R M : TM) (u : PU) (hR : RL R) (hu : mT M u) (ht : rng t) (hn : rng n) (hi : rng i) : tx_S w yX6_longest cX6_longest 4 (some .int) 5 [rV (wa w) 2, iV t, iV n, iV i] R M (QI R (fun z M' => ((t < 0 ∨ (uT u).length ≤ t ∨ n < 1 ∨ 3 < n ∨ i < -1 ∨ n ≤ i) ∧ z = -2 ∨ (0 ≤ t ∧ t < (uT u).length ∧ 1 ≤ n ∧ n ≤ 3 ∧ -1 ≤ i ∧ i < n) ∧ z = longP u t n i) ∧ kpQ M M')) := by
  refine tx_S.ofk (lv := [(0, _), (1, _), (2, _), (3, _)]) [1, 1, 1, 1] (by decide) (by simp only [List.map_cons, List.map_nil, cat_i, cat_l, cat_r]) (by decide) rfl (fun E O F => ?_)
  refine tx_aload_n (pc := 0) 0 O dX6_longest_0 rfl rfl ?_
  refine tx_cV0 (pc := 1) O dX6_longest_1 q983 vX6_reads (sh_2 w) rfl (by decide) (Nat.zero_le _) (sX6_reads w _ _ u hR hu) (k_V (fun M1 h1 => ?_))
  obtain ⟨hu, hk⟩ := h1
  refine tx_aload_n (pc := 4) 0 O dX6_longest_4 rfl rfl ?_
  refine tx_iload_n (pc := 5) 1 O dX6_longest_5 rfl rfl ?_
  refine tx_cV1 (pc := 6) O dX6_longest_6 q987 vX6_isTune (sh_2 w) rfl (by decide) (Nat.zero_le _) (sX6_isTune w _ _ _ u hu (by omega)) (k_P (fun z6 h6 => ?_))
  refine tx_if_eq (pc := 9) 49 O dX6_longest_9 rfl (by omega) (fun c9 => ?_) (fun c9 => ?_)
  · refine tx_bipush (pc := 49) O dX6_longest_49 (by decide) ?_
    exact tx_iret O F dX6_longest_51 (tx_QI.mk (by first | exact ⟨Or.inr ⟨by omega, h43.1⟩, hk.tr h43.2.q⟩ | exact ⟨Or.inl ⟨by omega, rfl⟩, hk⟩))
  · refine tx_iload_n (pc := 12) 2 O dX6_longest_12 rfl rfl ?_
    refine tx_i2l (pc := 13) O dX6_longest_13 (by omega) ?_
    refine tx_lconst1 (pc := 14) O dX6_longest_14 ?_
    refine tx_ldc2 (pc := 15) (z := 3) O dX6_longest_15 q909 rfl ?_
    refine tx_cS3 (pc := 18) O dX6_longest_18 q910 vX6_in (by decide) (Nat.zero_le _) (sX6_in w _ _ _ _ _ (by omega) (by omega) (by omega)) (k_P (fun z18 h18 => ?_))
    refine tx_if_eq (pc := 21) 49 O dX6_longest_21 rfl (by omega) (fun c21 => ?_) (fun c21 => ?_)
    · refine tx_bipush (pc := 49) O dX6_longest_49 (by decide) ?_
      exact tx_iret O F dX6_longest_51 (tx_QI.mk (by first | exact ⟨Or.inr ⟨by omega, h43.1⟩, hk.tr h43.2.q⟩ | exact ⟨Or.inl ⟨by omega, rfl⟩, hk⟩))
    · refine tx_iload_n (pc := 24) 3 O dX6_longest_24 rfl rfl ?_
      refine tx_i2l (pc := 25) O dX6_longest_25 (by omega) ?_
      refine tx_ldc2 (pc := 26) (z := -1) O dX6_longest_26 q991 rfl ?_
      refine tx_iload_n (pc := 29) 2 O dX6_longest_29 rfl rfl ?_
      refine tx_iconst (pc := 30) O dX6_longest_30 ?_
      refine tx_isub (pc := 31) O dX6_longest_31 ?_
      refine tx_i2l (pc := 32) O dX6_longest_32 (by omega) ?_
      refine tx_cS3 (pc := 33) O dX6_longest_33 q910 vX6_in (by decide) (Nat.zero_le _) (sX6_in w _ _ _ _ _ (by omega) (by omega) (by omega)) (k_P (fun z33 h33 => ?_))
      refine tx_if_eq (pc := 36) 49 O dX6_longest_36 rfl (by omega) (fun c36 => ?_) (fun c36 => ?_)
      · refine tx_bipush (pc := 49) O dX6_longest_49 (by decide) ?_
        exact tx_iret O F dX6_longest_51 (tx_QI.mk (by first | exact ⟨Or.inr ⟨by omega, h43.1⟩, hk.tr h43.2.q⟩ | exact ⟨Or.inl ⟨by omega, rfl⟩, hk⟩))
      · refine tx_aload_n (pc := 39) 0 O dX6_longest_39 rfl rfl ?_
        refine tx_iload_n (pc := 40) 1 O dX6_longest_40 rfl rfl ?_
        refine tx_iload_n (pc := 41) 2 O dX6_longest_41 rfl rfl ?_
        refine tx_iload_n (pc := 42) 3 O dX6_longest_42 rfl rfl ?_
        refine tx_cV3 (pc := 43) O dX6_longest_43 q1132 vX6_longestOf (sh_2 w) rfl (by decide) (Nat.zero_le _) (sX6_longestOf w _ _ _ _ _ u hR hu (by omega) (by omega) (by omega)) (k_I (fun z43 M43 h43 => ?_))
        refine tx_goto (pc := 46) 51 O dX6_longest_46 rfl ?_
        exact tx_iret O F dX6_longest_51 (tx_QI.mk (by first | exact ⟨Or.inr ⟨by omega, h43.1⟩, hk.tr h43.2.q⟩ | exact ⟨Or.inl ⟨by omega, rfl⟩, hk⟩))

