/-! MODEL: who, common, far, nearest, mothers, tells, loses, best -/
set_option maxRecDepth 100000
theorem sX6_isNow (w : WT) (t : Int) (R M : TM) (u : PU) (l : List Int) (hR : RL R) (hu : mP M u) (ht : 0 ≤ t ∧ t < (uT u).length) (hl : nowIs M 6 l) (hok : okN l) : tx_S w yX6_isNow cX6_isNow 4 (some .boolean) 1 [rV (wa w) 2, iV t] R M (QP R M (fun z => (z = 1 ∧ l = gl (uT u) t) ∨ (z = 0 ∧ l ≠ gl (uT u) t))) := by
  have hT := uT_ok hu.1.1
  have hD1 := hT.1
  obtain ⟨r1, r2⟩ := hu.2.1.2 t ht.1 ht.2
  have h12 := (hT.2 _ (gl_mem ht.1 ht.2)).1
  generalize gl (uT u) t = g at r1 r2 h12 ⊢
  have g12 := h12.1
  have l40 := hok.1
  refine tx_S.ofk (lv := [(0, _), (1, _)]) [1, 1] (by decide) (by simp only [List.map_cons, List.map_nil, cat_i, cat_l, cat_r]) (by decide) rfl (fun E O F => ?_)
  have K : ∀ (i : Int) (M' : TM), (0 ≤ i ∧ i ≤ g.length ∧ M' = M) → ∀ a : Int, (a = 1 ∧ l.length = g.length ∧ (∀ j : Int, 0 ≤ j → j < i → ga l j = ga g j)) ∨ (a = 0 ∧ l ≠ g) → tx_X w E 24 [(3, iV i), (2, iV a), (0, rV (wa w) 2), (1, iV t)] [] R M' := by
    refine lp_up _ _ g.length ?_
    rintro i M' ⟨h1, h2, rfl⟩ ih a ha
    refine tx_iload_n (pc := 24) 0 O dX6_isNow_24 rfl rfl ?_
    refine tx_aload_n (pc := 25) 2 O dX6_isNow_25 rfl rfl ?_
    refine fX6_31 (pc := 26) O hR dX6_isNow_26 ?_
    refine tx_iload_n (pc := 29) 3 O dX6_isNow_29 rfl rfl ?_
    refine tx_iald (pc := 30) _ O dX6_isNow_30 (sh_109 w) (by omega) ?_
    rw [r1]
    refine tx_icmp_ge (pc := 31) 74 O dX6_isNow_31 rfl (by omega) (fun c31 => ?_) (fun c31 => ?_)
    · refine tx_iload_n (pc := 74) 1 O dX6_isNow_74 rfl rfl ?_
      exact tx_zret O F dX6_isNow_75 (by omega) (tx_QP.mk (by
        rcases ha with q | q
        · refine Or.inl ⟨q.1, ext_ga q.2.1 (fun j q1 q2 => q.2.2 j q1 (by omega))⟩
        · exact Or.inr q))
    · refine tx_iload_n (pc := 34) 1 O dX6_isNow_34 rfl rfl ?_
      refine tx_if_eq (pc := 35) 74 O dX6_isNow_35 rfl (by omega) (fun c35 => ?_) (fun c35 => ?_)
      · refine tx_iload_n (pc := 74) 1 O dX6_isNow_74 rfl rfl ?_
        exact tx_zret O F dX6_isNow_75 (by omega) (tx_QP.mk (by
          rcases ha with q | q
          · refine Or.inl ⟨q.1, ext_ga q.2.1 (fun j q1 q2 => q.2.2 j q1 (by omega))⟩
          · exact Or.inr q))
      · have hl2 : l.length = g.length ∧ ∀ j : Int, 0 ≤ j → j < i → ga l j = ga g j := by
          rcases ha with q | q
          · exact q.2
          · exact absurd q.1 c35
        have e1 := hok.2 _ (ga_mem (l := l) h1 (by omega))
        have e2 := h12.2 _ (ga_mem h1 c31)
        refine tx_aload_n (pc := 38) 2 O dX6_isNow_38 rfl rfl ?_
        refine fX6_40 (pc := 39) O hR dX6_isNow_39 ?_
        refine tx_sipush (pc := 42) O dX6_isNow_42 (by decide) ?_
        refine tx_iload_n (pc := 45) 0 O dX6_isNow_45 rfl rfl ?_
        refine tx_iadd (pc := 46) O dX6_isNow_46 ?_
        refine tx_iald (pc := 47) _ O dX6_isNow_47 (sh_115 w) (by omega) ?_
        rw [show (240 : Int) + i = 40 * 6 + i by omega, hl.2 i h1 (by omega)]
        refine tx_aload_n (pc := 48) 2 O dX6_isNow_48 rfl rfl ?_
        refine fX6_28 (pc := 49) O hR dX6_isNow_49 ?_
        refine tx_bipush (pc := 52) O dX6_isNow_52 (by decide) ?_
        refine tx_iload_n (pc := 54) 3 O dX6_isNow_54 rfl rfl ?_
        refine tx_imul (pc := 55) O dX6_isNow_55 ?_
        refine tx_iload_n (pc := 56) 0 O dX6_isNow_56 rfl rfl ?_
        refine tx_iadd (pc := 57) O dX6_isNow_57 ?_
        refine tx_iald (pc := 58) _ O dX6_isNow_58 (sh_108 w) (by omega) ?_
        rw [r2 i h1 c31]
        refine tx_icmp_ne (pc := 59) 66 O dX6_isNow_59 rfl (by omega) (fun c59 => ?_) (fun c59 => ?_)
        · refine tx_iconst (pc := 66) O dX6_isNow_66 ?_
          refine tx_istore_n (pc := 67) (lv' := [(2, _), (3, _), (0, _), (1, _)]) O dX6_isNow_67 rfl (by decide) rfl ?_
          refine tx_iinc (pc := 68) (lv' := [(3, _), (2, _), (0, _), (1, _)]) 1 O dX6_isNow_68 rfl (by decide) rfl ?_
          refine tx_goto (pc := 71) 24 O dX6_isNow_71 rfl ?_
          first
            | (refine ih _ _ ⟨by omega, by omega, rfl⟩ (by omega) (by omega) 1 (Or.inl ⟨rfl, hl2.1, fun j q1 q2 => ?_⟩)
               by_cases e : j = i
               · rw [e]; exact c59
               · exact hl2.2 j q1 (by omega))
            | exact ih _ _ ⟨by omega, by omega, rfl⟩ (by omega) (by omega) 0 (Or.inr ⟨rfl, fun q => c59 (by rw [q])⟩)
        · refine tx_iconst (pc := 62) O dX6_isNow_62 ?_
          refine tx_goto (pc := 63) 67 O dX6_isNow_63 rfl ?_
          refine tx_istore_n (pc := 67) (lv' := [(2, _), (3, _), (0, _), (1, _)]) O dX6_isNow_67 rfl (by decide) rfl ?_
          refine tx_iinc (pc := 68) (lv' := [(3, _), (2, _), (0, _), (1, _)]) 1 O dX6_isNow_68 rfl (by decide) rfl ?_
          refine tx_goto (pc := 71) 24 O dX6_isNow_71 rfl ?_
          first
            | (refine ih _ _ ⟨by omega, by omega, rfl⟩ (by omega) (by omega) 1 (Or.inl ⟨rfl, hl2.1, fun j q1 q2 => ?_⟩)
               by_cases e : j = i
               · rw [e]; exact c59
               · exact hl2.2 j q1 (by omega))
            | exact ih _ _ ⟨by omega, by omega, rfl⟩ (by omega) (by omega) 0 (Or.inr ⟨rfl, fun q => c59 (by rw [q])⟩)
  refine tx_aload_n (pc := 0) 0 O dX6_isNow_0 rfl rfl ?_
  refine fX6_43 (pc := 1) O hR dX6_isNow_1 ?_
  refine tx_bipush (pc := 4) O dX6_isNow_4 (by decide) ?_
  refine tx_iald (pc := 6) _ O dX6_isNow_6 (sh_116 w) (by omega) ?_
  rw [hl.1]
  refine tx_aload_n (pc := 7) 0 O dX6_isNow_7 rfl rfl ?_
  refine fX6_31 (pc := 8) O hR dX6_isNow_8 ?_
  refine tx_iload_n (pc := 11) 1 O dX6_isNow_11 rfl rfl ?_
  refine tx_iald (pc := 12) _ O dX6_isNow_12 (sh_109 w) (by omega) ?_
  rw [r1]
  refine tx_icmp_ne (pc := 13) 20 O dX6_isNow_13 rfl (by omega) (fun c13 => ?_) (fun c13 => ?_)
  · refine tx_iconst (pc := 20) O dX6_isNow_20 ?_
    refine tx_istore_n (pc := 21) (lv' := [(2, _), (0, _), (1, _)]) O dX6_isNow_21 rfl (by decide) rfl ?_
    refine tx_iconst (pc := 22) O dX6_isNow_22 ?_
    refine tx_istore_n (pc := 23) (lv' := [(3, _), (2, _), (0, _), (1, _)]) O dX6_isNow_23 rfl (by decide) rfl ?_
    first
      | exact K 0 M ⟨by omega, by omega, rfl⟩ 1 (Or.inl ⟨rfl, by omega, fun j q1 q2 => by omega⟩)
      | exact K 0 M ⟨by omega, by omega, rfl⟩ 0 (Or.inr ⟨rfl, fun q => c13 (by rw [q])⟩)
  · refine tx_iconst (pc := 16) O dX6_isNow_16 ?_
    refine tx_goto (pc := 17) 21 O dX6_isNow_17 rfl ?_
    refine tx_istore_n (pc := 21) (lv' := [(2, _), (0, _), (1, _)]) O dX6_isNow_21 rfl (by decide) rfl ?_
    refine tx_iconst (pc := 22) O dX6_isNow_22 ?_
    refine tx_istore_n (pc := 23) (lv' := [(3, _), (2, _), (0, _), (1, _)]) O dX6_isNow_23 rfl (by decide) rfl ?_
    first
      | exact K 0 M ⟨by omega, by omega, rfl⟩ 1 (Or.inl ⟨rfl, by omega, fun j q1 q2 => by omega⟩)
      | exact K 0 M ⟨by omega, by omega, rfl⟩ 0 (Or.inr ⟨rfl, fun q => c13 (by rw [q])⟩)
theorem sX6_rowOf (w : WT) (code n : Int) (R M : TM) (u : PU) (hu : mP M u) (hB : 0 < n → 0 < uB u) (hc : 0 ≤ code ∧ code ≤ 216) (hn : 0 ≤ n ∧ n ≤ 3) : tx_S w yX6_rowOf cX6_rowOf 5 (some .int) 2 [rV (wa w) 2, iV code, iV n] R M (QP R M (fun z => z = codeP (uB u) code n n)) := by
  refine tx_S.ofk (lv := [(0, _), (1, _), (2, _)]) [1, 1, 1] (by decide) (by simp only [List.map_cons, List.map_nil, cat_i, cat_l, cat_r]) (by decide) rfl (fun E O F => ?_)
  have K : ∀ (i : Int) (M' : TM), (0 ≤ i ∧ i ≤ n ∧ M' = M) → tx_X w E 5 [(4, iV i), (3, iV (codeP (uB u) code n i)), (0, rV (wa w) 2), (1, iV code), (2, iV n)] [] R M' := by
    refine lp_up _ _ n ?_
    rintro i M' ⟨h1, h2, rfl⟩ ih
    have hst := itI_1 (fun i v => 7 * v + fig (uB u) code n i + 1) 0 h1
    refine tx_iload (pc := 5) 0 O dX6_rowOf_5 rfl ?_
    refine tx_iload_n (pc := 7) 4 O dX6_rowOf_7 rfl rfl ?_
    refine tx_icmp_ge (pc := 8) 33 O dX6_rowOf_8 rfl (by omega) (fun c8 => ?_) (fun c8 => ?_)
    · refine tx_iload_n (pc := 33) 1 O dX6_rowOf_33 rfl rfl ?_
      exact tx_iret O F dX6_rowOf_34 (tx_QP.mk (by rw [show i = n by omega]))
    · refine tx_bipush (pc := 11) O dX6_rowOf_11 (by decide) ?_
      refine tx_iload_n (pc := 13) 1 O dX6_rowOf_13 rfl rfl ?_
      refine tx_imul (pc := 14) O dX6_rowOf_14 ?_
      refine tx_aload_n (pc := 15) 2 O dX6_rowOf_15 rfl rfl ?_
      refine tx_iload_n (pc := 16) 3 O dX6_rowOf_16 rfl rfl ?_
      refine tx_iload_n (pc := 17) 4 O dX6_rowOf_17 rfl rfl ?_
      refine tx_iload (pc := 18) 0 O dX6_rowOf_18 rfl ?_
      refine tx_cV3 (pc := 20) O dX6_rowOf_20 q1120 vX6_figureOf (sh_2 w) rfl (by decide) (Nat.le_of_ble_eq_true rfl) (sX6_figureOf w _ _ _ _ _ u hu (hB (by omega)) (by omega) (by omega) (by omega)) (k_P (fun z20 h20 => ?_))
      subst h20
      refine tx_iadd (pc := 23) O dX6_rowOf_23 ?_
      refine tx_iconst (pc := 24) O dX6_rowOf_24 ?_
      refine tx_iadd (pc := 25) O dX6_rowOf_25 ?_
      refine tx_istore_n (pc := 26) (lv' := [(3, _), (4, _), (0, _), (1, _), (2, _)]) O dX6_rowOf_26 rfl (by decide) rfl ?_
      refine tx_iinc (pc := 27) (lv' := [(4, _), (3, _), (0, _), (1, _), (2, _)]) 1 O dX6_rowOf_27 rfl (by decide) rfl ?_
      refine tx_goto (pc := 30) 5 O dX6_rowOf_30 rfl ?_
      have := ih (i + 1) M' ⟨by omega, by omega, rfl⟩ (by omega) (by omega)
      unfold codeP at this
      rw [hst] at this
      exact this
  refine tx_iconst (pc := 0) O dX6_rowOf_0 ?_
  refine tx_istore_n (pc := 1) (lv' := [(3, _), (0, _), (1, _), (2, _)]) O dX6_rowOf_1 rfl (by decide) rfl ?_
  refine tx_iconst (pc := 2) O dX6_rowOf_2 ?_
  refine tx_istore (pc := 3) (lv' := [(4, _), (3, _), (0, _), (1, _), (2, _)]) O dX6_rowOf_3 (by decide) rfl ?_
  exact K 0 M ⟨by omega, hn.1, rfl⟩
theorem sX6_whoOf (w : WT) (t o what : Int) (R M : TM) (u : PU) (hR : RL R) (hu : mP M u) (ht : 0 ≤ t ∧ t < (uT u).length) (hot : 0 ≤ o ∧ o < (uT u).length) (hw : 0 ≤ what ∧ what ≤ 1) : tx_S w yX6_whoOf cX6_whoOf 8 (some .int) 4 [rV (wa w) 2, iV t, iV o, iV what] R M (QI R (fun z M' => z = whoP u t o what ∧ kpR M M')) := by
  have hok := hu.1.1
  have hD1 := (uT_ok hok).1
  have hB6 := uB_ok hok
  refine tx_S.ofk (lv := [(0, _), (1, _), (2, _), (3, _)]) [1, 1, 1, 1] (by decide) (by simp only [List.map_cons, List.map_nil, cat_i, cat_l, cat_r]) (by decide) rfl (fun E O F => ?_)
  have K1 : ∀ (n : Int) (M' : TM), (0 ≤ n ∧ n ≤ 4 ∧ kpN 6 M M') → ∀ s : Int × Int, s = whoS u t o n → 0 ≤ s.1 ∧ s.1 ≤ 217 * n → tx_X w E 9 [(6, iV n), (5, iV s.2), (4, iV s.1), (0, rV (wa w) 2), (1, iV t), (2, iV o), (3, iV what)] [] R M' := by
    refine lp_up _ _ 4 ?_
    rintro n M' ⟨h1, h2, h4⟩ ih s hs hs2
    have K2 : n < 4 → ∀ (c : Int) (M2 : TM), (0 ≤ c ∧ c ≤ pw (uB u) n ∧ kpN 6 M M2) → ∀ x : Int × Int, x = itI (whoI u t o n) (whoS u t o n) c → 0 ≤ x.1 ∧ x.1 ≤ 217 * n + c → tx_X w E 18 [(7, iV c), (6, iV n), (5, iV x.2), (4, iV x.1), (0, rV (wa w) 2), (1, iV t), (2, iV o), (3, iV what)] [] R M2 := by
      intro hn4
      have hp := pw_ok hB6 (n := n) (by omega)
      refine lp_up _ _ (pw (uB u) n) ?_
      rintro c M2 ⟨g1, g2, g4⟩ ih2 x hx hx2
      have hu := hu.keep g4.r
      have hst := itI_1 (whoI u t o n) (whoS u t o n) g1
      rw [← hx] at hst
      obtain ⟨many, first⟩ := x
      dsimp only at hx2 ⊢
      refine tx_iload (pc := 18) 0 O dX6_whoOf_18 rfl ?_
      refine tx_aload_n (pc := 20) 4 O dX6_whoOf_20 rfl rfl ?_
      refine tx_iload (pc := 21) 1 O dX6_whoOf_21 rfl ?_
      refine tx_cV1 (pc := 23) O dX6_whoOf_23 q1112 vX6_codes (sh_2 w) rfl (by decide) (Nat.le_of_ble_eq_true rfl) (sX6_codes w _ _ _ u hu (by omega)) (k_P (fun z23 h23 => ?_))
      subst h23
      refine tx_icmp_ge (pc := 26) 75 O dX6_whoOf_26 rfl (by omega) (fun c26 => ?_) (fun c26 => ?_)
      · refine tx_iinc (pc := 75) (lv' := [(6, _), (7, _), (5, _), (4, _), (0, _), (1, _), (2, _), (3, _)]) 1 O dX6_whoOf_75 rfl (by decide) rfl ?_
        refine tx_goto (pc := 78) 9 O dX6_whoOf_78 rfl ?_
        refine tx_lv (lv' := [(6, _), (5, _), (4, _), (0, _), (1, _), (2, _), (3, _)]) [0, 2, 3, 4, 5, 6, 7] rfl ?_
        refine ih _ _ ⟨by omega, by omega, g4⟩ (by omega) (by omega) (many, first) ?_ (by dsimp only; omega)
        unfold whoS
        rw [itI_1 _ _ h1]
        rw [show c = pw (uB u) n by omega] at hx
        exact hx
      · have hB : 0 < n → 0 < uB u := fun q => by
          rcases (show uB u = 0 ∨ 0 < uB u by omega) with e | e
          · have := hp.2.2 e q; omega
          · exact e
        have hl : okN (trn u t c n) := trn_ok hok ht h1 hB
        refine tx_aload_n (pc := 29) 4 O dX6_whoOf_29 rfl rfl ?_
        refine tx_iload_n (pc := 30) 5 O dX6_whoOf_30 rfl rfl ?_
        refine tx_iload (pc := 31) 0 O dX6_whoOf_31 rfl ?_
        refine tx_iload (pc := 33) 1 O dX6_whoOf_33 rfl ?_
        refine tx_cV3 (pc := 35) O dX6_whoOf_35 q1116 vX6_turns (sh_2 w) rfl (by decide) (Nat.zero_le _) (sX6_turns w _ _ _ _ _ u hR hu ht (by omega) (by omega) hB) (k_V (fun M35 h35 => ?_))
        obtain ⟨k1, k2⟩ := h35
        have hu := hu.keep k2.r
        refine tx_aload_n (pc := 38) 4 O dX6_whoOf_38 rfl rfl ?_
        refine tx_iload_n (pc := 39) 6 O dX6_whoOf_39 rfl rfl ?_
        refine tx_cV1 (pc := 40) O dX6_whoOf_40 q1144 vX6_isNow (sh_2 w) rfl (by decide) (Nat.zero_le _) (sX6_isNow w _ _ _ u _ hR hu hot k1 hl) (k_P (fun z40 h40 => ?_))
        refine tx_if_eq (pc := 43) 69 O dX6_whoOf_43 rfl (by omega) (fun c43 => ?_) (fun c43 => ?_)
        · have hno : ¬ trn u t c n = gl (uT u) o := by
            rcases h40 with q | q
            · rw [q.1] at c43; exact absurd c43 (by decide)
            · exact q.2
          refine tx_iinc (pc := 69) (lv' := [(7, _), (6, _), (5, _), (4, _), (0, _), (1, _), (2, _), (3, _)]) 0 O dX6_whoOf_69 rfl (by decide) rfl ?_
          refine tx_goto (pc := 72) 18 O dX6_whoOf_72 rfl ?_
          first
            | (refine ih2 _ _ ⟨by omega, by omega, g4.tr k2⟩ (by omega) (by omega) (many, first) ?_ (by dsimp only; omega)
               rw [hst]; unfold whoI; rw [if_neg hno])
            | (refine ih2 _ _ ⟨by omega, by omega, g4.tr k2⟩ (by omega) (by omega) (many + 1, codeP (uB u) c n n) ?_ (by dsimp only; omega)
               rw [hst]; unfold whoI; rw [if_pos hy]; dsimp only; rw [if_pos c48])
            | (refine ih2 _ _ ⟨by omega, by omega, g4.tr k2⟩ (by omega) (by omega) (many + 1, first) ?_ (by dsimp only; omega)
               rw [hst]; unfold whoI; rw [if_pos hy]; dsimp only; rw [if_neg c48])
        · have hy : trn u t c n = gl (uT u) o := by
            rcases h40 with q | q
            · exact q.2
            · exact absurd q.1 c43
          refine tx_iload (pc := 46) 3 O dX6_whoOf_46 rfl ?_
          refine tx_if_ne (pc := 48) 62 O dX6_whoOf_48 rfl (by omega) (fun c48 => ?_) (fun c48 => ?_)
          · refine tx_iload (pc := 62) 2 O dX6_whoOf_62 rfl ?_
            refine tx_istore (pc := 64) (lv' := [(5, _), (7, _), (6, _), (4, _), (0, _), (1, _), (2, _), (3, _)]) O dX6_whoOf_64 (by decide) rfl ?_
            refine tx_iinc (pc := 66) (lv' := [(4, _), (5, _), (7, _), (6, _), (0, _), (1, _), (2, _), (3, _)]) 3 O dX6_whoOf_66 rfl (by decide) rfl ?_
            refine tx_iinc (pc := 69) (lv' := [(7, _), (4, _), (5, _), (6, _), (0, _), (1, _), (2, _), (3, _)]) 2 O dX6_whoOf_69 rfl (by decide) rfl ?_
            refine tx_goto (pc := 72) 18 O dX6_whoOf_72 rfl ?_
            refine tx_lv (lv' := [(7, _), (6, _), (5, _), (4, _), (0, _), (1, _), (2, _), (3, _)]) [0, 3, 2, 1, 4, 5, 6, 7] rfl ?_
            first
              | (refine ih2 _ _ ⟨by omega, by omega, g4.tr k2⟩ (by omega) (by omega) (many, first) ?_ (by dsimp only; omega)
                 rw [hst]; unfold whoI; rw [if_neg hno])
              | (refine ih2 _ _ ⟨by omega, by omega, g4.tr k2⟩ (by omega) (by omega) (many + 1, codeP (uB u) c n n) ?_ (by dsimp only; omega)
                 rw [hst]; unfold whoI; rw [if_pos hy]; dsimp only; rw [if_pos c48])
              | (refine ih2 _ _ ⟨by omega, by omega, g4.tr k2⟩ (by omega) (by omega) (many + 1, first) ?_ (by dsimp only; omega)
                 rw [hst]; unfold whoI; rw [if_pos hy]; dsimp only; rw [if_neg c48])
          · refine tx_aload_n (pc := 51) 4 O dX6_whoOf_51 rfl rfl ?_
            refine tx_iload (pc := 52) 0 O dX6_whoOf_52 rfl ?_
            refine tx_iload (pc := 54) 1 O dX6_whoOf_54 rfl ?_
            refine tx_cV2 (pc := 56) O dX6_whoOf_56 q1148 vX6_rowOf (sh_2 w) rfl (by decide) (Nat.zero_le _) (sX6_rowOf w _ _ _ _ u hu hB (by omega) (by omega)) (k_P (fun z56 h56 => ?_))
            subst h56
            refine tx_goto (pc := 59) 64 O dX6_whoOf_59 rfl ?_
            refine tx_istore (pc := 64) (lv' := [(5, _), (7, _), (6, _), (4, _), (0, _), (1, _), (2, _), (3, _)]) O dX6_whoOf_64 (by decide) rfl ?_
            refine tx_iinc (pc := 66) (lv' := [(4, _), (5, _), (7, _), (6, _), (0, _), (1, _), (2, _), (3, _)]) 3 O dX6_whoOf_66 rfl (by decide) rfl ?_
            refine tx_iinc (pc := 69) (lv' := [(7, _), (4, _), (5, _), (6, _), (0, _), (1, _), (2, _), (3, _)]) 2 O dX6_whoOf_69 rfl (by decide) rfl ?_
            refine tx_goto (pc := 72) 18 O dX6_whoOf_72 rfl ?_
            refine tx_lv (lv' := [(7, _), (6, _), (5, _), (4, _), (0, _), (1, _), (2, _), (3, _)]) [0, 3, 2, 1, 4, 5, 6, 7] rfl ?_
            first
              | (refine ih2 _ _ ⟨by omega, by omega, g4.tr k2⟩ (by omega) (by omega) (many, first) ?_ (by dsimp only; omega)
                 rw [hst]; unfold whoI; rw [if_neg hno])
              | (refine ih2 _ _ ⟨by omega, by omega, g4.tr k2⟩ (by omega) (by omega) (many + 1, codeP (uB u) c n n) ?_ (by dsimp only; omega)
                 rw [hst]; unfold whoI; rw [if_pos hy]; dsimp only; rw [if_pos c48])
              | (refine ih2 _ _ ⟨by omega, by omega, g4.tr k2⟩ (by omega) (by omega) (many + 1, first) ?_ (by dsimp only; omega)
                 rw [hst]; unfold whoI; rw [if_pos hy]; dsimp only; rw [if_neg c48])
    obtain ⟨many, first⟩ := s
    dsimp only at hs2 ⊢
    refine tx_iload (pc := 9) 0 O dX6_whoOf_9 rfl ?_
    refine tx_iconst (pc := 11) O dX6_whoOf_11 ?_
    refine tx_icmp_ge (pc := 12) 81 O dX6_whoOf_12 rfl (by omega) (fun c12 => ?_) (fun c12 => ?_)
    · refine tx_iload_n (pc := 81) 6 O dX6_whoOf_81 rfl rfl ?_
      refine tx_if_ne (pc := 82) 90 O dX6_whoOf_82 rfl (by omega) (fun c82 => ?_) (fun c82 => ?_)
      · refine tx_iload (pc := 90) 1 O dX6_whoOf_90 rfl ?_
        exact tx_iret O F dX6_whoOf_92 (tx_QI.mk ⟨by unfold whoP; rw [show (4 : Int) = n by omega, ← hs]; first | rw [if_pos c82] | rw [if_neg c82], h4.r⟩)
      · refine tx_iload (pc := 85) 2 O dX6_whoOf_85 rfl ?_
        refine tx_goto (pc := 87) 92 O dX6_whoOf_87 rfl ?_
        exact tx_iret O F dX6_whoOf_92 (tx_QI.mk ⟨by unfold whoP; rw [show (4 : Int) = n by omega, ← hs]; first | rw [if_pos c82] | rw [if_neg c82], h4.r⟩)
    · refine tx_iconst (pc := 15) O dX6_whoOf_15 ?_
      refine tx_istore (pc := 16) (lv' := [(7, _), (6, _), (5, _), (4, _), (0, _), (1, _), (2, _), (3, _)]) O dX6_whoOf_16 (by decide) rfl ?_
      exact K2 c12 0 _ ⟨by omega, (pw_ok hB6 (n := n) (by omega)).1, h4⟩ (many, first) hs (by dsimp only; omega)
  refine tx_iconst (pc := 0) O dX6_whoOf_0 ?_
  refine tx_istore (pc := 1) (lv' := [(4, _), (0, _), (1, _), (2, _), (3, _)]) O dX6_whoOf_1 (by decide) rfl ?_
  refine tx_iconst (pc := 3) O dX6_whoOf_3 ?_
  refine tx_istore (pc := 4) (lv' := [(5, _), (4, _), (0, _), (1, _), (2, _), (3, _)]) O dX6_whoOf_4 (by decide) rfl ?_
  refine tx_iconst (pc := 6) O dX6_whoOf_6 ?_
  refine tx_istore (pc := 7) (lv' := [(6, _), (5, _), (4, _), (0, _), (1, _), (2, _), (3, _)]) O dX6_whoOf_7 (by decide) rfl ?_
  exact K1 0 M ⟨by omega, by omega, kpN.rf⟩ (0, -1) rfl (by dsimp only; omega)
theorem sX6_who (w : WT) (t o what : Int) (R M : TM) (u : PU) (hR : RL R) (hu : mT M u) (ht : rng t) (hot : rng o) (hw : rng what) : tx_S w yX6_who cX6_who 4 (some .int) 5 [rV (wa w) 2, iV t, iV o, iV what] R M (QI R (fun z M' => ((t < 0 ∨ (uT u).length ≤ t ∨ o < 0 ∨ (uT u).length ≤ o ∨ what < 0 ∨ 1 < what) ∧ z = -2 ∨ (0 ≤ t ∧ t < (uT u).length ∧ 0 ≤ o ∧ o < (uT u).length ∧ 0 ≤ what ∧ what ≤ 1) ∧ z = whoP u t o what) ∧ kpQ M M')) := by
  refine tx_S.ofk (lv := [(0, _), (1, _), (2, _), (3, _)]) [1, 1, 1, 1] (by decide) (by simp only [List.map_cons, List.map_nil, cat_i, cat_l, cat_r]) (by decide) rfl (fun E O F => ?_)
  refine tx_aload_n (pc := 0) 0 O dX6_who_0 rfl rfl ?_
  refine tx_cV0 (pc := 1) O dX6_who_1 q983 vX6_reads (sh_2 w) rfl (by decide) (Nat.zero_le _) (sX6_reads w _ _ u hR hu) (k_V (fun M1 h1 => ?_))
  obtain ⟨hu, hk⟩ := h1
  refine tx_aload_n (pc := 4) 0 O dX6_who_4 rfl rfl ?_
  refine tx_iload_n (pc := 5) 1 O dX6_who_5 rfl rfl ?_
  refine tx_cV1 (pc := 6) O dX6_who_6 q987 vX6_isTune (sh_2 w) rfl (by decide) (Nat.zero_le _) (sX6_isTune w _ _ _ u hu (by omega)) (k_P (fun z6 h6 => ?_))
  refine tx_if_eq (pc := 9) 37 O dX6_who_9 rfl (by omega) (fun c9 => ?_) (fun c9 => ?_)
  · refine tx_bipush (pc := 37) O dX6_who_37 (by decide) ?_
    exact tx_iret O F dX6_who_39 (tx_QI.mk (by first | exact ⟨Or.inr ⟨by omega, h31.1⟩, hk.tr h31.2.q⟩ | exact ⟨Or.inl ⟨by omega, rfl⟩, hk⟩))
  · refine tx_aload_n (pc := 12) 0 O dX6_who_12 rfl rfl ?_
    refine tx_iload_n (pc := 13) 2 O dX6_who_13 rfl rfl ?_
    refine tx_cV1 (pc := 14) O dX6_who_14 q987 vX6_isTune (sh_2 w) rfl (by decide) (Nat.zero_le _) (sX6_isTune w _ _ _ u hu (by omega)) (k_P (fun z14 h14 => ?_))
    refine tx_if_eq (pc := 17) 37 O dX6_who_17 rfl (by omega) (fun c17 => ?_) (fun c17 => ?_)
    · refine tx_bipush (pc := 37) O dX6_who_37 (by decide) ?_
      exact tx_iret O F dX6_who_39 (tx_QI.mk (by first | exact ⟨Or.inr ⟨by omega, h31.1⟩, hk.tr h31.2.q⟩ | exact ⟨Or.inl ⟨by omega, rfl⟩, hk⟩))
    · refine tx_iload_n (pc := 20) 3 O dX6_who_20 rfl rfl ?_
      refine tx_cS1 (pc := 21) O dX6_who_21 q946 vX6_isTwo (by decide) (Nat.zero_le _) (sX6_isTwo w _ _ _ (by omega)) (k_P (fun z21 h21 => ?_))
      refine tx_if_eq (pc := 24) 37 O dX6_who_24 rfl (by omega) (fun c24 => ?_) (fun c24 => ?_)
      · refine tx_bipush (pc := 37) O dX6_who_37 (by decide) ?_
        exact tx_iret O F dX6_who_39 (tx_QI.mk (by first | exact ⟨Or.inr ⟨by omega, h31.1⟩, hk.tr h31.2.q⟩ | exact ⟨Or.inl ⟨by omega, rfl⟩, hk⟩))
      · refine tx_aload_n (pc := 27) 0 O dX6_who_27 rfl rfl ?_
        refine tx_iload_n (pc := 28) 1 O dX6_who_28 rfl rfl ?_
        refine tx_iload_n (pc := 29) 2 O dX6_who_29 rfl rfl ?_
        refine tx_iload_n (pc := 30) 3 O dX6_who_30 rfl rfl ?_
        refine tx_cV3 (pc := 31) O dX6_who_31 q1140 vX6_whoOf (sh_2 w) rfl (by decide) (Nat.zero_le _) (sX6_whoOf w _ _ _ _ _ u hR hu (by omega) (by omega) (by omega)) (k_I (fun z31 M31 h31 => ?_))
        refine tx_goto (pc := 34) 39 O dX6_who_34 rfl ?_
        exact tx_iret O F dX6_who_39 (tx_QI.mk (by first | exact ⟨Or.inr ⟨by omega, h31.1⟩, hk.tr h31.2.q⟩ | exact ⟨Or.inl ⟨by omega, rfl⟩, hk⟩))
theorem sX6_commonBoth (w : WT) (a b : Int) (R M : TM) (u : PU) (hR : RL R) (hu : mP M u) (ha : 0 ≤ a ∧ a < (uT u).length) (hb : 0 ≤ b ∧ b < (uT u).length) : tx_S w yX6_commonBoth cX6_commonBoth 3 (some .int) 3 [rV (wa w) 2, iV a, iV b] R M (QI R (fun z M' => z = lcs (gl (uT u) a) (gl (uT u) b) ∧ kpR M M')) := by
  have hT := uT_ok hu.1.1
  have hD1 := hT.1
  obtain ⟨a1, a2⟩ := hu.2.1.2 a ha.1 ha.2
  obtain ⟨b1, b2⟩ := hu.2.1.2 b hb.1 hb.2
  have a3 := (hT.2 _ (gl_mem ha.1 ha.2)).1
  have b3 := (hT.2 _ (gl_mem hb.1 hb.2)).1
  have a4 := a3.1
  have b4 := b3.1
  refine tx_S.ofk (lv := [(0, _), (1, _), (2, _)]) [1, 1, 1] (by decide) (by simp only [List.map_cons, List.map_nil, cat_i, cat_l, cat_r]) (by decide) rfl (fun E O F => ?_)
  refine tx_aload_n (pc := 0) 0 O dX6_commonBoth_0 rfl rfl ?_
  refine tx_aload_n (pc := 1) 0 O dX6_commonBoth_1 rfl rfl ?_
  refine fX6_28 (pc := 2) O hR dX6_commonBoth_2 ?_
  refine tx_bipush (pc := 5) O dX6_commonBoth_5 (by decide) ?_
  refine tx_iload_n (pc := 7) 1 O dX6_commonBoth_7 rfl rfl ?_
  refine tx_imul (pc := 8) O dX6_commonBoth_8 ?_
  refine tx_aload_n (pc := 9) 0 O dX6_commonBoth_9 rfl rfl ?_
  refine fX6_31 (pc := 10) O hR dX6_commonBoth_10 ?_
  refine tx_iload_n (pc := 13) 1 O dX6_commonBoth_13 rfl rfl ?_
  refine tx_iald (pc := 14) _ O dX6_commonBoth_14 (sh_109 w) (by omega) ?_
  rw [a1]
  refine tx_aload_n (pc := 15) 0 O dX6_commonBoth_15 rfl rfl ?_
  refine fX6_28 (pc := 16) O hR dX6_commonBoth_16 ?_
  refine tx_bipush (pc := 19) O dX6_commonBoth_19 (by decide) ?_
  refine tx_iload_n (pc := 21) 2 O dX6_commonBoth_21 rfl rfl ?_
  refine tx_imul (pc := 22) O dX6_commonBoth_22 ?_
  refine tx_aload_n (pc := 23) 0 O dX6_commonBoth_23 rfl rfl ?_
  refine fX6_31 (pc := 24) O hR dX6_commonBoth_24 ?_
  refine tx_iload_n (pc := 27) 2 O dX6_commonBoth_27 rfl rfl ?_
  refine tx_iald (pc := 28) _ O dX6_commonBoth_28 (sh_109 w) (by omega) ?_
  rw [b1]
  refine tx_cV6 (pc := 29) O dX6_commonBoth_29 q1064 vX6_commonOf (sh_2 w) rfl (by decide) (Nat.zero_le _) (sX6_commonOf w 108 (40 * a) 108 (40 * b) 240 240 (gl (uT u) a) (gl (uT u) b) R _ hR (sh_108 w) (sh_108 w) (by decide) (by decide) (by omega) (by omega) (by decide) (by decide) (by omega) (by omega) a3.2 b3.2 a2 b2) (k_I (fun z29 M29 h29 => ?_))
  exact tx_iret O F dX6_commonBoth_32 (tx_QI.mk ⟨h29.1, fun x y q => h29.2 x y (by omega)⟩)
theorem sX6_common (w : WT) (a b : Int) (R M : TM) (u : PU) (hR : RL R) (hu : mT M u) (ha : rng a) (hb : rng b) : tx_S w yX6_common cX6_common 3 (some .int) 4 [rV (wa w) 2, iV a, iV b] R M (QI R (fun z M' => ((a < 0 ∨ (uT u).length ≤ a ∨ b < 0 ∨ (uT u).length ≤ b) ∧ z = -2 ∨ (0 ≤ a ∧ a < (uT u).length ∧ 0 ≤ b ∧ b < (uT u).length) ∧ z = lcs (gl (uT u) a) (gl (uT u) b)) ∧ kpQ M M')) := by
  refine tx_S.ofk (lv := [(0, _), (1, _), (2, _)]) [1, 1, 1] (by decide) (by simp only [List.map_cons, List.map_nil, cat_i, cat_l, cat_r]) (by decide) rfl (fun E O F => ?_)
  refine tx_aload_n (pc := 0) 0 O dX6_common_0 rfl rfl ?_
  refine tx_cV0 (pc := 1) O dX6_common_1 q983 vX6_reads (sh_2 w) rfl (by decide) (Nat.zero_le _) (sX6_reads w _ _ u hR hu) (k_V (fun M1 h1 => ?_))
  obtain ⟨hu, hk⟩ := h1
  refine tx_aload_n (pc := 4) 0 O dX6_common_4 rfl rfl ?_
  refine tx_iload_n (pc := 5) 1 O dX6_common_5 rfl rfl ?_
  refine tx_cV1 (pc := 6) O dX6_common_6 q987 vX6_isTune (sh_2 w) rfl (by decide) (Nat.zero_le _) (sX6_isTune w _ _ _ u hu (by omega)) (k_P (fun z6 h6 => ?_))
  refine tx_if_eq (pc := 9) 29 O dX6_common_9 rfl (by omega) (fun c9 => ?_) (fun c9 => ?_)
  · refine tx_bipush (pc := 29) O dX6_common_29 (by decide) ?_
    exact tx_iret O F dX6_common_31 (tx_QI.mk (by first | exact ⟨Or.inr ⟨by omega, h23.1⟩, hk.tr h23.2.q⟩ | exact ⟨Or.inl ⟨by omega, rfl⟩, hk⟩))
  · refine tx_aload_n (pc := 12) 0 O dX6_common_12 rfl rfl ?_
    refine tx_iload_n (pc := 13) 2 O dX6_common_13 rfl rfl ?_
    refine tx_cV1 (pc := 14) O dX6_common_14 q987 vX6_isTune (sh_2 w) rfl (by decide) (Nat.zero_le _) (sX6_isTune w _ _ _ u hu (by omega)) (k_P (fun z14 h14 => ?_))
    refine tx_if_eq (pc := 17) 29 O dX6_common_17 rfl (by omega) (fun c17 => ?_) (fun c17 => ?_)
    · refine tx_bipush (pc := 29) O dX6_common_29 (by decide) ?_
      exact tx_iret O F dX6_common_31 (tx_QI.mk (by first | exact ⟨Or.inr ⟨by omega, h23.1⟩, hk.tr h23.2.q⟩ | exact ⟨Or.inl ⟨by omega, rfl⟩, hk⟩))
    · refine tx_aload_n (pc := 20) 0 O dX6_common_20 rfl rfl ?_
      refine tx_iload_n (pc := 21) 1 O dX6_common_21 rfl rfl ?_
      refine tx_iload_n (pc := 22) 2 O dX6_common_22 rfl rfl ?_
      refine tx_cV2 (pc := 23) O dX6_common_23 q1156 vX6_commonBoth (sh_2 w) rfl (by decide) (Nat.zero_le _) (sX6_commonBoth w _ _ _ _ u hR hu (by omega) (by omega)) (k_I (fun z23 M23 h23 => ?_))
      refine tx_goto (pc := 26) 31 O dX6_common_26 rfl ?_
      exact tx_iret O F dX6_common_31 (tx_QI.mk (by first | exact ⟨Or.inr ⟨by omega, h23.1⟩, hk.tr h23.2.q⟩ | exact ⟨Or.inl ⟨by omega, rfl⟩, hk⟩))
theorem sX6_farOf (w : WT) (a b : Int) (R M : TM) (u : PU) (hR : RL R) (hu : mP M u) (ha : 0 ≤ a ∧ a < (uT u).length) (hb : 0 ≤ b ∧ b < (uT u).length) : tx_S w yX6_farOf cX6_farOf 3 (some .int) 4 [rV (wa w) 2, iV a, iV b] R M (QI R (fun z M' => z = farP u a b ∧ kpR M M')) := by
  have hD1 := (uT_ok hu.1.1).1
  refine tx_S.ofk (lv := [(0, _), (1, _), (2, _)]) [1, 1, 1] (by decide) (by simp only [List.map_cons, List.map_nil, cat_i, cat_l, cat_r]) (by decide) rfl (fun E O F => ?_)
  refine tx_aload_n (pc := 0) 0 O dX6_farOf_0 rfl rfl ?_
  refine fX6_31 (pc := 1) O hR dX6_farOf_1 ?_
  refine tx_iload_n (pc := 4) 1 O dX6_farOf_4 rfl rfl ?_
  refine tx_iald (pc := 5) _ O dX6_farOf_5 (sh_109 w) (by omega) ?_
  rw [(hu.2.1.2 a ha.1 ha.2).1]
  refine tx_aload_n (pc := 6) 0 O dX6_farOf_6 rfl rfl ?_
  refine fX6_31 (pc := 7) O hR dX6_farOf_7 ?_
  refine tx_iload_n (pc := 10) 2 O dX6_farOf_10 rfl rfl ?_
  refine tx_iald (pc := 11) _ O dX6_farOf_11 (sh_109 w) (by omega) ?_
  rw [(hu.2.1.2 b hb.1 hb.2).1]
  refine tx_iadd (pc := 12) O dX6_farOf_12 ?_
  refine tx_iconst (pc := 13) O dX6_farOf_13 ?_
  refine tx_aload_n (pc := 14) 0 O dX6_farOf_14 rfl rfl ?_
  refine tx_iload_n (pc := 15) 1 O dX6_farOf_15 rfl rfl ?_
  refine tx_iload_n (pc := 16) 2 O dX6_farOf_16 rfl rfl ?_
  refine tx_cV2 (pc := 17) O dX6_farOf_17 q1156 vX6_commonBoth (sh_2 w) rfl (by decide) (Nat.le_of_ble_eq_true rfl) (sX6_commonBoth w _ _ _ _ u hR hu (by omega) (by omega)) (k_I (fun z17 M17 h17 => ?_))
  refine tx_imul (pc := 20) O dX6_farOf_20 ?_
  refine tx_isub (pc := 21) O dX6_farOf_21 ?_
  exact tx_iret O F dX6_farOf_22 (tx_QI.mk ⟨by unfold farP; rw [h17.1], h17.2⟩)
theorem sX6_far (w : WT) (a b : Int) (R M : TM) (u : PU) (hR : RL R) (hu : mT M u) (ha : rng a) (hb : rng b) : tx_S w yX6_far cX6_far 3 (some .int) 5 [rV (wa w) 2, iV a, iV b] R M (QI R (fun z M' => ((a < 0 ∨ (uT u).length ≤ a ∨ b < 0 ∨ (uT u).length ≤ b) ∧ z = -2 ∨ (0 ≤ a ∧ a < (uT u).length ∧ 0 ≤ b ∧ b < (uT u).length) ∧ z = farP u a b) ∧ kpQ M M')) := by
  refine tx_S.ofk (lv := [(0, _), (1, _), (2, _)]) [1, 1, 1] (by decide) (by simp only [List.map_cons, List.map_nil, cat_i, cat_l, cat_r]) (by decide) rfl (fun E O F => ?_)
  refine tx_aload_n (pc := 0) 0 O dX6_far_0 rfl rfl ?_
  refine tx_cV0 (pc := 1) O dX6_far_1 q983 vX6_reads (sh_2 w) rfl (by decide) (Nat.zero_le _) (sX6_reads w _ _ u hR hu) (k_V (fun M1 h1 => ?_))
  obtain ⟨hu, hk⟩ := h1
  refine tx_aload_n (pc := 4) 0 O dX6_far_4 rfl rfl ?_
  refine tx_iload_n (pc := 5) 1 O dX6_far_5 rfl rfl ?_
  refine tx_cV1 (pc := 6) O dX6_far_6 q987 vX6_isTune (sh_2 w) rfl (by decide) (Nat.zero_le _) (sX6_isTune w _ _ _ u hu (by omega)) (k_P (fun z6 h6 => ?_))
  refine tx_if_eq (pc := 9) 29 O dX6_far_9 rfl (by omega) (fun c9 => ?_) (fun c9 => ?_)
  · refine tx_bipush (pc := 29) O dX6_far_29 (by decide) ?_
    exact tx_iret O F dX6_far_31 (tx_QI.mk (by first | exact ⟨Or.inr ⟨by omega, h23.1⟩, hk.tr h23.2.q⟩ | exact ⟨Or.inl ⟨by omega, rfl⟩, hk⟩))
  · refine tx_aload_n (pc := 12) 0 O dX6_far_12 rfl rfl ?_
    refine tx_iload_n (pc := 13) 2 O dX6_far_13 rfl rfl ?_
    refine tx_cV1 (pc := 14) O dX6_far_14 q987 vX6_isTune (sh_2 w) rfl (by decide) (Nat.zero_le _) (sX6_isTune w _ _ _ u hu (by omega)) (k_P (fun z14 h14 => ?_))
    refine tx_if_eq (pc := 17) 29 O dX6_far_17 rfl (by omega) (fun c17 => ?_) (fun c17 => ?_)
    · refine tx_bipush (pc := 29) O dX6_far_29 (by decide) ?_
      exact tx_iret O F dX6_far_31 (tx_QI.mk (by first | exact ⟨Or.inr ⟨by omega, h23.1⟩, hk.tr h23.2.q⟩ | exact ⟨Or.inl ⟨by omega, rfl⟩, hk⟩))
    · refine tx_aload_n (pc := 20) 0 O dX6_far_20 rfl rfl ?_
      refine tx_iload_n (pc := 21) 1 O dX6_far_21 rfl rfl ?_
      refine tx_iload_n (pc := 22) 2 O dX6_far_22 rfl rfl ?_
      refine tx_cV2 (pc := 23) O dX6_far_23 q1164 vX6_farOf (sh_2 w) rfl (by decide) (Nat.zero_le _) (sX6_farOf w _ _ _ _ u hR hu (by omega) (by omega)) (k_I (fun z23 M23 h23 => ?_))
      refine tx_goto (pc := 26) 31 O dX6_far_26 rfl ?_
      exact tx_iret O F dX6_far_31 (tx_QI.mk (by first | exact ⟨Or.inr ⟨by omega, h23.1⟩, hk.tr h23.2.q⟩ | exact ⟨Or.inl ⟨by omega, rfl⟩, hk⟩))
theorem sX6_nearestOf (w : WT) (t : Int) (R M : TM) (u : PU) (hR : RL R) (hu : mP M u) (ht : 0 ≤ t ∧ t < (uT u).length) : tx_S w yX6_nearestOf cX6_nearestOf 4 (some .int) 5 [rV (wa w) 2, iV t] R M (QI R (fun z M' => z = nearP u t ∧ kpR M M')) := by
  have hok := hu.1.1
  have hD1 := (uT_ok hok).1
  refine tx_S.ofk (lv := [(0, _), (1, _)]) [1, 1] (by decide) (by simp only [List.map_cons, List.map_nil, cat_i, cat_l, cat_r]) (by decide) rfl (fun E O F => ?_)
  have K : ∀ (v : Int) (M' : TM), (0 ≤ v ∧ v ≤ (uT u).length ∧ kpR M M') → ∀ b : Int, b = itI (nearI u t) (-1) v → tx_X w E 4 [(3, iV v), (2, iV b), (0, rV (wa w) 2), (1, iV t)] [] R M' := by
    refine lp_up _ _ (uT u).length ?_
    rintro v M' ⟨h1, h2, h3⟩ ih b hb
    have hu := hu.keep h3
    have hbd := near_ok u t v h1 h2
    rw [← hb] at hbd
    have hst := itI_1 (nearI u t) (-1) h1
    rw [← hb] at hst
    refine tx_iload_n (pc := 4) 0 O dX6_nearestOf_4 rfl rfl ?_
    refine tx_aload_n (pc := 5) 2 O dX6_nearestOf_5 rfl rfl ?_
    refine fX6_112 (pc := 6) O dX6_nearestOf_6 ?_
    rw [hu.2.1.1]
    refine tx_icmp_ge (pc := 9) 49 O dX6_nearestOf_9 rfl (by omega) (fun c9 => ?_) (fun c9 => ?_)
    · refine tx_iload_n (pc := 49) 1 O dX6_nearestOf_49 rfl rfl ?_
      exact tx_iret O F dX6_nearestOf_50 (tx_QI.mk ⟨by unfold nearP; rw [hb, show ((uT u).length : Int) = v by omega], h3⟩)
    · refine tx_iload_n (pc := 12) 0 O dX6_nearestOf_12 rfl rfl ?_
      refine tx_iload_n (pc := 13) 3 O dX6_nearestOf_13 rfl rfl ?_
      refine tx_icmp_eq (pc := 14) 41 O dX6_nearestOf_14 rfl (by omega) (fun c14 => ?_) (fun c14 => ?_)
      · refine tx_iload_n (pc := 41) 1 O dX6_nearestOf_41 rfl rfl ?_
        refine tx_istore_n (pc := 42) (lv' := [(2, _), (3, _), (0, _), (1, _)]) O dX6_nearestOf_42 rfl (by decide) rfl ?_
        refine tx_iinc (pc := 43) (lv' := [(3, _), (2, _), (0, _), (1, _)]) 1 O dX6_nearestOf_43 rfl (by decide) rfl ?_
        refine tx_goto (pc := 46) 4 O dX6_nearestOf_46 rfl ?_
        first
          | (refine ih _ _ ⟨by omega, by omega, h3⟩ (by omega) (by omega) _ ?_
             rw [hst]; unfold nearI; first | exact (if_neg (fun q => q.1 c14)).symm | exact (if_pos ⟨c14, Or.inl c19⟩).symm)
          | (refine ih _ _ ⟨by omega, by omega, (h3.tr k2).tr j2⟩ (by omega) (by omega) _ ?_
             rw [hst]; unfold nearI; first | exact (if_pos ⟨c14, Or.inr (by omega)⟩).symm | exact (if_neg (fun q => by rcases q.2 with z | z <;> omega)).symm)
      · refine tx_iload_n (pc := 17) 1 O dX6_nearestOf_17 rfl rfl ?_
        refine tx_iconst (pc := 18) O dX6_nearestOf_18 ?_
        refine tx_icmp_eq (pc := 19) 37 O dX6_nearestOf_19 rfl (by omega) (fun c19 => ?_) (fun c19 => ?_)
        · refine tx_iload_n (pc := 37) 0 O dX6_nearestOf_37 rfl rfl ?_
          refine tx_goto (pc := 38) 42 O dX6_nearestOf_38 rfl ?_
          refine tx_istore_n (pc := 42) (lv' := [(2, _), (3, _), (0, _), (1, _)]) O dX6_nearestOf_42 rfl (by decide) rfl ?_
          refine tx_iinc (pc := 43) (lv' := [(3, _), (2, _), (0, _), (1, _)]) 1 O dX6_nearestOf_43 rfl (by decide) rfl ?_
          refine tx_goto (pc := 46) 4 O dX6_nearestOf_46 rfl ?_
          first
            | (refine ih _ _ ⟨by omega, by omega, h3⟩ (by omega) (by omega) _ ?_
               rw [hst]; unfold nearI; first | exact (if_neg (fun q => q.1 c14)).symm | exact (if_pos ⟨c14, Or.inl c19⟩).symm)
            | (refine ih _ _ ⟨by omega, by omega, (h3.tr k2).tr j2⟩ (by omega) (by omega) _ ?_
               rw [hst]; unfold nearI; first | exact (if_pos ⟨c14, Or.inr (by omega)⟩).symm | exact (if_neg (fun q => by rcases q.2 with z | z <;> omega)).symm)
        · refine tx_aload_n (pc := 22) 2 O dX6_nearestOf_22 rfl rfl ?_
          refine tx_iload_n (pc := 23) 3 O dX6_nearestOf_23 rfl rfl ?_
          refine tx_iload_n (pc := 24) 0 O dX6_nearestOf_24 rfl rfl ?_
          refine tx_cV2 (pc := 25) O dX6_nearestOf_25 q1164 vX6_farOf (sh_2 w) rfl (by decide) (Nat.zero_le _) (sX6_farOf w _ _ _ _ u hR hu (by omega) (by omega)) (k_I (fun z25 M25 h25 => ?_))
          obtain ⟨k1, k2⟩ := h25
          have hu := hu.keep k2
          have f1 := far_ok hok ht (b := v) (by omega)
          refine tx_aload_n (pc := 28) 2 O dX6_nearestOf_28 rfl rfl ?_
          refine tx_iload_n (pc := 29) 3 O dX6_nearestOf_29 rfl rfl ?_
          refine tx_iload_n (pc := 30) 1 O dX6_nearestOf_30 rfl rfl ?_
          refine tx_cV2 (pc := 31) O dX6_nearestOf_31 q1164 vX6_farOf (sh_2 w) rfl (by decide) (Nat.le_of_ble_eq_true rfl) (sX6_farOf w _ _ _ _ u hR hu (by omega) (by omega)) (k_I (fun z31 M31 h31 => ?_))
          obtain ⟨j1, j2⟩ := h31
          have f2 := far_ok hok ht (b := b) (by omega)
          refine tx_icmp_ge (pc := 34) 41 O dX6_nearestOf_34 rfl (by omega) (fun c34 => ?_) (fun c34 => ?_)
          · refine tx_iload_n (pc := 41) 1 O dX6_nearestOf_41 rfl rfl ?_
            refine tx_istore_n (pc := 42) (lv' := [(2, _), (3, _), (0, _), (1, _)]) O dX6_nearestOf_42 rfl (by decide) rfl ?_
            refine tx_iinc (pc := 43) (lv' := [(3, _), (2, _), (0, _), (1, _)]) 1 O dX6_nearestOf_43 rfl (by decide) rfl ?_
            refine tx_goto (pc := 46) 4 O dX6_nearestOf_46 rfl ?_
            first
              | (refine ih _ _ ⟨by omega, by omega, h3⟩ (by omega) (by omega) _ ?_
                 rw [hst]; unfold nearI; first | exact (if_neg (fun q => q.1 c14)).symm | exact (if_pos ⟨c14, Or.inl c19⟩).symm)
              | (refine ih _ _ ⟨by omega, by omega, (h3.tr k2).tr j2⟩ (by omega) (by omega) _ ?_
                 rw [hst]; unfold nearI; first | exact (if_pos ⟨c14, Or.inr (by omega)⟩).symm | exact (if_neg (fun q => by rcases q.2 with z | z <;> omega)).symm)
          · refine tx_iload_n (pc := 37) 0 O dX6_nearestOf_37 rfl rfl ?_
            refine tx_goto (pc := 38) 42 O dX6_nearestOf_38 rfl ?_
            refine tx_istore_n (pc := 42) (lv' := [(2, _), (3, _), (0, _), (1, _)]) O dX6_nearestOf_42 rfl (by decide) rfl ?_
            refine tx_iinc (pc := 43) (lv' := [(3, _), (2, _), (0, _), (1, _)]) 1 O dX6_nearestOf_43 rfl (by decide) rfl ?_
            refine tx_goto (pc := 46) 4 O dX6_nearestOf_46 rfl ?_
            first
              | (refine ih _ _ ⟨by omega, by omega, h3⟩ (by omega) (by omega) _ ?_
                 rw [hst]; unfold nearI; first | exact (if_neg (fun q => q.1 c14)).symm | exact (if_pos ⟨c14, Or.inl c19⟩).symm)
              | (refine ih _ _ ⟨by omega, by omega, (h3.tr k2).tr j2⟩ (by omega) (by omega) _ ?_
                 rw [hst]; unfold nearI; first | exact (if_pos ⟨c14, Or.inr (by omega)⟩).symm | exact (if_neg (fun q => by rcases q.2 with z | z <;> omega)).symm)
  refine tx_iconst (pc := 0) O dX6_nearestOf_0 ?_
  refine tx_istore_n (pc := 1) (lv' := [(2, _), (0, _), (1, _)]) O dX6_nearestOf_1 rfl (by decide) rfl ?_
  refine tx_iconst (pc := 2) O dX6_nearestOf_2 ?_
  refine tx_istore_n (pc := 3) (lv' := [(3, _), (2, _), (0, _), (1, _)]) O dX6_nearestOf_3 rfl (by decide) rfl ?_
  exact K 0 M ⟨by omega, by omega, kpR.rf⟩ (-1) rfl
theorem sX6_nearest (w : WT) (t : Int) (R M : TM) (u : PU) (hR : RL R) (hu : mT M u) (ht : rng t) : tx_S w yX6_nearest cX6_nearest 2 (some .int) 6 [rV (wa w) 2, iV t] R M (QI R (fun z M' => ((t < 0 ∨ (uT u).length ≤ t) ∧ z = -2 ∨ (0 ≤ t ∧ t < (uT u).length) ∧ z = nearP u t) ∧ kpQ M M')) := by
  refine tx_S.ofk (lv := [(0, _), (1, _)]) [1, 1] (by decide) (by simp only [List.map_cons, List.map_nil, cat_i, cat_l, cat_r]) (by decide) rfl (fun E O F => ?_)
  refine tx_aload_n (pc := 0) 0 O dX6_nearest_0 rfl rfl ?_
  refine tx_cV0 (pc := 1) O dX6_nearest_1 q983 vX6_reads (sh_2 w) rfl (by decide) (Nat.zero_le _) (sX6_reads w _ _ u hR hu) (k_V (fun M1 h1 => ?_))
  obtain ⟨hu, hk⟩ := h1
  refine tx_aload_n (pc := 4) 0 O dX6_nearest_4 rfl rfl ?_
  refine tx_iload_n (pc := 5) 1 O dX6_nearest_5 rfl rfl ?_
  refine tx_cV1 (pc := 6) O dX6_nearest_6 q987 vX6_isTune (sh_2 w) rfl (by decide) (Nat.zero_le _) (sX6_isTune w _ _ _ u hu (by omega)) (k_P (fun z6 h6 => ?_))
  refine tx_if_eq (pc := 9) 20 O dX6_nearest_9 rfl (by omega) (fun c9 => ?_) (fun c9 => ?_)
  · refine tx_bipush (pc := 20) O dX6_nearest_20 (by decide) ?_
    exact tx_iret O F dX6_nearest_22 (tx_QI.mk (by first | exact ⟨Or.inr ⟨by omega, h14.1⟩, hk.tr h14.2.q⟩ | exact ⟨Or.inl ⟨by omega, rfl⟩, hk⟩))
  · refine tx_aload_n (pc := 12) 0 O dX6_nearest_12 rfl rfl ?_
    refine tx_iload_n (pc := 13) 1 O dX6_nearest_13 rfl rfl ?_
    refine tx_cV1 (pc := 14) O dX6_nearest_14 q1172 vX6_nearestOf (sh_2 w) rfl (by decide) (Nat.zero_le _) (sX6_nearestOf w _ _ _ u hR hu (by omega)) (k_I (fun z14 M14 h14 => ?_))
    refine tx_goto (pc := 17) 22 O dX6_nearest_17 rfl ?_
    exact tx_iret O F dX6_nearest_22 (tx_QI.mk (by first | exact ⟨Or.inr ⟨by omega, h14.1⟩, hk.tr h14.2.q⟩ | exact ⟨Or.inl ⟨by omega, rfl⟩, hk⟩))
theorem sX6_mothersOf (w : WT) (t : Int) (R M : TM) (u : PU) (hR : RL R) (hu : mP M u) (ht : 0 ≤ t ∧ t < (uT u).length) : tx_S w yX6_mothersOf cX6_mothersOf 4 (some .int) 4 [rV (wa w) 2, iV t] R M (QI R (fun z M' => z = mothP u t ∧ kpR M M')) := by
  have hok := hu.1.1
  have hT := uT_ok hok
  have hD1 := hT.1
  refine tx_S.ofk (lv := [(0, _), (1, _)]) [1, 1] (by decide) (by simp only [List.map_cons, List.map_nil, cat_i, cat_l, cat_r]) (by decide) rfl (fun E O F => ?_)
  have K : ∀ (v : Int) (M' : TM), (0 ≤ v ∧ v ≤ (uT u).length ∧ kpR M M') → ∀ b : Int, b = itI (mothI u t) 0 v → tx_X w E 4 [(3, iV v), (2, iV b), (0, rV (wa w) 2), (1, iV t)] [] R M' := by
    refine lp_up _ _ (uT u).length ?_
    rintro v M' ⟨h1, h2, h3⟩ ih b hb
    have hu := hu.keep h3
    have hst := itI_1 (mothI u t) 0 h1
    rw [← hb] at hst
    refine tx_iload_n (pc := 4) 0 O dX6_mothersOf_4 rfl rfl ?_
    refine tx_aload_n (pc := 5) 2 O dX6_mothersOf_5 rfl rfl ?_
    refine fX6_112 (pc := 6) O dX6_mothersOf_6 ?_
    rw [hu.2.1.1]
    refine tx_icmp_ge (pc := 9) 48 O dX6_mothersOf_9 rfl (by omega) (fun c9 => ?_) (fun c9 => ?_)
    · refine tx_iload_n (pc := 48) 1 O dX6_mothersOf_48 rfl rfl ?_
      exact tx_iret O F dX6_mothersOf_49 (tx_QI.mk ⟨by unfold mothP; rw [hb, show ((uT u).length : Int) = v by omega], h3⟩)
    · refine tx_iload_n (pc := 12) 1 O dX6_mothersOf_12 rfl rfl ?_
      refine tx_iload_n (pc := 13) 0 O dX6_mothersOf_13 rfl rfl ?_
      refine tx_iload_n (pc := 14) 3 O dX6_mothersOf_14 rfl rfl ?_
      refine tx_icmp_eq (pc := 15) 39 O dX6_mothersOf_15 rfl (by omega) (fun c15 => ?_) (fun c15 => ?_)
      · refine tx_iconst (pc := 39) O dX6_mothersOf_39 ?_
        refine tx_ior (pc := 40) O dX6_mothersOf_40 ?_
        refine tx_istore_n (pc := 41) (lv' := [(2, _), (3, _), (0, _), (1, _)]) O dX6_mothersOf_41 rfl (by decide) rfl ?_
        refine tx_iinc (pc := 42) (lv' := [(3, _), (2, _), (0, _), (1, _)]) 1 O dX6_mothersOf_42 rfl (by decide) rfl ?_
        refine tx_goto (pc := 45) 4 O dX6_mothersOf_45 rfl ?_
        first
          | (refine ih _ _ ⟨by omega, by omega, h3⟩ (by omega) (by omega) _ ?_
             rw [hst]; unfold mothI; exact congrArg (zor b) (if_neg (fun q => q.1 c15)).symm)
          | (refine ih _ _ ⟨by omega, by omega, h3.tr k2⟩ (by omega) (by omega) _ ?_
             rw [hst]; unfold mothI; first | exact congrArg (zor b) (if_pos ⟨c15, by omega⟩).symm | exact congrArg (zor b) (if_neg (fun q => by have := q.2; omega)).symm)
      · refine tx_aload_n (pc := 18) 2 O dX6_mothersOf_18 rfl rfl ?_
        refine tx_iload_n (pc := 19) 0 O dX6_mothersOf_19 rfl rfl ?_
        refine tx_iload_n (pc := 20) 3 O dX6_mothersOf_20 rfl rfl ?_
        refine tx_cV2 (pc := 21) O dX6_mothersOf_21 q1156 vX6_commonBoth (sh_2 w) rfl (by decide) (Nat.le_of_ble_eq_true rfl) (sX6_commonBoth w _ _ _ _ u hR hu (by omega) (by omega)) (k_I (fun z21 M21 h21 => ?_))
        obtain ⟨k1, k2⟩ := h21
        have hu := hu.keep k2
        have f1 := lcs_le (gl (uT u) v) (gl (uT u) t)
        have f2 := (hT.2 _ (gl_mem (t := v) h1 (by omega))).1.1
        refine tx_aload_n (pc := 24) 2 O dX6_mothersOf_24 rfl rfl ?_
        refine fX6_31 (pc := 25) O hR dX6_mothersOf_25 ?_
        refine tx_iload_n (pc := 28) 0 O dX6_mothersOf_28 rfl rfl ?_
        refine tx_iald (pc := 29) _ O dX6_mothersOf_29 (sh_109 w) (by omega) ?_
        rw [(hu.2.1.2 v h1 (by omega)).1]
        refine tx_icmp_ne (pc := 30) 39 O dX6_mothersOf_30 rfl (by omega) (fun c30 => ?_) (fun c30 => ?_)
        · refine tx_iconst (pc := 39) O dX6_mothersOf_39 ?_
          refine tx_ior (pc := 40) O dX6_mothersOf_40 ?_
          refine tx_istore_n (pc := 41) (lv' := [(2, _), (3, _), (0, _), (1, _)]) O dX6_mothersOf_41 rfl (by decide) rfl ?_
          refine tx_iinc (pc := 42) (lv' := [(3, _), (2, _), (0, _), (1, _)]) 1 O dX6_mothersOf_42 rfl (by decide) rfl ?_
          refine tx_goto (pc := 45) 4 O dX6_mothersOf_45 rfl ?_
          first
            | (refine ih _ _ ⟨by omega, by omega, h3⟩ (by omega) (by omega) _ ?_
               rw [hst]; unfold mothI; exact congrArg (zor b) (if_neg (fun q => q.1 c15)).symm)
            | (refine ih _ _ ⟨by omega, by omega, h3.tr k2⟩ (by omega) (by omega) _ ?_
               rw [hst]; unfold mothI; first | exact congrArg (zor b) (if_pos ⟨c15, by omega⟩).symm | exact congrArg (zor b) (if_neg (fun q => by have := q.2; omega)).symm)
        · refine tx_iconst (pc := 33) O dX6_mothersOf_33 ?_
          refine tx_iload_n (pc := 34) 0 O dX6_mothersOf_34 rfl rfl ?_
          refine tx_ishl (pc := 35) O dX6_mothersOf_35 ?_
          refine tx_goto (pc := 36) 40 O dX6_mothersOf_36 rfl ?_
          refine tx_ior (pc := 40) O dX6_mothersOf_40 ?_
          refine tx_istore_n (pc := 41) (lv' := [(2, _), (3, _), (0, _), (1, _)]) O dX6_mothersOf_41 rfl (by decide) rfl ?_
          refine tx_iinc (pc := 42) (lv' := [(3, _), (2, _), (0, _), (1, _)]) 1 O dX6_mothersOf_42 rfl (by decide) rfl ?_
          refine tx_goto (pc := 45) 4 O dX6_mothersOf_45 rfl ?_
          first
            | (refine ih _ _ ⟨by omega, by omega, h3⟩ (by omega) (by omega) _ ?_
               rw [hst]; unfold mothI; exact congrArg (zor b) (if_neg (fun q => q.1 c15)).symm)
            | (refine ih _ _ ⟨by omega, by omega, h3.tr k2⟩ (by omega) (by omega) _ ?_
               rw [hst]; unfold mothI; first | exact congrArg (zor b) (if_pos ⟨c15, by omega⟩).symm | exact congrArg (zor b) (if_neg (fun q => by have := q.2; omega)).symm)
  refine tx_iconst (pc := 0) O dX6_mothersOf_0 ?_
  refine tx_istore_n (pc := 1) (lv' := [(2, _), (0, _), (1, _)]) O dX6_mothersOf_1 rfl (by decide) rfl ?_
  refine tx_iconst (pc := 2) O dX6_mothersOf_2 ?_
  refine tx_istore_n (pc := 3) (lv' := [(3, _), (2, _), (0, _), (1, _)]) O dX6_mothersOf_3 rfl (by decide) rfl ?_
  exact K 0 M ⟨by omega, by omega, kpR.rf⟩ 0 rfl
theorem sX6_mothers (w : WT) (t : Int) (R M : TM) (u : PU) (hR : RL R) (hu : mT M u) (ht : rng t) : tx_S w yX6_mothers cX6_mothers 2 (some .int) 5 [rV (wa w) 2, iV t] R M (QI R (fun z M' => ((t < 0 ∨ (uT u).length ≤ t) ∧ z = -2 ∨ (0 ≤ t ∧ t < (uT u).length) ∧ z = mothP u t) ∧ kpQ M M')) := by
  refine tx_S.ofk (lv := [(0, _), (1, _)]) [1, 1] (by decide) (by simp only [List.map_cons, List.map_nil, cat_i, cat_l, cat_r]) (by decide) rfl (fun E O F => ?_)
  refine tx_aload_n (pc := 0) 0 O dX6_mothers_0 rfl rfl ?_
  refine tx_cV0 (pc := 1) O dX6_mothers_1 q983 vX6_reads (sh_2 w) rfl (by decide) (Nat.zero_le _) (sX6_reads w _ _ u hR hu) (k_V (fun M1 h1 => ?_))
  obtain ⟨hu, hk⟩ := h1
  refine tx_aload_n (pc := 4) 0 O dX6_mothers_4 rfl rfl ?_
  refine tx_iload_n (pc := 5) 1 O dX6_mothers_5 rfl rfl ?_
  refine tx_cV1 (pc := 6) O dX6_mothers_6 q987 vX6_isTune (sh_2 w) rfl (by decide) (Nat.zero_le _) (sX6_isTune w _ _ _ u hu (by omega)) (k_P (fun z6 h6 => ?_))
  refine tx_if_eq (pc := 9) 20 O dX6_mothers_9 rfl (by omega) (fun c9 => ?_) (fun c9 => ?_)
  · refine tx_bipush (pc := 20) O dX6_mothers_20 (by decide) ?_
    exact tx_iret O F dX6_mothers_22 (tx_QI.mk (by first | exact ⟨Or.inr ⟨by omega, h14.1⟩, hk.tr h14.2.q⟩ | exact ⟨Or.inl ⟨by omega, rfl⟩, hk⟩))
  · refine tx_aload_n (pc := 12) 0 O dX6_mothers_12 rfl rfl ?_
    refine tx_iload_n (pc := 13) 1 O dX6_mothers_13 rfl rfl ?_
    refine tx_cV1 (pc := 14) O dX6_mothers_14 q1180 vX6_mothersOf (sh_2 w) rfl (by decide) (Nat.zero_le _) (sX6_mothersOf w _ _ _ u hR hu (by omega)) (k_I (fun z14 M14 h14 => ?_))
    refine tx_goto (pc := 17) 22 O dX6_mothers_17 rfl ?_
    exact tx_iret O F dX6_mothers_22 (tx_QI.mk (by first | exact ⟨Or.inr ⟨by omega, h14.1⟩, hk.tr h14.2.q⟩ | exact ⟨Or.inl ⟨by omega, rfl⟩, hk⟩))
theorem sX6_isIn (w : WT) (b k : Int) (R M : TM) (hb : 0 ≤ b ∧ b < 4096) (hk : 0 ≤ k ∧ k < 12) : tx_S w yX6_isIn cX6_isIn 2 (some .boolean) 1 [iV b, iV k] R M (QP R M (fun z => (z = 1 ∧ tb b k) ∨ (z = 0 ∧ ¬ tb b k))) := by
  have h := isIn_tb hb hk
  have hr := rng_zand (zshr b k) 1
  refine tx_S.ofk (lv := [(0, _), (1, _)]) [1, 1] (by decide) (by simp only [List.map_cons, List.map_nil, cat_i, cat_l, cat_r]) (by decide) rfl (fun E O F => ?_)
  refine tx_iload_n (pc := 0) 0 O dX6_isIn_0 rfl rfl ?_
  refine tx_iload_n (pc := 1) 1 O dX6_isIn_1 rfl rfl ?_
  refine tx_ishr (pc := 2) O dX6_isIn_2 ?_
  refine tx_iconst (pc := 3) O dX6_isIn_3 ?_
  refine tx_iand (pc := 4) O dX6_isIn_4 ?_
  refine tx_iconst (pc := 5) O dX6_isIn_5 ?_
  refine tx_icmp_ne (pc := 6) 13 O dX6_isIn_6 rfl (by omega) (fun c6 => ?_) (fun c6 => ?_)
  · refine tx_iconst (pc := 13) O dX6_isIn_13 ?_
    exact tx_zret O F dX6_isIn_14 (by omega) (tx_QP.mk (by first | exact Or.inl ⟨rfl, h.mp c6⟩ | exact Or.inr ⟨rfl, fun q => c6 (h.mpr q)⟩))
  · refine tx_iconst (pc := 9) O dX6_isIn_9 ?_
    refine tx_goto (pc := 10) 14 O dX6_isIn_10 rfl ?_
    exact tx_zret O F dX6_isIn_14 (by omega) (tx_QP.mk (by first | exact Or.inl ⟨rfl, h.mp c6⟩ | exact Or.inr ⟨rfl, fun q => c6 (h.mpr q)⟩))
theorem sX6_noteAt (w : WT) (t i : Int) (R M : TM) (u : PU) (hR : RL R) (hu : mP M u) (ht : 0 ≤ t ∧ t < (uT u).length) (hi : 0 ≤ i ∧ i < 12) : tx_S w yX6_noteAt cX6_noteAt 3 (some .int) 1 [rV (wa w) 2, iV t, iV i] R M (QP R M (fun z => z = nat12 (gl (uT u) t) i)) := by
  have hT := uT_ok hu.1.1
  have hD1 := hT.1
  obtain ⟨r1, r2⟩ := hu.2.1.2 t ht.1 ht.2
  have g12 := ((hT.2 _ (gl_mem ht.1 ht.2)).1).1
  refine tx_S.ofk (lv := [(0, _), (1, _), (2, _)]) [1, 1, 1] (by decide) (by simp only [List.map_cons, List.map_nil, cat_i, cat_l, cat_r]) (by decide) rfl (fun E O F => ?_)
  refine tx_iload_n (pc := 0) 2 O dX6_noteAt_0 rfl rfl ?_
  refine tx_aload_n (pc := 1) 0 O dX6_noteAt_1 rfl rfl ?_
  refine fX6_31 (pc := 2) O hR dX6_noteAt_2 ?_
  refine tx_iload_n (pc := 5) 1 O dX6_noteAt_5 rfl rfl ?_
  refine tx_iald (pc := 6) _ O dX6_noteAt_6 (sh_109 w) (by omega) ?_
  rw [r1]
  refine tx_icmp_ge (pc := 7) 24 O dX6_noteAt_7 rfl (by omega) (fun c7 => ?_) (fun c7 => ?_)
  · refine tx_iconst (pc := 24) O dX6_noteAt_24 ?_
    exact tx_iret O F dX6_noteAt_25 (tx_QP.mk (by unfold nat12; first | exact (if_pos c7).symm | exact (if_neg (by omega)).symm))
  · refine tx_aload_n (pc := 10) 0 O dX6_noteAt_10 rfl rfl ?_
    refine fX6_28 (pc := 11) O hR dX6_noteAt_11 ?_
    refine tx_bipush (pc := 14) O dX6_noteAt_14 (by decide) ?_
    refine tx_iload_n (pc := 16) 1 O dX6_noteAt_16 rfl rfl ?_
    refine tx_imul (pc := 17) O dX6_noteAt_17 ?_
    refine tx_iload_n (pc := 18) 2 O dX6_noteAt_18 rfl rfl ?_
    refine tx_iadd (pc := 19) O dX6_noteAt_19 ?_
    refine tx_iald (pc := 20) _ O dX6_noteAt_20 (sh_108 w) (by omega) ?_
    rw [r2 i hi.1 c7]
    refine tx_goto (pc := 21) 25 O dX6_noteAt_21 rfl ?_
    exact tx_iret O F dX6_noteAt_25 (tx_QP.mk (by unfold nat12; first | exact (if_pos c7).symm | exact (if_neg (by omega)).symm))
theorem nat12_ok {u : PU} (hu : uOk u) {t i : Int} (ht : 0 ≤ t ∧ t < (uT u).length) (hi : 0 ≤ i) : -1 ≤ nat12 (gl (uT u) t) i ∧ nat12 (gl (uT u) t) i ≤ 6 := by
  unfold nat12
  by_cases e : i < (gl (uT u) t).length
  · rw [if_pos e]
    have := ((uT_ok hu).2 _ (gl_mem ht.1 ht.2)).1.2 _ (ga_mem hi e)
    omega
  · rw [if_neg e]; omega
theorem sX6_tellsOf (w : WT) (t : Int) (R M : TM) (u : PU) (hR : RL R) (hu : mP M u) (ht : 0 ≤ t ∧ t < (uT u).length) : tx_S w yX6_tellsOf cX6_tellsOf 8 (some .int) 2 [rV (wa w) 2, iV t] R M (QP R M (fun z => z = tellS u t 4096)) := by
  have hok := hu.1.1
  have hD1 := (uT_ok hok).1
  refine tx_S.ofk (lv := [(0, _), (1, _)]) [1, 1] (by decide) (by simp only [List.map_cons, List.map_nil, cat_i, cat_l, cat_r]) (by decide) rfl (fun E O F => ?_)
  have K : ∀ (n : Int) (M' : TM), (0 ≤ n ∧ n ≤ 4096 ∧ M' = M) → ∀ b : Int, b = tellS u t n → tx_X w E 4 [(3, iV n), (2, iV b), (0, rV (wa w) 2), (1, iV t)] [] R M' := by
    refine lp_up _ _ 4096 ?_
    rintro n M' ⟨h1, h2, rfl⟩ ih b hb
    have hbd := tellS_ok u t n h1 h2
    rw [← hb] at hbd
    have hst := tellS_1 u t h1
    rw [← hb] at hst
    have K2 : n < 4096 → (b = -1 ∨ pc n < pc b) → ∀ (v : Int) (M2 : TM), (0 ≤ v ∧ v ≤ (uT u).length ∧ M2 = M') → ∀ a : Int, (a = 1 ∧ ∀ x : Int, 0 ≤ x → x < v → tell1 u t x n) ∨ (a = 0 ∧ ¬ okSet u t n) → tx_X w E 33 [(5, iV v), (4, iV a), (3, iV n), (2, iV b), (0, rV (wa w) 2), (1, iV t)] [] R M2 := by
      intro hn4 hbb
      refine lp_up _ _ (uT u).length ?_
      rintro v M2 ⟨g1, g2, rfl⟩ ih2 a ha
      have K3 : v < (uT u).length → (∀ x : Int, 0 ≤ x → x < v → tell1 u t x n) → ∀ (i : Int) (M3 : TM), (0 ≤ i ∧ i ≤ 12 ∧ M3 = M2) → ∀ o : Int, (o = 1 ∧ tell1 u t v n) ∨ (o = 0 ∧ v ≠ t ∧ ∀ j : Int, 0 ≤ j → j < i → ¬ (tb n j ∧ nat12 (gl (uT u) v) j ≠ nat12 (gl (uT u) t) j)) → tx_X w E 63 [(7, iV i), (6, iV o), (5, iV v), (4, iV a), (3, iV n), (2, iV b), (0, rV (wa w) 2), (1, iV t)] [] R M3 := by
        intro hv hall
        refine lp_up _ _ 12 ?_
        rintro i M3 ⟨j1, j2, rfl⟩ ih3 o hoo
        have S : (o = 1 ∧ tell1 u t v n) ∨ (o = 0 ∧ ¬ tell1 u t v n) → tx_X w E 115 [(7, iV i), (6, iV o), (5, iV v), (4, iV a), (3, iV n), (2, iV b), (0, rV (wa w) 2), (1, iV t)] [] R M3 := by
          intro hh
          refine tx_iload (pc := 115) 1 O dX6_tellsOf_115 rfl ?_
          refine tx_istore (pc := 117) (lv' := [(4, _), (7, _), (6, _), (5, _), (3, _), (2, _), (0, _), (1, _)]) O dX6_tellsOf_117 (by decide) rfl ?_
          refine tx_iinc (pc := 119) (lv' := [(5, _), (4, _), (7, _), (6, _), (3, _), (2, _), (0, _), (1, _)]) 3 O dX6_tellsOf_119 rfl (by decide) rfl ?_
          refine tx_goto (pc := 122) 33 O dX6_tellsOf_122 rfl ?_
          refine tx_lv (lv' := [(5, _), (4, _), (3, _), (2, _), (0, _), (1, _)]) [0, 1, 4, 5, 6, 7] rfl ?_
          refine ih2 _ _ ⟨by omega, by omega, rfl⟩ (by omega) (by omega) o ?_
          rcases hh with q | q
          · refine Or.inl ⟨q.1, fun x q1 q2 => ?_⟩
            by_cases e : x = v
            · rw [e]; exact q.2
            · exact hall x q1 (by omega)
          · exact Or.inr ⟨q.1, fun z => q.2 (z v g1 hv)⟩
        have ho01 : o = 0 ∨ o = 1 := by rcases hoo with q | q <;> omega
        have n1 := nat12_ok hok (t := v) (i := i) ⟨g1, hv⟩ j1
        have n2 := nat12_ok hok (t := t) (i := i) ht j1
        refine tx_iload (pc := 63) 0 O dX6_tellsOf_63 rfl ?_
        refine tx_bipush (pc := 65) O dX6_tellsOf_65 (by decide) ?_
        refine tx_icmp_ge (pc := 67) 115 O dX6_tellsOf_67 rfl (by omega) (fun c67 => ?_) (fun c67 => ?_)
        · refine S ?_
          rcases hoo with q | q
          · exact Or.inl q
          · first
            | exact absurd q.1 (by omega)
            | (refine Or.inr ⟨q.1, fun z => ?_⟩
               rcases z with z | ⟨j, z1, z2, z3, z4⟩
               · exact q.2.1 z
               · exact q.2.2 j z1 (by omega) ⟨z3, z4⟩)
        · refine tx_iload (pc := 70) 1 O dX6_tellsOf_70 rfl ?_
          refine tx_if_ne (pc := 72) 115 O dX6_tellsOf_72 rfl (by omega) (fun c72 => ?_) (fun c72 => ?_)
          · refine S ?_
            rcases hoo with q | q
            · exact Or.inl q
            · first
              | exact absurd q.1 (by omega)
              | (refine Or.inr ⟨q.1, fun z => ?_⟩
                 rcases z with z | ⟨j, z1, z2, z3, z4⟩
                 · exact q.2.1 z
                 · exact q.2.2 j z1 (by omega) ⟨z3, z4⟩)
          · have hno : v ≠ t ∧ ∀ j : Int, 0 ≤ j → j < i → ¬ (tb n j ∧ nat12 (gl (uT u) v) j ≠ nat12 (gl (uT u) t) j) := by
              rcases hoo with q | q
              · exact absurd q.1 (by omega)
              · exact q.2
            refine tx_iload_n (pc := 75) 4 O dX6_tellsOf_75 rfl rfl ?_
            refine tx_iload (pc := 76) 0 O dX6_tellsOf_76 rfl ?_
            refine tx_cS2 (pc := 78) O dX6_tellsOf_78 q1195 vX6_isIn (by decide) (Nat.zero_le _) (sX6_isIn w _ _ _ _ (by omega) (by omega)) (k_P (fun z78 h78 => ?_))
            refine tx_if_eq (pc := 81) 106 O dX6_tellsOf_81 rfl (by omega) (fun c81 => ?_) (fun c81 => ?_)
            · refine tx_iconst (pc := 106) O dX6_tellsOf_106 ?_
              refine tx_istore (pc := 107) (lv' := [(6, _), (7, _), (5, _), (4, _), (3, _), (2, _), (0, _), (1, _)]) O dX6_tellsOf_107 (by decide) rfl ?_
              refine tx_iinc (pc := 109) (lv' := [(7, _), (6, _), (5, _), (4, _), (3, _), (2, _), (0, _), (1, _)]) 1 O dX6_tellsOf_109 rfl (by decide) rfl ?_
              refine tx_goto (pc := 112) 63 O dX6_tellsOf_112 rfl ?_
              first
                | (refine ih3 _ _ ⟨by omega, by omega, rfl⟩ (by omega) (by omega) 1 (Or.inl ⟨rfl, Or.inr ⟨i, j1, c67, ?_, c99⟩⟩)
                   rcases h78 with q | q
                   · exact q.2
                   · exact absurd q.1 c81)
                | (refine ih3 _ _ ⟨by omega, by omega, rfl⟩ (by omega) (by omega) 0 (Or.inr ⟨rfl, hno.1, fun j q1 q2 z => ?_⟩)
                   by_cases e : j = i
                   · subst e
                     first
                       | exact absurd c99 z.2
                       | (rcases h78 with q | q
                          · exact absurd (q.1.symm.trans c81) (by decide)
                          · exact q.2 z.1)
                   · exact hno.2 j q1 (by omega) z)
            · refine tx_aload_n (pc := 84) 6 O dX6_tellsOf_84 rfl rfl ?_
              refine tx_iload (pc := 85) 2 O dX6_tellsOf_85 rfl ?_
              refine tx_iload (pc := 87) 0 O dX6_tellsOf_87 rfl ?_
              refine tx_cV2 (pc := 89) O dX6_tellsOf_89 q1198 vX6_noteAt (sh_2 w) rfl (by decide) (Nat.zero_le _) (sX6_noteAt w _ _ _ _ u hR hu (by omega) (by omega)) (k_P (fun z89 h89 => ?_))
              subst h89
              refine tx_aload_n (pc := 92) 6 O dX6_tellsOf_92 rfl rfl ?_
              refine tx_iload_n (pc := 93) 7 O dX6_tellsOf_93 rfl rfl ?_
              refine tx_iload (pc := 94) 0 O dX6_tellsOf_94 rfl ?_
              refine tx_cV2 (pc := 96) O dX6_tellsOf_96 q1198 vX6_noteAt (sh_2 w) rfl (by decide) (Nat.le_of_ble_eq_true rfl) (sX6_noteAt w _ _ _ _ u hR hu (by omega) (by omega)) (k_P (fun z96 h96 => ?_))
              subst h96
              refine tx_icmp_eq (pc := 99) 106 O dX6_tellsOf_99 rfl (by omega) (fun c99 => ?_) (fun c99 => ?_)
              · refine tx_iconst (pc := 106) O dX6_tellsOf_106 ?_
                refine tx_istore (pc := 107) (lv' := [(6, _), (7, _), (5, _), (4, _), (3, _), (2, _), (0, _), (1, _)]) O dX6_tellsOf_107 (by decide) rfl ?_
                refine tx_iinc (pc := 109) (lv' := [(7, _), (6, _), (5, _), (4, _), (3, _), (2, _), (0, _), (1, _)]) 1 O dX6_tellsOf_109 rfl (by decide) rfl ?_
                refine tx_goto (pc := 112) 63 O dX6_tellsOf_112 rfl ?_
                first
                  | (refine ih3 _ _ ⟨by omega, by omega, rfl⟩ (by omega) (by omega) 1 (Or.inl ⟨rfl, Or.inr ⟨i, j1, c67, ?_, c99⟩⟩)
                     rcases h78 with q | q
                     · exact q.2
                     · exact absurd q.1 c81)
                  | (refine ih3 _ _ ⟨by omega, by omega, rfl⟩ (by omega) (by omega) 0 (Or.inr ⟨rfl, hno.1, fun j q1 q2 z => ?_⟩)
                     by_cases e : j = i
                     · subst e
                       first
                         | exact absurd c99 z.2
                         | (rcases h78 with q | q
                            · exact absurd (q.1.symm.trans c81) (by decide)
                            · exact q.2 z.1)
                     · exact hno.2 j q1 (by omega) z)
              · refine tx_iconst (pc := 102) O dX6_tellsOf_102 ?_
                refine tx_goto (pc := 103) 107 O dX6_tellsOf_103 rfl ?_
                refine tx_istore (pc := 107) (lv' := [(6, _), (7, _), (5, _), (4, _), (3, _), (2, _), (0, _), (1, _)]) O dX6_tellsOf_107 (by decide) rfl ?_
                refine tx_iinc (pc := 109) (lv' := [(7, _), (6, _), (5, _), (4, _), (3, _), (2, _), (0, _), (1, _)]) 1 O dX6_tellsOf_109 rfl (by decide) rfl ?_
                refine tx_goto (pc := 112) 63 O dX6_tellsOf_112 rfl ?_
                first
                  | (refine ih3 _ _ ⟨by omega, by omega, rfl⟩ (by omega) (by omega) 1 (Or.inl ⟨rfl, Or.inr ⟨i, j1, c67, ?_, c99⟩⟩)
                     rcases h78 with q | q
                     · exact q.2
                     · exact absurd q.1 c81)
                  | (refine ih3 _ _ ⟨by omega, by omega, rfl⟩ (by omega) (by omega) 0 (Or.inr ⟨rfl, hno.1, fun j q1 q2 z => ?_⟩)
                     by_cases e : j = i
                     · subst e
                       first
                         | exact absurd c99 z.2
                         | (rcases h78 with q | q
                            · exact absurd (q.1.symm.trans c81) (by decide)
                            · exact q.2 z.1)
                     · exact hno.2 j q1 (by omega) z)
      have ha01 : a = 0 ∨ a = 1 := by rcases ha with q | q <;> omega
      refine tx_iload (pc := 33) 0 O dX6_tellsOf_33 rfl ?_
      refine tx_aload_n (pc := 35) 4 O dX6_tellsOf_35 rfl rfl ?_
      refine fX6_112 (pc := 36) O dX6_tellsOf_36 ?_
      rw [hu.2.1.1]
      refine tx_icmp_ge (pc := 39) 125 O dX6_tellsOf_39 rfl (by omega) (fun c39 => ?_) (fun c39 => ?_)
      · refine tx_iload (pc := 125) 1 O dX6_tellsOf_125 rfl ?_
        refine tx_if_eq (pc := 127) 134 O dX6_tellsOf_127 rfl (by omega) (fun c127 => ?_) (fun c127 => ?_)
        · refine tx_iload_n (pc := 134) 3 O dX6_tellsOf_134 rfl rfl ?_
          refine tx_istore_n (pc := 135) (lv' := [(2, _), (5, _), (4, _), (3, _), (0, _), (1, _)]) O dX6_tellsOf_135 rfl (by decide) rfl ?_
          refine tx_iinc (pc := 136) (lv' := [(3, _), (2, _), (5, _), (4, _), (0, _), (1, _)]) 3 O dX6_tellsOf_136 rfl (by decide) rfl ?_
          refine tx_goto (pc := 139) 4 O dX6_tellsOf_139 rfl ?_
          refine tx_lv (lv' := [(3, _), (2, _), (0, _), (1, _)]) [0, 1, 4, 5] rfl ?_
          refine ih _ _ ⟨by omega, by omega, rfl⟩ (by omega) (by omega) _ ?_
          rw [hst]
          rcases ha with q | q
          · first
            | exact absurd q.1 (by omega)
            | exact (tellI_y ⟨hbb, fun x z1 z2 => q.2 x z1 (by omega)⟩).symm
          · first
            | exact absurd q.1 (by omega)
            | exact (tellI_n (fun z => q.2 z.2)).symm
        · refine tx_iload_n (pc := 130) 2 O dX6_tellsOf_130 rfl rfl ?_
          refine tx_goto (pc := 131) 135 O dX6_tellsOf_131 rfl ?_
          refine tx_istore_n (pc := 135) (lv' := [(2, _), (5, _), (4, _), (3, _), (0, _), (1, _)]) O dX6_tellsOf_135 rfl (by decide) rfl ?_
          refine tx_iinc (pc := 136) (lv' := [(3, _), (2, _), (5, _), (4, _), (0, _), (1, _)]) 3 O dX6_tellsOf_136 rfl (by decide) rfl ?_
          refine tx_goto (pc := 139) 4 O dX6_tellsOf_139 rfl ?_
          refine tx_lv (lv' := [(3, _), (2, _), (0, _), (1, _)]) [0, 1, 4, 5] rfl ?_
          refine ih _ _ ⟨by omega, by omega, rfl⟩ (by omega) (by omega) _ ?_
          rw [hst]
          rcases ha with q | q
          · first
            | exact absurd q.1 (by omega)
            | exact (tellI_y ⟨hbb, fun x z1 z2 => q.2 x z1 (by omega)⟩).symm
          · first
            | exact absurd q.1 (by omega)
            | exact (tellI_n (fun z => q.2 z.2)).symm
      · refine tx_iload (pc := 42) 1 O dX6_tellsOf_42 rfl ?_
        refine tx_if_eq (pc := 44) 125 O dX6_tellsOf_44 rfl (by omega) (fun c44 => ?_) (fun c44 => ?_)
        · refine tx_iload (pc := 125) 1 O dX6_tellsOf_125 rfl ?_
          refine tx_if_eq (pc := 127) 134 O dX6_tellsOf_127 rfl (by omega) (fun c127 => ?_) (fun c127 => ?_)
          · refine tx_iload_n (pc := 134) 3 O dX6_tellsOf_134 rfl rfl ?_
            refine tx_istore_n (pc := 135) (lv' := [(2, _), (5, _), (4, _), (3, _), (0, _), (1, _)]) O dX6_tellsOf_135 rfl (by decide) rfl ?_
            refine tx_iinc (pc := 136) (lv' := [(3, _), (2, _), (5, _), (4, _), (0, _), (1, _)]) 3 O dX6_tellsOf_136 rfl (by decide) rfl ?_
            refine tx_goto (pc := 139) 4 O dX6_tellsOf_139 rfl ?_
            refine tx_lv (lv' := [(3, _), (2, _), (0, _), (1, _)]) [0, 1, 4, 5] rfl ?_
            refine ih _ _ ⟨by omega, by omega, rfl⟩ (by omega) (by omega) _ ?_
            rw [hst]
            rcases ha with q | q
            · first
              | exact absurd q.1 (by omega)
              | exact (tellI_y ⟨hbb, fun x z1 z2 => q.2 x z1 (by omega)⟩).symm
            · first
              | exact absurd q.1 (by omega)
              | exact (tellI_n (fun z => q.2 z.2)).symm
          · refine tx_iload_n (pc := 130) 2 O dX6_tellsOf_130 rfl rfl ?_
            refine tx_goto (pc := 131) 135 O dX6_tellsOf_131 rfl ?_
            refine tx_istore_n (pc := 135) (lv' := [(2, _), (5, _), (4, _), (3, _), (0, _), (1, _)]) O dX6_tellsOf_135 rfl (by decide) rfl ?_
            refine tx_iinc (pc := 136) (lv' := [(3, _), (2, _), (5, _), (4, _), (0, _), (1, _)]) 3 O dX6_tellsOf_136 rfl (by decide) rfl ?_
            refine tx_goto (pc := 139) 4 O dX6_tellsOf_139 rfl ?_
            refine tx_lv (lv' := [(3, _), (2, _), (0, _), (1, _)]) [0, 1, 4, 5] rfl ?_
            refine ih _ _ ⟨by omega, by omega, rfl⟩ (by omega) (by omega) _ ?_
            rw [hst]
            rcases ha with q | q
            · first
              | exact absurd q.1 (by omega)
              | exact (tellI_y ⟨hbb, fun x z1 z2 => q.2 x z1 (by omega)⟩).symm
            · first
              | exact absurd q.1 (by omega)
              | exact (tellI_n (fun z => q.2 z.2)).symm
        · have hall : ∀ x : Int, 0 ≤ x → x < v → tell1 u t x n := by
            rcases ha with q | q
            · exact q.2
            · exact absurd q.1 (by omega)
          refine tx_iload (pc := 47) 0 O dX6_tellsOf_47 rfl ?_
          refine tx_iload_n (pc := 49) 5 O dX6_tellsOf_49 rfl rfl ?_
          refine tx_icmp_ne (pc := 50) 57 O dX6_tellsOf_50 rfl (by omega) (fun c50 => ?_) (fun c50 => ?_)
          · refine tx_iconst (pc := 57) O dX6_tellsOf_57 ?_
            refine tx_istore (pc := 58) (lv' := [(6, _), (5, _), (4, _), (3, _), (2, _), (0, _), (1, _)]) O dX6_tellsOf_58 (by decide) rfl ?_
            refine tx_iconst (pc := 60) O dX6_tellsOf_60 ?_
            refine tx_istore (pc := 61) (lv' := [(7, _), (6, _), (5, _), (4, _), (3, _), (2, _), (0, _), (1, _)]) O dX6_tellsOf_61 (by decide) rfl ?_
            first
              | exact K3 c39 hall 0 _ ⟨by omega, by omega, rfl⟩ 1 (Or.inl ⟨rfl, Or.inl c50⟩)
              | exact K3 c39 hall 0 _ ⟨by omega, by omega, rfl⟩ 0 (Or.inr ⟨rfl, c50, fun j q1 q2 => by omega⟩)
          · refine tx_iconst (pc := 53) O dX6_tellsOf_53 ?_
            refine tx_goto (pc := 54) 58 O dX6_tellsOf_54 rfl ?_
            refine tx_istore (pc := 58) (lv' := [(6, _), (5, _), (4, _), (3, _), (2, _), (0, _), (1, _)]) O dX6_tellsOf_58 (by decide) rfl ?_
            refine tx_iconst (pc := 60) O dX6_tellsOf_60 ?_
            refine tx_istore (pc := 61) (lv' := [(7, _), (6, _), (5, _), (4, _), (3, _), (2, _), (0, _), (1, _)]) O dX6_tellsOf_61 (by decide) rfl ?_
            first
              | exact K3 c39 hall 0 _ ⟨by omega, by omega, rfl⟩ 1 (Or.inl ⟨rfl, Or.inl c50⟩)
              | exact K3 c39 hall 0 _ ⟨by omega, by omega, rfl⟩ 0 (Or.inr ⟨rfl, c50, fun j q1 q2 => by omega⟩)
    refine tx_iload_n (pc := 4) 0 O dX6_tellsOf_4 rfl rfl ?_
    refine tx_sipush (pc := 5) O dX6_tellsOf_5 (by decide) ?_
    refine tx_icmp_ge (pc := 8) 142 O dX6_tellsOf_8 rfl (by omega) (fun c8 => ?_) (fun c8 => ?_)
    · refine tx_iload_n (pc := 142) 1 O dX6_tellsOf_142 rfl rfl ?_
      exact tx_iret O F dX6_tellsOf_143 (tx_QP.mk (by rw [hb, show n = 4096 by omega]))
    · refine tx_iload_n (pc := 11) 1 O dX6_tellsOf_11 rfl rfl ?_
      refine tx_iconst (pc := 12) O dX6_tellsOf_12 ?_
      refine tx_icmp_eq (pc := 13) 27 O dX6_tellsOf_13 rfl (by omega) (fun c13 => ?_) (fun c13 => ?_)
      · refine tx_iconst (pc := 27) O dX6_tellsOf_27 ?_
        refine tx_istore (pc := 28) (lv' := [(4, _), (3, _), (2, _), (0, _), (1, _)]) O dX6_tellsOf_28 (by decide) rfl ?_
        refine tx_iconst (pc := 30) O dX6_tellsOf_30 ?_
        refine tx_istore (pc := 31) (lv' := [(5, _), (4, _), (3, _), (2, _), (0, _), (1, _)]) O dX6_tellsOf_31 (by decide) rfl ?_
        first
          | exact K2 c8 (Or.inl c13) 0 _ ⟨by omega, by omega, rfl⟩ 1 (Or.inl ⟨rfl, fun x q1 q2 => by omega⟩)
          | exact K2 c8 (Or.inr c24) 0 _ ⟨by omega, by omega, rfl⟩ 1 (Or.inl ⟨rfl, fun x q1 q2 => by omega⟩)
      · refine tx_iload_n (pc := 16) 0 O dX6_tellsOf_16 rfl rfl ?_
        refine tx_cS1 (pc := 17) O dX6_tellsOf_17 q1192 vX6_ones (by decide) (Nat.zero_le _) (sX6_ones w _ _ _ (by omega)) (k_P (fun z17 h17 => ?_))
        subst h17
        refine tx_iload_n (pc := 20) 1 O dX6_tellsOf_20 rfl rfl ?_
        refine tx_cS1 (pc := 21) O dX6_tellsOf_21 q1192 vX6_ones (by decide) (Nat.le_of_ble_eq_true rfl) (sX6_ones w _ _ _ (by omega)) (k_P (fun z21 h21 => ?_))
        subst h21
        have p1 := pc_ok n
        have p2 := pc_ok b
        refine tx_icmp_ge (pc := 24) 136 O dX6_tellsOf_24 rfl (by omega) (fun c24 => ?_) (fun c24 => ?_)
        · refine tx_iinc (pc := 136) (lv' := [(3, _), (2, _), (0, _), (1, _)]) 0 O dX6_tellsOf_136 rfl (by decide) rfl ?_
          refine tx_goto (pc := 139) 4 O dX6_tellsOf_139 rfl ?_
          refine ih _ _ ⟨by omega, by omega, rfl⟩ (by omega) (by omega) _ ?_
          rw [hst]
          exact (tellI_n (fun z => by rcases z.1 with q | q <;> omega)).symm
        · refine tx_iconst (pc := 27) O dX6_tellsOf_27 ?_
          refine tx_istore (pc := 28) (lv' := [(4, _), (3, _), (2, _), (0, _), (1, _)]) O dX6_tellsOf_28 (by decide) rfl ?_
          refine tx_iconst (pc := 30) O dX6_tellsOf_30 ?_
          refine tx_istore (pc := 31) (lv' := [(5, _), (4, _), (3, _), (2, _), (0, _), (1, _)]) O dX6_tellsOf_31 (by decide) rfl ?_
          first
            | exact K2 c8 (Or.inl c13) 0 _ ⟨by omega, by omega, rfl⟩ 1 (Or.inl ⟨rfl, fun x q1 q2 => by omega⟩)
            | exact K2 c8 (Or.inr c24) 0 _ ⟨by omega, by omega, rfl⟩ 1 (Or.inl ⟨rfl, fun x q1 q2 => by omega⟩)
  refine tx_iconst (pc := 0) O dX6_tellsOf_0 ?_
  refine tx_istore_n (pc := 1) (lv' := [(2, _), (0, _), (1, _)]) O dX6_tellsOf_1 rfl (by decide) rfl ?_
  refine tx_iconst (pc := 2) O dX6_tellsOf_2 ?_
  refine tx_istore_n (pc := 3) (lv' := [(3, _), (2, _), (0, _), (1, _)]) O dX6_tellsOf_3 rfl (by decide) rfl ?_
  exact K 0 M ⟨by omega, by omega, rfl⟩ (-1) rfl
theorem sX6_tellsBits (w : WT) (b what : Int) (R M : TM) (hb : -1 ≤ b ∧ b < 4096) (hw : 0 ≤ what ∧ what ≤ 1) : tx_S w yX6_tellsBits cX6_tellsBits 2 (some .int) 2 [iV b, iV what] R M (QP R M (fun z => z = if b = -1 ∨ what = 1 then b else pc b)) := by
  refine tx_S.ofk (lv := [(0, _), (1, _)]) [1, 1] (by decide) (by simp only [List.map_cons, List.map_nil, cat_i, cat_l, cat_r]) (by decide) rfl (fun E O F => ?_)
  refine tx_iload_n (pc := 0) 0 O dX6_tellsBits_0 rfl rfl ?_
  refine tx_iconst (pc := 1) O dX6_tellsBits_1 ?_
  refine tx_icmp_eq (pc := 2) 10 O dX6_tellsBits_2 rfl (by omega) (fun c2 => ?_) (fun c2 => ?_)
  · refine tx_iload_n (pc := 10) 0 O dX6_tellsBits_10 rfl rfl ?_
    refine tx_goto (pc := 11) 18 O dX6_tellsBits_11 rfl ?_
    exact tx_iret O F dX6_tellsBits_18 (tx_QP.mk (by first | exact (if_pos (Or.inl c2)).symm | exact (if_pos (Or.inr c7)).symm | (rw [h15]; exact (if_neg (by omega)).symm)))
  · refine tx_iload_n (pc := 5) 1 O dX6_tellsBits_5 rfl rfl ?_
    refine tx_iconst (pc := 6) O dX6_tellsBits_6 ?_
    refine tx_icmp_ne (pc := 7) 14 O dX6_tellsBits_7 rfl (by omega) (fun c7 => ?_) (fun c7 => ?_)
    · refine tx_iload_n (pc := 14) 0 O dX6_tellsBits_14 rfl rfl ?_
      refine tx_cS1 (pc := 15) O dX6_tellsBits_15 q1192 vX6_ones (by decide) (Nat.zero_le _) (sX6_ones w _ _ _ (by omega)) (k_P (fun z15 h15 => ?_))
      exact tx_iret O F dX6_tellsBits_18 (tx_QP.mk (by first | exact (if_pos (Or.inl c2)).symm | exact (if_pos (Or.inr c7)).symm | (rw [h15]; exact (if_neg (by omega)).symm)))
    · refine tx_iload_n (pc := 10) 0 O dX6_tellsBits_10 rfl rfl ?_
      refine tx_goto (pc := 11) 18 O dX6_tellsBits_11 rfl ?_
      exact tx_iret O F dX6_tellsBits_18 (tx_QP.mk (by first | exact (if_pos (Or.inl c2)).symm | exact (if_pos (Or.inr c7)).symm | (rw [h15]; exact (if_neg (by omega)).symm)))
theorem sX6_tells (w : WT) (t what : Int) (R M : TM) (u : PU) (hR : RL R) (hu : mT M u) (ht : rng t) (hw : rng what) : tx_S w yX6_tells cX6_tells 3 (some .int) 4 [rV (wa w) 2, iV t, iV what] R M (QI R (fun z M' => ((t < 0 ∨ (uT u).length ≤ t ∨ what < 0 ∨ 1 < what) ∧ z = -2 ∨ (0 ≤ t ∧ t < (uT u).length ∧ 0 ≤ what ∧ what ≤ 1) ∧ z = tellP u t what) ∧ kpQ M M')) := by
  refine tx_S.ofk (lv := [(0, _), (1, _), (2, _)]) [1, 1, 1] (by decide) (by simp only [List.map_cons, List.map_nil, cat_i, cat_l, cat_r]) (by decide) rfl (fun E O F => ?_)
  refine tx_aload_n (pc := 0) 0 O dX6_tells_0 rfl rfl ?_
  refine tx_cV0 (pc := 1) O dX6_tells_1 q983 vX6_reads (sh_2 w) rfl (by decide) (Nat.zero_le _) (sX6_reads w _ _ u hR hu) (k_V (fun M1 h1 => ?_))
  obtain ⟨hu, hk⟩ := h1
  refine tx_aload_n (pc := 4) 0 O dX6_tells_4 rfl rfl ?_
  refine tx_iload_n (pc := 5) 1 O dX6_tells_5 rfl rfl ?_
  refine tx_cV1 (pc := 6) O dX6_tells_6 q987 vX6_isTune (sh_2 w) rfl (by decide) (Nat.zero_le _) (sX6_isTune w _ _ _ u hu (by omega)) (k_P (fun z6 h6 => ?_))
  refine tx_if_eq (pc := 9) 31 O dX6_tells_9 rfl (by omega) (fun c9 => ?_) (fun c9 => ?_)
  · refine tx_bipush (pc := 31) O dX6_tells_31 (by decide) ?_
    exact tx_iret O F dX6_tells_33 (tx_QI.mk (by first | exact ⟨Or.inr ⟨by omega, h25⟩, hk⟩ | exact ⟨Or.inl ⟨by omega, rfl⟩, hk⟩))
  · refine tx_iload_n (pc := 12) 2 O dX6_tells_12 rfl rfl ?_
    refine tx_cS1 (pc := 13) O dX6_tells_13 q946 vX6_isTwo (by decide) (Nat.zero_le _) (sX6_isTwo w _ _ _ (by omega)) (k_P (fun z13 h13 => ?_))
    refine tx_if_eq (pc := 16) 31 O dX6_tells_16 rfl (by omega) (fun c16 => ?_) (fun c16 => ?_)
    · refine tx_bipush (pc := 31) O dX6_tells_31 (by decide) ?_
      exact tx_iret O F dX6_tells_33 (tx_QI.mk (by first | exact ⟨Or.inr ⟨by omega, h25⟩, hk⟩ | exact ⟨Or.inl ⟨by omega, rfl⟩, hk⟩))
    · refine tx_aload_n (pc := 19) 0 O dX6_tells_19 rfl rfl ?_
      refine tx_iload_n (pc := 20) 1 O dX6_tells_20 rfl rfl ?_
      refine tx_cV1 (pc := 21) O dX6_tells_21 q1188 vX6_tellsOf (sh_2 w) rfl (by decide) (Nat.zero_le _) (sX6_tellsOf w _ _ _ u hR hu (by omega)) (k_P (fun z21 h21 => ?_))
      subst h21
      have hbd := tellS_ok u t 4096 (by omega) (by omega)
      refine tx_iload_n (pc := 24) 2 O dX6_tells_24 rfl rfl ?_
      refine tx_cS2 (pc := 25) O dX6_tells_25 q1202 vX6_tellsBits (by decide) (Nat.zero_le _) (sX6_tellsBits w _ _ _ _ (by omega) (by omega)) (k_P (fun z25 h25 => ?_))
      refine tx_goto (pc := 28) 33 O dX6_tells_28 rfl ?_
      exact tx_iret O F dX6_tells_33 (tx_QI.mk (by first | exact ⟨Or.inr ⟨by omega, h25⟩, hk⟩ | exact ⟨Or.inl ⟨by omega, rfl⟩, hk⟩))
theorem sX6_losesOf (w : WT) (e : Int) (R M : TM) (u : PU) (hR : RL R) (hu : mP M u) (he : 0 ≤ e ∧ e ≤ 12) : tx_S w yX6_losesOf cX6_losesOf 2 (some .int) 7 [rV (wa w) 2, iV e] R M (QI R (fun z M' => z = intP u (runP u 0 40) - intP u (runP u e 40) ∧ kpR M M')) := by
  refine tx_S.ofk (lv := [(0, _), (1, _)]) [1, 1] (by decide) (by simp only [List.map_cons, List.map_nil, cat_i, cat_l, cat_r]) (by decide) rfl (fun E O F => ?_)
  refine tx_aload_n (pc := 0) 0 O dX6_losesOf_0 rfl rfl ?_
  refine tx_bipush (pc := 1) O dX6_losesOf_1 (by decide) ?_
  refine tx_iconst (pc := 3) O dX6_losesOf_3 ?_
  refine tx_cV2 (pc := 4) O dX6_losesOf_4 q1091 vX6_interestBy (sh_2 w) rfl (by decide) (Nat.zero_le _) (sX6_interestBy w _ _ _ _ u hR hu (by omega) (by omega)) (k_I (fun z4 M4 h4 => ?_))
  obtain ⟨k1, k2⟩ := h4
  have hu := hu.keep k2
  refine tx_aload_n (pc := 7) 0 O dX6_losesOf_7 rfl rfl ?_
  refine tx_bipush (pc := 8) O dX6_losesOf_8 (by decide) ?_
  refine tx_iload_n (pc := 10) 1 O dX6_losesOf_10 rfl rfl ?_
  refine tx_cV2 (pc := 11) O dX6_losesOf_11 q1091 vX6_interestBy (sh_2 w) rfl (by decide) (Nat.le_of_ble_eq_true rfl) (sX6_interestBy w _ _ _ _ u hR hu (by omega) (by omega)) (k_I (fun z11 M11 h11 => ?_))
  refine tx_isub (pc := 14) O dX6_losesOf_14 ?_
  exact tx_iret O F dX6_losesOf_15 (tx_QI.mk ⟨by rw [k1, h11.1]; rfl, k2.tr h11.2⟩)
theorem sX6_loses (w : WT) (e : Int) (R M : TM) (u : PU) (hR : RL R) (hu : mT M u) (he : rng e) : tx_S w yX6_loses cX6_loses 2 (some .int) 8 [rV (wa w) 2, iV e] R M (QI R (fun z M' => ((e < 0 ∨ 12 < e) ∧ z = -1002 ∨ (0 ≤ e ∧ e ≤ 12) ∧ z = intP u (runP u 0 40) - intP u (runP u e 40)) ∧ kpQ M M')) := by
  refine tx_S.ofk (lv := [(0, _), (1, _)]) [1, 1] (by decide) (by simp only [List.map_cons, List.map_nil, cat_i, cat_l, cat_r]) (by decide) rfl (fun E O F => ?_)
  refine tx_aload_n (pc := 0) 0 O dX6_loses_0 rfl rfl ?_
  refine tx_cV0 (pc := 1) O dX6_loses_1 q983 vX6_reads (sh_2 w) rfl (by decide) (Nat.zero_le _) (sX6_reads w _ _ u hR hu) (k_V (fun M1 h1 => ?_))
  obtain ⟨hu, hk⟩ := h1
  refine tx_iload_n (pc := 4) 1 O dX6_loses_4 rfl rfl ?_
  refine tx_i2l (pc := 5) O dX6_loses_5 (by omega) ?_
  refine tx_lconst0 (pc := 6) O dX6_loses_6 ?_
  refine tx_ldc2 (pc := 7) (z := 12) O dX6_loses_7 q1024 rfl ?_
  refine tx_cS3 (pc := 10) O dX6_loses_10 q910 vX6_in (by decide) (Nat.zero_le _) (sX6_in w _ _ _ _ _ (by omega) (by omega) (by omega)) (k_P (fun z10 h10 => ?_))
  refine tx_if_eq (pc := 13) 24 O dX6_loses_13 rfl (by omega) (fun c13 => ?_) (fun c13 => ?_)
  · refine tx_sipush (pc := 24) O dX6_loses_24 (by decide) ?_
    exact tx_iret O F dX6_loses_27 (tx_QI.mk (by first | exact ⟨Or.inr ⟨by omega, h18.1⟩, hk.tr h18.2.q⟩ | exact ⟨Or.inl ⟨by omega, rfl⟩, hk⟩))
  · refine tx_aload_n (pc := 16) 0 O dX6_loses_16 rfl rfl ?_
    refine tx_iload_n (pc := 17) 1 O dX6_loses_17 rfl rfl ?_
    refine tx_cV1 (pc := 18) O dX6_loses_18 q1209 vX6_losesOf (sh_2 w) rfl (by decide) (Nat.zero_le _) (sX6_losesOf w _ _ _ u hR hu (by omega)) (k_I (fun z18 M18 h18 => ?_))
    refine tx_goto (pc := 21) 27 O dX6_loses_21 rfl ?_
    exact tx_iret O F dX6_loses_27 (tx_QI.mk (by first | exact ⟨Or.inr ⟨by omega, h18.1⟩, hk.tr h18.2.q⟩ | exact ⟨Or.inl ⟨by omega, rfl⟩, hk⟩))
theorem sX6_bestOf (w : WT) (wish : Int) (R M : TM) (u : PU) (hR : RL R) (hu : mP M u) (hw : 0 ≤ wish ∧ wish ≤ 240) : tx_S w yX6_bestOf cX6_bestOf 3 (some .int) 7 [rV (wa w) 2, iV wish] R M (QI R (fun z M' => z = bestP u wish ∧ kpR M M')) := by
  have hok := hu.1.1
  refine tx_S.ofk (lv := [(0, _), (1, _)]) [1, 1] (by decide) (by simp only [List.map_cons, List.map_nil, cat_i, cat_l, cat_r]) (by decide) rfl (fun E O F => ?_)
  have K : ∀ (j : Int) (M' : TM), (0 ≤ j ∧ j ≤ 13 ∧ bestS u wish j = -1 ∧ kpR M M') → tx_X w E 3 [(2, iV (12 - j)), (0, rV (wa w) 2), (1, iV wish)] [] R M' := by
    refine lp_up _ _ 13 ?_
    rintro j M' ⟨h1, h2, h3, h4⟩ ih
    have hu := hu.keep h4
    have hst := bestS_1 h1 h3
    have hbd := intP_ok hok (okR_run hok (12 - j) (n := 40) (by omega)).1
    refine tx_iload_n (pc := 3) 0 O dX6_bestOf_3 rfl rfl ?_
    refine tx_if_lt (pc := 4) 26 O dX6_bestOf_4 rfl (by omega) (fun c4 => ?_) (fun c4 => ?_)
    · refine tx_iconst (pc := 26) O dX6_bestOf_26 ?_
      exact tx_iret O F dX6_bestOf_27 (tx_QI.mk ⟨by unfold bestP; rw [← h3, show j = 13 by omega], h4⟩)
    · refine tx_aload_n (pc := 7) 1 O dX6_bestOf_7 rfl rfl ?_
      refine tx_bipush (pc := 8) O dX6_bestOf_8 (by decide) ?_
      refine tx_iload_n (pc := 10) 0 O dX6_bestOf_10 rfl rfl ?_
      refine tx_cV2 (pc := 11) O dX6_bestOf_11 q1091 vX6_interestBy (sh_2 w) rfl (by decide) (Nat.zero_le _) (sX6_interestBy w _ _ _ _ u hR hu (by omega) (by omega)) (k_I (fun z11 M11 h11 => ?_))
      obtain ⟨k1, k2⟩ := h11
      change z11 = intP u (runP u (12 - j) 40) at k1
      refine tx_iload_n (pc := 14) 2 O dX6_bestOf_14 rfl rfl ?_
      refine tx_icmp_lt (pc := 15) 20 O dX6_bestOf_15 rfl (by omega) (fun c15 => ?_) (fun c15 => ?_)
      · refine tx_iinc (pc := 20) (lv' := [(2, _), (0, _), (1, _)]) 0 O dX6_bestOf_20 rfl (by decide) rfl ?_
        refine tx_goto (pc := 23) 3 O dX6_bestOf_23 rfl ?_
        rw [show 12 - j + -1 = 12 - (j + 1) by omega]
        exact ih _ _ ⟨by omega, by omega, by rw [hst]; exact if_neg (by omega), h4.tr k2⟩ (by omega) (by omega)
      · refine tx_iload_n (pc := 18) 0 O dX6_bestOf_18 rfl rfl ?_
        exact tx_iret O F dX6_bestOf_19 (tx_QI.mk ⟨by
            rw [if_pos (by omega)] at hst
            unfold bestP
            rw [bestS_stay (k := j + 1) (by omega) (by omega) (by omega), hst], h4.tr k2⟩)
  refine tx_bipush (pc := 0) O dX6_bestOf_0 (by decide) ?_
  refine tx_istore_n (pc := 2) (lv' := [(2, _), (0, _), (1, _)]) O dX6_bestOf_2 rfl (by decide) rfl ?_
  exact K 0 M ⟨by omega, by omega, rfl, kpR.rf⟩
theorem sX6_best (w : WT) (wish : Int) (R M : TM) (u : PU) (hR : RL R) (hu : mT M u) (hw : rng wish) : tx_S w yX6_best cX6_best 2 (some .int) 8 [rV (wa w) 2, iV wish] R M (QI R (fun z M' => ((wish < 0 ∨ 240 < wish) ∧ z = -2 ∨ (0 ≤ wish ∧ wish ≤ 240) ∧ z = bestP u wish) ∧ kpQ M M')) := by
  refine tx_S.ofk (lv := [(0, _), (1, _)]) [1, 1] (by decide) (by simp only [List.map_cons, List.map_nil, cat_i, cat_l, cat_r]) (by decide) rfl (fun E O F => ?_)
  refine tx_aload_n (pc := 0) 0 O dX6_best_0 rfl rfl ?_
  refine tx_cV0 (pc := 1) O dX6_best_1 q983 vX6_reads (sh_2 w) rfl (by decide) (Nat.zero_le _) (sX6_reads w _ _ u hR hu) (k_V (fun M1 h1 => ?_))
  obtain ⟨hu, hk⟩ := h1
  refine tx_iload_n (pc := 4) 1 O dX6_best_4 rfl rfl ?_
  refine tx_i2l (pc := 5) O dX6_best_5 (by omega) ?_
  refine tx_lconst0 (pc := 6) O dX6_best_6 ?_
  refine tx_ldc2 (pc := 7) (z := 240) O dX6_best_7 q1217 rfl ?_
  refine tx_cS3 (pc := 10) O dX6_best_10 q910 vX6_in (by decide) (Nat.zero_le _) (sX6_in w _ _ _ _ _ (by omega) (by omega) (by omega)) (k_P (fun z10 h10 => ?_))
  refine tx_if_eq (pc := 13) 24 O dX6_best_13 rfl (by omega) (fun c13 => ?_) (fun c13 => ?_)
  · refine tx_bipush (pc := 24) O dX6_best_24 (by decide) ?_
    exact tx_iret O F dX6_best_26 (tx_QI.mk (by first | exact ⟨Or.inr ⟨by omega, h18.1⟩, hk.tr h18.2.q⟩ | exact ⟨Or.inl ⟨by omega, rfl⟩, hk⟩))
  · refine tx_aload_n (pc := 16) 0 O dX6_best_16 rfl rfl ?_
    refine tx_iload_n (pc := 17) 1 O dX6_best_17 rfl rfl ?_
    refine tx_cV1 (pc := 18) O dX6_best_18 q1218 vX6_bestOf (sh_2 w) rfl (by decide) (Nat.zero_le _) (sX6_bestOf w _ _ _ u hR hu (by omega)) (k_I (fun z18 M18 h18 => ?_))
    refine tx_goto (pc := 21) 26 O dX6_best_21 rfl ?_
    exact tx_iret O F dX6_best_26 (tx_QI.mk (by first | exact ⟨Or.inr ⟨by omega, h18.1⟩, hk.tr h18.2.q⟩ | exact ⟨Or.inl ⟨by omega, rfl⟩, hk⟩))

