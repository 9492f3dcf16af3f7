/-! MODEL, years: commonOf, startsAll, lends, returns, goesOn, lives -/
set_option maxRecDepth 100000
theorem sX6_commonOf (w : WT) (ia fa ib fb : Int) (na nb : Nat) (la lb : List Int) (R M : TM) (hR : RL R) (ha : tx_sh w ia = (1, na)) (hb : tx_sh w ib = (1, nb)) (hia : ia ≠ 125) (hib : ib ≠ 125) (hfa : 0 ≤ fa ∧ fa + la.length ≤ na) (hfb : 0 ≤ fb ∧ fb + lb.length ≤ nb) (hna : na ≤ 1000) (hnb : nb ≤ 1000) (hla : la.length ≤ 40) (hlb : lb.length ≤ 40) (ra : ∀ x ∈ la, 0 ≤ x ∧ x ≤ 6) (rb : ∀ x ∈ lb, 0 ≤ x ∧ x ≤ 6) (ca : ∀ i : Int, 0 ≤ i → i < la.length → M ia (fa + i) = ga la i) (cb : ∀ i : Int, 0 ≤ i → i < lb.length → M ib (fb + i) = ga lb i) : tx_S w yX6_commonOf cX6_commonOf 11 (some .int) 2 [rV (wa w) 2, rV (wa w) ia, iV fa, iV la.length, rV (wa w) ib, iV fb, iV lb.length] R M (QI R (fun z M' => z = lcs la lb ∧ ∀ a b : Int, a ≠ 125 → M' a b = M a b)) := by
  refine tx_S.ofk (lv := [(0, _), (1, _), (2, _), (3, _), (4, _), (5, _), (6, _)]) [1, 1, 1, 1, 1, 1, 1] (by decide) (by simp only [List.map_cons, List.map_nil, cat_i, cat_l, cat_r]) (by decide) rfl (fun E O F => ?_)
  have K2 : ∀ (i : Int) (M' : TM), (0 ≤ i ∧ i ≤ la.length ∧ (∀ k : Int, 0 ≤ k → k ≤ lb.length → M' 125 k = lcI la lb i k) ∧ (∀ a b : Int, a ≠ 125 → M' a b = M a b)) → tx_X w E 27 [(7, iV i), (0, rV (wa w) 2), (1, rV (wa w) ia), (2, iV fa), (3, iV la.length), (4, rV (wa w) ib), (5, iV fb), (6, iV lb.length)] [] R M' := by
    refine lp_up _ _ la.length ?_
    rintro i M' ⟨h1, h2, h3, h4⟩ ih
    have K3 : i < la.length → ∀ z : Int × Int × TM, (1 ≤ z.1 ∧ z.1 ≤ lb.length + 1 ∧ z.2.1 = lcI la lb i (z.1 - 1) ∧ (∀ k : Int, 0 ≤ k → k < z.1 → z.2.2 125 k = lcI la lb (i + 1) k) ∧ (∀ k : Int, z.1 ≤ k → k ≤ lb.length → z.2.2 125 k = lcI la lb i k) ∧ (∀ a b : Int, a ≠ 125 → z.2.2 a b = M a b)) → tx_X w E 39 [(9, iV z.1), (8, iV z.2.1), (7, iV i), (0, rV (wa w) 2), (1, rV (wa w) ia), (2, iV fa), (3, iV la.length), (4, rV (wa w) ib), (5, iV fb), (6, iV lb.length)] [] R z.2.2 := by
      intro hi
      refine lp_m _ _ (fun z => (lb.length + 1 - z.1).toNat) ?_
      rintro ⟨j, av, M2⟩ ⟨g1, g2, g3, g4, g5, g6⟩ ih2
      dsimp only at g1 g2 g3 g4 g5 g6 ⊢
      have S : j ≤ lb.length → tx_X w E 106 [(10, iV (lcI la lb i j)), (9, iV j), (8, iV av), (7, iV i), (0, rV (wa w) 2), (1, rV (wa w) ia), (2, iV fa), (3, iV la.length), (4, rV (wa w) ib), (5, iV fb), (6, iV lb.length)] [iV (lcI la lb (i + 1) j), iV j, rV (wa w) 125] R M2 := by
        intro hj
        refine tx_iast (pc := 106) _ O dX6_commonOf_106 (sh_125 w) (by omega) ?_
        refine tx_iload (pc := 107) 0 O dX6_commonOf_107 rfl ?_
        refine tx_istore (pc := 109) (lv' := [(8, _), (10, _), (9, _), (7, _), (0, _), (1, _), (2, _), (3, _), (4, _), (5, _), (6, _)]) O dX6_commonOf_109 (by decide) rfl ?_
        refine tx_iinc (pc := 111) (lv' := [(9, _), (8, _), (10, _), (7, _), (0, _), (1, _), (2, _), (3, _), (4, _), (5, _), (6, _)]) 2 O dX6_commonOf_111 rfl (by decide) rfl ?_
        refine tx_goto (pc := 114) 39 O dX6_commonOf_114 rfl ?_
        refine tx_lv (lv' := [(9, _), (8, _), (7, _), (0, _), (1, _), (2, _), (3, _), (4, _), (5, _), (6, _)]) [0, 1, 3, 4, 5, 6, 7, 8, 9, 10] rfl ?_
        refine ih2 (j + 1, lcI la lb i j, up M2 125 j (lcI la lb (i + 1) j)) ?_ (by dsimp only; omega)
        dsimp only
        refine ⟨by omega, by omega, by rw [show j + 1 - 1 = j by omega], fun k q1 q2 => ?_, fun k q1 q2 => by rw [up_n (by omega)]; exact g5 k (by omega) q2, fun a b q => by rw [up_n (by omega)]; exact g6 a b q⟩
        by_cases e : k = j
        · subst e; exact up_s
        · rw [up_n (by omega)]; exact g4 k q1 (by omega)
      have hs := lcI_s la lb h1 g1
      have v1 := lcI_le la lb (i := i) j h1
      have v2 := lcI_le la lb (i := i + 1) (j - 1) (by omega)
      refine tx_iload (pc := 39) 0 O dX6_commonOf_39 rfl ?_
      refine tx_iload (pc := 41) 9 O dX6_commonOf_41 rfl ?_
      refine tx_icmp_gt (pc := 43) 117 O dX6_commonOf_43 rfl (by omega) (fun c43 => ?_) (fun c43 => ?_)
      · refine tx_iinc (pc := 117) (lv' := [(7, _), (9, _), (8, _), (0, _), (1, _), (2, _), (3, _), (4, _), (5, _), (6, _)]) 2 O dX6_commonOf_117 rfl (by decide) rfl ?_
        refine tx_goto (pc := 120) 27 O dX6_commonOf_120 rfl ?_
        refine tx_lv (lv' := [(7, _), (0, _), (1, _), (2, _), (3, _), (4, _), (5, _), (6, _)]) [0, 3, 4, 5, 6, 7, 8, 9] rfl ?_
        exact ih _ _ ⟨by omega, by omega, fun k q1 q2 => g4 k q1 (by omega), g6⟩ (by omega) (by omega)
      · have ea := ra _ (ga_mem h1 hi)
        have eb := rb _ (ga_mem (i := j - 1) (by omega) (by omega))
        refine tx_aload_n (pc := 46) 3 O dX6_commonOf_46 rfl rfl ?_
        refine fX6_70 (pc := 47) O hR dX6_commonOf_47 ?_
        refine tx_iload (pc := 50) 0 O dX6_commonOf_50 rfl ?_
        refine tx_iald (pc := 52) _ O dX6_commonOf_52 (sh_125 w) (by omega) ?_
        rw [g5 j (by omega) (by omega)]
        refine tx_istore (pc := 53) (lv' := [(10, _), (9, _), (8, _), (7, _), (0, _), (1, _), (2, _), (3, _), (4, _), (5, _), (6, _)]) O dX6_commonOf_53 (by decide) rfl ?_
        refine tx_aload_n (pc := 55) 4 O dX6_commonOf_55 rfl rfl ?_
        refine fX6_70 (pc := 56) O hR dX6_commonOf_56 ?_
        refine tx_iload (pc := 59) 1 O dX6_commonOf_59 rfl ?_
        refine tx_aload_n (pc := 61) 5 O dX6_commonOf_61 rfl rfl ?_
        refine tx_iload_n (pc := 62) 6 O dX6_commonOf_62 rfl rfl ?_
        refine tx_iload (pc := 63) 3 O dX6_commonOf_63 rfl ?_
        refine tx_iadd (pc := 65) O dX6_commonOf_65 ?_
        refine tx_iald (pc := 66) _ O dX6_commonOf_66 (ha) (by omega) ?_
        rw [g6 _ _ hia, ca i h1 hi]
        refine tx_aload (pc := 67) 8 O dX6_commonOf_67 rfl ?_
        refine tx_iload (pc := 69) 9 O dX6_commonOf_69 rfl ?_
        refine tx_iload (pc := 71) 1 O dX6_commonOf_71 rfl ?_
        refine tx_iadd (pc := 73) O dX6_commonOf_73 ?_
        refine tx_iconst (pc := 74) O dX6_commonOf_74 ?_
        refine tx_isub (pc := 75) O dX6_commonOf_75 ?_
        refine tx_iald (pc := 76) _ O dX6_commonOf_76 (hb) (by omega) ?_
        rw [show fb + j - 1 = fb + (j - 1) by omega, g6 _ _ hib, cb (j - 1) (by omega) (by omega)]
        refine tx_icmp_ne (pc := 77) 87 O dX6_commonOf_77 rfl (by omega) (fun c77 => ?_) (fun c77 => ?_)
        · refine tx_aload_n (pc := 87) 4 O dX6_commonOf_87 rfl rfl ?_
          refine fX6_70 (pc := 88) O hR dX6_commonOf_88 ?_
          refine tx_iload (pc := 91) 1 O dX6_commonOf_91 rfl ?_
          refine tx_iald (pc := 93) _ O dX6_commonOf_93 (sh_125 w) (by omega) ?_
          rw [g5 j (by omega) (by omega)]
          refine tx_aload_n (pc := 94) 4 O dX6_commonOf_94 rfl rfl ?_
          refine fX6_70 (pc := 95) O hR dX6_commonOf_95 ?_
          refine tx_iload (pc := 98) 1 O dX6_commonOf_98 rfl ?_
          refine tx_iconst (pc := 100) O dX6_commonOf_100 ?_
          refine tx_isub (pc := 101) O dX6_commonOf_101 ?_
          refine tx_iald (pc := 102) _ O dX6_commonOf_102 (sh_125 w) (by omega) ?_
          rw [g4 (j - 1) (by omega) (by omega)]
          refine tx_cS2 (pc := 103) O dX6_commonOf_103 q1068 vX6_greater (by decide) (by simp only [List.map_cons, List.map_nil, cat_i, cat_l, cat_r, List.sum_cons, List.sum_nil]; decide) (sX6_greater w _ _ _ _ (by omega)) (k_P (fun z103 h103 => ?_))
          first
            | (rw [if_pos c77] at hs
               rw [show av + 1 = lcI la lb (i + 1) j by rw [hs, g3]]
               exact S c43)
            | (rw [if_neg c77, ← h103] at hs
               rw [← hs]
               exact S c43)
        · refine tx_iload (pc := 80) 2 O dX6_commonOf_80 rfl ?_
          refine tx_iconst (pc := 82) O dX6_commonOf_82 ?_
          refine tx_iadd (pc := 83) O dX6_commonOf_83 ?_
          refine tx_goto (pc := 84) 106 O dX6_commonOf_84 rfl ?_
          first
            | (rw [if_pos c77] at hs
               rw [show av + 1 = lcI la lb (i + 1) j by rw [hs, g3]]
               exact S c43)
            | (rw [if_neg c77, ← h103] at hs
               rw [← hs]
               exact S c43)
    refine tx_iload (pc := 27) 0 O dX6_commonOf_27 rfl ?_
    refine tx_iload_n (pc := 29) 4 O dX6_commonOf_29 rfl rfl ?_
    refine tx_icmp_ge (pc := 30) 123 O dX6_commonOf_30 rfl (by omega) (fun c30 => ?_) (fun c30 => ?_)
    · refine tx_aload_n (pc := 123) 1 O dX6_commonOf_123 rfl rfl ?_
      refine fX6_70 (pc := 124) O hR dX6_commonOf_124 ?_
      refine tx_iload (pc := 127) 7 O dX6_commonOf_127 rfl ?_
      refine tx_iald (pc := 129) _ O dX6_commonOf_129 (sh_125 w) (by omega) ?_
      exact tx_iret O F dX6_commonOf_130 (tx_QI.mk ⟨by rw [h3 _ (by omega) (by omega), show i = la.length by omega]; rfl, h4⟩)
    · refine tx_iconst (pc := 33) O dX6_commonOf_33 ?_
      refine tx_istore (pc := 34) (lv' := [(8, _), (7, _), (0, _), (1, _), (2, _), (3, _), (4, _), (5, _), (6, _)]) O dX6_commonOf_34 (by decide) rfl ?_
      refine tx_iconst (pc := 36) O dX6_commonOf_36 ?_
      refine tx_istore (pc := 37) (lv' := [(9, _), (8, _), (7, _), (0, _), (1, _), (2, _), (3, _), (4, _), (5, _), (6, _)]) O dX6_commonOf_37 (by decide) rfl ?_
      refine K3 c30 (1, 0, M') ?_
      dsimp only
      exact ⟨by omega, by omega, by rw [show (1 : Int) - 1 = 0 from rfl, lcI_z], fun k q1 q2 => by rw [show k = 0 by omega, h3 0 (by omega) (by omega), lcI_z, lcI_z], fun k q1 q2 => h3 k (by omega) q2, h4⟩
  have K1 : ∀ (j : Int) (M' : TM), (0 ≤ j ∧ j ≤ lb.length + 1 ∧ (∀ k : Int, 0 ≤ k → k < j → M' 125 k = 0) ∧ (∀ a b : Int, a ≠ 125 → M' a b = M a b)) → tx_X w E 3 [(7, iV j), (0, rV (wa w) 2), (1, rV (wa w) ia), (2, iV fa), (3, iV la.length), (4, rV (wa w) ib), (5, iV fb), (6, iV lb.length)] [] R M' := by
    refine lp_up _ _ (lb.length + 1) ?_
    rintro j M' ⟨h1, h2, h3, h4⟩ ih
    refine tx_iload (pc := 3) 0 O dX6_commonOf_3 rfl ?_
    refine tx_iload (pc := 5) 7 O dX6_commonOf_5 rfl ?_
    refine tx_icmp_gt (pc := 7) 24 O dX6_commonOf_7 rfl (by omega) (fun c7 => ?_) (fun c7 => ?_)
    · refine tx_iconst (pc := 24) O dX6_commonOf_24 ?_
      refine tx_istore (pc := 25) (lv' := [(7, _), (0, _), (1, _), (2, _), (3, _), (4, _), (5, _), (6, _)]) O dX6_commonOf_25 (by decide) rfl ?_
      exact K2 0 M' ⟨by omega, by omega, fun k q1 q2 => by rw [h3 k q1 (by omega)]; rfl, h4⟩
    · refine tx_aload_n (pc := 10) 1 O dX6_commonOf_10 rfl rfl ?_
      refine fX6_70 (pc := 11) O hR dX6_commonOf_11 ?_
      refine tx_iload (pc := 14) 0 O dX6_commonOf_14 rfl ?_
      refine tx_iconst (pc := 16) O dX6_commonOf_16 ?_
      refine tx_iast (pc := 17) _ O dX6_commonOf_17 (sh_125 w) (by omega) ?_
      refine tx_iinc (pc := 18) (lv' := [(7, _), (0, _), (1, _), (2, _), (3, _), (4, _), (5, _), (6, _)]) 0 O dX6_commonOf_18 rfl (by decide) rfl ?_
      refine tx_goto (pc := 21) 3 O dX6_commonOf_21 rfl ?_
      refine ih _ _ ⟨by omega, by omega, fun k q1 q2 => ?_, fun a b q => by rw [up_n (by omega)]; exact h4 a b q⟩ (by omega) (by omega)
      by_cases e : k = j
      · subst e; exact up_s
      · rw [up_n (by omega)]; exact h3 k q1 (by omega)
  refine tx_iconst (pc := 0) O dX6_commonOf_0 ?_
  refine tx_istore (pc := 1) (lv' := [(7, _), (0, _), (1, _), (2, _), (3, _), (4, _), (5, _), (6, _)]) O dX6_commonOf_1 (by decide) rfl ?_
  exact K1 0 M ⟨by omega, by omega, fun k q1 q2 => by omega, fun _ _ _ => rfl⟩
/-- the model's run: tunes now, as they were lent, who has them by which loan; loans -/
def RunM (M : TM) (u : PU) (r : RS) : Prop := (∀ t : Int, 0 ≤ t → t < (uT u).length → nowIs M t (rNow r t) ∧ (rBy r t = -1 → M 119 t = -1) ∧ (rBy r t ≠ -1 → M 119 t = ulo u (rBy r t) 2 ∧ M 120 t = rBy r t ∧ lentIs M t (rLent r t))) ∧ ∀ k : Int, 0 ≤ k → k < 12 → M 121 k = rCnt r k ∧ M 122 k = rBad r k ∧ M 123 k = rGain r k
theorem sX6_startsAll (w : WT) (R M : TM) (u : PU) (hR : RL R) (hu : mP M u) : tx_S w yX6_startsAll cX6_startsAll 2 none 2 [rV (wa w) 2] R M (QV R (fun M' => RunM M' u (startS u) ∧ kpR M M')) := by
  have hD := uT_ok hu.1.1
  have hD1 := hD.1
  refine tx_S.ofk (lv := [(0, _)]) [1] (by decide) (by simp only [List.map_cons, List.map_nil, cat_i, cat_l, cat_r]) (by decide) rfl (fun E O F => ?_)
  have K2 : ∀ (k : Int) (M' : TM), (0 ≤ k ∧ k ≤ 12 ∧ (∀ t : Int, 0 ≤ t → t < (uT u).length → nowIs M' t (gl (uT u) t) ∧ M' 119 t = -1) ∧ (∀ j : Int, 0 ≤ j → j < k → M' 121 j = 0 ∧ M' 122 j = 0 ∧ M' 123 j = 0) ∧ kpR M M') → tx_X w E 31 [(1, iV k), (0, rV (wa w) 2)] [] R M' := by
    refine lp_up _ _ 12 ?_
    rintro k M' ⟨h1, h2, h3, h4, h5⟩ ih
    refine tx_iload_n (pc := 31) 0 O dX6_startsAll_31 rfl rfl ?_
    refine tx_bipush (pc := 32) O dX6_startsAll_32 (by decide) ?_
    refine tx_icmp_ge (pc := 34) 64 O dX6_startsAll_34 rfl (by omega) (fun c34 => ?_) (fun c34 => ?_)
    · exact tx_vret O F dX6_startsAll_64 (tx_QV.mk ⟨⟨fun t q1 q2 => ⟨(h3 t q1 q2).1, fun _ => (h3 t q1 q2).2, fun q => absurd rfl q⟩, fun j q1 q2 => h4 j q1 (by omega)⟩, h5⟩)
    · refine tx_aload_n (pc := 37) 1 O dX6_startsAll_37 rfl rfl ?_
      refine fX6_58 (pc := 38) O hR dX6_startsAll_38 ?_
      refine tx_iload_n (pc := 41) 0 O dX6_startsAll_41 rfl rfl ?_
      refine tx_iconst (pc := 42) O dX6_startsAll_42 ?_
      refine tx_iast (pc := 43) _ O dX6_startsAll_43 (sh_121 w) (by omega) ?_
      refine tx_aload_n (pc := 44) 1 O dX6_startsAll_44 rfl rfl ?_
      refine fX6_61 (pc := 45) O hR dX6_startsAll_45 ?_
      refine tx_iload_n (pc := 48) 0 O dX6_startsAll_48 rfl rfl ?_
      refine tx_iconst (pc := 49) O dX6_startsAll_49 ?_
      refine tx_iast (pc := 50) _ O dX6_startsAll_50 (sh_122 w) (by omega) ?_
      refine tx_aload_n (pc := 51) 1 O dX6_startsAll_51 rfl rfl ?_
      refine fX6_64 (pc := 52) O hR dX6_startsAll_52 ?_
      refine tx_iload_n (pc := 55) 0 O dX6_startsAll_55 rfl rfl ?_
      refine tx_iconst (pc := 56) O dX6_startsAll_56 ?_
      refine tx_iast (pc := 57) _ O dX6_startsAll_57 (sh_123 w) (by omega) ?_
      refine tx_iinc (pc := 58) (lv' := [(1, _), (0, _)]) 0 O dX6_startsAll_58 rfl (by decide) rfl ?_
      refine tx_goto (pc := 61) 31 O dX6_startsAll_61 rfl ?_
      refine ih _ _ ⟨by omega, by omega, fun t q1 q2 => ⟨⟨by rw [up_n (by omega), up_n (by omega), up_n (by omega)]; exact (h3 t q1 q2).1.1, fun i r1 r2 => by rw [up_n (by omega), up_n (by omega), up_n (by omega)]; exact (h3 t q1 q2).1.2 i r1 r2⟩, by rw [up_n (by omega), up_n (by omega), up_n (by omega)]; exact (h3 t q1 q2).2⟩, fun j q1 q2 => ?_, fun a b q => by rw [up_n (by omega), up_n (by omega), up_n (by omega)]; exact h5 a b q⟩ (by omega) (by omega)
      by_cases e : j = k
      · subst e
        exact ⟨by rw [up_n (by omega), up_n (by omega), up_s], by rw [up_n (by omega), up_s], up_s⟩
      · rw [up_n (by omega), up_n (by omega), up_n (by omega), up_n (by omega), up_n (by omega), up_n (by omega), up_n (by omega), up_n (by omega), up_n (by omega)]
        exact h4 j q1 (by omega)
  have K1 : ∀ (t : Int) (M' : TM), (0 ≤ t ∧ t ≤ (uT u).length ∧ (∀ s : Int, 0 ≤ s → s < t → nowIs M' s (gl (uT u) s) ∧ M' 119 s = -1) ∧ kpR M M') → tx_X w E 2 [(1, iV t), (0, rV (wa w) 2)] [] R M' := by
    refine lp_up _ _ (uT u).length ?_
    rintro t M' ⟨h1, h2, h3, h4⟩ ih
    have hu := hu.keep h4
    refine tx_iload_n (pc := 2) 0 O dX6_startsAll_2 rfl rfl ?_
    refine tx_aload_n (pc := 3) 1 O dX6_startsAll_3 rfl rfl ?_
    refine fX6_112 (pc := 4) O dX6_startsAll_4 ?_
    rw [hu.2.1.1]
    refine tx_icmp_ge (pc := 7) 29 O dX6_startsAll_7 rfl (by omega) (fun c7 => ?_) (fun c7 => ?_)
    · refine tx_iconst (pc := 29) O dX6_startsAll_29 ?_
      refine tx_istore_n (pc := 30) (lv' := [(1, _), (0, _)]) O dX6_startsAll_30 rfl (by decide) rfl ?_
      exact K2 0 _ ⟨by omega, by omega, fun s q1 q2 => h3 s q1 (by omega), fun j q1 q2 => by omega, h4⟩
    · refine tx_aload_n (pc := 10) 1 O dX6_startsAll_10 rfl rfl ?_
      refine tx_iload_n (pc := 11) 0 O dX6_startsAll_11 rfl rfl ?_
      refine tx_iload_n (pc := 12) 0 O dX6_startsAll_12 rfl rfl ?_
      refine tx_cV2 (pc := 13) O dX6_startsAll_13 q1041 vX6_begins (sh_2 w) rfl (by decide) (Nat.zero_le _) (sX6_begins w _ _ _ _ u hR hu (by omega) (by omega)) (k_V (fun M13 h13 => ?_))
      obtain ⟨g1, g2⟩ := h13
      refine tx_aload_n (pc := 16) 1 O dX6_startsAll_16 rfl rfl ?_
      refine fX6_52 (pc := 17) O hR dX6_startsAll_17 ?_
      refine tx_iload_n (pc := 20) 0 O dX6_startsAll_20 rfl rfl ?_
      refine tx_iconst (pc := 21) O dX6_startsAll_21 ?_
      refine tx_iast (pc := 22) _ O dX6_startsAll_22 (sh_119 w) (by omega) ?_
      refine tx_iinc (pc := 23) (lv' := [(1, _), (0, _)]) 0 O dX6_startsAll_23 rfl (by decide) rfl ?_
      refine tx_goto (pc := 26) 2 O dX6_startsAll_26 rfl ?_
      refine ih _ _ ⟨by omega, by omega, fun s q1 q2 => ?_, fun a b q => by rw [up_n (by omega)]; exact (h4.tr g2.r) a b q⟩ (by omega) (by omega)
      by_cases e : s = t
      · subst e
        exact ⟨⟨by rw [up_n (by omega)]; exact g1.1, fun i r1 r2 => by rw [up_n (by omega)]; exact g1.2 i r1 r2⟩, up_s⟩
      · have g3 := g2.now (h3 s q1 (by omega)).1 (by have := (hD.2 _ (gl_mem (t := s) q1 (by omega))).1.1; omega) e
        exact ⟨⟨by rw [up_n (by omega)]; exact g3.1, fun i r1 r2 => by rw [up_n (by omega)]; exact g3.2 i r1 r2⟩, by rw [up_n (by omega), g2 _ _ (by omega)]; exact (h3 s q1 (by omega)).2⟩
  refine tx_iconst (pc := 0) O dX6_startsAll_0 ?_
  refine tx_istore_n (pc := 1) (lv' := [(1, _), (0, _)]) O dX6_startsAll_1 rfl (by decide) rfl ?_
  exact K1 0 M ⟨by omega, by omega, fun s q1 q2 => by omega, kpR.rf⟩
theorem sX6_lends (w : WT) (k y : Int) (R M : TM) (u : PU) (r : RS) (hR : RL R) (hu : mP M u) (hr : RunM M u r) (ho : okR u y y r) (hk : 0 ≤ k ∧ k < unl u) (hy : ulo u k 0 = y) : tx_S w yX6_lends cX6_lends 4 none 3 [rV (wa w) 2, iV k] R M (QV R (fun M' => RunM M' u (lendS u y k r) ∧ kpR M M')) := by
  have hD := uT_ok hu.1.1
  have hD1 := hD.1
  have hB := uB_ok hu.1.1
  have hnl := hu.1.1.2.2.2.2.1
  obtain ⟨l0, l1, l2, l3⟩ := hu.1.1.2.2.2.2.2.1 k hk.1 hk.2
  have m1 := hu.1.2.2.2.2.2.2.1 k 1 hk.1 hk.2 (by omega) (by omega)
  have m2 := hu.1.2.2.2.2.2.2.1 k 2 hk.1 hk.2 (by omega) (by omega)
  have hno : ¬ (ulo u k 1 < (uT u).length ∧ ulo u k 2 < uB u ∧ rBy r (ulo u k 1) = -1) → lendS u y k r = r := by
    intro q
    unfold lendS
    rw [if_neg (fun z => q ⟨z.2.1, z.2.2.1, z.2.2.2⟩)]
  have hyes : (ulo u k 1 < (uT u).length ∧ ulo u k 2 < uB u ∧ rBy r (ulo u k 1) = -1) → lendS u y k r = (rNow r, fu (rLent r) (ulo u k 1) (rNow r (ulo u k 1)), fu (rBy r) (ulo u k 1) k, fu (rCnt r) k 1, rBad r, rGain r) := by
    intro q
    unfold lendS
    rw [if_pos ⟨hy, q.1, q.2.1, q.2.2⟩]
  generalize ulo u k 1 = t at l1 m1 hno hyes
  refine tx_S.ofk (lv := [(0, _), (1, _)]) [1, 1] (by decide) (by simp only [List.map_cons, List.map_nil, cat_i, cat_l, cat_r]) (by decide) rfl (fun E O F => ?_)
  have K : t < (uT u).length → ulo u k 2 < uB u → rBy r t = -1 → ∀ (i : Int) (M' : TM), (0 ≤ i ∧ i ≤ (rNow r t).length ∧ M' = cpy (up (up (up M 121 k 1) 119 t (ulo u k 2)) 120 t k) 115 (40 * t) 117 (40 * t) i) → tx_X w E 79 [(3, iV i), (2, iV t), (0, rV (wa w) 2), (1, iV k)] [] R M' := by
    intro g1 g2 g3
    obtain ⟨n1, n2, n3⟩ := hr.1 t l1.1 g1
    have ok := (ho.1 t l1.1 g1).1
    refine lp_up _ _ (rNow r t).length ?_
    rintro i M' ⟨h1, h2, rfl⟩ ih
    have e1 : cpy (up (up (up M 121 k 1) 119 t (ulo u k 2)) 120 t k) 115 (40 * t) 117 (40 * t) i 116 t = (rNow r t).length := by
      rw [cpy_src _ (by omega), up_n (by omega), up_n (by omega), up_n (by omega)]; exact n1.1
    refine tx_iload_n (pc := 79) 0 O dX6_lends_79 rfl rfl ?_
    refine tx_aload_n (pc := 80) 2 O dX6_lends_80 rfl rfl ?_
    refine fX6_43 (pc := 81) O hR dX6_lends_81 ?_
    refine tx_iload_n (pc := 84) 1 O dX6_lends_84 rfl rfl ?_
    refine tx_iald (pc := 85) _ O dX6_lends_85 (sh_116 w) (by omega) ?_
    rw [e1]
    refine tx_icmp_ge (pc := 86) 117 O dX6_lends_86 rfl (by omega) (fun c86 => ?_) (fun c86 => ?_)
    · refine tx_aload_n (pc := 117) 2 O dX6_lends_117 rfl rfl ?_
      refine fX6_49 (pc := 118) O hR dX6_lends_118 ?_
      refine tx_iload_n (pc := 121) 1 O dX6_lends_121 rfl rfl ?_
      refine tx_aload_n (pc := 122) 2 O dX6_lends_122 rfl rfl ?_
      refine fX6_43 (pc := 123) O hR dX6_lends_123 ?_
      refine tx_iload_n (pc := 126) 1 O dX6_lends_126 rfl rfl ?_
      refine tx_iald (pc := 127) _ O dX6_lends_127 (sh_116 w) (by omega) ?_
      rw [e1]
      refine tx_iast (pc := 128) _ O dX6_lends_128 (sh_118 w) (by omega) ?_
      exact tx_vret O F dX6_lends_129 (tx_QV.mk (by
        have ei : i = (rNow r t).length := by omega
        subst ei
        have fr : ∀ a b : Int, (a ≠ 117 ∧ a ≠ 118 ∧ a ≠ 119 ∧ a ≠ 120 ∧ a ≠ 121) → up (cpy (up (up (up M 121 k 1) 119 t (ulo u k 2)) 120 t k) 115 (40 * t) 117 (40 * t) (rNow r t).length) 118 t (rNow r t).length a b = M a b := fun a b q => by
          rw [up_n (by omega), cpy_src _ (by omega), up_n (by omega), up_n (by omega), up_n (by omega)]
        refine ⟨⟨fun s q1 q2 => ?_, fun j q1 q2 => ?_⟩, fun a b q => fr a b (by omega)⟩
        · rw [hyes ⟨g1, g2, g3⟩]
          dsimp only [rNow, rBy, rLent]
          obtain ⟨p1, p2, p3⟩ := hr.1 s q1 q2
          have ok2 := (ho.1 s q1 q2).1
          refine ⟨⟨by rw [fr _ _ (by omega)]; exact p1.1, fun i r1 r2 => by rw [fr _ _ (by omega)]; exact p1.2 i r1 r2⟩, fun z => ?_, fun z => ?_⟩
          · by_cases e : s = t
            · subst e; rw [fu_s] at z; omega
            · rw [fu_n e] at z
              rw [up_n (by omega), cpy_src _ (by omega), up_n (by omega), up_n (by omega), up_n (by omega)]
              exact p2 z
          · by_cases e : s = t
            · subst e
              rw [fu_s, fu_s]
              refine ⟨by rw [up_n (by omega), cpy_src _ (by omega), up_n (by omega), up_s], by rw [up_n (by omega), cpy_src _ (by omega), up_s], up_s, fun i r1 r2 => ?_⟩
              rw [up_n (by omega)]
              unfold cpy
              rw [if_pos ⟨rfl, by omega, by omega⟩, up_n (by omega), up_n (by omega), up_n (by omega), show 40 * s + (40 * s + i - 40 * s) = 40 * s + i by omega]
              exact n1.2 i r1 r2
            · rw [fu_n e] at z
              rw [fu_n e, fu_n e]
              obtain ⟨o1, o2, o3⟩ := p3 z
              have okl : (r.2.1 s).length ≤ 40 := (((ho.2.1 s q1 q2).resolve_left z).2.2.2.2.2.1).1
              have okt : (r.1 t).length ≤ 40 := ok
              refine ⟨by rw [up_n (by omega), cpy_src _ (by omega), up_n (by omega), up_n (by omega), up_n (by omega)]; exact o1, by rw [up_n (by omega), cpy_src _ (by omega), up_n (by omega), up_n (by omega), up_n (by omega)]; exact o2, by rw [up_n (by omega), cpy_src _ (by omega), up_n (by omega), up_n (by omega), up_n (by omega)]; exact o3.1, fun i r1 r2 => ?_⟩
              rw [up_n (by omega)]
              unfold cpy
              rw [if_neg (by omega), up_n (by omega), up_n (by omega), up_n (by omega)]
              exact o3.2 i r1 r2
        · rw [hyes ⟨g1, g2, g3⟩]
          dsimp only [rCnt, rBad, rGain]
          obtain ⟨p1, p2, p3⟩ := hr.2 j q1 q2
          refine ⟨?_, by rw [fr _ _ (by omega)]; exact p2, by rw [fr _ _ (by omega)]; exact p3⟩
          rw [up_n (by omega), cpy_src _ (by omega), up_n (by omega), up_n (by omega)]
          by_cases e : j = k
          · subst e; rw [fu_s, up_s]
          · rw [fu_n e, up_n (by omega)]; exact p1))
    · refine tx_aload_n (pc := 89) 2 O dX6_lends_89 rfl rfl ?_
      refine fX6_46 (pc := 90) O hR dX6_lends_90 ?_
      refine tx_bipush (pc := 93) O dX6_lends_93 (by decide) ?_
      refine tx_iload_n (pc := 95) 1 O dX6_lends_95 rfl rfl ?_
      refine tx_imul (pc := 96) O dX6_lends_96 ?_
      refine tx_iload_n (pc := 97) 0 O dX6_lends_97 rfl rfl ?_
      refine tx_iadd (pc := 98) O dX6_lends_98 ?_
      refine tx_aload_n (pc := 99) 2 O dX6_lends_99 rfl rfl ?_
      refine fX6_40 (pc := 100) O hR dX6_lends_100 ?_
      refine tx_bipush (pc := 103) O dX6_lends_103 (by decide) ?_
      refine tx_iload_n (pc := 105) 1 O dX6_lends_105 rfl rfl ?_
      refine tx_imul (pc := 106) O dX6_lends_106 ?_
      refine tx_iload_n (pc := 107) 0 O dX6_lends_107 rfl rfl ?_
      refine tx_iadd (pc := 108) O dX6_lends_108 ?_
      refine tx_iald (pc := 109) _ O dX6_lends_109 (sh_115 w) (by omega) ?_
      rw [cpy_src _ (by omega)]
      refine tx_iast (pc := 110) _ O dX6_lends_110 (sh_117 w) (by omega) ?_
      rw [cpy_up _ h1]
      refine tx_iinc (pc := 111) (lv' := [(3, _), (2, _), (0, _), (1, _)]) 0 O dX6_lends_111 rfl (by decide) rfl ?_
      refine tx_goto (pc := 114) 79 O dX6_lends_114 rfl ?_
      exact ih _ _ ⟨by omega, by omega, rfl⟩ (by omega) (by omega)
  refine tx_aload_n (pc := 0) 0 O dX6_lends_0 rfl rfl ?_
  refine fX6_37 (pc := 1) O hR dX6_lends_1 ?_
  refine tx_iconst (pc := 4) O dX6_lends_4 ?_
  refine tx_iload_n (pc := 5) 1 O dX6_lends_5 rfl rfl ?_
  refine tx_imul (pc := 6) O dX6_lends_6 ?_
  refine tx_iconst (pc := 7) O dX6_lends_7 ?_
  refine tx_iadd (pc := 8) O dX6_lends_8 ?_
  refine tx_iald (pc := 9) _ O dX6_lends_9 (sh_113 w) (by omega) ?_
  rw [m1]
  refine tx_istore_n (pc := 10) (lv' := [(2, _), (0, _), (1, _)]) O dX6_lends_10 rfl (by decide) rfl ?_
  refine tx_aload_n (pc := 11) 1 O dX6_lends_11 rfl rfl ?_
  refine tx_iload_n (pc := 12) 0 O dX6_lends_12 rfl rfl ?_
  refine tx_cV1 (pc := 13) O dX6_lends_13 q987 vX6_isTune (sh_2 w) rfl (by decide) (Nat.zero_le _) (sX6_isTune w _ _ _ u hu (by omega)) (k_P (fun z13 h13 => ?_))
  refine tx_if_eq (pc := 16) 46 O dX6_lends_16 rfl (by omega) (fun c16 => ?_) (fun c16 => ?_)
  · exact tx_vret O F dX6_lends_46 (tx_QV.mk (by
      rw [hno (fun q => by first | omega | (exact absurd (n2 q.2.2) c43))]
      exact ⟨hr, kpR.rf⟩))
  · refine tx_aload_n (pc := 19) 1 O dX6_lends_19 rfl rfl ?_
    refine tx_aload_n (pc := 20) 1 O dX6_lends_20 rfl rfl ?_
    refine fX6_37 (pc := 21) O hR dX6_lends_21 ?_
    refine tx_iconst (pc := 24) O dX6_lends_24 ?_
    refine tx_iload_n (pc := 25) 2 O dX6_lends_25 rfl rfl ?_
    refine tx_imul (pc := 26) O dX6_lends_26 ?_
    refine tx_iconst (pc := 27) O dX6_lends_27 ?_
    refine tx_iadd (pc := 28) O dX6_lends_28 ?_
    refine tx_iald (pc := 29) _ O dX6_lends_29 (sh_113 w) (by omega) ?_
    rw [m2]
    refine tx_cV1 (pc := 30) O dX6_lends_30 q997 vX6_isBorrower (sh_2 w) rfl (by decide) (Nat.zero_le _) (sX6_isBorrower w _ _ _ u hu (by omega)) (k_P (fun z30 h30 => ?_))
    refine tx_if_eq (pc := 33) 46 O dX6_lends_33 rfl (by omega) (fun c33 => ?_) (fun c33 => ?_)
    · exact tx_vret O F dX6_lends_46 (tx_QV.mk (by
        rw [hno (fun q => by first | omega | (exact absurd (n2 q.2.2) c43))]
        exact ⟨hr, kpR.rf⟩))
    · obtain ⟨n1, n2, n3⟩ := hr.1 t (by omega) (by omega)
      have hh : rng (M 119 t) := by
        by_cases e : rBy r t = -1
        · rw [n2 e]; exact ⟨by omega, by omega⟩
        · rw [(n3 e).1]
          have e2 := (ho.2.1 t (by omega) (by omega)).resolve_left e
          have e3 := hu.1.1.2.2.2.2.2.1 _ e2.1 e2.2.1
          exact ⟨by omega, by omega⟩
      refine tx_aload_n (pc := 36) 1 O dX6_lends_36 rfl rfl ?_
      refine fX6_52 (pc := 37) O hR dX6_lends_37 ?_
      refine tx_iload_n (pc := 40) 0 O dX6_lends_40 rfl rfl ?_
      refine tx_iald (pc := 41) _ O dX6_lends_41 (sh_119 w) (by omega) ?_
      refine tx_iconst (pc := 42) O dX6_lends_42 ?_
      refine tx_icmp_eq (pc := 43) 47 O dX6_lends_43 rfl (by omega) (fun c43 => ?_) (fun c43 => ?_)
      · refine tx_aload_n (pc := 47) 1 O dX6_lends_47 rfl rfl ?_
        refine fX6_58 (pc := 48) O hR dX6_lends_48 ?_
        refine tx_iload_n (pc := 51) 2 O dX6_lends_51 rfl rfl ?_
        refine tx_iconst (pc := 52) O dX6_lends_52 ?_
        refine tx_iast (pc := 53) _ O dX6_lends_53 (sh_121 w) (by omega) ?_
        refine tx_aload_n (pc := 54) 1 O dX6_lends_54 rfl rfl ?_
        refine fX6_52 (pc := 55) O hR dX6_lends_55 ?_
        refine tx_iload_n (pc := 58) 0 O dX6_lends_58 rfl rfl ?_
        refine tx_aload_n (pc := 59) 1 O dX6_lends_59 rfl rfl ?_
        refine fX6_37 (pc := 60) O hR dX6_lends_60 ?_
        refine tx_iconst (pc := 63) O dX6_lends_63 ?_
        refine tx_iload_n (pc := 64) 2 O dX6_lends_64 rfl rfl ?_
        refine tx_imul (pc := 65) O dX6_lends_65 ?_
        refine tx_iconst (pc := 66) O dX6_lends_66 ?_
        refine tx_iadd (pc := 67) O dX6_lends_67 ?_
        refine tx_iald (pc := 68) _ O dX6_lends_68 (sh_113 w) (by omega) ?_
        rw [up_n (by omega), m2]
        refine tx_iast (pc := 69) _ O dX6_lends_69 (sh_119 w) (by omega) ?_
        refine tx_aload_n (pc := 70) 1 O dX6_lends_70 rfl rfl ?_
        refine fX6_55 (pc := 71) O hR dX6_lends_71 ?_
        refine tx_iload_n (pc := 74) 0 O dX6_lends_74 rfl rfl ?_
        refine tx_iload_n (pc := 75) 2 O dX6_lends_75 rfl rfl ?_
        refine tx_iast (pc := 76) _ O dX6_lends_76 (sh_120 w) (by omega) ?_
        refine tx_iconst (pc := 77) O dX6_lends_77 ?_
        refine tx_istore_n (pc := 78) (lv' := [(3, _), (2, _), (0, _), (1, _)]) O dX6_lends_78 rfl (by decide) rfl ?_
        have e5 : rBy r t = -1 := by
          apply Classical.byContradiction
          intro e
          have e2 := (ho.2.1 t (by omega) (by omega)).resolve_left e
          have e3 := hu.1.1.2.2.2.2.2.1 _ e2.1 e2.2.1
          have e4 := (n3 e).1
          omega
        exact K (by omega) (by omega) e5 0 _ ⟨by omega, by omega, (cpy_0 _ _ _ _ _).symm⟩
      · exact tx_vret O F dX6_lends_46 (tx_QV.mk (by
          rw [hno (fun q => by first | omega | (exact absurd (n2 q.2.2) c43))]
          exact ⟨hr, kpR.rf⟩))
theorem sX6_returns (w : WT) (t e y : Int) (R M : TM) (u : PU) (r : RS) (hR : RL R) (hu : mP M u) (hr : RunM M u r) (ho : okR u y (y + 1) r) (ht : 0 ≤ t ∧ t < (uT u).length) (he : 0 ≤ e ∧ e ≤ 12) (hb : rBy r t ≠ -1) (hy : ulo u (rBy r t) 0 + ulo u (rBy r t) 3 = y + 1) : tx_S w yX6_returns cX6_returns 6 none 3 [rV (wa w) 2, iV t, iV e] R M (QV R (fun M' => RunM M' u (retS u e y t r) ∧ kpR M M')) := by
  have hD := uT_ok hu.1.1
  have hD1 := hD.1
  have hnl := hu.1.1.2.2.2.2.1
  obtain ⟨n1, n2, n3⟩ := hr.1 t ht.1 ht.2
  obtain ⟨n4, n5, n6⟩ := n3 hb
  obtain ⟨b1, b2, b3, b4, b5, b6, b7⟩ := (ho.2.1 t ht.1 ht.2).resolve_left hb
  have okn := ho.1 t ht.1 ht.2
  have hret : retS u e y t r = (fu (rNow r) t (if lcs (rLent r t) (rNow r t) < min e (rLent r t).length then rLent r t else rNow r t), rLent r, fu (rBy r) t (-1), rCnt r, fu (rBad r) (rBy r t) (if lcs (rLent r t) (rNow r t) < min e (rLent r t).length then 1 else 0), fu (rGain r) (rBy r t) ((rNow r t).length - (rLent r t).length)) := by
    unfold retS
    rw [if_pos ⟨hb, hy⟩]
  have sep : ∀ s : Int, 0 ≤ s → s < (uT u).length → s ≠ t → rBy r s ≠ -1 → rBy r s ≠ rBy r t := by
    intro s q1 q2 q3 q4 q5
    have := ((ho.2.1 s q1 q2).resolve_left q4).2.2.1
    rw [q5] at this
    omega
  have kk : ∀ s : Int, 0 ≤ s → s < (uT u).length → (rNow r s).length ≤ 40 := fun s q1 q2 => (ho.1 s q1 q2).1
  have sepk : ∀ s : Int, 0 ≤ s → s < (uT u).length → rBy r s ≠ -1 → (rLent r s).length ≤ 40 := fun s q1 q2 q3 => ((ho.2.1 s q1 q2).resolve_left q3).2.2.2.2.2.1.1
  have b0 : M 122 (rBy r t) = 0 := by rw [(hr.2 _ b1 (by omega)).2.1]; exact b7
  generalize hnl' : rNow r t = n at *
  generalize hll' : rLent r t = l at *
  generalize hkk' : rBy r t = k at *
  have ln := okn.1
  have ll := b6.1
  have hlc := lcs_le n l
  have hsy := lcs_sym n l
  refine tx_S.ofk (lv := [(0, _), (1, _), (2, _)]) [1, 1, 1] (by decide) (by simp only [List.map_cons, List.map_nil, cat_i, cat_l, cat_r]) (by decide) rfl (fun E O F => ?_)
  have fin : ∀ (M' : TM) (v : List Int) (bb : Int), (nowIs M' t v) → M' 119 t = -1 → M' 123 k = n.length - l.length → M' 122 k = bb → (∀ a b : Int, ((a ≠ 115 ∨ b < 40 * t ∨ 40 * t + 40 ≤ b) ∧ (a ≠ 116 ∨ b ≠ t) ∧ (a ≠ 119 ∨ b ≠ t) ∧ (a ≠ 123 ∨ b ≠ k) ∧ (a ≠ 122 ∨ b ≠ k) ∧ a ≠ 125) → M' a b = M a b) → v = (if lcs l n < min e l.length then l else n) → bb = (if lcs l n < min e l.length then 1 else 0) → RunM M' u (retS u e y t r) ∧ kpR M M' := by
    intro M' v bb g1 g2 g3 g4 g5 g6 g7
    rw [hret, ← g6, ← g7]
    refine ⟨⟨fun s q1 q2 => ?_, fun j q1 q2 => ?_⟩, fun a b q => g5 a b (by omega)⟩
    · show nowIs M' s (fu (rNow r) t v s) ∧ (fu (rBy r) t (-1) s = -1 → M' 119 s = -1) ∧ (fu (rBy r) t (-1) s ≠ -1 → M' 119 s = ulo u (fu (rBy r) t (-1) s) 2 ∧ M' 120 s = fu (rBy r) t (-1) s ∧ lentIs M' s (rLent r s))
      by_cases e1 : s = t
      · subst e1
        rw [fu_s, fu_s]
        exact ⟨g1, fun _ => g2, fun z => absurd rfl z⟩
      · rw [fu_n e1, fu_n e1]
        obtain ⟨p1, p2, p3⟩ := hr.1 s q1 q2
        have ok2 := kk s q1 q2
        refine ⟨⟨by rw [g5 _ _ (by omega)]; exact p1.1, fun i r1 r2 => by rw [g5 _ _ (by omega)]; exact p1.2 i r1 r2⟩, fun z => by rw [g5 _ _ (by omega)]; exact p2 z, fun z => ?_⟩
        obtain ⟨o1, o2, o3⟩ := p3 z
        exact ⟨by rw [g5 _ _ (by omega)]; exact o1, by rw [g5 _ _ (by omega)]; exact o2, by rw [g5 _ _ (by omega)]; exact o3.1, fun i r1 r2 => by rw [g5 _ _ (by omega)]; exact o3.2 i r1 r2⟩
    · obtain ⟨p1, p2, p3⟩ := hr.2 j q1 q2
      show M' 121 j = rCnt r j ∧ M' 122 j = fu (rBad r) k bb j ∧ M' 123 j = fu (rGain r) k (n.length - l.length) j
      refine ⟨by rw [g5 _ _ (by omega)]; exact p1, ?_, ?_⟩
      · by_cases e1 : j = k
        · subst e1; rw [fu_s]; exact g4
        · rw [fu_n e1, g5 _ _ (by omega)]; exact p2
      · by_cases e1 : j = k
        · subst e1; rw [fu_s]; exact g3
        · rw [fu_n e1, g5 _ _ (by omega)]; exact p3
  have K : lcs n l < min e l.length → ∀ (c : Int) (i : Int) (M' : TM), (0 ≤ i ∧ i ≤ l.length ∧ (∀ j : Int, 0 ≤ j → j < i → M' 115 (40 * t + j) = ga l j) ∧ M' 119 t = -1 ∧ M' 123 k = n.length - l.length ∧ M' 122 k = 1 ∧ (∀ a b : Int, ((a ≠ 115 ∨ b < 40 * t ∨ 40 * t + 40 ≤ b) ∧ (a ≠ 119 ∨ b ≠ t) ∧ (a ≠ 123 ∨ b ≠ k) ∧ (a ≠ 122 ∨ b ≠ k) ∧ a ≠ 125) → M' a b = M a b)) → tx_X w E 92 [(5, iV i), (0, rV (wa w) 2), (1, iV t)] [] R M' := by
    intro hbad c
    refine lp_up _ _ l.length ?_
    rintro i M' ⟨h1, h2, h3, h4, h5, h6, h7⟩ ih
    have e1 : M' 118 t = l.length := by rw [h7 _ _ (by omega)]; exact n6.1
    refine tx_iload (pc := 92) 0 O dX6_returns_92 rfl ?_
    refine tx_aload_n (pc := 94) 1 O dX6_returns_94 rfl rfl ?_
    refine fX6_49 (pc := 95) O hR dX6_returns_95 ?_
    refine tx_iload_n (pc := 98) 2 O dX6_returns_98 rfl rfl ?_
    refine tx_iald (pc := 99) _ O dX6_returns_99 (sh_118 w) (by omega) ?_
    rw [e1]
    refine tx_icmp_ge (pc := 100) 133 O dX6_returns_100 rfl (by omega) (fun c100 => ?_) (fun c100 => ?_)
    · refine tx_aload_n (pc := 133) 1 O dX6_returns_133 rfl rfl ?_
      refine fX6_43 (pc := 134) O hR dX6_returns_134 ?_
      refine tx_iload_n (pc := 137) 2 O dX6_returns_137 rfl rfl ?_
      refine tx_aload_n (pc := 138) 1 O dX6_returns_138 rfl rfl ?_
      refine fX6_49 (pc := 139) O hR dX6_returns_139 ?_
      refine tx_iload_n (pc := 142) 2 O dX6_returns_142 rfl rfl ?_
      refine tx_iald (pc := 143) _ O dX6_returns_143 (sh_118 w) (by omega) ?_
      rw [e1]
      refine tx_iast (pc := 144) _ O dX6_returns_144 (sh_116 w) (by omega) ?_
      exact tx_vret O F dX6_returns_145 (tx_QV.mk (fin _ l 1 ⟨up_s, fun j q1 q2 => by rw [up_n (by omega)]; exact h3 j q1 (by omega)⟩ (by rw [up_n (by omega)]; exact h4) (by rw [up_n (by omega)]; exact h5) (by rw [up_n (by omega)]; exact h6) (fun a b q => by rw [up_n (by omega)]; exact h7 a b (by omega)) (by rw [if_pos (by omega)]) (by rw [if_pos (by omega)])))
    · refine tx_aload_n (pc := 103) 1 O dX6_returns_103 rfl rfl ?_
      refine fX6_40 (pc := 104) O hR dX6_returns_104 ?_
      refine tx_bipush (pc := 107) O dX6_returns_107 (by decide) ?_
      refine tx_iload_n (pc := 109) 2 O dX6_returns_109 rfl rfl ?_
      refine tx_imul (pc := 110) O dX6_returns_110 ?_
      refine tx_iload (pc := 111) 0 O dX6_returns_111 rfl ?_
      refine tx_iadd (pc := 113) O dX6_returns_113 ?_
      refine tx_aload_n (pc := 114) 1 O dX6_returns_114 rfl rfl ?_
      refine fX6_46 (pc := 115) O hR dX6_returns_115 ?_
      refine tx_bipush (pc := 118) O dX6_returns_118 (by decide) ?_
      refine tx_iload_n (pc := 120) 2 O dX6_returns_120 rfl rfl ?_
      refine tx_imul (pc := 121) O dX6_returns_121 ?_
      refine tx_iload (pc := 122) 0 O dX6_returns_122 rfl ?_
      refine tx_iadd (pc := 124) O dX6_returns_124 ?_
      refine tx_iald (pc := 125) _ O dX6_returns_125 (sh_117 w) (by omega) ?_
      rw [h7 _ _ (by omega), n6.2 i h1 c100]
      refine tx_iast (pc := 126) _ O dX6_returns_126 (sh_115 w) (by omega) ?_
      refine tx_iinc (pc := 127) (lv' := [(5, _), (0, _), (1, _)]) 0 O dX6_returns_127 rfl (by decide) rfl ?_
      refine tx_goto (pc := 130) 92 O dX6_returns_130 rfl ?_
      refine ih _ _ ⟨by omega, by omega, fun j q1 q2 => ?_, by rw [up_n (by omega)]; exact h4, by rw [up_n (by omega)]; exact h5, by rw [up_n (by omega)]; exact h6, fun a b q => by rw [up_n (by omega)]; exact h7 a b q⟩ (by omega) (by omega)
      by_cases e2 : j = i
      · subst e2; exact up_s
      · rw [up_n (by omega)]; exact h3 j q1 (by omega)
  refine tx_aload_n (pc := 0) 0 O dX6_returns_0 rfl rfl ?_
  refine fX6_55 (pc := 1) O hR dX6_returns_1 ?_
  refine tx_iload_n (pc := 4) 1 O dX6_returns_4 rfl rfl ?_
  refine tx_iald (pc := 5) _ O dX6_returns_5 (sh_120 w) (by omega) ?_
  rw [n5]
  refine tx_istore_n (pc := 6) (lv' := [(3, _), (0, _), (1, _), (2, _)]) O dX6_returns_6 rfl (by decide) rfl ?_
  refine tx_aload_n (pc := 7) 1 O dX6_returns_7 rfl rfl ?_
  refine fX6_52 (pc := 8) O hR dX6_returns_8 ?_
  refine tx_iload_n (pc := 11) 2 O dX6_returns_11 rfl rfl ?_
  refine tx_iconst (pc := 12) O dX6_returns_12 ?_
  refine tx_iast (pc := 13) _ O dX6_returns_13 (sh_119 w) (by omega) ?_
  refine tx_aload_n (pc := 14) 1 O dX6_returns_14 rfl rfl ?_
  refine fX6_64 (pc := 15) O hR dX6_returns_15 ?_
  refine tx_iload_n (pc := 18) 0 O dX6_returns_18 rfl rfl ?_
  refine tx_aload_n (pc := 19) 1 O dX6_returns_19 rfl rfl ?_
  refine fX6_43 (pc := 20) O hR dX6_returns_20 ?_
  refine tx_iload_n (pc := 23) 2 O dX6_returns_23 rfl rfl ?_
  refine tx_iald (pc := 24) _ O dX6_returns_24 (sh_116 w) (by omega) ?_
  rw [up_n (by omega), n1.1]
  refine tx_aload_n (pc := 25) 1 O dX6_returns_25 rfl rfl ?_
  refine fX6_49 (pc := 26) O hR dX6_returns_26 ?_
  refine tx_iload_n (pc := 29) 2 O dX6_returns_29 rfl rfl ?_
  refine tx_iald (pc := 30) _ O dX6_returns_30 (sh_118 w) (by omega) ?_
  rw [up_n (by omega), n6.1]
  refine tx_isub (pc := 31) O dX6_returns_31 ?_
  refine tx_iast (pc := 32) _ O dX6_returns_32 (sh_123 w) (by omega) ?_
  refine tx_aload_n (pc := 33) 1 O dX6_returns_33 rfl rfl ?_
  refine tx_aload_n (pc := 34) 1 O dX6_returns_34 rfl rfl ?_
  refine fX6_40 (pc := 35) O hR dX6_returns_35 ?_
  refine tx_bipush (pc := 38) O dX6_returns_38 (by decide) ?_
  refine tx_iload_n (pc := 40) 2 O dX6_returns_40 rfl rfl ?_
  refine tx_imul (pc := 41) O dX6_returns_41 ?_
  refine tx_aload_n (pc := 42) 1 O dX6_returns_42 rfl rfl ?_
  refine fX6_43 (pc := 43) O hR dX6_returns_43 ?_
  refine tx_iload_n (pc := 46) 2 O dX6_returns_46 rfl rfl ?_
  refine tx_iald (pc := 47) _ O dX6_returns_47 (sh_116 w) (by omega) ?_
  rw [up_n (by omega), up_n (by omega), n1.1]
  refine tx_aload_n (pc := 48) 1 O dX6_returns_48 rfl rfl ?_
  refine fX6_46 (pc := 49) O hR dX6_returns_49 ?_
  refine tx_bipush (pc := 52) O dX6_returns_52 (by decide) ?_
  refine tx_iload_n (pc := 54) 2 O dX6_returns_54 rfl rfl ?_
  refine tx_imul (pc := 55) O dX6_returns_55 ?_
  refine tx_aload_n (pc := 56) 1 O dX6_returns_56 rfl rfl ?_
  refine fX6_49 (pc := 57) O hR dX6_returns_57 ?_
  refine tx_iload_n (pc := 60) 2 O dX6_returns_60 rfl rfl ?_
  refine tx_iald (pc := 61) _ O dX6_returns_61 (sh_118 w) (by omega) ?_
  rw [up_n (by omega), up_n (by omega), n6.1]
  refine tx_cV6 (pc := 62) O dX6_returns_62 q1064 vX6_commonOf (sh_2 w) rfl (by decide) (Nat.zero_le _) (sX6_commonOf w 115 (40 * t) 117 (40 * t) 280 240 n l R _ hR (sh_115 w) (sh_117 w) (by decide) (by decide) (by omega) (by omega) (by decide) (by decide) ln ll okn.2 b6.2 (fun i q1 q2 => by rw [up_n (by omega), up_n (by omega)]; exact n1.2 i q1 q2) (fun i q1 q2 => by rw [up_n (by omega), up_n (by omega)]; exact n6.2 i q1 q2)) (k_I (fun z62 M62 h62 => ?_))
  obtain ⟨hz, hf⟩ := h62
  have fr : ∀ a b : Int, (a ≠ 125 ∧ (a ≠ 119 ∨ b ≠ t) ∧ (a ≠ 123 ∨ b ≠ k)) → M62 a b = M a b := fun a b q => by rw [hf a b q.1, up_n (by omega), up_n (by omega)]
  have f1 : M62 119 t = -1 := by rw [hf _ _ (by omega), up_n (by omega), up_s]
  have f2 : M62 123 k = n.length - l.length := by rw [hf _ _ (by omega), up_s]
  refine tx_istore (pc := 65) (lv' := [(4, _), (3, _), (0, _), (1, _), (2, _)]) O dX6_returns_65 (by decide) rfl ?_
  refine tx_iload (pc := 67) 0 O dX6_returns_67 rfl ?_
  refine tx_iload_n (pc := 69) 4 O dX6_returns_69 rfl rfl ?_
  refine tx_aload_n (pc := 70) 2 O dX6_returns_70 rfl rfl ?_
  refine fX6_49 (pc := 71) O hR dX6_returns_71 ?_
  refine tx_iload_n (pc := 74) 3 O dX6_returns_74 rfl rfl ?_
  refine tx_iald (pc := 75) _ O dX6_returns_75 (sh_118 w) (by omega) ?_
  rw [fr _ _ (by omega), n6.1]
  refine tx_cS2 (pc := 76) O dX6_returns_76 q1057 vX6_lesser (by decide) (Nat.le_of_ble_eq_true rfl) (sX6_lesser w _ _ _ _ (by omega)) (k_P (fun z76 h76 => ?_))
  refine tx_icmp_ge (pc := 79) 145 O dX6_returns_79 rfl (by omega) (fun c79 => ?_) (fun c79 => ?_)
  · exact tx_vret O F dX6_returns_145 (tx_QV.mk (fin _ n 0 ⟨by rw [fr _ _ (by omega)]; exact n1.1, fun j q1 q2 => by rw [fr _ _ (by omega)]; exact n1.2 j q1 q2⟩ f1 f2 (by rw [fr _ _ (by omega)]; exact b0) (fun a b q => fr a b (by omega)) (by rw [if_neg (by omega)]) (by rw [if_neg (by omega)])))
  · refine tx_aload_n (pc := 82) 2 O dX6_returns_82 rfl rfl ?_
    refine fX6_61 (pc := 83) O hR dX6_returns_83 ?_
    refine tx_iload_n (pc := 86) 1 O dX6_returns_86 rfl rfl ?_
    refine tx_iconst (pc := 87) O dX6_returns_87 ?_
    refine tx_iast (pc := 88) _ O dX6_returns_88 (sh_122 w) (by omega) ?_
    refine tx_iconst (pc := 89) O dX6_returns_89 ?_
    refine tx_istore (pc := 90) (lv' := [(5, _), (4, _), (3, _), (0, _), (1, _), (2, _)]) O dX6_returns_90 (by decide) rfl ?_
    refine tx_lv (lv' := [(5, _), (0, _), (1, _)]) [0, 3, 4] rfl ?_
    exact K (by omega) 0 0 _ ⟨by omega, by omega, fun j q1 q2 => by omega, by rw [up_n (by omega)]; exact f1, by rw [up_n (by omega)]; exact f2, up_s, fun a b q => by rw [up_n (by omega)]; exact fr a b (by omega)⟩

