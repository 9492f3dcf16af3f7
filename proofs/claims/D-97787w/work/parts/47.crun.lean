/-! COMPONENT, a run: commonOf, humsOnce, begins -/
set_option maxRecDepth 100000
theorem sX0_commonOf (w : WT) (ia ib : Int) (la lb : List Int) (R M : TM) (hR : RL R) (ha : isTn ia) (hb : isTn ib) (ca : tuIs M ia la) (cb : tuIs M ib lb) (oa : okN la) (ob : okN lb) : tx_S w yX0_commonOf cX0_commonOf 7 (some .int) 2 [rV (wa w) 1, rV (wa w) ia, rV (wa w) ib] R M (QI R (fun z M' => z = lcs la lb ∧ ∀ a b : Int, a ≠ 220 → M' a b = M a b)) := by
  have hla := oa.1
  have hlb := ob.1
  have ra := oa.2
  have rb := ob.2
  refine tx_S.ofk (lv := [(0, _), (1, _), (2, _)]) [1, 1, 1] (by decide) (by simp only [List.map_cons, List.map_nil, cat_i, cat_l, cat_r]) (by decide) rfl (fun E O F => ?_)
  have K2 : ∀ (i : Int) (M' : TM), (0 ≤ i ∧ i ≤ la.length ∧ (∀ k : Int, 0 ≤ k → k ≤ lb.length → M' 220 k = lcI la lb i k) ∧ (∀ a b : Int, a ≠ 220 → M' a b = M a b)) → tx_X w E 25 [(3, iV i), (0, rV (wa w) 1), (1, rV (wa w) ia), (2, rV (wa w) ib)] [] R M' := by
    refine lp_up _ _ la.length ?_
    rintro i M' ⟨h1, h2, h3, h4⟩ ih
    have K3 : i < la.length → ∀ z : Int × Int × TM, (1 ≤ z.1 ∧ z.1 ≤ lb.length + 1 ∧ z.2.1 = lcI la lb i (z.1 - 1) ∧ (∀ k : Int, 0 ≤ k → k < z.1 → z.2.2 220 k = lcI la lb (i + 1) k) ∧ (∀ k : Int, z.1 ≤ k → k ≤ lb.length → z.2.2 220 k = lcI la lb i k) ∧ (∀ a b : Int, a ≠ 220 → z.2.2 a b = M a b)) → tx_X w E 39 [(5, iV z.1), (4, iV z.2.1), (3, iV i), (0, rV (wa w) 1), (1, rV (wa w) ia), (2, rV (wa w) ib)] [] R z.2.2 := by
      intro hi
      refine lp_m _ _ (fun z => (lb.length + 1 - z.1).toNat) ?_
      rintro ⟨j, av, M2⟩ ⟨g1, g2, g3, g4, g5, g6⟩ ih2
      dsimp only at g1 g2 g3 g4 g5 g6 ⊢
      have S : j ≤ lb.length → tx_X w E 107 [(6, iV (lcI la lb i j)), (5, iV j), (4, iV av), (3, iV i), (0, rV (wa w) 1), (1, rV (wa w) ia), (2, rV (wa w) ib)] [iV (lcI la lb (i + 1) j), iV j, rV (wa w) 220] R M2 := by
        intro hj
        refine tx_iast (pc := 107) _ O dX0_commonOf_107 (sh_220 w) (by omega) ?_
        refine tx_iload (pc := 108) 0 O dX0_commonOf_108 rfl ?_
        refine tx_istore (pc := 110) (lv' := [(4, _), (6, _), (5, _), (3, _), (0, _), (1, _), (2, _)]) O dX0_commonOf_110 (by decide) rfl ?_
        refine tx_iinc (pc := 112) (lv' := [(5, _), (4, _), (6, _), (3, _), (0, _), (1, _), (2, _)]) 2 O dX0_commonOf_112 rfl (by decide) rfl ?_
        refine tx_goto (pc := 115) 39 O dX0_commonOf_115 rfl ?_
        refine tx_lv (lv' := [(5, _), (4, _), (3, _), (0, _), (1, _), (2, _)]) [0, 1, 3, 4, 5, 6] rfl ?_
        refine ih2 (j + 1, lcI la lb i j, up M2 220 j (lcI la lb (i + 1) j)) ?_ (by dsimp only; omega)
        dsimp only
        refine ⟨by omega, by omega, by rw [show j + 1 - 1 = j by omega], fun k q1 q2 => ?_, fun k q1 q2 => by rw [up_n (by omega)]; exact g5 k (by omega) q2, fun a b q => by rw [up_n (by omega)]; exact g6 a b q⟩
        by_cases e : k = j
        · subst e; exact up_s
        · rw [up_n (by omega)]; exact g4 k q1 (by omega)
      have hs := lcI_s la lb h1 g1
      have v1 := lcI_le la lb (i := i) j h1
      have v2 := lcI_le la lb (i := i + 1) (j - 1) (by omega)
      refine tx_iload (pc := 39) 0 O dX0_commonOf_39 rfl ?_
      refine tx_aload_n (pc := 41) 5 O dX0_commonOf_41 rfl rfl ?_
      refine fX0_37 (pc := 42) O (hb) dX0_commonOf_42 ?_
      rw [g6 _ _ (by omega), cb.1]
      refine tx_icmp_gt (pc := 45) 118 O dX0_commonOf_45 rfl (by omega) (fun c45 => ?_) (fun c45 => ?_)
      · refine tx_iinc (pc := 118) (lv' := [(3, _), (5, _), (4, _), (0, _), (1, _), (2, _)]) 2 O dX0_commonOf_118 rfl (by decide) (by simp only [List.filter_cons, List.filter_nil, cat_r, cat_i, cat_l]; rfl) ?_
        refine tx_goto (pc := 121) 25 O dX0_commonOf_121 rfl ?_
        refine tx_lv (lv' := [(3, _), (0, _), (1, _), (2, _)]) [0, 3, 4, 5] rfl ?_
        exact ih _ _ ⟨by omega, by omega, fun k q1 q2 => g4 k q1 (by omega), g6⟩ (by omega) (by omega)
      · have ea := ra _ (ga_mem h1 hi)
        have eb := rb _ (ga_mem (i := j - 1) (by omega) (by omega))
        refine tx_aload_n (pc := 48) 3 O dX0_commonOf_48 rfl rfl ?_
        refine fX0_251 (pc := 49) O hR dX0_commonOf_49 ?_
        refine tx_iload (pc := 52) 0 O dX0_commonOf_52 rfl ?_
        refine tx_iald (pc := 54) _ O dX0_commonOf_54 (sh_220 w) (by omega) ?_
        rw [g5 j (by omega) (by omega)]
        refine tx_istore (pc := 55) (lv' := [(6, _), (5, _), (4, _), (3, _), (0, _), (1, _), (2, _)]) O dX0_commonOf_55 (by decide) rfl ?_
        refine tx_aload_n (pc := 57) 4 O dX0_commonOf_57 rfl rfl ?_
        refine fX0_251 (pc := 58) O hR dX0_commonOf_58 ?_
        refine tx_iload (pc := 61) 1 O dX0_commonOf_61 rfl ?_
        refine tx_aload_n (pc := 63) 5 O dX0_commonOf_63 rfl rfl ?_
        refine fX0_83 (pc := 64) O (ha) hR dX0_commonOf_64 ?_
        refine tx_iload_n (pc := 67) 3 O dX0_commonOf_67 rfl rfl ?_
        refine tx_iald (pc := 68) _ O dX0_commonOf_68 (sh_tr w (ha)) (by omega) ?_
        rw [g6 _ _ (by omega), ca.2 i h1 hi]
        refine tx_aload_n (pc := 69) 6 O dX0_commonOf_69 rfl rfl ?_
        refine fX0_83 (pc := 70) O (hb) hR dX0_commonOf_70 ?_
        refine tx_iload (pc := 73) 1 O dX0_commonOf_73 rfl ?_
        refine tx_iconst (pc := 75) O dX0_commonOf_75 ?_
        refine tx_isub (pc := 76) O dX0_commonOf_76 ?_
        refine tx_iald (pc := 77) _ O dX0_commonOf_77 (sh_tr w (hb)) (by omega) ?_
        rw [g6 _ _ (by omega), cb.2 (j - 1) (by omega) (by omega)]
        refine tx_icmp_ne (pc := 78) 88 O dX0_commonOf_78 rfl (by omega) (fun c78 => ?_) (fun c78 => ?_)
        · refine tx_aload_n (pc := 88) 4 O dX0_commonOf_88 rfl rfl ?_
          refine fX0_251 (pc := 89) O hR dX0_commonOf_89 ?_
          refine tx_iload (pc := 92) 1 O dX0_commonOf_92 rfl ?_
          refine tx_iald (pc := 94) _ O dX0_commonOf_94 (sh_220 w) (by omega) ?_
          rw [g5 j (by omega) (by omega)]
          refine tx_aload_n (pc := 95) 4 O dX0_commonOf_95 rfl rfl ?_
          refine fX0_251 (pc := 96) O hR dX0_commonOf_96 ?_
          refine tx_iload (pc := 99) 1 O dX0_commonOf_99 rfl ?_
          refine tx_iconst (pc := 101) O dX0_commonOf_101 ?_
          refine tx_isub (pc := 102) O dX0_commonOf_102 ?_
          refine tx_iald (pc := 103) _ O dX0_commonOf_103 (sh_220 w) (by omega) ?_
          rw [g4 (j - 1) (by omega) (by omega)]
          refine tx_mmax (pc := 104) O dX0_commonOf_104 q294 (by omega) (by decide) (by simp only [List.map_cons, List.map_nil, cat_i, cat_l, cat_r, List.sum_cons, List.sum_nil]; decide) ?_
          first
            | (rw [if_pos c78] at hs
               rw [show av + 1 = lcI la lb (i + 1) j by rw [hs, g3]]
               exact S c45)
            | (rw [if_neg c78] at hs
               rw [← hs]
               exact S c45)
        · refine tx_iload (pc := 81) 2 O dX0_commonOf_81 rfl ?_
          refine tx_iconst (pc := 83) O dX0_commonOf_83 ?_
          refine tx_iadd (pc := 84) O dX0_commonOf_84 ?_
          refine tx_goto (pc := 85) 107 O dX0_commonOf_85 rfl ?_
          first
            | (rw [if_pos c78] at hs
               rw [show av + 1 = lcI la lb (i + 1) j by rw [hs, g3]]
               exact S c45)
            | (rw [if_neg c78] at hs
               rw [← hs]
               exact S c45)
    refine tx_iload_n (pc := 25) 0 O dX0_commonOf_25 rfl rfl ?_
    refine tx_aload_n (pc := 26) 2 O dX0_commonOf_26 rfl rfl ?_
    refine fX0_37 (pc := 27) O (ha) dX0_commonOf_27 ?_
    rw [h4 _ _ (by omega), ca.1]
    refine tx_icmp_ge (pc := 30) 124 O dX0_commonOf_30 rfl (by omega) (fun c30 => ?_) (fun c30 => ?_)
    · refine tx_aload_n (pc := 124) 1 O dX0_commonOf_124 rfl rfl ?_
      refine fX0_251 (pc := 125) O hR dX0_commonOf_125 ?_
      refine tx_aload_n (pc := 128) 3 O dX0_commonOf_128 rfl rfl ?_
      refine fX0_37 (pc := 129) O (hb) dX0_commonOf_129 ?_
      rw [h4 _ _ (by omega), cb.1]
      refine tx_iald (pc := 132) _ O dX0_commonOf_132 (sh_220 w) (by omega) ?_
      exact tx_iret O F dX0_commonOf_133 (tx_QI.mk ⟨by rw [h3 _ (by omega) (by omega), show i = la.length by omega]; rfl, h4⟩)
    · refine tx_iconst (pc := 33) O dX0_commonOf_33 ?_
      refine tx_istore (pc := 34) (lv' := [(4, _), (3, _), (0, _), (1, _), (2, _)]) O dX0_commonOf_34 (by decide) rfl ?_
      refine tx_iconst (pc := 36) O dX0_commonOf_36 ?_
      refine tx_istore (pc := 37) (lv' := [(5, _), (4, _), (3, _), (0, _), (1, _), (2, _)]) O dX0_commonOf_37 (by decide) rfl ?_
      refine K3 c30 (1, 0, M') ?_
      dsimp only
      exact ⟨by omega, by omega, by rw [show (1 : Int) - 1 = 0 from rfl, lcI_z], fun k q1 q2 => by rw [show k = 0 by omega, h3 0 (by omega) (by omega), lcI_z, lcI_z], fun k q1 q2 => h3 k (by omega) q2, h4⟩
  have K1 : ∀ (j : Int) (M' : TM), (0 ≤ j ∧ j ≤ lb.length + 1 ∧ (∀ k : Int, 0 ≤ k → k < j → M' 220 k = 0) ∧ (∀ a b : Int, a ≠ 220 → M' a b = M a b)) → tx_X w E 2 [(3, iV j), (0, rV (wa w) 1), (1, rV (wa w) ia), (2, rV (wa w) ib)] [] R M' := by
    refine lp_up _ _ (lb.length + 1) ?_
    rintro j M' ⟨h1, h2, h3, h4⟩ ih
    refine tx_iload_n (pc := 2) 0 O dX0_commonOf_2 rfl rfl ?_
    refine tx_aload_n (pc := 3) 3 O dX0_commonOf_3 rfl rfl ?_
    refine fX0_37 (pc := 4) O (hb) dX0_commonOf_4 ?_
    rw [h4 _ _ (by omega), cb.1]
    refine tx_icmp_gt (pc := 7) 23 O dX0_commonOf_7 rfl (by omega) (fun c7 => ?_) (fun c7 => ?_)
    · refine tx_iconst (pc := 23) O dX0_commonOf_23 ?_
      refine tx_istore_n (pc := 24) (lv' := [(3, _), (0, _), (1, _), (2, _)]) O dX0_commonOf_24 rfl (by decide) (by simp only [List.filter_cons, List.filter_nil, cat_r, cat_i, cat_l]; rfl) ?_
      exact K2 0 M' ⟨by omega, by omega, fun k q1 q2 => by rw [h3 k q1 (by omega)]; rfl, h4⟩
    · refine tx_aload_n (pc := 10) 1 O dX0_commonOf_10 rfl rfl ?_
      refine fX0_251 (pc := 11) O hR dX0_commonOf_11 ?_
      refine tx_iload_n (pc := 14) 0 O dX0_commonOf_14 rfl rfl ?_
      refine tx_iconst (pc := 15) O dX0_commonOf_15 ?_
      refine tx_iast (pc := 16) _ O dX0_commonOf_16 (sh_220 w) (by omega) ?_
      refine tx_iinc (pc := 17) (lv' := [(3, _), (0, _), (1, _), (2, _)]) 0 O dX0_commonOf_17 rfl (by decide) (by simp only [List.filter_cons, List.filter_nil, cat_r, cat_i, cat_l]; rfl) ?_
      refine tx_goto (pc := 20) 2 O dX0_commonOf_20 rfl ?_
      refine ih _ _ ⟨by omega, by omega, fun k q1 q2 => ?_, fun a b q => by rw [up_n (by omega)]; exact h4 a b q⟩ (by omega) (by omega)
      by_cases e : k = j
      · subst e; exact up_s
      · rw [up_n (by omega)]; exact h3 k q1 (by omega)
  refine tx_iconst (pc := 0) O dX0_commonOf_0 ?_
  refine tx_istore_n (pc := 1) (lv' := [(3, _), (0, _), (1, _), (2, _)]) O dX0_commonOf_1 rfl (by decide) (by simp only [List.filter_cons, List.filter_nil, cat_r, cat_i, cat_l]; rfl) ?_
  exact K1 0 M ⟨by omega, by omega, fun k q1 q2 => by omega, fun _ _ _ => rfl⟩
theorem sX0_humsOnce (w : WT) (b i : Int) (l : List Int) (R M : TM) (hR : RL R) (hb : isBr b) (hi : isTn i) (hi2 : i ≠ 218) (hl : tuIs M i l) (oN : okN l) (oq : okq (brq M b)) : tx_S w yX0_humsOnce cX0_humsOnce 3 none 4 [rV (wa w) 1, rV (wa w) b, rV (wa w) i] R M (QV R (fun M' => tuIs M' i (hum (brq M b) l) ∧ ∀ x y : Int, (x ≠ i ∧ x ≠ i + 1000 ∧ x ≠ 218 ∧ x ≠ 1218) → M' x y = M x y)) := by
  have oh := (hum_ok oq oN).1
  refine tx_S.ofk (lv := [(0, _), (1, _), (2, _)]) [1, 1, 1] (by decide) (by simp only [List.map_cons, List.map_nil, cat_i, cat_l, cat_r]) (by decide) rfl (fun E O F => ?_)
  refine tx_aload_n (pc := 0) 1 O dX0_humsOnce_0 rfl rfl ?_
  refine tx_aload_n (pc := 1) 2 O dX0_humsOnce_1 rfl rfl ?_
  refine tx_aload_n (pc := 2) 0 O dX0_humsOnce_2 rfl rfl ?_
  refine fX0_161 (pc := 3) O hR dX0_humsOnce_3 ?_
  refine tx_sings (pc := 6) O dX0_humsOnce_6 (by decide) (Nat.zero_le _) hR hb hi (by omega) hi2 hl oN oq (fun M6 h6 => ?_)
  refine tx_aload_n (pc := 9) 2 O dX0_humsOnce_9 rfl rfl ?_
  refine tx_aload_n (pc := 10) 0 O dX0_humsOnce_10 rfl rfl ?_
  refine fX0_161 (pc := 11) O hR dX0_humsOnce_11 ?_
  refine tx_cV1 (pc := 14) O dX0_humsOnce_14 q245 vX1_is (sh_t w (hi)) rfl (by decide) (Nat.zero_le _) (sX1_is w _ _ _ _ _ hR hi (by omega) (by omega) h6.1 oh) (k_V (fun M14 h14 => ?_))
  exact tx_vret O F dX0_humsOnce_17 (tx_QV.mk ⟨h14.1, fun x y q => by rw [h14.2 _ _ (by omega), h6.2 _ _ (by omega)]⟩)
/-- the component's run -/
def RunC (M : TM) (u : PU) (r : RS) : Prop := (∀ t : Int, 0 ≤ t → t < (uT u).length → tuIs M (410 + t) (rNow r t) ∧ M 214 t = rBy r t ∧ (rBy r t ≠ -1 → tuIs M (420 + t) (rLent r t))) ∧ ∀ k : Int, 0 ≤ k → k < 12 → M 215 k = rCnt r k ∧ M 216 k = rBad r k ∧ M 217 k = rGain r k
theorem sX0_begins (w : WT) (R M : TM) (u : PU) (hR : RL R) (hu : cT R M u) : tx_S w yX0_begins cX0_begins 2 none 5 [rV (wa w) 1] R M (QCV (fun R' M' => cS u R M R' M' ∧ RunC M' u (startS u))) := by
  have hD := uT_ok hu.1.1
  have hD1 := hD.1
  refine tx_S.ofk (lv := [(0, _)]) [1] (by decide) (by simp only [List.map_cons, List.map_nil, cat_i, cat_l, cat_r]) (by decide) rfl (fun E O F => ?_)
  have K2 : ∀ (R' : TM) (k : Int) (M' : TM), (0 ≤ k ∧ k ≤ 12 ∧ RL R' ∧ cS u R M R' M' ∧ (∀ t : Int, 0 ≤ t → t < (uT u).length → tuIs M' (410 + t) (gl (uT u) t) ∧ M' 214 t = -1) ∧ (∀ j : Int, 0 ≤ j → j < k → M' 215 j = 0 ∧ M' 216 j = 0 ∧ M' 217 j = 0)) → tx_X w E 44 [(1, iV k), (0, rV (wa w) 1)] [] R' M' := by
    intro R'
    refine lp_up _ _ 12 ?_
    rintro k M' ⟨h1, h2, hR, h3, h4, h5⟩ ih
    refine tx_iload_n (pc := 44) 0 O dX0_begins_44 rfl rfl ?_
    refine tx_bipush (pc := 45) O dX0_begins_45 (by decide) ?_
    refine tx_icmp_ge (pc := 47) 77 O dX0_begins_47 rfl (by omega) (fun c47 => ?_) (fun c47 => ?_)
    · exact tx_vret O F dX0_begins_77 (tx_QCV.mk ⟨h3, fun t q1 q2 => ⟨(h4 t q1 q2).1, (h4 t q1 q2).2, fun q => absurd rfl q⟩, fun j q1 q2 => h5 j q1 (by omega)⟩)
    · refine tx_aload_n (pc := 50) 1 O dX0_begins_50 rfl rfl ?_
      refine fX0_151 (pc := 51) O hR dX0_begins_51 ?_
      refine tx_iload_n (pc := 54) 0 O dX0_begins_54 rfl rfl ?_
      refine tx_iconst (pc := 55) O dX0_begins_55 ?_
      refine tx_zast (pc := 56) _ O dX0_begins_56 (sh_215 w) (by omega) (by omega) ?_
      refine tx_aload_n (pc := 57) 1 O dX0_begins_57 rfl rfl ?_
      refine fX0_155 (pc := 58) O hR dX0_begins_58 ?_
      refine tx_iload_n (pc := 61) 0 O dX0_begins_61 rfl rfl ?_
      refine tx_iconst (pc := 62) O dX0_begins_62 ?_
      refine tx_zast (pc := 63) _ O dX0_begins_63 (sh_216 w) (by omega) (by omega) ?_
      refine tx_aload_n (pc := 64) 1 O dX0_begins_64 rfl rfl ?_
      refine fX0_158 (pc := 65) O hR dX0_begins_65 ?_
      refine tx_iload_n (pc := 68) 0 O dX0_begins_68 rfl rfl ?_
      refine tx_iconst (pc := 69) O dX0_begins_69 ?_
      refine tx_iast (pc := 70) _ O dX0_begins_70 (sh_217 w) (by omega) ?_
      refine tx_iinc (pc := 71) (lv' := [(1, _), (0, _)]) 0 O dX0_begins_71 rfl (by decide) rfl ?_
      refine tx_goto (pc := 74) 44 O dX0_begins_74 rfl ?_
      refine ih _ _ ⟨by omega, by omega, hR, h3.u (fun a b q => by rw [up_n (by omega), up_n (by omega), up_n (by omega)]), fun t q1 q2 => ⟨(h4 t q1 q2).1.keep (fun b => by rw [up_n (by omega), up_n (by omega), up_n (by omega)]) (fun b => by rw [up_n (by omega), up_n (by omega), up_n (by omega)]), by rw [up_n (by omega), up_n (by omega), up_n (by omega)]; exact (h4 t q1 q2).2⟩, fun j q1 q2 => ?_⟩ (by omega) (by omega)
      by_cases e : j = k
      · subst e
        exact ⟨by rw [up_n (by omega), up_n (by omega), up_s], by rw [up_n (by omega), up_s], up_s⟩
      · rw [up_n (by omega), up_n (by omega), up_n (by omega), up_n (by omega), up_n (by omega), up_n (by omega), up_n (by omega), up_n (by omega), up_n (by omega)]
        exact h5 j q1 (by omega)
  have K1 : ∀ (R' : TM) (t : Int) (M' : TM), (0 ≤ t ∧ t ≤ (uT u).length ∧ RL R' ∧ cS u R M R' M' ∧ (∀ s : Int, 0 ≤ s → s < t → tuIs M' (410 + s) (gl (uT u) s) ∧ M' 214 s = -1)) → tx_X w E 6 [(1, iV t), (0, rV (wa w) 1)] [] R' M' := by
    intro R'
    refine lp_up _ _ (uT u).length ?_
    rintro t M' ⟨h1, h2, hR, h3, h4⟩ ih
    have e1 : M' 1 4 = (uT u).length := h3.1.2.2.1.1
    refine tx_iload_n (pc := 6) 0 O dX0_begins_6 rfl rfl ?_
    refine tx_aload_n (pc := 7) 1 O dX0_begins_7 rfl rfl ?_
    refine fX0_25 (pc := 8) O dX0_begins_8 ?_
    rw [e1]
    refine tx_icmp_ge (pc := 11) 42 O dX0_begins_11 rfl (by omega) (fun c11 => ?_) (fun c11 => ?_)
    · refine tx_iconst (pc := 42) O dX0_begins_42 ?_
      refine tx_istore_n (pc := 43) (lv' := [(1, _), (0, _)]) O dX0_begins_43 rfl (by decide) rfl ?_
      exact K2 R' 0 _ ⟨by omega, by omega, hR, h3, fun s q1 q2 => h4 s q1 (by omega), fun j q1 q2 => by omega⟩
    · refine tx_aload_n (pc := 14) 1 O dX0_begins_14 rfl rfl ?_
      refine fX0_141 (pc := 15) O hR dX0_begins_15 ?_
      refine tx_iload_n (pc := 18) 0 O dX0_begins_18 rfl rfl ?_
      refine tx_aald (pc := 19) _ _ O dX0_begins_19 (sh_212 w) (by decide) (by omega) ?_
      rw [hR.2.2.2.2.2.1]
      refine tx_aload_n (pc := 20) 1 O dX0_begins_20 rfl rfl ?_
      refine fX0_33 (pc := 21) O hR dX0_begins_21 ?_
      refine tx_iload_n (pc := 24) 0 O dX0_begins_24 rfl rfl ?_
      refine tx_aald (pc := 25) _ _ O dX0_begins_25 (sh_205 w) (by decide) (by omega) ?_
      rw [hR.2.2.2.2.1]
      refine tx_cV1 (pc := 26) O dX0_begins_26 q245 vX1_is (sh_t w (by omega)) rfl (by decide) (Nat.zero_le _) (sX1_is w _ _ _ _ _ hR (by omega) (by omega) (by omega) (h3.1.2.2.1.2 t h1 (by omega)) (by have := (hD.2 _ (gl_mem (t := t) h1 (by omega))).1.1; omega)) (k_V (fun M26 h26 => ?_))
      obtain ⟨g1, g2⟩ := h26
      refine tx_aload_n (pc := 29) 1 O dX0_begins_29 rfl rfl ?_
      refine fX0_148 (pc := 30) O hR dX0_begins_30 ?_
      refine tx_iload_n (pc := 33) 0 O dX0_begins_33 rfl rfl ?_
      refine tx_iconst (pc := 34) O dX0_begins_34 ?_
      refine tx_iast (pc := 35) _ O dX0_begins_35 (sh_214 w) (by omega) ?_
      refine tx_iinc (pc := 36) (lv' := [(1, _), (0, _)]) 0 O dX0_begins_36 rfl (by decide) rfl ?_
      refine tx_goto (pc := 39) 6 O dX0_begins_39 rfl ?_
      refine ih _ _ ⟨by omega, by omega, hR, h3.u (fun a b q => by rw [up_n (by omega), g2 _ _ (by omega)]), fun s q1 q2 => ?_⟩ (by omega) (by omega)
      by_cases e : s = t
      · subst e
        exact ⟨g1.keep (fun b => by rw [up_n (by omega)]) (fun b => by rw [up_n (by omega)]), up_s⟩
      · exact ⟨(h4 s q1 (by omega)).1.keep (fun b => by rw [up_n (by omega), g2 _ _ (by omega)]) (fun b => by rw [up_n (by omega), g2 _ _ (by omega)]), by rw [up_n (by omega), g2 _ _ (by omega)]; exact (h4 s q1 (by omega)).2⟩
  refine tx_aload_n (pc := 0) 0 O dX0_begins_0 rfl rfl ?_
  refine tx_cV0 (pc := 1) O dX0_begins_1 q128 vX0_reads (sh_1 w) rfl (by decide) (Nat.zero_le _) (sX0_reads w _ _ u hR hu) (k_CV (fun R1 M1 h1 => ?_))
  refine tx_iconst (pc := 4) O dX0_begins_4 ?_
  refine tx_istore_n (pc := 5) (lv' := [(1, _), (0, _)]) O dX0_begins_5 rfl (by decide) rfl ?_
  exact K1 _ 0 _ ⟨by omega, by omega, hR.kp h1.2.2, h1, fun s q1 q2 => by omega⟩

