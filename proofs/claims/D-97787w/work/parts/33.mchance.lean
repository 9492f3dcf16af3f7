/-! MODEL: hums, fair, write, count, read -/
set_option maxRecDepth 100000
theorem sX6_humsOf (w : WT) (c t b y wish what : Int) (R M : TM) (u : PU) (hR : RL R) (hu : mP M u) (hc : 0 ≤ c ∧ c ≤ 16) (ht : 0 ≤ t ∧ t < (uT u).length) (hb : 0 ≤ b ∧ b < uB u) (hy : 1 ≤ y ∧ y ≤ 9) (hw : 1 ≤ wish ∧ wish ≤ 40) (hwh : 0 ≤ what ∧ what ≤ 1) : tx_S w yX6_humsOf cX6_humsOf 17 (some .long) 3 [rV (wa w) 2, iV c, iV t, iV b, iV y, iV wish, iV what] R M (QL R (fun z M' => z = humsP u c t b y wish what ∧ kpR M M')) := by
  have hok := hu.1.1
  have hp16 := pw16 (y := y) (by omega)
  refine tx_S.ofk (lv := [(0, _), (1, _), (2, _), (3, _), (4, _), (5, _), (6, _)]) [1, 1, 1, 1, 1, 1, 1] (by decide) (by simp only [List.map_cons, List.map_nil, cat_i, cat_l, cat_r]) (by decide) rfl (fun E O F => ?_)
  have K2 : ∀ (k : Int) (M' : TM), (0 ≤ k ∧ k ≤ y + 1 ∧ nowIs M' 6 (hmk u t b k) ∧ kpN 6 M M') → ∀ ch : Int, (k ≤ y → ch = mC y k) → tx_X w E 43 [(13, iV k), (11, lV ch), (9, lV (pw 16 y)), (7, lV (hmS u c t b y wish k)), (0, rV (wa w) 2), (1, iV c), (2, iV t), (3, iV b), (4, iV y), (5, iV wish), (6, iV what)] [] R M' := by
    refine lp_up _ _ (y + 1) ?_
    rintro k M' ⟨h1, h2, h3, h4⟩ ih ch hch
    have hu := hu.keep h4.r
    have hl := hmk_ok hok ht hb k h1
    have hl1 := hl.1
    have hS := hmS_ok (u := u) (t := t) (b := b) (wish := wish) hc (y := y) (by omega) k h1 h2
    have K3 : k ≤ y → ∀ (i : Int) (M2 : TM), (0 ≤ i ∧ i ≤ y ∧ M2 = M') → tx_X w E 57 [(16, iV i), (14, lV (mW c y k i)), (13, iV k), (11, lV (mC y k)), (9, lV (pw 16 y)), (7, lV (hmS u c t b y wish k)), (0, rV (wa w) 2), (1, iV c), (2, iV t), (3, iV b), (4, iV y), (5, iV wish), (6, iV what)] [] R M2 := by
      intro hky
      have hwy := wy_ok hc (y := y) (k := k) (by omega) (by omega)
      have hst2 := hmS_1 u c t b y wish h1
      refine lp_up _ _ y ?_
      rintro i M2 ⟨g1, g2, rfl⟩ ih2
      have hst := itI_1 (fun i x => x * (if i < k then c else 16 - c)) (mC y k) g1
      refine tx_iload (pc := 57) 0 O dX6_humsOf_57 rfl ?_
      refine tx_iload (pc := 59) 10 O dX6_humsOf_59 rfl ?_
      refine tx_icmp_ge (pc := 61) 92 O dX6_humsOf_61 rfl (by omega) (fun c61 => ?_) (fun c61 => ?_)
      · rw [show i = y by omega, hwy.2.1]
        refine tx_lload (pc := 92) 5 O dX6_humsOf_92 rfl ?_
        refine tx_aload_n (pc := 94) 6 O dX6_humsOf_94 rfl rfl ?_
        refine fX6_43 (pc := 95) O hR dX6_humsOf_95 ?_
        refine tx_bipush (pc := 98) O dX6_humsOf_98 (by decide) ?_
        refine tx_iald (pc := 100) _ O dX6_humsOf_100 (sh_116 w) (by omega) ?_
        rw [h3.1]
        refine tx_iload (pc := 101) 11 O dX6_humsOf_101 rfl ?_
        refine tx_icmp_lt (pc := 103) 111 O dX6_humsOf_103 rfl (by omega) (fun c103 => ?_) (fun c103 => ?_)
        · refine tx_lconst0 (pc := 111) O dX6_humsOf_111 ?_
          refine tx_ladd (pc := 112) O dX6_humsOf_112 ?_
          refine tx_lstore (pc := 113) (lv' := [(7, _), (16, _), (14, _), (13, _), (11, _), (9, _), (0, _), (1, _), (2, _), (3, _), (4, _), (5, _), (6, _)]) O dX6_humsOf_113 (by decide) rfl ?_
          refine tx_lload (pc := 115) 4 O dX6_humsOf_115 rfl ?_
          refine tx_iload (pc := 117) 10 O dX6_humsOf_117 rfl ?_
          refine tx_iload (pc := 119) 3 O dX6_humsOf_119 rfl ?_
          refine tx_isub (pc := 121) O dX6_humsOf_121 ?_
          refine tx_i2l (pc := 122) O dX6_humsOf_122 (by omega) ?_
          refine tx_lmul (pc := 123) O dX6_humsOf_123 ?_
          refine tx_iload (pc := 124) 3 O dX6_humsOf_124 rfl ?_
          refine tx_iconst (pc := 126) O dX6_humsOf_126 ?_
          refine tx_iadd (pc := 127) O dX6_humsOf_127 ?_
          refine tx_i2l (pc := 128) O dX6_humsOf_128 (by omega) ?_
          have hm9 : 0 ≤ mC y k * (y - k) ∧ mC y k * (y - k) ≤ 1000 * 9 := ⟨Int.mul_nonneg (by omega) (by omega), Int.mul_le_mul (show mC y k ≤ 1000 by omega) (show y - k ≤ 9 by omega) (by omega) (by omega)⟩
          refine tx_ldiv (pc := 129) O dX6_humsOf_129 (by omega) (by omega) ?_
          refine tx_lstore (pc := 130) (lv' := [(11, _), (7, _), (16, _), (14, _), (13, _), (9, _), (0, _), (1, _), (2, _), (3, _), (4, _), (5, _), (6, _)]) O dX6_humsOf_130 (by decide) rfl ?_
          refine tx_aload_n (pc := 132) 6 O dX6_humsOf_132 rfl rfl ?_
          refine tx_bipush (pc := 133) O dX6_humsOf_133 (by decide) ?_
          refine tx_iload_n (pc := 135) 9 O dX6_humsOf_135 rfl rfl ?_
          refine tx_cV2 (pc := 136) O dX6_humsOf_136 q1053 vX6_hummed (sh_2 w) rfl (by decide) (Nat.zero_le _) (sX6_hummed w _ _ _ _ u _ hR hu hb (by omega) h3 hl) (k_V (fun M136 h136 => ?_))
          refine tx_iinc (pc := 139) (lv' := [(13, _), (11, _), (7, _), (16, _), (14, _), (9, _), (0, _), (1, _), (2, _), (3, _), (4, _), (5, _), (6, _)]) 4 O dX6_humsOf_139 rfl (by decide) rfl ?_
          refine tx_goto (pc := 142) 43 O dX6_humsOf_142 rfl ?_
          refine tx_lv (lv' := [(13, _), (11, _), (9, _), (7, _), (0, _), (1, _), (2, _), (3, _), (4, _), (5, _), (6, _)]) [0, 1, 5, 2, 6, 7, 8, 9, 10, 11, 12] rfl ?_
          have := ih (k + 1) _ ⟨by omega, by omega, by rw [hmk_1 _ _ _ h1]; exact h136.1, h4.tr h136.2⟩ (by omega) (by omega) (mC y k * (y - k) / (k + 1)) (fun _ => (itI_1 (fun k x => x * (y - k) / (k + 1)) (1 : Int) h1).symm)
          rw [hst2] at this
          first
            | (rw [if_pos c103] at this; exact this)
            | (rw [if_neg (by omega)] at this; exact this)
        · refine tx_lload (pc := 106) 1 O dX6_humsOf_106 rfl ?_
          refine tx_goto (pc := 108) 112 O dX6_humsOf_108 rfl ?_
          refine tx_ladd (pc := 112) O dX6_humsOf_112 ?_
          refine tx_lstore (pc := 113) (lv' := [(7, _), (16, _), (14, _), (13, _), (11, _), (9, _), (0, _), (1, _), (2, _), (3, _), (4, _), (5, _), (6, _)]) O dX6_humsOf_113 (by decide) rfl ?_
          refine tx_lload (pc := 115) 4 O dX6_humsOf_115 rfl ?_
          refine tx_iload (pc := 117) 10 O dX6_humsOf_117 rfl ?_
          refine tx_iload (pc := 119) 3 O dX6_humsOf_119 rfl ?_
          refine tx_isub (pc := 121) O dX6_humsOf_121 ?_
          refine tx_i2l (pc := 122) O dX6_humsOf_122 (by omega) ?_
          refine tx_lmul (pc := 123) O dX6_humsOf_123 ?_
          refine tx_iload (pc := 124) 3 O dX6_humsOf_124 rfl ?_
          refine tx_iconst (pc := 126) O dX6_humsOf_126 ?_
          refine tx_iadd (pc := 127) O dX6_humsOf_127 ?_
          refine tx_i2l (pc := 128) O dX6_humsOf_128 (by omega) ?_
          have hm9 : 0 ≤ mC y k * (y - k) ∧ mC y k * (y - k) ≤ 1000 * 9 := ⟨Int.mul_nonneg (by omega) (by omega), Int.mul_le_mul (show mC y k ≤ 1000 by omega) (show y - k ≤ 9 by omega) (by omega) (by omega)⟩
          refine tx_ldiv (pc := 129) O dX6_humsOf_129 (by omega) (by omega) ?_
          refine tx_lstore (pc := 130) (lv' := [(11, _), (7, _), (16, _), (14, _), (13, _), (9, _), (0, _), (1, _), (2, _), (3, _), (4, _), (5, _), (6, _)]) O dX6_humsOf_130 (by decide) rfl ?_
          refine tx_aload_n (pc := 132) 6 O dX6_humsOf_132 rfl rfl ?_
          refine tx_bipush (pc := 133) O dX6_humsOf_133 (by decide) ?_
          refine tx_iload_n (pc := 135) 9 O dX6_humsOf_135 rfl rfl ?_
          refine tx_cV2 (pc := 136) O dX6_humsOf_136 q1053 vX6_hummed (sh_2 w) rfl (by decide) (Nat.zero_le _) (sX6_hummed w _ _ _ _ u _ hR hu hb (by omega) h3 hl) (k_V (fun M136 h136 => ?_))
          refine tx_iinc (pc := 139) (lv' := [(13, _), (11, _), (7, _), (16, _), (14, _), (9, _), (0, _), (1, _), (2, _), (3, _), (4, _), (5, _), (6, _)]) 4 O dX6_humsOf_139 rfl (by decide) rfl ?_
          refine tx_goto (pc := 142) 43 O dX6_humsOf_142 rfl ?_
          refine tx_lv (lv' := [(13, _), (11, _), (9, _), (7, _), (0, _), (1, _), (2, _), (3, _), (4, _), (5, _), (6, _)]) [0, 1, 5, 2, 6, 7, 8, 9, 10, 11, 12] rfl ?_
          have := ih (k + 1) _ ⟨by omega, by omega, by rw [hmk_1 _ _ _ h1]; exact h136.1, h4.tr h136.2⟩ (by omega) (by omega) (mC y k * (y - k) / (k + 1)) (fun _ => (itI_1 (fun k x => x * (y - k) / (k + 1)) (1 : Int) h1).symm)
          rw [hst2] at this
          first
            | (rw [if_pos c103] at this; exact this)
            | (rw [if_neg (by omega)] at this; exact this)
      · refine tx_lload (pc := 64) 1 O dX6_humsOf_64 rfl ?_
        refine tx_iload (pc := 66) 0 O dX6_humsOf_66 rfl ?_
        refine tx_iload (pc := 68) 2 O dX6_humsOf_68 rfl ?_
        refine tx_icmp_ge (pc := 70) 78 O dX6_humsOf_70 rfl (by omega) (fun c70 => ?_) (fun c70 => ?_)
        · refine tx_bipush (pc := 78) O dX6_humsOf_78 (by decide) ?_
          refine tx_iload_n (pc := 80) 7 O dX6_humsOf_80 rfl rfl ?_
          refine tx_isub (pc := 81) O dX6_humsOf_81 ?_
          refine tx_i2l (pc := 82) O dX6_humsOf_82 (by omega) ?_
          refine tx_lmul (pc := 83) O dX6_humsOf_83 ?_
          refine tx_lstore (pc := 84) (lv' := [(14, _), (16, _), (13, _), (11, _), (9, _), (7, _), (0, _), (1, _), (2, _), (3, _), (4, _), (5, _), (6, _)]) O dX6_humsOf_84 (by decide) rfl ?_
          refine tx_iinc (pc := 86) (lv' := [(16, _), (14, _), (13, _), (11, _), (9, _), (7, _), (0, _), (1, _), (2, _), (3, _), (4, _), (5, _), (6, _)]) 1 O dX6_humsOf_86 rfl (by decide) rfl ?_
          refine tx_goto (pc := 89) 57 O dX6_humsOf_89 rfl ?_
          have := ih2 (i + 1) M2 ⟨by omega, by omega, rfl⟩ (by omega) (by omega)
          unfold mW at this
          first
            | (rw [hst, if_pos c70] at this; exact this)
            | (rw [hst, if_neg (by omega)] at this; exact this)
        · refine tx_iload_n (pc := 73) 7 O dX6_humsOf_73 rfl rfl ?_
          refine tx_i2l (pc := 74) O dX6_humsOf_74 (by omega) ?_
          refine tx_goto (pc := 75) 83 O dX6_humsOf_75 rfl ?_
          refine tx_lmul (pc := 83) O dX6_humsOf_83 ?_
          refine tx_lstore (pc := 84) (lv' := [(14, _), (16, _), (13, _), (11, _), (9, _), (7, _), (0, _), (1, _), (2, _), (3, _), (4, _), (5, _), (6, _)]) O dX6_humsOf_84 (by decide) rfl ?_
          refine tx_iinc (pc := 86) (lv' := [(16, _), (14, _), (13, _), (11, _), (9, _), (7, _), (0, _), (1, _), (2, _), (3, _), (4, _), (5, _), (6, _)]) 1 O dX6_humsOf_86 rfl (by decide) rfl ?_
          refine tx_goto (pc := 89) 57 O dX6_humsOf_89 rfl ?_
          have := ih2 (i + 1) M2 ⟨by omega, by omega, rfl⟩ (by omega) (by omega)
          unfold mW at this
          first
            | (rw [hst, if_pos c70] at this; exact this)
            | (rw [hst, if_neg (by omega)] at this; exact this)
    refine tx_iload (pc := 43) 0 O dX6_humsOf_43 rfl ?_
    refine tx_iload (pc := 45) 8 O dX6_humsOf_45 rfl ?_
    refine tx_icmp_gt (pc := 47) 145 O dX6_humsOf_47 rfl (by omega) (fun c47 => ?_) (fun c47 => ?_)
    · refine tx_lload (pc := 145) 3 O dX6_humsOf_145 rfl ?_
      refine tx_lload (pc := 147) 2 O dX6_humsOf_147 rfl ?_
      refine tx_iload (pc := 149) 10 O dX6_humsOf_149 rfl ?_
      refine tx_cS3 (pc := 151) O dX6_humsOf_151 q1232 vX6_part (by decide) (Nat.zero_le _) (sX6_part w _ _ _ _ _ (by omega) (by omega) (by omega)) (k_PL (fun z151 h151 => ?_))
      exact tx_lret O F dX6_humsOf_154 (tx_QL.mk ⟨by unfold humsP; rw [show y + 1 = k by omega]; exact h151, h4.r⟩)
    · have hch := hch c47
      subst hch
      refine tx_lload (pc := 50) 1 O dX6_humsOf_50 rfl ?_
      refine tx_lstore (pc := 52) (lv' := [(14, _), (13, _), (11, _), (9, _), (7, _), (0, _), (1, _), (2, _), (3, _), (4, _), (5, _), (6, _)]) O dX6_humsOf_52 (by decide) rfl ?_
      refine tx_iconst (pc := 54) O dX6_humsOf_54 ?_
      refine tx_istore (pc := 55) (lv' := [(16, _), (14, _), (13, _), (11, _), (9, _), (7, _), (0, _), (1, _), (2, _), (3, _), (4, _), (5, _), (6, _)]) O dX6_humsOf_55 (by decide) rfl ?_
      exact K3 c47 0 _ ⟨by omega, by omega, rfl⟩
  have K1 : ∀ (i : Int) (M' : TM), (0 ≤ i ∧ i ≤ y ∧ M' = M) → tx_X w E 9 [(11, iV i), (9, lV (pw 16 i)), (7, lV 0), (0, rV (wa w) 2), (1, iV c), (2, iV t), (3, iV b), (4, iV y), (5, iV wish), (6, iV what)] [] R M' := by
    refine lp_up _ _ y ?_
    rintro i M' ⟨h1, h2, rfl⟩ ih
    refine tx_iload (pc := 9) 0 O dX6_humsOf_9 rfl ?_
    refine tx_iload (pc := 11) 7 O dX6_humsOf_11 rfl ?_
    refine tx_icmp_ge (pc := 13) 30 O dX6_humsOf_13 rfl (by omega) (fun c13 => ?_) (fun c13 => ?_)
    · refine tx_lconst1 (pc := 30) O dX6_humsOf_30 ?_
      refine tx_lstore (pc := 31) (lv' := [(11, _), (9, _), (7, _), (0, _), (1, _), (2, _), (3, _), (4, _), (5, _), (6, _)]) O dX6_humsOf_31 (by decide) rfl ?_
      refine tx_aload_n (pc := 33) 3 O dX6_humsOf_33 rfl rfl ?_
      refine tx_iload_n (pc := 34) 5 O dX6_humsOf_34 rfl rfl ?_
      refine tx_bipush (pc := 35) O dX6_humsOf_35 (by decide) ?_
      refine tx_cV2 (pc := 37) O dX6_humsOf_37 q1041 vX6_begins (sh_2 w) rfl (by decide) (Nat.zero_le _) (sX6_begins w _ _ _ _ u hR hu ht (by omega)) (k_V (fun M37 h37 => ?_))
      refine tx_iconst (pc := 40) O dX6_humsOf_40 ?_
      refine tx_istore (pc := 41) (lv' := [(13, _), (11, _), (9, _), (7, _), (0, _), (1, _), (2, _), (3, _), (4, _), (5, _), (6, _)]) O dX6_humsOf_41 (by decide) rfl ?_
      rw [show i = y by omega]
      exact K2 0 _ ⟨by omega, by omega, h37.1, h37.2⟩ 1 (fun _ => rfl)
    · refine tx_lload (pc := 16) 1 O dX6_humsOf_16 rfl ?_
      refine tx_ldc2 (pc := 18) (z := 16) O dX6_humsOf_18 q1226 rfl ?_
      refine tx_lmul (pc := 21) O dX6_humsOf_21 ?_
      refine tx_lstore (pc := 22) (lv' := [(9, _), (11, _), (7, _), (0, _), (1, _), (2, _), (3, _), (4, _), (5, _), (6, _)]) O dX6_humsOf_22 (by decide) rfl ?_
      refine tx_iinc (pc := 24) (lv' := [(11, _), (9, _), (7, _), (0, _), (1, _), (2, _), (3, _), (4, _), (5, _), (6, _)]) 1 O dX6_humsOf_24 rfl (by decide) rfl ?_
      refine tx_goto (pc := 27) 9 O dX6_humsOf_27 rfl ?_
      have := ih (i + 1) _ ⟨by omega, by omega, rfl⟩ (by omega) (by omega)
      rw [pw_1 _ h1] at this
      exact this
  refine tx_lconst0 (pc := 0) O dX6_humsOf_0 ?_
  refine tx_lstore (pc := 1) (lv' := [(7, _), (0, _), (1, _), (2, _), (3, _), (4, _), (5, _), (6, _)]) O dX6_humsOf_1 (by decide) rfl ?_
  refine tx_lconst1 (pc := 3) O dX6_humsOf_3 ?_
  refine tx_lstore (pc := 4) (lv' := [(9, _), (7, _), (0, _), (1, _), (2, _), (3, _), (4, _), (5, _), (6, _)]) O dX6_humsOf_4 (by decide) rfl ?_
  refine tx_iconst (pc := 6) O dX6_humsOf_6 ?_
  refine tx_istore (pc := 7) (lv' := [(11, _), (9, _), (7, _), (0, _), (1, _), (2, _), (3, _), (4, _), (5, _), (6, _)]) O dX6_humsOf_7 (by decide) rfl ?_
  exact K1 0 M ⟨by omega, by omega, rfl⟩
def humsOkP (u : PU) (c t b y wish what : Int) : Prop := 0 ≤ c ∧ c ≤ 16 ∧ 0 ≤ t ∧ t < (uT u).length ∧ 0 ≤ b ∧ b < uB u ∧ 1 ≤ y ∧ y ≤ 9 ∧ 1 ≤ wish ∧ wish ≤ 40 ∧ 0 ≤ what ∧ what ≤ 1
theorem sX6_hums (w : WT) (c t b y wish what : Int) (R M : TM) (u : PU) (hR : RL R) (hu : mT M u) (hc : rng c) (ht : rng t) (hb : rng b) (hy : rng y) (hw : rng wish) (hwh : rng what) : tx_S w yX6_hums cX6_hums 8 (some .long) 4 [rV (wa w) 2, iV c, iV t, iV b, iV y, iV wish, iV what] R M (QL R (fun z M' => (¬ humsOkP u c t b y wish what ∧ z = -9223372036854775806 ∨ humsOkP u c t b y wish what ∧ z = humsP u c t b y wish what) ∧ mP M' u ∧ kpQ M M')) := by
  refine tx_S.ofk (lv := [(0, _), (1, _), (2, _), (3, _), (4, _), (5, _), (6, _)]) [1, 1, 1, 1, 1, 1, 1] (by decide) (by simp only [List.map_cons, List.map_nil, cat_i, cat_l, cat_r]) (by decide) rfl (fun E O F => ?_)
  refine tx_aload_n (pc := 0) 0 O dX6_hums_0 rfl rfl ?_
  refine tx_cV0 (pc := 1) O dX6_hums_1 q983 vX6_reads (sh_2 w) rfl (by decide) (Nat.zero_le _) (sX6_reads w _ _ u hR hu) (k_V (fun M1 h1 => ?_))
  obtain ⟨hu, hk⟩ := h1
  refine tx_iload_n (pc := 4) 1 O dX6_hums_4 rfl rfl ?_
  refine tx_i2l (pc := 5) O dX6_hums_5 (by omega) ?_
  refine tx_lconst0 (pc := 6) O dX6_hums_6 ?_
  refine tx_ldc2 (pc := 7) (z := 16) O dX6_hums_7 q1226 rfl ?_
  refine tx_cS3 (pc := 10) O dX6_hums_10 q910 vX6_in (by decide) (Nat.zero_le _) (sX6_in w _ _ _ _ _ (by omega) (by omega) (by omega)) (k_P (fun z10 h10 => ?_))
  refine tx_if_eq (pc := 13) 70 O dX6_hums_13 rfl (by omega) (fun c13 => ?_) (fun c13 => ?_)
  · refine tx_iconst (pc := 70) O dX6_hums_70 ?_
    refine tx_istore (pc := 71) (lv' := [(7, _), (0, _), (1, _), (2, _), (3, _), (4, _), (5, _), (6, _)]) O dX6_hums_71 (by decide) rfl ?_
    refine tx_iload (pc := 73) 0 O dX6_hums_73 rfl ?_
    refine tx_if_eq (pc := 75) 94 O dX6_hums_75 rfl (by omega) (fun c75 => ?_) (fun c75 => ?_)
    · refine tx_bipush (pc := 94) O dX6_hums_94 (by decide) ?_
      refine tx_cS1 (pc := 96) O dX6_hums_96 q1235 vX6_no (by decide) (Nat.zero_le _) (sX6_no w _ _ _ (by omega)) (k_PL (fun z96 h96 => ?_))
      exact tx_lret O F dX6_hums_99 (tx_QL.mk (by first | exact ⟨Or.inr ⟨by unfold humsOkP; omega, h88.1⟩, hu.keep h88.2, hk.tr h88.2.q⟩ | exact ⟨Or.inl ⟨by unfold humsOkP; omega, h96⟩, hu, hk⟩))
    · exact absurd c75 (by decide)
  · refine tx_aload_n (pc := 16) 0 O dX6_hums_16 rfl rfl ?_
    refine tx_iload_n (pc := 17) 2 O dX6_hums_17 rfl rfl ?_
    refine tx_cV1 (pc := 18) O dX6_hums_18 q987 vX6_isTune (sh_2 w) rfl (by decide) (Nat.zero_le _) (sX6_isTune w _ _ _ u hu (by omega)) (k_P (fun z18 h18 => ?_))
    refine tx_if_eq (pc := 21) 70 O dX6_hums_21 rfl (by omega) (fun c21 => ?_) (fun c21 => ?_)
    · refine tx_iconst (pc := 70) O dX6_hums_70 ?_
      refine tx_istore (pc := 71) (lv' := [(7, _), (0, _), (1, _), (2, _), (3, _), (4, _), (5, _), (6, _)]) O dX6_hums_71 (by decide) rfl ?_
      refine tx_iload (pc := 73) 0 O dX6_hums_73 rfl ?_
      refine tx_if_eq (pc := 75) 94 O dX6_hums_75 rfl (by omega) (fun c75 => ?_) (fun c75 => ?_)
      · refine tx_bipush (pc := 94) O dX6_hums_94 (by decide) ?_
        refine tx_cS1 (pc := 96) O dX6_hums_96 q1235 vX6_no (by decide) (Nat.zero_le _) (sX6_no w _ _ _ (by omega)) (k_PL (fun z96 h96 => ?_))
        exact tx_lret O F dX6_hums_99 (tx_QL.mk (by first | exact ⟨Or.inr ⟨by unfold humsOkP; omega, h88.1⟩, hu.keep h88.2, hk.tr h88.2.q⟩ | exact ⟨Or.inl ⟨by unfold humsOkP; omega, h96⟩, hu, hk⟩))
      · exact absurd c75 (by decide)
    · refine tx_aload_n (pc := 24) 0 O dX6_hums_24 rfl rfl ?_
      refine tx_iload_n (pc := 25) 3 O dX6_hums_25 rfl rfl ?_
      refine tx_cV1 (pc := 26) O dX6_hums_26 q997 vX6_isBorrower (sh_2 w) rfl (by decide) (Nat.zero_le _) (sX6_isBorrower w _ _ _ u hu (by omega)) (k_P (fun z26 h26 => ?_))
      refine tx_if_eq (pc := 29) 70 O dX6_hums_29 rfl (by omega) (fun c29 => ?_) (fun c29 => ?_)
      · refine tx_iconst (pc := 70) O dX6_hums_70 ?_
        refine tx_istore (pc := 71) (lv' := [(7, _), (0, _), (1, _), (2, _), (3, _), (4, _), (5, _), (6, _)]) O dX6_hums_71 (by decide) rfl ?_
        refine tx_iload (pc := 73) 0 O dX6_hums_73 rfl ?_
        refine tx_if_eq (pc := 75) 94 O dX6_hums_75 rfl (by omega) (fun c75 => ?_) (fun c75 => ?_)
        · refine tx_bipush (pc := 94) O dX6_hums_94 (by decide) ?_
          refine tx_cS1 (pc := 96) O dX6_hums_96 q1235 vX6_no (by decide) (Nat.zero_le _) (sX6_no w _ _ _ (by omega)) (k_PL (fun z96 h96 => ?_))
          exact tx_lret O F dX6_hums_99 (tx_QL.mk (by first | exact ⟨Or.inr ⟨by unfold humsOkP; omega, h88.1⟩, hu.keep h88.2, hk.tr h88.2.q⟩ | exact ⟨Or.inl ⟨by unfold humsOkP; omega, h96⟩, hu, hk⟩))
        · exact absurd c75 (by decide)
      · refine tx_iload (pc := 32) 4 O dX6_hums_32 rfl ?_
        refine tx_i2l (pc := 34) O dX6_hums_34 (by omega) ?_
        refine tx_lconst1 (pc := 35) O dX6_hums_35 ?_
        refine tx_ldc2 (pc := 36) (z := 9) O dX6_hums_36 q1010 rfl ?_
        refine tx_cS3 (pc := 39) O dX6_hums_39 q910 vX6_in (by decide) (Nat.zero_le _) (sX6_in w _ _ _ _ _ (by omega) (by omega) (by omega)) (k_P (fun z39 h39 => ?_))
        refine tx_if_eq (pc := 42) 70 O dX6_hums_42 rfl (by omega) (fun c42 => ?_) (fun c42 => ?_)
        · refine tx_iconst (pc := 70) O dX6_hums_70 ?_
          refine tx_istore (pc := 71) (lv' := [(7, _), (0, _), (1, _), (2, _), (3, _), (4, _), (5, _), (6, _)]) O dX6_hums_71 (by decide) rfl ?_
          refine tx_iload (pc := 73) 0 O dX6_hums_73 rfl ?_
          refine tx_if_eq (pc := 75) 94 O dX6_hums_75 rfl (by omega) (fun c75 => ?_) (fun c75 => ?_)
          · refine tx_bipush (pc := 94) O dX6_hums_94 (by decide) ?_
            refine tx_cS1 (pc := 96) O dX6_hums_96 q1235 vX6_no (by decide) (Nat.zero_le _) (sX6_no w _ _ _ (by omega)) (k_PL (fun z96 h96 => ?_))
            exact tx_lret O F dX6_hums_99 (tx_QL.mk (by first | exact ⟨Or.inr ⟨by unfold humsOkP; omega, h88.1⟩, hu.keep h88.2, hk.tr h88.2.q⟩ | exact ⟨Or.inl ⟨by unfold humsOkP; omega, h96⟩, hu, hk⟩))
          · exact absurd c75 (by decide)
        · refine tx_iload (pc := 45) 5 O dX6_hums_45 rfl ?_
          refine tx_i2l (pc := 47) O dX6_hums_47 (by omega) ?_
          refine tx_lconst1 (pc := 48) O dX6_hums_48 ?_
          refine tx_ldc2 (pc := 49) (z := 40) O dX6_hums_49 q1227 rfl ?_
          refine tx_cS3 (pc := 52) O dX6_hums_52 q910 vX6_in (by decide) (Nat.zero_le _) (sX6_in w _ _ _ _ _ (by omega) (by omega) (by omega)) (k_P (fun z52 h52 => ?_))
          refine tx_if_eq (pc := 55) 70 O dX6_hums_55 rfl (by omega) (fun c55 => ?_) (fun c55 => ?_)
          · refine tx_iconst (pc := 70) O dX6_hums_70 ?_
            refine tx_istore (pc := 71) (lv' := [(7, _), (0, _), (1, _), (2, _), (3, _), (4, _), (5, _), (6, _)]) O dX6_hums_71 (by decide) rfl ?_
            refine tx_iload (pc := 73) 0 O dX6_hums_73 rfl ?_
            refine tx_if_eq (pc := 75) 94 O dX6_hums_75 rfl (by omega) (fun c75 => ?_) (fun c75 => ?_)
            · refine tx_bipush (pc := 94) O dX6_hums_94 (by decide) ?_
              refine tx_cS1 (pc := 96) O dX6_hums_96 q1235 vX6_no (by decide) (Nat.zero_le _) (sX6_no w _ _ _ (by omega)) (k_PL (fun z96 h96 => ?_))
              exact tx_lret O F dX6_hums_99 (tx_QL.mk (by first | exact ⟨Or.inr ⟨by unfold humsOkP; omega, h88.1⟩, hu.keep h88.2, hk.tr h88.2.q⟩ | exact ⟨Or.inl ⟨by unfold humsOkP; omega, h96⟩, hu, hk⟩))
            · exact absurd c75 (by decide)
          · refine tx_iload (pc := 58) 6 O dX6_hums_58 rfl ?_
            refine tx_cS1 (pc := 60) O dX6_hums_60 q946 vX6_isTwo (by decide) (Nat.zero_le _) (sX6_isTwo w _ _ _ (by omega)) (k_P (fun z60 h60 => ?_))
            refine tx_if_eq (pc := 63) 70 O dX6_hums_63 rfl (by omega) (fun c63 => ?_) (fun c63 => ?_)
            · refine tx_iconst (pc := 70) O dX6_hums_70 ?_
              refine tx_istore (pc := 71) (lv' := [(7, _), (0, _), (1, _), (2, _), (3, _), (4, _), (5, _), (6, _)]) O dX6_hums_71 (by decide) rfl ?_
              refine tx_iload (pc := 73) 0 O dX6_hums_73 rfl ?_
              refine tx_if_eq (pc := 75) 94 O dX6_hums_75 rfl (by omega) (fun c75 => ?_) (fun c75 => ?_)
              · refine tx_bipush (pc := 94) O dX6_hums_94 (by decide) ?_
                refine tx_cS1 (pc := 96) O dX6_hums_96 q1235 vX6_no (by decide) (Nat.zero_le _) (sX6_no w _ _ _ (by omega)) (k_PL (fun z96 h96 => ?_))
                exact tx_lret O F dX6_hums_99 (tx_QL.mk (by first | exact ⟨Or.inr ⟨by unfold humsOkP; omega, h88.1⟩, hu.keep h88.2, hk.tr h88.2.q⟩ | exact ⟨Or.inl ⟨by unfold humsOkP; omega, h96⟩, hu, hk⟩))
              · exact absurd c75 (by decide)
            · refine tx_iconst (pc := 66) O dX6_hums_66 ?_
              refine tx_goto (pc := 67) 71 O dX6_hums_67 rfl ?_
              refine tx_istore (pc := 71) (lv' := [(7, _), (0, _), (1, _), (2, _), (3, _), (4, _), (5, _), (6, _)]) O dX6_hums_71 (by decide) rfl ?_
              refine tx_iload (pc := 73) 0 O dX6_hums_73 rfl ?_
              refine tx_if_eq (pc := 75) 94 O dX6_hums_75 rfl (by omega) (fun c75 => ?_) (fun c75 => ?_)
              · exact absurd c75 (by decide)
              · refine tx_aload_n (pc := 78) 1 O dX6_hums_78 rfl rfl ?_
                refine tx_iload_n (pc := 79) 2 O dX6_hums_79 rfl rfl ?_
                refine tx_iload_n (pc := 80) 3 O dX6_hums_80 rfl rfl ?_
                refine tx_iload_n (pc := 81) 4 O dX6_hums_81 rfl rfl ?_
                refine tx_iload (pc := 82) 5 O dX6_hums_82 rfl ?_
                refine tx_iload (pc := 84) 6 O dX6_hums_84 rfl ?_
                refine tx_iload (pc := 86) 7 O dX6_hums_86 rfl ?_
                refine tx_cV6 (pc := 88) O dX6_hums_88 q1228 vX6_humsOf (sh_2 w) rfl (by decide) (Nat.zero_le _) (sX6_humsOf w _ _ _ _ _ _ _ _ u hR hu (by omega) (by omega) (by omega) (by omega) (by omega) (by omega)) (k_L (fun z88 M88 h88 => ?_))
                refine tx_goto (pc := 91) 99 O dX6_hums_91 rfl ?_
                exact tx_lret O F dX6_hums_99 (tx_QL.mk (by first | exact ⟨Or.inr ⟨by unfold humsOkP; omega, h88.1⟩, hu.keep h88.2, hk.tr h88.2.q⟩ | exact ⟨Or.inl ⟨by unfold humsOkP; omega, h96⟩, hu, hk⟩))
theorem sX6_fairOf (w : WT) (seed years t : Int) (R M : TM) (u : PU) (hR : RL R) (hu : mP M u) (ht : 0 ≤ t ∧ t < (uT u).length) (hy : 1 ≤ years ∧ years ≤ 40) : tx_S w yX6_fairOf cX6_fairOf 7 (some .int) 3 [rV (wa w) 2, iV seed, iV years, iV t] R M (QI R (fun z M' => z = fairP u seed years t ∧ kpR M M')) := by
  have hok := hu.1.1
  have hT := uT_ok hok
  have hD1 := hT.1
  have hB6 := uB_ok hok
  refine tx_S.ofk (lv := [(0, _), (1, _), (2, _), (3, _)]) [1, 1, 1, 1] (by decide) (by simp only [List.map_cons, List.map_nil, cat_i, cat_l, cat_r]) (by decide) rfl (fun E O F => ?_)
  have K : ∀ (y : Int) (M' : TM), (0 ≤ y ∧ y ≤ years ∧ (0 < y → 0 < uB u) ∧ (∀ s : Int, 0 ≤ s → s < (uT u).length → nowIs M' s ((fairS u seed y).2 s)) ∧ kpR M M') → tx_X w E 10 [(5, iV y), (4, iV (fairS u seed y).1), (0, rV (wa w) 2), (1, iV seed), (2, iV years), (3, iV t)] [] R M' := by
    refine lp_up _ _ years ?_
    rintro y M' ⟨h1, h2, h3, h4, h5⟩ ih
    have hu := hu.keep h5
    have hst := itI_1 (fairI u) ((seed, fun t => gl (uT u) t) : FS) h1
    change fairS u seed (y + 1) = fairI u y (fairS u seed y) at hst
    have hfin : ¬ (y < years ∧ 0 < uB u) → fairP u seed years t = ((fairS u seed y).2 t).length := by
      intro q
      unfold fairP
      by_cases e : 0 < uB u
      · rw [if_pos e, show years = y by omega]
      · have e2 : y = 0 := by
          rcases (show y = 0 ∨ 0 < y by omega) with z | z
          · exact z
          · exact absurd (h3 z) e
        rw [if_neg e, e2]
    have hs2 : ∀ s : Int, 0 ≤ s → s < (uT u).length → 0 < uB u → okN ((fairS u seed y).2 s) := fun s q1 q2 q3 => fairS_ok hok q3 (by omega) seed y y h1 (Int.le_refl _) s q1 q2
    generalize fairS u seed y = s at h4 hst hfin hs2 ⊢
    obtain ⟨lot, nw⟩ := s
    dsimp only at h4 hfin hs2 ⊢
    have z1 := zushr_ok (lot1 lot)
    have z2 := zushr_ok (lot1 (lot1 lot))
    refine tx_iload (pc := 10) 0 O dX6_fairOf_10 rfl ?_
    refine tx_iload_n (pc := 12) 4 O dX6_fairOf_12 rfl rfl ?_
    refine tx_icmp_ge (pc := 13) 81 O dX6_fairOf_13 rfl (by omega) (fun c13 => ?_) (fun c13 => ?_)
    · refine tx_aload_n (pc := 81) 2 O dX6_fairOf_81 rfl rfl ?_
      refine fX6_43 (pc := 82) O hR dX6_fairOf_82 ?_
      refine tx_iload_n (pc := 85) 5 O dX6_fairOf_85 rfl rfl ?_
      refine tx_iald (pc := 86) _ O dX6_fairOf_86 (sh_116 w) (by omega) ?_
      exact tx_iret O F dX6_fairOf_87 (tx_QI.mk ⟨by rw [hfin (by omega)]; exact (h4 t ht.1 ht.2).1, h5⟩)
    · refine tx_aload_n (pc := 16) 2 O dX6_fairOf_16 rfl rfl ?_
      refine fX6_122 (pc := 17) O dX6_fairOf_17 ?_
      rw [hu.bor]
      refine tx_if_le (pc := 20) 81 O dX6_fairOf_20 rfl (by omega) (fun c20 => ?_) (fun c20 => ?_)
      · refine tx_aload_n (pc := 81) 2 O dX6_fairOf_81 rfl rfl ?_
        refine fX6_43 (pc := 82) O hR dX6_fairOf_82 ?_
        refine tx_iload_n (pc := 85) 5 O dX6_fairOf_85 rfl rfl ?_
        refine tx_iald (pc := 86) _ O dX6_fairOf_86 (sh_116 w) (by omega) ?_
        exact tx_iret O F dX6_fairOf_87 (tx_QI.mk ⟨by rw [hfin (by omega)]; exact (h4 t ht.1 ht.2).1, h5⟩)
      · refine tx_ldcw (pc := 23) (z := 1103515245) O dX6_fairOf_23 q1247 rfl ?_
        refine tx_iload (pc := 26) 1 O dX6_fairOf_26 rfl ?_
        refine tx_imul (pc := 28) O dX6_fairOf_28 ?_
        refine tx_sipush (pc := 29) O dX6_fairOf_29 (by decide) ?_
        refine tx_iadd (pc := 32) O dX6_fairOf_32 ?_
        refine tx_istore (pc := 33) (lv' := [(4, _), (5, _), (0, _), (1, _), (2, _), (3, _)]) O dX6_fairOf_33 (by decide) rfl ?_
        change tx_X w E 35 [(4, iV (lot1 lot)), (5, iV y), (0, rV (wa w) 2), (1, iV seed), (2, iV years), (3, iV t)] [] R M'
        refine tx_iload (pc := 35) 0 O dX6_fairOf_35 rfl ?_
        refine tx_bipush (pc := 37) O dX6_fairOf_37 (by decide) ?_
        refine tx_iushr (pc := 39) O dX6_fairOf_39 ?_
        refine tx_aload_n (pc := 40) 2 O dX6_fairOf_40 rfl rfl ?_
        refine fX6_112 (pc := 41) O dX6_fairOf_41 ?_
        rw [hu.2.1.1]
        refine tx_irem (pc := 44) O dX6_fairOf_44 (by omega) (by omega) ?_
        refine tx_istore (pc := 45) (lv' := [(6, _), (4, _), (5, _), (0, _), (1, _), (2, _), (3, _)]) O dX6_fairOf_45 (by decide) rfl ?_
        refine tx_ldcw (pc := 47) (z := 1103515245) O dX6_fairOf_47 q1247 rfl ?_
        refine tx_iload (pc := 50) 1 O dX6_fairOf_50 rfl ?_
        refine tx_imul (pc := 52) O dX6_fairOf_52 ?_
        refine tx_sipush (pc := 53) O dX6_fairOf_53 (by decide) ?_
        refine tx_iadd (pc := 56) O dX6_fairOf_56 ?_
        refine tx_istore (pc := 57) (lv' := [(4, _), (6, _), (5, _), (0, _), (1, _), (2, _), (3, _)]) O dX6_fairOf_57 (by decide) rfl ?_
        change tx_X w E 59 [(4, iV (lot1 (lot1 lot))), (6, iV (zushr (lot1 lot) 16 % (uT u).length)), (5, iV y), (0, rV (wa w) 2), (1, iV seed), (2, iV years), (3, iV t)] [] R M'
        have m1 := Int.emod_nonneg (zushr (lot1 lot) 16) (show ((uT u).length : Int) ≠ 0 by omega)
        have m2 := Int.emod_lt_of_pos (zushr (lot1 lot) 16) (show (0 : Int) < (uT u).length by omega)
        refine tx_aload_n (pc := 59) 3 O dX6_fairOf_59 rfl rfl ?_
        refine tx_iload (pc := 60) 1 O dX6_fairOf_60 rfl ?_
        refine tx_iload (pc := 62) 0 O dX6_fairOf_62 rfl ?_
        refine tx_bipush (pc := 64) O dX6_fairOf_64 (by decide) ?_
        refine tx_iushr (pc := 66) O dX6_fairOf_66 ?_
        refine tx_aload_n (pc := 67) 3 O dX6_fairOf_67 rfl rfl ?_
        refine fX6_122 (pc := 68) O dX6_fairOf_68 ?_
        rw [hu.bor]
        refine tx_irem (pc := 71) O dX6_fairOf_71 (by omega) (by omega) ?_
        have m3 := Int.emod_nonneg (zushr (lot1 (lot1 lot)) 16) (show uB u ≠ 0 by omega)
        have m4 := Int.emod_lt_of_pos (zushr (lot1 (lot1 lot)) 16) c20
        refine tx_cV2 (pc := 72) O dX6_fairOf_72 q1053 vX6_hummed (sh_2 w) rfl (by decide) (Nat.zero_le _) (sX6_hummed w _ _ _ _ u _ hR hu ⟨m3, m4⟩ (by omega) (h4 _ m1 m2) (hs2 _ m1 m2 c20)) (k_V (fun M72 h72 => ?_))
        refine tx_iinc (pc := 75) (lv' := [(5, _), (4, _), (6, _), (0, _), (1, _), (2, _), (3, _)]) 2 O dX6_fairOf_75 rfl (by decide) rfl ?_
        refine tx_goto (pc := 78) 10 O dX6_fairOf_78 rfl ?_
        refine tx_lv (lv' := [(5, _), (4, _), (0, _), (1, _), (2, _), (3, _)]) [0, 1, 3, 4, 5, 6] rfl ?_
        have := ih (y + 1) M72 ⟨by omega, by omega, fun _ => c20, ?_, h5.tr h72.2.r⟩ (by omega) (by omega)
        · rw [hst] at this
          exact this
        · rw [hst]
          intro s q1 q2
          show nowIs M72 s (fu nw (zushr (lot1 lot) 16 % (uT u).length) (hum (uq u (zushr (lot1 (lot1 lot)) 16 % uB u)) (nw (zushr (lot1 lot) 16 % (uT u).length))) s)
          by_cases e : s = zushr (lot1 lot) 16 % (uT u).length
          · rw [e, fu_s]; exact h72.1
          · rw [fu_n e]; exact h72.2.now (h4 s q1 q2) (hs2 s q1 q2 c20).1 e
  refine tx_iload_n (pc := 0) 1 O dX6_fairOf_0 rfl rfl ?_
  refine tx_istore (pc := 1) (lv' := [(4, _), (0, _), (1, _), (2, _), (3, _)]) O dX6_fairOf_1 (by decide) rfl ?_
  refine tx_aload_n (pc := 3) 1 O dX6_fairOf_3 rfl rfl ?_
  refine tx_cV0 (pc := 4) O dX6_fairOf_4 q1037 vX6_startsAll (sh_2 w) rfl (by decide) (Nat.zero_le _) (sX6_startsAll w _ _ u hR hu) (k_V (fun M4 h4 => ?_))
  refine tx_iconst (pc := 7) O dX6_fairOf_7 ?_
  refine tx_istore (pc := 8) (lv' := [(5, _), (4, _), (0, _), (1, _), (2, _), (3, _)]) O dX6_fairOf_8 (by decide) rfl ?_
  exact K 0 _ ⟨by omega, by omega, fun q => absurd q (by decide), fun s q1 q2 => (h4.1.1 s q1 q2).1, h4.2⟩
theorem sX6_fair (w : WT) (seed years t : Int) (R M : TM) (u : PU) (hR : RL R) (hu : mT M u) (hy : rng years) (ht : rng t) : tx_S w yX6_fair cX6_fair 4 (some .int) 4 [rV (wa w) 2, iV seed, iV years, iV t] R M (QI R (fun z M' => ((years < 1 ∨ 40 < years ∨ t < 0 ∨ (uT u).length ≤ t) ∧ z = -2 ∨ (1 ≤ years ∧ years ≤ 40 ∧ 0 ≤ t ∧ t < (uT u).length) ∧ z = fairP u seed years t) ∧ kpQ M M')) := by
  refine tx_S.ofk (lv := [(0, _), (1, _), (2, _), (3, _)]) [1, 1, 1, 1] (by decide) (by simp only [List.map_cons, List.map_nil, cat_i, cat_l, cat_r]) (by decide) rfl (fun E O F => ?_)
  refine tx_aload_n (pc := 0) 0 O dX6_fair_0 rfl rfl ?_
  refine tx_cV0 (pc := 1) O dX6_fair_1 q983 vX6_reads (sh_2 w) rfl (by decide) (Nat.zero_le _) (sX6_reads w _ _ u hR hu) (k_V (fun M1 h1 => ?_))
  obtain ⟨hu, hk⟩ := h1
  refine tx_iload_n (pc := 4) 2 O dX6_fair_4 rfl rfl ?_
  refine tx_i2l (pc := 5) O dX6_fair_5 (by omega) ?_
  refine tx_lconst1 (pc := 6) O dX6_fair_6 ?_
  refine tx_ldc2 (pc := 7) (z := 40) O dX6_fair_7 q1227 rfl ?_
  refine tx_cS3 (pc := 10) O dX6_fair_10 q910 vX6_in (by decide) (Nat.zero_le _) (sX6_in w _ _ _ _ _ (by omega) (by omega) (by omega)) (k_P (fun z10 h10 => ?_))
  refine tx_if_eq (pc := 13) 34 O dX6_fair_13 rfl (by omega) (fun c13 => ?_) (fun c13 => ?_)
  · refine tx_bipush (pc := 34) O dX6_fair_34 (by decide) ?_
    exact tx_iret O F dX6_fair_36 (tx_QI.mk (by first | exact ⟨Or.inr ⟨by omega, h28.1⟩, hk.tr h28.2.q⟩ | exact ⟨Or.inl ⟨by omega, rfl⟩, hk⟩))
  · refine tx_aload_n (pc := 16) 0 O dX6_fair_16 rfl rfl ?_
    refine tx_iload_n (pc := 17) 3 O dX6_fair_17 rfl rfl ?_
    refine tx_cV1 (pc := 18) O dX6_fair_18 q987 vX6_isTune (sh_2 w) rfl (by decide) (Nat.zero_le _) (sX6_isTune w _ _ _ u hu (by omega)) (k_P (fun z18 h18 => ?_))
    refine tx_if_eq (pc := 21) 34 O dX6_fair_21 rfl (by omega) (fun c21 => ?_) (fun c21 => ?_)
    · refine tx_bipush (pc := 34) O dX6_fair_34 (by decide) ?_
      exact tx_iret O F dX6_fair_36 (tx_QI.mk (by first | exact ⟨Or.inr ⟨by omega, h28.1⟩, hk.tr h28.2.q⟩ | exact ⟨Or.inl ⟨by omega, rfl⟩, hk⟩))
    · refine tx_aload_n (pc := 24) 0 O dX6_fair_24 rfl rfl ?_
      refine tx_iload_n (pc := 25) 1 O dX6_fair_25 rfl rfl ?_
      refine tx_iload_n (pc := 26) 2 O dX6_fair_26 rfl rfl ?_
      refine tx_iload_n (pc := 27) 3 O dX6_fair_27 rfl rfl ?_
      refine tx_cV3 (pc := 28) O dX6_fair_28 q1243 vX6_fairOf (sh_2 w) rfl (by decide) (Nat.zero_le _) (sX6_fairOf w _ _ _ _ _ u hR hu (by omega) (by omega)) (k_I (fun z28 M28 h28 => ?_))
      refine tx_goto (pc := 31) 36 O dX6_fair_31 rfl ?_
      exact tx_iret O F dX6_fair_36 (tx_QI.mk (by first | exact ⟨Or.inr ⟨by omega, h28.1⟩, hk.tr h28.2.q⟩ | exact ⟨Or.inl ⟨by omega, rfl⟩, hk⟩))

