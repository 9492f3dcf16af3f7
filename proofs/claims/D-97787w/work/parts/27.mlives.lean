/-! MODEL: goesOn, lives, notes, has, came, interest, home -/
set_option maxRecDepth 100000
theorem RunM_hum {M M' : TM} {u : PU} {r : RS} {y z t : Int} (hr : RunM M u r) (ho : okR u y z r) (ht : 0 ≤ t ∧ t < (uT u).length) (hb : rBy r t ≠ -1) (h1 : nowIs M' t (hum (uq u (ulo u (rBy r t) 2)) (rNow r t))) (h2 : kpN t M M') : RunM M' u (humS u t r) := by
  unfold humS
  rw [if_neg hb]
  refine ⟨fun s q1 q2 => ?_, fun j q1 q2 => ?_⟩
  · obtain ⟨p1, p2, p3⟩ := hr.1 s q1 q2
    show nowIs M' s (fu (rNow r) t (hum (uq u (ulo u (rBy r t) 2)) (rNow r t)) s) ∧ (rBy r s = -1 → M' 119 s = -1) ∧ (rBy r s ≠ -1 → M' 119 s = ulo u (rBy r s) 2 ∧ M' 120 s = rBy r s ∧ lentIs M' s (rLent r s))
    refine ⟨?_, fun z => by rw [h2 _ _ (by omega)]; exact p2 z, fun z => ?_⟩
    · by_cases e : s = t
      · subst e; rw [fu_s]; exact h1
      · rw [fu_n e]; exact h2.now p1 (ho.1 s q1 q2).1 e
    · obtain ⟨o1, o2, o3⟩ := p3 z
      exact ⟨by rw [h2 _ _ (by omega)]; exact o1, by rw [h2 _ _ (by omega)]; exact o2, by rw [h2 _ _ (by omega)]; exact o3.1, fun i r1 r2 => by rw [h2 _ _ (by omega)]; exact o3.2 i r1 r2⟩
  · show M' 121 j = rCnt r j ∧ M' 122 j = rBad r j ∧ M' 123 j = rGain r j
    rw [h2 _ _ (by omega), h2 _ _ (by omega), h2 _ _ (by omega)]
    exact hr.2 j q1 q2
/-- who has a tune, as the model says it -/
def hasP (u : PU) (r : RS) (t : Int) : Int := if rBy r t = -1 then -1 else ulo u (rBy r t) 2
theorem RunM.has {M : TM} {u : PU} {r : RS} {y z t : Int} (hu : uOk u) (hr : RunM M u r) (ho : okR u y z r) (ht : 0 ≤ t ∧ t < (uT u).length) : M 119 t = hasP u r t ∧ -1 ≤ hasP u r t ∧ hasP u r t ≤ 5 ∧ (hasP u r t = -1 ↔ rBy r t = -1) := by
  obtain ⟨p1, p2, p3⟩ := hr.1 t ht.1 ht.2
  unfold hasP
  by_cases e : rBy r t = -1
  · rw [if_pos e]
    exact ⟨p2 e, by omega, by omega, ⟨fun _ => e, fun _ => rfl⟩⟩
  · rw [if_neg e]
    have q := (ho.2.1 t ht.1 ht.2).resolve_left e
    have l := hu.2.2.2.2.2.1 _ q.1 q.2.1
    exact ⟨(p3 e).1, by omega, by omega, ⟨fun z => by omega, fun z => absurd z e⟩⟩
theorem sX6_goesOn (w : WT) (y e : Int) (R M : TM) (u : PU) (r : RS) (hR : RL R) (hu : mP M u) (hr : RunM M u r) (ho : okR u y y r) (hy : 0 ≤ y ∧ y ≤ 39) (he : 0 ≤ e ∧ e ≤ 12) : tx_S w yX6_goesOn cX6_goesOn 5 none 4 [rV (wa w) 2, iV y, iV e] R M (QV R (fun M' => RunM M' u (yearM u e y r) ∧ kpR M M')) := by
  have hD := uT_ok hu.1.1
  have hD1 := hD.1
  have hnl := hu.1.1.2.2.2.2.1
  have hok := hu.1.1
  refine tx_S.ofk (lv := [(0, _), (1, _), (2, _)]) [1, 1, 1] (by decide) (by simp only [List.map_cons, List.map_nil, cat_i, cat_l, cat_r]) (by decide) rfl (fun E O F => ?_)
  have h1 := itI_ind (f := lendS u y) (a := r) (fun _ r => okR u y y r) (unl u) ho (fun i x q1 q2 q3 => okR_lend hok ⟨q1, q2⟩ q3)
  have h2 := itI_ind (f := humS u) (a := itI (lendS u y) r (unl u)) (fun _ r => okR u y y r) (uT u).length (h1 _ hnl.1 (Int.le_refl _)) (fun i x q1 q2 q3 => okR_hum hok ⟨q1, q2⟩ q3)
  have h3 := itI_ind (f := retS u e y) (a := itI (humS u) (itI (lendS u y) r (unl u)) (uT u).length) (fun _ r => okR u y (y + 1) r) (uT u).length ((h2 _ (by omega) (Int.le_refl _)).le (by omega) (by omega)) (fun i x q1 q2 q3 => okR_ret hok ⟨q1, q2⟩ q3)
  have K3 : ∀ (t : Int) (M' : TM), (0 ≤ t ∧ t ≤ (uT u).length ∧ RunM M' u (itI (retS u e y) (itI (humS u) (itI (lendS u y) r (unl u)) (uT u).length) t) ∧ kpR M M') → tx_X w E 72 [(3, iV t), (0, rV (wa w) 2), (1, iV y), (2, iV e)] [] R M' := by
    refine lp_up _ _ (uT u).length ?_
    rintro t M' ⟨g1, g2, g3, g4⟩ ih
    have hu := hu.keep g4
    have ho := h3 t g1 g2
    have hst := fun q : t < (uT u).length => itI_1 (retS u e y) (itI (humS u) (itI (lendS u y) r (unl u)) (uT u).length) g1
    have hfin : ¬ t < (uT u).length → itI (retS u e y) (itI (humS u) (itI (lendS u y) r (unl u)) (uT u).length) t = yearM u e y r := by
      intro q
      rw [show t = (uT u).length by omega]
      rfl
    generalize itI (retS u e y) (itI (humS u) (itI (lendS u y) r (unl u)) (uT u).length) t = r2 at g3 ho hst hfin
    have S : t < (uT u).length → ∀ M2 : TM, RunM M2 u (retS u e y t r2) → kpR M M2 → tx_X w E 72 [(3, iV (t + 1)), (0, rV (wa w) 2), (1, iV y), (2, iV e)] [] R M2 := fun q M2 q1 q2 => ih _ _ ⟨by omega, by omega, by rw [hst q]; exact q1, q2⟩ (by omega) (by omega)
    refine tx_iload_n (pc := 72) 0 O dX6_goesOn_72 rfl rfl ?_
    refine tx_aload_n (pc := 73) 1 O dX6_goesOn_73 rfl rfl ?_
    refine fX6_112 (pc := 74) O dX6_goesOn_74 ?_
    rw [hu.2.1.1]
    refine tx_icmp_ge (pc := 77) 137 O dX6_goesOn_77 rfl (by omega) (fun c77 => ?_) (fun c77 => ?_)
    · exact tx_vret O F dX6_goesOn_137 (tx_QV.mk ⟨by rw [← hfin (by omega)]; exact g3, g4⟩)
    · obtain ⟨s1, s2, s3, s4⟩ := g3.has hok ho ⟨g1, c77⟩
      refine tx_aload_n (pc := 80) 1 O dX6_goesOn_80 rfl rfl ?_
      refine fX6_55 (pc := 81) O hR dX6_goesOn_81 ?_
      refine tx_iload_n (pc := 84) 0 O dX6_goesOn_84 rfl rfl ?_
      refine tx_iald (pc := 85) _ O dX6_goesOn_85 (sh_120 w) (by omega) ?_
      refine tx_istore (pc := 86) (lv' := [(4, _), (3, _), (0, _), (1, _), (2, _)]) O dX6_goesOn_86 (by decide) rfl ?_
      refine tx_aload_n (pc := 88) 2 O dX6_goesOn_88 rfl rfl ?_
      refine fX6_52 (pc := 89) O hR dX6_goesOn_89 ?_
      refine tx_iload_n (pc := 92) 1 O dX6_goesOn_92 rfl rfl ?_
      refine tx_iald (pc := 93) _ O dX6_goesOn_93 (sh_119 w) (by omega) ?_
      rw [s1]
      refine tx_iconst (pc := 94) O dX6_goesOn_94 ?_
      refine tx_icmp_eq (pc := 95) 131 O dX6_goesOn_95 rfl (by omega) (fun c95 => ?_) (fun c95 => ?_)
      · refine tx_iinc (pc := 131) (lv' := [(3, _), (4, _), (0, _), (1, _), (2, _)]) 1 O dX6_goesOn_131 rfl (by decide) rfl ?_
        refine tx_goto (pc := 134) 72 O dX6_goesOn_134 rfl ?_
        refine tx_lv (lv' := [(3, _), (0, _), (1, _), (2, _)]) [0, 2, 3, 4] rfl ?_
        first
          | exact S c77 _ h128.1 (g4.tr h128.2)
          | (have hne : ¬ (rBy r2 t ≠ -1 ∧ ulo u (rBy r2 t) 0 + ulo u (rBy r2 t) 3 = y + 1) := by
               intro q
               have q2 := q.2
               have q3 := s4
               first | omega | exact absurd (s4.mp c95) q.1
             refine S c77 _ ?_ g4
             unfold retS
             rw [if_neg hne]
             exact g3)
      · have hb : rBy r2 t ≠ -1 := fun q => c95 (s4.mpr q)
        have hh := (g3.1 t g1 c77).2.2 hb
        have hq := (ho.2.1 t g1 c77).resolve_left hb
        have hlo := hok.2.2.2.2.2.1 _ hq.1 hq.2.1
        have e0 := hu.1.2.2.2.2.2.2.1 _ 0 hq.1 hq.2.1 (by omega) (by omega)
        have e3 := hu.1.2.2.2.2.2.2.1 _ 3 hq.1 hq.2.1 (by omega) (by omega)
        rw [show 4 * rBy r2 t + 0 = 4 * rBy r2 t by omega] at e0
        rw [hh.2.1]
        refine tx_iload_n (pc := 98) 3 O dX6_goesOn_98 rfl rfl ?_
        refine tx_aload_n (pc := 99) 2 O dX6_goesOn_99 rfl rfl ?_
        refine fX6_37 (pc := 100) O hR dX6_goesOn_100 ?_
        refine tx_iconst (pc := 103) O dX6_goesOn_103 ?_
        refine tx_iload (pc := 104) 0 O dX6_goesOn_104 rfl ?_
        refine tx_imul (pc := 106) O dX6_goesOn_106 ?_
        refine tx_iald (pc := 107) _ O dX6_goesOn_107 (sh_113 w) (by omega) ?_
        rw [e0]
        refine tx_aload_n (pc := 108) 2 O dX6_goesOn_108 rfl rfl ?_
        refine fX6_37 (pc := 109) O hR dX6_goesOn_109 ?_
        refine tx_iconst (pc := 112) O dX6_goesOn_112 ?_
        refine tx_iload (pc := 113) 0 O dX6_goesOn_113 rfl ?_
        refine tx_imul (pc := 115) O dX6_goesOn_115 ?_
        refine tx_iconst (pc := 116) O dX6_goesOn_116 ?_
        refine tx_iadd (pc := 117) O dX6_goesOn_117 ?_
        refine tx_iald (pc := 118) _ O dX6_goesOn_118 (sh_113 w) (by omega) ?_
        rw [e3]
        refine tx_iadd (pc := 119) O dX6_goesOn_119 ?_
        refine tx_iconst (pc := 120) O dX6_goesOn_120 ?_
        refine tx_isub (pc := 121) O dX6_goesOn_121 ?_
        refine tx_icmp_ne (pc := 122) 131 O dX6_goesOn_122 rfl (by omega) (fun c122 => ?_) (fun c122 => ?_)
        · refine tx_iinc (pc := 131) (lv' := [(3, _), (4, _), (0, _), (1, _), (2, _)]) 1 O dX6_goesOn_131 rfl (by decide) rfl ?_
          refine tx_goto (pc := 134) 72 O dX6_goesOn_134 rfl ?_
          refine tx_lv (lv' := [(3, _), (0, _), (1, _), (2, _)]) [0, 2, 3, 4] rfl ?_
          first
            | exact S c77 _ h128.1 (g4.tr h128.2)
            | (have hne : ¬ (rBy r2 t ≠ -1 ∧ ulo u (rBy r2 t) 0 + ulo u (rBy r2 t) 3 = y + 1) := by
                 intro q
                 have q2 := q.2
                 have q3 := s4
                 first | omega | exact absurd (s4.mp c95) q.1
               refine S c77 _ ?_ g4
               unfold retS
               rw [if_neg hne]
               exact g3)
        · refine tx_aload_n (pc := 125) 2 O dX6_goesOn_125 rfl rfl ?_
          refine tx_iload_n (pc := 126) 1 O dX6_goesOn_126 rfl rfl ?_
          refine tx_iload_n (pc := 127) 4 O dX6_goesOn_127 rfl rfl ?_
          refine tx_cV2 (pc := 128) O dX6_goesOn_128 q1060 vX6_returns (sh_2 w) rfl (by decide) (Nat.zero_le _) (sX6_returns w _ _ y _ _ u r2 hR hu g3 ho ⟨g1, c77⟩ he hb (by omega)) (k_V (fun M128 h128 => ?_))
          refine tx_iinc (pc := 131) (lv' := [(3, _), (4, _), (0, _), (1, _), (2, _)]) 1 O dX6_goesOn_131 rfl (by decide) rfl ?_
          refine tx_goto (pc := 134) 72 O dX6_goesOn_134 rfl ?_
          refine tx_lv (lv' := [(3, _), (0, _), (1, _), (2, _)]) [0, 2, 3, 4] rfl ?_
          first
            | exact S c77 _ h128.1 (g4.tr h128.2)
            | (have hne : ¬ (rBy r2 t ≠ -1 ∧ ulo u (rBy r2 t) 0 + ulo u (rBy r2 t) 3 = y + 1) := by
                 intro q
                 have q2 := q.2
                 have q3 := s4
                 first | omega | exact absurd (s4.mp c95) q.1
               refine S c77 _ ?_ g4
               unfold retS
               rw [if_neg hne]
               exact g3)
  have K2 : ∀ (t : Int) (M' : TM), (0 ≤ t ∧ t ≤ (uT u).length ∧ RunM M' u (itI (humS u) (itI (lendS u y) r (unl u)) t) ∧ kpR M M') → tx_X w E 35 [(3, iV t), (0, rV (wa w) 2), (1, iV y), (2, iV e)] [] R M' := by
    refine lp_up _ _ (uT u).length ?_
    rintro t M' ⟨g1, g2, g3, g4⟩ ih
    have hu := hu.keep g4
    have ho := h2 t g1 g2
    have hst := itI_1 (humS u) (itI (lendS u y) r (unl u)) g1
    have hfin : ¬ t < (uT u).length → RunM M' u (itI (humS u) (itI (lendS u y) r (unl u)) (uT u).length) := by
      intro q
      rw [show t = (uT u).length by omega] at g3
      exact g3
    generalize itI (humS u) (itI (lendS u y) r (unl u)) t = r2 at g3 ho hst
    have S : t < (uT u).length → ∀ M2 : TM, RunM M2 u (humS u t r2) → kpR M M2 → tx_X w E 35 [(3, iV (t + 1)), (0, rV (wa w) 2), (1, iV y), (2, iV e)] [] R M2 := fun q M2 q1 q2 => ih _ _ ⟨by omega, by omega, by rw [hst]; exact q1, q2⟩ (by omega) (by omega)
    refine tx_iload_n (pc := 35) 0 O dX6_goesOn_35 rfl rfl ?_
    refine tx_aload_n (pc := 36) 1 O dX6_goesOn_36 rfl rfl ?_
    refine fX6_112 (pc := 37) O dX6_goesOn_37 ?_
    rw [hu.2.1.1]
    refine tx_icmp_ge (pc := 40) 70 O dX6_goesOn_40 rfl (by omega) (fun c40 => ?_) (fun c40 => ?_)
    · refine tx_iconst (pc := 70) O dX6_goesOn_70 ?_
      refine tx_istore_n (pc := 71) (lv' := [(3, _), (0, _), (1, _), (2, _)]) O dX6_goesOn_71 rfl (by decide) rfl ?_
      exact K3 0 _ ⟨by omega, by omega, hfin (by omega), g4⟩
    · obtain ⟨s1, s2, s3, s4⟩ := g3.has hok ho ⟨g1, c40⟩
      refine tx_aload_n (pc := 43) 1 O dX6_goesOn_43 rfl rfl ?_
      refine fX6_52 (pc := 44) O hR dX6_goesOn_44 ?_
      refine tx_iload_n (pc := 47) 0 O dX6_goesOn_47 rfl rfl ?_
      refine tx_iald (pc := 48) _ O dX6_goesOn_48 (sh_119 w) (by omega) ?_
      rw [s1]
      refine tx_iconst (pc := 49) O dX6_goesOn_49 ?_
      refine tx_icmp_eq (pc := 50) 64 O dX6_goesOn_50 rfl (by omega) (fun c50 => ?_) (fun c50 => ?_)
      · refine tx_iinc (pc := 64) (lv' := [(3, _), (0, _), (1, _), (2, _)]) 0 O dX6_goesOn_64 rfl (by decide) rfl ?_
        refine tx_goto (pc := 67) 35 O dX6_goesOn_67 rfl ?_
        first
          | exact S c40 _ (RunM_hum g3 ho ⟨g1, c40⟩ hb h61.1 h61.2) (g4.tr h61.2.r)
          | (refine S c40 _ ?_ g4
             unfold humS
             rw [if_pos (s4.mp c50)]
             exact g3)
      · have hb : rBy r2 t ≠ -1 := fun q => c50 (s4.mpr q)
        have hq := (ho.2.1 t g1 c40).resolve_left hb
        have hlo := hok.2.2.2.2.2.1 _ hq.1 hq.2.1
        refine tx_aload_n (pc := 53) 1 O dX6_goesOn_53 rfl rfl ?_
        refine tx_iload_n (pc := 54) 0 O dX6_goesOn_54 rfl rfl ?_
        refine tx_aload_n (pc := 55) 1 O dX6_goesOn_55 rfl rfl ?_
        refine fX6_52 (pc := 56) O hR dX6_goesOn_56 ?_
        refine tx_iload_n (pc := 59) 0 O dX6_goesOn_59 rfl rfl ?_
        refine tx_iald (pc := 60) _ O dX6_goesOn_60 (sh_119 w) (by omega) ?_
        rw [((g3.1 t g1 c40).2.2 hb).1]
        refine tx_cV2 (pc := 61) O dX6_goesOn_61 q1053 vX6_hummed (sh_2 w) rfl (by decide) (Nat.zero_le _) (sX6_hummed w _ _ _ _ u (rNow r2 t) hR hu ⟨hlo.2.2.1.1, hq.2.2.2.1⟩ (by omega) (g3.1 t g1 c40).1 (ho.1 t g1 c40)) (k_V (fun M61 h61 => ?_))
        refine tx_iinc (pc := 64) (lv' := [(3, _), (0, _), (1, _), (2, _)]) 0 O dX6_goesOn_64 rfl (by decide) rfl ?_
        refine tx_goto (pc := 67) 35 O dX6_goesOn_67 rfl ?_
        first
          | exact S c40 _ (RunM_hum g3 ho ⟨g1, c40⟩ hb h61.1 h61.2) (g4.tr h61.2.r)
          | (refine S c40 _ ?_ g4
             unfold humS
             rw [if_pos (s4.mp c50)]
             exact g3)
  have K1 : ∀ (k : Int) (M' : TM), (0 ≤ k ∧ k ≤ unl u ∧ RunM M' u (itI (lendS u y) r k) ∧ kpR M M') → tx_X w E 2 [(3, iV k), (0, rV (wa w) 2), (1, iV y), (2, iV e)] [] R M' := by
    refine lp_up _ _ (unl u) ?_
    rintro k M' ⟨g1, g2, g3, g4⟩ ih
    have hu := hu.keep g4
    have ho := h1 k g1 g2
    have hst := itI_1 (lendS u y) r g1
    have hfin : ¬ k < unl u → RunM M' u (itI (lendS u y) r (unl u)) := by
      intro q
      rw [show k = unl u by omega] at g3
      exact g3
    generalize itI (lendS u y) r k = r2 at g3 ho hst
    have S : k < unl u → ∀ M2 : TM, RunM M2 u (lendS u y k r2) → kpR M M2 → tx_X w E 2 [(3, iV (k + 1)), (0, rV (wa w) 2), (1, iV y), (2, iV e)] [] R M2 := fun q M2 q1 q2 => ih _ _ ⟨by omega, by omega, by rw [hst]; exact q1, q2⟩ (by omega) (by omega)
    refine tx_iload_n (pc := 2) 0 O dX6_goesOn_2 rfl rfl ?_
    refine tx_aload_n (pc := 3) 1 O dX6_goesOn_3 rfl rfl ?_
    refine fX6_157 (pc := 4) O dX6_goesOn_4 ?_
    rw [hu.1.2.2.2.2.2.1]
    refine tx_icmp_ge (pc := 7) 33 O dX6_goesOn_7 rfl (by omega) (fun c7 => ?_) (fun c7 => ?_)
    · refine tx_iconst (pc := 33) O dX6_goesOn_33 ?_
      refine tx_istore_n (pc := 34) (lv' := [(3, _), (0, _), (1, _), (2, _)]) O dX6_goesOn_34 rfl (by decide) rfl ?_
      exact K2 0 _ ⟨by omega, by omega, hfin (by omega), g4⟩
    · have e0 := hu.1.2.2.2.2.2.2.1 k 0 g1 c7 (by omega) (by omega)
      rw [show 4 * k + 0 = 4 * k by omega] at e0
      have hlo := hok.2.2.2.2.2.1 k g1 c7
      refine tx_aload_n (pc := 10) 1 O dX6_goesOn_10 rfl rfl ?_
      refine fX6_37 (pc := 11) O hR dX6_goesOn_11 ?_
      refine tx_iconst (pc := 14) O dX6_goesOn_14 ?_
      refine tx_iload_n (pc := 15) 0 O dX6_goesOn_15 rfl rfl ?_
      refine tx_imul (pc := 16) O dX6_goesOn_16 ?_
      refine tx_iald (pc := 17) _ O dX6_goesOn_17 (sh_113 w) (by omega) ?_
      rw [e0]
      refine tx_iload_n (pc := 18) 2 O dX6_goesOn_18 rfl rfl ?_
      refine tx_icmp_ne (pc := 19) 27 O dX6_goesOn_19 rfl (by omega) (fun c19 => ?_) (fun c19 => ?_)
      · refine tx_iinc (pc := 27) (lv' := [(3, _), (0, _), (1, _), (2, _)]) 0 O dX6_goesOn_27 rfl (by decide) rfl ?_
        refine tx_goto (pc := 30) 2 O dX6_goesOn_30 rfl ?_
        first
          | exact S c7 _ h24.1 (g4.tr h24.2)
          | (refine S c7 _ ?_ g4
             unfold lendS
             rw [if_neg (fun q => c19 q.1)]
             exact g3)
      · refine tx_aload_n (pc := 22) 1 O dX6_goesOn_22 rfl rfl ?_
        refine tx_iload_n (pc := 23) 0 O dX6_goesOn_23 rfl rfl ?_
        refine tx_cV1 (pc := 24) O dX6_goesOn_24 q1049 vX6_lends (sh_2 w) rfl (by decide) (Nat.zero_le _) (sX6_lends w _ y _ _ u r2 hR hu g3 ho ⟨g1, c7⟩ c19) (k_V (fun M24 h24 => ?_))
        refine tx_iinc (pc := 27) (lv' := [(3, _), (0, _), (1, _), (2, _)]) 0 O dX6_goesOn_27 rfl (by decide) rfl ?_
        refine tx_goto (pc := 30) 2 O dX6_goesOn_30 rfl ?_
        first
          | exact S c7 _ h24.1 (g4.tr h24.2)
          | (refine S c7 _ ?_ g4
             unfold lendS
             rw [if_neg (fun q => c19 q.1)]
             exact g3)
  refine tx_iconst (pc := 0) O dX6_goesOn_0 ?_
  refine tx_istore_n (pc := 1) (lv' := [(3, _), (0, _), (1, _), (2, _)]) O dX6_goesOn_1 rfl (by decide) rfl ?_
  exact K1 0 M ⟨by omega, hnl.1, hr, kpR.rf⟩
theorem sX6_lives (w : WT) (y e : Int) (R M : TM) (u : PU) (hR : RL R) (hu : mP M u) (hy : 0 ≤ y ∧ y ≤ 39) (he : 0 ≤ e ∧ e ≤ 12) : tx_S w yX6_lives cX6_lives 4 none 5 [rV (wa w) 2, iV y, iV e] R M (QV R (fun M' => RunM M' u (runP u e (y + 1)) ∧ kpR M M')) := by
  refine tx_S.ofk (lv := [(0, _), (1, _), (2, _)]) [1, 1, 1] (by decide) (by simp only [List.map_cons, List.map_nil, cat_i, cat_l, cat_r]) (by decide) rfl (fun E O F => ?_)
  have K : ∀ (i : Int) (M' : TM), (0 ≤ i ∧ i ≤ y + 1 ∧ RunM M' u (runP u e i) ∧ kpR M M') → tx_X w E 6 [(3, iV i), (0, rV (wa w) 2), (1, iV y), (2, iV e)] [] R M' := by
    refine lp_up _ _ (y + 1) ?_
    rintro i M' ⟨g1, g2, g3, g4⟩ ih
    have hu := hu.keep g4
    refine tx_iload_n (pc := 6) 0 O dX6_lives_6 rfl rfl ?_
    refine tx_iload_n (pc := 7) 2 O dX6_lives_7 rfl rfl ?_
    refine tx_icmp_gt (pc := 8) 23 O dX6_lives_8 rfl (by omega) (fun c8 => ?_) (fun c8 => ?_)
    · exact tx_vret O F dX6_lives_23 (tx_QV.mk ⟨by rw [show y + 1 = i by omega]; exact g3, g4⟩)
    · refine tx_aload_n (pc := 11) 1 O dX6_lives_11 rfl rfl ?_
      refine tx_iload_n (pc := 12) 0 O dX6_lives_12 rfl rfl ?_
      refine tx_iload_n (pc := 13) 3 O dX6_lives_13 rfl rfl ?_
      refine tx_cV2 (pc := 14) O dX6_lives_14 q1045 vX6_goesOn (sh_2 w) rfl (by decide) (Nat.zero_le _) (sX6_goesOn w _ _ _ _ u _ hR hu g3 (okR_run hu.1.1 e g1) (by omega) he) (k_V (fun M14 h14 => ?_))
      refine tx_iinc (pc := 17) (lv' := [(3, _), (0, _), (1, _), (2, _)]) 0 O dX6_lives_17 rfl (by decide) rfl ?_
      refine tx_goto (pc := 20) 6 O dX6_lives_20 rfl ?_
      exact ih _ _ ⟨by omega, by omega, by show RunM _ u (itI (yearM u e) (startS u) (i + 1)); rw [itI_1 _ _ g1]; exact h14.1, g4.tr h14.2⟩ (by omega) (by omega)
  refine tx_aload_n (pc := 0) 0 O dX6_lives_0 rfl rfl ?_
  refine tx_cV0 (pc := 1) O dX6_lives_1 q1037 vX6_startsAll (sh_2 w) rfl (by decide) (Nat.zero_le _) (sX6_startsAll w _ _ u hR hu) (k_V (fun M1 h1 => ?_))
  refine tx_iconst (pc := 4) O dX6_lives_4 ?_
  refine tx_istore_n (pc := 5) (lv' := [(3, _), (0, _), (1, _), (2, _)]) O dX6_lives_5 rfl (by decide) rfl ?_
  exact K 0 _ ⟨by omega, by omega, h1.1, h1.2⟩
theorem mP.hears {M : TM} {u : PU} (h : mP M u) : M 2 14 = uear u := h.1.2.2.2.2.2.2.2
theorem sX6_notesOf (w : WT) (y t i : Int) (R M : TM) (u : PU) (hR : RL R) (hu : mP M u) (hy : 0 ≤ y ∧ y ≤ 39) (ht : 0 ≤ t ∧ t < (uT u).length) (hi : -1 ≤ i ∧ i ≤ 39) : tx_S w yX6_notesOf cX6_notesOf 4 (some .int) 6 [rV (wa w) 2, iV y, iV t, iV i] R M (QI R (fun z M' => z = noteP (rNow (runP u (uear u) (y + 1)) t) i ∧ kpR M M')) := by
  have he := hu.1.1.2.2.2.2.2.2
  have hD1 := (uT_ok hu.1.1).1
  have ho := okR_run hu.1.1 (uear u) (n := y + 1) (by omega)
  have hl := (ho.1 t ht.1 ht.2).1
  have hN : ∀ {M' : TM}, RunM M' u (runP u (uear u) (y + 1)) → nowIs M' t (rNow (runP u (uear u) (y + 1)) t) := fun h => (h.1 t ht.1 ht.2).1
  generalize rNow (runP u (uear u) (y + 1)) t = l at hl hN ⊢
  refine tx_S.ofk (lv := [(0, _), (1, _), (2, _), (3, _)]) [1, 1, 1, 1] (by decide) (by simp only [List.map_cons, List.map_nil, cat_i, cat_l, cat_r]) (by decide) rfl (fun E O F => ?_)
  refine tx_aload_n (pc := 0) 0 O dX6_notesOf_0 rfl rfl ?_
  refine tx_iload_n (pc := 1) 1 O dX6_notesOf_1 rfl rfl ?_
  refine tx_aload_n (pc := 2) 0 O dX6_notesOf_2 rfl rfl ?_
  refine fX6_73 (pc := 3) O dX6_notesOf_3 ?_
  rw [hu.hears]
  refine tx_cV2 (pc := 6) O dX6_notesOf_6 q1033 vX6_lives (sh_2 w) rfl (by decide) (Nat.zero_le _) (sX6_lives w _ _ _ _ u hR hu hy he) (k_V (fun M6 h6 => ?_))
  obtain ⟨g1, g2⟩ := h6
  obtain ⟨n1, n2⟩ := hN g1
  refine tx_iload_n (pc := 9) 3 O dX6_notesOf_9 rfl rfl ?_
  refine tx_iconst (pc := 10) O dX6_notesOf_10 ?_
  refine tx_icmp_ne (pc := 11) 23 O dX6_notesOf_11 rfl (by omega) (fun c11 => ?_) (fun c11 => ?_)
  · refine tx_iload_n (pc := 23) 3 O dX6_notesOf_23 rfl rfl ?_
    refine tx_aload_n (pc := 24) 0 O dX6_notesOf_24 rfl rfl ?_
    refine fX6_43 (pc := 25) O hR dX6_notesOf_25 ?_
    refine tx_iload_n (pc := 28) 2 O dX6_notesOf_28 rfl rfl ?_
    refine tx_iald (pc := 29) _ O dX6_notesOf_29 (sh_116 w) (by omega) ?_
    rw [n1]
    refine tx_icmp_ge (pc := 30) 47 O dX6_notesOf_30 rfl (by omega) (fun c30 => ?_) (fun c30 => ?_)
    · refine tx_iconst (pc := 47) O dX6_notesOf_47 ?_
      exact tx_iret O F dX6_notesOf_48 (tx_QI.mk (by first | exact ⟨by unfold noteP; rw [if_pos c11], g2⟩ | exact ⟨by unfold noteP; rw [if_neg c11, if_pos c30], g2⟩ | exact ⟨by unfold noteP; rw [if_neg c11, if_neg (by omega)], g2⟩))
    · refine tx_aload_n (pc := 33) 0 O dX6_notesOf_33 rfl rfl ?_
      refine fX6_40 (pc := 34) O hR dX6_notesOf_34 ?_
      refine tx_bipush (pc := 37) O dX6_notesOf_37 (by decide) ?_
      refine tx_iload_n (pc := 39) 2 O dX6_notesOf_39 rfl rfl ?_
      refine tx_imul (pc := 40) O dX6_notesOf_40 ?_
      refine tx_iload_n (pc := 41) 3 O dX6_notesOf_41 rfl rfl ?_
      refine tx_iadd (pc := 42) O dX6_notesOf_42 ?_
      refine tx_iald (pc := 43) _ O dX6_notesOf_43 (sh_115 w) (by omega) ?_
      rw [n2 i (by omega) c30]
      refine tx_goto (pc := 44) 48 O dX6_notesOf_44 rfl ?_
      exact tx_iret O F dX6_notesOf_48 (tx_QI.mk (by first | exact ⟨by unfold noteP; rw [if_pos c11], g2⟩ | exact ⟨by unfold noteP; rw [if_neg c11, if_pos c30], g2⟩ | exact ⟨by unfold noteP; rw [if_neg c11, if_neg (by omega)], g2⟩))
  · refine tx_aload_n (pc := 14) 0 O dX6_notesOf_14 rfl rfl ?_
    refine fX6_43 (pc := 15) O hR dX6_notesOf_15 ?_
    refine tx_iload_n (pc := 18) 2 O dX6_notesOf_18 rfl rfl ?_
    refine tx_iald (pc := 19) _ O dX6_notesOf_19 (sh_116 w) (by omega) ?_
    rw [n1]
    refine tx_goto (pc := 20) 48 O dX6_notesOf_20 rfl ?_
    exact tx_iret O F dX6_notesOf_48 (tx_QI.mk (by first | exact ⟨by unfold noteP; rw [if_pos c11], g2⟩ | exact ⟨by unfold noteP; rw [if_neg c11, if_pos c30], g2⟩ | exact ⟨by unfold noteP; rw [if_neg c11, if_neg (by omega)], g2⟩))
theorem sX6_notes (w : WT) (y t i : Int) (R M : TM) (u : PU) (hR : RL R) (hu : mT M u) (hy : rng y) (ht : rng t) (hi : rng i) : tx_S w yX6_notes cX6_notes 4 (some .int) 7 [rV (wa w) 2, iV y, iV t, iV i] R M (QI R (fun z M' => ((y < 0 ∨ 39 < y ∨ t < 0 ∨ (uT u).length ≤ t ∨ i < -1 ∨ 39 < i) ∧ z = -2 ∨ (0 ≤ y ∧ y ≤ 39 ∧ 0 ≤ t ∧ t < (uT u).length ∧ -1 ≤ i ∧ i ≤ 39) ∧ z = noteP (rNow (runP u (uear u) (y + 1)) t) i) ∧ kpQ M M')) := by
  refine tx_S.ofk (lv := [(0, _), (1, _), (2, _), (3, _)]) [1, 1, 1, 1] (by decide) (by simp only [List.map_cons, List.map_nil, cat_i, cat_l, cat_r]) (by decide) rfl (fun E O F => ?_)
  refine tx_aload_n (pc := 0) 0 O dX6_notes_0 rfl rfl ?_
  refine tx_cV0 (pc := 1) O dX6_notes_1 q983 vX6_reads (sh_2 w) rfl (by decide) (Nat.zero_le _) (sX6_reads w _ _ u hR hu) (k_V (fun M1 h1 => ?_))
  obtain ⟨hu, hk⟩ := h1
  refine tx_iload_n (pc := 4) 1 O dX6_notes_4 rfl rfl ?_
  refine tx_cS1 (pc := 5) O dX6_notes_5 q1005 vX6_isYear (by decide) (Nat.zero_le _) (sX6_isYear w _ _ _ (by omega)) (k_P (fun z5 h5 => ?_))
  refine tx_if_eq (pc := 8) 43 O dX6_notes_8 rfl (by omega) (fun c8 => ?_) (fun c8 => ?_)
  · refine tx_bipush (pc := 43) O dX6_notes_43 (by decide) ?_
    exact tx_iret O F dX6_notes_45 (tx_QI.mk (by first | exact ⟨Or.inr ⟨by omega, h37.1⟩, hk.tr h37.2.q⟩ | exact ⟨Or.inl ⟨by omega, rfl⟩, hk⟩))
  · refine tx_aload_n (pc := 11) 0 O dX6_notes_11 rfl rfl ?_
    refine tx_iload_n (pc := 12) 2 O dX6_notes_12 rfl rfl ?_
    refine tx_cV1 (pc := 13) O dX6_notes_13 q987 vX6_isTune (sh_2 w) rfl (by decide) (Nat.zero_le _) (sX6_isTune w _ _ _ u hu (by omega)) (k_P (fun z13 h13 => ?_))
    refine tx_if_eq (pc := 16) 43 O dX6_notes_16 rfl (by omega) (fun c16 => ?_) (fun c16 => ?_)
    · refine tx_bipush (pc := 43) O dX6_notes_43 (by decide) ?_
      exact tx_iret O F dX6_notes_45 (tx_QI.mk (by first | exact ⟨Or.inr ⟨by omega, h37.1⟩, hk.tr h37.2.q⟩ | exact ⟨Or.inl ⟨by omega, rfl⟩, hk⟩))
    · refine tx_iload_n (pc := 19) 3 O dX6_notes_19 rfl rfl ?_
      refine tx_i2l (pc := 20) O dX6_notes_20 (by omega) ?_
      refine tx_ldc2 (pc := 21) (z := -1) O dX6_notes_21 q991 rfl ?_
      refine tx_ldc2 (pc := 24) (z := 39) O dX6_notes_24 q1008 rfl ?_
      refine tx_cS3 (pc := 27) O dX6_notes_27 q910 vX6_in (by decide) (Nat.zero_le _) (sX6_in w _ _ _ _ _ (by omega) (by omega) (by omega)) (k_P (fun z27 h27 => ?_))
      refine tx_if_eq (pc := 30) 43 O dX6_notes_30 rfl (by omega) (fun c30 => ?_) (fun c30 => ?_)
      · refine tx_bipush (pc := 43) O dX6_notes_43 (by decide) ?_
        exact tx_iret O F dX6_notes_45 (tx_QI.mk (by first | exact ⟨Or.inr ⟨by omega, h37.1⟩, hk.tr h37.2.q⟩ | exact ⟨Or.inl ⟨by omega, rfl⟩, hk⟩))
      · refine tx_aload_n (pc := 33) 0 O dX6_notes_33 rfl rfl ?_
        refine tx_iload_n (pc := 34) 1 O dX6_notes_34 rfl rfl ?_
        refine tx_iload_n (pc := 35) 2 O dX6_notes_35 rfl rfl ?_
        refine tx_iload_n (pc := 36) 3 O dX6_notes_36 rfl rfl ?_
        refine tx_cV3 (pc := 37) O dX6_notes_37 q1029 vX6_notesOf (sh_2 w) rfl (by decide) (Nat.zero_le _) (sX6_notesOf w _ _ _ _ _ u hR hu (by omega) (by omega) (by omega)) (k_I (fun z37 M37 h37 => ?_))
        refine tx_goto (pc := 40) 45 O dX6_notes_40 rfl ?_
        exact tx_iret O F dX6_notes_45 (tx_QI.mk (by first | exact ⟨Or.inr ⟨by omega, h37.1⟩, hk.tr h37.2.q⟩ | exact ⟨Or.inl ⟨by omega, rfl⟩, hk⟩))
theorem sX6_hasOf (w : WT) (y t : Int) (R M : TM) (u : PU) (hR : RL R) (hu : mP M u) (hy : 0 ≤ y ∧ y ≤ 39) (ht : 0 ≤ t ∧ t < (uT u).length) : tx_S w yX6_hasOf cX6_hasOf 3 (some .int) 6 [rV (wa w) 2, iV y, iV t] R M (QI R (fun z M' => z = hasP u (runP u (uear u) (y + 1)) t ∧ kpR M M')) := by
  have he := hu.1.1.2.2.2.2.2.2
  have hD1 := (uT_ok hu.1.1).1
  refine tx_S.ofk (lv := [(0, _), (1, _), (2, _)]) [1, 1, 1] (by decide) (by simp only [List.map_cons, List.map_nil, cat_i, cat_l, cat_r]) (by decide) rfl (fun E O F => ?_)
  refine tx_aload_n (pc := 0) 0 O dX6_hasOf_0 rfl rfl ?_
  refine tx_iload_n (pc := 1) 1 O dX6_hasOf_1 rfl rfl ?_
  refine tx_aload_n (pc := 2) 0 O dX6_hasOf_2 rfl rfl ?_
  refine fX6_73 (pc := 3) O dX6_hasOf_3 ?_
  rw [hu.hears]
  refine tx_cV2 (pc := 6) O dX6_hasOf_6 q1033 vX6_lives (sh_2 w) rfl (by decide) (Nat.zero_le _) (sX6_lives w _ _ _ _ u hR hu hy he) (k_V (fun M6 h6 => ?_))
  refine tx_aload_n (pc := 9) 0 O dX6_hasOf_9 rfl rfl ?_
  refine fX6_52 (pc := 10) O hR dX6_hasOf_10 ?_
  refine tx_iload_n (pc := 13) 2 O dX6_hasOf_13 rfl rfl ?_
  refine tx_iald (pc := 14) _ O dX6_hasOf_14 (sh_119 w) (by omega) ?_
  exact tx_iret O F dX6_hasOf_15 (tx_QI.mk ⟨(h6.1.has hu.1.1 (okR_run hu.1.1 (uear u) (by omega)) ht).1, h6.2⟩)
theorem sX6_has (w : WT) (y t : Int) (R M : TM) (u : PU) (hR : RL R) (hu : mT M u) (hy : rng y) (ht : rng t) : tx_S w yX6_has cX6_has 3 (some .int) 7 [rV (wa w) 2, iV y, iV t] R M (QI R (fun z M' => ((y < 0 ∨ 39 < y ∨ t < 0 ∨ (uT u).length ≤ t) ∧ z = -2 ∨ (0 ≤ y ∧ y ≤ 39 ∧ 0 ≤ t ∧ t < (uT u).length) ∧ z = hasP u (runP u (uear u) (y + 1)) t) ∧ kpQ M M')) := by
  refine tx_S.ofk (lv := [(0, _), (1, _), (2, _)]) [1, 1, 1] (by decide) (by simp only [List.map_cons, List.map_nil, cat_i, cat_l, cat_r]) (by decide) rfl (fun E O F => ?_)
  refine tx_aload_n (pc := 0) 0 O dX6_has_0 rfl rfl ?_
  refine tx_cV0 (pc := 1) O dX6_has_1 q983 vX6_reads (sh_2 w) rfl (by decide) (Nat.zero_le _) (sX6_reads w _ _ u hR hu) (k_V (fun M1 h1 => ?_))
  obtain ⟨hu, hk⟩ := h1
  refine tx_iload_n (pc := 4) 1 O dX6_has_4 rfl rfl ?_
  refine tx_cS1 (pc := 5) O dX6_has_5 q1005 vX6_isYear (by decide) (Nat.zero_le _) (sX6_isYear w _ _ _ (by omega)) (k_P (fun z5 h5 => ?_))
  refine tx_if_eq (pc := 8) 28 O dX6_has_8 rfl (by omega) (fun c8 => ?_) (fun c8 => ?_)
  · refine tx_bipush (pc := 28) O dX6_has_28 (by decide) ?_
    exact tx_iret O F dX6_has_30 (tx_QI.mk (by first | exact ⟨Or.inr ⟨by omega, h22.1⟩, hk.tr h22.2.q⟩ | exact ⟨Or.inl ⟨by omega, rfl⟩, hk⟩))
  · refine tx_aload_n (pc := 11) 0 O dX6_has_11 rfl rfl ?_
    refine tx_iload_n (pc := 12) 2 O dX6_has_12 rfl rfl ?_
    refine tx_cV1 (pc := 13) O dX6_has_13 q987 vX6_isTune (sh_2 w) rfl (by decide) (Nat.zero_le _) (sX6_isTune w _ _ _ u hu (by omega)) (k_P (fun z13 h13 => ?_))
    refine tx_if_eq (pc := 16) 28 O dX6_has_16 rfl (by omega) (fun c16 => ?_) (fun c16 => ?_)
    · refine tx_bipush (pc := 28) O dX6_has_28 (by decide) ?_
      exact tx_iret O F dX6_has_30 (tx_QI.mk (by first | exact ⟨Or.inr ⟨by omega, h22.1⟩, hk.tr h22.2.q⟩ | exact ⟨Or.inl ⟨by omega, rfl⟩, hk⟩))
    · refine tx_aload_n (pc := 19) 0 O dX6_has_19 rfl rfl ?_
      refine tx_iload_n (pc := 20) 1 O dX6_has_20 rfl rfl ?_
      refine tx_iload_n (pc := 21) 2 O dX6_has_21 rfl rfl ?_
      refine tx_cV2 (pc := 22) O dX6_has_22 q1075 vX6_hasOf (sh_2 w) rfl (by decide) (Nat.zero_le _) (sX6_hasOf w _ _ _ _ u hR hu (by omega) (by omega)) (k_I (fun z22 M22 h22 => ?_))
      refine tx_goto (pc := 25) 30 O dX6_has_25 rfl ?_
      exact tx_iret O F dX6_has_30 (tx_QI.mk (by first | exact ⟨Or.inr ⟨by omega, h22.1⟩, hk.tr h22.2.q⟩ | exact ⟨Or.inl ⟨by omega, rfl⟩, hk⟩))
def cameP (r : RS) (k what : Int) : Int := if what = 0 then rCnt r k else if what = 1 then rBad r k else rGain r k
theorem sX6_cameOf (w : WT) (k what : Int) (R M : TM) (u : PU) (hR : RL R) (hu : mP M u) (hk : 0 ≤ k ∧ k < unl u) (hw : 0 ≤ what ∧ what ≤ 2) : tx_S w yX6_cameOf cX6_cameOf 3 (some .int) 6 [rV (wa w) 2, iV k, iV what] R M (QI R (fun z M' => z = cameP (runP u (uear u) 40) k what ∧ kpR M M')) := by
  have he := hu.1.1.2.2.2.2.2.2
  have hnl := hu.1.1.2.2.2.2.1
  refine tx_S.ofk (lv := [(0, _), (1, _), (2, _)]) [1, 1, 1] (by decide) (by simp only [List.map_cons, List.map_nil, cat_i, cat_l, cat_r]) (by decide) rfl (fun E O F => ?_)
  refine tx_aload_n (pc := 0) 0 O dX6_cameOf_0 rfl rfl ?_
  refine tx_bipush (pc := 1) O dX6_cameOf_1 (by decide) ?_
  refine tx_aload_n (pc := 3) 0 O dX6_cameOf_3 rfl rfl ?_
  refine fX6_73 (pc := 4) O dX6_cameOf_4 ?_
  rw [hu.hears]
  refine tx_cV2 (pc := 7) O dX6_cameOf_7 q1033 vX6_lives (sh_2 w) rfl (by decide) (Nat.zero_le _) (sX6_lives w 39 _ _ _ u hR hu (by omega) he) (k_V (fun M7 h7 => ?_))
  obtain ⟨g1, g2⟩ := h7
  obtain ⟨g3, g4, g5⟩ := g1.2 k hk.1 (by omega)
  refine tx_iload_n (pc := 10) 2 O dX6_cameOf_10 rfl rfl ?_
  refine tx_if_ne (pc := 11) 23 O dX6_cameOf_11 rfl (by omega) (fun c11 => ?_) (fun c11 => ?_)
  · refine tx_iload_n (pc := 23) 2 O dX6_cameOf_23 rfl rfl ?_
    refine tx_iconst (pc := 24) O dX6_cameOf_24 ?_
    refine tx_icmp_ne (pc := 25) 37 O dX6_cameOf_25 rfl (by omega) (fun c25 => ?_) (fun c25 => ?_)
    · refine tx_aload_n (pc := 37) 0 O dX6_cameOf_37 rfl rfl ?_
      refine fX6_64 (pc := 38) O hR dX6_cameOf_38 ?_
      refine tx_iload_n (pc := 41) 1 O dX6_cameOf_41 rfl rfl ?_
      refine tx_iald (pc := 42) _ O dX6_cameOf_42 (sh_123 w) (by omega) ?_
      exact tx_iret O F dX6_cameOf_43 (tx_QI.mk (by first | exact ⟨by unfold cameP; rw [if_pos c11]; exact g3, g2⟩ | exact ⟨by unfold cameP; rw [if_neg c11, if_pos c25]; exact g4, g2⟩ | exact ⟨by unfold cameP; rw [if_neg c11, if_neg c25]; exact g5, g2⟩))
    · refine tx_aload_n (pc := 28) 0 O dX6_cameOf_28 rfl rfl ?_
      refine fX6_61 (pc := 29) O hR dX6_cameOf_29 ?_
      refine tx_iload_n (pc := 32) 1 O dX6_cameOf_32 rfl rfl ?_
      refine tx_iald (pc := 33) _ O dX6_cameOf_33 (sh_122 w) (by omega) ?_
      refine tx_goto (pc := 34) 43 O dX6_cameOf_34 rfl ?_
      exact tx_iret O F dX6_cameOf_43 (tx_QI.mk (by first | exact ⟨by unfold cameP; rw [if_pos c11]; exact g3, g2⟩ | exact ⟨by unfold cameP; rw [if_neg c11, if_pos c25]; exact g4, g2⟩ | exact ⟨by unfold cameP; rw [if_neg c11, if_neg c25]; exact g5, g2⟩))
  · refine tx_aload_n (pc := 14) 0 O dX6_cameOf_14 rfl rfl ?_
    refine fX6_58 (pc := 15) O hR dX6_cameOf_15 ?_
    refine tx_iload_n (pc := 18) 1 O dX6_cameOf_18 rfl rfl ?_
    refine tx_iald (pc := 19) _ O dX6_cameOf_19 (sh_121 w) (by omega) ?_
    refine tx_goto (pc := 20) 43 O dX6_cameOf_20 rfl ?_
    exact tx_iret O F dX6_cameOf_43 (tx_QI.mk (by first | exact ⟨by unfold cameP; rw [if_pos c11]; exact g3, g2⟩ | exact ⟨by unfold cameP; rw [if_neg c11, if_pos c25]; exact g4, g2⟩ | exact ⟨by unfold cameP; rw [if_neg c11, if_neg c25]; exact g5, g2⟩))
theorem sX6_came (w : WT) (k what : Int) (R M : TM) (u : PU) (hR : RL R) (hu : mT M u) (hk : rng k) (hw : rng what) : tx_S w yX6_came cX6_came 3 (some .int) 7 [rV (wa w) 2, iV k, iV what] R M (QI R (fun z M' => ((k < 0 ∨ unl u ≤ k ∨ what < 0 ∨ 2 < what) ∧ z = -1002 ∨ (0 ≤ k ∧ k < unl u ∧ 0 ≤ what ∧ what ≤ 2) ∧ z = cameP (runP u (uear u) 40) k what) ∧ kpQ M M')) := by
  have hnl := hu.1.2.2.2.2.1
  refine tx_S.ofk (lv := [(0, _), (1, _), (2, _)]) [1, 1, 1] (by decide) (by simp only [List.map_cons, List.map_nil, cat_i, cat_l, cat_r]) (by decide) rfl (fun E O F => ?_)
  refine tx_aload_n (pc := 0) 0 O dX6_came_0 rfl rfl ?_
  refine tx_cV0 (pc := 1) O dX6_came_1 q983 vX6_reads (sh_2 w) rfl (by decide) (Nat.zero_le _) (sX6_reads w _ _ u hR hu) (k_V (fun M1 h1 => ?_))
  obtain ⟨hu, hk⟩ := h1
  refine tx_iload_n (pc := 4) 1 O dX6_came_4 rfl rfl ?_
  refine tx_i2l (pc := 5) O dX6_came_5 (by omega) ?_
  refine tx_lconst0 (pc := 6) O dX6_came_6 ?_
  refine tx_aload_n (pc := 7) 0 O dX6_came_7 rfl rfl ?_
  refine fX6_157 (pc := 8) O dX6_came_8 ?_
  rw [hu.1.2.2.2.2.2.1]
  refine tx_iconst (pc := 11) O dX6_came_11 ?_
  refine tx_isub (pc := 12) O dX6_came_12 ?_
  refine tx_i2l (pc := 13) O dX6_came_13 (by omega) ?_
  refine tx_cS3 (pc := 14) O dX6_came_14 q910 vX6_in (by decide) (Nat.zero_le _) (sX6_in w _ _ _ _ _ (by omega) (by omega) (by omega)) (k_P (fun z14 h14 => ?_))
  refine tx_if_eq (pc := 17) 41 O dX6_came_17 rfl (by omega) (fun c17 => ?_) (fun c17 => ?_)
  · refine tx_sipush (pc := 41) O dX6_came_41 (by decide) ?_
    exact tx_iret O F dX6_came_44 (tx_QI.mk (by first | exact ⟨Or.inr ⟨by omega, h35.1⟩, hk.tr h35.2.q⟩ | exact ⟨Or.inl ⟨by omega, rfl⟩, hk⟩))
  · refine tx_iload_n (pc := 20) 2 O dX6_came_20 rfl rfl ?_
    refine tx_i2l (pc := 21) O dX6_came_21 (by omega) ?_
    refine tx_lconst0 (pc := 22) O dX6_came_22 ?_
    refine tx_ldc2 (pc := 23) (z := 2) O dX6_came_23 q913 rfl ?_
    refine tx_cS3 (pc := 26) O dX6_came_26 q910 vX6_in (by decide) (Nat.zero_le _) (sX6_in w _ _ _ _ _ (by omega) (by omega) (by omega)) (k_P (fun z26 h26 => ?_))
    refine tx_if_eq (pc := 29) 41 O dX6_came_29 rfl (by omega) (fun c29 => ?_) (fun c29 => ?_)
    · refine tx_sipush (pc := 41) O dX6_came_41 (by decide) ?_
      exact tx_iret O F dX6_came_44 (tx_QI.mk (by first | exact ⟨Or.inr ⟨by omega, h35.1⟩, hk.tr h35.2.q⟩ | exact ⟨Or.inl ⟨by omega, rfl⟩, hk⟩))
    · refine tx_aload_n (pc := 32) 0 O dX6_came_32 rfl rfl ?_
      refine tx_iload_n (pc := 33) 1 O dX6_came_33 rfl rfl ?_
      refine tx_iload_n (pc := 34) 2 O dX6_came_34 rfl rfl ?_
      refine tx_cV2 (pc := 35) O dX6_came_35 q1083 vX6_cameOf (sh_2 w) rfl (by decide) (Nat.zero_le _) (sX6_cameOf w _ _ _ _ u hR hu (by omega) (by omega)) (k_I (fun z35 M35 h35 => ?_))
      refine tx_goto (pc := 38) 44 O dX6_came_38 rfl ?_
      exact tx_iret O F dX6_came_44 (tx_QI.mk (by first | exact ⟨Or.inr ⟨by omega, h35.1⟩, hk.tr h35.2.q⟩ | exact ⟨Or.inl ⟨by omega, rfl⟩, hk⟩))
/-- notes gained over all -/
def intP (u : PU) (r : RS) : Int := itI (fun t s => s + (((rNow r t).length : Int) - (gl (uT u) t).length)) 0 (uT u).length
theorem sX6_interestBy (w : WT) (y e : Int) (R M : TM) (u : PU) (hR : RL R) (hu : mP M u) (hy : 0 ≤ y ∧ y ≤ 39) (he : 0 ≤ e ∧ e ≤ 12) : tx_S w yX6_interestBy cX6_interestBy 5 (some .int) 6 [rV (wa w) 2, iV y, iV e] R M (QI R (fun z M' => z = intP u (runP u e (y + 1)) ∧ kpR M M')) := by
  have hD1 := (uT_ok hu.1.1).1
  refine tx_S.ofk (lv := [(0, _), (1, _), (2, _)]) [1, 1, 1] (by decide) (by simp only [List.map_cons, List.map_nil, cat_i, cat_l, cat_r]) (by decide) rfl (fun E O F => ?_)
  have K : ∀ M' : TM, RunM M' u (runP u e (y + 1)) → kpR M M' → ∀ (t : Int) (M2 : TM), (0 ≤ t ∧ t ≤ (uT u).length ∧ M2 = M') → tx_X w E 11 [(4, iV t), (3, iV (itI (fun t s => s + (((rNow (runP u e (y + 1)) t).length : Int) - (gl (uT u) t).length)) 0 t)), (0, rV (wa w) 2), (1, iV y), (2, iV e)] [] R M2 := by
    intro M' g1 g2
    have hu := hu.keep g2
    refine lp_up _ _ (uT u).length ?_
    rintro t M2 ⟨h1, h2, rfl⟩ ih
    have hst := itI_1 (fun t s => s + (((rNow (runP u e (y + 1)) t).length : Int) - (gl (uT u) t).length)) 0 h1
    refine tx_iload (pc := 11) 0 O dX6_interestBy_11 rfl ?_
    refine tx_aload_n (pc := 13) 2 O dX6_interestBy_13 rfl rfl ?_
    refine fX6_112 (pc := 14) O dX6_interestBy_14 ?_
    rw [hu.2.1.1]
    refine tx_icmp_ge (pc := 17) 44 O dX6_interestBy_17 rfl (by omega) (fun c17 => ?_) (fun c17 => ?_)
    · refine tx_iload_n (pc := 44) 1 O dX6_interestBy_44 rfl rfl ?_
      exact tx_iret O F dX6_interestBy_45 (tx_QI.mk ⟨by unfold intP; rw [show ((uT u).length : Int) = t by omega], g2⟩)
    · refine tx_iload_n (pc := 20) 1 O dX6_interestBy_20 rfl rfl ?_
      refine tx_aload_n (pc := 21) 2 O dX6_interestBy_21 rfl rfl ?_
      refine fX6_43 (pc := 22) O hR dX6_interestBy_22 ?_
      refine tx_iload (pc := 25) 0 O dX6_interestBy_25 rfl ?_
      refine tx_iald (pc := 27) _ O dX6_interestBy_27 (sh_116 w) (by omega) ?_
      rw [(g1.1 t h1 c17).1.1]
      refine tx_aload_n (pc := 28) 2 O dX6_interestBy_28 rfl rfl ?_
      refine fX6_31 (pc := 29) O hR dX6_interestBy_29 ?_
      refine tx_iload (pc := 32) 0 O dX6_interestBy_32 rfl ?_
      refine tx_iald (pc := 34) _ O dX6_interestBy_34 (sh_109 w) (by omega) ?_
      rw [(hu.2.1.2 t h1 c17).1]
      refine tx_isub (pc := 35) O dX6_interestBy_35 ?_
      refine tx_iadd (pc := 36) O dX6_interestBy_36 ?_
      refine tx_istore_n (pc := 37) (lv' := [(3, _), (4, _), (0, _), (1, _), (2, _)]) O dX6_interestBy_37 rfl (by decide) rfl ?_
      refine tx_iinc (pc := 38) (lv' := [(4, _), (3, _), (0, _), (1, _), (2, _)]) 1 O dX6_interestBy_38 rfl (by decide) rfl ?_
      refine tx_goto (pc := 41) 11 O dX6_interestBy_41 rfl ?_
      have := ih (t + 1) M2 ⟨by omega, by omega, rfl⟩ (by omega) (by omega)
      rw [hst] at this
      exact this
  refine tx_aload_n (pc := 0) 0 O dX6_interestBy_0 rfl rfl ?_
  refine tx_iload_n (pc := 1) 1 O dX6_interestBy_1 rfl rfl ?_
  refine tx_iload_n (pc := 2) 2 O dX6_interestBy_2 rfl rfl ?_
  refine tx_cV2 (pc := 3) O dX6_interestBy_3 q1033 vX6_lives (sh_2 w) rfl (by decide) (Nat.zero_le _) (sX6_lives w _ _ _ _ u hR hu hy he) (k_V (fun M3 h3 => ?_))
  refine tx_iconst (pc := 6) O dX6_interestBy_6 ?_
  refine tx_istore_n (pc := 7) (lv' := [(3, _), (0, _), (1, _), (2, _)]) O dX6_interestBy_7 rfl (by decide) rfl ?_
  refine tx_iconst (pc := 8) O dX6_interestBy_8 ?_
  refine tx_istore (pc := 9) (lv' := [(4, _), (3, _), (0, _), (1, _), (2, _)]) O dX6_interestBy_9 (by decide) rfl ?_
  exact K _ h3.1 h3.2 0 _ ⟨by omega, by omega, rfl⟩
theorem sX6_interest (w : WT) (y : Int) (R M : TM) (u : PU) (hR : RL R) (hu : mT M u) (hy : rng y) : tx_S w yX6_interest cX6_interest 2 (some .int) 7 [rV (wa w) 2, iV y] R M (QI R (fun z M' => ((y < 0 ∨ 39 < y) ∧ z = -1002 ∨ (0 ≤ y ∧ y ≤ 39) ∧ z = intP u (runP u (uear u) (y + 1))) ∧ kpQ M M')) := by
  have he := hu.1.2.2.2.2.2.2
  refine tx_S.ofk (lv := [(0, _), (1, _)]) [1, 1] (by decide) (by simp only [List.map_cons, List.map_nil, cat_i, cat_l, cat_r]) (by decide) rfl (fun E O F => ?_)
  refine tx_aload_n (pc := 0) 0 O dX6_interest_0 rfl rfl ?_
  refine tx_cV0 (pc := 1) O dX6_interest_1 q983 vX6_reads (sh_2 w) rfl (by decide) (Nat.zero_le _) (sX6_reads w _ _ u hR hu) (k_V (fun M1 h1 => ?_))
  obtain ⟨hu, hk⟩ := h1
  refine tx_iload_n (pc := 4) 1 O dX6_interest_4 rfl rfl ?_
  refine tx_cS1 (pc := 5) O dX6_interest_5 q1005 vX6_isYear (by decide) (Nat.zero_le _) (sX6_isYear w _ _ _ (by omega)) (k_P (fun z5 h5 => ?_))
  refine tx_if_eq (pc := 8) 23 O dX6_interest_8 rfl (by omega) (fun c8 => ?_) (fun c8 => ?_)
  · refine tx_sipush (pc := 23) O dX6_interest_23 (by decide) ?_
    exact tx_iret O F dX6_interest_26 (tx_QI.mk (by first | exact ⟨Or.inr ⟨by omega, h17.1⟩, hk.tr h17.2.q⟩ | exact ⟨Or.inl ⟨by omega, rfl⟩, hk⟩))
  · refine tx_aload_n (pc := 11) 0 O dX6_interest_11 rfl rfl ?_
    refine tx_iload_n (pc := 12) 1 O dX6_interest_12 rfl rfl ?_
    refine tx_aload_n (pc := 13) 0 O dX6_interest_13 rfl rfl ?_
    refine fX6_73 (pc := 14) O dX6_interest_14 ?_
    rw [hu.hears]
    refine tx_cV2 (pc := 17) O dX6_interest_17 q1091 vX6_interestBy (sh_2 w) rfl (by decide) (Nat.zero_le _) (sX6_interestBy w _ _ _ _ u hR hu (by omega) (by omega)) (k_I (fun z17 M17 h17 => ?_))
    refine tx_goto (pc := 20) 26 O dX6_interest_20 rfl ?_
    exact tx_iret O F dX6_interest_26 (tx_QI.mk (by first | exact ⟨Or.inr ⟨by omega, h17.1⟩, hk.tr h17.2.q⟩ | exact ⟨Or.inl ⟨by omega, rfl⟩, hk⟩))
/-- all tunes home -/
def homeB (u : PU) (r : RS) (c n : Int) : Int := itI (fun t s => if s = 1 ∧ rBy r t = -1 then 1 else 0) c n
def homeP (u : PU) (e year : Int) (n : Int) : Int := itI (fun y x => if x ≠ -1 then x else if homeB u (runP u e (y + 1)) (if year ≤ y then 1 else 0) (uT u).length = 1 then y else -1) (-1) n
theorem homeP_1 {u : PU} {e year n : Int} (h : 0 ≤ n) (h1 : homeP u e year n = -1) : homeP u e year (n + 1) = if homeB u (runP u e (n + 1)) (if year ≤ n then 1 else 0) (uT u).length = 1 then n else -1 := by
  have := itI_1 (fun y x => if x ≠ -1 then x else if homeB u (runP u e (y + 1)) (if year ≤ y then 1 else 0) (uT u).length = 1 then y else -1) (-1 : Int) h
  unfold homeP at h1 ⊢
  rw [this, h1]
  simp
theorem homeP_stay {u : PU} {e year k n : Int} (h : 0 ≤ k) (hk : k ≤ n) (h1 : homeP u e year k ≠ -1) : homeP u e year n = homeP u e year k :=
  itI_stay (f := fun y x => if x ≠ -1 then x else if homeB u (runP u e (y + 1)) (if year ≤ y then 1 else 0) (uT u).length = 1 then y else -1) (a := (-1 : Int)) (fun s : Int => s ≠ -1) (fun i x hx => by rw [if_pos hx]) h hk h1
theorem sX6_homeOf (w : WT) (year : Int) (R M : TM) (u : PU) (hR : RL R) (hu : mP M u) (hy : 0 ≤ year ∧ year ≤ 39) : tx_S w yX6_homeOf cX6_homeOf 5 (some .int) 6 [rV (wa w) 2, iV year] R M (QI R (fun z M' => z = homeP u (uear u) year 40 ∧ kpR M M')) := by
  have hD1 := (uT_ok hu.1.1).1
  have he := hu.1.1.2.2.2.2.2.2
  have hok := hu.1.1
  refine tx_S.ofk (lv := [(0, _), (1, _)]) [1, 1] (by decide) (by simp only [List.map_cons, List.map_nil, cat_i, cat_l, cat_r]) (by decide) rfl (fun E O F => ?_)
  have K : ∀ (y : Int) (M' : TM), (0 ≤ y ∧ y ≤ 40 ∧ homeP u (uear u) year y = -1 ∧ RunM M' u (runP u (uear u) y) ∧ kpR M M') → tx_X w E 6 [(2, iV y), (0, rV (wa w) 2), (1, iV year)] [] R M' := by
    refine lp_up _ _ 40 ?_
    rintro y M' ⟨g1, g2, g3, g4, g5⟩ ih
    have hu := hu.keep g5
    have K2 : y < 40 → ∀ M2 : TM, RunM M2 u (runP u (uear u) (y + 1)) → kpR M M2 → ∀ (t : Int) (M3 : TM), (0 ≤ t ∧ t ≤ (uT u).length ∧ M3 = M2) → ∀ a : Int, a = homeB u (runP u (uear u) (y + 1)) (if year ≤ y then 1 else 0) t → (a = 0 ∨ a = 1) → tx_X w E 35 [(4, iV t), (3, iV a), (2, iV y), (0, rV (wa w) 2), (1, iV year)] [] R M3 := by
      intro hy40 M2 p1 p2
      have hu := hu.keep (M' := M2) (fun a b q => by rw [p2 a b q, g5 a b q])
      refine lp_up _ _ (uT u).length ?_
      rintro t M3 ⟨h1, h2, rfl⟩ ih2 a ha hb
      have hst := itI_1 (fun t s => if s = 1 ∧ rBy (runP u (uear u) (y + 1)) t = -1 then 1 else 0) (if year ≤ y then 1 else 0 : Int) h1
      have hst2 : homeB u (runP u (uear u) (y + 1)) (if year ≤ y then 1 else 0) (t + 1) = if a = 1 ∧ rBy (runP u (uear u) (y + 1)) t = -1 then 1 else 0 := by rw [ha]; exact hst
      refine tx_iload (pc := 35) 0 O dX6_homeOf_35 rfl ?_
      refine tx_aload_n (pc := 37) 3 O dX6_homeOf_37 rfl rfl ?_
      refine fX6_112 (pc := 38) O dX6_homeOf_38 ?_
      rw [hu.2.1.1]
      refine tx_icmp_ge (pc := 41) 71 O dX6_homeOf_41 rfl (by omega) (fun c41 => ?_) (fun c41 => ?_)
      · rw [show t = (uT u).length by omega] at ha
        have hn := homeP_1 g1 g3
        rw [← ha] at hn
        refine tx_iload_n (pc := 71) 1 O dX6_homeOf_71 rfl rfl ?_
        refine tx_if_eq (pc := 72) 77 O dX6_homeOf_72 rfl (by omega) (fun c72 => ?_) (fun c72 => ?_)
        · refine tx_iinc (pc := 77) (lv' := [(2, _), (4, _), (3, _), (0, _), (1, _)]) 2 O dX6_homeOf_77 rfl (by decide) rfl ?_
          refine tx_goto (pc := 80) 6 O dX6_homeOf_80 rfl ?_
          refine tx_lv (lv' := [(2, _), (0, _), (1, _)]) [0, 3, 4] rfl ?_
          exact ih _ _ ⟨by omega, by omega, by rw [hn, if_neg (by omega)], p1, p2⟩ (by omega) (by omega)
        · refine tx_iload_n (pc := 75) 2 O dX6_homeOf_75 rfl rfl ?_
          exact tx_iret O F dX6_homeOf_76 (tx_QI.mk ⟨by rw [if_pos (by omega)] at hn; rw [homeP_stay (k := y + 1) (by omega) (by omega) (by omega), hn], p2⟩)
      · obtain ⟨s1, s2, s3, s4⟩ := p1.has hok (okR_run hok (uear u) (by omega)) ⟨h1, c41⟩
        refine tx_iload_n (pc := 44) 1 O dX6_homeOf_44 rfl rfl ?_
        refine tx_if_eq (pc := 45) 63 O dX6_homeOf_45 rfl (by omega) (fun c45 => ?_) (fun c45 => ?_)
        · refine tx_iconst (pc := 63) O dX6_homeOf_63 ?_
          refine tx_istore_n (pc := 64) (lv' := [(3, _), (4, _), (2, _), (0, _), (1, _)]) O dX6_homeOf_64 rfl (by decide) rfl ?_
          refine tx_iinc (pc := 65) (lv' := [(4, _), (3, _), (2, _), (0, _), (1, _)]) 1 O dX6_homeOf_65 rfl (by decide) rfl ?_
          refine tx_goto (pc := 68) 35 O dX6_homeOf_68 rfl ?_
          first
            | (refine ih2 _ _ ⟨by omega, by omega, rfl⟩ (by omega) (by omega) _ ?_ (by omega)
               rw [hst2, if_neg (fun q => by omega)])
            | (refine ih2 _ _ ⟨by omega, by omega, rfl⟩ (by omega) (by omega) _ ?_ (by omega)
               rw [hst2, if_neg (fun q => by have := s4.mpr q.2; omega)])
            | (refine ih2 _ _ ⟨by omega, by omega, rfl⟩ (by omega) (by omega) _ ?_ (by omega)
               rw [hst2, if_pos ⟨by omega, s4.mp (by omega)⟩])
        · refine tx_aload_n (pc := 48) 3 O dX6_homeOf_48 rfl rfl ?_
          refine fX6_52 (pc := 49) O hR dX6_homeOf_49 ?_
          refine tx_iload (pc := 52) 0 O dX6_homeOf_52 rfl ?_
          refine tx_iald (pc := 54) _ O dX6_homeOf_54 (sh_119 w) (by omega) ?_
          rw [s1]
          refine tx_iconst (pc := 55) O dX6_homeOf_55 ?_
          refine tx_icmp_ne (pc := 56) 63 O dX6_homeOf_56 rfl (by omega) (fun c56 => ?_) (fun c56 => ?_)
          · refine tx_iconst (pc := 63) O dX6_homeOf_63 ?_
            refine tx_istore_n (pc := 64) (lv' := [(3, _), (4, _), (2, _), (0, _), (1, _)]) O dX6_homeOf_64 rfl (by decide) rfl ?_
            refine tx_iinc (pc := 65) (lv' := [(4, _), (3, _), (2, _), (0, _), (1, _)]) 1 O dX6_homeOf_65 rfl (by decide) rfl ?_
            refine tx_goto (pc := 68) 35 O dX6_homeOf_68 rfl ?_
            first
              | (refine ih2 _ _ ⟨by omega, by omega, rfl⟩ (by omega) (by omega) _ ?_ (by omega)
                 rw [hst2, if_neg (fun q => by omega)])
              | (refine ih2 _ _ ⟨by omega, by omega, rfl⟩ (by omega) (by omega) _ ?_ (by omega)
                 rw [hst2, if_neg (fun q => by have := s4.mpr q.2; omega)])
              | (refine ih2 _ _ ⟨by omega, by omega, rfl⟩ (by omega) (by omega) _ ?_ (by omega)
                 rw [hst2, if_pos ⟨by omega, s4.mp (by omega)⟩])
          · refine tx_iconst (pc := 59) O dX6_homeOf_59 ?_
            refine tx_goto (pc := 60) 64 O dX6_homeOf_60 rfl ?_
            refine tx_istore_n (pc := 64) (lv' := [(3, _), (4, _), (2, _), (0, _), (1, _)]) O dX6_homeOf_64 rfl (by decide) rfl ?_
            refine tx_iinc (pc := 65) (lv' := [(4, _), (3, _), (2, _), (0, _), (1, _)]) 1 O dX6_homeOf_65 rfl (by decide) rfl ?_
            refine tx_goto (pc := 68) 35 O dX6_homeOf_68 rfl ?_
            first
              | (refine ih2 _ _ ⟨by omega, by omega, rfl⟩ (by omega) (by omega) _ ?_ (by omega)
                 rw [hst2, if_neg (fun q => by omega)])
              | (refine ih2 _ _ ⟨by omega, by omega, rfl⟩ (by omega) (by omega) _ ?_ (by omega)
                 rw [hst2, if_neg (fun q => by have := s4.mpr q.2; omega)])
              | (refine ih2 _ _ ⟨by omega, by omega, rfl⟩ (by omega) (by omega) _ ?_ (by omega)
                 rw [hst2, if_pos ⟨by omega, s4.mp (by omega)⟩])
    refine tx_iload_n (pc := 6) 0 O dX6_homeOf_6 rfl rfl ?_
    refine tx_bipush (pc := 7) O dX6_homeOf_7 (by decide) ?_
    refine tx_icmp_ge (pc := 9) 83 O dX6_homeOf_9 rfl (by omega) (fun c9 => ?_) (fun c9 => ?_)
    · refine tx_iconst (pc := 83) O dX6_homeOf_83 ?_
      exact tx_iret O F dX6_homeOf_84 (tx_QI.mk ⟨by rw [← g3, show y = 40 by omega], g5⟩)
    · refine tx_aload_n (pc := 12) 1 O dX6_homeOf_12 rfl rfl ?_
      refine tx_iload_n (pc := 13) 0 O dX6_homeOf_13 rfl rfl ?_
      refine tx_aload_n (pc := 14) 1 O dX6_homeOf_14 rfl rfl ?_
      refine fX6_73 (pc := 15) O dX6_homeOf_15 ?_
      rw [hu.hears]
      refine tx_cV2 (pc := 18) O dX6_homeOf_18 q1045 vX6_goesOn (sh_2 w) rfl (by decide) (Nat.zero_le _) (sX6_goesOn w _ _ _ _ u _ hR hu g4 (okR_run hok (uear u) g1) (by omega) he) (k_V (fun M18 h18 => ?_))
      have g6 : RunM M18 u (runP u (uear u) (y + 1)) := by
        show RunM _ u (itI (yearM u (uear u)) (startS u) (y + 1))
        rw [itI_1 _ _ g1]; exact h18.1
      refine tx_iload_n (pc := 21) 0 O dX6_homeOf_21 rfl rfl ?_
      refine tx_iload_n (pc := 22) 2 O dX6_homeOf_22 rfl rfl ?_
      refine tx_icmp_lt (pc := 23) 30 O dX6_homeOf_23 rfl (by omega) (fun c23 => ?_) (fun c23 => ?_)
      · refine tx_iconst (pc := 30) O dX6_homeOf_30 ?_
        refine tx_istore_n (pc := 31) (lv' := [(3, _), (2, _), (0, _), (1, _)]) O dX6_homeOf_31 rfl (by decide) rfl ?_
        refine tx_iconst (pc := 32) O dX6_homeOf_32 ?_
        refine tx_istore (pc := 33) (lv' := [(4, _), (3, _), (2, _), (0, _), (1, _)]) O dX6_homeOf_33 (by decide) rfl ?_
        first
          | exact K2 c9 _ g6 (g5.tr h18.2) 0 _ ⟨by omega, by omega, rfl⟩ _ (by rw [if_pos c23]; rfl) (by omega)
          | exact K2 c9 _ g6 (g5.tr h18.2) 0 _ ⟨by omega, by omega, rfl⟩ _ (by rw [if_neg (by omega)]; rfl) (by omega)
      · refine tx_iconst (pc := 26) O dX6_homeOf_26 ?_
        refine tx_goto (pc := 27) 31 O dX6_homeOf_27 rfl ?_
        refine tx_istore_n (pc := 31) (lv' := [(3, _), (2, _), (0, _), (1, _)]) O dX6_homeOf_31 rfl (by decide) rfl ?_
        refine tx_iconst (pc := 32) O dX6_homeOf_32 ?_
        refine tx_istore (pc := 33) (lv' := [(4, _), (3, _), (2, _), (0, _), (1, _)]) O dX6_homeOf_33 (by decide) rfl ?_
        first
          | exact K2 c9 _ g6 (g5.tr h18.2) 0 _ ⟨by omega, by omega, rfl⟩ _ (by rw [if_pos c23]; rfl) (by omega)
          | exact K2 c9 _ g6 (g5.tr h18.2) 0 _ ⟨by omega, by omega, rfl⟩ _ (by rw [if_neg (by omega)]; rfl) (by omega)
  refine tx_aload_n (pc := 0) 0 O dX6_homeOf_0 rfl rfl ?_
  refine tx_cV0 (pc := 1) O dX6_homeOf_1 q1037 vX6_startsAll (sh_2 w) rfl (by decide) (Nat.zero_le _) (sX6_startsAll w _ _ u hR hu) (k_V (fun M1 h1 => ?_))
  refine tx_iconst (pc := 4) O dX6_homeOf_4 ?_
  refine tx_istore_n (pc := 5) (lv' := [(2, _), (0, _), (1, _)]) O dX6_homeOf_5 rfl (by decide) rfl ?_
  exact K 0 _ ⟨by omega, by omega, rfl, h1.1, h1.2⟩
theorem sX6_home (w : WT) (y : Int) (R M : TM) (u : PU) (hR : RL R) (hu : mT M u) (hy : rng y) : tx_S w yX6_home cX6_home 2 (some .int) 7 [rV (wa w) 2, iV y] R M (QI R (fun z M' => ((y < 0 ∨ 39 < y) ∧ z = -2 ∨ (0 ≤ y ∧ y ≤ 39) ∧ z = homeP u (uear u) y 40) ∧ kpQ M M')) := by
  refine tx_S.ofk (lv := [(0, _), (1, _)]) [1, 1] (by decide) (by simp only [List.map_cons, List.map_nil, cat_i, cat_l, cat_r]) (by decide) rfl (fun E O F => ?_)
  refine tx_aload_n (pc := 0) 0 O dX6_home_0 rfl rfl ?_
  refine tx_cV0 (pc := 1) O dX6_home_1 q983 vX6_reads (sh_2 w) rfl (by decide) (Nat.zero_le _) (sX6_reads w _ _ u hR hu) (k_V (fun M1 h1 => ?_))
  obtain ⟨hu, hk⟩ := h1
  refine tx_iload_n (pc := 4) 1 O dX6_home_4 rfl rfl ?_
  refine tx_cS1 (pc := 5) O dX6_home_5 q1005 vX6_isYear (by decide) (Nat.zero_le _) (sX6_isYear w _ _ _ (by omega)) (k_P (fun z5 h5 => ?_))
  refine tx_if_eq (pc := 8) 19 O dX6_home_8 rfl (by omega) (fun c8 => ?_) (fun c8 => ?_)
  · refine tx_bipush (pc := 19) O dX6_home_19 (by decide) ?_
    exact tx_iret O F dX6_home_21 (tx_QI.mk (by first | exact ⟨Or.inr ⟨by omega, h13.1⟩, hk.tr h13.2.q⟩ | exact ⟨Or.inl ⟨by omega, rfl⟩, hk⟩))
  · refine tx_aload_n (pc := 11) 0 O dX6_home_11 rfl rfl ?_
    refine tx_iload_n (pc := 12) 1 O dX6_home_12 rfl rfl ?_
    refine tx_cV1 (pc := 13) O dX6_home_13 q1099 vX6_homeOf (sh_2 w) rfl (by decide) (Nat.zero_le _) (sX6_homeOf w _ _ _ u hR hu (by omega)) (k_I (fun z13 M13 h13 => ?_))
    refine tx_goto (pc := 16) 21 O dX6_home_16 rfl ?_
    exact tx_iret O F dX6_home_21 (tx_QI.mk (by first | exact ⟨Or.inr ⟨by omega, h13.1⟩, hk.tr h13.2.q⟩ | exact ⟨Or.inl ⟨by omega, rfl⟩, hk⟩))

