/-! MODEL, texts read: readsTunes, howOf, readsBorrowers, reads, fault -/
set_option maxRecDepth 100000
def rowsM (M : TM) (D : List (List Int)) : Prop := ∀ t : Int, 0 ≤ t → t < D.length → M 109 t = (gl D t).length ∧ ∀ i : Int, 0 ≤ i → i < (gl D t).length → M 108 (40 * t + i) = ga (gl D t) i
def toldM (M : TM) (D : List (List Int)) : Prop := M 2 7 = D.length ∧ rowsM M D
def kpT (M M' : TM) : Prop := ∀ a b : Int, (a ≠ 108 ∧ a ≠ 109 ∧ (a ≠ 2 ∨ b ≠ 7)) → M' a b = M a b
theorem rows_add {M : TM} {D : List (List Int)} {c : List Int} {v n1 : Int} (hr : rowsM M D) (hn : n1 = c.length) (hc : ∀ i : Int, 0 ≤ i → i < c.length → M 108 (40 * D.length + i) = ga c i) : rowsM (up (up M 109 D.length n1) 2 7 v) (D ++ [c]) := by
  subst hn
  intro t h0 h
  have hl : ((D ++ [c]).length : Int) = D.length + 1 := by simp
  rw [up_n (by omega)]
  by_cases e : t < D.length
  · rw [gl_lt h0 e, up_n (by omega)]
    refine ⟨(hr t h0 e).1, fun i h1 h2 => ?_⟩
    rw [up_n (by omega), up_n (by omega)]
    exact (hr t h0 e).2 i h1 h2
  · have e2 : t = D.length := by omega
    subst e2
    rw [gl_eq, up_s]
    refine ⟨rfl, fun i h1 h2 => ?_⟩
    rw [up_n (by omega), up_n (by omega)]
    exact hc i h1 h2
theorem rows_note {M : TM} {D : List (List Int)} {j x : Int} (hr : rowsM M D) (hk : okD D) (hj : 40 * (D.length : Int) ≤ j) : rowsM (up M 108 j x) D := by
  intro t h0 h
  have h1 := (hk.2 _ (gl_mem h0 h)).1.1
  refine ⟨by rw [up_n (by omega)]; exact (hr t h0 h).1, fun i h2 h3 => ?_⟩
  rw [up_n (by omega)]
  exact (hr t h0 h).2 i h2 h3
theorem told_nil {M : TM} (h : M 2 7 = 0) : toldM M [] := ⟨by simpa using h, fun t h1 h2 => by simp at h2; omega⟩
theorem kpT.up {M M' : TM} (h : kpT M M') {a k v : Int} (ha : a = 108 ∨ a = 109 ∨ (a = 2 ∧ k = 7)) : kpT M (up M' a k v) := by
  intro x y h1
  rw [up_n (by omega)]
  exact h x y h1
theorem kpT.rf {M : TM} : kpT M M := fun _ _ _ => rfl
theorem sX6_readsTunes (w : WT) (R M : TM) (f : Int → Int) (n : Int) (hR : RL R) (hn : M 106 0 = n) (hn2 : 0 ≤ n ∧ n ≤ 59) (hf : ∀ k, 0 ≤ k → k < n → M 105 k = f k ∧ 0 ≤ f k ∧ f k ≤ 255) : tx_S w yX6_readsTunes cX6_readsTunes 4 (some .int) 2 [rV (wa w) 2] R M (QI R (fun z M' => z = (pT f n).1 ∧ toldM M' (pT f n).2 ∧ kpT M M')) := by
  refine tx_S.ofk (lv := [(0, _)]) [1] (by decide) (by simp only [List.map_cons, List.map_nil, cat_i, cat_l, cat_r]) (by decide) rfl (fun E O F => ?_)
  have K : ∀ q : Int × Int × TM × List (List Int) × List Int, (0 ≤ q.1 ∧ q.1 ≤ n ∧ q.2.1 = q.2.2.2.2.length ∧ pst f q.1 = (q.2.2.2.1, q.2.2.2.2, -1) ∧ q.2.2.1 2 7 = q.2.2.2.1.length ∧ rowsM q.2.2.1 q.2.2.2.1 ∧ (∀ i : Int, 0 ≤ i → i < q.2.2.2.2.length → q.2.2.1 108 (40 * q.2.2.2.1.length + i) = ga q.2.2.2.2 i) ∧ kpT M q.2.2.1) → tx_X w E 9 [(2, iV q.1), (1, iV q.2.1), (0, rV (wa w) 2)] [] R q.2.2.1 := by
    refine lp_m _ _ (fun q => (n - q.1).toNat) ?_
    rintro ⟨k, n1, M', D, c⟩ ⟨h1, h2, h3, h4, h5, h6, h7, h8⟩ ih
    dsimp only at h1 h2 h3 h4 h5 h6 h7 h8 ⊢
    have ht : M' 106 0 = n := by rw [h8 106 0 (by omega)]; exact hn
    obtain ⟨g1, g2, g3⟩ := pst_ok f n k h1 h2
    rw [h4] at g1 g2 g3
    dsimp only at g1 g2 g3
    have gD := g1.1
    have gc := g2.1
    have hc0 : n1 = 0 → c = [] := fun q => List.length_eq_zero_iff.mp (by omega)
    have hc1 : ¬ n1 = 0 → c ≠ [] := fun q e => q (by rw [h3, e]; rfl)
    refine tx_iload_n (pc := 9) 0 O dX6_readsTunes_9 rfl rfl ?_
    refine tx_aload_n (pc := 10) 2 O dX6_readsTunes_10 rfl rfl ?_
    refine fX6_25 (pc := 11) O hR dX6_readsTunes_11 ?_
    refine tx_iconst (pc := 14) O dX6_readsTunes_14 ?_
    refine tx_iald (pc := 15) _ O dX6_readsTunes_15 (sh_106 w) (by omega) ?_
    rw [ht]
    refine tx_icmp_ge (pc := 16) 129 O dX6_readsTunes_16 rfl (by omega) (fun c16 => ?_) (fun c16 => ?_)
    · refine tx_iload_n (pc := 129) 1 O dX6_readsTunes_129 rfl rfl ?_
      refine tx_if_ne (pc := 130) 157 O dX6_readsTunes_130 rfl (by omega) (fun c130 => ?_) (fun c130 => ?_)
      · have gD5 := g3 (hc1 c130)
        refine tx_aload_n (pc := 157) 2 O dX6_readsTunes_157 rfl rfl ?_
        refine fX6_31 (pc := 158) O hR dX6_readsTunes_158 ?_
        refine tx_aload_n (pc := 161) 2 O dX6_readsTunes_161 rfl rfl ?_
        refine fX6_112 (pc := 162) O dX6_readsTunes_162 ?_
        rw [h5]
        refine tx_iload_n (pc := 165) 1 O dX6_readsTunes_165 rfl rfl ?_
        refine tx_iast (pc := 166) _ O dX6_readsTunes_166 (sh_109 w) (by omega) ?_
        refine tx_aload_n (pc := 167) 2 O dX6_readsTunes_167 rfl rfl ?_
        refine tx_dup (pc := 168) O dX6_readsTunes_168 (cat_r _ _) ?_
        refine fX6_112 (pc := 169) O dX6_readsTunes_169 ?_
        rw [up_n (by omega), h5]
        refine tx_iconst (pc := 172) O dX6_readsTunes_172 ?_
        refine tx_iadd (pc := 173) O dX6_readsTunes_173 ?_
        refine fX6_112p (pc := 174) O dX6_readsTunes_174 ?_
        refine tx_iconst (pc := 177) O dX6_readsTunes_177 ?_
        exact tx_iret O F dX6_readsTunes_178 (tx_QI.mk (by
          have ek : k = n := by omega
          rw [ek] at h4
          rw [pT_all (hc1 c130) h4]
          exact ⟨rfl, ⟨by dsimp only; rw [up_s]; simp, rows_add h6 h3 h7⟩, (h8.up (by omega)).up (by omega)⟩))
      · refine tx_aload_n (pc := 133) 2 O dX6_readsTunes_133 rfl rfl ?_
        refine fX6_25 (pc := 134) O hR dX6_readsTunes_134 ?_
        refine tx_iconst (pc := 137) O dX6_readsTunes_137 ?_
        refine tx_iald (pc := 138) _ O dX6_readsTunes_138 (sh_106 w) (by omega) ?_
        rw [ht]
        refine tx_if_ne (pc := 139) 146 O dX6_readsTunes_139 rfl (by omega) (fun c139 => ?_) (fun c139 => ?_)
        · refine tx_aload_n (pc := 146) 2 O dX6_readsTunes_146 rfl rfl ?_
          refine tx_aload_n (pc := 147) 2 O dX6_readsTunes_147 rfl rfl ?_
          refine fX6_25 (pc := 148) O hR dX6_readsTunes_148 ?_
          refine tx_iconst (pc := 151) O dX6_readsTunes_151 ?_
          refine tx_iald (pc := 152) _ O dX6_readsTunes_152 (sh_106 w) (by omega) ?_
          rw [ht]
          refine tx_cV1 (pc := 153) O dX6_readsTunes_153 q966 vX6_tunesFault (sh_2 w) rfl (by decide) (Nat.zero_le _) (sX6_tunesFault w _ _ _) (k_I (fun z153 M153 h153 => ?_))
          exact tx_iret O F dX6_readsTunes_156 (tx_QI.mk (by
            have ek : k = n := by omega
            have e0 := hc0 c130
            subst e0
            rw [ek] at h4
            have e1 := pT_none h4
            first
              | (rw [if_pos c139] at e1
                 rw [e1]
                 rw [c139, pst_0] at h4
                 have e2 : D = [] := (congrArg Prod.fst h4).symm
                 subst e2
                 exact ⟨rfl, told_nil h5, h8⟩)
              | (rw [if_neg c139] at e1
                 rw [e1, h153.1, h153.2]
                 exact ⟨rfl, told_nil up_s, h8.up (by omega)⟩)))
        · refine tx_iconst (pc := 142) O dX6_readsTunes_142 ?_
          refine tx_goto (pc := 143) 156 O dX6_readsTunes_143 rfl ?_
          exact tx_iret O F dX6_readsTunes_156 (tx_QI.mk (by
            have ek : k = n := by omega
            have e0 := hc0 c130
            subst e0
            rw [ek] at h4
            have e1 := pT_none h4
            first
              | (rw [if_pos c139] at e1
                 rw [e1]
                 rw [c139, pst_0] at h4
                 have e2 : D = [] := (congrArg Prod.fst h4).symm
                 subst e2
                 exact ⟨rfl, told_nil h5, h8⟩)
              | (rw [if_neg c139] at e1
                 rw [e1, h153.1, h153.2]
                 exact ⟨rfl, told_nil up_s, h8.up (by omega)⟩)))
    · obtain ⟨hb1, hb2, hb3⟩ := hf k h1 c16
      have hb : M' 105 k = f k := by rw [h8 105 k (by omega)]; exact hb1
      refine tx_aload_n (pc := 19) 2 O dX6_readsTunes_19 rfl rfl ?_
      refine fX6_22 (pc := 20) O hR dX6_readsTunes_20 ?_
      refine tx_iload_n (pc := 23) 0 O dX6_readsTunes_23 rfl rfl ?_
      refine tx_iald (pc := 24) _ O dX6_readsTunes_24 (sh_105 w) (by omega) ?_
      rw [hb]
      refine tx_istore_n (pc := 25) (lv' := [(3, _), (2, _), (1, _), (0, _)]) O dX6_readsTunes_25 rfl (by decide) rfl ?_
      refine tx_iload_n (pc := 26) 0 O dX6_readsTunes_26 rfl rfl ?_
      refine tx_bipush (pc := 27) O dX6_readsTunes_27 (by decide) ?_
      refine tx_icmp_ne (pc := 29) 67 O dX6_readsTunes_29 rfl (by omega) (fun c29 => ?_) (fun c29 => ?_)
      · refine tx_iload_n (pc := 67) 0 O dX6_readsTunes_67 rfl rfl ?_
        refine tx_i2l (pc := 68) O dX6_readsTunes_68 (by omega) ?_
        refine tx_ldc2 (pc := 69) (z := 97) O dX6_readsTunes_69 q970 rfl ?_
        refine tx_ldc2 (pc := 72) (z := 103) O dX6_readsTunes_72 q971 rfl ?_
        refine tx_cS3 (pc := 75) O dX6_readsTunes_75 q910 vX6_in (by decide) (Nat.zero_le _) (sX6_in w _ _ _ _ _ (by omega) (by omega) (by omega)) (k_P (fun z75 h75 => ?_))
        refine tx_if_eq (pc := 78) 96 O dX6_readsTunes_78 rfl (by omega) (fun c78 => ?_) (fun c78 => ?_)
        · refine tx_aload_n (pc := 96) 3 O dX6_readsTunes_96 rfl rfl ?_
          refine tx_iload_n (pc := 97) 1 O dX6_readsTunes_97 rfl rfl ?_
          refine tx_cV1 (pc := 98) O dX6_readsTunes_98 q966 vX6_tunesFault (sh_2 w) rfl (by decide) (Nat.zero_le _) (sX6_tunesFault w _ _ _) (k_I (fun z98 M98 h98 => ?_))
          exact tx_iret O F dX6_readsTunes_101 (tx_QI.mk (by
            have e1 := pT_fault h1 c16 (ps_bad h1 h4 c29 (by omega))
            rw [e1, h98.1, h98.2]
            exact ⟨rfl, told_nil up_s, h8.up (by omega)⟩))
        · refine tx_iload_n (pc := 81) 2 O dX6_readsTunes_81 rfl rfl ?_
          refine tx_bipush (pc := 82) O dX6_readsTunes_82 (by decide) ?_
          refine tx_icmp_eq (pc := 84) 96 O dX6_readsTunes_84 rfl (by omega) (fun c84 => ?_) (fun c84 => ?_)
          · refine tx_aload_n (pc := 96) 3 O dX6_readsTunes_96 rfl rfl ?_
            refine tx_iload_n (pc := 97) 1 O dX6_readsTunes_97 rfl rfl ?_
            refine tx_cV1 (pc := 98) O dX6_readsTunes_98 q966 vX6_tunesFault (sh_2 w) rfl (by decide) (Nat.zero_le _) (sX6_tunesFault w _ _ _) (k_I (fun z98 M98 h98 => ?_))
            exact tx_iret O F dX6_readsTunes_101 (tx_QI.mk (by
              have e1 := pT_fault h1 c16 (ps_bad h1 h4 c29 (by omega))
              rw [e1, h98.1, h98.2]
              exact ⟨rfl, told_nil up_s, h8.up (by omega)⟩))
          · refine tx_aload_n (pc := 87) 3 O dX6_readsTunes_87 rfl rfl ?_
            refine fX6_112 (pc := 88) O dX6_readsTunes_88 ?_
            rw [h5]
            refine tx_bipush (pc := 91) O dX6_readsTunes_91 (by decide) ?_
            refine tx_icmp_ne (pc := 93) 102 O dX6_readsTunes_93 rfl (by omega) (fun c93 => ?_) (fun c93 => ?_)
            · refine tx_aload_n (pc := 102) 3 O dX6_readsTunes_102 rfl rfl ?_
              refine fX6_28 (pc := 103) O hR dX6_readsTunes_103 ?_
              refine tx_bipush (pc := 106) O dX6_readsTunes_106 (by decide) ?_
              refine tx_aload_n (pc := 108) 3 O dX6_readsTunes_108 rfl rfl ?_
              refine fX6_112 (pc := 109) O dX6_readsTunes_109 ?_
              rw [h5]
              refine tx_imul (pc := 112) O dX6_readsTunes_112 ?_
              refine tx_iload_n (pc := 113) 2 O dX6_readsTunes_113 rfl rfl ?_
              refine tx_iadd (pc := 114) O dX6_readsTunes_114 ?_
              refine tx_iload_n (pc := 115) 0 O dX6_readsTunes_115 rfl rfl ?_
              refine tx_bipush (pc := 116) O dX6_readsTunes_116 (by decide) ?_
              refine tx_isub (pc := 118) O dX6_readsTunes_118 ?_
              refine tx_iast (pc := 119) _ O dX6_readsTunes_119 (sh_108 w) (by omega) ?_
              refine tx_iinc (pc := 120) (lv' := [(1, _), (3, _), (2, _), (0, _)]) 2 O dX6_readsTunes_120 rfl (by decide) rfl ?_
              refine tx_iinc (pc := 123) (lv' := [(2, _), (1, _), (3, _), (0, _)]) 2 O dX6_readsTunes_123 rfl (by decide) rfl ?_
              refine tx_goto (pc := 126) 9 O dX6_readsTunes_126 rfl ?_
              refine tx_lv (lv' := [(2, _), (1, _), (0, _)]) [0, 1, 3] rfl ?_
              first
                | (refine ih (k + 1, 0, up (up M' 109 D.length n1) 2 7 (D.length + 1), D ++ [c], []) ?_ (by dsimp only; omega)
                   dsimp only
                   exact ⟨by omega, by omega, rfl, ps_semi h1 (hc1 c33) h4 c29, by rw [up_s]; simp, rows_add h6 h3 h7, by intro i q1 q2; simp at q2; omega, (h8.up (by omega)).up (by omega)⟩)
                | (refine ih (k + 1, n1 + 1, up M' 108 (40 * D.length + n1) (f k - 97), D, c ++ [f k - 97]) ?_ (by dsimp only; omega)
                   dsimp only
                   refine ⟨by omega, by omega, by simp; omega, ps_note h1 h4 (by omega), by rw [up_n (by omega)]; exact h5, rows_note h6 g1 (by omega), ?_, h8.up (by omega)⟩
                   intro i q1 q2
                   have q3 : ((c ++ [f k - 97]).length : Int) = c.length + 1 := by simp
                   by_cases e : i < c.length
                   · rw [up_n (by omega), ga_lt q1 e]; exact h7 i q1 e
                   · rw [show i = (c.length : Int) by omega, ga_eq, h3, up_s])
            · refine tx_aload_n (pc := 96) 3 O dX6_readsTunes_96 rfl rfl ?_
              refine tx_iload_n (pc := 97) 1 O dX6_readsTunes_97 rfl rfl ?_
              refine tx_cV1 (pc := 98) O dX6_readsTunes_98 q966 vX6_tunesFault (sh_2 w) rfl (by decide) (Nat.zero_le _) (sX6_tunesFault w _ _ _) (k_I (fun z98 M98 h98 => ?_))
              exact tx_iret O F dX6_readsTunes_101 (tx_QI.mk (by
                have e1 := pT_fault h1 c16 (ps_bad h1 h4 c29 (by omega))
                rw [e1, h98.1, h98.2]
                exact ⟨rfl, told_nil up_s, h8.up (by omega)⟩))
      · refine tx_iload_n (pc := 32) 2 O dX6_readsTunes_32 rfl rfl ?_
        refine tx_if_ne (pc := 33) 42 O dX6_readsTunes_33 rfl (by omega) (fun c33 => ?_) (fun c33 => ?_)
        · have gD5 := g3 (hc1 c33)
          refine tx_aload_n (pc := 42) 3 O dX6_readsTunes_42 rfl rfl ?_
          refine fX6_31 (pc := 43) O hR dX6_readsTunes_43 ?_
          refine tx_aload_n (pc := 46) 3 O dX6_readsTunes_46 rfl rfl ?_
          refine fX6_112 (pc := 47) O dX6_readsTunes_47 ?_
          rw [h5]
          refine tx_iload_n (pc := 50) 2 O dX6_readsTunes_50 rfl rfl ?_
          refine tx_iast (pc := 51) _ O dX6_readsTunes_51 (sh_109 w) (by omega) ?_
          refine tx_aload_n (pc := 52) 3 O dX6_readsTunes_52 rfl rfl ?_
          refine tx_dup (pc := 53) O dX6_readsTunes_53 (cat_r _ _) ?_
          refine fX6_112 (pc := 54) O dX6_readsTunes_54 ?_
          rw [up_n (by omega), h5]
          refine tx_iconst (pc := 57) O dX6_readsTunes_57 ?_
          refine tx_iadd (pc := 58) O dX6_readsTunes_58 ?_
          refine fX6_112p (pc := 59) O dX6_readsTunes_59 ?_
          refine tx_iconst (pc := 62) O dX6_readsTunes_62 ?_
          refine tx_istore_n (pc := 63) (lv' := [(1, _), (3, _), (2, _), (0, _)]) O dX6_readsTunes_63 rfl (by decide) rfl ?_
          refine tx_goto (pc := 64) 123 O dX6_readsTunes_64 rfl ?_
          refine tx_iinc (pc := 123) (lv' := [(2, _), (1, _), (3, _), (0, _)]) 2 O dX6_readsTunes_123 rfl (by decide) rfl ?_
          refine tx_goto (pc := 126) 9 O dX6_readsTunes_126 rfl ?_
          refine tx_lv (lv' := [(2, _), (1, _), (0, _)]) [0, 1, 3] rfl ?_
          first
            | (refine ih (k + 1, 0, up (up M' 109 D.length n1) 2 7 (D.length + 1), D ++ [c], []) ?_ (by dsimp only; omega)
               dsimp only
               exact ⟨by omega, by omega, rfl, ps_semi h1 (hc1 c33) h4 c29, by rw [up_s]; simp, rows_add h6 h3 h7, by intro i q1 q2; simp at q2; omega, (h8.up (by omega)).up (by omega)⟩)
            | (refine ih (k + 1, n1 + 1, up M' 108 (40 * D.length + n1) (f k - 97), D, c ++ [f k - 97]) ?_ (by dsimp only; omega)
               dsimp only
               refine ⟨by omega, by omega, by simp; omega, ps_note h1 h4 (by omega), by rw [up_n (by omega)]; exact h5, rows_note h6 g1 (by omega), ?_, h8.up (by omega)⟩
               intro i q1 q2
               have q3 : ((c ++ [f k - 97]).length : Int) = c.length + 1 := by simp
               by_cases e : i < c.length
               · rw [up_n (by omega), ga_lt q1 e]; exact h7 i q1 e
               · rw [show i = (c.length : Int) by omega, ga_eq, h3, up_s])
        · refine tx_aload_n (pc := 36) 3 O dX6_readsTunes_36 rfl rfl ?_
          refine tx_iload_n (pc := 37) 1 O dX6_readsTunes_37 rfl rfl ?_
          refine tx_cV1 (pc := 38) O dX6_readsTunes_38 q966 vX6_tunesFault (sh_2 w) rfl (by decide) (Nat.zero_le _) (sX6_tunesFault w _ _ _) (k_I (fun z38 M38 h38 => ?_))
          exact tx_iret O F dX6_readsTunes_41 (tx_QI.mk (by
            have e1 := pT_fault h1 c16 (ps_semi0 h1 (by rw [h4, hc0 c33]) c29)
            rw [e1, h38.1, h38.2]
            exact ⟨rfl, told_nil up_s, h8.up (by omega)⟩))
  refine tx_aload_n (pc := 0) 0 O dX6_readsTunes_0 rfl rfl ?_
  refine tx_iconst (pc := 1) O dX6_readsTunes_1 ?_
  refine fX6_112p (pc := 2) O dX6_readsTunes_2 ?_
  refine tx_iconst (pc := 5) O dX6_readsTunes_5 ?_
  refine tx_istore_n (pc := 6) (lv' := [(1, _), (0, _)]) O dX6_readsTunes_6 rfl (by decide) rfl ?_
  refine tx_iconst (pc := 7) O dX6_readsTunes_7 ?_
  refine tx_istore_n (pc := 8) (lv' := [(2, _), (1, _), (0, _)]) O dX6_readsTunes_8 rfl (by decide) rfl ?_
  refine K (0, 0, up M 2 7 0, [], []) ?_
  dsimp only
  exact ⟨by omega, hn2.1, rfl, pst_0 f, up_s, fun t q1 q2 => by simp at q2; omega, fun i q1 q2 => by simp at q2; omega, kpT.rf.up (by omega)⟩
theorem sX6_howOf (w : WT) (b : Int) (R M : TM) (h : rng b) : tx_S w yX6_howOf cX6_howOf 1 (some .int) 1 [iV b] R M (QP R M (fun z => z = howP b)) := by
  refine tx_S.ofk (lv := [(0, _)]) [1] (by decide) (by simp only [List.map_cons, List.map_nil, cat_i, cat_l, cat_r]) (by decide) rfl (fun E O F => ?_)
  refine tx_iload_n (pc := 0) 0 O dX6_howOf_0 rfl rfl ?_
  refine tx_bipush (pc := 1) O dX6_howOf_1 (by decide) ?_
  refine tx_icmp_ne (pc := 3) 10 O dX6_howOf_3 rfl (by omega) (fun c3 => ?_) (fun c3 => ?_)
  · refine tx_iload_n (pc := 10) 0 O dX6_howOf_10 rfl rfl ?_
    refine tx_bipush (pc := 11) O dX6_howOf_11 (by decide) ?_
    refine tx_icmp_ne (pc := 13) 20 O dX6_howOf_13 rfl (by omega) (fun c13 => ?_) (fun c13 => ?_)
    · refine tx_iload_n (pc := 20) 0 O dX6_howOf_20 rfl rfl ?_
      refine tx_bipush (pc := 21) O dX6_howOf_21 (by decide) ?_
      refine tx_icmp_ne (pc := 23) 30 O dX6_howOf_23 rfl (by omega) (fun c23 => ?_) (fun c23 => ?_)
      · refine tx_iconst (pc := 30) O dX6_howOf_30 ?_
        exact tx_iret O F dX6_howOf_31 (tx_QP.mk (by unfold howP; (repeat' split) <;> first | rfl | omega))
      · refine tx_iconst (pc := 26) O dX6_howOf_26 ?_
        refine tx_goto (pc := 27) 31 O dX6_howOf_27 rfl ?_
        exact tx_iret O F dX6_howOf_31 (tx_QP.mk (by unfold howP; (repeat' split) <;> first | rfl | omega))
    · refine tx_iconst (pc := 16) O dX6_howOf_16 ?_
      refine tx_goto (pc := 17) 31 O dX6_howOf_17 rfl ?_
      exact tx_iret O F dX6_howOf_31 (tx_QP.mk (by unfold howP; (repeat' split) <;> first | rfl | omega))
  · refine tx_iconst (pc := 6) O dX6_howOf_6 ?_
    refine tx_goto (pc := 7) 31 O dX6_howOf_7 rfl ?_
    exact tx_iret O F dX6_howOf_31 (tx_QP.mk (by unfold howP; (repeat' split) <;> first | rfl | omega))
def kpB (M M' : TM) : Prop := ∀ a b : Int, (a ≠ 111 ∧ (a ≠ 2 ∨ b ≠ 10)) → M' a b = M a b
theorem kpB.up {M M' : TM} (h : kpB M M') {a k v : Int} (ha : a = 111 ∨ (a = 2 ∧ k = 10)) : kpB M (up M' a k v) := by
  intro x y h1
  rw [up_n (by omega)]
  exact h x y h1
theorem kpB.rf {M : TM} : kpB M M := fun _ _ _ => rfl
/-- the borrowers of a text, as the model holds them -/
def humM (M : TM) (f : Int → Int) (n : Int) : Prop := M 2 10 = cB f n ∧ ∀ b : Int, 0 ≤ b → b < cB f n → M 111 (3 * b) = (bq f b).1 ∧ M 111 (3 * b + 1) = (bq f b).2.1 ∧ M 111 (3 * b + 2) = (bq f b).2.2
theorem humM_0 {M : TM} {f : Int → Int} {n : Int} (h : fB f n ≠ -1) (h1 : M 2 10 = 0) : humM M f n := by
  have e : cB f n = 0 := by unfold cB; rw [if_neg h]
  exact ⟨by rw [e]; exact h1, fun b q1 q2 => by omega⟩
theorem sX6_readsBorrowers (w : WT) (R M : TM) (f : Int → Int) (n : Int) (hR : RL R) (hn : M 106 1 = n) (hn2 : 0 ≤ n ∧ n ≤ 23) (hf : ∀ k, 0 ≤ k → k < n → M 105 (60 + k) = f k ∧ 0 ≤ f k ∧ f k ≤ 255) : tx_S w yX6_readsBorrowers cX6_readsBorrowers 6 (some .int) 2 [rV (wa w) 2] R M (QI R (fun z M' => z = fB f n ∧ humM M' f n ∧ kpB M M')) := by
  refine tx_S.ofk (lv := [(0, _)]) [1] (by decide) (by simp only [List.map_cons, List.map_nil, cat_i, cat_l, cat_r]) (by decide) rfl (fun E O F => ?_)
  have K : ∀ (k : Int) (M' : TM), (0 ≤ k ∧ k ≤ n ∧ bst f k = -1 ∧ M' 2 10 = (k + 1) / 4 ∧ (∀ j : Int, 0 ≤ j → j < k → j % 4 < 3 → M' 111 (3 * (j / 4) + j % 4) = bval f j) ∧ kpB M M') → tx_X w E 14 [(2, iV k), (1, iV n), (0, rV (wa w) 2)] [] R M' := by
    refine lp_up _ _ n ?_
    rintro k M' ⟨h1, h2, h3, h4, h5, h6⟩ ih
    have K89 : k < n → ∀ v : Int, v = bval f k → -1 ≤ v → v ≤ 255 → tx_X w E 89 [(4, iV (k % 4)), (3, iV (f k)), (2, iV k), (1, iV n), (0, rV (wa w) 2)] [iV v] R M' := by
      intro hkn v hv hv1 hv2
      refine tx_istore (pc := 89) (lv' := [(5, _), (4, _), (3, _), (2, _), (1, _), (0, _)]) O dX6_readsBorrowers_89 (by decide) rfl ?_
      refine tx_iload (pc := 91) 0 O dX6_readsBorrowers_91 rfl ?_
      refine tx_iconst (pc := 93) O dX6_readsBorrowers_93 ?_
      refine tx_icmp_eq (pc := 94) 103 O dX6_readsBorrowers_94 rfl (by omega) (fun c94 => ?_) (fun c94 => ?_)
      · refine tx_aload_n (pc := 103) 5 O dX6_readsBorrowers_103 rfl rfl ?_
        refine tx_iconst (pc := 104) O dX6_readsBorrowers_104 ?_
        refine fX6_122p (pc := 105) O dX6_readsBorrowers_105 ?_
        refine tx_iload_n (pc := 108) 3 O dX6_readsBorrowers_108 rfl rfl ?_
        have e1 := fB_fault h1 hkn h3 (by omega)
        exact tx_iret O F dX6_readsBorrowers_109 (tx_QI.mk ⟨e1.symm, humM_0 (by omega) up_s, h6.up (by omega)⟩)
      · refine tx_iload_n (pc := 97) 3 O dX6_readsBorrowers_97 rfl rfl ?_
        refine tx_bipush (pc := 98) O dX6_readsBorrowers_98 (by decide) ?_
        refine tx_icmp_ne (pc := 100) 110 O dX6_readsBorrowers_100 rfl (by omega) (fun c100 => ?_) (fun c100 => ?_)
        · refine tx_iload (pc := 110) 1 O dX6_readsBorrowers_110 rfl ?_
          refine tx_iconst (pc := 112) O dX6_readsBorrowers_112 ?_
          refine tx_icmp_ge (pc := 113) 131 O dX6_readsBorrowers_113 rfl (by omega) (fun c113 => ?_) (fun c113 => ?_)
          · refine tx_aload_n (pc := 131) 5 O dX6_readsBorrowers_131 rfl rfl ?_
            refine tx_dup (pc := 132) O dX6_readsBorrowers_132 (cat_r _ _) ?_
            refine fX6_122 (pc := 133) O dX6_readsBorrowers_133 ?_
            first | rw [h4] | rw [up_n (by omega), h4]
            refine tx_iload (pc := 136) 1 O dX6_readsBorrowers_136 rfl ?_
            refine tx_iconst (pc := 138) O dX6_readsBorrowers_138 ?_
            refine tx_icmp_ne (pc := 139) 146 O dX6_readsBorrowers_139 rfl (by omega) (fun c139 => ?_) (fun c139 => ?_)
            · refine tx_iconst (pc := 146) O dX6_readsBorrowers_146 ?_
              refine tx_iadd (pc := 147) O dX6_readsBorrowers_147 ?_
              refine fX6_122p (pc := 148) O dX6_readsBorrowers_148 ?_
              refine tx_iinc (pc := 151) (lv' := [(2, _), (5, _), (4, _), (3, _), (1, _), (0, _)]) 3 O dX6_readsBorrowers_151 rfl (by decide) rfl ?_
              refine tx_goto (pc := 154) 14 O dX6_readsBorrowers_154 rfl ?_
              refine tx_lv (lv' := [(2, _), (1, _), (0, _)]) [0, 4, 5] rfl ?_
              refine ih _ _ ⟨by omega, by omega, by rw [bst_1 f h1 h3, if_neg (by omega)], by rw [up_s]; omega, ?_, by first | exact (h6.up (by omega)).up (by omega) | exact h6.up (by omega)⟩ (by omega) (by omega)
              intro j q1 q2 q3
              by_cases e : j = k
              · subst e
                first | (exfalso; omega) | (rw [up_n (by omega), up_s]; exact hv)
              · first | (rw [up_n (by omega), up_n (by omega)]; exact h5 j q1 (by omega) q3) | (rw [up_n (by omega)]; exact h5 j q1 (by omega) q3)
            · refine tx_iconst (pc := 142) O dX6_readsBorrowers_142 ?_
              refine tx_goto (pc := 143) 147 O dX6_readsBorrowers_143 rfl ?_
              refine tx_iadd (pc := 147) O dX6_readsBorrowers_147 ?_
              refine fX6_122p (pc := 148) O dX6_readsBorrowers_148 ?_
              refine tx_iinc (pc := 151) (lv' := [(2, _), (5, _), (4, _), (3, _), (1, _), (0, _)]) 3 O dX6_readsBorrowers_151 rfl (by decide) rfl ?_
              refine tx_goto (pc := 154) 14 O dX6_readsBorrowers_154 rfl ?_
              refine tx_lv (lv' := [(2, _), (1, _), (0, _)]) [0, 4, 5] rfl ?_
              refine ih _ _ ⟨by omega, by omega, by rw [bst_1 f h1 h3, if_neg (by omega)], by rw [up_s]; omega, ?_, by first | exact (h6.up (by omega)).up (by omega) | exact h6.up (by omega)⟩ (by omega) (by omega)
              intro j q1 q2 q3
              by_cases e : j = k
              · subst e
                first | (exfalso; omega) | (rw [up_n (by omega), up_s]; exact hv)
              · first | (rw [up_n (by omega), up_n (by omega)]; exact h5 j q1 (by omega) q3) | (rw [up_n (by omega)]; exact h5 j q1 (by omega) q3)
          · refine tx_aload_n (pc := 116) 5 O dX6_readsBorrowers_116 rfl rfl ?_
            refine fX6_34 (pc := 117) O hR dX6_readsBorrowers_117 ?_
            refine tx_iconst (pc := 120) O dX6_readsBorrowers_120 ?_
            refine tx_iload_n (pc := 121) 3 O dX6_readsBorrowers_121 rfl rfl ?_
            refine tx_iconst (pc := 122) O dX6_readsBorrowers_122 ?_
            refine tx_idiv (pc := 123) O dX6_readsBorrowers_123 (by omega) (by omega) ?_
            refine tx_imul (pc := 124) O dX6_readsBorrowers_124 ?_
            refine tx_iload (pc := 125) 1 O dX6_readsBorrowers_125 rfl ?_
            refine tx_iadd (pc := 127) O dX6_readsBorrowers_127 ?_
            refine tx_iload (pc := 128) 0 O dX6_readsBorrowers_128 rfl ?_
            refine tx_iast (pc := 130) _ O dX6_readsBorrowers_130 (sh_111 w) (by omega) ?_
            refine tx_aload_n (pc := 131) 5 O dX6_readsBorrowers_131 rfl rfl ?_
            refine tx_dup (pc := 132) O dX6_readsBorrowers_132 (cat_r _ _) ?_
            refine fX6_122 (pc := 133) O dX6_readsBorrowers_133 ?_
            first | rw [h4] | rw [up_n (by omega), h4]
            refine tx_iload (pc := 136) 1 O dX6_readsBorrowers_136 rfl ?_
            refine tx_iconst (pc := 138) O dX6_readsBorrowers_138 ?_
            refine tx_icmp_ne (pc := 139) 146 O dX6_readsBorrowers_139 rfl (by omega) (fun c139 => ?_) (fun c139 => ?_)
            · refine tx_iconst (pc := 146) O dX6_readsBorrowers_146 ?_
              refine tx_iadd (pc := 147) O dX6_readsBorrowers_147 ?_
              refine fX6_122p (pc := 148) O dX6_readsBorrowers_148 ?_
              refine tx_iinc (pc := 151) (lv' := [(2, _), (5, _), (4, _), (3, _), (1, _), (0, _)]) 3 O dX6_readsBorrowers_151 rfl (by decide) rfl ?_
              refine tx_goto (pc := 154) 14 O dX6_readsBorrowers_154 rfl ?_
              refine tx_lv (lv' := [(2, _), (1, _), (0, _)]) [0, 4, 5] rfl ?_
              refine ih _ _ ⟨by omega, by omega, by rw [bst_1 f h1 h3, if_neg (by omega)], by rw [up_s]; omega, ?_, by first | exact (h6.up (by omega)).up (by omega) | exact h6.up (by omega)⟩ (by omega) (by omega)
              intro j q1 q2 q3
              by_cases e : j = k
              · subst e
                first | (exfalso; omega) | (rw [up_n (by omega), up_s]; exact hv)
              · first | (rw [up_n (by omega), up_n (by omega)]; exact h5 j q1 (by omega) q3) | (rw [up_n (by omega)]; exact h5 j q1 (by omega) q3)
            · refine tx_iconst (pc := 142) O dX6_readsBorrowers_142 ?_
              refine tx_goto (pc := 143) 147 O dX6_readsBorrowers_143 rfl ?_
              refine tx_iadd (pc := 147) O dX6_readsBorrowers_147 ?_
              refine fX6_122p (pc := 148) O dX6_readsBorrowers_148 ?_
              refine tx_iinc (pc := 151) (lv' := [(2, _), (5, _), (4, _), (3, _), (1, _), (0, _)]) 3 O dX6_readsBorrowers_151 rfl (by decide) rfl ?_
              refine tx_goto (pc := 154) 14 O dX6_readsBorrowers_154 rfl ?_
              refine tx_lv (lv' := [(2, _), (1, _), (0, _)]) [0, 4, 5] rfl ?_
              refine ih _ _ ⟨by omega, by omega, by rw [bst_1 f h1 h3, if_neg (by omega)], by rw [up_s]; omega, ?_, by first | exact (h6.up (by omega)).up (by omega) | exact h6.up (by omega)⟩ (by omega) (by omega)
              intro j q1 q2 q3
              by_cases e : j = k
              · subst e
                first | (exfalso; omega) | (rw [up_n (by omega), up_s]; exact hv)
              · first | (rw [up_n (by omega), up_n (by omega)]; exact h5 j q1 (by omega) q3) | (rw [up_n (by omega)]; exact h5 j q1 (by omega) q3)
        · refine tx_aload_n (pc := 103) 5 O dX6_readsBorrowers_103 rfl rfl ?_
          refine tx_iconst (pc := 104) O dX6_readsBorrowers_104 ?_
          refine fX6_122p (pc := 105) O dX6_readsBorrowers_105 ?_
          refine tx_iload_n (pc := 108) 3 O dX6_readsBorrowers_108 rfl rfl ?_
          have e1 := fB_fault h1 hkn h3 (by omega)
          exact tx_iret O F dX6_readsBorrowers_109 (tx_QI.mk ⟨e1.symm, humM_0 (by omega) up_s, h6.up (by omega)⟩)
    refine tx_iload_n (pc := 14) 0 O dX6_readsBorrowers_14 rfl rfl ?_
    refine tx_iload_n (pc := 15) 1 O dX6_readsBorrowers_15 rfl rfl ?_
    refine tx_icmp_ge (pc := 16) 157 O dX6_readsBorrowers_16 rfl (by omega) (fun c16 => ?_) (fun c16 => ?_)
    · refine tx_iload_n (pc := 157) 1 O dX6_readsBorrowers_157 rfl rfl ?_
      refine tx_iconst (pc := 158) O dX6_readsBorrowers_158 ?_
      refine tx_irem (pc := 159) O dX6_readsBorrowers_159 (by omega) (by omega) ?_
      refine tx_iconst (pc := 160) O dX6_readsBorrowers_160 ?_
      refine tx_icmp_eq (pc := 161) 175 O dX6_readsBorrowers_161 rfl (by omega) (fun c161 => ?_) (fun c161 => ?_)
      · refine tx_iconst (pc := 175) O dX6_readsBorrowers_175 ?_
        exact tx_iret O F dX6_readsBorrowers_176 (tx_QI.mk (by
          have ek : k = n := by omega
          subst ek
          have e1 := fB_end h3
          rw [if_neg (by omega)] at e1
          have e2 : cB f k = (k + 1) / 4 := by unfold cB; rw [if_pos e1]
          refine ⟨e1.symm, ⟨by rw [e2]; exact h4, fun b q1 q2 => ?_⟩, h6⟩
          have q3 := cB_ok (f := f) hn2 q1 q2
          rw [e2] at q2
          have r0 := h5 (4 * b) (by omega) (by omega) (by omega)
          have r1 := h5 (4 * b + 1) (by omega) (by omega) (by omega)
          have r2 := h5 (4 * b + 2) (by omega) (by omega) (by omega)
          rw [show 3 * (4 * b / 4) + 4 * b % 4 = 3 * b by omega] at r0
          rw [show 3 * ((4 * b + 1) / 4) + (4 * b + 1) % 4 = 3 * b + 1 by omega] at r1
          rw [show 3 * ((4 * b + 2) / 4) + (4 * b + 2) % 4 = 3 * b + 2 by omega] at r2
          exact ⟨by rw [r0]; exact q3.2.2.2.2.2.2.1, by rw [r1]; exact q3.2.2.2.2.2.2.2.1, by rw [r2]; exact q3.2.2.2.2.2.2.2.2⟩))
      · refine tx_iload_n (pc := 164) 1 O dX6_readsBorrowers_164 rfl rfl ?_
        refine tx_if_le (pc := 165) 175 O dX6_readsBorrowers_165 rfl (by omega) (fun c165 => ?_) (fun c165 => ?_)
        · refine tx_iconst (pc := 175) O dX6_readsBorrowers_175 ?_
          exact tx_iret O F dX6_readsBorrowers_176 (tx_QI.mk (by
            have ek : k = n := by omega
            subst ek
            have e1 := fB_end h3
            rw [if_neg (by omega)] at e1
            have e2 : cB f k = (k + 1) / 4 := by unfold cB; rw [if_pos e1]
            refine ⟨e1.symm, ⟨by rw [e2]; exact h4, fun b q1 q2 => ?_⟩, h6⟩
            have q3 := cB_ok (f := f) hn2 q1 q2
            rw [e2] at q2
            have r0 := h5 (4 * b) (by omega) (by omega) (by omega)
            have r1 := h5 (4 * b + 1) (by omega) (by omega) (by omega)
            have r2 := h5 (4 * b + 2) (by omega) (by omega) (by omega)
            rw [show 3 * (4 * b / 4) + 4 * b % 4 = 3 * b by omega] at r0
            rw [show 3 * ((4 * b + 1) / 4) + (4 * b + 1) % 4 = 3 * b + 1 by omega] at r1
            rw [show 3 * ((4 * b + 2) / 4) + (4 * b + 2) % 4 = 3 * b + 2 by omega] at r2
            exact ⟨by rw [r0]; exact q3.2.2.2.2.2.2.1, by rw [r1]; exact q3.2.2.2.2.2.2.2.1, by rw [r2]; exact q3.2.2.2.2.2.2.2.2⟩))
        · refine tx_aload_n (pc := 168) 2 O dX6_readsBorrowers_168 rfl rfl ?_
          refine tx_iconst (pc := 169) O dX6_readsBorrowers_169 ?_
          refine fX6_122p (pc := 170) O dX6_readsBorrowers_170 ?_
          refine tx_iload_n (pc := 173) 1 O dX6_readsBorrowers_173 rfl rfl ?_
          exact tx_iret O F dX6_readsBorrowers_174 (tx_QI.mk (by
            have ek : k = n := by omega
            subst ek
            have e1 := fB_end h3
            rw [if_pos (by omega)] at e1
            exact ⟨e1.symm, humM_0 (by omega) up_s, h6.up (by omega)⟩))
    · obtain ⟨hb1, hb2, hb3⟩ := hf k h1 c16
      have hb : M' 105 (60 + k) = f k := by rw [h6 105 _ (by omega)]; exact hb1
      refine tx_aload_n (pc := 19) 2 O dX6_readsBorrowers_19 rfl rfl ?_
      refine fX6_22 (pc := 20) O hR dX6_readsBorrowers_20 ?_
      refine tx_bipush (pc := 23) O dX6_readsBorrowers_23 (by decide) ?_
      refine tx_iload_n (pc := 25) 0 O dX6_readsBorrowers_25 rfl rfl ?_
      refine tx_iadd (pc := 26) O dX6_readsBorrowers_26 ?_
      refine tx_iald (pc := 27) _ O dX6_readsBorrowers_27 (sh_105 w) (by omega) ?_
      rw [hb]
      refine tx_istore_n (pc := 28) (lv' := [(3, _), (2, _), (1, _), (0, _)]) O dX6_readsBorrowers_28 rfl (by decide) rfl ?_
      refine tx_iload_n (pc := 29) 1 O dX6_readsBorrowers_29 rfl rfl ?_
      refine tx_iconst (pc := 30) O dX6_readsBorrowers_30 ?_
      refine tx_irem (pc := 31) O dX6_readsBorrowers_31 (by omega) (by omega) ?_
      refine tx_istore (pc := 32) (lv' := [(4, _), (3, _), (2, _), (1, _), (0, _)]) O dX6_readsBorrowers_32 (by decide) rfl ?_
      refine tx_iload (pc := 34) 0 O dX6_readsBorrowers_34 rfl ?_
      refine tx_iconst (pc := 36) O dX6_readsBorrowers_36 ?_
      refine tx_icmp_ne (pc := 37) 54 O dX6_readsBorrowers_37 rfl (by omega) (fun c37 => ?_) (fun c37 => ?_)
      · refine tx_iload (pc := 54) 0 O dX6_readsBorrowers_54 rfl ?_
        refine tx_iconst (pc := 56) O dX6_readsBorrowers_56 ?_
        refine tx_icmp_ne (pc := 57) 67 O dX6_readsBorrowers_57 rfl (by omega) (fun c57 => ?_) (fun c57 => ?_)
        · refine tx_iload_n (pc := 67) 1 O dX6_readsBorrowers_67 rfl rfl ?_
          refine tx_i2l (pc := 68) O dX6_readsBorrowers_68 (by omega) ?_
          refine tx_ldc2 (pc := 69) (z := 97) O dX6_readsBorrowers_69 q970 rfl ?_
          refine tx_ldc2 (pc := 72) (z := 103) O dX6_readsBorrowers_72 q971 rfl ?_
          refine tx_cS3 (pc := 75) O dX6_readsBorrowers_75 q910 vX6_in (by decide) (Nat.zero_le _) (sX6_in w _ _ _ _ _ (by omega) (by omega) (by omega)) (k_P (fun z75 h75 => ?_))
          refine tx_if_eq (pc := 78) 88 O dX6_readsBorrowers_78 rfl (by omega) (fun c78 => ?_) (fun c78 => ?_)
          · refine tx_iconst (pc := 88) O dX6_readsBorrowers_88 ?_
            first
              | exact K89 c16 _ (by unfold bval; rw [if_neg (by omega), if_pos (by omega)]; exact h61) hw.1 hw.2
              | exact K89 c16 _ (by unfold bval; (repeat' split) <;> omega) (by omega) (by omega)
          · refine tx_iload_n (pc := 81) 1 O dX6_readsBorrowers_81 rfl rfl ?_
            refine tx_bipush (pc := 82) O dX6_readsBorrowers_82 (by decide) ?_
            refine tx_isub (pc := 84) O dX6_readsBorrowers_84 ?_
            refine tx_goto (pc := 85) 89 O dX6_readsBorrowers_85 rfl ?_
            first
              | exact K89 c16 _ (by unfold bval; rw [if_neg (by omega), if_pos (by omega)]; exact h61) hw.1 hw.2
              | exact K89 c16 _ (by unfold bval; (repeat' split) <;> omega) (by omega) (by omega)
        · refine tx_iload_n (pc := 60) 1 O dX6_readsBorrowers_60 rfl rfl ?_
          refine tx_cS1 (pc := 61) O dX6_readsBorrowers_61 q976 vX6_howOf (by decide) (Nat.zero_le _) (sX6_howOf w _ _ _ (by omega)) (k_P (fun z61 h61 => ?_))
          have hw : -1 ≤ z61 ∧ z61 ≤ 255 := by rw [h61]; unfold howP; (repeat' split) <;> omega
          refine tx_goto (pc := 64) 89 O dX6_readsBorrowers_64 rfl ?_
          first
            | exact K89 c16 _ (by unfold bval; rw [if_neg (by omega), if_pos (by omega)]; exact h61) hw.1 hw.2
            | exact K89 c16 _ (by unfold bval; (repeat' split) <;> omega) (by omega) (by omega)
      · refine tx_iload_n (pc := 40) 1 O dX6_readsBorrowers_40 rfl rfl ?_
        refine tx_bipush (pc := 41) O dX6_readsBorrowers_41 (by decide) ?_
        refine tx_icmp_ne (pc := 43) 50 O dX6_readsBorrowers_43 rfl (by omega) (fun c43 => ?_) (fun c43 => ?_)
        · refine tx_iconst (pc := 50) O dX6_readsBorrowers_50 ?_
          refine tx_goto (pc := 51) 89 O dX6_readsBorrowers_51 rfl ?_
          first
            | exact K89 c16 _ (by unfold bval; rw [if_neg (by omega), if_pos (by omega)]; exact h61) hw.1 hw.2
            | exact K89 c16 _ (by unfold bval; (repeat' split) <;> omega) (by omega) (by omega)
        · refine tx_iconst (pc := 46) O dX6_readsBorrowers_46 ?_
          refine tx_goto (pc := 47) 89 O dX6_readsBorrowers_47 rfl ?_
          first
            | exact K89 c16 _ (by unfold bval; rw [if_neg (by omega), if_pos (by omega)]; exact h61) hw.1 hw.2
            | exact K89 c16 _ (by unfold bval; (repeat' split) <;> omega) (by omega) (by omega)
  refine tx_aload_n (pc := 0) 0 O dX6_readsBorrowers_0 rfl rfl ?_
  refine tx_iconst (pc := 1) O dX6_readsBorrowers_1 ?_
  refine fX6_122p (pc := 2) O dX6_readsBorrowers_2 ?_
  refine tx_aload_n (pc := 5) 0 O dX6_readsBorrowers_5 rfl rfl ?_
  refine fX6_25 (pc := 6) O hR dX6_readsBorrowers_6 ?_
  refine tx_iconst (pc := 9) O dX6_readsBorrowers_9 ?_
  refine tx_iald (pc := 10) _ O dX6_readsBorrowers_10 (sh_106 w) (by omega) ?_
  rw [up_n (by omega), hn]
  refine tx_istore_n (pc := 11) (lv' := [(1, _), (0, _)]) O dX6_readsBorrowers_11 rfl (by decide) rfl ?_
  refine tx_iconst (pc := 12) O dX6_readsBorrowers_12 ?_
  refine tx_istore_n (pc := 13) (lv' := [(2, _), (1, _), (0, _)]) O dX6_readsBorrowers_13 rfl (by decide) rfl ?_
  exact K 0 _ ⟨by omega, hn2.1, bst_0 f, by rw [up_s]; rfl, fun j q1 q2 => by omega, kpB.rf.up (by omega)⟩

