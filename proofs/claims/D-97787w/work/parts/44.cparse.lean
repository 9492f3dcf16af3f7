/-! COMPONENT, texts read: readsTunes -/
set_option maxRecDepth 100000
def rowsC (M : TM) (D : List (List Int)) : Prop := ∀ t : Int, 0 ≤ t → t < D.length → tuIs M (400 + t) (gl D t)
def toldC (M : TM) (D : List (List Int)) : Prop := M 1 4 = D.length ∧ rowsC M D
def kcT (M M' : TM) : Prop := ∀ a b : Int, ((a < 400 ∨ 405 < a) ∧ (a < 1400 ∨ 1405 < a) ∧ (a ≠ 1 ∨ b ≠ 4)) → M' a b = M a b
theorem kcT.rf {M : TM} : kcT M M := fun _ _ _ => rfl
theorem kcT.tr {M M' M'' : TM} (h : kcT M M') (h' : kcT M' M'') : kcT M M'' := fun a b q => (h' a b q).trans (h a b q)
theorem kp1.ct {t : Int} {M M' : TM} (h : kp1 (400 + t) M M') (ht : 0 ≤ t ∧ t ≤ 5) : kcT M M' := fun a b q => h a b (by omega)
theorem up_kp1 {M : TM} {i k v : Int} : kp1 i M (up M i k v) := fun a b q => by rw [up_n (by omega)]
theorem tuIs_nil {M : TM} {i : Int} (h : M i 1 = 0) : tuIs M i [] := ⟨by simpa using h, fun j q1 q2 => by simp at q2; omega⟩
theorem rowsC.kp {M M' : TM} {D : List (List Int)} (h : rowsC M D) (h5 : D.length ≤ 5) (k : kp1 (400 + D.length) M M') : rowsC M' D := fun t q1 q2 => k.tu (by omega) (by omega) (by omega) (h t q1 q2)
theorem rowsC.add {M : TM} {D : List (List Int)} {c : List Int} (h : rowsC M D) (hc : tuIs M (400 + D.length) c) : rowsC M (D ++ [c]) := by
  intro t q1 q2
  have hl : ((D ++ [c]).length : Int) = D.length + 1 := by simp
  by_cases e : t < D.length
  · rw [gl_lt q1 e]; exact h t q1 e
  · rw [show t = (D.length : Int) by omega, gl_eq]; exact hc
theorem tuIs_up {M : TM} {i a k v : Int} {l : List Int} (h : a ≠ i ∧ a ≠ i + 1000) (ht : tuIs M i l) : tuIs (up M a k v) i l := ⟨by rw [up_n (by omega)]; exact ht.1, fun j q1 q2 => by rw [up_n (by omega)]; exact ht.2 j q1 q2⟩
theorem toldC_nil {M : TM} (h : M 1 4 = 0) : toldC M [] := ⟨by simpa using h, fun t h1 h2 => by simp at h2; omega⟩
theorem ad40_lt {l : List Int} {v : Int} (h : l.length < 40) : ad40 l v = l ++ [v] := by unfold ad40; rw [if_pos h]
theorem sX0_readsTunes (w : WT) (R M : TM) (f : Int → Int) (n : Int) (hR : RL R) (hn : M 201 0 = n) (hn2 : 0 ≤ n ∧ n ≤ 59) (hf : ∀ k, 0 ≤ k → k < n → M 300 k = f k ∧ 0 ≤ f k ∧ f k ≤ 255) : tx_S w yX0_readsTunes cX0_readsTunes 4 (some .int) 3 [rV (wa w) 1] R M (QI R (fun z M' => z = (pT f n).1 ∧ toldC M' (pT f n).2 ∧ kcT M M')) := by
  refine tx_S.ofk (lv := [(0, _)]) [1] (by decide) (by simp only [List.map_cons, List.map_nil, cat_i, cat_l, cat_r]) (by decide) rfl (fun E O F => ?_)
  have K0 : ∀ (i t : Int) (M' : TM) (D : List (List Int)), (t = D.length ∧ pT f n = (-1, D) ∧ rowsC M' D ∧ kcT M M') → tx_X w E 24 [(3, iV 0), (2, iV i), (1, iV t), (0, rV (wa w) 1)] [] R M' := by
    rintro i t M' D ⟨h1, h2, h3, h4⟩
    refine tx_iload_n (pc := 24) 0 O dX0_readsTunes_24 rfl rfl ?_
    refine tx_if_eq (pc := 25) 154 O dX0_readsTunes_25 rfl (by omega) (fun c25 => ?_) (fun c25 => ?_)
    · refine tx_aload_n (pc := 154) 3 O dX0_readsTunes_154 rfl rfl ?_
      refine tx_iload_n (pc := 155) 2 O dX0_readsTunes_155 rfl rfl ?_
      refine fX0_25p (pc := 156) O dX0_readsTunes_156 ?_
      refine tx_iconst (pc := 159) O dX0_readsTunes_159 ?_
      exact tx_iret O F dX0_readsTunes_160 (tx_QI.mk (by
        rw [h2]
        exact ⟨rfl, ⟨by rw [up_s, h1], fun k q1 q2 => (tuIs_up (by omega) (h3 k q1 q2))⟩, h4.tr (fun a b q => by rw [up_n (by omega)])⟩))
    · exfalso
      omega
  have K1 : ∀ q : Int × Int × TM × List (List Int), (0 ≤ q.1 ∧ q.1 ≤ n ∧ 0 < n ∧ q.2.1 = q.2.2.2.length ∧ pst f q.1 = (q.2.2.2, [], -1) ∧ q.2.2.1 1 4 = 0 ∧ rowsC q.2.2.1 q.2.2.2 ∧ kcT M q.2.2.1) → tx_X w E 24 [(3, iV 1), (2, iV q.1), (1, iV q.2.1), (0, rV (wa w) 1)] [] R q.2.2.1 := by
    refine lp_m _ _ (fun q => (n - q.1).toNat) ?_
    rintro ⟨i, t, M', D⟩ ⟨h1, h2, h0, h3, h4, h5, h6, h7⟩ ih
    dsimp only at h1 h2 h3 h4 h5 h6 h7 ⊢
    obtain ⟨g1, -, -⟩ := pst_ok f n i h1 h2
    rw [h4] at g1
    dsimp only at g1
    have gD := g1.1
    have hz0 := ntA_ok f n i
    have hn' : M' 201 0 = n := by rw [h7 _ _ (by omega)]; exact hn
    have hf' : ∀ k, 0 ≤ k → k < n → M' (300 + 0) k = f k ∧ 0 ≤ f k ∧ f k ≤ 255 := fun k q1 q2 => by
      have := hf k q1 q2
      exact ⟨by rw [show (300 : Int) + 0 = 300 from rfl, h7 _ _ (by omega)]; exact this.1, this.2⟩
    have bad : (t = 6 ∨ ntA f n i = -1) → pT f n = (i, []) := by
      intro hb
      by_cases hi : i < n
      · by_cases h59 : f i = 59
        · exact pT_fault h1 hi (ps_semi0 h1 h4 h59)
        · refine pT_fault h1 hi (ps_bad h1 h4 h59 ?_)
          rcases hb with q | q
          · omega
          · unfold ntA at q
            by_cases e : i < n ∧ 97 ≤ f i ∧ f i ≤ 103
            · rw [if_pos e] at q; omega
            · omega
      · have e : i = n := by omega
        subst e
        rw [pT_none h4, if_neg (by omega)]
    have K2 : t ≤ 5 → ntA f n i ≠ -1 → ∀ q : Int × TM × List Int, (q.1 = i + q.2.2.length ∧ q.1 ≤ n ∧ pst f q.1 = (D, q.2.2, -1) ∧ q.2.2.length ≤ 12 ∧ tuIs q.2.1 (400 + t) q.2.2 ∧ kp1 (400 + t) M' q.2.1) → tx_X w E 56 [(3, iV 1), (2, iV q.1), (1, iV t), (0, rV (wa w) 1)] [] R q.2.1 := by
      intro ht5 hfst
      refine lp_m _ _ (fun q => (n - q.1).toNat) ?_
      rintro ⟨j, M2, c⟩ ⟨r1, r2, r3, r4, r5, r6⟩ ih2
      dsimp only at r1 r2 r3 r4 r5 r6 ⊢
      have kk : kcT M M2 := h7.tr (r6.ct (by omega))
      have hn' : M2 201 0 = n := by rw [kk _ _ (by omega)]; exact hn
      have hf' : ∀ k, 0 ≤ k → k < n → M2 (300 + 0) k = f k ∧ 0 ≤ f k ∧ f k ≤ 255 := fun k q1 q2 => by
        have := hf k q1 q2
        exact ⟨by rw [show (300 : Int) + 0 = 300 from rfl, kk _ _ (by omega)]; exact this.1, this.2⟩
      have hrow : rowsC M2 D := h6.kp (by omega) (by rw [← h3]; exact r6)
      have h14 : M2 1 4 = 0 := by rw [r6 _ _ (by omega)]; exact h5
      have hz := ntA_ok f n j
      refine tx_aload_n (pc := 56) 3 O dX0_readsTunes_56 rfl rfl ?_
      refine tx_iconst (pc := 57) O dX0_readsTunes_57 ?_
      refine tx_iload_n (pc := 58) 1 O dX0_readsTunes_58 rfl rfl ?_
      refine tx_cV2 (pc := 59) O dX0_readsTunes_59 q136 vX0_noteAt (sh_1 w) rfl (by decide) (Nat.zero_le _) (sX0_noteAt w _ _ _ _ f n hR (Or.inl rfl) (by omega) hn' (by omega) hf') (k_P (fun z59 h59 => ?_))
      rw [h59]
      refine tx_iconst (pc := 62) O dX0_readsTunes_62 ?_
      refine tx_icmp_eq (pc := 63) 101 O dX0_readsTunes_63 rfl (by omega) (fun c63 => ?_) (fun c63 => ?_)
      · have hex : ntA f n j = -1 ∨ c.length = 12 := by omega
        have hc1 : c ≠ [] := by
          intro e
          subst e
          have : j = i := by simpa using r1
          subst this
          rcases hex with q | q
          · exact hfst q
          · simp at q
        have hc2 : 0 < c.length := List.length_pos_iff.mpr hc1
        refine tx_iinc (pc := 101) (lv' := [(1, _), (3, _), (2, _), (0, _)]) 2 O dX0_readsTunes_101 rfl (by decide) rfl ?_
        refine tx_iload_n (pc := 104) 2 O dX0_readsTunes_104 rfl rfl ?_
        refine tx_aload_n (pc := 105) 3 O dX0_readsTunes_105 rfl rfl ?_
        refine fX0_13 (pc := 106) O hR dX0_readsTunes_106 ?_
        refine tx_iconst (pc := 109) O dX0_readsTunes_109 ?_
        refine tx_iald (pc := 110) _ O dX0_readsTunes_110 (sh_201 w) (by omega) ?_
        rw [hn']
        refine tx_icmp_ge (pc := 111) 118 O dX0_readsTunes_111 rfl (by omega) (fun c111 => ?_) (fun c111 => ?_)
        · have ejn : j = n := by omega
          refine tx_iconst (pc := 118) O dX0_readsTunes_118 ?_
          refine tx_istore_n (pc := 119) (lv' := [(3, _), (1, _), (2, _), (0, _)]) O dX0_readsTunes_119 rfl (by decide) rfl ?_
          refine tx_iload_n (pc := 120) 0 O dX0_readsTunes_120 rfl rfl ?_
          refine tx_if_eq (pc := 121) 139 O dX0_readsTunes_121 rfl (by omega) (fun c121 => ?_) (fun c121 => ?_)
          · refine tx_iload_n (pc := 139) 2 O dX0_readsTunes_139 rfl rfl ?_
            refine tx_iload_n (pc := 140) 0 O dX0_readsTunes_140 rfl rfl ?_
            refine tx_if_eq (pc := 141) 148 O dX0_readsTunes_141 rfl (by omega) (fun c141 => ?_) (fun c141 => ?_)
            · refine tx_iconst (pc := 148) O dX0_readsTunes_148 ?_
              refine tx_iadd (pc := 149) O dX0_readsTunes_149 ?_
              refine tx_istore_n (pc := 150) (lv' := [(2, _), (3, _), (1, _), (0, _)]) O dX0_readsTunes_150 rfl (by decide) rfl ?_
              refine tx_goto (pc := 151) 24 O dX0_readsTunes_151 rfl ?_
              refine tx_lv (lv' := [(3, _), (2, _), (1, _), (0, _)]) [1, 0, 2, 3] rfl ?_
              first
                | exact K0 (j + 0) (t + 1) M2 (D ++ [c]) ⟨by simp; omega, by rw [ejn] at r3; exact pT_all hc1 r3, hrow.add (by rw [← h3]; exact r5), kk⟩
                | (refine ih (j + 1, t + 1, M2, D ++ [c]) ?_ (by dsimp only; omega)
                   dsimp only
                   exact ⟨by omega, by omega, h0, by simp; omega, ps_semi (by omega) hc1 r3 c134, h14, hrow.add (by rw [← h3]; exact r5), kk⟩)
            · exact absurd c141 (by decide)
          · exact absurd c121 (by decide)
        · obtain ⟨f1, f2, f3⟩ := hf' j (by omega) c111
          rw [show (300 : Int) + 0 = 300 from rfl] at f1
          refine tx_iconst (pc := 114) O dX0_readsTunes_114 ?_
          refine tx_goto (pc := 115) 119 O dX0_readsTunes_115 rfl ?_
          refine tx_istore_n (pc := 119) (lv' := [(3, _), (1, _), (2, _), (0, _)]) O dX0_readsTunes_119 rfl (by decide) rfl ?_
          refine tx_iload_n (pc := 120) 0 O dX0_readsTunes_120 rfl rfl ?_
          refine tx_if_eq (pc := 121) 139 O dX0_readsTunes_121 rfl (by omega) (fun c121 => ?_) (fun c121 => ?_)
          · exact absurd c121 (by decide)
          · refine tx_aload_n (pc := 124) 3 O dX0_readsTunes_124 rfl rfl ?_
            refine fX0_17 (pc := 125) O hR dX0_readsTunes_125 ?_
            refine tx_iconst (pc := 128) O dX0_readsTunes_128 ?_
            refine tx_aald (pc := 129) _ _ O dX0_readsTunes_129 (sh_200 w) (by decide) (by omega) ?_
            rw [hR.2.2.1 0, show (300 : Int) + 0 = 300 from rfl]
            refine tx_iload_n (pc := 130) 2 O dX0_readsTunes_130 rfl rfl ?_
            refine tx_iald (pc := 131) _ O dX0_readsTunes_131 (sh_300 w) (by omega) ?_
            rw [f1]
            refine tx_bipush (pc := 132) O dX0_readsTunes_132 (by decide) ?_
            refine tx_icmp_eq (pc := 134) 139 O dX0_readsTunes_134 rfl (by omega) (fun c134 => ?_) (fun c134 => ?_)
            · refine tx_iload_n (pc := 139) 2 O dX0_readsTunes_139 rfl rfl ?_
              refine tx_iload_n (pc := 140) 0 O dX0_readsTunes_140 rfl rfl ?_
              refine tx_if_eq (pc := 141) 148 O dX0_readsTunes_141 rfl (by omega) (fun c141 => ?_) (fun c141 => ?_)
              · exact absurd c141 (by decide)
              · refine tx_iconst (pc := 144) O dX0_readsTunes_144 ?_
                refine tx_goto (pc := 145) 149 O dX0_readsTunes_145 rfl ?_
                refine tx_iadd (pc := 149) O dX0_readsTunes_149 ?_
                refine tx_istore_n (pc := 150) (lv' := [(2, _), (3, _), (1, _), (0, _)]) O dX0_readsTunes_150 rfl (by decide) rfl ?_
                refine tx_goto (pc := 151) 24 O dX0_readsTunes_151 rfl ?_
                refine tx_lv (lv' := [(3, _), (2, _), (1, _), (0, _)]) [1, 0, 2, 3] rfl ?_
                first
                  | exact K0 (j + 0) (t + 1) M2 (D ++ [c]) ⟨by simp; omega, by rw [ejn] at r3; exact pT_all hc1 r3, hrow.add (by rw [← h3]; exact r5), kk⟩
                  | (refine ih (j + 1, t + 1, M2, D ++ [c]) ?_ (by dsimp only; omega)
                     dsimp only
                     exact ⟨by omega, by omega, h0, by simp; omega, ps_semi (by omega) hc1 r3 c134, h14, hrow.add (by rw [← h3]; exact r5), kk⟩)
            · refine tx_iload_n (pc := 137) 2 O dX0_readsTunes_137 rfl rfl ?_
              exact tx_iret O F dX0_readsTunes_138 (tx_QI.mk (by
                have hb : f j < 97 ∨ 103 < f j ∨ c.length = 12 ∨ D.length = 6 := by
                  rcases hex with q | q
                  · unfold ntA at q
                    by_cases e : j < n ∧ 97 ≤ f j ∧ f j ≤ 103
                    · rw [if_pos e] at q; omega
                    · omega
                  · omega
                rw [pT_fault (by omega) c111 (ps_bad (by omega) r3 c134 hb)]
                exact ⟨rfl, toldC_nil h14, kk⟩))
      · refine tx_aload_n (pc := 66) 3 O dX0_readsTunes_66 rfl rfl ?_
        refine fX0_33 (pc := 67) O hR dX0_readsTunes_67 ?_
        refine tx_iload_n (pc := 70) 2 O dX0_readsTunes_70 rfl rfl ?_
        refine tx_aald (pc := 71) _ _ O dX0_readsTunes_71 (sh_205 w) (by decide) (by omega) ?_
        rw [hR.2.2.2.2.1]
        refine fX0_37 (pc := 72) O (by omega) dX0_readsTunes_72 ?_
        rw [r5.1]
        refine tx_bipush (pc := 75) O dX0_readsTunes_75 (by decide) ?_
        refine tx_icmp_ge (pc := 77) 101 O dX0_readsTunes_77 rfl (by omega) (fun c77 => ?_) (fun c77 => ?_)
        · have hex : ntA f n j = -1 ∨ c.length = 12 := by omega
          have hc1 : c ≠ [] := by
            intro e
            subst e
            have : j = i := by simpa using r1
            subst this
            rcases hex with q | q
            · exact hfst q
            · simp at q
          have hc2 : 0 < c.length := List.length_pos_iff.mpr hc1
          refine tx_iinc (pc := 101) (lv' := [(1, _), (3, _), (2, _), (0, _)]) 2 O dX0_readsTunes_101 rfl (by decide) rfl ?_
          refine tx_iload_n (pc := 104) 2 O dX0_readsTunes_104 rfl rfl ?_
          refine tx_aload_n (pc := 105) 3 O dX0_readsTunes_105 rfl rfl ?_
          refine fX0_13 (pc := 106) O hR dX0_readsTunes_106 ?_
          refine tx_iconst (pc := 109) O dX0_readsTunes_109 ?_
          refine tx_iald (pc := 110) _ O dX0_readsTunes_110 (sh_201 w) (by omega) ?_
          rw [hn']
          refine tx_icmp_ge (pc := 111) 118 O dX0_readsTunes_111 rfl (by omega) (fun c111 => ?_) (fun c111 => ?_)
          · have ejn : j = n := by omega
            refine tx_iconst (pc := 118) O dX0_readsTunes_118 ?_
            refine tx_istore_n (pc := 119) (lv' := [(3, _), (1, _), (2, _), (0, _)]) O dX0_readsTunes_119 rfl (by decide) rfl ?_
            refine tx_iload_n (pc := 120) 0 O dX0_readsTunes_120 rfl rfl ?_
            refine tx_if_eq (pc := 121) 139 O dX0_readsTunes_121 rfl (by omega) (fun c121 => ?_) (fun c121 => ?_)
            · refine tx_iload_n (pc := 139) 2 O dX0_readsTunes_139 rfl rfl ?_
              refine tx_iload_n (pc := 140) 0 O dX0_readsTunes_140 rfl rfl ?_
              refine tx_if_eq (pc := 141) 148 O dX0_readsTunes_141 rfl (by omega) (fun c141 => ?_) (fun c141 => ?_)
              · refine tx_iconst (pc := 148) O dX0_readsTunes_148 ?_
                refine tx_iadd (pc := 149) O dX0_readsTunes_149 ?_
                refine tx_istore_n (pc := 150) (lv' := [(2, _), (3, _), (1, _), (0, _)]) O dX0_readsTunes_150 rfl (by decide) rfl ?_
                refine tx_goto (pc := 151) 24 O dX0_readsTunes_151 rfl ?_
                refine tx_lv (lv' := [(3, _), (2, _), (1, _), (0, _)]) [1, 0, 2, 3] rfl ?_
                first
                  | exact K0 (j + 0) (t + 1) M2 (D ++ [c]) ⟨by simp; omega, by rw [ejn] at r3; exact pT_all hc1 r3, hrow.add (by rw [← h3]; exact r5), kk⟩
                  | (refine ih (j + 1, t + 1, M2, D ++ [c]) ?_ (by dsimp only; omega)
                     dsimp only
                     exact ⟨by omega, by omega, h0, by simp; omega, ps_semi (by omega) hc1 r3 c134, h14, hrow.add (by rw [← h3]; exact r5), kk⟩)
              · exact absurd c141 (by decide)
            · exact absurd c121 (by decide)
          · obtain ⟨f1, f2, f3⟩ := hf' j (by omega) c111
            rw [show (300 : Int) + 0 = 300 from rfl] at f1
            refine tx_iconst (pc := 114) O dX0_readsTunes_114 ?_
            refine tx_goto (pc := 115) 119 O dX0_readsTunes_115 rfl ?_
            refine tx_istore_n (pc := 119) (lv' := [(3, _), (1, _), (2, _), (0, _)]) O dX0_readsTunes_119 rfl (by decide) rfl ?_
            refine tx_iload_n (pc := 120) 0 O dX0_readsTunes_120 rfl rfl ?_
            refine tx_if_eq (pc := 121) 139 O dX0_readsTunes_121 rfl (by omega) (fun c121 => ?_) (fun c121 => ?_)
            · exact absurd c121 (by decide)
            · refine tx_aload_n (pc := 124) 3 O dX0_readsTunes_124 rfl rfl ?_
              refine fX0_17 (pc := 125) O hR dX0_readsTunes_125 ?_
              refine tx_iconst (pc := 128) O dX0_readsTunes_128 ?_
              refine tx_aald (pc := 129) _ _ O dX0_readsTunes_129 (sh_200 w) (by decide) (by omega) ?_
              rw [hR.2.2.1 0, show (300 : Int) + 0 = 300 from rfl]
              refine tx_iload_n (pc := 130) 2 O dX0_readsTunes_130 rfl rfl ?_
              refine tx_iald (pc := 131) _ O dX0_readsTunes_131 (sh_300 w) (by omega) ?_
              rw [f1]
              refine tx_bipush (pc := 132) O dX0_readsTunes_132 (by decide) ?_
              refine tx_icmp_eq (pc := 134) 139 O dX0_readsTunes_134 rfl (by omega) (fun c134 => ?_) (fun c134 => ?_)
              · refine tx_iload_n (pc := 139) 2 O dX0_readsTunes_139 rfl rfl ?_
                refine tx_iload_n (pc := 140) 0 O dX0_readsTunes_140 rfl rfl ?_
                refine tx_if_eq (pc := 141) 148 O dX0_readsTunes_141 rfl (by omega) (fun c141 => ?_) (fun c141 => ?_)
                · exact absurd c141 (by decide)
                · refine tx_iconst (pc := 144) O dX0_readsTunes_144 ?_
                  refine tx_goto (pc := 145) 149 O dX0_readsTunes_145 rfl ?_
                  refine tx_iadd (pc := 149) O dX0_readsTunes_149 ?_
                  refine tx_istore_n (pc := 150) (lv' := [(2, _), (3, _), (1, _), (0, _)]) O dX0_readsTunes_150 rfl (by decide) rfl ?_
                  refine tx_goto (pc := 151) 24 O dX0_readsTunes_151 rfl ?_
                  refine tx_lv (lv' := [(3, _), (2, _), (1, _), (0, _)]) [1, 0, 2, 3] rfl ?_
                  first
                    | exact K0 (j + 0) (t + 1) M2 (D ++ [c]) ⟨by simp; omega, by rw [ejn] at r3; exact pT_all hc1 r3, hrow.add (by rw [← h3]; exact r5), kk⟩
                    | (refine ih (j + 1, t + 1, M2, D ++ [c]) ?_ (by dsimp only; omega)
                       dsimp only
                       exact ⟨by omega, by omega, h0, by simp; omega, ps_semi (by omega) hc1 r3 c134, h14, hrow.add (by rw [← h3]; exact r5), kk⟩)
              · refine tx_iload_n (pc := 137) 2 O dX0_readsTunes_137 rfl rfl ?_
                exact tx_iret O F dX0_readsTunes_138 (tx_QI.mk (by
                  have hb : f j < 97 ∨ 103 < f j ∨ c.length = 12 ∨ D.length = 6 := by
                    rcases hex with q | q
                    · unfold ntA at q
                      by_cases e : j < n ∧ 97 ≤ f j ∧ f j ≤ 103
                      · rw [if_pos e] at q; omega
                      · omega
                    · omega
                  rw [pT_fault (by omega) c111 (ps_bad (by omega) r3 c134 hb)]
                  exact ⟨rfl, toldC_nil h14, kk⟩))
        · refine tx_aload_n (pc := 80) 3 O dX0_readsTunes_80 rfl rfl ?_
          refine fX0_33 (pc := 81) O hR dX0_readsTunes_81 ?_
          refine tx_iload_n (pc := 84) 2 O dX0_readsTunes_84 rfl rfl ?_
          refine tx_aald (pc := 85) _ _ O dX0_readsTunes_85 (sh_205 w) (by decide) (by omega) ?_
          rw [hR.2.2.2.2.1]
          refine tx_aload_n (pc := 86) 3 O dX0_readsTunes_86 rfl rfl ?_
          refine tx_iconst (pc := 87) O dX0_readsTunes_87 ?_
          refine tx_iload_n (pc := 88) 1 O dX0_readsTunes_88 rfl rfl ?_
          refine tx_cV2 (pc := 89) O dX0_readsTunes_89 q136 vX0_noteAt (sh_1 w) rfl (by decide) (by simp only [List.map_cons, List.map_nil, cat_i, cat_l, cat_r, List.sum_cons, List.sum_nil]; decide) (sX0_noteAt w _ _ _ _ f n hR (Or.inl rfl) (by omega) hn' (by omega) hf') (k_P (fun z89 h89 => ?_))
          rw [h89]
          refine tx_cV1 (pc := 92) O dX0_readsTunes_92 q140 vX1_adds (sh_t w (by omega)) rfl (by decide) (Nat.zero_le _) (sX1_adds w _ _ _ _ _ hR (by omega) r5 (by omega)) (k_V (fun M92 h92 => ?_))
          rw [ad40_lt (by omega)] at h92
          refine tx_iinc (pc := 95) (lv' := [(2, _), (3, _), (1, _), (0, _)]) 1 O dX0_readsTunes_95 rfl (by decide) rfl ?_
          refine tx_goto (pc := 98) 56 O dX0_readsTunes_98 rfl ?_
          refine tx_lv (lv' := [(3, _), (2, _), (1, _), (0, _)]) [1, 0, 2, 3] rfl ?_
          have hv : j < n ∧ 97 ≤ f j ∧ f j ≤ 103 := by
            apply Classical.byContradiction
            intro q
            unfold ntA at c63
            rw [if_neg q] at c63
            exact c63 rfl
          have hv2 : ntA f n j = f j - 97 := by unfold ntA; rw [if_pos hv]
          rw [hv2] at h92
          refine ih2 (j + 1, M92, c ++ [f j - 97]) ?_ (by dsimp only; omega)
          dsimp only
          exact ⟨by simp; omega, by omega, ps_note (by omega) r3 (by omega), by simp; omega, h92.1, r6.tr h92.2⟩
    refine tx_iload_n (pc := 24) 0 O dX0_readsTunes_24 rfl rfl ?_
    refine tx_if_eq (pc := 25) 154 O dX0_readsTunes_25 rfl (by omega) (fun c25 => ?_) (fun c25 => ?_)
    · exfalso
      omega
    · refine tx_iload_n (pc := 28) 2 O dX0_readsTunes_28 rfl rfl ?_
      refine tx_bipush (pc := 29) O dX0_readsTunes_29 (by decide) ?_
      refine tx_icmp_eq (pc := 31) 44 O dX0_readsTunes_31 rfl (by omega) (fun c31 => ?_) (fun c31 => ?_)
      · refine tx_iload_n (pc := 44) 1 O dX0_readsTunes_44 rfl rfl ?_
        exact tx_iret O F dX0_readsTunes_45 (tx_QI.mk (by
          rw [bad (by first | exact Or.inl c31 | (right; omega))]
          exact ⟨rfl, toldC_nil h5, h7⟩))
      · refine tx_aload_n (pc := 34) 3 O dX0_readsTunes_34 rfl rfl ?_
        refine tx_iconst (pc := 35) O dX0_readsTunes_35 ?_
        refine tx_iload_n (pc := 36) 1 O dX0_readsTunes_36 rfl rfl ?_
        refine tx_cV2 (pc := 37) O dX0_readsTunes_37 q136 vX0_noteAt (sh_1 w) rfl (by decide) (Nat.zero_le _) (sX0_noteAt w _ _ _ _ f n hR (Or.inl rfl) (by omega) hn' (by omega) hf') (k_P (fun z37 h37 => ?_))
        refine tx_iconst (pc := 40) O dX0_readsTunes_40 ?_
        refine tx_icmp_ne (pc := 41) 46 O dX0_readsTunes_41 rfl (by omega) (fun c41 => ?_) (fun c41 => ?_)
        · refine tx_aload_n (pc := 46) 3 O dX0_readsTunes_46 rfl rfl ?_
          refine fX0_33 (pc := 47) O hR dX0_readsTunes_47 ?_
          refine tx_iload_n (pc := 50) 2 O dX0_readsTunes_50 rfl rfl ?_
          refine tx_aald (pc := 51) _ _ O dX0_readsTunes_51 (sh_205 w) (by decide) (by omega) ?_
          rw [hR.2.2.2.2.1]
          refine tx_iconst (pc := 52) O dX0_readsTunes_52 ?_
          refine fX0_37p (pc := 53) O (by omega) dX0_readsTunes_53 ?_
          refine K2 (by omega) (by omega) (i, up M' (400 + t) 1 0, []) ?_
          dsimp only
          exact ⟨by simp, h2, h4, by simp, tuIs_nil up_s, up_kp1⟩
        · refine tx_iload_n (pc := 44) 1 O dX0_readsTunes_44 rfl rfl ?_
          exact tx_iret O F dX0_readsTunes_45 (tx_QI.mk (by
            rw [bad (by first | exact Or.inl c31 | (right; omega))]
            exact ⟨rfl, toldC_nil h5, h7⟩))
  refine tx_iconst (pc := 0) O dX0_readsTunes_0 ?_
  refine tx_istore_n (pc := 1) (lv' := [(1, _), (0, _)]) O dX0_readsTunes_1 rfl (by decide) rfl ?_
  refine tx_iconst (pc := 2) O dX0_readsTunes_2 ?_
  refine tx_istore_n (pc := 3) (lv' := [(2, _), (1, _), (0, _)]) O dX0_readsTunes_3 rfl (by decide) rfl ?_
  refine tx_aload_n (pc := 4) 2 O dX0_readsTunes_4 rfl rfl ?_
  refine fX0_13 (pc := 5) O hR dX0_readsTunes_5 ?_
  refine tx_iconst (pc := 8) O dX0_readsTunes_8 ?_
  refine tx_iald (pc := 9) _ O dX0_readsTunes_9 (sh_201 w) (by omega) ?_
  rw [hn]
  refine tx_if_le (pc := 10) 17 O dX0_readsTunes_10 rfl (by omega) (fun c10 => ?_) (fun c10 => ?_)
  · refine tx_iconst (pc := 17) O dX0_readsTunes_17 ?_
    refine tx_istore_n (pc := 18) (lv' := [(3, _), (2, _), (1, _), (0, _)]) O dX0_readsTunes_18 rfl (by decide) rfl ?_
    refine tx_aload_n (pc := 19) 3 O dX0_readsTunes_19 rfl rfl ?_
    refine tx_iconst (pc := 20) O dX0_readsTunes_20 ?_
    refine fX0_25p (pc := 21) O dX0_readsTunes_21 ?_
    first
      | exact K0 0 0 (up M 1 4 0) [] ⟨rfl, by rw [show n = 0 by omega]; rfl, fun t q1 q2 => by simp at q2; omega, fun a b q => by rw [up_n (by omega)]⟩
      | (refine K1 (0, 0, up M 1 4 0, []) ?_
         dsimp only
         exact ⟨by omega, by omega, by omega, rfl, pst_0 f, up_s, fun t q1 q2 => by simp at q2; omega, fun a b q => by rw [up_n (by omega)]⟩)
  · refine tx_iconst (pc := 13) O dX0_readsTunes_13 ?_
    refine tx_goto (pc := 14) 18 O dX0_readsTunes_14 rfl ?_
    refine tx_istore_n (pc := 18) (lv' := [(3, _), (2, _), (1, _), (0, _)]) O dX0_readsTunes_18 rfl (by decide) rfl ?_
    refine tx_aload_n (pc := 19) 3 O dX0_readsTunes_19 rfl rfl ?_
    refine tx_iconst (pc := 20) O dX0_readsTunes_20 ?_
    refine fX0_25p (pc := 21) O dX0_readsTunes_21 ?_
    first
      | exact K0 0 0 (up M 1 4 0) [] ⟨rfl, by rw [show n = 0 by omega]; rfl, fun t q1 q2 => by simp at q2; omega, fun a b q => by rw [up_n (by omega)]⟩
      | (refine K1 (0, 0, up M 1 4 0, []) ?_
         dsimp only
         exact ⟨by omega, by omega, by omega, rfl, pst_0 f, up_s, fun t q1 q2 => by simp at q2; omega, fun a b q => by rw [up_n (by omega)]⟩)

