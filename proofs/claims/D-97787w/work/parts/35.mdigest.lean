/-! MODEL: digest -/
set_option maxRecDepth 100000
noncomputable def digA (u : PU) (k : Int) : Int := itI (fun k h => dg h (cntP u 0 k)) 17 k
noncomputable def digB (u : PU) (t : Int) : Int := itI (fun t h => dgT u h t) (dg (dg (digA u 8) (pT (uf0 u) (un0 u)).1) (fB (uf1 u) (un1 u))) t
def bqv (u : PU) (b k : Int) : Int := if k = 0 then (uq u b).1 else if k = 1 then (uq u b).2.1 else (uq u b).2.2
def digC1 (u : PU) (b h k : Int) : Int := itI (fun k h => dg h (bqv u b k)) h k
noncomputable def digC (u : PU) (b : Int) : Int := itI (fun b h => digC1 u b h 3) (digB u (uT u).length) b
def digD1 (u : PU) (k h j : Int) : Int := itI (fun j h => dg h (cameP (runP u (uear u) 40) k j)) h j
noncomputable def digD (u : PU) (k : Int) : Int := itI (fun k h => digD1 u k h 3) (digC u (uB u)) k
noncomputable def digP (u : PU) : Int := dg (dg (dg (dg (dg (dg (digD u (unl u)) (intP u (runP u (uear u) 1))) (intP u (runP u (uear u) 10))) (intP u (runP u (uear u) 40))) (homeP u (uear u) 3 40)) (intP u (runP u 0 40) - intP u (runP u 9 40))) (bestP u 1)
theorem cntP_lat {u : PU} {a b k : Int} (h : k < 8) : cntP u a k = cntP u b k := by
  unfold cntP
  (repeat' split) <;> first | rfl | omega
theorem sX6_digest (w : WT) (R M : TM) (u : PU) (hR : RL R) (hu : mT M u) : tx_S w yX6_digest cX6_digest 5 (some .long) 8 [rV (wa w) 2] R M (QL R (fun z M' => z = digP u ∧ kpQ M M')) := by
  have hok := hu.1
  have he := hok.2.2.2.2.2.2
  have hD1 := (uT_ok hok).1
  have hB6 := uB_ok hok
  have hnl := hok.2.2.2.2.1
  refine tx_S.ofk (lv := [(0, _)]) [1] (by decide) (by simp only [List.map_cons, List.map_nil, cat_i, cat_l, cat_r]) (by decide) rfl (fun E O F => ?_)
  have KD : ∀ (k : Int) (M' : TM), (0 ≤ k ∧ k ≤ unl u ∧ mP M' u ∧ kpQ M M') → tx_X w E 130 [(3, iV k), (1, lV (digD u k)), (0, rV (wa w) 2)] [] R M' := by
    refine lp_up _ _ (unl u) ?_
    rintro k M' ⟨h1, h2, hu, hk⟩ ih
    have KD1 : k < unl u → ∀ (j : Int) (M2 : TM), (0 ≤ j ∧ j ≤ 3 ∧ mP M2 u ∧ kpQ M M2) → tx_X w E 141 [(4, iV j), (3, iV k), (1, lV (digD1 u k (digD u k) j)), (0, rV (wa w) 2)] [] R M2 := by
      intro hkl
      refine lp_up _ _ 3 ?_
      rintro j M2 ⟨g1, g2, hu, hk⟩ ih2
      have hst := itI_1 (fun j h => dg h (cameP (runP u (uear u) 40) k j)) (digD u k) g1
      have hst2 := itI_1 (fun k h => digD1 u k h 3) (digC u (uB u)) h1
      refine tx_iload (pc := 141) 0 O dX6_digest_141 rfl ?_
      refine tx_iconst (pc := 143) O dX6_digest_143 ?_
      refine tx_icmp_ge (pc := 144) 168 O dX6_digest_144 rfl (by omega) (fun c144 => ?_) (fun c144 => ?_)
      · refine tx_iinc (pc := 168) (lv' := [(3, _), (4, _), (1, _), (0, _)]) 1 O dX6_digest_168 rfl (by decide) rfl ?_
        refine tx_goto (pc := 171) 130 O dX6_digest_171 rfl ?_
        refine tx_lv (lv' := [(3, _), (1, _), (0, _)]) [0, 2, 3] rfl ?_
        have := ih (k + 1) _ ⟨by omega, by omega, hu, hk⟩ (by omega) (by omega)
        unfold digD at this
        rw [hst2] at this
        rw [show j = 3 by omega]
        exact this
      · refine tx_ldc2 (pc := 147) (z := 31) O dX6_digest_147 q1261 rfl ?_
        refine tx_lload_n (pc := 150) 2 O dX6_digest_150 rfl rfl ?_
        refine tx_lmul (pc := 151) O dX6_digest_151 ?_
        refine tx_aload_n (pc := 152) 3 O dX6_digest_152 rfl rfl ?_
        refine tx_iload_n (pc := 153) 1 O dX6_digest_153 rfl rfl ?_
        refine tx_iload (pc := 154) 0 O dX6_digest_154 rfl ?_
        refine tx_cV2 (pc := 156) O dX6_digest_156 q1083 vX6_cameOf (sh_2 w) rfl (by decide) (Nat.le_of_ble_eq_true rfl) (sX6_cameOf w _ _ _ _ u hR hu (by omega) (by omega)) (k_I (fun z156 M156 h156 => ?_))
        obtain ⟨k1, k2⟩ := h156
        subst k1
        refine tx_i2lw (pc := 159) O dX6_digest_159 ?_
        refine tx_ladd (pc := 160) O dX6_digest_160 ?_
        refine tx_lstore_n (pc := 161) (lv' := [(1, _), (4, _), (3, _), (0, _)]) O dX6_digest_161 rfl (by decide) rfl ?_
        refine tx_iinc (pc := 162) (lv' := [(4, _), (1, _), (3, _), (0, _)]) 1 O dX6_digest_162 rfl (by decide) rfl ?_
        refine tx_goto (pc := 165) 141 O dX6_digest_165 rfl ?_
        refine tx_lv (lv' := [(4, _), (3, _), (1, _), (0, _)]) [0, 2, 1, 3] rfl ?_
        have := ih2 (j + 1) _ ⟨by omega, by omega, hu.keep k2, hk.tr k2.q⟩ (by omega) (by omega)
        unfold digD1 at this
        rw [hst] at this
        exact this
    refine tx_iload_n (pc := 130) 0 O dX6_digest_130 rfl rfl ?_
    refine tx_aload_n (pc := 131) 2 O dX6_digest_131 rfl rfl ?_
    refine fX6_157 (pc := 132) O dX6_digest_132 ?_
    rw [hu.1.2.2.2.2.2.1]
    refine tx_icmp_ge (pc := 135) 174 O dX6_digest_135 rfl (by omega) (fun c135 => ?_) (fun c135 => ?_)
    · refine tx_ldc2 (pc := 174) (z := 31) O dX6_digest_174 q1261 rfl ?_
      refine tx_lload_n (pc := 177) 1 O dX6_digest_177 rfl rfl ?_
      refine tx_lmul (pc := 178) O dX6_digest_178 ?_
      refine tx_aload_n (pc := 179) 2 O dX6_digest_179 rfl rfl ?_
      refine tx_iconst (pc := 180) O dX6_digest_180 ?_
      refine tx_aload_n (pc := 181) 2 O dX6_digest_181 rfl rfl ?_
      refine fX6_73 (pc := 182) O dX6_digest_182 ?_
      rw [hu.hears]
      refine tx_cV2 (pc := 185) O dX6_digest_185 q1091 vX6_interestBy (sh_2 w) rfl (by decide) (Nat.le_of_ble_eq_true rfl) (sX6_interestBy w _ _ _ _ u hR hu (by omega) (by omega)) (k_I (fun z185 M185 h185 => ?_))
      obtain ⟨a1, a2⟩ := h185
      have hu := hu.keep a2
      have hk := hk.tr a2.q
      refine tx_i2lw (pc := 188) O dX6_digest_188 ?_
      refine tx_ladd (pc := 189) O dX6_digest_189 ?_
      refine tx_lstore_n (pc := 190) (lv' := [(1, _), (3, _), (0, _)]) O dX6_digest_190 rfl (by decide) rfl ?_
      refine tx_ldc2 (pc := 191) (z := 31) O dX6_digest_191 q1261 rfl ?_
      refine tx_lload_n (pc := 194) 0 O dX6_digest_194 rfl rfl ?_
      refine tx_lmul (pc := 195) O dX6_digest_195 ?_
      refine tx_aload_n (pc := 196) 2 O dX6_digest_196 rfl rfl ?_
      refine tx_bipush (pc := 197) O dX6_digest_197 (by decide) ?_
      refine tx_aload_n (pc := 199) 2 O dX6_digest_199 rfl rfl ?_
      refine fX6_73 (pc := 200) O dX6_digest_200 ?_
      rw [hu.hears]
      refine tx_cV2 (pc := 203) O dX6_digest_203 q1091 vX6_interestBy (sh_2 w) rfl (by decide) (Nat.le_of_ble_eq_true rfl) (sX6_interestBy w _ _ _ _ u hR hu (by omega) (by omega)) (k_I (fun z203 M203 h203 => ?_))
      obtain ⟨b1, b2⟩ := h203
      have hu := hu.keep b2
      have hk := hk.tr b2.q
      refine tx_i2lw (pc := 206) O dX6_digest_206 ?_
      refine tx_ladd (pc := 207) O dX6_digest_207 ?_
      refine tx_lstore_n (pc := 208) (lv' := [(1, _), (3, _), (0, _)]) O dX6_digest_208 rfl (by decide) rfl ?_
      refine tx_ldc2 (pc := 209) (z := 31) O dX6_digest_209 q1261 rfl ?_
      refine tx_lload_n (pc := 212) 0 O dX6_digest_212 rfl rfl ?_
      refine tx_lmul (pc := 213) O dX6_digest_213 ?_
      refine tx_aload_n (pc := 214) 2 O dX6_digest_214 rfl rfl ?_
      refine tx_bipush (pc := 215) O dX6_digest_215 (by decide) ?_
      refine tx_aload_n (pc := 217) 2 O dX6_digest_217 rfl rfl ?_
      refine fX6_73 (pc := 218) O dX6_digest_218 ?_
      rw [hu.hears]
      refine tx_cV2 (pc := 221) O dX6_digest_221 q1091 vX6_interestBy (sh_2 w) rfl (by decide) (Nat.le_of_ble_eq_true rfl) (sX6_interestBy w _ _ _ _ u hR hu (by omega) (by omega)) (k_I (fun z221 M221 h221 => ?_))
      obtain ⟨d1, d2⟩ := h221
      have hu := hu.keep d2
      have hk := hk.tr d2.q
      refine tx_i2lw (pc := 224) O dX6_digest_224 ?_
      refine tx_ladd (pc := 225) O dX6_digest_225 ?_
      refine tx_lstore_n (pc := 226) (lv' := [(1, _), (3, _), (0, _)]) O dX6_digest_226 rfl (by decide) rfl ?_
      refine tx_ldc2 (pc := 227) (z := 31) O dX6_digest_227 q1261 rfl ?_
      refine tx_lload_n (pc := 230) 0 O dX6_digest_230 rfl rfl ?_
      refine tx_lmul (pc := 231) O dX6_digest_231 ?_
      refine tx_aload_n (pc := 232) 2 O dX6_digest_232 rfl rfl ?_
      refine tx_iconst (pc := 233) O dX6_digest_233 ?_
      refine tx_cV1 (pc := 234) O dX6_digest_234 q1099 vX6_homeOf (sh_2 w) rfl (by decide) (Nat.le_of_ble_eq_true rfl) (sX6_homeOf w _ _ _ u hR hu (by omega)) (k_I (fun z234 M234 h234 => ?_))
      obtain ⟨e1, e2⟩ := h234
      have hu := hu.keep e2
      have hk := hk.tr e2.q
      refine tx_i2lw (pc := 237) O dX6_digest_237 ?_
      refine tx_ladd (pc := 238) O dX6_digest_238 ?_
      refine tx_lstore_n (pc := 239) (lv' := [(1, _), (3, _), (0, _)]) O dX6_digest_239 rfl (by decide) rfl ?_
      refine tx_ldc2 (pc := 240) (z := 31) O dX6_digest_240 q1261 rfl ?_
      refine tx_lload_n (pc := 243) 0 O dX6_digest_243 rfl rfl ?_
      refine tx_lmul (pc := 244) O dX6_digest_244 ?_
      refine tx_aload_n (pc := 245) 2 O dX6_digest_245 rfl rfl ?_
      refine tx_bipush (pc := 246) O dX6_digest_246 (by decide) ?_
      refine tx_cV1 (pc := 248) O dX6_digest_248 q1209 vX6_losesOf (sh_2 w) rfl (by decide) (Nat.le_of_ble_eq_true rfl) (sX6_losesOf w _ _ _ u hR hu (by omega)) (k_I (fun z248 M248 h248 => ?_))
      obtain ⟨f1, f2⟩ := h248
      have hu := hu.keep f2
      have hk := hk.tr f2.q
      refine tx_i2lw (pc := 251) O dX6_digest_251 ?_
      refine tx_ladd (pc := 252) O dX6_digest_252 ?_
      refine tx_lstore_n (pc := 253) (lv' := [(1, _), (3, _), (0, _)]) O dX6_digest_253 rfl (by decide) rfl ?_
      refine tx_ldc2 (pc := 254) (z := 31) O dX6_digest_254 q1261 rfl ?_
      refine tx_lload_n (pc := 257) 0 O dX6_digest_257 rfl rfl ?_
      refine tx_lmul (pc := 258) O dX6_digest_258 ?_
      refine tx_aload_n (pc := 259) 2 O dX6_digest_259 rfl rfl ?_
      refine tx_iconst (pc := 260) O dX6_digest_260 ?_
      refine tx_cV1 (pc := 261) O dX6_digest_261 q1218 vX6_bestOf (sh_2 w) rfl (by decide) (Nat.le_of_ble_eq_true rfl) (sX6_bestOf w _ _ _ u hR hu (by omega)) (k_I (fun z261 M261 h261 => ?_))
      obtain ⟨g1, g2⟩ := h261
      have hk := hk.tr g2.q
      refine tx_i2lw (pc := 264) O dX6_digest_264 ?_
      refine tx_ladd (pc := 265) O dX6_digest_265 ?_
      exact tx_lret O F dX6_digest_266 (tx_QL.mk ⟨by
          rw [a1, b1, d1, e1, f1, g1, show k = unl u by omega]
          rfl, hk⟩)
    · refine tx_iconst (pc := 138) O dX6_digest_138 ?_
      refine tx_istore (pc := 139) (lv' := [(4, _), (3, _), (1, _), (0, _)]) O dX6_digest_139 (by decide) rfl ?_
      exact KD1 c135 0 _ ⟨by omega, by omega, hu, hk⟩
  have KC : ∀ (b : Int) (M' : TM), (0 ≤ b ∧ b ≤ uB u ∧ mP M' u ∧ kpQ M M') → tx_X w E 80 [(3, iV b), (1, lV (digC u b)), (0, rV (wa w) 2)] [] R M' := by
    refine lp_up _ _ (uB u) ?_
    rintro b M' ⟨h1, h2, hu, hk⟩ ih
    have KC1 : b < uB u → ∀ (j : Int) (M2 : TM), (0 ≤ j ∧ j ≤ 3 ∧ M2 = M') → tx_X w E 91 [(4, iV j), (3, iV b), (1, lV (digC1 u b (digC u b) j)), (0, rV (wa w) 2)] [] R M2 := by
      intro hbl
      obtain ⟨q1, q2, q3⟩ := hu.2.2.2 b h1 hbl
      refine lp_up _ _ 3 ?_
      rintro j M2 ⟨g1, g2, rfl⟩ ih2
      have hst := itI_1 (fun k h => dg h (bqv u b k)) (digC u b) g1
      have hst2 := itI_1 (fun b h => digC1 u b h 3) (digB u (uT u).length) h1
      have hv : j < 3 → M2 111 (3 * b + j) = bqv u b j := by
        intro hj
        rcases (show j = 0 ∨ j = 1 ∨ j = 2 by omega) with e | e | e
        · subst e; rw [show 3 * b + 0 = 3 * b by omega]; exact q1
        · subst e; exact q2
        · subst e; exact q3
      refine tx_iload (pc := 91) 0 O dX6_digest_91 rfl ?_
      refine tx_iconst (pc := 93) O dX6_digest_93 ?_
      refine tx_icmp_ge (pc := 94) 122 O dX6_digest_94 rfl (by omega) (fun c94 => ?_) (fun c94 => ?_)
      · refine tx_iinc (pc := 122) (lv' := [(3, _), (4, _), (1, _), (0, _)]) 1 O dX6_digest_122 rfl (by decide) rfl ?_
        refine tx_goto (pc := 125) 80 O dX6_digest_125 rfl ?_
        refine tx_lv (lv' := [(3, _), (1, _), (0, _)]) [0, 2, 3] rfl ?_
        have := ih (b + 1) _ ⟨by omega, by omega, hu, hk⟩ (by omega) (by omega)
        unfold digC at this
        rw [hst2] at this
        rw [show j = 3 by omega]
        exact this
      · refine tx_ldc2 (pc := 97) (z := 31) O dX6_digest_97 q1261 rfl ?_
        refine tx_lload_n (pc := 100) 2 O dX6_digest_100 rfl rfl ?_
        refine tx_lmul (pc := 101) O dX6_digest_101 ?_
        refine tx_aload_n (pc := 102) 3 O dX6_digest_102 rfl rfl ?_
        refine fX6_34 (pc := 103) O hR dX6_digest_103 ?_
        refine tx_iconst (pc := 106) O dX6_digest_106 ?_
        refine tx_iload_n (pc := 107) 1 O dX6_digest_107 rfl rfl ?_
        refine tx_imul (pc := 108) O dX6_digest_108 ?_
        refine tx_iload (pc := 109) 0 O dX6_digest_109 rfl ?_
        refine tx_iadd (pc := 111) O dX6_digest_111 ?_
        refine tx_iald (pc := 112) _ O dX6_digest_112 (sh_111 w) (by omega) ?_
        rw [hv c94]
        refine tx_i2lw (pc := 113) O dX6_digest_113 ?_
        refine tx_ladd (pc := 114) O dX6_digest_114 ?_
        refine tx_lstore_n (pc := 115) (lv' := [(1, _), (4, _), (3, _), (0, _)]) O dX6_digest_115 rfl (by decide) rfl ?_
        refine tx_iinc (pc := 116) (lv' := [(4, _), (1, _), (3, _), (0, _)]) 1 O dX6_digest_116 rfl (by decide) rfl ?_
        refine tx_goto (pc := 119) 91 O dX6_digest_119 rfl ?_
        refine tx_lv (lv' := [(4, _), (3, _), (1, _), (0, _)]) [0, 2, 1, 3] rfl ?_
        have := ih2 (j + 1) _ ⟨by omega, by omega, rfl⟩ (by omega) (by omega)
        unfold digC1 at this
        rw [hst] at this
        exact this
    refine tx_iload_n (pc := 80) 0 O dX6_digest_80 rfl rfl ?_
    refine tx_aload_n (pc := 81) 2 O dX6_digest_81 rfl rfl ?_
    refine fX6_122 (pc := 82) O dX6_digest_82 ?_
    rw [hu.bor]
    refine tx_icmp_ge (pc := 85) 128 O dX6_digest_85 rfl (by omega) (fun c85 => ?_) (fun c85 => ?_)
    · refine tx_iconst (pc := 128) O dX6_digest_128 ?_
      refine tx_istore_n (pc := 129) (lv' := [(3, _), (1, _), (0, _)]) O dX6_digest_129 rfl (by decide) rfl ?_
      rw [show b = uB u by omega]
      exact KD 0 _ ⟨by omega, hnl.1, hu, hk⟩
    · refine tx_iconst (pc := 88) O dX6_digest_88 ?_
      refine tx_istore (pc := 89) (lv' := [(4, _), (3, _), (1, _), (0, _)]) O dX6_digest_89 (by decide) rfl ?_
      exact KC1 c85 0 _ ⟨by omega, by omega, rfl⟩
  have KB : ∀ (t : Int) (M' : TM), (0 ≤ t ∧ t ≤ (uT u).length ∧ mP M' u ∧ kpQ M M') → tx_X w E 57 [(3, iV t), (1, lV (digB u t)), (0, rV (wa w) 2)] [] R M' := by
    refine lp_up _ _ (uT u).length ?_
    rintro t M' ⟨h1, h2, hu, hk⟩ ih
    have hst := itI_1 (fun t h => dgT u h t) (dg (dg (digA u 8) (pT (uf0 u) (un0 u)).1) (fB (uf1 u) (un1 u))) h1
    refine tx_iload_n (pc := 57) 0 O dX6_digest_57 rfl rfl ?_
    refine tx_aload_n (pc := 58) 2 O dX6_digest_58 rfl rfl ?_
    refine fX6_112 (pc := 59) O dX6_digest_59 ?_
    rw [hu.2.1.1]
    refine tx_icmp_ge (pc := 62) 78 O dX6_digest_62 rfl (by omega) (fun c62 => ?_) (fun c62 => ?_)
    · refine tx_iconst (pc := 78) O dX6_digest_78 ?_
      refine tx_istore_n (pc := 79) (lv' := [(3, _), (1, _), (0, _)]) O dX6_digest_79 rfl (by decide) rfl ?_
      rw [show t = (uT u).length by omega]
      exact KC 0 _ ⟨by omega, hB6.1, hu, hk⟩
    · refine tx_aload_n (pc := 65) 2 O dX6_digest_65 rfl rfl ?_
      refine tx_lload_n (pc := 66) 1 O dX6_digest_66 rfl rfl ?_
      refine tx_iload_n (pc := 67) 0 O dX6_digest_67 rfl rfl ?_
      refine tx_cV2 (pc := 68) O dX6_digest_68 q1263 vX6_tellsTune (sh_2 w) rfl (by decide) (Nat.zero_le _) (sX6_tellsTune w _ _ _ _ u hR hu (by omega)) (k_L (fun z68 M68 h68 => ?_))
      obtain ⟨k1, k2, k3⟩ := h68
      subst k1
      refine tx_lstore_n (pc := 71) (lv' := [(1, _), (3, _), (0, _)]) O dX6_digest_71 rfl (by decide) rfl ?_
      refine tx_iinc (pc := 72) (lv' := [(3, _), (1, _), (0, _)]) 1 O dX6_digest_72 rfl (by decide) rfl ?_
      refine tx_goto (pc := 75) 57 O dX6_digest_75 rfl ?_
      have := ih (t + 1) _ ⟨by omega, by omega, k2, hk.tr k3⟩ (by omega) (by omega)
      unfold digB at this
      rw [hst] at this
      exact this
  have KA : ∀ (k : Int) (M' : TM), (0 ≤ k ∧ k ≤ 8 ∧ mT M' u ∧ kpQ M M') → tx_X w E 6 [(3, iV k), (1, lV (digA u k)), (0, rV (wa w) 2)] [] R M' := by
    refine lp_up _ _ 8 ?_
    rintro k M' ⟨h1, h2, hu, hk⟩ ih
    have hst := itI_1 (fun k h => dg h (cntP u 0 k)) 17 h1
    refine tx_iload_n (pc := 6) 0 O dX6_digest_6 rfl rfl ?_
    refine tx_bipush (pc := 7) O dX6_digest_7 (by decide) ?_
    refine tx_icmp_ge (pc := 9) 31 O dX6_digest_9 rfl (by omega) (fun c9 => ?_) (fun c9 => ?_)
    · refine tx_ldc2 (pc := 31) (z := 31) O dX6_digest_31 q1261 rfl ?_
      refine tx_lload_n (pc := 34) 1 O dX6_digest_34 rfl rfl ?_
      refine tx_lmul (pc := 35) O dX6_digest_35 ?_
      refine tx_aload_n (pc := 36) 2 O dX6_digest_36 rfl rfl ?_
      refine tx_cV0 (pc := 37) O dX6_digest_37 q962 vX6_readsTunes (sh_2 w) rfl (by decide) (Nat.le_of_ble_eq_true rfl) (sX6_readsTunes w _ _ (uf0 u) (un0 u) hR hu.2.1 hu.1.1 hu.rT) (k_I (fun z37 M37 h37 => ?_))
      obtain ⟨g1, g2, g3⟩ := h37
      have hu := hu.keep g3.q
      have hk := hk.tr g3.q
      refine tx_i2lw (pc := 40) O dX6_digest_40 ?_
      refine tx_ladd (pc := 41) O dX6_digest_41 ?_
      refine tx_lstore_n (pc := 42) (lv' := [(1, _), (3, _), (0, _)]) O dX6_digest_42 rfl (by decide) rfl ?_
      refine tx_ldc2 (pc := 43) (z := 31) O dX6_digest_43 q1261 rfl ?_
      refine tx_lload_n (pc := 46) 0 O dX6_digest_46 rfl rfl ?_
      refine tx_lmul (pc := 47) O dX6_digest_47 ?_
      refine tx_aload_n (pc := 48) 2 O dX6_digest_48 rfl rfl ?_
      refine tx_cV0 (pc := 49) O dX6_digest_49 q972 vX6_readsBorrowers (sh_2 w) rfl (by decide) (Nat.le_of_ble_eq_true rfl) (sX6_readsBorrowers w _ _ (uf1 u) (un1 u) hR hu.2.2.1 hu.1.2.1 hu.rB) (k_I (fun z49 M49 h49 => ?_))
      obtain ⟨j1, j2, j3⟩ := h49
      have hu := hu.keep j3.q
      have hk := hk.tr j3.q
      refine tx_i2lw (pc := 52) O dX6_digest_52 ?_
      refine tx_ladd (pc := 53) O dX6_digest_53 ?_
      refine tx_lstore_n (pc := 54) (lv' := [(1, _), (3, _), (0, _)]) O dX6_digest_54 rfl (by decide) rfl ?_
      refine tx_iconst (pc := 55) O dX6_digest_55 ?_
      refine tx_istore_n (pc := 56) (lv' := [(3, _), (1, _), (0, _)]) O dX6_digest_56 rfl (by decide) rfl ?_
      rw [g1, j1, show k = 8 by omega]
      exact KB 0 _ ⟨by omega, by omega, ⟨hu, g2.keepB j3, j2⟩, hk⟩
    · refine tx_ldc2 (pc := 12) (z := 31) O dX6_digest_12 q1261 rfl ?_
      refine tx_lload_n (pc := 15) 1 O dX6_digest_15 rfl rfl ?_
      refine tx_lmul (pc := 16) O dX6_digest_16 ?_
      refine tx_aload_n (pc := 17) 2 O dX6_digest_17 rfl rfl ?_
      refine tx_iload_n (pc := 18) 0 O dX6_digest_18 rfl rfl ?_
      refine tx_cV1 (pc := 19) O dX6_digest_19 q1262 vX6_count (sh_2 w) rfl (by decide) (Nat.le_of_ble_eq_true rfl) (sX6_count w _ _ _ u hR hu (by omega)) (k_I (fun z19 M19 h19 => ?_))
      obtain ⟨k1, k2⟩ := h19
      rw [cntP_lat (b := 0) c9] at k1
      subst k1
      refine tx_i2lw (pc := 22) O dX6_digest_22 ?_
      refine tx_ladd (pc := 23) O dX6_digest_23 ?_
      refine tx_lstore_n (pc := 24) (lv' := [(1, _), (3, _), (0, _)]) O dX6_digest_24 rfl (by decide) rfl ?_
      refine tx_iinc (pc := 25) (lv' := [(3, _), (1, _), (0, _)]) 1 O dX6_digest_25 rfl (by decide) rfl ?_
      refine tx_goto (pc := 28) 6 O dX6_digest_28 rfl ?_
      have := ih (k + 1) _ ⟨by omega, by omega, hu.keep k2, hk.tr k2⟩ (by omega) (by omega)
      unfold digA at this
      rw [hst] at this
      exact this
  refine tx_ldc2 (pc := 0) (z := 17) O dX6_digest_0 q1260 rfl ?_
  refine tx_lstore_n (pc := 3) (lv' := [(1, _), (0, _)]) O dX6_digest_3 rfl (by decide) rfl ?_
  refine tx_iconst (pc := 4) O dX6_digest_4 ?_
  refine tx_istore_n (pc := 5) (lv' := [(3, _), (1, _), (0, _)]) O dX6_digest_5 rfl (by decide) rfl ?_
  exact KA 0 M ⟨by omega, by omega, hu, kpQ.rf⟩

