/-! COMPONENT, texts read: readsBorrowers -/
set_option maxRecDepth 100000
theorem sh_al (w : WT) {h : Int} (q : 0 ≤ h ∧ h ≤ 2) : tx_sh w (320 + h) = (8, 6) := by
  rcases (show h = 0 ∨ h = 1 ∨ h = 2 by omega) with e | e | e <;> subst e <;> rfl
/-- but for the people all references are as before -/
def kR (R R' : TM) : Prop := ∀ a b : Int, a ≠ 208 → R' a b = R a b
theorem kR.rf {R : TM} : kR R R := fun _ _ _ => rfl
theorem kR.tr {M M' M'' : TM} (h : kR M M') (h' : kR M' M'') : kR M M'' := fun a b q => (h' a b q).trans (h a b q)
theorem RL.kp {R R' : TM} (h : RL R) (k : kR R R') : RL R' := by
  obtain ⟨a1, a2, a3, a4, a5, a6, a7, a8, a9, b1, b2⟩ := h
  exact ⟨fun x => by rw [k _ _ (by omega)]; exact a1 x, fun x => by rw [k _ _ (by omega)]; exact a2 x, fun x => by rw [k _ _ (by omega)]; exact a3 x, fun x => by rw [k _ _ (by omega)]; exact a4 x, fun x => by rw [k _ _ (by omega)]; exact a5 x, fun x => by rw [k _ _ (by omega)]; exact a6 x, fun x => by rw [k _ _ (by omega)]; exact a7 x, fun x q => by rw [k _ _ (by omega)]; exact a8 x q, fun x => by rw [k _ _ (by omega)]; exact a9 x, fun x y q1 q2 => by rw [k _ _ (by omega)]; exact b1 x y q1 q2, fun x => by rw [k _ _ (by omega)]; exact b2 x⟩
theorem kR_up {R : TM} {j v : Int} : kR R (up R 208 j v) := fun a b q => by rw [up_n (by omega)]
def kcB (M M' : TM) : Prop := ∀ a b : Int, ((a < 500 ∨ 525 < a) ∧ (a ≠ 1 ∨ b ≠ 6)) → M' a b = M a b
theorem kcB.rf {M : TM} : kcB M M := fun _ _ _ => rfl
theorem kcB.up {M M' : TM} (h : kcB M M') {a k v : Int} (ha : (500 ≤ a ∧ a ≤ 525) ∨ (a = 1 ∧ k = 6)) : kcB M (up M' a k v) := by
  intro x y h1
  rw [up_n (by omega)]
  exact h x y h1
/-- the borrowers, as the component holds them -/
def brsC (R M : TM) (f : Int → Int) (n : Int) : Prop := ∀ b : Int, 0 ≤ b → b < n → R 208 b = 500 + 10 * (bq f b).2.1 + b ∧ M (500 + 10 * (bq f b).2.1 + b) 0 = (bq f b).1 ∧ M (500 + 10 * (bq f b).2.1 + b) 1 = (bq f b).2.2 ∧ 0 ≤ (bq f b).2.1 ∧ (bq f b).2.1 ≤ 2
def humC (R M : TM) (f : Int → Int) (n : Int) : Prop := M 1 6 = cB f n ∧ brsC R M f (cB f n)
theorem humC_0 {R M : TM} {f : Int → Int} {n : Int} (h : fB f n ≠ -1) (h1 : M 1 6 = 0) : humC R M f n := by
  have e : cB f n = 0 := by unfold cB; rw [if_neg h]
  exact ⟨by rw [e]; exact h1, fun b q1 q2 => by omega⟩
theorem howP_ok (b : Int) : -1 ≤ howP b ∧ howP b ≤ 2 := by unfold howP; (repeat' split) <;> omega
theorem ntA_val {f : Int → Int} {n i : Int} (h : ntA f n i ≠ -1) : i < n ∧ 97 ≤ f i ∧ f i ≤ 103 ∧ ntA f n i = f i - 97 := by
  unfold ntA at h ⊢
  by_cases e : i < n ∧ 97 ≤ f i ∧ f i ≤ 103
  · rw [if_pos e]; exact ⟨e.1, e.2.1, e.2.2, rfl⟩
  · rw [if_neg e] at h; exact absurd rfl h
theorem ntA_no {f : Int → Int} {n i : Int} (h : ntA f n i = -1) : n ≤ i ∨ f i < 97 ∨ 103 < f i := by
  unfold ntA at h
  by_cases e : i < n ∧ 97 ≤ f i ∧ f i ≤ 103
  · rw [if_pos e] at h; omega
  · omega
theorem sX0_readsBorrowers (w : WT) (R M : TM) (f : Int → Int) (n : Int) (hR : RL R) (hn : M 201 1 = n) (hn2 : 0 ≤ n ∧ n ≤ 23) (hf : ∀ k, 0 ≤ k → k < n → M 301 k = f k ∧ 0 ≤ f k ∧ f k ≤ 255) : tx_S w yX0_readsBorrowers cX0_readsBorrowers 7 (some .int) 3 [rV (wa w) 1] R M (QC (fun z R' M' => z = fB f n ∧ humC R' M' f n ∧ kcB M M' ∧ kR R R')) := by
  have hN : ∀ M2 : TM, kcB M M2 → M2 201 1 = n ∧ ∀ k, 0 ≤ k → k < n → M2 (300 + 1) k = f k ∧ 0 ≤ f k ∧ f k ≤ 255 := by
    intro M2 kk
    refine ⟨by rw [kk _ _ (by omega)]; exact hn, fun k q1 q2 => ?_⟩
    have := hf k q1 q2
    exact ⟨by rw [show (300 : Int) + 1 = 301 from rfl, kk _ _ (by omega)]; exact this.1, this.2⟩
  refine tx_S.ofk (lv := [(0, _)]) [1] (by decide) (by simp only [List.map_cons, List.map_nil, cat_i, cat_l, cat_r]) (by decide) rfl (fun E O F => ?_)
  have K0 : ∀ (i b : Int) (R' M' : TM), (fB f n = -1 ∧ b = cB f n ∧ brsC R' M' f b ∧ kcB M M' ∧ kR R R') → tx_X w E 24 [(3, iV 0), (2, iV i), (1, iV b), (0, rV (wa w) 1)] [] R' M' := by
    rintro i b R' M' ⟨h1, h2, h3, h4, h5⟩
    refine tx_iload_n (pc := 24) 0 O dX0_readsBorrowers_24 rfl rfl ?_
    refine tx_if_eq (pc := 25) 255 O dX0_readsBorrowers_25 rfl (by omega) (fun c25 => ?_) (fun c25 => ?_)
    · refine tx_aload_n (pc := 255) 3 O dX0_readsBorrowers_255 rfl rfl ?_
      refine tx_iload_n (pc := 256) 2 O dX0_readsBorrowers_256 rfl rfl ?_
      refine fX0_46p (pc := 257) O dX0_readsBorrowers_257 ?_
      refine tx_iconst (pc := 260) O dX0_readsBorrowers_260 ?_
      exact tx_iret O F dX0_readsBorrowers_261 (tx_QC.mk (by
        rw [h1]
        subst h2
        exact ⟨rfl, ⟨up_s, fun b q1 q2 => by
          have hc := cB_le (f := f) hn2
          have := h3 b q1 q2
          rw [up_n (by omega), up_n (by omega)]
          exact this⟩, h4.up (by omega), h5⟩))
    · exfalso
      omega
  have K1 : ∀ q : Int × Int × TM × TM, (0 ≤ q.1 ∧ q.2.1 = 4 * q.1 ∧ q.2.1 ≤ n ∧ 0 < n ∧ bst f q.2.1 = -1 ∧ q.2.2.2 1 6 = 0 ∧ brsC q.2.2.1 q.2.2.2 f q.1 ∧ kcB M q.2.2.2 ∧ kR R q.2.2.1) → tx_X w E 24 [(3, iV 1), (2, iV q.2.1), (1, iV q.1), (0, rV (wa w) 1)] [] q.2.2.1 q.2.2.2 := by
    refine lp_m _ _ (fun q => (n - q.2.1).toNat) ?_
    rintro ⟨b, i, R', M'⟩ ⟨h1, h2, h3, h4, h5, h6, h7, kk, h9⟩ ih
    dsimp only at h1 h2 h3 h4 h5 h6 h7 kk h9 ⊢
    have hR := hR.kp h9
    have hz0 := ntA_ok f n i
    have hz2 := ntA_ok f n (i + 2)
    have K92 : ∀ h s : Int, h = (if i + 1 < n then howP (f (i + 1)) else -1) → tx_X w E 92 [(5, iV h), (4, iV s), (3, iV 1), (2, iV i), (1, iV b), (0, rV (wa w) 1)] [] R' M' := by
      intro h s hh
      have hh2 : -1 ≤ h ∧ h ≤ 2 := by rw [hh]; split <;> first | exact howP_ok _ | omega
      refine tx_iload_n (pc := 92) 4 O dX0_readsBorrowers_92 rfl rfl ?_
      refine tx_bipush (pc := 93) O dX0_readsBorrowers_93 (by decide) ?_
      refine tx_icmp_eq (pc := 95) 108 O dX0_readsBorrowers_95 rfl (by omega) (fun c95 => ?_) (fun c95 => ?_)
      · exfalso
        omega
      · refine tx_aload_n (pc := 98) 5 O dX0_readsBorrowers_98 rfl rfl ?_
        refine tx_iconst (pc := 99) O dX0_readsBorrowers_99 ?_
        refine tx_iload_n (pc := 100) 3 O dX0_readsBorrowers_100 rfl rfl ?_
        refine tx_cV2 (pc := 101) O dX0_readsBorrowers_101 q136 vX0_noteAt (sh_1 w) rfl (by decide) (Nat.zero_le _) (sX0_noteAt w _ _ _ _ f n hR (Or.inr rfl) (by omega) (hN _ kk).1 (by omega) (hN _ kk).2) (k_P (fun z101 h101 => ?_))
        rw [h101]
        refine tx_iconst (pc := 104) O dX0_readsBorrowers_104 ?_
        refine tx_icmp_ne (pc := 105) 112 O dX0_readsBorrowers_105 rfl (by omega) (fun c105 => ?_) (fun c105 => ?_)
        · obtain ⟨v1, v2, v3, v4⟩ := ntA_val c105
          have hb0 : bval f i = f i - 97 := by unfold bval; rw [if_neg (by omega), if_neg (by omega), if_pos (by omega)]
          have s1 : bst f (i + 1) = -1 := by rw [bst_1 f (by omega) h5, if_neg (by omega)]
          refine tx_iload (pc := 112) 0 O dX0_readsBorrowers_112 rfl ?_
          refine tx_iconst (pc := 114) O dX0_readsBorrowers_114 ?_
          refine tx_icmp_ne (pc := 115) 122 O dX0_readsBorrowers_115 rfl (by omega) (fun c115 => ?_) (fun c115 => ?_)
          · have hi1 : i + 1 < n := by
              apply Classical.byContradiction
              intro q
              rw [if_neg q] at hh
              exact c115 hh
            rw [if_pos hi1] at hh
            have hb1 : bval f (i + 1) = h := by unfold bval; rw [if_neg (by omega), if_pos (by omega)]; exact hh.symm
            have s2 : bst f (i + 1 + 1) = -1 := by rw [bst_1 f (by omega) s1, if_neg (by omega)]
            rw [show i + 1 + 1 = i + 2 by omega] at s2
            refine tx_aload_n (pc := 122) 5 O dX0_readsBorrowers_122 rfl rfl ?_
            refine tx_iconst (pc := 123) O dX0_readsBorrowers_123 ?_
            refine tx_iload_n (pc := 124) 3 O dX0_readsBorrowers_124 rfl rfl ?_
            refine tx_iconst (pc := 125) O dX0_readsBorrowers_125 ?_
            refine tx_iadd (pc := 126) O dX0_readsBorrowers_126 ?_
            refine tx_cV2 (pc := 127) O dX0_readsBorrowers_127 q136 vX0_noteAt (sh_1 w) rfl (by decide) (Nat.zero_le _) (sX0_noteAt w _ _ _ _ f n hR (Or.inr rfl) (by omega) (hN _ kk).1 (by omega) (hN _ kk).2) (k_P (fun z127 h127 => ?_))
            rw [h127]
            refine tx_iconst (pc := 130) O dX0_readsBorrowers_130 ?_
            refine tx_icmp_ne (pc := 131) 138 O dX0_readsBorrowers_131 rfl (by omega) (fun c131 => ?_) (fun c131 => ?_)
            · obtain ⟨x1, x2, x3, x4⟩ := ntA_val c131
              have hb2 : bval f (i + 2) = f (i + 2) - 97 := by unfold bval; rw [if_neg (by omega), if_neg (by omega), if_pos (by omega)]
              have s3 : bst f (i + 2 + 1) = -1 := by rw [bst_1 f (by omega) s2, if_neg (by omega)]
              rw [show i + 2 + 1 = i + 3 by omega] at s3
              have hbq : bq f b = (f i - 97, h, f (i + 2) - 97) := by unfold bq; rw [← h2, ← hh]
              have hbr : isBr (500 + 10 * h + b) := by omega
              refine tx_iconst (pc := 138) O dX0_readsBorrowers_138 ?_
              refine tx_istore (pc := 139) (lv' := [(6, _), (5, _), (4, _), (3, _), (2, _), (1, _), (0, _)]) O dX0_readsBorrowers_139 (by decide) rfl ?_
              refine tx_iload (pc := 141) 0 O dX0_readsBorrowers_141 rfl ?_
              refine tx_iconst (pc := 143) O dX0_readsBorrowers_143 ?_
              refine tx_icmp_ge (pc := 144) 152 O dX0_readsBorrowers_144 rfl (by omega) (fun c144 => ?_) (fun c144 => ?_)
              · refine tx_aload_n (pc := 152) 6 O dX0_readsBorrowers_152 rfl rfl ?_
                refine fX0_49 (pc := 153) O hR dX0_readsBorrowers_153 ?_
                refine tx_iload_n (pc := 156) 5 O dX0_readsBorrowers_156 rfl rfl ?_
                refine tx_aload_n (pc := 157) 6 O dX0_readsBorrowers_157 rfl rfl ?_
                refine fX0_53 (pc := 158) O hR dX0_readsBorrowers_158 ?_
                refine tx_iload (pc := 161) 1 O dX0_readsBorrowers_161 rfl ?_
                refine tx_aald (pc := 163) _ _ O dX0_readsBorrowers_163 (sh_207 w) (by decide) (by omega) ?_
                rw [hR.2.2.2.2.2.2.2.2.1]
                refine tx_iload_n (pc := 164) 5 O dX0_readsBorrowers_164 rfl rfl ?_
                refine tx_aald (pc := 165) _ _ O dX0_readsBorrowers_165 (sh_al w (by omega)) (by decide) (by omega) ?_
                rw [hR.2.2.2.2.2.2.2.2.2.1 h b (by omega) (by omega)]
                refine tx_aastB (pc := 166) O dX0_readsBorrowers_166 (by omega) (by omega) ?_
                have hR := hR.kp (kR_up (R := R') (j := b) (v := 500 + 10 * h + b))
                refine tx_aload_n (pc := 167) 6 O dX0_readsBorrowers_167 rfl rfl ?_
                refine fX0_49 (pc := 168) O hR dX0_readsBorrowers_168 ?_
                refine tx_iload_n (pc := 171) 5 O dX0_readsBorrowers_171 rfl rfl ?_
                refine tx_aald (pc := 172) _ _ O dX0_readsBorrowers_172 (sh_208 w) (by decide) (by omega) ?_
                rw [up_s]
                refine tx_aload_n (pc := 173) 6 O dX0_readsBorrowers_173 rfl rfl ?_
                refine tx_iconst (pc := 174) O dX0_readsBorrowers_174 ?_
                refine tx_iload_n (pc := 175) 4 O dX0_readsBorrowers_175 rfl rfl ?_
                refine tx_cV2 (pc := 176) O dX0_readsBorrowers_176 q136 vX0_noteAt (sh_1 w) rfl (by decide) (by simp only [List.map_cons, List.map_nil, cat_i, cat_l, cat_r, List.sum_cons, List.sum_nil]; decide) (sX0_noteAt w _ _ _ _ f n hR (Or.inr rfl) (by omega) (hN _ kk).1 (by omega) (hN _ kk).2) (k_P (fun z176 h176 => ?_))
                rw [h176, v4]
                refine fX0_57p (pc := 179) O (hbr) dX0_readsBorrowers_179 ?_
                refine tx_aload_n (pc := 182) 6 O dX0_readsBorrowers_182 rfl rfl ?_
                refine fX0_49 (pc := 183) O hR dX0_readsBorrowers_183 ?_
                refine tx_iload_n (pc := 186) 5 O dX0_readsBorrowers_186 rfl rfl ?_
                refine tx_aald (pc := 187) _ _ O dX0_readsBorrowers_187 (sh_208 w) (by decide) (by omega) ?_
                rw [up_s]
                refine tx_aload_n (pc := 188) 6 O dX0_readsBorrowers_188 rfl rfl ?_
                refine tx_iconst (pc := 189) O dX0_readsBorrowers_189 ?_
                refine tx_iload_n (pc := 190) 4 O dX0_readsBorrowers_190 rfl rfl ?_
                refine tx_iconst (pc := 191) O dX0_readsBorrowers_191 ?_
                refine tx_iadd (pc := 192) O dX0_readsBorrowers_192 ?_
                refine tx_cV2 (pc := 193) O dX0_readsBorrowers_193 q136 vX0_noteAt (sh_1 w) rfl (by decide) (by simp only [List.map_cons, List.map_nil, cat_i, cat_l, cat_r, List.sum_cons, List.sum_nil]; decide) (sX0_noteAt w _ _ _ _ f n hR (Or.inr rfl) (by omega) (hN _ (kk.up (by omega))).1 (by omega) (hN _ (kk.up (by omega))).2) (k_P (fun z193 h193 => ?_))
                rw [h193, x4]
                refine fX0_62p (pc := 196) O (hbr) dX0_readsBorrowers_196 ?_
                have kk2 : kcB M (up (up M' (500 + 10 * h + b) 0 (f i - 97)) (500 + 10 * h + b) 1 (f (i + 2) - 97)) := (kk.up (by omega)).up (by omega)
                have kr2 : kR R (up R' 208 b (500 + 10 * h + b)) := h9.tr kR_up
                have br2 : brsC (up R' 208 b (500 + 10 * h + b)) (up (up M' (500 + 10 * h + b) 0 (f i - 97)) (500 + 10 * h + b) 1 (f (i + 2) - 97)) f (b + 1) := by
                  intro c q1 q2
                  by_cases e : c = b
                  · subst e
                    rw [hbq]
                    dsimp only
                    rw [up_s, up_s, up_n (by omega), up_s]
                    exact ⟨rfl, rfl, rfl, by omega, by omega⟩
                  · obtain ⟨y1, y2, y3, y4, y5⟩ := h7 c q1 (by omega)
                    rw [up_n (by omega), up_n (by omega), up_n (by omega), up_n (by omega), up_n (by omega)]
                    exact ⟨y1, y2, y3, y4, y5⟩
                have m6 : up (up M' (500 + 10 * h + b) 0 (f i - 97)) (500 + 10 * h + b) 1 (f (i + 2) - 97) 1 6 = 0 := by rw [up_n (by omega), up_n (by omega)]; exact h6
                refine tx_iinc (pc := 199) (lv' := [(1, _), (6, _), (5, _), (4, _), (3, _), (2, _), (0, _)]) 5 O dX0_readsBorrowers_199 rfl (by decide) rfl ?_
                refine tx_iinc (pc := 202) (lv' := [(2, _), (1, _), (6, _), (5, _), (4, _), (3, _), (0, _)]) 5 O dX0_readsBorrowers_202 rfl (by decide) rfl ?_
                refine tx_iload_n (pc := 205) 0 O dX0_readsBorrowers_205 rfl rfl ?_
                refine tx_aload_n (pc := 206) 6 O dX0_readsBorrowers_206 rfl rfl ?_
                refine fX0_13 (pc := 207) O hR dX0_readsBorrowers_207 ?_
                refine tx_iconst (pc := 210) O dX0_readsBorrowers_210 ?_
                refine tx_iald (pc := 211) _ O dX0_readsBorrowers_211 (sh_201 w) (by omega) ?_
                rw [(hN _ kk2).1]
                refine tx_icmp_ge (pc := 212) 219 O dX0_readsBorrowers_212 rfl (by omega) (fun c212 => ?_) (fun c212 => ?_)
                · refine tx_iconst (pc := 219) O dX0_readsBorrowers_219 ?_
                  refine tx_istore_n (pc := 220) (lv' := [(3, _), (2, _), (1, _), (6, _), (5, _), (4, _), (0, _)]) O dX0_readsBorrowers_220 rfl (by decide) rfl ?_
                  refine tx_iload_n (pc := 221) 0 O dX0_readsBorrowers_221 rfl rfl ?_
                  refine tx_if_eq (pc := 222) 240 O dX0_readsBorrowers_222 rfl (by omega) (fun c222 => ?_) (fun c222 => ?_)
                  · refine tx_iload_n (pc := 240) 1 O dX0_readsBorrowers_240 rfl rfl ?_
                    refine tx_iload_n (pc := 241) 0 O dX0_readsBorrowers_241 rfl rfl ?_
                    refine tx_if_eq (pc := 242) 249 O dX0_readsBorrowers_242 rfl (by omega) (fun c242 => ?_) (fun c242 => ?_)
                    · refine tx_iconst (pc := 249) O dX0_readsBorrowers_249 ?_
                      refine tx_iadd (pc := 250) O dX0_readsBorrowers_250 ?_
                      refine tx_istore_n (pc := 251) (lv' := [(2, _), (3, _), (1, _), (6, _), (5, _), (4, _), (0, _)]) O dX0_readsBorrowers_251 rfl (by decide) rfl ?_
                      refine tx_goto (pc := 252) 24 O dX0_readsBorrowers_252 rfl ?_
                      refine tx_lv (lv' := [(3, _), (2, _), (1, _), (0, _)]) [1, 0, 2, 6] rfl ?_
                      first
                        | (have e3 : n = i + 3 := by omega
                           have e1 : fB f n = -1 := by rw [e3, fB_end s3, if_neg (by omega)]
                           have e2 : cB f n = b + 1 := by unfold cB; rw [if_pos e1]; omega
                           exact K0 (i + 3 + 0) (b + 1) _ _ ⟨e1, e2.symm, br2, kk2, kr2⟩)
                        | (have s4 : bst f (i + 3 + 1) = -1 := by
                             rw [bst_1 f (by omega) s3, if_neg]
                             unfold bval
                             rw [if_pos (by omega), if_pos c235]
                             omega
                           refine ih (b + 1, i + 3 + 1, up R' 208 b (500 + 10 * h + b), up (up M' (500 + 10 * h + b) 0 (f i - 97)) (500 + 10 * h + b) 1 (f (i + 2) - 97)) ?_ (by dsimp only; omega)
                           dsimp only
                           exact ⟨by omega, by omega, by omega, h4, s4, m6, br2, kk2, kr2⟩)
                    · exact absurd c242 (by decide)
                  · exact absurd c222 (by decide)
                · refine tx_iconst (pc := 215) O dX0_readsBorrowers_215 ?_
                  refine tx_goto (pc := 216) 220 O dX0_readsBorrowers_216 rfl ?_
                  refine tx_istore_n (pc := 220) (lv' := [(3, _), (2, _), (1, _), (6, _), (5, _), (4, _), (0, _)]) O dX0_readsBorrowers_220 rfl (by decide) rfl ?_
                  refine tx_iload_n (pc := 221) 0 O dX0_readsBorrowers_221 rfl rfl ?_
                  refine tx_if_eq (pc := 222) 240 O dX0_readsBorrowers_222 rfl (by omega) (fun c222 => ?_) (fun c222 => ?_)
                  · exact absurd c222 (by decide)
                  · refine tx_aload_n (pc := 225) 6 O dX0_readsBorrowers_225 rfl rfl ?_
                    refine fX0_17 (pc := 226) O hR dX0_readsBorrowers_226 ?_
                    refine tx_iconst (pc := 229) O dX0_readsBorrowers_229 ?_
                    refine tx_aald (pc := 230) _ _ O dX0_readsBorrowers_230 (sh_200 w) (by decide) (by omega) ?_
                    rw [hR.2.2.1 1, show (300 : Int) + 1 = 301 from rfl]
                    refine tx_iload_n (pc := 231) 1 O dX0_readsBorrowers_231 rfl rfl ?_
                    refine tx_iald (pc := 232) _ O dX0_readsBorrowers_232 (sh_301 w) (by omega) ?_
                    rw [show (301 : Int) = 300 + 1 from rfl, ((hN _ kk2).2 (i + 3) (by omega) (by omega)).1]
                    have f3 := ((hN _ kk2).2 (i + 3) (by omega) (by omega)).2
                    refine tx_bipush (pc := 233) O dX0_readsBorrowers_233 (by decide) ?_
                    refine tx_icmp_eq (pc := 235) 240 O dX0_readsBorrowers_235 rfl (by omega) (fun c235 => ?_) (fun c235 => ?_)
                    · refine tx_iload_n (pc := 240) 1 O dX0_readsBorrowers_240 rfl rfl ?_
                      refine tx_iload_n (pc := 241) 0 O dX0_readsBorrowers_241 rfl rfl ?_
                      refine tx_if_eq (pc := 242) 249 O dX0_readsBorrowers_242 rfl (by omega) (fun c242 => ?_) (fun c242 => ?_)
                      · exact absurd c242 (by decide)
                      · refine tx_iconst (pc := 245) O dX0_readsBorrowers_245 ?_
                        refine tx_goto (pc := 246) 250 O dX0_readsBorrowers_246 rfl ?_
                        refine tx_iadd (pc := 250) O dX0_readsBorrowers_250 ?_
                        refine tx_istore_n (pc := 251) (lv' := [(2, _), (3, _), (1, _), (6, _), (5, _), (4, _), (0, _)]) O dX0_readsBorrowers_251 rfl (by decide) rfl ?_
                        refine tx_goto (pc := 252) 24 O dX0_readsBorrowers_252 rfl ?_
                        refine tx_lv (lv' := [(3, _), (2, _), (1, _), (0, _)]) [1, 0, 2, 6] rfl ?_
                        first
                          | (have e3 : n = i + 3 := by omega
                             have e1 : fB f n = -1 := by rw [e3, fB_end s3, if_neg (by omega)]
                             have e2 : cB f n = b + 1 := by unfold cB; rw [if_pos e1]; omega
                             exact K0 (i + 3 + 0) (b + 1) _ _ ⟨e1, e2.symm, br2, kk2, kr2⟩)
                          | (have s4 : bst f (i + 3 + 1) = -1 := by
                               rw [bst_1 f (by omega) s3, if_neg]
                               unfold bval
                               rw [if_pos (by omega), if_pos c235]
                               omega
                             refine ih (b + 1, i + 3 + 1, up R' 208 b (500 + 10 * h + b), up (up M' (500 + 10 * h + b) 0 (f i - 97)) (500 + 10 * h + b) 1 (f (i + 2) - 97)) ?_ (by dsimp only; omega)
                             dsimp only
                             exact ⟨by omega, by omega, by omega, h4, s4, m6, br2, kk2, kr2⟩)
                    · refine tx_iload_n (pc := 238) 1 O dX0_readsBorrowers_238 rfl rfl ?_
                      exact tx_iret O F dX0_readsBorrowers_239 (tx_QC.mk (by
                        have e1 : fB f n = i + 3 := fB_fault (by omega) (by omega) s3 (by unfold bval; rw [if_pos (by omega), if_neg c235])
                        exact ⟨by omega, humC_0 (by omega) m6, kk2, kr2⟩))
              · exact absurd c144 (by decide)
            · have e1 : fB f n = i + 2 := by
                by_cases hi : i + 2 < n
                · exact fB_fault (by omega) hi s2 (by unfold bval; rw [if_neg (by omega), if_neg (by omega), if_neg (by have := ntA_no c131; omega)])
                · have e : i + 2 = n := by omega
                  rw [fB_end (by rw [← e]; exact s2), if_pos (by omega)]; omega
              refine tx_iconst (pc := 134) O dX0_readsBorrowers_134 ?_
              refine tx_goto (pc := 135) 139 O dX0_readsBorrowers_135 rfl ?_
              refine tx_istore (pc := 139) (lv' := [(6, _), (5, _), (4, _), (3, _), (2, _), (1, _), (0, _)]) O dX0_readsBorrowers_139 (by decide) rfl ?_
              refine tx_iload (pc := 141) 0 O dX0_readsBorrowers_141 rfl ?_
              refine tx_iconst (pc := 143) O dX0_readsBorrowers_143 ?_
              refine tx_icmp_ge (pc := 144) 152 O dX0_readsBorrowers_144 rfl (by omega) (fun c144 => ?_) (fun c144 => ?_)
              · exact absurd c144 (by decide)
              · refine tx_iload_n (pc := 147) 4 O dX0_readsBorrowers_147 rfl rfl ?_
                refine tx_iload (pc := 148) 0 O dX0_readsBorrowers_148 rfl ?_
                refine tx_iadd (pc := 150) O dX0_readsBorrowers_150 ?_
                exact tx_iret O F dX0_readsBorrowers_151 (tx_QC.mk ⟨by omega, humC_0 (by omega) h6, kk, h9⟩)
          · have e1 : fB f n = i + 1 := by
              by_cases hi : i + 1 < n
              · rw [if_pos hi, c115] at hh
                exact fB_fault (by omega) hi s1 (by unfold bval; rw [if_neg (by omega), if_pos (by omega)]; exact hh.symm)
              · have e : i + 1 = n := by omega
                rw [fB_end (by rw [← e]; exact s1), if_pos (by omega)]; omega
            refine tx_iconst (pc := 118) O dX0_readsBorrowers_118 ?_
            refine tx_goto (pc := 119) 139 O dX0_readsBorrowers_119 rfl ?_
            refine tx_istore (pc := 139) (lv' := [(6, _), (5, _), (4, _), (3, _), (2, _), (1, _), (0, _)]) O dX0_readsBorrowers_139 (by decide) rfl ?_
            refine tx_iload (pc := 141) 0 O dX0_readsBorrowers_141 rfl ?_
            refine tx_iconst (pc := 143) O dX0_readsBorrowers_143 ?_
            refine tx_icmp_ge (pc := 144) 152 O dX0_readsBorrowers_144 rfl (by omega) (fun c144 => ?_) (fun c144 => ?_)
            · exact absurd c144 (by decide)
            · refine tx_iload_n (pc := 147) 4 O dX0_readsBorrowers_147 rfl rfl ?_
              refine tx_iload (pc := 148) 0 O dX0_readsBorrowers_148 rfl ?_
              refine tx_iadd (pc := 150) O dX0_readsBorrowers_150 ?_
              exact tx_iret O F dX0_readsBorrowers_151 (tx_QC.mk ⟨by omega, humC_0 (by omega) h6, kk, h9⟩)
        · have e1 : fB f n = i := by
            by_cases hi : i < n
            · exact fB_fault (by omega) hi h5 (by unfold bval; rw [if_neg (by omega), if_neg (by omega), if_neg (by have := ntA_no c105; omega)])
            · have e : i = n := by omega
              rw [← e, fB_end (by rw [e] at h5; rw [e]; exact h5), if_pos (by omega)]
          refine tx_iconst (pc := 108) O dX0_readsBorrowers_108 ?_
          refine tx_goto (pc := 109) 139 O dX0_readsBorrowers_109 rfl ?_
          refine tx_istore (pc := 139) (lv' := [(6, _), (5, _), (4, _), (3, _), (2, _), (1, _), (0, _)]) O dX0_readsBorrowers_139 (by decide) rfl ?_
          refine tx_iload (pc := 141) 0 O dX0_readsBorrowers_141 rfl ?_
          refine tx_iconst (pc := 143) O dX0_readsBorrowers_143 ?_
          refine tx_icmp_ge (pc := 144) 152 O dX0_readsBorrowers_144 rfl (by omega) (fun c144 => ?_) (fun c144 => ?_)
          · exact absurd c144 (by decide)
          · refine tx_iload_n (pc := 147) 4 O dX0_readsBorrowers_147 rfl rfl ?_
            refine tx_iload (pc := 148) 0 O dX0_readsBorrowers_148 rfl ?_
            refine tx_iadd (pc := 150) O dX0_readsBorrowers_150 ?_
            exact tx_iret O F dX0_readsBorrowers_151 (tx_QC.mk ⟨by omega, humC_0 (by omega) h6, kk, h9⟩)
    refine tx_iload_n (pc := 24) 0 O dX0_readsBorrowers_24 rfl rfl ?_
    refine tx_if_eq (pc := 25) 255 O dX0_readsBorrowers_25 rfl (by omega) (fun c25 => ?_) (fun c25 => ?_)
    · exfalso
      omega
    · refine tx_iload_n (pc := 28) 1 O dX0_readsBorrowers_28 rfl rfl ?_
      refine tx_iconst (pc := 29) O dX0_readsBorrowers_29 ?_
      refine tx_iadd (pc := 30) O dX0_readsBorrowers_30 ?_
      refine tx_aload_n (pc := 31) 3 O dX0_readsBorrowers_31 rfl rfl ?_
      refine fX0_13 (pc := 32) O hR dX0_readsBorrowers_32 ?_
      refine tx_iconst (pc := 35) O dX0_readsBorrowers_35 ?_
      refine tx_iald (pc := 36) _ O dX0_readsBorrowers_36 (sh_201 w) (by omega) ?_
      rw [(hN _ kk).1]
      refine tx_icmp_ge (pc := 37) 53 O dX0_readsBorrowers_37 rfl (by omega) (fun c37 => ?_) (fun c37 => ?_)
      · refine tx_iconst (pc := 53) O dX0_readsBorrowers_53 ?_
        refine tx_istore (pc := 54) (lv' := [(4, _), (3, _), (2, _), (1, _), (0, _)]) O dX0_readsBorrowers_54 (by decide) rfl ?_
        refine tx_iload (pc := 56) 0 O dX0_readsBorrowers_56 rfl ?_
        refine tx_bipush (pc := 58) O dX0_readsBorrowers_58 (by decide) ?_
        refine tx_icmp_ne (pc := 60) 67 O dX0_readsBorrowers_60 rfl (by omega) (fun c60 => ?_) (fun c60 => ?_)
        · refine tx_iload (pc := 67) 0 O dX0_readsBorrowers_67 rfl ?_
          refine tx_bipush (pc := 69) O dX0_readsBorrowers_69 (by decide) ?_
          refine tx_icmp_ne (pc := 71) 78 O dX0_readsBorrowers_71 rfl (by omega) (fun c71 => ?_) (fun c71 => ?_)
          · refine tx_iload (pc := 78) 0 O dX0_readsBorrowers_78 rfl ?_
            refine tx_bipush (pc := 80) O dX0_readsBorrowers_80 (by decide) ?_
            refine tx_icmp_ne (pc := 82) 89 O dX0_readsBorrowers_82 rfl (by omega) (fun c82 => ?_) (fun c82 => ?_)
            · refine tx_iconst (pc := 89) O dX0_readsBorrowers_89 ?_
              refine tx_istore (pc := 90) (lv' := [(5, _), (4, _), (3, _), (2, _), (1, _), (0, _)]) O dX0_readsBorrowers_90 (by decide) rfl ?_
              first
                | exact K92 _ _ (by rw [if_pos c37]; unfold howP; (repeat' split) <;> omega)
                | exact K92 _ _ (by rw [if_neg (by omega)])
            · exact absurd c82 (by decide)
          · exact absurd c71 (by decide)
        · exact absurd c60 (by decide)
      · obtain ⟨f1, f2, f3⟩ := (hN _ kk).2 (i + 1) (by omega) (by omega)
        refine tx_aload_n (pc := 40) 3 O dX0_readsBorrowers_40 rfl rfl ?_
        refine fX0_17 (pc := 41) O hR dX0_readsBorrowers_41 ?_
        refine tx_iconst (pc := 44) O dX0_readsBorrowers_44 ?_
        refine tx_aald (pc := 45) _ _ O dX0_readsBorrowers_45 (sh_200 w) (by decide) (by omega) ?_
        rw [hR.2.2.1 1, show (300 : Int) + 1 = 301 from rfl]
        refine tx_iload_n (pc := 46) 1 O dX0_readsBorrowers_46 rfl rfl ?_
        refine tx_iconst (pc := 47) O dX0_readsBorrowers_47 ?_
        refine tx_iadd (pc := 48) O dX0_readsBorrowers_48 ?_
        refine tx_iald (pc := 49) _ O dX0_readsBorrowers_49 (sh_301 w) (by omega) ?_
        rw [show (301 : Int) = 300 + 1 from rfl, f1]
        refine tx_goto (pc := 50) 54 O dX0_readsBorrowers_50 rfl ?_
        refine tx_istore (pc := 54) (lv' := [(4, _), (3, _), (2, _), (1, _), (0, _)]) O dX0_readsBorrowers_54 (by decide) rfl ?_
        refine tx_iload (pc := 56) 0 O dX0_readsBorrowers_56 rfl ?_
        refine tx_bipush (pc := 58) O dX0_readsBorrowers_58 (by decide) ?_
        refine tx_icmp_ne (pc := 60) 67 O dX0_readsBorrowers_60 rfl (by omega) (fun c60 => ?_) (fun c60 => ?_)
        · refine tx_iload (pc := 67) 0 O dX0_readsBorrowers_67 rfl ?_
          refine tx_bipush (pc := 69) O dX0_readsBorrowers_69 (by decide) ?_
          refine tx_icmp_ne (pc := 71) 78 O dX0_readsBorrowers_71 rfl (by omega) (fun c71 => ?_) (fun c71 => ?_)
          · refine tx_iload (pc := 78) 0 O dX0_readsBorrowers_78 rfl ?_
            refine tx_bipush (pc := 80) O dX0_readsBorrowers_80 (by decide) ?_
            refine tx_icmp_ne (pc := 82) 89 O dX0_readsBorrowers_82 rfl (by omega) (fun c82 => ?_) (fun c82 => ?_)
            · refine tx_iconst (pc := 89) O dX0_readsBorrowers_89 ?_
              refine tx_istore (pc := 90) (lv' := [(5, _), (4, _), (3, _), (2, _), (1, _), (0, _)]) O dX0_readsBorrowers_90 (by decide) rfl ?_
              first
                | exact K92 _ _ (by rw [if_pos c37]; unfold howP; (repeat' split) <;> omega)
                | exact K92 _ _ (by rw [if_neg (by omega)])
            · refine tx_iconst (pc := 85) O dX0_readsBorrowers_85 ?_
              refine tx_goto (pc := 86) 90 O dX0_readsBorrowers_86 rfl ?_
              refine tx_istore (pc := 90) (lv' := [(5, _), (4, _), (3, _), (2, _), (1, _), (0, _)]) O dX0_readsBorrowers_90 (by decide) rfl ?_
              first
                | exact K92 _ _ (by rw [if_pos c37]; unfold howP; (repeat' split) <;> omega)
                | exact K92 _ _ (by rw [if_neg (by omega)])
          · refine tx_iconst (pc := 74) O dX0_readsBorrowers_74 ?_
            refine tx_goto (pc := 75) 90 O dX0_readsBorrowers_75 rfl ?_
            refine tx_istore (pc := 90) (lv' := [(5, _), (4, _), (3, _), (2, _), (1, _), (0, _)]) O dX0_readsBorrowers_90 (by decide) rfl ?_
            first
              | exact K92 _ _ (by rw [if_pos c37]; unfold howP; (repeat' split) <;> omega)
              | exact K92 _ _ (by rw [if_neg (by omega)])
        · refine tx_iconst (pc := 63) O dX0_readsBorrowers_63 ?_
          refine tx_goto (pc := 64) 90 O dX0_readsBorrowers_64 rfl ?_
          refine tx_istore (pc := 90) (lv' := [(5, _), (4, _), (3, _), (2, _), (1, _), (0, _)]) O dX0_readsBorrowers_90 (by decide) rfl ?_
          first
            | exact K92 _ _ (by rw [if_pos c37]; unfold howP; (repeat' split) <;> omega)
            | exact K92 _ _ (by rw [if_neg (by omega)])
  refine tx_iconst (pc := 0) O dX0_readsBorrowers_0 ?_
  refine tx_istore_n (pc := 1) (lv' := [(1, _), (0, _)]) O dX0_readsBorrowers_1 rfl (by decide) rfl ?_
  refine tx_iconst (pc := 2) O dX0_readsBorrowers_2 ?_
  refine tx_istore_n (pc := 3) (lv' := [(2, _), (1, _), (0, _)]) O dX0_readsBorrowers_3 rfl (by decide) rfl ?_
  refine tx_aload_n (pc := 4) 2 O dX0_readsBorrowers_4 rfl rfl ?_
  refine fX0_13 (pc := 5) O hR dX0_readsBorrowers_5 ?_
  refine tx_iconst (pc := 8) O dX0_readsBorrowers_8 ?_
  refine tx_iald (pc := 9) _ O dX0_readsBorrowers_9 (sh_201 w) (by omega) ?_
  rw [hn]
  refine tx_if_le (pc := 10) 17 O dX0_readsBorrowers_10 rfl (by omega) (fun c10 => ?_) (fun c10 => ?_)
  · refine tx_iconst (pc := 17) O dX0_readsBorrowers_17 ?_
    refine tx_istore_n (pc := 18) (lv' := [(3, _), (2, _), (1, _), (0, _)]) O dX0_readsBorrowers_18 rfl (by decide) rfl ?_
    refine tx_aload_n (pc := 19) 3 O dX0_readsBorrowers_19 rfl rfl ?_
    refine tx_iconst (pc := 20) O dX0_readsBorrowers_20 ?_
    refine fX0_46p (pc := 21) O dX0_readsBorrowers_21 ?_
    first
      | exact K0 0 0 R (up M 1 6 0) ⟨by rw [show n = 0 by omega]; rfl, by rw [show n = 0 by omega]; rfl, fun b q1 q2 => by omega, kcB.rf.up (by omega), kR.rf⟩
      | (refine K1 (0, 0, R, up M 1 6 0) ?_
         dsimp only
         exact ⟨by omega, by omega, by omega, by omega, bst_0 f, up_s, fun b q1 q2 => by omega, kcB.rf.up (by omega), kR.rf⟩)
  · refine tx_iconst (pc := 13) O dX0_readsBorrowers_13 ?_
    refine tx_goto (pc := 14) 18 O dX0_readsBorrowers_14 rfl ?_
    refine tx_istore_n (pc := 18) (lv' := [(3, _), (2, _), (1, _), (0, _)]) O dX0_readsBorrowers_18 rfl (by decide) rfl ?_
    refine tx_aload_n (pc := 19) 3 O dX0_readsBorrowers_19 rfl rfl ?_
    refine tx_iconst (pc := 20) O dX0_readsBorrowers_20 ?_
    refine fX0_46p (pc := 21) O dX0_readsBorrowers_21 ?_
    first
      | exact K0 0 0 R (up M 1 6 0) ⟨by rw [show n = 0 by omega]; rfl, by rw [show n = 0 by omega]; rfl, fun b q1 q2 => by omega, kcB.rf.up (by omega), kR.rf⟩
      | (refine K1 (0, 0, R, up M 1 6 0) ?_
         dsimp only
         exact ⟨by omega, by omega, by omega, by omega, bst_0 f, up_s, fun b q1 q2 => by omega, kcB.rf.up (by omega), kR.rf⟩)

