/-! MODEL, a run: begins, hummed, commonOf -/
set_option maxRecDepth 100000
def nowIs (M : TM) (s : Int) (l : List Int) : Prop := M 116 s = l.length ∧ ∀ i : Int, 0 ≤ i → i < l.length → M 115 (40 * s + i) = ga l i
def lentIs (M : TM) (s : Int) (l : List Int) : Prop := M 118 s = l.length ∧ ∀ i : Int, 0 ≤ i → i < l.length → M 117 (40 * s + i) = ga l i
def kpN (s : Int) (M M' : TM) : Prop := ∀ a b : Int, (a ≠ 124 ∧ (a ≠ 115 ∨ b < 40 * s ∨ 40 * s + 40 ≤ b) ∧ (a ≠ 116 ∨ b ≠ s)) → M' a b = M a b
theorem kpN.r {s : Int} {M M' : TM} (h : kpN s M M') : kpR M M' := fun a b q => h a b (by omega)
theorem kpN.now {s t : Int} {M M' : TM} {l : List Int} (h : kpN s M M') (hn : nowIs M t l) (hl : l.length ≤ 40) (hst : t ≠ s) : nowIs M' t l := ⟨by rw [h _ _ (by omega)]; exact hn.1, fun i q1 q2 => by rw [h _ _ (by omega)]; exact hn.2 i q1 q2⟩
theorem sX6_begins (w : WT) (t s : Int) (R M : TM) (u : PU) (hR : RL R) (hu : mP M u) (ht : 0 ≤ t ∧ t < (uT u).length) (hs : 0 ≤ s ∧ s ≤ 6) : tx_S w yX6_begins cX6_begins 4 none 1 [rV (wa w) 2, iV t, iV s] R M (QV R (fun M' => nowIs M' s (gl (uT u) t) ∧ kpN s M M')) := by
  have hD := uT_ok hu.1.1
  have hD1 := hD.1
  have hl := (hD.2 _ (gl_mem ht.1 ht.2)).1.1
  obtain ⟨hr1, hr2⟩ := hu.2.1.2 t ht.1 ht.2
  generalize gl (uT u) t = l at hl hr1 hr2 ⊢
  refine tx_S.ofk (lv := [(0, _), (1, _), (2, _)]) [1, 1, 1] (by decide) (by simp only [List.map_cons, List.map_nil, cat_i, cat_l, cat_r]) (by decide) rfl (fun E O F => ?_)
  have K : ∀ (i : Int) (M' : TM), (0 ≤ i ∧ i ≤ l.length ∧ (∀ j : Int, 0 ≤ j → j < i → M' 115 (40 * s + j) = ga l j) ∧ kpN s M M') → tx_X w E 2 [(3, iV i), (0, rV (wa w) 2), (1, iV t), (2, iV s)] [] R M' := by
    refine lp_up _ _ l.length ?_
    rintro i M' ⟨h1, h2, h3, h4⟩ ih
    have e1 : M' 109 t = l.length := by rw [h4 _ _ (by omega)]; exact hr1
    refine tx_iload_n (pc := 2) 0 O dX6_begins_2 rfl rfl ?_
    refine tx_aload_n (pc := 3) 1 O dX6_begins_3 rfl rfl ?_
    refine fX6_31 (pc := 4) O hR dX6_begins_4 ?_
    refine tx_iload_n (pc := 7) 2 O dX6_begins_7 rfl rfl ?_
    refine tx_iald (pc := 8) _ O dX6_begins_8 (sh_109 w) (by omega) ?_
    rw [e1]
    refine tx_icmp_ge (pc := 9) 40 O dX6_begins_9 rfl (by omega) (fun c9 => ?_) (fun c9 => ?_)
    · refine tx_aload_n (pc := 40) 1 O dX6_begins_40 rfl rfl ?_
      refine fX6_43 (pc := 41) O hR dX6_begins_41 ?_
      refine tx_iload_n (pc := 44) 3 O dX6_begins_44 rfl rfl ?_
      refine tx_aload_n (pc := 45) 1 O dX6_begins_45 rfl rfl ?_
      refine fX6_31 (pc := 46) O hR dX6_begins_46 ?_
      refine tx_iload_n (pc := 49) 2 O dX6_begins_49 rfl rfl ?_
      refine tx_iald (pc := 50) _ O dX6_begins_50 (sh_109 w) (by omega) ?_
      rw [e1]
      refine tx_iast (pc := 51) _ O dX6_begins_51 (sh_116 w) (by omega) ?_
      exact tx_vret O F dX6_begins_52 (tx_QV.mk ⟨⟨up_s, fun j q1 q2 => by rw [up_n (by omega)]; exact h3 j q1 (by omega)⟩, fun a b q => by rw [up_n (by omega)]; exact h4 a b q⟩)
    · refine tx_aload_n (pc := 12) 1 O dX6_begins_12 rfl rfl ?_
      refine fX6_40 (pc := 13) O hR dX6_begins_13 ?_
      refine tx_bipush (pc := 16) O dX6_begins_16 (by decide) ?_
      refine tx_iload_n (pc := 18) 3 O dX6_begins_18 rfl rfl ?_
      refine tx_imul (pc := 19) O dX6_begins_19 ?_
      refine tx_iload_n (pc := 20) 0 O dX6_begins_20 rfl rfl ?_
      refine tx_iadd (pc := 21) O dX6_begins_21 ?_
      refine tx_aload_n (pc := 22) 1 O dX6_begins_22 rfl rfl ?_
      refine fX6_28 (pc := 23) O hR dX6_begins_23 ?_
      refine tx_bipush (pc := 26) O dX6_begins_26 (by decide) ?_
      refine tx_iload_n (pc := 28) 2 O dX6_begins_28 rfl rfl ?_
      refine tx_imul (pc := 29) O dX6_begins_29 ?_
      refine tx_iload_n (pc := 30) 0 O dX6_begins_30 rfl rfl ?_
      refine tx_iadd (pc := 31) O dX6_begins_31 ?_
      refine tx_iald (pc := 32) _ O dX6_begins_32 (sh_108 w) (by omega) ?_
      rw [h4 _ _ (by omega), hr2 i h1 c9]
      refine tx_iast (pc := 33) _ O dX6_begins_33 (sh_115 w) (by omega) ?_
      refine tx_iinc (pc := 34) (lv' := [(3, _), (0, _), (1, _), (2, _)]) 0 O dX6_begins_34 rfl (by decide) rfl ?_
      refine tx_goto (pc := 37) 2 O dX6_begins_37 rfl ?_
      refine ih _ _ ⟨by omega, by omega, fun j q1 q2 => ?_, fun a b q => ?_⟩ (by omega) (by omega)
      · by_cases e : j = i
        · subst e; exact up_s
        · rw [up_n (by omega)]; exact h3 j q1 (by omega)
      · rw [up_n (by omega)]; exact h4 a b q
  refine tx_iconst (pc := 0) O dX6_begins_0 ?_
  refine tx_istore_n (pc := 1) (lv' := [(3, _), (0, _), (1, _), (2, _)]) O dX6_begins_1 rfl (by decide) rfl ?_
  exact K 0 M ⟨by omega, by omega, fun j q1 q2 => by omega, fun _ _ _ => rfl⟩
theorem humf_ne {q : Int × Int × Int} {a : Int} (h : ¬ a = q.1) : humf q a = [a] := by unfold humf; rw [if_neg h]
theorem humf_0 {q : Int × Int × Int} {a : Int} (h : a = q.1) (h0 : q.2.1 = 0) : humf q a = [a, q.2.2] := by unfold humf; rw [if_pos h, if_pos h0]
theorem humf_1 {q : Int × Int × Int} {a : Int} (h : a = q.1) (h0 : q.2.1 = 1) : humf q a = [] := by unfold humf; rw [if_pos h, if_neg (by omega), if_pos h0]
theorem humf_2 {q : Int × Int × Int} {a : Int} (h : a = q.1) (h0 : q.2.1 = 2) : humf q a = [q.2.2] := by unfold humf; rw [if_pos h, if_neg (by omega), if_neg (by omega)]
def cIs (M : TM) (c : List Int) : Prop := ∀ j : Int, 0 ≤ j → j < c.length → M 124 j = ga c j
theorem cIs_add {M : TM} {c : List Int} {n v : Int} (h : cIs M c) (hn : n = c.length) : cIs (up M 124 n v) (c ++ [v]) := by
  subst hn
  intro j q1 q2
  have q3 : ((c ++ [v]).length : Int) = c.length + 1 := by simp
  by_cases e : j < c.length
  · rw [up_n (by omega), ga_lt q1 e]; exact h j q1 e
  · rw [show j = (c.length : Int) by omega, ga_eq, up_s]
theorem sX6_hummed (w : WT) (s b : Int) (R M : TM) (u : PU) (l : List Int) (hR : RL R) (hu : mP M u) (hb : 0 ≤ b ∧ b < uB u) (hs : 0 ≤ s ∧ s ≤ 6) (hl : nowIs M s l) (hok : okN l) : tx_S w yX6_hummed cX6_hummed 10 none 2 [rV (wa w) 2, iV s, iV b] R M (QV R (fun M' => nowIs M' s (hum (uq u b) l) ∧ kpN s M M')) := by
  have hB := uB_ok hu.1.1
  have hq := uq_ok hu.1.1 hb.1 hb.2
  obtain ⟨b1, b2, b3⟩ := hu.2.2.2 b hb.1 hb.2
  have hm := hmI_ok hq hok.2
  change M 111 (3 * b) = (uq u b).1 at b1
  change M 111 (3 * b + 1) = (uq u b).2.1 at b2
  change M 111 (3 * b + 2) = (uq u b).2.2 at b3
  generalize uq u b = q at hq hm b1 b2 b3 ⊢
  obtain ⟨x, hw, y⟩ := q
  obtain ⟨r1, r2, r3, r4, r5, r6⟩ := hq
  dsimp only at b1 b2 b3 r1 r2 r3 r4 r5 r6
  have hl40 := hok.1
  refine tx_S.ofk (lv := [(0, _), (1, _), (2, _)]) [1, 1, 1] (by decide) (by simp only [List.map_cons, List.map_nil, cat_i, cat_l, cat_r]) (by decide) rfl (fun E O F => ?_)
  have K2 : ∀ (c : List Int), c = hmI (x, hw, y) l l.length → ∀ (i : Int) (M' : TM), (0 ≤ i ∧ i ≤ (c.take 40).length ∧ M' 116 s = (c.take 40).length ∧ cIs M' c ∧ (∀ j : Int, 0 ≤ j → j < i → M' 115 (40 * s + j) = ga c j) ∧ kpN s M M') → tx_X w E 158 [(7, iV i), (0, rV (wa w) 2), (1, iV s)] [] R M' := by
    intro c hc
    have hm2 := hm l.length (by omega) (Int.le_refl _)
    rw [← hc] at hm2
    have hlen : ((c.take 40).length : Int) ≤ 40 ∧ ((c.take 40).length : Int) ≤ c.length := by simp; omega
    refine lp_up _ _ (c.take 40).length ?_
    rintro i M' ⟨h1, h2, h3, h4, h5, h6⟩ ih
    refine tx_iload (pc := 158) 0 O dX6_hummed_158 rfl ?_
    refine tx_aload_n (pc := 160) 1 O dX6_hummed_160 rfl rfl ?_
    refine fX6_43 (pc := 161) O hR dX6_hummed_161 ?_
    refine tx_iload_n (pc := 164) 2 O dX6_hummed_164 rfl rfl ?_
    refine tx_iald (pc := 165) _ O dX6_hummed_165 (sh_116 w) (by omega) ?_
    rw [h3]
    refine tx_icmp_ge (pc := 166) 194 O dX6_hummed_166 rfl (by omega) (fun c166 => ?_) (fun c166 => ?_)
    · exact tx_vret O F dX6_hummed_194 (tx_QV.mk ⟨⟨by unfold hum; rw [← hc]; exact h3, fun j q1 q2 => by
          unfold hum at q2 ⊢
          rw [← hc] at q2 ⊢
          rw [ga_take q1 (by omega)]
          exact h5 j q1 (by omega)⟩, h6⟩)
    · refine tx_aload_n (pc := 169) 1 O dX6_hummed_169 rfl rfl ?_
      refine fX6_40 (pc := 170) O hR dX6_hummed_170 ?_
      refine tx_bipush (pc := 173) O dX6_hummed_173 (by decide) ?_
      refine tx_iload_n (pc := 175) 2 O dX6_hummed_175 rfl rfl ?_
      refine tx_imul (pc := 176) O dX6_hummed_176 ?_
      refine tx_iload (pc := 177) 0 O dX6_hummed_177 rfl ?_
      refine tx_iadd (pc := 179) O dX6_hummed_179 ?_
      refine tx_aload_n (pc := 180) 1 O dX6_hummed_180 rfl rfl ?_
      refine fX6_67 (pc := 181) O hR dX6_hummed_181 ?_
      refine tx_iload (pc := 184) 0 O dX6_hummed_184 rfl ?_
      refine tx_iald (pc := 186) _ O dX6_hummed_186 (sh_124 w) (by omega) ?_
      rw [h4 i h1 (by omega)]
      refine tx_iast (pc := 187) _ O dX6_hummed_187 (sh_115 w) (by omega) ?_
      refine tx_iinc (pc := 188) (lv' := [(7, _), (0, _), (1, _)]) 0 O dX6_hummed_188 rfl (by decide) rfl ?_
      refine tx_goto (pc := 191) 158 O dX6_hummed_191 rfl ?_
      refine ih _ _ ⟨by omega, by omega, by rw [up_n (by omega)]; exact h3, fun j q1 q2 => by rw [up_n (by omega)]; exact h4 j q1 q2, fun j q1 q2 => ?_, fun a b q => ?_⟩ (by omega) (by omega)
      · by_cases e : j = i
        · subst e; exact up_s
        · rw [up_n (by omega)]; exact h5 j q1 (by omega)
      · rw [up_n (by omega)]; exact h6 a b q
  have K : ∀ z : Int × Int × TM, (0 ≤ z.1 ∧ z.1 ≤ l.length ∧ z.2.1 = (hmI (x, hw, y) l z.1).length ∧ cIs z.2.2 (hmI (x, hw, y) l z.1) ∧ (∀ a b : Int, a ≠ 124 → z.2.2 a b = M a b)) → tx_X w E 39 [(7, iV z.1), (6, iV y), (5, iV hw), (4, iV x), (3, iV z.2.1), (0, rV (wa w) 2), (1, iV s), (2, iV b)] [] R z.2.2 := by
    refine lp_m _ _ (fun z => (l.length - z.1).toNat) ?_
    rintro ⟨i, n, M'⟩ ⟨h1, h2, h3, h4, h5⟩ ih
    dsimp only at h1 h2 h3 h4 h5 ⊢
    have hn := (hm i h1 h2).1
    have e1 : M' 116 s = l.length := by rw [h5 _ _ (by omega)]; exact hl.1
    have S : i < l.length → ∀ (c2 : List Int) (n' : Int) (M2 : TM), hmI (x, hw, y) l (i + 1) = c2 → n' = c2.length → cIs M2 c2 → (∀ a b : Int, a ≠ 124 → M2 a b = M a b) → tx_X w E 39 [(7, iV (i + 1)), (6, iV y), (5, iV hw), (4, iV x), (3, iV n'), (0, rV (wa w) 2), (1, iV s), (2, iV b)] [] R M2 := by
      intro hi c2 n' M2 g1 g2 g3 g4
      refine ih (i + 1, n', M2) ?_ (by dsimp only; omega)
      dsimp only
      rw [g1]
      exact ⟨by omega, by omega, g2, g3, g4⟩
    have hst := hmI_1 (x, hw, y) l h1
    refine tx_iload (pc := 39) 0 O dX6_hummed_39 rfl ?_
    refine tx_aload_n (pc := 41) 5 O dX6_hummed_41 rfl rfl ?_
    refine fX6_43 (pc := 42) O hR dX6_hummed_42 ?_
    refine tx_iload_n (pc := 45) 6 O dX6_hummed_45 rfl rfl ?_
    refine tx_iald (pc := 46) _ O dX6_hummed_46 (sh_116 w) (by omega) ?_
    rw [e1]
    refine tx_icmp_ge (pc := 47) 143 O dX6_hummed_47 rfl (by omega) (fun c47 => ?_) (fun c47 => ?_)
    · have ei : i = l.length := by omega
      subst ei
      refine tx_aload_n (pc := 143) 5 O dX6_hummed_143 rfl rfl ?_
      refine fX6_43 (pc := 144) O hR dX6_hummed_144 ?_
      refine tx_iload_n (pc := 147) 6 O dX6_hummed_147 rfl rfl ?_
      refine tx_iload_n (pc := 148) 4 O dX6_hummed_148 rfl rfl ?_
      refine tx_bipush (pc := 149) O dX6_hummed_149 (by decide) ?_
      refine tx_cS2 (pc := 151) O dX6_hummed_151 q1057 vX6_lesser (by decide) (by simp only [List.map_cons, List.map_nil, cat_i, cat_l, cat_r, List.sum_cons, List.sum_nil]; decide) (sX6_lesser w _ _ _ _ (by omega)) (k_P (fun z151 h151 => ?_))
      have hm2 := h151
      refine tx_iast (pc := 154) _ O dX6_hummed_154 (sh_116 w) (by omega) ?_
      refine tx_iconst (pc := 155) O dX6_hummed_155 ?_
      refine tx_istore (pc := 156) (lv' := [(7, _), (6, _), (5, _), (4, _), (3, _), (0, _), (1, _), (2, _)]) O dX6_hummed_156 (by decide) rfl ?_
      refine tx_lv (lv' := [(7, _), (0, _), (1, _)]) [0, 5, 6] rfl ?_
      refine K2 _ rfl 0 _ ⟨by omega, by omega, by rw [up_s, h151, h3]; simp [List.length_take]; omega, fun j q1 q2 => by rw [up_n (by omega)]; exact h4 j q1 q2, fun j q1 q2 => by omega, fun a b q => by rw [up_n (by omega)]; exact h5 a b q.1⟩
    · have e2 : M' 115 (40 * s + i) = ga l i := by rw [h5 _ _ (by omega)]; exact hl.2 i h1 c47
      have e3 := hok.2 _ (ga_mem h1 c47)
      refine tx_aload_n (pc := 50) 5 O dX6_hummed_50 rfl rfl ?_
      refine fX6_40 (pc := 51) O hR dX6_hummed_51 ?_
      refine tx_bipush (pc := 54) O dX6_hummed_54 (by decide) ?_
      refine tx_iload_n (pc := 56) 6 O dX6_hummed_56 rfl rfl ?_
      refine tx_imul (pc := 57) O dX6_hummed_57 ?_
      refine tx_iload (pc := 58) 0 O dX6_hummed_58 rfl ?_
      refine tx_iadd (pc := 60) O dX6_hummed_60 ?_
      refine tx_iald (pc := 61) _ O dX6_hummed_61 (sh_115 w) (by omega) ?_
      rw [e2]
      refine tx_istore (pc := 62) (lv' := [(8, _), (7, _), (6, _), (5, _), (4, _), (3, _), (0, _), (1, _), (2, _)]) O dX6_hummed_62 (by decide) rfl ?_
      refine tx_iload (pc := 64) 0 O dX6_hummed_64 rfl ?_
      refine tx_iload (pc := 66) 4 O dX6_hummed_66 rfl ?_
      refine tx_icmp_ne (pc := 68) 75 O dX6_hummed_68 rfl (by omega) (fun c68 => ?_) (fun c68 => ?_)
      · refine tx_iconst (pc := 75) O dX6_hummed_75 ?_
        refine tx_istore (pc := 76) (lv' := [(9, _), (8, _), (7, _), (6, _), (5, _), (4, _), (3, _), (0, _), (1, _), (2, _)]) O dX6_hummed_76 (by decide) rfl ?_
        refine tx_iload (pc := 78) 0 O dX6_hummed_78 rfl ?_
        refine tx_if_eq (pc := 80) 89 O dX6_hummed_80 rfl (by omega) (fun c80 => ?_) (fun c80 => ?_)
        · refine tx_aload_n (pc := 89) 7 O dX6_hummed_89 rfl rfl ?_
          refine fX6_67 (pc := 90) O hR dX6_hummed_90 ?_
          refine tx_iload_n (pc := 93) 6 O dX6_hummed_93 rfl rfl ?_
          refine tx_iload (pc := 94) 0 O dX6_hummed_94 rfl ?_
          refine tx_if_eq (pc := 96) 110 O dX6_hummed_96 rfl (by omega) (fun c96 => ?_) (fun c96 => ?_)
          · refine tx_iload (pc := 110) 1 O dX6_hummed_110 rfl ?_
            refine tx_iast (pc := 112) _ O dX6_hummed_112 (sh_124 w) (by omega) ?_
            refine tx_iinc (pc := 113) (lv' := [(3, _), (9, _), (8, _), (7, _), (6, _), (5, _), (4, _), (0, _), (1, _), (2, _)]) 6 O dX6_hummed_113 rfl (by decide) rfl ?_
            refine tx_iload (pc := 116) 1 O dX6_hummed_116 rfl ?_
            refine tx_if_eq (pc := 118) 137 O dX6_hummed_118 rfl (by omega) (fun c118 => ?_) (fun c118 => ?_)
            · refine tx_iinc (pc := 137) (lv' := [(7, _), (3, _), (9, _), (8, _), (6, _), (5, _), (4, _), (0, _), (1, _), (2, _)]) 3 O dX6_hummed_137 rfl (by decide) rfl ?_
              refine tx_goto (pc := 140) 39 O dX6_hummed_140 rfl ?_
              refine tx_lv (lv' := [(7, _), (6, _), (5, _), (4, _), (3, _), (0, _), (1, _), (2, _)]) [0, 4, 5, 6, 1, 7, 8, 9] rfl ?_
              first
                | (exfalso; omega)
                | (rw [humf_ne c68] at hst
                   exact S c47 _ _ _ hst (by simp; omega) (cIs_add h4 h3) (fun a b q => by rw [up_n (by omega)]; exact h5 a b q))
                | (rw [humf_1 c68 (by dsimp only; omega), List.append_nil] at hst
                   exact S c47 _ _ _ hst (by omega) h4 h5)
                | (rw [humf_2 c68 (by dsimp only; omega)] at hst
                   exact S c47 _ _ _ hst (by simp; omega) (cIs_add h4 h3) (fun a b q => by rw [up_n (by omega)]; exact h5 a b q))
                | (rw [humf_0 c68 (by dsimp only; omega), show ([ga l i, y] : List Int) = [ga l i] ++ [y] from rfl, ← List.append_assoc] at hst
                   exact S c47 _ _ _ hst (by simp; omega) (cIs_add (cIs_add h4 h3) (by simp; omega)) (fun a b q => by rw [up_n (by omega), up_n (by omega)]; exact h5 a b q))
            · exact absurd c118 (by decide)
          · exact absurd c96 (by decide)
        · exact absurd c80 (by decide)
      · refine tx_iconst (pc := 71) O dX6_hummed_71 ?_
        refine tx_goto (pc := 72) 76 O dX6_hummed_72 rfl ?_
        refine tx_istore (pc := 76) (lv' := [(9, _), (8, _), (7, _), (6, _), (5, _), (4, _), (3, _), (0, _), (1, _), (2, _)]) O dX6_hummed_76 (by decide) rfl ?_
        refine tx_iload (pc := 78) 0 O dX6_hummed_78 rfl ?_
        refine tx_if_eq (pc := 80) 89 O dX6_hummed_80 rfl (by omega) (fun c80 => ?_) (fun c80 => ?_)
        · exact absurd c80 (by decide)
        · refine tx_iload (pc := 83) 4 O dX6_hummed_83 rfl ?_
          refine tx_iconst (pc := 85) O dX6_hummed_85 ?_
          refine tx_icmp_eq (pc := 86) 116 O dX6_hummed_86 rfl (by omega) (fun c86 => ?_) (fun c86 => ?_)
          · refine tx_iload (pc := 116) 0 O dX6_hummed_116 rfl ?_
            refine tx_if_eq (pc := 118) 137 O dX6_hummed_118 rfl (by omega) (fun c118 => ?_) (fun c118 => ?_)
            · exact absurd c118 (by decide)
            · refine tx_iload (pc := 121) 4 O dX6_hummed_121 rfl ?_
              refine tx_if_ne (pc := 123) 137 O dX6_hummed_123 rfl (by omega) (fun c123 => ?_) (fun c123 => ?_)
              · refine tx_iinc (pc := 137) (lv' := [(7, _), (9, _), (8, _), (6, _), (5, _), (4, _), (3, _), (0, _), (1, _), (2, _)]) 2 O dX6_hummed_137 rfl (by decide) rfl ?_
                refine tx_goto (pc := 140) 39 O dX6_hummed_140 rfl ?_
                refine tx_lv (lv' := [(7, _), (6, _), (5, _), (4, _), (3, _), (0, _), (1, _), (2, _)]) [0, 3, 4, 5, 6, 7, 8, 9] rfl ?_
                first
                  | (exfalso; omega)
                  | (rw [humf_ne c68] at hst
                     exact S c47 _ _ _ hst (by simp; omega) (cIs_add h4 h3) (fun a b q => by rw [up_n (by omega)]; exact h5 a b q))
                  | (rw [humf_1 c68 (by dsimp only; omega), List.append_nil] at hst
                     exact S c47 _ _ _ hst (by omega) h4 h5)
                  | (rw [humf_2 c68 (by dsimp only; omega)] at hst
                     exact S c47 _ _ _ hst (by simp; omega) (cIs_add h4 h3) (fun a b q => by rw [up_n (by omega)]; exact h5 a b q))
                  | (rw [humf_0 c68 (by dsimp only; omega), show ([ga l i, y] : List Int) = [ga l i] ++ [y] from rfl, ← List.append_assoc] at hst
                     exact S c47 _ _ _ hst (by simp; omega) (cIs_add (cIs_add h4 h3) (by simp; omega)) (fun a b q => by rw [up_n (by omega), up_n (by omega)]; exact h5 a b q))
              · refine tx_aload_n (pc := 126) 7 O dX6_hummed_126 rfl rfl ?_
                refine fX6_67 (pc := 127) O hR dX6_hummed_127 ?_
                refine tx_iload_n (pc := 130) 6 O dX6_hummed_130 rfl rfl ?_
                refine tx_iload (pc := 131) 3 O dX6_hummed_131 rfl ?_
                refine tx_iast (pc := 133) _ O dX6_hummed_133 (sh_124 w) (by omega) ?_
                refine tx_iinc (pc := 134) (lv' := [(3, _), (9, _), (8, _), (7, _), (6, _), (5, _), (4, _), (0, _), (1, _), (2, _)]) 6 O dX6_hummed_134 rfl (by decide) rfl ?_
                refine tx_iinc (pc := 137) (lv' := [(7, _), (3, _), (9, _), (8, _), (6, _), (5, _), (4, _), (0, _), (1, _), (2, _)]) 3 O dX6_hummed_137 rfl (by decide) rfl ?_
                refine tx_goto (pc := 140) 39 O dX6_hummed_140 rfl ?_
                refine tx_lv (lv' := [(7, _), (6, _), (5, _), (4, _), (3, _), (0, _), (1, _), (2, _)]) [0, 4, 5, 6, 1, 7, 8, 9] rfl ?_
                first
                  | (exfalso; omega)
                  | (rw [humf_ne c68] at hst
                     exact S c47 _ _ _ hst (by simp; omega) (cIs_add h4 h3) (fun a b q => by rw [up_n (by omega)]; exact h5 a b q))
                  | (rw [humf_1 c68 (by dsimp only; omega), List.append_nil] at hst
                     exact S c47 _ _ _ hst (by omega) h4 h5)
                  | (rw [humf_2 c68 (by dsimp only; omega)] at hst
                     exact S c47 _ _ _ hst (by simp; omega) (cIs_add h4 h3) (fun a b q => by rw [up_n (by omega)]; exact h5 a b q))
                  | (rw [humf_0 c68 (by dsimp only; omega), show ([ga l i, y] : List Int) = [ga l i] ++ [y] from rfl, ← List.append_assoc] at hst
                     exact S c47 _ _ _ hst (by simp; omega) (cIs_add (cIs_add h4 h3) (by simp; omega)) (fun a b q => by rw [up_n (by omega), up_n (by omega)]; exact h5 a b q))
          · refine tx_aload_n (pc := 89) 7 O dX6_hummed_89 rfl rfl ?_
            refine fX6_67 (pc := 90) O hR dX6_hummed_90 ?_
            refine tx_iload_n (pc := 93) 6 O dX6_hummed_93 rfl rfl ?_
            refine tx_iload (pc := 94) 0 O dX6_hummed_94 rfl ?_
            refine tx_if_eq (pc := 96) 110 O dX6_hummed_96 rfl (by omega) (fun c96 => ?_) (fun c96 => ?_)
            · exact absurd c96 (by decide)
            · refine tx_iload (pc := 99) 4 O dX6_hummed_99 rfl ?_
              refine tx_iconst (pc := 101) O dX6_hummed_101 ?_
              refine tx_icmp_ne (pc := 102) 110 O dX6_hummed_102 rfl (by omega) (fun c102 => ?_) (fun c102 => ?_)
              · refine tx_iload (pc := 110) 1 O dX6_hummed_110 rfl ?_
                refine tx_iast (pc := 112) _ O dX6_hummed_112 (sh_124 w) (by omega) ?_
                refine tx_iinc (pc := 113) (lv' := [(3, _), (9, _), (8, _), (7, _), (6, _), (5, _), (4, _), (0, _), (1, _), (2, _)]) 6 O dX6_hummed_113 rfl (by decide) rfl ?_
                refine tx_iload (pc := 116) 1 O dX6_hummed_116 rfl ?_
                refine tx_if_eq (pc := 118) 137 O dX6_hummed_118 rfl (by omega) (fun c118 => ?_) (fun c118 => ?_)
                · exact absurd c118 (by decide)
                · refine tx_iload (pc := 121) 5 O dX6_hummed_121 rfl ?_
                  refine tx_if_ne (pc := 123) 137 O dX6_hummed_123 rfl (by omega) (fun c123 => ?_) (fun c123 => ?_)
                  · refine tx_iinc (pc := 137) (lv' := [(7, _), (3, _), (9, _), (8, _), (6, _), (5, _), (4, _), (0, _), (1, _), (2, _)]) 3 O dX6_hummed_137 rfl (by decide) rfl ?_
                    refine tx_goto (pc := 140) 39 O dX6_hummed_140 rfl ?_
                    refine tx_lv (lv' := [(7, _), (6, _), (5, _), (4, _), (3, _), (0, _), (1, _), (2, _)]) [0, 4, 5, 6, 1, 7, 8, 9] rfl ?_
                    first
                      | (exfalso; omega)
                      | (rw [humf_ne c68] at hst
                         exact S c47 _ _ _ hst (by simp; omega) (cIs_add h4 h3) (fun a b q => by rw [up_n (by omega)]; exact h5 a b q))
                      | (rw [humf_1 c68 (by dsimp only; omega), List.append_nil] at hst
                         exact S c47 _ _ _ hst (by omega) h4 h5)
                      | (rw [humf_2 c68 (by dsimp only; omega)] at hst
                         exact S c47 _ _ _ hst (by simp; omega) (cIs_add h4 h3) (fun a b q => by rw [up_n (by omega)]; exact h5 a b q))
                      | (rw [humf_0 c68 (by dsimp only; omega), show ([ga l i, y] : List Int) = [ga l i] ++ [y] from rfl, ← List.append_assoc] at hst
                         exact S c47 _ _ _ hst (by simp; omega) (cIs_add (cIs_add h4 h3) (by simp; omega)) (fun a b q => by rw [up_n (by omega), up_n (by omega)]; exact h5 a b q))
                  · refine tx_aload_n (pc := 126) 7 O dX6_hummed_126 rfl rfl ?_
                    refine fX6_67 (pc := 127) O hR dX6_hummed_127 ?_
                    refine tx_iload_n (pc := 130) 0 O dX6_hummed_130 rfl rfl ?_
                    refine tx_iload (pc := 131) 4 O dX6_hummed_131 rfl ?_
                    refine tx_iast (pc := 133) _ O dX6_hummed_133 (sh_124 w) (by omega) ?_
                    refine tx_iinc (pc := 134) (lv' := [(3, _), (9, _), (8, _), (7, _), (6, _), (5, _), (4, _), (0, _), (1, _), (2, _)]) 0 O dX6_hummed_134 rfl (by decide) rfl ?_
                    refine tx_iinc (pc := 137) (lv' := [(7, _), (3, _), (9, _), (8, _), (6, _), (5, _), (4, _), (0, _), (1, _), (2, _)]) 3 O dX6_hummed_137 rfl (by decide) rfl ?_
                    refine tx_goto (pc := 140) 39 O dX6_hummed_140 rfl ?_
                    refine tx_lv (lv' := [(7, _), (6, _), (5, _), (4, _), (3, _), (0, _), (1, _), (2, _)]) [0, 4, 5, 6, 1, 7, 8, 9] rfl ?_
                    first
                      | (exfalso; omega)
                      | (rw [humf_ne c68] at hst
                         exact S c47 _ _ _ hst (by simp; omega) (cIs_add h4 h3) (fun a b q => by rw [up_n (by omega)]; exact h5 a b q))
                      | (rw [humf_1 c68 (by dsimp only; omega), List.append_nil] at hst
                         exact S c47 _ _ _ hst (by omega) h4 h5)
                      | (rw [humf_2 c68 (by dsimp only; omega)] at hst
                         exact S c47 _ _ _ hst (by simp; omega) (cIs_add h4 h3) (fun a b q => by rw [up_n (by omega)]; exact h5 a b q))
                      | (rw [humf_0 c68 (by dsimp only; omega), show ([ga l i, y] : List Int) = [ga l i] ++ [y] from rfl, ← List.append_assoc] at hst
                         exact S c47 _ _ _ hst (by simp; omega) (cIs_add (cIs_add h4 h3) (by simp; omega)) (fun a b q => by rw [up_n (by omega), up_n (by omega)]; exact h5 a b q))
              · refine tx_iload (pc := 105) 3 O dX6_hummed_105 rfl ?_
                refine tx_goto (pc := 107) 112 O dX6_hummed_107 rfl ?_
                refine tx_iast (pc := 112) _ O dX6_hummed_112 (sh_124 w) (by omega) ?_
                refine tx_iinc (pc := 113) (lv' := [(3, _), (9, _), (8, _), (7, _), (6, _), (5, _), (4, _), (0, _), (1, _), (2, _)]) 6 O dX6_hummed_113 rfl (by decide) rfl ?_
                refine tx_iload (pc := 116) 1 O dX6_hummed_116 rfl ?_
                refine tx_if_eq (pc := 118) 137 O dX6_hummed_118 rfl (by omega) (fun c118 => ?_) (fun c118 => ?_)
                · exact absurd c118 (by decide)
                · refine tx_iload (pc := 121) 5 O dX6_hummed_121 rfl ?_
                  refine tx_if_ne (pc := 123) 137 O dX6_hummed_123 rfl (by omega) (fun c123 => ?_) (fun c123 => ?_)
                  · refine tx_iinc (pc := 137) (lv' := [(7, _), (3, _), (9, _), (8, _), (6, _), (5, _), (4, _), (0, _), (1, _), (2, _)]) 3 O dX6_hummed_137 rfl (by decide) rfl ?_
                    refine tx_goto (pc := 140) 39 O dX6_hummed_140 rfl ?_
                    refine tx_lv (lv' := [(7, _), (6, _), (5, _), (4, _), (3, _), (0, _), (1, _), (2, _)]) [0, 4, 5, 6, 1, 7, 8, 9] rfl ?_
                    first
                      | (exfalso; omega)
                      | (rw [humf_ne c68] at hst
                         exact S c47 _ _ _ hst (by simp; omega) (cIs_add h4 h3) (fun a b q => by rw [up_n (by omega)]; exact h5 a b q))
                      | (rw [humf_1 c68 (by dsimp only; omega), List.append_nil] at hst
                         exact S c47 _ _ _ hst (by omega) h4 h5)
                      | (rw [humf_2 c68 (by dsimp only; omega)] at hst
                         exact S c47 _ _ _ hst (by simp; omega) (cIs_add h4 h3) (fun a b q => by rw [up_n (by omega)]; exact h5 a b q))
                      | (rw [humf_0 c68 (by dsimp only; omega), show ([ga l i, y] : List Int) = [ga l i] ++ [y] from rfl, ← List.append_assoc] at hst
                         exact S c47 _ _ _ hst (by simp; omega) (cIs_add (cIs_add h4 h3) (by simp; omega)) (fun a b q => by rw [up_n (by omega), up_n (by omega)]; exact h5 a b q))
                  · refine tx_aload_n (pc := 126) 7 O dX6_hummed_126 rfl rfl ?_
                    refine fX6_67 (pc := 127) O hR dX6_hummed_127 ?_
                    refine tx_iload_n (pc := 130) 0 O dX6_hummed_130 rfl rfl ?_
                    refine tx_iload (pc := 131) 4 O dX6_hummed_131 rfl ?_
                    refine tx_iast (pc := 133) _ O dX6_hummed_133 (sh_124 w) (by omega) ?_
                    refine tx_iinc (pc := 134) (lv' := [(3, _), (9, _), (8, _), (7, _), (6, _), (5, _), (4, _), (0, _), (1, _), (2, _)]) 0 O dX6_hummed_134 rfl (by decide) rfl ?_
                    refine tx_iinc (pc := 137) (lv' := [(7, _), (3, _), (9, _), (8, _), (6, _), (5, _), (4, _), (0, _), (1, _), (2, _)]) 3 O dX6_hummed_137 rfl (by decide) rfl ?_
                    refine tx_goto (pc := 140) 39 O dX6_hummed_140 rfl ?_
                    refine tx_lv (lv' := [(7, _), (6, _), (5, _), (4, _), (3, _), (0, _), (1, _), (2, _)]) [0, 4, 5, 6, 1, 7, 8, 9] rfl ?_
                    first
                      | (exfalso; omega)
                      | (rw [humf_ne c68] at hst
                         exact S c47 _ _ _ hst (by simp; omega) (cIs_add h4 h3) (fun a b q => by rw [up_n (by omega)]; exact h5 a b q))
                      | (rw [humf_1 c68 (by dsimp only; omega), List.append_nil] at hst
                         exact S c47 _ _ _ hst (by omega) h4 h5)
                      | (rw [humf_2 c68 (by dsimp only; omega)] at hst
                         exact S c47 _ _ _ hst (by simp; omega) (cIs_add h4 h3) (fun a b q => by rw [up_n (by omega)]; exact h5 a b q))
                      | (rw [humf_0 c68 (by dsimp only; omega), show ([ga l i, y] : List Int) = [ga l i] ++ [y] from rfl, ← List.append_assoc] at hst
                         exact S c47 _ _ _ hst (by simp; omega) (cIs_add (cIs_add h4 h3) (by simp; omega)) (fun a b q => by rw [up_n (by omega), up_n (by omega)]; exact h5 a b q))
  refine tx_iconst (pc := 0) O dX6_hummed_0 ?_
  refine tx_istore_n (pc := 1) (lv' := [(3, _), (0, _), (1, _), (2, _)]) O dX6_hummed_1 rfl (by decide) rfl ?_
  refine tx_aload_n (pc := 2) 1 O dX6_hummed_2 rfl rfl ?_
  refine fX6_34 (pc := 3) O hR dX6_hummed_3 ?_
  refine tx_iconst (pc := 6) O dX6_hummed_6 ?_
  refine tx_iload_n (pc := 7) 3 O dX6_hummed_7 rfl rfl ?_
  refine tx_imul (pc := 8) O dX6_hummed_8 ?_
  refine tx_iald (pc := 9) _ O dX6_hummed_9 (sh_111 w) (by omega) ?_
  rw [b1]
  refine tx_istore (pc := 10) (lv' := [(4, _), (3, _), (0, _), (1, _), (2, _)]) O dX6_hummed_10 (by decide) rfl ?_
  refine tx_aload_n (pc := 12) 2 O dX6_hummed_12 rfl rfl ?_
  refine fX6_34 (pc := 13) O hR dX6_hummed_13 ?_
  refine tx_iconst (pc := 16) O dX6_hummed_16 ?_
  refine tx_iload_n (pc := 17) 4 O dX6_hummed_17 rfl rfl ?_
  refine tx_imul (pc := 18) O dX6_hummed_18 ?_
  refine tx_iconst (pc := 19) O dX6_hummed_19 ?_
  refine tx_iadd (pc := 20) O dX6_hummed_20 ?_
  refine tx_iald (pc := 21) _ O dX6_hummed_21 (sh_111 w) (by omega) ?_
  rw [b2]
  refine tx_istore (pc := 22) (lv' := [(5, _), (4, _), (3, _), (0, _), (1, _), (2, _)]) O dX6_hummed_22 (by decide) rfl ?_
  refine tx_aload_n (pc := 24) 3 O dX6_hummed_24 rfl rfl ?_
  refine fX6_34 (pc := 25) O hR dX6_hummed_25 ?_
  refine tx_iconst (pc := 28) O dX6_hummed_28 ?_
  refine tx_iload_n (pc := 29) 5 O dX6_hummed_29 rfl rfl ?_
  refine tx_imul (pc := 30) O dX6_hummed_30 ?_
  refine tx_iconst (pc := 31) O dX6_hummed_31 ?_
  refine tx_iadd (pc := 32) O dX6_hummed_32 ?_
  refine tx_iald (pc := 33) _ O dX6_hummed_33 (sh_111 w) (by omega) ?_
  rw [b3]
  refine tx_istore (pc := 34) (lv' := [(6, _), (5, _), (4, _), (3, _), (0, _), (1, _), (2, _)]) O dX6_hummed_34 (by decide) rfl ?_
  refine tx_iconst (pc := 36) O dX6_hummed_36 ?_
  refine tx_istore (pc := 37) (lv' := [(7, _), (6, _), (5, _), (4, _), (3, _), (0, _), (1, _), (2, _)]) O dX6_hummed_37 (by decide) rfl ?_
  refine K (0, 0, M) ?_
  dsimp only
  exact ⟨by omega, by omega, rfl, fun j q1 q2 => by rw [hmI_0] at q2; simp at q2; omega, fun _ _ _ => rfl⟩

