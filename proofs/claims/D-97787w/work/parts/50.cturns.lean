/-! COMPONENT, turns: rowsOf, figure, turns, lend, longest, codeOf, who -/
set_option maxRecDepth 100000
theorem it_div {B code : Int} (hB : 0 < B) : ∀ n : Nat, itI (fun _ x => x / B) code n = code / pw B n ∧ 0 < pw B n := by
  intro n
  induction n with
  | zero => exact ⟨by show code = code / 1; simp, by show (0 : Int) < 1; omega⟩
  | succ n ih =>
    rw [show ((n + 1 : Nat) : Int) = (n : Int) + 1 by omega, itI_1 _ _ (by omega), pw_1 _ (by omega), ih.1]
    exact ⟨Int.ediv_ediv_of_nonneg (by omega), Int.mul_pos ih.2 hB⟩
theorem fig_div {B code n i : Int} (hB : 0 < B) (hi : i < n) : fig B code n i = code / pw B (n - 1 - i) % B := by
  unfold fig
  have := (it_div (code := code) hB (n - 1 - i).toNat).1
  rw [Int.toNat_of_nonneg (by omega)] at this
  rw [this]
theorem pw_div {B n : Int} (hB : 0 < B) (hn : 0 ≤ n) : pw B (n + 1) / B = pw B n := by
  rw [pw_1 _ hn, Int.mul_ediv_cancel _ (by omega)]
theorem pw_pos {B n : Int} (hB : 0 < B) (hn : 0 ≤ n) : 0 < pw B n := by
  have := (it_div (code := 0) hB n.toNat).2
  rw [Int.toNat_of_nonneg hn] at this
  exact this
theorem cP.bor {R M : TM} {u : PU} (h : cP R M u) : M 1 6 = uB u := h.2.2.2.1.1
theorem cP.tun {R M : TM} {u : PU} (h : cP R M u) : M 1 4 = (uT u).length := h.2.2.1.1
theorem cP.tu {R M : TM} {u : PU} (h : cP R M u) {t : Int} (ht : 0 ≤ t ∧ t < (uT u).length) : tuIs M (400 + t) (gl (uT u) t) := h.2.2.1.2 t ht.1 ht.2
theorem sX0_rowsOf (w : WT) (n : Int) (R M : TM) (u : PU) (hu : cP R M u) (hn : 0 ≤ n ∧ n ≤ 3) : tx_S w yX0_rowsOf cX0_rowsOf 4 (some .int) 1 [rV (wa w) 1, iV n] R M (QP R M (fun z => z = pw (uB u) n)) := by
  refine tx_S.ofk (lv := [(0, _), (1, _)]) [1, 1] (by decide) (by simp only [List.map_cons, List.map_nil, cat_i, cat_l, cat_r]) (by decide) rfl (fun E O F => ?_)
  have K : ∀ (i : Int) (M' : TM), (0 ≤ i ∧ i ≤ n ∧ M' = M) → tx_X w E 4 [(3, iV i), (2, iV (pw (uB u) i)), (0, rV (wa w) 1), (1, iV n)] [] R M' := by
    refine lp_up _ _ n ?_
    rintro i M' ⟨h1, h2, rfl⟩ ih
    refine tx_iload_n (pc := 4) 0 O dX0_rowsOf_4 rfl rfl ?_
    refine tx_iload_n (pc := 5) 3 O dX0_rowsOf_5 rfl rfl ?_
    refine tx_icmp_ge (pc := 6) 22 O dX0_rowsOf_6 rfl (by omega) (fun c6 => ?_) (fun c6 => ?_)
    · refine tx_iload_n (pc := 22) 1 O dX0_rowsOf_22 rfl rfl ?_
      exact tx_iret O F dX0_rowsOf_23 (tx_QP.mk (by rw [show n = i by omega]))
    · refine tx_iload_n (pc := 9) 1 O dX0_rowsOf_9 rfl rfl ?_
      refine tx_aload_n (pc := 10) 2 O dX0_rowsOf_10 rfl rfl ?_
      refine fX0_46 (pc := 11) O dX0_rowsOf_11 ?_
      rw [hu.bor]
      refine tx_imul (pc := 14) O dX0_rowsOf_14 ?_
      refine tx_istore_n (pc := 15) (lv' := [(2, _), (3, _), (0, _), (1, _)]) O dX0_rowsOf_15 rfl (by decide) rfl ?_
      refine tx_iinc (pc := 16) (lv' := [(3, _), (2, _), (0, _), (1, _)]) 1 O dX0_rowsOf_16 rfl (by decide) rfl ?_
      refine tx_goto (pc := 19) 4 O dX0_rowsOf_19 rfl ?_
      have := ih (i + 1) M' ⟨by omega, by omega, rfl⟩ (by omega) (by omega)
      rw [pw_1 _ h1] at this
      exact this
  refine tx_iconst (pc := 0) O dX0_rowsOf_0 ?_
  refine tx_istore_n (pc := 1) (lv' := [(2, _), (0, _), (1, _)]) O dX0_rowsOf_1 rfl (by decide) rfl ?_
  refine tx_iconst (pc := 2) O dX0_rowsOf_2 ?_
  refine tx_istore_n (pc := 3) (lv' := [(3, _), (2, _), (0, _), (1, _)]) O dX0_rowsOf_3 rfl (by decide) rfl ?_
  exact K 0 M ⟨by omega, hn.1, rfl⟩
theorem sX0_figure (w : WT) (code n i : Int) (R M : TM) (u : PU) (hu : cP R M u) (hB : 0 < uB u) (hc : 0 ≤ code ∧ code ≤ 216) (hn : 1 ≤ n ∧ n ≤ 3) (hi : 0 ≤ i ∧ i < n) : tx_S w yX0_figure cX0_figure 6 (some .int) 1 [rV (wa w) 1, iV code, iV n, iV i] R M (QP R M (fun z => z = fig (uB u) code n i)) := by
  have hB6 := uB_ok hu.1.1
  refine tx_S.ofk (lv := [(0, _), (1, _), (2, _), (3, _)]) [1, 1, 1, 1] (by decide) (by simp only [List.map_cons, List.map_nil, cat_i, cat_l, cat_r]) (by decide) rfl (fun E O F => ?_)
  have K : ∀ (j : Int) (M' : TM), (0 ≤ j ∧ j ≤ n - 1 - i ∧ M' = M) → tx_X w E 8 [(5, iV (n - 1 - j)), (4, iV (itI (fun _ x => x / uB u) code j)), (0, rV (wa w) 1), (1, iV code), (2, iV n), (3, iV i)] [] R M' := by
    refine lp_up _ _ (n - 1 - i) ?_
    rintro j M' ⟨h1, h2, rfl⟩ ih
    have hb := fig_it hB hc.1 j h1
    have hst := itI_1 (fun _ x => x / uB u) code h1
    refine tx_iload (pc := 8) 0 O dX0_figure_8 rfl ?_
    refine tx_iload_n (pc := 10) 5 O dX0_figure_10 rfl rfl ?_
    refine tx_icmp_le (pc := 11) 29 O dX0_figure_11 rfl (by omega) (fun c11 => ?_) (fun c11 => ?_)
    · refine tx_iload (pc := 29) 1 O dX0_figure_29 rfl ?_
      refine tx_aload_n (pc := 31) 2 O dX0_figure_31 rfl rfl ?_
      refine fX0_46 (pc := 32) O dX0_figure_32 ?_
      rw [hu.bor]
      refine tx_irem (pc := 35) O dX0_figure_35 (by omega) (by omega) ?_
      exact tx_iret O F dX0_figure_36 (tx_QP.mk (by unfold fig; rw [show n - 1 - i = j by omega]))
    · refine tx_iload (pc := 14) 1 O dX0_figure_14 rfl ?_
      refine tx_aload_n (pc := 16) 2 O dX0_figure_16 rfl rfl ?_
      refine fX0_46 (pc := 17) O dX0_figure_17 ?_
      rw [hu.bor]
      refine tx_idiv (pc := 20) O dX0_figure_20 (by omega) (by omega) ?_
      refine tx_istore (pc := 21) (lv' := [(4, _), (5, _), (0, _), (1, _), (2, _), (3, _)]) O dX0_figure_21 (by decide) rfl ?_
      refine tx_iinc (pc := 23) (lv' := [(5, _), (4, _), (0, _), (1, _), (2, _), (3, _)]) 1 O dX0_figure_23 rfl (by decide) rfl ?_
      refine tx_goto (pc := 26) 8 O dX0_figure_26 rfl ?_
      have := ih (j + 1) M' ⟨by omega, by omega, rfl⟩ (by omega) (by omega)
      rw [hst] at this
      rw [show n - 1 - j + -1 = n - 1 - (j + 1) by omega]
      exact this
  refine tx_iload_n (pc := 0) 1 O dX0_figure_0 rfl rfl ?_
  refine tx_istore (pc := 1) (lv' := [(4, _), (0, _), (1, _), (2, _), (3, _)]) O dX0_figure_1 (by decide) rfl ?_
  refine tx_iload_n (pc := 3) 3 O dX0_figure_3 rfl rfl ?_
  refine tx_iconst (pc := 4) O dX0_figure_4 ?_
  refine tx_isub (pc := 5) O dX0_figure_5 ?_
  refine tx_istore (pc := 6) (lv' := [(5, _), (4, _), (0, _), (1, _), (2, _), (3, _)]) O dX0_figure_6 (by decide) rfl ?_
  have := K 0 M ⟨by omega, by omega, rfl⟩
  rw [show n - 1 - 0 = n - 1 by omega] at this
  exact this
/-- but for the spare tunes all is as before -/
def kcV (M M' : TM) : Prop := ∀ a b : Int, (a ≠ 218 ∧ a ≠ 219 ∧ a ≠ 1218 ∧ a ≠ 1219) → M' a b = M a b
theorem kcV.rf {M : TM} : kcV M M := fun _ _ _ => rfl
theorem kcV.tr {M M' M'' : TM} (h : kcV M M') (h' : kcV M' M'') : kcV M M'' := fun a b q => (h' a b q).trans (h a b q)
theorem kcV.u {M M' : TM} (h : kcV M M') : kcU M M' := fun a b q => h a b (by omega)
theorem sX0_turns (w : WT) (i code n : Int) (l : List Int) (R M : TM) (u : PU) (hR : RL R) (hu : cP R M u) (hi : 400 ≤ i ∧ i ≤ 405) (hti : tuIs M i l) (hl : okN l) (hc : 0 ≤ code ∧ code ≤ 216) (hn : 0 ≤ n ∧ n ≤ 3) (hB : 0 < n → 0 < uB u) : tx_S w yX0_turns cX0_turns 6 none 5 [rV (wa w) 1, rV (wa w) i, iV n, iV code] R M (QV R (fun M' => tuIs M' 219 (turnP u code n l n) ∧ kcV M M')) := by
  have hok := hu.1.1
  have hB6 := uB_ok hok
  refine tx_S.ofk (lv := [(0, _), (1, _), (2, _), (3, _)]) [1, 1, 1, 1] (by decide) (by simp only [List.map_cons, List.map_nil, cat_i, cat_l, cat_r]) (by decide) rfl (fun E O F => ?_)
  have K2 : ∀ q : Int × Int × TM, (0 ≤ q.1 ∧ q.1 ≤ n ∧ (q.1 < n → q.2.1 = pw (uB u) (n - 1 - q.1)) ∧ tuIs q.2.2 219 (turnP u code n l q.1) ∧ kcV M q.2.2) → tx_X w E 38 [(5, iV q.1), (4, iV q.2.1), (0, rV (wa w) 1), (2, iV n), (3, iV code)] [] R q.2.2 := by
    refine lp_m _ _ (fun q => (n - q.1).toNat) ?_
    rintro ⟨k, s, M'⟩ ⟨h1, h2, h3, h4, h5⟩ ih
    dsimp only at h1 h2 h3 h4 h5 ⊢
    have hu := hu.keep h5.u
    have hlk : okN (turnP u code n l k) := turnP_ok hok hl k h1 (fun q => hB (by omega))
    refine tx_iload (pc := 38) 0 O dX0_turns_38 rfl ?_
    refine tx_iload_n (pc := 40) 3 O dX0_turns_40 rfl rfl ?_
    refine tx_icmp_ge (pc := 41) 85 O dX0_turns_41 rfl (by omega) (fun c41 => ?_) (fun c41 => ?_)
    · exact tx_vret O F dX0_turns_85 (tx_QV.mk ⟨by rw [show n = k by omega] at h4 ⊢; exact h4, h5⟩)
    · have hB := hB (by omega)
      have hs := h3 (by omega)
      have hp := pw_pos hB (n := n - 1 - k) (by omega)
      have hp2 := pw_ok hB6 (n := n - 1 - k) (by omega)
      have hf := fig_ok (code := code) (n := n) (i := k) hB
      have hfd := fig_div (code := code) (n := n) (i := k) hB (by omega)
      rw [← hs] at hp hp2 hfd
      obtain ⟨r5, r6⟩ := hu.br hf.1 hf.2
      have hdv := Int.ediv_nonneg hc.1 (Int.le_of_lt hp)
      have hdv2 := Int.ediv_le_self s hc.1
      refine tx_aload_n (pc := 44) 2 O dX0_turns_44 rfl rfl ?_
      refine tx_aload_n (pc := 45) 2 O dX0_turns_45 rfl rfl ?_
      refine fX0_49 (pc := 46) O hR dX0_turns_46 ?_
      refine tx_iload_n (pc := 49) 4 O dX0_turns_49 rfl rfl ?_
      refine tx_iload (pc := 50) 1 O dX0_turns_50 rfl ?_
      refine tx_idiv (pc := 52) O dX0_turns_52 (by omega) (by omega) ?_
      refine tx_aload_n (pc := 53) 2 O dX0_turns_53 rfl rfl ?_
      refine fX0_46 (pc := 54) O dX0_turns_54 ?_
      rw [hu.bor]
      refine tx_irem (pc := 57) O dX0_turns_57 (by first | omega | (have := Int.ediv_le_self s hc.1; omega)) (by first | omega | (have := Int.ediv_le_self s hc.1; omega)) ?_
      rw [← hfd]
      refine tx_aald (pc := 58) _ _ O dX0_turns_58 (sh_208 w) (by decide) (by omega) ?_
      refine tx_aload_n (pc := 59) 2 O dX0_turns_59 rfl rfl ?_
      refine fX0_216 (pc := 60) O hR dX0_turns_60 ?_
      refine tx_cV2 (pc := 63) O dX0_turns_63 q260 vX0_humsOnce (sh_1 w) rfl (by decide) (Nat.zero_le _) (sX0_humsOnce w _ _ _ _ _ hR r5 (by omega) (by omega) h4 hlk (by rw [r6]; exact uq_ok hok hf.1 hf.2)) (k_V (fun M63 h63 => ?_))
      rw [r6] at h63
      have h6 := (hu.keep (M' := M63) (fun a b q => h63.2 a b (by omega))).bor
      refine tx_iload (pc := 66) 1 O dX0_turns_66 rfl ?_
      refine tx_iconst (pc := 68) O dX0_turns_68 ?_
      refine tx_aload_n (pc := 69) 2 O dX0_turns_69 rfl rfl ?_
      refine fX0_46 (pc := 70) O dX0_turns_70 ?_
      rw [h6]
      refine tx_mmax (pc := 73) O dX0_turns_73 q294 (by omega) (by decide) (Nat.le_of_ble_eq_true rfl) ?_
      rw [show max 1 (uB u) = uB u by omega]
      refine tx_idiv (pc := 76) O dX0_turns_76 (by omega) (by omega) ?_
      refine tx_istore (pc := 77) (lv' := [(4, _), (5, _), (0, _), (2, _), (3, _)]) O dX0_turns_77 (by decide) rfl ?_
      refine tx_iinc (pc := 79) (lv' := [(5, _), (4, _), (0, _), (2, _), (3, _)]) 1 O dX0_turns_79 rfl (by decide) rfl ?_
      refine tx_goto (pc := 82) 38 O dX0_turns_82 rfl ?_
      refine ih (k + 1, s / uB u, M63) ?_ (by dsimp only; omega)
      dsimp only
      refine ⟨by omega, by omega, fun q => ?_, by rw [turnP_1 _ _ _ _ h1]; exact h63.1, h5.tr (fun a b q => h63.2 a b (by omega))⟩
      rw [hs, show n - 1 - k = (n - 1 - (k + 1)) + 1 by omega, pw_div hB (by omega)]
  have K1 : ∀ (k : Int) (M' : TM), (1 ≤ k ∧ (k ≤ n ∨ k = 1) ∧ tuIs M' 219 l ∧ kcV M M') → tx_X w E 14 [(5, iV k), (4, iV (pw (uB u) (k - 1))), (0, rV (wa w) 1), (2, iV n), (3, iV code)] [] R M' := by
    refine lp_up _ _ n ?_
    rintro k M' ⟨h1, h2, h3, h4⟩ ih
    have hst := pw_1 (uB u) (n := k - 1) (by omega)
    rw [show k - 1 + 1 = k by omega] at hst
    have hu := hu.keep h4.u
    refine tx_iload (pc := 14) 0 O dX0_turns_14 rfl ?_
    refine tx_iload_n (pc := 16) 3 O dX0_turns_16 rfl rfl ?_
    refine tx_icmp_ge (pc := 17) 35 O dX0_turns_17 rfl (by omega) (fun c17 => ?_) (fun c17 => ?_)
    · refine tx_iconst (pc := 35) O dX0_turns_35 ?_
      refine tx_istore (pc := 36) (lv' := [(5, _), (4, _), (0, _), (2, _), (3, _)]) O dX0_turns_36 (by decide) rfl ?_
      refine K2 (0, pw (uB u) (k - 1), M') ?_
      dsimp only
      exact ⟨by omega, by omega, fun q => by rw [show n - 1 - 0 = k - 1 by omega], h3, h4⟩
    · refine tx_iload (pc := 20) 1 O dX0_turns_20 rfl ?_
      refine tx_aload_n (pc := 22) 2 O dX0_turns_22 rfl rfl ?_
      refine fX0_46 (pc := 23) O dX0_turns_23 ?_
      rw [hu.bor]
      refine tx_imul (pc := 26) O dX0_turns_26 ?_
      refine tx_istore (pc := 27) (lv' := [(4, _), (5, _), (0, _), (2, _), (3, _)]) O dX0_turns_27 (by decide) rfl ?_
      refine tx_iinc (pc := 29) (lv' := [(5, _), (4, _), (0, _), (2, _), (3, _)]) 1 O dX0_turns_29 rfl (by decide) rfl ?_
      refine tx_goto (pc := 32) 14 O dX0_turns_32 rfl ?_
      have := ih (k + 1) M' ⟨by omega, by omega, h3, h4⟩ (by omega) (by omega)
      rw [show k + 1 - 1 = k by omega, hst] at this
      exact this
  refine tx_aload_n (pc := 0) 0 O dX0_turns_0 rfl rfl ?_
  refine fX0_216 (pc := 1) O hR dX0_turns_1 ?_
  refine tx_aload_n (pc := 4) 1 O dX0_turns_4 rfl rfl ?_
  refine tx_cV1 (pc := 5) O dX0_turns_5 q245 vX1_is (sh_t w (by omega)) rfl (by decide) (Nat.zero_le _) (sX1_is w _ _ _ _ _ hR (by omega) (by omega) (by omega) hti hl.1) (k_V (fun M5 h5 => ?_))
  refine tx_iconst (pc := 8) O dX0_turns_8 ?_
  refine tx_istore (pc := 9) (lv' := [(4, _), (0, _), (1, _), (2, _), (3, _)]) O dX0_turns_9 (by decide) rfl ?_
  refine tx_iconst (pc := 11) O dX0_turns_11 ?_
  refine tx_istore (pc := 12) (lv' := [(5, _), (4, _), (0, _), (1, _), (2, _), (3, _)]) O dX0_turns_12 (by decide) rfl ?_
  refine tx_lv (lv' := [(5, _), (4, _), (0, _), (2, _), (3, _)]) [0, 1, 2, 4, 5] rfl ?_
  exact K1 1 _ ⟨by omega, by omega, h5.1, fun a b q => h5.2 a b (by omega)⟩
theorem okTn {u : PU} (h : uOk u) {t : Int} (ht : 0 ≤ t ∧ t < (uT u).length) : okN (gl (uT u) t) := okN_of ((uT_ok h).2 _ (gl_mem ht.1 ht.2)).1
theorem sX0_lendOf (w : WT) (t wish i : Int) (R M : TM) (u : PU) (hR : RL R) (hu : cP R M u) (ht : 0 ≤ t ∧ t < (uT u).length) (hw : rng wish) (hi : -1 ≤ i ∧ i ≤ 2) : tx_S w yX0_lendOf cX0_lendOf 6 (some .int) 6 [rV (wa w) 1, iV t, iV wish, iV i] R M (QI R (fun z M' => z = lendP u t wish i ∧ kcU M M')) := by
  have hok := hu.1.1
  have hD1 := (uT_ok hok).1
  have hB6 := uB_ok hok
  refine tx_S.ofk (lv := [(0, _), (1, _), (2, _), (3, _)]) [1, 1, 1, 1] (by decide) (by simp only [List.map_cons, List.map_nil, cat_i, cat_l, cat_r]) (by decide) rfl (fun E O F => ?_)
  have K1 : ∀ (n : Int) (M' : TM), (0 ≤ n ∧ n ≤ 4 ∧ itI (lendR u t wish i) (0, -1) n = (0, -1) ∧ kcV M M') → tx_X w E 3 [(4, iV n), (0, rV (wa w) 1), (1, iV t), (2, iV wish), (3, iV i)] [] R M' := by
    refine lp_up _ _ 4 ?_
    rintro n M' ⟨h1, h2, h3, h4⟩ ih
    have K2 : n < 4 → ∀ (c : Int) (M2 : TM), (0 ≤ c ∧ c ≤ pw (uB u) n ∧ itI (lendI u t wish i n) (0, -1) c = (0, -1) ∧ kcV M M2) → tx_X w E 12 [(5, iV c), (4, iV n), (0, rV (wa w) 1), (1, iV t), (2, iV wish), (3, iV i)] [] R M2 := by
      intro hn4
      have hp := pw_ok hB6 (n := n) (by omega)
      refine lp_up _ _ (pw (uB u) n) ?_
      rintro c M2 ⟨g1, g2, g3, g4⟩ ih2
      have hu := hu.keep g4.u
      refine tx_iload (pc := 12) 0 O dX0_lendOf_12 rfl ?_
      refine tx_aload_n (pc := 14) 2 O dX0_lendOf_14 rfl rfl ?_
      refine tx_iload (pc := 15) 1 O dX0_lendOf_15 rfl ?_
      refine tx_cV1 (pc := 17) O dX0_lendOf_17 q340 vX0_rowsOf (sh_1 w) rfl (by decide) (Nat.le_of_ble_eq_true rfl) (sX0_rowsOf w _ _ _ u hu (by omega)) (k_P (fun z17 h17 => ?_))
      subst h17
      refine tx_icmp_ge (pc := 20) 87 O dX0_lendOf_20 rfl (by omega) (fun c20 => ?_) (fun c20 => ?_)
      · refine tx_iinc (pc := 87) (lv' := [(4, _), (5, _), (0, _), (1, _), (2, _), (3, _)]) 1 O dX0_lendOf_87 rfl (by decide) rfl ?_
        refine tx_goto (pc := 90) 3 O dX0_lendOf_90 rfl ?_
        refine tx_lv (lv' := [(4, _), (0, _), (1, _), (2, _), (3, _)]) [0, 2, 3, 4, 5] rfl ?_
        exact ih _ _ ⟨by omega, by omega, lendR_no h1 h3 (by rw [show pw (uB u) n = c by omega]; exact g3), g4⟩ (by omega) (by omega)
      · have hB : 0 < n → 0 < uB u := fun q => by
          rcases (show uB u = 0 ∨ 0 < uB u by omega) with e | e
          · have := hp.2.2 e q; omega
          · exact e
        have hl : okN (trn u t c n) := trn_ok hok ht h1 hB
        refine tx_aload_n (pc := 23) 2 O dX0_lendOf_23 rfl rfl ?_
        refine tx_aload_n (pc := 24) 2 O dX0_lendOf_24 rfl rfl ?_
        refine fX0_33 (pc := 25) O hR dX0_lendOf_25 ?_
        refine tx_iload_n (pc := 28) 3 O dX0_lendOf_28 rfl rfl ?_
        refine tx_aald (pc := 29) _ _ O dX0_lendOf_29 (sh_205 w) (by decide) (by omega) ?_
        rw [hR.2.2.2.2.1]
        refine tx_iload (pc := 30) 1 O dX0_lendOf_30 rfl ?_
        refine tx_iload (pc := 32) 0 O dX0_lendOf_32 rfl ?_
        refine tx_cV3 (pc := 34) O dX0_lendOf_34 q344 vX0_turns (sh_1 w) rfl (by decide) (Nat.zero_le _) (sX0_turns w _ _ _ _ _ _ u hR hu (by omega) (hu.tu ht) (okTn hok ht) (by omega) (by omega) hB) (k_V (fun M34 h34 => ?_))
        obtain ⟨k1, k2⟩ := h34
        have hu := hu.keep k2.u
        refine tx_iload_n (pc := 37) 4 O dX0_lendOf_37 rfl rfl ?_
        refine tx_aload_n (pc := 38) 2 O dX0_lendOf_38 rfl rfl ?_
        refine fX0_216 (pc := 39) O hR dX0_lendOf_39 ?_
        refine tx_cV0 (pc := 42) O dX0_lendOf_42 q348 vX1_bits (sh_t w (by omega)) rfl (by decide) (Nat.le_of_ble_eq_true rfl) (sX1_bits w _ _ _ _ hR (by omega) k1 hl.1) (k_P (fun z42 h42 => ?_))
        rw [show turnP u c n (gl (uT u) t) n = trn u t c n from rfl] at h42
        subst h42
        refine tx_iconst (pc := 45) O dX0_lendOf_45 ?_
        refine tx_ixor (pc := 46) O dX0_lendOf_46 ?_
        refine tx_iand (pc := 47) O dX0_lendOf_47 ?_
        refine tx_if_ne (pc := 48) 81 O dX0_lendOf_48 rfl (rng_zand _ _) (fun c48 => ?_) (fun c48 => ?_)
        · refine tx_iinc (pc := 81) (lv' := [(5, _), (4, _), (0, _), (1, _), (2, _), (3, _)]) 0 O dX0_lendOf_81 rfl (by decide) rfl ?_
          refine tx_goto (pc := 84) 12 O dX0_lendOf_84 rfl ?_
          exact ih2 _ _ ⟨by omega, by omega, lendI_no g1 g3 c48, g4.tr k2⟩ (by omega) (by omega)
        · have hfo := lendP_found ⟨h1, hn4⟩ ⟨g1, c20⟩ h3 g3 c48
          refine tx_iload_n (pc := 51) 5 O dX0_lendOf_51 rfl rfl ?_
          refine tx_iconst (pc := 52) O dX0_lendOf_52 ?_
          refine tx_icmp_ne (pc := 53) 61 O dX0_lendOf_53 rfl (by omega) (fun c53 => ?_) (fun c53 => ?_)
          · refine tx_iload_n (pc := 61) 5 O dX0_lendOf_61 rfl rfl ?_
            refine tx_iload (pc := 62) 1 O dX0_lendOf_62 rfl ?_
            refine tx_icmp_ge (pc := 64) 79 O dX0_lendOf_64 rfl (by omega) (fun c64 => ?_) (fun c64 => ?_)
            · refine tx_iconst (pc := 79) O dX0_lendOf_79 ?_
              exact tx_iret O F dX0_lendOf_80 (tx_QI.mk ⟨by rw [hfo]; unfold lendV; first | rw [if_pos c53] | (rw [if_neg c53, if_pos c64]; exact h73) | rw [if_neg c53, if_neg (by omega)], (g4.tr k2).u⟩)
            · refine tx_aload_n (pc := 67) 2 O dX0_lendOf_67 rfl rfl ?_
              refine tx_iload (pc := 68) 0 O dX0_lendOf_68 rfl ?_
              refine tx_iload (pc := 70) 1 O dX0_lendOf_70 rfl ?_
              refine tx_iload_n (pc := 72) 5 O dX0_lendOf_72 rfl rfl ?_
              refine tx_cV3 (pc := 73) O dX0_lendOf_73 q352 vX0_figure (sh_1 w) rfl (by decide) (Nat.zero_le _) (sX0_figure w _ _ _ _ _ u hu (hB (by omega)) (by omega) (by omega) (by omega)) (k_P (fun z73 h73 => ?_))
              refine tx_goto (pc := 76) 80 O dX0_lendOf_76 rfl ?_
              exact tx_iret O F dX0_lendOf_80 (tx_QI.mk ⟨by rw [hfo]; unfold lendV; first | rw [if_pos c53] | (rw [if_neg c53, if_pos c64]; exact h73) | rw [if_neg c53, if_neg (by omega)], (g4.tr k2).u⟩)
          · refine tx_iload (pc := 56) 1 O dX0_lendOf_56 rfl ?_
            refine tx_goto (pc := 58) 80 O dX0_lendOf_58 rfl ?_
            exact tx_iret O F dX0_lendOf_80 (tx_QI.mk ⟨by rw [hfo]; unfold lendV; first | rw [if_pos c53] | (rw [if_neg c53, if_pos c64]; exact h73) | rw [if_neg c53, if_neg (by omega)], (g4.tr k2).u⟩)
    refine tx_iload (pc := 3) 0 O dX0_lendOf_3 rfl ?_
    refine tx_iconst (pc := 5) O dX0_lendOf_5 ?_
    refine tx_icmp_gt (pc := 6) 93 O dX0_lendOf_6 rfl (by omega) (fun c6 => ?_) (fun c6 => ?_)
    · refine tx_iconst (pc := 93) O dX0_lendOf_93 ?_
      exact tx_iret O F dX0_lendOf_94 (tx_QI.mk ⟨by unfold lendP; rw [show (4 : Int) = n by omega, h3], h4.u⟩)
    · refine tx_iconst (pc := 9) O dX0_lendOf_9 ?_
      refine tx_istore (pc := 10) (lv' := [(5, _), (4, _), (0, _), (1, _), (2, _), (3, _)]) O dX0_lendOf_10 (by decide) rfl ?_
      exact K2 (by omega) 0 _ ⟨by omega, (pw_ok hB6 (n := n) (by omega)).1, rfl, h4⟩
  refine tx_iconst (pc := 0) O dX0_lendOf_0 ?_
  refine tx_istore (pc := 1) (lv' := [(4, _), (0, _), (1, _), (2, _), (3, _)]) O dX0_lendOf_1 (by decide) rfl ?_
  exact K1 0 M ⟨by omega, by omega, rfl, kcV.rf⟩
theorem sX0_lend (w : WT) (t wish i : Int) (R M : TM) (u : PU) (hR : RL R) (hu : cT R M u) (ht : rng t) (hw : rng wish) (hi : rng i) : tx_S w yX0_lend cX0_lend 4 (some .int) 7 [rV (wa w) 1, iV t, iV wish, iV i] R M (QC (fun z R' M' => ((t < 0 ∨ (uT u).length ≤ t ∨ wish < 0 ∨ 127 < wish ∨ i < -1 ∨ 2 < i) ∧ z = -2 ∨ (0 ≤ t ∧ t < (uT u).length ∧ 0 ≤ wish ∧ wish ≤ 127 ∧ -1 ≤ i ∧ i ≤ 2) ∧ z = lendP u t wish i) ∧ cW u R M R' M')) := by
  refine tx_S.ofk (lv := [(0, _), (1, _), (2, _), (3, _)]) [1, 1, 1, 1] (by decide) (by simp only [List.map_cons, List.map_nil, cat_i, cat_l, cat_r]) (by decide) rfl (fun E O F => ?_)
  refine tx_aload_n (pc := 0) 0 O dX0_lend_0 rfl rfl ?_
  refine tx_iload_n (pc := 1) 1 O dX0_lend_1 rfl rfl ?_
  refine tx_cV1 (pc := 2) O dX0_lend_2 q152 vX0_isTune (sh_1 w) rfl (by decide) (Nat.zero_le _) (sX0_isTune w _ _ _ u hR hu (by omega)) (k_C (fun z2 R2 M2 h2 => ?_))
  obtain ⟨g1, g2⟩ := h2
  have hR := hR.kp g2.2.2
  refine tx_if_eq (pc := 5) 37 O dX0_lend_5 rfl (by omega) (fun c5 => ?_) (fun c5 => ?_)
  · refine tx_bipush (pc := 37) O dX0_lend_37 (by decide) ?_
    exact tx_iret O F dX0_lend_39 (tx_QC.mk (by first | exact ⟨Or.inl ⟨by omega, rfl⟩, g2.w⟩ | exact ⟨Or.inr ⟨by omega, h31.1⟩, (g2.u h31.2).w⟩))
  · refine tx_iload_n (pc := 8) 2 O dX0_lend_8 rfl rfl ?_
    refine tx_iconst (pc := 9) O dX0_lend_9 ?_
    refine tx_bipush (pc := 10) O dX0_lend_10 (by decide) ?_
    refine tx_cS3 (pc := 12) O dX0_lend_12 q108 vX0_in (by decide) (Nat.zero_le _) (sX0_in w _ _ _ _ _ (by omega) (by omega) (by omega)) (k_P (fun z12 h12 => ?_))
    refine tx_if_eq (pc := 15) 37 O dX0_lend_15 rfl (by omega) (fun c15 => ?_) (fun c15 => ?_)
    · refine tx_bipush (pc := 37) O dX0_lend_37 (by decide) ?_
      exact tx_iret O F dX0_lend_39 (tx_QC.mk (by first | exact ⟨Or.inl ⟨by omega, rfl⟩, g2.w⟩ | exact ⟨Or.inr ⟨by omega, h31.1⟩, (g2.u h31.2).w⟩))
    · refine tx_iload_n (pc := 18) 3 O dX0_lend_18 rfl rfl ?_
      refine tx_iconst (pc := 19) O dX0_lend_19 ?_
      refine tx_iconst (pc := 20) O dX0_lend_20 ?_
      refine tx_cS3 (pc := 21) O dX0_lend_21 q108 vX0_in (by decide) (Nat.zero_le _) (sX0_in w _ _ _ _ _ (by omega) (by omega) (by omega)) (k_P (fun z21 h21 => ?_))
      refine tx_if_eq (pc := 24) 37 O dX0_lend_24 rfl (by omega) (fun c24 => ?_) (fun c24 => ?_)
      · refine tx_bipush (pc := 37) O dX0_lend_37 (by decide) ?_
        exact tx_iret O F dX0_lend_39 (tx_QC.mk (by first | exact ⟨Or.inl ⟨by omega, rfl⟩, g2.w⟩ | exact ⟨Or.inr ⟨by omega, h31.1⟩, (g2.u h31.2).w⟩))
      · refine tx_aload_n (pc := 27) 0 O dX0_lend_27 rfl rfl ?_
        refine tx_iload_n (pc := 28) 1 O dX0_lend_28 rfl rfl ?_
        refine tx_iload_n (pc := 29) 2 O dX0_lend_29 rfl rfl ?_
        refine tx_iload_n (pc := 30) 3 O dX0_lend_30 rfl rfl ?_
        refine tx_cV3 (pc := 31) O dX0_lend_31 q336 vX0_lendOf (sh_1 w) rfl (by decide) (Nat.zero_le _) (sX0_lendOf w _ _ _ _ _ u hR g2.1 (by omega) (by omega) (by omega)) (k_I (fun z31 M31 h31 => ?_))
        refine tx_goto (pc := 34) 39 O dX0_lend_34 rfl ?_
        exact tx_iret O F dX0_lend_39 (tx_QC.mk (by first | exact ⟨Or.inl ⟨by omega, rfl⟩, g2.w⟩ | exact ⟨Or.inr ⟨by omega, h31.1⟩, (g2.u h31.2).w⟩))
theorem sX0_longestOf (w : WT) (t n i : Int) (R M : TM) (u : PU) (hR : RL R) (hu : cP R M u) (ht : 0 ≤ t ∧ t < (uT u).length) (hn : 1 ≤ n ∧ n ≤ 3) (hi : -1 ≤ i ∧ i < n) : tx_S w yX0_longestOf cX0_longestOf 7 (some .int) 6 [rV (wa w) 1, iV t, iV n, iV i] R M (QI R (fun z M' => z = longP u t n i ∧ kcU M M')) := by
  have hok := hu.1.1
  have hD1 := (uT_ok hok).1
  have hB6 := uB_ok hok
  have hp := pw_ok hB6 (n := n) (by omega)
  refine tx_S.ofk (lv := [(0, _), (1, _), (2, _), (3, _)]) [1, 1, 1, 1] (by decide) (by simp only [List.map_cons, List.map_nil, cat_i, cat_l, cat_r]) (by decide) rfl (fun E O F => ?_)
  have K : ∀ (c : Int) (M' : TM), (0 ≤ c ∧ c ≤ pw (uB u) n ∧ kcV M M') → tx_X w E 9 [(6, iV c), (5, iV (itI (longI u t n) (-1, -1) c).2), (4, iV (itI (longI u t n) (-1, -1) c).1), (0, rV (wa w) 1), (1, iV t), (2, iV n), (3, iV i)] [] R M' := by
    refine lp_up _ _ (pw (uB u) n) ?_
    rintro c M' ⟨h1, h2, h3⟩ ih
    have hu := hu.keep h3.u
    have hlo := longI_ok hok ht (n := n) (by omega) c h1 h2
    have hst := itI_1 (longI u t n) (-1, -1) h1
    have S : c < pw (uB u) n → ∀ (b m : Int) (M2 : TM), longI u t n c (itI (longI u t n) (-1, -1) c) = (b, m) → kcV M M2 → tx_X w E 9 [(6, iV (c + 1)), (5, iV m), (4, iV b), (0, rV (wa w) 1), (1, iV t), (2, iV n), (3, iV i)] [] R M2 := by
      intro q b m M2 q1 q2
      have := ih (c + 1) M2 ⟨by omega, by omega, q2⟩ (by omega) (by omega)
      rw [hst, q1] at this
      exact this
    have hfin : ¬ c < pw (uB u) n → longP u t n i = if (itI (longI u t n) (-1, -1) c).1 = -1 then -1 else if i = -1 then (itI (longI u t n) (-1, -1) c).2 else fig (uB u) (itI (longI u t n) (-1, -1) c).1 n i := by
      intro q
      unfold longP
      rw [show pw (uB u) n = c by omega]
    clear ih hst
    generalize itI (longI u t n) (-1, -1) c = s at hlo S hfin ⊢
    obtain ⟨b, m⟩ := s
    dsimp only at hlo S hfin ⊢
    refine tx_iload (pc := 9) 0 O dX0_longestOf_9 rfl ?_
    refine tx_aload_n (pc := 11) 3 O dX0_longestOf_11 rfl rfl ?_
    refine tx_iload_n (pc := 12) 5 O dX0_longestOf_12 rfl rfl ?_
    refine tx_cV1 (pc := 13) O dX0_longestOf_13 q340 vX0_rowsOf (sh_1 w) rfl (by decide) (Nat.le_of_ble_eq_true rfl) (sX0_rowsOf w _ _ _ u hu (by omega)) (k_P (fun z13 h13 => ?_))
    subst h13
    refine tx_icmp_ge (pc := 16) 73 O dX0_longestOf_16 rfl (by omega) (fun c16 => ?_) (fun c16 => ?_)
    · have hfin := hfin (by omega)
      have hB : ¬ b = -1 → 0 < uB u := fun _ => by
        rcases (show uB u = 0 ∨ 0 < uB u by omega) with e | e
        · have := hp.2.2 e (by omega); omega
        · exact e
      refine tx_iload (pc := 73) 2 O dX0_longestOf_73 rfl ?_
      refine tx_iconst (pc := 75) O dX0_longestOf_75 ?_
      refine tx_icmp_eq (pc := 76) 84 O dX0_longestOf_76 rfl (by omega) (fun c76 => ?_) (fun c76 => ?_)
      · refine tx_iload (pc := 84) 1 O dX0_longestOf_84 rfl ?_
        refine tx_goto (pc := 86) 97 O dX0_longestOf_86 rfl ?_
        exact tx_iret O F dX0_longestOf_97 (tx_QI.mk ⟨by rw [hfin]; first | (rw [if_pos (by omega)]; omega) | (rw [if_neg (by omega), if_pos (by omega)]; done) | (rw [if_neg (by omega), if_neg (by omega)]; exact h94), h3.u⟩)
      · refine tx_iload_n (pc := 79) 6 O dX0_longestOf_79 rfl rfl ?_
        refine tx_iconst (pc := 80) O dX0_longestOf_80 ?_
        refine tx_icmp_ne (pc := 81) 89 O dX0_longestOf_81 rfl (by omega) (fun c81 => ?_) (fun c81 => ?_)
        · refine tx_aload_n (pc := 89) 3 O dX0_longestOf_89 rfl rfl ?_
          refine tx_iload (pc := 90) 2 O dX0_longestOf_90 rfl ?_
          refine tx_iload_n (pc := 92) 5 O dX0_longestOf_92 rfl rfl ?_
          refine tx_iload_n (pc := 93) 6 O dX0_longestOf_93 rfl rfl ?_
          refine tx_cV3 (pc := 94) O dX0_longestOf_94 q352 vX0_figure (sh_1 w) rfl (by decide) (Nat.zero_le _) (sX0_figure w _ _ _ _ _ u hu (hB (by omega)) (by omega) (by omega) (by omega)) (k_P (fun z94 h94 => ?_))
          exact tx_iret O F dX0_longestOf_97 (tx_QI.mk ⟨by rw [hfin]; first | (rw [if_pos (by omega)]; omega) | (rw [if_neg (by omega), if_pos (by omega)]; done) | (rw [if_neg (by omega), if_neg (by omega)]; exact h94), h3.u⟩)
        · refine tx_iload (pc := 84) 1 O dX0_longestOf_84 rfl ?_
          refine tx_goto (pc := 86) 97 O dX0_longestOf_86 rfl ?_
          exact tx_iret O F dX0_longestOf_97 (tx_QI.mk ⟨by rw [hfin]; first | (rw [if_pos (by omega)]; omega) | (rw [if_neg (by omega), if_pos (by omega)]; done) | (rw [if_neg (by omega), if_neg (by omega)]; exact h94), h3.u⟩)
    · have hB : 0 < n → 0 < uB u := fun _ => by
        rcases (show uB u = 0 ∨ 0 < uB u by omega) with e | e
        · have := hp.2.2 e (by omega); omega
        · exact e
      have hl : okN (trn u t c n) := trn_ok hok ht (by omega) hB
      have hl1 := hl.1
      refine tx_aload_n (pc := 19) 3 O dX0_longestOf_19 rfl rfl ?_
      refine tx_aload_n (pc := 20) 3 O dX0_longestOf_20 rfl rfl ?_
      refine fX0_33 (pc := 21) O hR dX0_longestOf_21 ?_
      refine tx_iload_n (pc := 24) 4 O dX0_longestOf_24 rfl rfl ?_
      refine tx_aald (pc := 25) _ _ O dX0_longestOf_25 (sh_205 w) (by decide) (by omega) ?_
      rw [hR.2.2.2.2.1]
      refine tx_iload_n (pc := 26) 5 O dX0_longestOf_26 rfl rfl ?_
      refine tx_iload (pc := 27) 0 O dX0_longestOf_27 rfl ?_
      refine tx_cV3 (pc := 29) O dX0_longestOf_29 q344 vX0_turns (sh_1 w) rfl (by decide) (Nat.zero_le _) (sX0_turns w _ _ _ _ _ _ u hR hu (by omega) (hu.tu ht) (okTn hok ht) (by omega) (by omega) hB) (k_V (fun M29 h29 => ?_))
      obtain ⟨k1, k2⟩ := h29
      have hu := hu.keep k2.u
      rw [show turnP u c n (gl (uT u) t) n = trn u t c n from rfl] at k1
      refine tx_aload_n (pc := 32) 3 O dX0_longestOf_32 rfl rfl ?_
      refine fX0_216 (pc := 33) O hR dX0_longestOf_33 ?_
      refine fX0_37 (pc := 36) O (by omega) dX0_longestOf_36 ?_
      rw [k1.1]
      refine tx_iload (pc := 39) 1 O dX0_longestOf_39 rfl ?_
      refine tx_icmp_le (pc := 41) 49 O dX0_longestOf_41 rfl (by omega) (fun c41 => ?_) (fun c41 => ?_)
      · refine tx_iload (pc := 49) 2 O dX0_longestOf_49 rfl ?_
        refine tx_istore (pc := 51) (lv' := [(4, _), (6, _), (5, _), (0, _), (1, _), (2, _), (3, _)]) O dX0_longestOf_51 (by decide) rfl ?_
        refine tx_iload (pc := 53) 2 O dX0_longestOf_53 rfl ?_
        refine tx_aload_n (pc := 55) 3 O dX0_longestOf_55 rfl rfl ?_
        refine fX0_216 (pc := 56) O hR dX0_longestOf_56 ?_
        refine fX0_37 (pc := 59) O (by omega) dX0_longestOf_59 ?_
        rw [k1.1]
        refine tx_mmax (pc := 62) O dX0_longestOf_62 q294 (by omega) (by decide) (Nat.zero_le _) ?_
        refine tx_istore (pc := 65) (lv' := [(5, _), (4, _), (6, _), (0, _), (1, _), (2, _), (3, _)]) O dX0_longestOf_65 (by decide) rfl ?_
        refine tx_iinc (pc := 67) (lv' := [(6, _), (5, _), (4, _), (0, _), (1, _), (2, _), (3, _)]) 2 O dX0_longestOf_67 rfl (by decide) rfl ?_
        refine tx_goto (pc := 70) 9 O dX0_longestOf_70 rfl ?_
        refine S (by omega) _ _ _ ?_ (h3.tr k2)
        unfold longI
        dsimp only
        first
          | rw [if_pos (by omega)]
          | rw [if_neg (by omega)]
      · refine tx_iload (pc := 44) 0 O dX0_longestOf_44 rfl ?_
        refine tx_goto (pc := 46) 51 O dX0_longestOf_46 rfl ?_
        refine tx_istore (pc := 51) (lv' := [(4, _), (6, _), (5, _), (0, _), (1, _), (2, _), (3, _)]) O dX0_longestOf_51 (by decide) rfl ?_
        refine tx_iload (pc := 53) 2 O dX0_longestOf_53 rfl ?_
        refine tx_aload_n (pc := 55) 3 O dX0_longestOf_55 rfl rfl ?_
        refine fX0_216 (pc := 56) O hR dX0_longestOf_56 ?_
        refine fX0_37 (pc := 59) O (by omega) dX0_longestOf_59 ?_
        rw [k1.1]
        refine tx_mmax (pc := 62) O dX0_longestOf_62 q294 (by omega) (by decide) (Nat.zero_le _) ?_
        refine tx_istore (pc := 65) (lv' := [(5, _), (4, _), (6, _), (0, _), (1, _), (2, _), (3, _)]) O dX0_longestOf_65 (by decide) rfl ?_
        refine tx_iinc (pc := 67) (lv' := [(6, _), (5, _), (4, _), (0, _), (1, _), (2, _), (3, _)]) 2 O dX0_longestOf_67 rfl (by decide) rfl ?_
        refine tx_goto (pc := 70) 9 O dX0_longestOf_70 rfl ?_
        refine S (by omega) _ _ _ ?_ (h3.tr k2)
        unfold longI
        dsimp only
        first
          | rw [if_pos (by omega)]
          | rw [if_neg (by omega)]
  refine tx_iconst (pc := 0) O dX0_longestOf_0 ?_
  refine tx_istore (pc := 1) (lv' := [(4, _), (0, _), (1, _), (2, _), (3, _)]) O dX0_longestOf_1 (by decide) rfl ?_
  refine tx_iconst (pc := 3) O dX0_longestOf_3 ?_
  refine tx_istore (pc := 4) (lv' := [(5, _), (4, _), (0, _), (1, _), (2, _), (3, _)]) O dX0_longestOf_4 (by decide) rfl ?_
  refine tx_iconst (pc := 6) O dX0_longestOf_6 ?_
  refine tx_istore (pc := 7) (lv' := [(6, _), (5, _), (4, _), (0, _), (1, _), (2, _), (3, _)]) O dX0_longestOf_7 (by decide) rfl ?_
  exact K 0 M ⟨by omega, hp.1, kcV.rf⟩
theorem sX0_longest (w : WT) (t n i : Int) (R M : TM) (u : PU) (hR : RL R) (hu : cT R M u) (ht : rng t) (hn : rng n) (hi : rng i) : tx_S w yX0_longest cX0_longest 4 (some .int) 7 [rV (wa w) 1, iV t, iV n, iV i] R M (QC (fun z R' M' => ((t < 0 ∨ (uT u).length ≤ t ∨ n < 1 ∨ 3 < n ∨ i < -1 ∨ n ≤ i) ∧ z = -2 ∨ (0 ≤ t ∧ t < (uT u).length ∧ 1 ≤ n ∧ n ≤ 3 ∧ -1 ≤ i ∧ i < n) ∧ z = longP u t n i) ∧ cW u R M R' M')) := by
  refine tx_S.ofk (lv := [(0, _), (1, _), (2, _), (3, _)]) [1, 1, 1, 1] (by decide) (by simp only [List.map_cons, List.map_nil, cat_i, cat_l, cat_r]) (by decide) rfl (fun E O F => ?_)
  refine tx_aload_n (pc := 0) 0 O dX0_longest_0 rfl rfl ?_
  refine tx_iload_n (pc := 1) 1 O dX0_longest_1 rfl rfl ?_
  refine tx_cV1 (pc := 2) O dX0_longest_2 q152 vX0_isTune (sh_1 w) rfl (by decide) (Nat.zero_le _) (sX0_isTune w _ _ _ u hR hu (by omega)) (k_C (fun z2 R2 M2 h2 => ?_))
  obtain ⟨g1, g2⟩ := h2
  have hR := hR.kp g2.2.2
  refine tx_if_eq (pc := 5) 38 O dX0_longest_5 rfl (by omega) (fun c5 => ?_) (fun c5 => ?_)
  · refine tx_bipush (pc := 38) O dX0_longest_38 (by decide) ?_
    exact tx_iret O F dX0_longest_40 (tx_QC.mk (by first | exact ⟨Or.inl ⟨by omega, rfl⟩, g2.w⟩ | exact ⟨Or.inr ⟨by omega, h32.1⟩, (g2.u h32.2).w⟩))
  · refine tx_iload_n (pc := 8) 2 O dX0_longest_8 rfl rfl ?_
    refine tx_iconst (pc := 9) O dX0_longest_9 ?_
    refine tx_iconst (pc := 10) O dX0_longest_10 ?_
    refine tx_cS3 (pc := 11) O dX0_longest_11 q108 vX0_in (by decide) (Nat.zero_le _) (sX0_in w _ _ _ _ _ (by omega) (by omega) (by omega)) (k_P (fun z11 h11 => ?_))
    refine tx_if_eq (pc := 14) 38 O dX0_longest_14 rfl (by omega) (fun c14 => ?_) (fun c14 => ?_)
    · refine tx_bipush (pc := 38) O dX0_longest_38 (by decide) ?_
      exact tx_iret O F dX0_longest_40 (tx_QC.mk (by first | exact ⟨Or.inl ⟨by omega, rfl⟩, g2.w⟩ | exact ⟨Or.inr ⟨by omega, h32.1⟩, (g2.u h32.2).w⟩))
    · refine tx_iload_n (pc := 17) 3 O dX0_longest_17 rfl rfl ?_
      refine tx_iconst (pc := 18) O dX0_longest_18 ?_
      refine tx_iload_n (pc := 19) 2 O dX0_longest_19 rfl rfl ?_
      refine tx_iconst (pc := 20) O dX0_longest_20 ?_
      refine tx_isub (pc := 21) O dX0_longest_21 ?_
      refine tx_cS3 (pc := 22) O dX0_longest_22 q108 vX0_in (by decide) (Nat.zero_le _) (sX0_in w _ _ _ _ _ (by omega) (by omega) (by omega)) (k_P (fun z22 h22 => ?_))
      refine tx_if_eq (pc := 25) 38 O dX0_longest_25 rfl (by omega) (fun c25 => ?_) (fun c25 => ?_)
      · refine tx_bipush (pc := 38) O dX0_longest_38 (by decide) ?_
        exact tx_iret O F dX0_longest_40 (tx_QC.mk (by first | exact ⟨Or.inl ⟨by omega, rfl⟩, g2.w⟩ | exact ⟨Or.inr ⟨by omega, h32.1⟩, (g2.u h32.2).w⟩))
      · refine tx_aload_n (pc := 28) 0 O dX0_longest_28 rfl rfl ?_
        refine tx_iload_n (pc := 29) 1 O dX0_longest_29 rfl rfl ?_
        refine tx_iload_n (pc := 30) 2 O dX0_longest_30 rfl rfl ?_
        refine tx_iload_n (pc := 31) 3 O dX0_longest_31 rfl rfl ?_
        refine tx_cV3 (pc := 32) O dX0_longest_32 q360 vX0_longestOf (sh_1 w) rfl (by decide) (Nat.zero_le _) (sX0_longestOf w _ _ _ _ _ u hR g2.1 (by omega) (by omega) (by omega)) (k_I (fun z32 M32 h32 => ?_))
        refine tx_goto (pc := 35) 40 O dX0_longest_35 rfl ?_
        exact tx_iret O F dX0_longest_40 (tx_QC.mk (by first | exact ⟨Or.inl ⟨by omega, rfl⟩, g2.w⟩ | exact ⟨Or.inr ⟨by omega, h32.1⟩, (g2.u h32.2).w⟩))
theorem sX0_codeOf (w : WT) (code n : Int) (R M : TM) (u : PU) (hu : cP R M u) (hB : 0 < n → 0 < uB u) (hc : 0 ≤ code ∧ code ≤ 216) (hn : 0 ≤ n ∧ n ≤ 3) : tx_S w yX0_codeOf cX0_codeOf 5 (some .int) 2 [rV (wa w) 1, iV code, iV n] R M (QP R M (fun z => z = codeP (uB u) code n n)) := by
  refine tx_S.ofk (lv := [(0, _), (1, _), (2, _)]) [1, 1, 1] (by decide) (by simp only [List.map_cons, List.map_nil, cat_i, cat_l, cat_r]) (by decide) rfl (fun E O F => ?_)
  have K : ∀ (i : Int) (M' : TM), (0 ≤ i ∧ i ≤ n ∧ M' = M) → tx_X w E 5 [(4, iV i), (3, iV (codeP (uB u) code n i)), (0, rV (wa w) 1), (1, iV code), (2, iV n)] [] R M' := by
    refine lp_up _ _ n ?_
    rintro i M' ⟨h1, h2, rfl⟩ ih
    have hst := itI_1 (fun i v => 7 * v + fig (uB u) code n i + 1) (0 : Int) h1
    change codeP (uB u) code n (i + 1) = 7 * codeP (uB u) code n i + fig (uB u) code n i + 1 at hst
    refine tx_iload (pc := 5) 0 O dX0_codeOf_5 rfl ?_
    refine tx_iload_n (pc := 7) 4 O dX0_codeOf_7 rfl rfl ?_
    refine tx_icmp_ge (pc := 8) 33 O dX0_codeOf_8 rfl (by omega) (fun c8 => ?_) (fun c8 => ?_)
    · refine tx_iload_n (pc := 33) 1 O dX0_codeOf_33 rfl rfl ?_
      exact tx_iret O F dX0_codeOf_34 (tx_QP.mk (by rw [show codeP (uB u) code n n = codeP (uB u) code n i by rw [show n = i by omega]]))
    · refine tx_bipush (pc := 11) O dX0_codeOf_11 (by decide) ?_
      refine tx_iload_n (pc := 13) 1 O dX0_codeOf_13 rfl rfl ?_
      refine tx_imul (pc := 14) O dX0_codeOf_14 ?_
      refine tx_aload_n (pc := 15) 2 O dX0_codeOf_15 rfl rfl ?_
      refine tx_iload_n (pc := 16) 3 O dX0_codeOf_16 rfl rfl ?_
      refine tx_iload_n (pc := 17) 4 O dX0_codeOf_17 rfl rfl ?_
      refine tx_iload (pc := 18) 0 O dX0_codeOf_18 rfl ?_
      refine tx_cV3 (pc := 20) O dX0_codeOf_20 q352 vX0_figure (sh_1 w) rfl (by decide) (Nat.le_of_ble_eq_true rfl) (sX0_figure w _ _ _ _ _ u hu (hB (by omega)) (by omega) (by omega) (by omega)) (k_P (fun z20 h20 => ?_))
      subst h20
      refine tx_iadd (pc := 23) O dX0_codeOf_23 ?_
      refine tx_iconst (pc := 24) O dX0_codeOf_24 ?_
      refine tx_iadd (pc := 25) O dX0_codeOf_25 ?_
      refine tx_istore_n (pc := 26) (lv' := [(3, _), (4, _), (0, _), (1, _), (2, _)]) O dX0_codeOf_26 rfl (by decide) rfl ?_
      refine tx_iinc (pc := 27) (lv' := [(4, _), (3, _), (0, _), (1, _), (2, _)]) 1 O dX0_codeOf_27 rfl (by decide) rfl ?_
      refine tx_goto (pc := 30) 5 O dX0_codeOf_30 rfl ?_
      have := ih (i + 1) M' ⟨by omega, by omega, rfl⟩ (by omega) (by omega)
      rw [hst] at this
      exact this
  refine tx_iconst (pc := 0) O dX0_codeOf_0 ?_
  refine tx_istore_n (pc := 1) (lv' := [(3, _), (0, _), (1, _), (2, _)]) O dX0_codeOf_1 rfl (by decide) rfl ?_
  refine tx_iconst (pc := 2) O dX0_codeOf_2 ?_
  refine tx_istore (pc := 3) (lv' := [(4, _), (3, _), (0, _), (1, _), (2, _)]) O dX0_codeOf_3 (by decide) rfl ?_
  exact K 0 M ⟨by omega, hn.1, rfl⟩
theorem codeP_ge {B code n : Int} (hB : 0 < n → 0 < B) (hB6 : 0 ≤ B ∧ B ≤ 6) (hn : 0 ≤ n ∧ n ≤ 3) : 0 ≤ codeP B code n n ∧ codeP B code n n ≤ 7 * 49 := by
  by_cases e : n = 0
  · subst e
    show (0 : Int) ≤ 0 ∧ (0 : Int) ≤ 7 * 49
    omega
  · exact codeP_ok ⟨hB (by omega), hB6.2⟩ n hn.1 hn.2
theorem sX0_whoOf (w : WT) (t o what : Int) (R M : TM) (u : PU) (hR : RL R) (hu : cP R M u) (ht : 0 ≤ t ∧ t < (uT u).length) (hot : 0 ≤ o ∧ o < (uT u).length) (hw : 0 ≤ what ∧ what ≤ 1) : tx_S w yX0_whoOf cX0_whoOf 8 (some .int) 6 [rV (wa w) 1, iV t, iV o, iV what] R M (QI R (fun z M' => z = whoP u t o what ∧ kcU M M')) := by
  have hok := hu.1.1
  have hD1 := (uT_ok hok).1
  have hB6 := uB_ok hok
  refine tx_S.ofk (lv := [(0, _), (1, _), (2, _), (3, _)]) [1, 1, 1, 1] (by decide) (by simp only [List.map_cons, List.map_nil, cat_i, cat_l, cat_r]) (by decide) rfl (fun E O F => ?_)
  have K1 : ∀ (n : Int) (M' : TM), (0 ≤ n ∧ n ≤ 4 ∧ kcV M M') → ∀ s : Int × Int, s = whoS u t o n → (0 ≤ s.1 ∧ s.1 ≤ 217 * n ∧ ((s.1 = 0 ∧ s.2 = -1) ∨ (0 < s.1 ∧ 0 ≤ s.2)) ∧ s.2 ≤ 7 * 49) → tx_X w E 9 [(6, iV n), (5, iV s.2), (4, iV s.1), (0, rV (wa w) 1), (1, iV t), (2, iV o), (3, iV what)] [] R M' := by
    refine lp_up _ _ 4 ?_
    rintro n M' ⟨h1, h2, h4⟩ ih s hs hs2
    have K2 : n < 4 → ∀ (c : Int) (M2 : TM), (0 ≤ c ∧ c ≤ pw (uB u) n ∧ kcV M M2) → ∀ x : Int × Int, x = itI (whoI u t o n) (whoS u t o n) c → (0 ≤ x.1 ∧ x.1 ≤ 217 * n + c ∧ ((x.1 = 0 ∧ x.2 = -1) ∨ (0 < x.1 ∧ 0 ≤ x.2)) ∧ x.2 ≤ 7 * 49) → tx_X w E 18 [(7, iV c), (6, iV n), (5, iV x.2), (4, iV x.1), (0, rV (wa w) 1), (1, iV t), (2, iV o), (3, iV what)] [] R M2 := by
      intro hn4
      have hp := pw_ok hB6 (n := n) (by omega)
      refine lp_up _ _ (pw (uB u) n) ?_
      rintro c M2 ⟨g1, g2, g4⟩ ih2 x hx hx2
      have hu := hu.keep g4.u
      have hst := itI_1 (whoI u t o n) (whoS u t o n) g1
      rw [← hx] at hst
      obtain ⟨many, first⟩ := x
      dsimp only at hx2 ⊢
      refine tx_iload (pc := 18) 0 O dX0_whoOf_18 rfl ?_
      refine tx_aload_n (pc := 20) 4 O dX0_whoOf_20 rfl rfl ?_
      refine tx_iload (pc := 21) 1 O dX0_whoOf_21 rfl ?_
      refine tx_cV1 (pc := 23) O dX0_whoOf_23 q340 vX0_rowsOf (sh_1 w) rfl (by decide) (Nat.le_of_ble_eq_true rfl) (sX0_rowsOf w _ _ _ u hu (by omega)) (k_P (fun z23 h23 => ?_))
      subst h23
      refine tx_icmp_ge (pc := 26) 89 O dX0_whoOf_26 rfl (by omega) (fun c26 => ?_) (fun c26 => ?_)
      · refine tx_iinc (pc := 89) (lv' := [(6, _), (7, _), (5, _), (4, _), (0, _), (1, _), (2, _), (3, _)]) 1 O dX0_whoOf_89 rfl (by decide) rfl ?_
        refine tx_goto (pc := 92) 9 O dX0_whoOf_92 rfl ?_
        refine tx_lv (lv' := [(6, _), (5, _), (4, _), (0, _), (1, _), (2, _), (3, _)]) [0, 2, 3, 4, 5, 6, 7] rfl ?_
        refine ih _ _ ⟨by omega, by omega, g4⟩ (by omega) (by omega) (many, first) ?_ (by dsimp only; omega)
        unfold whoS
        rw [itI_1 _ _ h1]
        rw [show c = pw (uB u) n by omega] at hx
        exact hx
      · have hB : 0 < n → 0 < uB u := fun q => by
          rcases (show uB u = 0 ∨ 0 < uB u by omega) with e | e
          · have := hp.2.2 e q; omega
          · exact e
        have hl : okN (trn u t c n) := trn_ok hok ht h1 hB
        have hcg := codeP_ge (code := c) hB hB6 (n := n) (by omega)
        refine tx_aload_n (pc := 29) 4 O dX0_whoOf_29 rfl rfl ?_
        refine tx_aload_n (pc := 30) 4 O dX0_whoOf_30 rfl rfl ?_
        refine fX0_33 (pc := 31) O hR dX0_whoOf_31 ?_
        refine tx_iload_n (pc := 34) 5 O dX0_whoOf_34 rfl rfl ?_
        refine tx_aald (pc := 35) _ _ O dX0_whoOf_35 (sh_205 w) (by decide) (by omega) ?_
        rw [hR.2.2.2.2.1]
        refine tx_iload (pc := 36) 1 O dX0_whoOf_36 rfl ?_
        refine tx_iload (pc := 38) 0 O dX0_whoOf_38 rfl ?_
        refine tx_cV3 (pc := 40) O dX0_whoOf_40 q344 vX0_turns (sh_1 w) rfl (by decide) (Nat.zero_le _) (sX0_turns w _ _ _ _ _ _ u hR hu (by omega) (hu.tu ht) (okTn hok ht) (by omega) (by omega) hB) (k_V (fun M40 h40 => ?_))
        obtain ⟨k1, k2⟩ := h40
        have hu := hu.keep k2.u
        rw [show turnP u c n (gl (uT u) t) n = trn u t c n from rfl] at k1
        refine tx_aload_n (pc := 43) 4 O dX0_whoOf_43 rfl rfl ?_
        refine fX0_216 (pc := 44) O hR dX0_whoOf_44 ?_
        refine tx_aload_n (pc := 47) 4 O dX0_whoOf_47 rfl rfl ?_
        refine fX0_33 (pc := 48) O hR dX0_whoOf_48 ?_
        refine tx_iload_n (pc := 51) 6 O dX0_whoOf_51 rfl rfl ?_
        refine tx_aald (pc := 52) _ _ O dX0_whoOf_52 (sh_205 w) (by decide) (by omega) ?_
        rw [hR.2.2.2.2.1]
        refine tx_cV1 (pc := 53) O dX0_whoOf_53 q372 vX1_isLike (sh_t w (by omega)) rfl (by decide) (Nat.zero_le _) (sX1_isLike w _ _ _ _ _ _ hR (by omega) (by omega) k1 (hu.tu hot) hl (okTn hok hot)) (k_P (fun z53 h53 => ?_))
        refine tx_if_eq (pc := 56) 83 O dX0_whoOf_56 rfl (by omega) (fun c56 => ?_) (fun c56 => ?_)
        · have hno : ¬ trn u t c n = gl (uT u) o := by
            rcases h53 with q | q
            · rw [q.1] at c56; exact absurd c56 (by decide)
            · exact q.2
          refine tx_iinc (pc := 83) (lv' := [(7, _), (6, _), (5, _), (4, _), (0, _), (1, _), (2, _), (3, _)]) 0 O dX0_whoOf_83 rfl (by decide) rfl ?_
          refine tx_goto (pc := 86) 18 O dX0_whoOf_86 rfl ?_
          first
            | (refine ih2 _ _ ⟨by omega, by omega, g4.tr k2⟩ (by omega) (by omega) (many, first) ?_ (by dsimp only; omega)
               rw [hst]; unfold whoI; rw [if_neg hno])
            | (refine ih2 _ _ ⟨by omega, by omega, g4.tr k2⟩ (by omega) (by omega) (many + 1, codeP (uB u) c n n) ?_ (by dsimp only; omega)
               rw [hst]; unfold whoI; rw [if_pos hy]; dsimp only; rw [if_pos (by omega)])
            | (refine ih2 _ _ ⟨by omega, by omega, g4.tr k2⟩ (by omega) (by omega) (many + 1, first) ?_ (by dsimp only; omega)
               rw [hst]; unfold whoI; rw [if_pos hy]; dsimp only; rw [if_neg (by omega)])
        · have hy : trn u t c n = gl (uT u) o := by
            rcases h53 with q | q
            · exact q.2
            · exact absurd q.1 c56
          refine tx_iinc (pc := 59) (lv' := [(4, _), (7, _), (6, _), (5, _), (0, _), (1, _), (2, _), (3, _)]) 3 O dX0_whoOf_59 rfl (by decide) rfl ?_
          refine tx_iload (pc := 62) 3 O dX0_whoOf_62 rfl ?_
          refine tx_iconst (pc := 64) O dX0_whoOf_64 ?_
          refine tx_icmp_ne (pc := 65) 79 O dX0_whoOf_65 rfl (by omega) (fun c65 => ?_) (fun c65 => ?_)
          · refine tx_iload (pc := 79) 3 O dX0_whoOf_79 rfl ?_
            refine tx_istore (pc := 81) (lv' := [(5, _), (4, _), (7, _), (6, _), (0, _), (1, _), (2, _), (3, _)]) O dX0_whoOf_81 (by decide) rfl ?_
            refine tx_iinc (pc := 83) (lv' := [(7, _), (5, _), (4, _), (6, _), (0, _), (1, _), (2, _), (3, _)]) 2 O dX0_whoOf_83 rfl (by decide) rfl ?_
            refine tx_goto (pc := 86) 18 O dX0_whoOf_86 rfl ?_
            refine tx_lv (lv' := [(7, _), (6, _), (5, _), (4, _), (0, _), (1, _), (2, _), (3, _)]) [0, 3, 1, 2, 4, 5, 6, 7] rfl ?_
            first
              | (refine ih2 _ _ ⟨by omega, by omega, g4.tr k2⟩ (by omega) (by omega) (many, first) ?_ (by dsimp only; omega)
                 rw [hst]; unfold whoI; rw [if_neg hno])
              | (refine ih2 _ _ ⟨by omega, by omega, g4.tr k2⟩ (by omega) (by omega) (many + 1, codeP (uB u) c n n) ?_ (by dsimp only; omega)
                 rw [hst]; unfold whoI; rw [if_pos hy]; dsimp only; rw [if_pos (by omega)])
              | (refine ih2 _ _ ⟨by omega, by omega, g4.tr k2⟩ (by omega) (by omega) (many + 1, first) ?_ (by dsimp only; omega)
                 rw [hst]; unfold whoI; rw [if_pos hy]; dsimp only; rw [if_neg (by omega)])
          · refine tx_aload_n (pc := 68) 4 O dX0_whoOf_68 rfl rfl ?_
            refine tx_iload (pc := 69) 1 O dX0_whoOf_69 rfl ?_
            refine tx_iload (pc := 71) 2 O dX0_whoOf_71 rfl ?_
            refine tx_cV2 (pc := 73) O dX0_whoOf_73 q376 vX0_codeOf (sh_1 w) rfl (by decide) (Nat.zero_le _) (sX0_codeOf w _ _ _ _ u hu hB (by omega) (by omega)) (k_P (fun z73 h73 => ?_))
            subst h73
            refine tx_goto (pc := 76) 81 O dX0_whoOf_76 rfl ?_
            refine tx_istore (pc := 81) (lv' := [(5, _), (4, _), (7, _), (6, _), (0, _), (1, _), (2, _), (3, _)]) O dX0_whoOf_81 (by decide) rfl ?_
            refine tx_iinc (pc := 83) (lv' := [(7, _), (5, _), (4, _), (6, _), (0, _), (1, _), (2, _), (3, _)]) 2 O dX0_whoOf_83 rfl (by decide) rfl ?_
            refine tx_goto (pc := 86) 18 O dX0_whoOf_86 rfl ?_
            refine tx_lv (lv' := [(7, _), (6, _), (5, _), (4, _), (0, _), (1, _), (2, _), (3, _)]) [0, 3, 1, 2, 4, 5, 6, 7] rfl ?_
            first
              | (refine ih2 _ _ ⟨by omega, by omega, g4.tr k2⟩ (by omega) (by omega) (many, first) ?_ (by dsimp only; omega)
                 rw [hst]; unfold whoI; rw [if_neg hno])
              | (refine ih2 _ _ ⟨by omega, by omega, g4.tr k2⟩ (by omega) (by omega) (many + 1, codeP (uB u) c n n) ?_ (by dsimp only; omega)
                 rw [hst]; unfold whoI; rw [if_pos hy]; dsimp only; rw [if_pos (by omega)])
              | (refine ih2 _ _ ⟨by omega, by omega, g4.tr k2⟩ (by omega) (by omega) (many + 1, first) ?_ (by dsimp only; omega)
                 rw [hst]; unfold whoI; rw [if_pos hy]; dsimp only; rw [if_neg (by omega)])
    obtain ⟨many, first⟩ := s
    dsimp only at hs2 ⊢
    refine tx_iload (pc := 9) 0 O dX0_whoOf_9 rfl ?_
    refine tx_iconst (pc := 11) O dX0_whoOf_11 ?_
    refine tx_icmp_gt (pc := 12) 95 O dX0_whoOf_12 rfl (by omega) (fun c12 => ?_) (fun c12 => ?_)
    · refine tx_iload_n (pc := 95) 6 O dX0_whoOf_95 rfl rfl ?_
      refine tx_if_ne (pc := 96) 104 O dX0_whoOf_96 rfl (by omega) (fun c96 => ?_) (fun c96 => ?_)
      · refine tx_iload (pc := 104) 1 O dX0_whoOf_104 rfl ?_
        exact tx_iret O F dX0_whoOf_106 (tx_QI.mk ⟨by unfold whoP; rw [show (4 : Int) = n by omega, ← hs]; first | rw [if_pos c96] | rw [if_neg c96], h4.u⟩)
      · refine tx_iload (pc := 99) 2 O dX0_whoOf_99 rfl ?_
        refine tx_goto (pc := 101) 106 O dX0_whoOf_101 rfl ?_
        exact tx_iret O F dX0_whoOf_106 (tx_QI.mk ⟨by unfold whoP; rw [show (4 : Int) = n by omega, ← hs]; first | rw [if_pos c96] | rw [if_neg c96], h4.u⟩)
    · refine tx_iconst (pc := 15) O dX0_whoOf_15 ?_
      refine tx_istore (pc := 16) (lv' := [(7, _), (6, _), (5, _), (4, _), (0, _), (1, _), (2, _), (3, _)]) O dX0_whoOf_16 (by decide) rfl ?_
      exact K2 (by omega) 0 _ ⟨by omega, (pw_ok hB6 (n := n) (by omega)).1, h4⟩ (many, first) hs (by dsimp only; omega)
  refine tx_iconst (pc := 0) O dX0_whoOf_0 ?_
  refine tx_istore (pc := 1) (lv' := [(4, _), (0, _), (1, _), (2, _), (3, _)]) O dX0_whoOf_1 (by decide) rfl ?_
  refine tx_iconst (pc := 3) O dX0_whoOf_3 ?_
  refine tx_istore (pc := 4) (lv' := [(5, _), (4, _), (0, _), (1, _), (2, _), (3, _)]) O dX0_whoOf_4 (by decide) rfl ?_
  refine tx_iconst (pc := 6) O dX0_whoOf_6 ?_
  refine tx_istore (pc := 7) (lv' := [(6, _), (5, _), (4, _), (0, _), (1, _), (2, _), (3, _)]) O dX0_whoOf_7 (by decide) rfl ?_
  exact K1 0 M ⟨by omega, by omega, kcV.rf⟩ (0, -1) rfl (by dsimp only; omega)
theorem sX0_who (w : WT) (t o what : Int) (R M : TM) (u : PU) (hR : RL R) (hu : cT R M u) (ht : rng t) (hot : rng o) (hw : rng what) : tx_S w yX0_who cX0_who 4 (some .int) 7 [rV (wa w) 1, iV t, iV o, iV what] R M (QC (fun z R' M' => ((t < 0 ∨ (uT u).length ≤ t ∨ o < 0 ∨ (uT u).length ≤ o ∨ what < 0 ∨ 1 < what) ∧ z = -2 ∨ (0 ≤ t ∧ t < (uT u).length ∧ 0 ≤ o ∧ o < (uT u).length ∧ 0 ≤ what ∧ what ≤ 1) ∧ z = whoP u t o what) ∧ cW u R M R' M')) := by
  refine tx_S.ofk (lv := [(0, _), (1, _), (2, _), (3, _)]) [1, 1, 1, 1] (by decide) (by simp only [List.map_cons, List.map_nil, cat_i, cat_l, cat_r]) (by decide) rfl (fun E O F => ?_)
  refine tx_aload_n (pc := 0) 0 O dX0_who_0 rfl rfl ?_
  refine tx_iload_n (pc := 1) 1 O dX0_who_1 rfl rfl ?_
  refine tx_cV1 (pc := 2) O dX0_who_2 q152 vX0_isTune (sh_1 w) rfl (by decide) (Nat.zero_le _) (sX0_isTune w _ _ _ u hR hu (by omega)) (k_C (fun z2 R2 M2 h2 => ?_))
  obtain ⟨g1, g2⟩ := h2
  have hR := hR.kp g2.2.2
  have hu := g2.1.t
  refine tx_if_eq (pc := 5) 33 O dX0_who_5 rfl (by omega) (fun c5 => ?_) (fun c5 => ?_)
  · refine tx_bipush (pc := 33) O dX0_who_33 (by decide) ?_
    exact tx_iret O F dX0_who_35 (tx_QC.mk (by first | exact ⟨Or.inl ⟨by omega, rfl⟩, g2.w⟩ | exact ⟨Or.inl ⟨by omega, rfl⟩, (g2.tr g3).w⟩ | exact ⟨Or.inr ⟨by omega, h27.1⟩, (g2.tr (g3.u h27.2)).w⟩))
  · refine tx_aload_n (pc := 8) 0 O dX0_who_8 rfl rfl ?_
    refine tx_iload_n (pc := 9) 2 O dX0_who_9 rfl rfl ?_
    refine tx_cV1 (pc := 10) O dX0_who_10 q152 vX0_isTune (sh_1 w) rfl (by decide) (Nat.zero_le _) (sX0_isTune w _ _ _ u hR hu (by omega)) (k_C (fun z10 R10 M10 h10 => ?_))
    obtain ⟨g3', g3⟩ := h10
    have hR := hR.kp g3.2.2
    refine tx_if_eq (pc := 13) 33 O dX0_who_13 rfl (by omega) (fun c13 => ?_) (fun c13 => ?_)
    · refine tx_bipush (pc := 33) O dX0_who_33 (by decide) ?_
      exact tx_iret O F dX0_who_35 (tx_QC.mk (by first | exact ⟨Or.inl ⟨by omega, rfl⟩, g2.w⟩ | exact ⟨Or.inl ⟨by omega, rfl⟩, (g2.tr g3).w⟩ | exact ⟨Or.inr ⟨by omega, h27.1⟩, (g2.tr (g3.u h27.2)).w⟩))
    · refine tx_iload_n (pc := 16) 3 O dX0_who_16 rfl rfl ?_
      refine tx_cS1 (pc := 17) O dX0_who_17 q105 vX0_isTwo (by decide) (Nat.zero_le _) (sX0_isTwo w _ _ _ (by omega)) (k_P (fun z17 h17 => ?_))
      refine tx_if_eq (pc := 20) 33 O dX0_who_20 rfl (by omega) (fun c20 => ?_) (fun c20 => ?_)
      · refine tx_bipush (pc := 33) O dX0_who_33 (by decide) ?_
        exact tx_iret O F dX0_who_35 (tx_QC.mk (by first | exact ⟨Or.inl ⟨by omega, rfl⟩, g2.w⟩ | exact ⟨Or.inl ⟨by omega, rfl⟩, (g2.tr g3).w⟩ | exact ⟨Or.inr ⟨by omega, h27.1⟩, (g2.tr (g3.u h27.2)).w⟩))
      · refine tx_aload_n (pc := 23) 0 O dX0_who_23 rfl rfl ?_
        refine tx_iload_n (pc := 24) 1 O dX0_who_24 rfl rfl ?_
        refine tx_iload_n (pc := 25) 2 O dX0_who_25 rfl rfl ?_
        refine tx_iload_n (pc := 26) 3 O dX0_who_26 rfl rfl ?_
        refine tx_cV3 (pc := 27) O dX0_who_27 q368 vX0_whoOf (sh_1 w) rfl (by decide) (Nat.zero_le _) (sX0_whoOf w _ _ _ _ _ u hR g3.1 (by omega) (by omega) (by omega)) (k_I (fun z27 M27 h27 => ?_))
        refine tx_goto (pc := 30) 35 O dX0_who_30 rfl ?_
        exact tx_iret O F dX0_who_35 (tx_QC.mk (by first | exact ⟨Or.inl ⟨by omega, rfl⟩, g2.w⟩ | exact ⟨Or.inl ⟨by omega, rfl⟩, (g2.tr g3).w⟩ | exact ⟨Or.inr ⟨by omega, h27.1⟩, (g2.tr (g3.u h27.2)).w⟩))

