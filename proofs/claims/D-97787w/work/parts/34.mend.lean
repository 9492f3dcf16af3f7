/-! MODEL: write, count, read, tellsTune, digest -/
set_option maxRecDepth 100000
/-- an int as the machine has it -/
def wr (a : Int) : Int := (Int32.ofInt a).toInt
theorem tx_i2lw {w : WT} {E : ET} {own : String} {cc : ByteArray} {nL fr pc : Nat} {lv : List (Nat × Value)} {st : List Value} {R M : TM} {a : Int} (O : tx_O w own cc nL fr E) (hd : decode cc pc = .ok (.i2l, 1)) (k : tx_X w E (pc + 1) lv (lV (wr a) :: st) R M) : tx_X w E pc lv (iV a :: st) R M := by
  obtain ⟨p, e, Rm, s, m, args, below, meth, c, cells, slots, Z⟩ := E
  obtain ⟨hx, hb, hml, hown, hts, hK, hJ, hz, hlk, hfr, hlo, hce, hsl⟩ := O
  intro H locs hH hS ls hl
  refine lv_i2l hx hb hd ?_ (k H locs hH hS ls hl)
  apply Int64.toInt_inj.mp
  have h := toInt_rng (Int32.ofInt a)
  rw [Int32.toInt_toInt64]
  exact (rng_l ⟨by have := h.1; omega, by have := h.2; omega⟩).symm
theorem sX6_write (w : WT) (y t s : Int) (R M : TM) (u : PU) (hR : RL R) (hu : mT M u) (hm : mSh M) (hy : rng y) (ht : rng t) (hs : rng s) : tx_S w yX6_write cX6_write 6 (some .int) 7 [rV (wa w) 2, iV y, iV t, iV s] R M (QI R (fun z M' => ((y < 0 ∨ 39 < y ∨ t < 0 ∨ (uT u).length ≤ t ∨ s < 0 ∨ 3 < s) ∧ z = -2 ∧ kpQ M M') ∨ ((0 ≤ y ∧ y ≤ 39 ∧ 0 ≤ t ∧ t < (uT u).length ∧ 0 ≤ s ∧ s ≤ 3) ∧ ((M 100 s < 0 ∧ z = -11 ∧ kpQ (up M 2 4 1) M') ∨ (0 ≤ M 100 s ∧ z = min (M 101 s) ((rNow (runP u (uear u) (y + 1)) t).length : Int) ∧ (∀ i : Int, 0 ≤ i → i < z → M' 102 (60 * s + i) = ga (rNow (runP u (uear u) (y + 1)) t) i) ∧ (∀ a b : Int, ((a < 108 ∨ 125 < a ∨ a = 113) ∧ (a ≠ 2 ∨ (b ≠ 7 ∧ b ≠ 10)) ∧ (a ≠ 102 ∨ b < 60 * s ∨ 60 * s + z ≤ b)) → M' a b = M a b)))))) := by
  have he := hu.1.2.2.2.2.2.2
  have hok := hu.1
  have hD1 := (uT_ok hok).1
  refine tx_S.ofk (lv := [(0, _), (1, _), (2, _), (3, _)]) [1, 1, 1, 1] (by decide) (by simp only [List.map_cons, List.map_nil, cat_i, cat_l, cat_r]) (by decide) rfl (fun E O F => ?_)
  have K : (0 ≤ y ∧ y ≤ 39 ∧ 0 ≤ t ∧ t < (uT u).length ∧ 0 ≤ s ∧ s ≤ 3) → 0 ≤ M 100 s → ∀ (l : List Int) (n : Int), rNow (runP u (uear u) (y + 1)) t = l → okN l → n = min (M 101 s) (l.length : Int) → ∀ (i : Int) (M' : TM), (0 ≤ i ∧ i ≤ n ∧ (∀ j : Int, 0 ≤ j → j < i → M' 102 (60 * s + j) = ga l j) ∧ (∀ j : Int, 0 ≤ j → j < l.length → M' 115 (40 * t + j) = ga l j) ∧ (∀ a b : Int, ((a < 108 ∨ 125 < a ∨ a = 113) ∧ (a ≠ 2 ∨ (b ≠ 7 ∧ b ≠ 10)) ∧ (a ≠ 102 ∨ b < 60 * s ∨ 60 * s + i ≤ b)) → M' a b = M a b)) → tx_X w E 73 [(5, iV i), (4, iV n), (0, rV (wa w) 2), (1, iV y), (2, iV t), (3, iV s)] [] R M' := by
    intro g1 g2 l n el hl hn
    have hq := hm s (by omega) (by omega)
    have hl1 := hl.1
    refine lp_up _ _ n ?_
    rintro i M' ⟨h1, h2, h3, h4, h5⟩ ih
    refine tx_iload (pc := 73) 0 O dX6_write_73 rfl ?_
    refine tx_iload (pc := 75) 1 O dX6_write_75 rfl ?_
    refine tx_icmp_ge (pc := 77) 119 O dX6_write_77 rfl (by omega) (fun c77 => ?_) (fun c77 => ?_)
    · refine tx_iload (pc := 119) 1 O dX6_write_119 rfl ?_
      exact tx_iret O F dX6_write_121 (tx_QI.mk (Or.inr ⟨g1, Or.inr ⟨g2, by rw [el]; exact hn, by rw [el]; exact fun j q1 q2 => h3 j q1 (by omega), fun a b q => h5 a b (by omega)⟩⟩))
    · refine tx_aload_n (pc := 80) 2 O dX6_write_80 rfl rfl ?_
      refine fX6_16 (pc := 81) O hR dX6_write_81 ?_
      refine tx_bipush (pc := 84) O dX6_write_84 (by decide) ?_
      refine tx_iload_n (pc := 86) 5 O dX6_write_86 rfl rfl ?_
      refine tx_imul (pc := 87) O dX6_write_87 ?_
      refine tx_iload (pc := 88) 0 O dX6_write_88 rfl ?_
      refine tx_iadd (pc := 90) O dX6_write_90 ?_
      refine tx_aload_n (pc := 91) 2 O dX6_write_91 rfl rfl ?_
      refine fX6_7 (pc := 92) O hR dX6_write_92 ?_
      refine tx_iload_n (pc := 95) 5 O dX6_write_95 rfl rfl ?_
      refine tx_iald (pc := 96) _ O dX6_write_96 (sh_100 w) (by omega) ?_
      rw [h5 _ _ (by omega)]
      refine tx_aload_n (pc := 97) 2 O dX6_write_97 rfl rfl ?_
      refine fX6_40 (pc := 98) O hR dX6_write_98 ?_
      refine tx_bipush (pc := 101) O dX6_write_101 (by decide) ?_
      refine tx_iload_n (pc := 103) 4 O dX6_write_103 rfl rfl ?_
      refine tx_imul (pc := 104) O dX6_write_104 ?_
      refine tx_iload (pc := 105) 0 O dX6_write_105 rfl ?_
      refine tx_iadd (pc := 107) O dX6_write_107 ?_
      refine tx_iald (pc := 108) _ O dX6_write_108 (sh_115 w) (by omega) ?_
      rw [h4 i h1 (by omega)]
      refine tx_cS2 (pc := 109) O dX6_write_109 q930 vX6_cut (by decide) (by simp only [List.map_cons, List.map_nil, cat_i, cat_l, cat_r, List.sum_cons, List.sum_nil]; decide) (sX6_cut w _ _ _ _ (by omega)) (k_P (fun z109 h109 => ?_))
      have hx := hl.2 _ (ga_mem (l := l) h1 (by omega))
      rw [zcut_small (by omega) hx] at h109
      subst h109
      refine tx_iast (pc := 112) _ O dX6_write_112 (sh_102 w) (by omega) ?_
      refine tx_iinc (pc := 113) (lv' := [(5, _), (4, _), (0, _), (1, _), (2, _), (3, _)]) 0 O dX6_write_113 rfl (by decide) rfl ?_
      refine tx_goto (pc := 116) 73 O dX6_write_116 rfl ?_
      refine ih _ _ ⟨by omega, by omega, fun j q1 q2 => ?_, fun j q1 q2 => by rw [up_n (by omega)]; exact h4 j q1 q2, fun a b q => by rw [up_n (by omega)]; exact h5 a b (by omega)⟩ (by omega) (by omega)
      by_cases e : j = i
      · subst e; exact up_s
      · rw [up_n (by omega)]; exact h3 j q1 (by omega)
  refine tx_aload_n (pc := 0) 0 O dX6_write_0 rfl rfl ?_
  refine tx_cV0 (pc := 1) O dX6_write_1 q983 vX6_reads (sh_2 w) rfl (by decide) (Nat.zero_le _) (sX6_reads w _ _ u hR hu) (k_V (fun M1 h1 => ?_))
  obtain ⟨hu, hk⟩ := h1
  refine tx_iload_n (pc := 4) 1 O dX6_write_4 rfl rfl ?_
  refine tx_cS1 (pc := 5) O dX6_write_5 q1005 vX6_isYear (by decide) (Nat.zero_le _) (sX6_isYear w _ _ _ (by omega)) (k_P (fun z5 h5 => ?_))
  refine tx_if_eq (pc := 8) 26 O dX6_write_8 rfl (by omega) (fun c8 => ?_) (fun c8 => ?_)
  · refine tx_bipush (pc := 26) O dX6_write_26 (by decide) ?_
    exact tx_iret O F dX6_write_28 (tx_QI.mk (Or.inl ⟨by omega, rfl, hk⟩))
  · refine tx_aload_n (pc := 11) 0 O dX6_write_11 rfl rfl ?_
    refine tx_iload_n (pc := 12) 2 O dX6_write_12 rfl rfl ?_
    refine tx_cV1 (pc := 13) O dX6_write_13 q987 vX6_isTune (sh_2 w) rfl (by decide) (Nat.zero_le _) (sX6_isTune w _ _ _ u hu (by omega)) (k_P (fun z13 h13 => ?_))
    refine tx_if_eq (pc := 16) 26 O dX6_write_16 rfl (by omega) (fun c16 => ?_) (fun c16 => ?_)
    · refine tx_bipush (pc := 26) O dX6_write_26 (by decide) ?_
      exact tx_iret O F dX6_write_28 (tx_QI.mk (Or.inl ⟨by omega, rfl, hk⟩))
    · refine tx_iload_n (pc := 19) 3 O dX6_write_19 rfl rfl ?_
      refine tx_cS1 (pc := 20) O dX6_write_20 q906 vX6_isSheet (by decide) (Nat.zero_le _) (sX6_isSheet w _ _ _ (by omega)) (k_P (fun z20 h20 => ?_))
      refine tx_if_ne (pc := 23) 29 O dX6_write_23 rfl (by omega) (fun c23 => ?_) (fun c23 => ?_)
      · have hq := hm s (by omega) (by omega)
        refine tx_aload_n (pc := 29) 0 O dX6_write_29 rfl rfl ?_
        refine fX6_7 (pc := 30) O hR dX6_write_30 ?_
        refine tx_iload_n (pc := 33) 3 O dX6_write_33 rfl rfl ?_
        refine tx_iald (pc := 34) _ O dX6_write_34 (sh_100 w) (by omega) ?_
        rw [hk _ _ (by omega)]
        refine tx_if_ge (pc := 35) 44 O dX6_write_35 rfl (by omega) (fun c35 => ?_) (fun c35 => ?_)
        · refine tx_aload_n (pc := 44) 0 O dX6_write_44 rfl rfl ?_
          refine tx_iload_n (pc := 45) 1 O dX6_write_45 rfl rfl ?_
          refine tx_aload_n (pc := 46) 0 O dX6_write_46 rfl rfl ?_
          refine fX6_73 (pc := 47) O dX6_write_47 ?_
          rw [hu.hears]
          refine tx_cV2 (pc := 50) O dX6_write_50 q1033 vX6_lives (sh_2 w) rfl (by decide) (Nat.zero_le _) (sX6_lives w _ _ _ _ u hR hu (by omega) he) (k_V (fun M50 h50 => ?_))
          obtain ⟨k1, k2⟩ := h50
          have hl := (okR_run hok (uear u) (n := y + 1) (by omega)).1 t (by omega) (by omega)
          have hl1 := hl.1
          obtain ⟨n1, n2⟩ := (k1.1 t (by omega) (by omega)).1
          refine tx_aload_n (pc := 53) 0 O dX6_write_53 rfl rfl ?_
          refine fX6_13 (pc := 54) O hR dX6_write_54 ?_
          refine tx_iload_n (pc := 57) 3 O dX6_write_57 rfl rfl ?_
          refine tx_iald (pc := 58) _ O dX6_write_58 (sh_101 w) (by omega) ?_
          rw [k2 _ _ (by omega), hk _ _ (by omega)]
          refine tx_aload_n (pc := 59) 0 O dX6_write_59 rfl rfl ?_
          refine fX6_43 (pc := 60) O hR dX6_write_60 ?_
          refine tx_iload_n (pc := 63) 2 O dX6_write_63 rfl rfl ?_
          refine tx_iald (pc := 64) _ O dX6_write_64 (sh_116 w) (by omega) ?_
          rw [n1]
          refine tx_cS2 (pc := 65) O dX6_write_65 q1057 vX6_lesser (by decide) (Nat.zero_le _) (sX6_lesser w _ _ _ _ (by omega)) (k_P (fun z65 h65 => ?_))
          refine tx_istore (pc := 68) (lv' := [(4, _), (0, _), (1, _), (2, _), (3, _)]) O dX6_write_68 (by decide) rfl ?_
          refine tx_iconst (pc := 70) O dX6_write_70 ?_
          refine tx_istore (pc := 71) (lv' := [(5, _), (4, _), (0, _), (1, _), (2, _), (3, _)]) O dX6_write_71 (by decide) rfl ?_
          exact K (by omega) (by omega) _ _ rfl hl h65 0 _ ⟨by omega, by omega, fun j q1 q2 => by omega, n2, fun a b q => by rw [k2.q a b ⟨q.1, q.2.1⟩]; exact hk a b ⟨q.1, q.2.1⟩⟩
        · refine tx_aload_n (pc := 38) 0 O dX6_write_38 rfl rfl ?_
          refine tx_iconst (pc := 39) O dX6_write_39 ?_
          refine tx_cV1 (pc := 40) O dX6_write_40 q914 vX6_finds (sh_2 w) rfl (by decide) (Nat.zero_le _) (sX6_finds w _ _ _) (k_I (fun z40 M40 h40 => ?_))
          exact tx_iret O F dX6_write_43 (tx_QI.mk (Or.inr ⟨by omega, Or.inl ⟨by omega, by omega, by
              rw [h40.2]
              intro a b q
              unfold up
              split
              · rfl
              · exact hk a b q⟩⟩))
      · refine tx_bipush (pc := 26) O dX6_write_26 (by decide) ?_
        exact tx_iret O F dX6_write_28 (tx_QI.mk (Or.inl ⟨by omega, rfl, hk⟩))
def cntP (u : PU) (lat what : Int) : Int := if what = 0 then (uT u).length else if what = 1 then uB u else if what = 2 then un0 u else if what = 3 then un1 u else if what = 4 then unl u else if what = 5 then sumCnt (runP u (uear u) 40) (unl u) else if what = 6 then uear u else if what = 7 then sumLen u (uT u).length else if what = 8 then lat else -2
theorem sX6_count (w : WT) (what : Int) (R M : TM) (u : PU) (hR : RL R) (hu : mT M u) (hw : rng what) : tx_S w yX6_count cX6_count 4 (some .int) 6 [rV (wa w) 2, iV what] R M (QI R (fun z M' => z = cntP u (M 2 4) what ∧ kpQ M M')) := by
  have he := hu.1.2.2.2.2.2.2
  have hok := hu.1
  have hD1 := (uT_ok hok).1
  have hnl := hok.2.2.2.2.1
  refine tx_S.ofk (lv := [(0, _), (1, _)]) [1, 1] (by decide) (by simp only [List.map_cons, List.map_nil, cat_i, cat_l, cat_r]) (by decide) rfl (fun E O F => ?_)
  have K5 : what = 5 → ∀ M5 : TM, mP M5 u → RunM M5 u (runP u (uear u) 40) → kpQ M M5 → ∀ (k : Int) (M' : TM), (0 ≤ k ∧ k ≤ unl u ∧ M' = M5) → tx_X w E 92 [(3, iV k), (2, iV (sumCnt (runP u (uear u) 40) k)), (0, rV (wa w) 2), (1, iV what)] [] R M' := by
    intro hwh M5 hu hr hk
    refine lp_up _ _ (unl u) ?_
    rintro k M' ⟨h1, h2, rfl⟩ ih
    have hst := itI_1 (fun k s => s + rCnt (runP u (uear u) 40) k) 0 h1
    refine tx_iload_n (pc := 92) 0 O dX6_count_92 rfl rfl ?_
    refine tx_aload_n (pc := 93) 2 O dX6_count_93 rfl rfl ?_
    refine fX6_157 (pc := 94) O dX6_count_94 ?_
    rw [hu.1.2.2.2.2.2.1]
    refine tx_icmp_ge (pc := 97) 115 O dX6_count_97 rfl (by omega) (fun c97 => ?_) (fun c97 => ?_)
    · refine tx_iload_n (pc := 115) 1 O dX6_count_115 rfl rfl ?_
      exact tx_iret O F dX6_count_116 (tx_QI.mk ⟨by subst hwh; rw [show k = unl u by omega]; rfl, hk⟩)
    · refine tx_iload_n (pc := 100) 1 O dX6_count_100 rfl rfl ?_
      refine tx_aload_n (pc := 101) 2 O dX6_count_101 rfl rfl ?_
      refine fX6_58 (pc := 102) O hR dX6_count_102 ?_
      refine tx_iload_n (pc := 105) 0 O dX6_count_105 rfl rfl ?_
      refine tx_iald (pc := 106) _ O dX6_count_106 (sh_121 w) (by omega) ?_
      rw [(hr.2 k h1 (by omega)).1]
      refine tx_iadd (pc := 107) O dX6_count_107 ?_
      refine tx_istore_n (pc := 108) (lv' := [(2, _), (3, _), (0, _), (1, _)]) O dX6_count_108 rfl (by decide) rfl ?_
      refine tx_iinc (pc := 109) (lv' := [(3, _), (2, _), (0, _), (1, _)]) 1 O dX6_count_109 rfl (by decide) rfl ?_
      refine tx_goto (pc := 112) 92 O dX6_count_112 rfl ?_
      have := ih (k + 1) _ ⟨by omega, by omega, rfl⟩ (by omega) (by omega)
      unfold sumCnt at this
      rw [hst] at this
      exact this
  have K7 : what = 7 → ∀ M5 : TM, mP M5 u → kpQ M M5 → ∀ (k : Int) (M' : TM), (0 ≤ k ∧ k ≤ (uT u).length ∧ M' = M5) → tx_X w E 124 [(3, iV k), (2, iV (sumLen u k)), (0, rV (wa w) 2), (1, iV what)] [] R M' := by
    intro hwh M5 hu hk
    refine lp_up _ _ (uT u).length ?_
    rintro k M' ⟨h1, h2, rfl⟩ ih
    have hst := itI_1 (fun t s => s + ((gl (uT u) t).length : Int)) 0 h1
    refine tx_iload_n (pc := 124) 0 O dX6_count_124 rfl rfl ?_
    refine tx_aload_n (pc := 125) 2 O dX6_count_125 rfl rfl ?_
    refine fX6_112 (pc := 126) O dX6_count_126 ?_
    rw [hu.2.1.1]
    refine tx_icmp_ge (pc := 129) 147 O dX6_count_129 rfl (by omega) (fun c129 => ?_) (fun c129 => ?_)
    · refine tx_iload_n (pc := 147) 1 O dX6_count_147 rfl rfl ?_
      exact tx_iret O F dX6_count_148 (tx_QI.mk ⟨by subst hwh; rw [show k = (uT u).length by omega]; rfl, hk⟩)
    · refine tx_iload_n (pc := 132) 1 O dX6_count_132 rfl rfl ?_
      refine tx_aload_n (pc := 133) 2 O dX6_count_133 rfl rfl ?_
      refine fX6_31 (pc := 134) O hR dX6_count_134 ?_
      refine tx_iload_n (pc := 137) 0 O dX6_count_137 rfl rfl ?_
      refine tx_iald (pc := 138) _ O dX6_count_138 (sh_109 w) (by omega) ?_
      rw [(hu.2.1.2 k h1 c129).1]
      refine tx_iadd (pc := 139) O dX6_count_139 ?_
      refine tx_istore_n (pc := 140) (lv' := [(2, _), (3, _), (0, _), (1, _)]) O dX6_count_140 rfl (by decide) rfl ?_
      refine tx_iinc (pc := 141) (lv' := [(3, _), (2, _), (0, _), (1, _)]) 1 O dX6_count_141 rfl (by decide) rfl ?_
      refine tx_goto (pc := 144) 124 O dX6_count_144 rfl ?_
      have := ih (k + 1) _ ⟨by omega, by omega, rfl⟩ (by omega) (by omega)
      unfold sumLen at this
      rw [hst] at this
      exact this
  refine tx_iconst (pc := 0) O dX6_count_0 ?_
  refine tx_istore_n (pc := 1) (lv' := [(2, _), (0, _), (1, _)]) O dX6_count_1 rfl (by decide) rfl ?_
  refine tx_aload_n (pc := 2) 1 O dX6_count_2 rfl rfl ?_
  refine tx_cV0 (pc := 3) O dX6_count_3 q983 vX6_reads (sh_2 w) rfl (by decide) (Nat.zero_le _) (sX6_reads w _ _ u hR hu) (k_V (fun M3 h3 => ?_))
  obtain ⟨hu, hk⟩ := h3
  refine tx_iload_n (pc := 6) 2 O dX6_count_6 rfl rfl ?_
  rcases (show what = 0 ∨ what = 1 ∨ what = 2 ∨ what = 3 ∨ what = 4 ∨ what = 5 ∨ what = 6 ∨ what = 7 ∨ what = 8 ∨ (what < 0 ∨ 8 < what) by omega) with e7 | e7 | e7 | e7 | e7 | e7 | e7 | e7 | e7 | e7
  · subst e7
    refine tx_tableIn (pc := 7) 56 O dX6_count_7 (by omega) (by omega) (by omega) rfl rfl ?_
    refine tx_aload_n (pc := 56) 1 O dX6_count_56 rfl rfl ?_
    refine fX6_112 (pc := 57) O dX6_count_57 ?_
    exact tx_iret O F dX6_count_60 (tx_QI.mk ⟨by rw [hu.2.1.1]; rfl, hk⟩)
  · subst e7
    refine tx_tableIn (pc := 7) 61 O dX6_count_7 (by omega) (by omega) (by omega) rfl rfl ?_
    refine tx_aload_n (pc := 61) 1 O dX6_count_61 rfl rfl ?_
    refine fX6_122 (pc := 62) O dX6_count_62 ?_
    exact tx_iret O F dX6_count_65 (tx_QI.mk ⟨by rw [hu.bor]; rfl, hk⟩)
  · subst e7
    refine tx_tableIn (pc := 7) 66 O dX6_count_7 (by omega) (by omega) (by omega) rfl rfl ?_
    refine tx_aload_n (pc := 66) 1 O dX6_count_66 rfl rfl ?_
    refine fX6_25 (pc := 67) O hR dX6_count_67 ?_
    refine tx_iload_n (pc := 70) 2 O dX6_count_70 rfl rfl ?_
    refine tx_iconst (pc := 71) O dX6_count_71 ?_
    refine tx_isub (pc := 72) O dX6_count_72 ?_
    refine tx_iald (pc := 73) _ O dX6_count_73 (sh_106 w) (by omega) ?_
    exact tx_iret O F dX6_count_74 (tx_QI.mk ⟨by first | exact hu.1.2.1 | exact hu.1.2.2.1, hk⟩)
  · subst e7
    refine tx_tableIn (pc := 7) 66 O dX6_count_7 (by omega) (by omega) (by omega) rfl rfl ?_
    refine tx_aload_n (pc := 66) 1 O dX6_count_66 rfl rfl ?_
    refine fX6_25 (pc := 67) O hR dX6_count_67 ?_
    refine tx_iload_n (pc := 70) 2 O dX6_count_70 rfl rfl ?_
    refine tx_iconst (pc := 71) O dX6_count_71 ?_
    refine tx_isub (pc := 72) O dX6_count_72 ?_
    refine tx_iald (pc := 73) _ O dX6_count_73 (sh_106 w) (by omega) ?_
    exact tx_iret O F dX6_count_74 (tx_QI.mk ⟨by first | exact hu.1.2.1 | exact hu.1.2.2.1, hk⟩)
  · subst e7
    refine tx_tableIn (pc := 7) 75 O dX6_count_7 (by omega) (by omega) (by omega) rfl rfl ?_
    refine tx_aload_n (pc := 75) 1 O dX6_count_75 rfl rfl ?_
    refine fX6_157 (pc := 76) O dX6_count_76 ?_
    exact tx_iret O F dX6_count_79 (tx_QI.mk ⟨hu.1.2.2.2.2.2.1, hk⟩)
  · subst e7
    refine tx_tableIn (pc := 7) 80 O dX6_count_7 (by omega) (by omega) (by omega) rfl rfl ?_
    refine tx_aload_n (pc := 80) 1 O dX6_count_80 rfl rfl ?_
    refine tx_bipush (pc := 81) O dX6_count_81 (by decide) ?_
    refine tx_aload_n (pc := 83) 1 O dX6_count_83 rfl rfl ?_
    refine fX6_73 (pc := 84) O dX6_count_84 ?_
    rw [hu.hears]
    refine tx_cV2 (pc := 87) O dX6_count_87 q1033 vX6_lives (sh_2 w) rfl (by decide) (Nat.zero_le _) (sX6_lives w 39 _ _ _ u hR hu (by omega) he) (k_V (fun M87 h87 => ?_))
    refine tx_iconst (pc := 90) O dX6_count_90 ?_
    refine tx_istore_n (pc := 91) (lv' := [(3, _), (2, _), (0, _), (1, _)]) O dX6_count_91 rfl (by decide) rfl ?_
    exact K5 rfl _ (hu.keep h87.2) h87.1 (hk.tr h87.2.q) 0 _ ⟨by omega, hnl.1, rfl⟩
  · subst e7
    refine tx_tableIn (pc := 7) 117 O dX6_count_7 (by omega) (by omega) (by omega) rfl rfl ?_
    refine tx_aload_n (pc := 117) 1 O dX6_count_117 rfl rfl ?_
    refine fX6_73 (pc := 118) O dX6_count_118 ?_
    exact tx_iret O F dX6_count_121 (tx_QI.mk ⟨hu.hears, hk⟩)
  · subst e7
    refine tx_tableIn (pc := 7) 122 O dX6_count_7 (by omega) (by omega) (by omega) rfl rfl ?_
    refine tx_iconst (pc := 122) O dX6_count_122 ?_
    refine tx_istore_n (pc := 123) (lv' := [(3, _), (2, _), (0, _), (1, _)]) O dX6_count_123 rfl (by decide) rfl ?_
    exact K7 rfl _ hu hk 0 _ ⟨by omega, by omega, rfl⟩
  · subst e7
    refine tx_tableIn (pc := 7) 149 O dX6_count_7 (by omega) (by omega) (by omega) rfl rfl ?_
    refine tx_aload_n (pc := 149) 1 O dX6_count_149 rfl rfl ?_
    refine fX6_83 (pc := 150) O dX6_count_150 ?_
    exact tx_iret O F dX6_count_153 (tx_QI.mk ⟨hk _ _ (by omega), hk⟩)
  · refine tx_tableOut (pc := 7) 154 O dX6_count_7 (by omega) e7 rfl ?_
    refine tx_bipush (pc := 154) O dX6_count_154 (by decide) ?_
    exact tx_iret O F dX6_count_156 (tx_QI.mk ⟨by unfold cntP; (repeat rw [if_neg (by omega)]), hk⟩)
/-- what a sheet says as loans -/
def shQ (M : TM) (s : Int) : Int → Int → Int := fun k j => M 102 (60 * s + 4 * k + j)
theorem okL_iff {q : Int → Int → Int} {k : Int} : okL q k ↔ (0 ≤ q k 0 ∧ q k 0 ≤ 39 ∧ 0 ≤ q k 1 ∧ q k 1 ≤ 5 ∧ 0 ≤ q k 2 ∧ q k 2 ≤ 5 ∧ 1 ≤ q k 3 ∧ q k 3 ≤ 9) := by
  unfold okL
  omega
theorem sX6_read (w : WT) (s : Int) (R M : TM) (hR : RL R) (hm : mSh M) (hl : 0 ≤ M 2 12 ∧ M 2 12 ≤ 12) (hit : ∀ j : Int, 0 ≤ j → j < 240 → rng (M 102 j)) (hs : rng s) : tx_S w yX6_read cX6_read 5 (some .int) 4 [rV (wa w) 2, iV s] R M (QI R (fun z M' => ((s < 0 ∨ 3 < s) ∧ z = -2 ∧ M' = M) ∨ ((0 ≤ s ∧ s ≤ 3) ∧ ((M 100 s < 0 ∧ z = -11 ∧ M' = up M 2 4 1) ∨ (0 ≤ M 100 s ∧ z = rdS (shQ M s) (M 2 12) (M 101 s / 4) ∧ (0 ≤ z ∧ M 2 12 + z ≤ 12) ∧ M' 2 12 = M 2 12 + z ∧ (∀ k j : Int, 0 ≤ k → k < z → 0 ≤ j → j ≤ 3 → M' 113 (4 * (M 2 12 + k) + j) = shQ M s k j ∧ okL (shQ M s) k) ∧ (∀ a b : Int, ((a ≠ 113 ∨ b < 4 * M 2 12) ∧ (a ≠ 2 ∨ b ≠ 12)) → M' a b = M a b)))))) := by
  refine tx_S.ofk (lv := [(0, _), (1, _)]) [1, 1] (by decide) (by simp only [List.map_cons, List.map_nil, cat_i, cat_l, cat_r]) (by decide) rfl (fun E O F => ?_)
  have K : (0 ≤ s ∧ s ≤ 3) → 0 ≤ M 100 s → ∀ (n : Int) (M' : TM), (0 ≤ n ∧ n ≤ M 101 s / 4 ∧ rdS (shQ M s) (M 2 12) n = n ∧ M 2 12 + n ≤ 12 ∧ M' 2 12 = M 2 12 + n ∧ (∀ k j : Int, 0 ≤ k → k < n → 0 ≤ j → j ≤ 3 → M' 113 (4 * (M 2 12 + k) + j) = shQ M s k j ∧ okL (shQ M s) k) ∧ (∀ a b : Int, ((a ≠ 113 ∨ b < 4 * M 2 12) ∧ (a ≠ 2 ∨ b ≠ 12)) → M' a b = M a b)) → tx_X w E 29 [(3, iV 1), (2, iV n), (0, rV (wa w) 2), (1, iV s)] [] R M' := by
    intro g1 g2
    have hq := hm s (by omega) (by omega)
    refine lp_up _ _ (M 101 s / 4) ?_
    rintro n M' ⟨h1, h2, h3, h4, h5, h6, h7⟩ ih
    have e1 : M' 101 s = M 101 s := h7 _ _ (by omega)
    have hd : M 101 s / 4 ≤ 15 := by omega
    have fin : ∀ (M2 : TM), M2 = M' → ¬ (n < M 101 s / 4 ∧ okL (shQ M s) n ∧ M 2 12 + n < 12) → (((s < 0 ∨ 3 < s) ∧ n = -2 ∧ M2 = M) ∨ ((0 ≤ s ∧ s ≤ 3) ∧ ((M 100 s < 0 ∧ n = -11 ∧ M2 = up M 2 4 1) ∨ (0 ≤ M 100 s ∧ n = rdS (shQ M s) (M 2 12) (M 101 s / 4) ∧ (0 ≤ n ∧ M 2 12 + n ≤ 12) ∧ M2 2 12 = M 2 12 + n ∧ (∀ k j : Int, 0 ≤ k → k < n → 0 ≤ j → j ≤ 3 → M2 113 (4 * (M 2 12 + k) + j) = shQ M s k j ∧ okL (shQ M s) k) ∧ (∀ a b : Int, ((a ≠ 113 ∨ b < 4 * M 2 12) ∧ (a ≠ 2 ∨ b ≠ 12)) → M2 a b = M a b))))) := by
      rintro M2 rfl hno
      refine Or.inr ⟨g1, Or.inr ⟨g2, ?_, ⟨h1, h4⟩, h5, h6, h7⟩⟩
      by_cases e : n < M 101 s / 4
      · exact (rdS_n h1 h3 (fun z => hno ⟨e, z⟩) _ h2).symm
      · rw [show M 101 s / 4 = n by omega]; exact h3.symm
    have cell : ∀ j : Int, 0 ≤ j → j ≤ 3 → n < M 101 s / 4 → M' 102 (60 * s + 4 * n + j) = shQ M s n j ∧ rng (shQ M s n j) := by
      intro j q1 q2 q3
      refine ⟨by rw [h7 _ _ (by omega)]; rfl, hit _ (by omega) (by omega)⟩
    refine tx_iload_n (pc := 29) 0 O dX6_read_29 rfl rfl ?_
    refine tx_if_eq (pc := 30) 119 O dX6_read_30 rfl (by omega) (fun c30 => ?_) (fun c30 => ?_)
    · exfalso
      omega
    · refine tx_iconst (pc := 33) O dX6_read_33 ?_
      refine tx_iload_n (pc := 34) 1 O dX6_read_34 rfl rfl ?_
      refine tx_imul (pc := 35) O dX6_read_35 ?_
      refine tx_iconst (pc := 36) O dX6_read_36 ?_
      refine tx_iadd (pc := 37) O dX6_read_37 ?_
      refine tx_aload_n (pc := 38) 2 O dX6_read_38 rfl rfl ?_
      refine fX6_13 (pc := 39) O hR dX6_read_39 ?_
      refine tx_iload_n (pc := 42) 3 O dX6_read_42 rfl rfl ?_
      refine tx_iald (pc := 43) _ O dX6_read_43 (sh_101 w) (by omega) ?_
      rw [e1]
      refine tx_icmp_gt (pc := 44) 119 O dX6_read_44 rfl (by omega) (fun c44 => ?_) (fun c44 => ?_)
      · refine tx_iload_n (pc := 119) 1 O dX6_read_119 rfl rfl ?_
        exact tx_iret O F dX6_read_120 (tx_QI.mk (fin _ rfl (fun z => by omega)))
      · obtain ⟨v0, r0⟩ := cell 0 (by omega) (by omega) (by omega)
        obtain ⟨v1, r1⟩ := cell 1 (by omega) (by omega) (by omega)
        obtain ⟨v2, r2⟩ := cell 2 (by omega) (by omega) (by omega)
        obtain ⟨v3, r3⟩ := cell 3 (by omega) (by omega) (by omega)
        rw [show 60 * s + 4 * n + 0 = 60 * s + 4 * n by omega] at v0
        refine tx_bipush (pc := 47) O dX6_read_47 (by decide) ?_
        refine tx_iload_n (pc := 49) 3 O dX6_read_49 rfl rfl ?_
        refine tx_imul (pc := 50) O dX6_read_50 ?_
        refine tx_iconst (pc := 51) O dX6_read_51 ?_
        refine tx_iload_n (pc := 52) 1 O dX6_read_52 rfl rfl ?_
        refine tx_imul (pc := 53) O dX6_read_53 ?_
        refine tx_iadd (pc := 54) O dX6_read_54 ?_
        refine tx_istore (pc := 55) (lv' := [(4, _), (3, _), (2, _), (0, _), (1, _)]) O dX6_read_55 (by decide) rfl ?_
        refine tx_aload_n (pc := 57) 3 O dX6_read_57 rfl rfl ?_
        refine tx_aload_n (pc := 58) 3 O dX6_read_58 rfl rfl ?_
        refine fX6_16 (pc := 59) O hR dX6_read_59 ?_
        refine tx_iload (pc := 62) 0 O dX6_read_62 rfl ?_
        refine tx_iald (pc := 64) _ O dX6_read_64 (sh_102 w) (by omega) ?_
        rw [v0]
        refine tx_aload_n (pc := 65) 3 O dX6_read_65 rfl rfl ?_
        refine fX6_16 (pc := 66) O hR dX6_read_66 ?_
        refine tx_iload (pc := 69) 0 O dX6_read_69 rfl ?_
        refine tx_iconst (pc := 71) O dX6_read_71 ?_
        refine tx_iadd (pc := 72) O dX6_read_72 ?_
        refine tx_iald (pc := 73) _ O dX6_read_73 (sh_102 w) (by omega) ?_
        rw [v1]
        refine tx_aload_n (pc := 74) 3 O dX6_read_74 rfl rfl ?_
        refine fX6_16 (pc := 75) O hR dX6_read_75 ?_
        refine tx_iload (pc := 78) 0 O dX6_read_78 rfl ?_
        refine tx_iconst (pc := 80) O dX6_read_80 ?_
        refine tx_iadd (pc := 81) O dX6_read_81 ?_
        refine tx_iald (pc := 82) _ O dX6_read_82 (sh_102 w) (by omega) ?_
        rw [v2]
        refine tx_aload_n (pc := 83) 3 O dX6_read_83 rfl rfl ?_
        refine fX6_16 (pc := 84) O hR dX6_read_84 ?_
        refine tx_iload (pc := 87) 0 O dX6_read_87 rfl ?_
        refine tx_iconst (pc := 89) O dX6_read_89 ?_
        refine tx_iadd (pc := 90) O dX6_read_90 ?_
        refine tx_iald (pc := 91) _ O dX6_read_91 (sh_102 w) (by omega) ?_
        rw [v3]
        refine tx_cV4 (pc := 92) O dX6_read_92 q1019 vX6_loan (sh_2 w) rfl (by decide) (Nat.zero_le _) (sX6_loan w _ _ _ _ _ _ hR (by omega) r0 r1 r2 r3) (k_I (fun z92 M92 h92 => ?_))
        have hz : rng z92 := by rcases h92 with q | ⟨-, q | q⟩ <;> omega
        refine tx_if_lt (pc := 95) 102 O dX6_read_95 rfl (by omega) (fun c95 => ?_) (fun c95 => ?_)
        · have hfo : M92 = M' ∧ ¬ (n < M 101 s / 4 ∧ okL (shQ M s) n ∧ M 2 12 + n < 12) := by
            rcases h92 with q | ⟨q0, q | q⟩
            · exact ⟨q.2.2, fun z => by have := okL_iff.mp z.2.1; omega⟩
            · exact ⟨q.2.2, fun z => by omega⟩
            · exfalso; omega
          refine tx_iconst (pc := 102) O dX6_read_102 ?_
          refine tx_istore_n (pc := 103) (lv' := [(3, _), (4, _), (2, _), (0, _), (1, _)]) O dX6_read_103 rfl (by decide) rfl ?_
          refine tx_iload_n (pc := 104) 2 O dX6_read_104 rfl rfl ?_
          refine tx_iload_n (pc := 105) 0 O dX6_read_105 rfl rfl ?_
          refine tx_if_eq (pc := 106) 113 O dX6_read_106 rfl (by omega) (fun c106 => ?_) (fun c106 => ?_)
          · refine tx_iconst (pc := 113) O dX6_read_113 ?_
            refine tx_iadd (pc := 114) O dX6_read_114 ?_
            refine tx_istore_n (pc := 115) (lv' := [(2, _), (3, _), (4, _), (0, _), (1, _)]) O dX6_read_115 rfl (by decide) rfl ?_
            refine tx_goto (pc := 116) 29 O dX6_read_116 rfl ?_
            refine tx_lv (lv' := [(3, _), (2, _), (0, _), (1, _)]) [1, 0, 3, 4] rfl ?_
            first
              | (have hfo2 := hfo
                 refine tx_iload_n (pc := 29) 0 O dX6_read_29 rfl rfl ?_
                 refine tx_if_eq (pc := 30) 119 O dX6_read_30 rfl (by omega) (fun c => ?_) (fun c => absurd rfl c)
                 refine tx_iload_n (pc := 119) 1 O dX6_read_119 rfl rfl ?_
                 rw [show n + 0 = n by omega]
                 exact tx_iret O F dX6_read_120 (tx_QI.mk (fin _ hfo2.1 hfo2.2)))
              | (refine ih _ _ ⟨by omega, by omega, rdS_y h1 h3 ⟨u1, u2⟩, by omega, by rw [u3, up_s]; omega, fun k j q1 q2 q3 q4 => ?_, fun a b q => by rw [u3, up_n (by omega), up_n (by omega), up_n (by omega), up_n (by omega), up_n (by omega)]; exact h7 a b q⟩ (by omega) (by omega)
                 rw [u3, up_n (by omega)]
                 by_cases e : k = n
                 · subst e
                   refine ⟨?_, u1⟩
                   rcases (show j = 0 ∨ j = 1 ∨ j = 2 ∨ j = 3 by omega) with e | e | e | e
                   · subst e; rw [up_n (by omega), up_n (by omega), up_n (by omega), show 4 * (M 2 12 + k) + 0 = 4 * (M 2 12 + k) by omega, up_s]
                   · subst e; rw [up_n (by omega), up_n (by omega), up_s]
                   · subst e; rw [up_n (by omega), up_s]
                   · subst e; rw [up_s]
                 · rw [up_n (by omega), up_n (by omega), up_n (by omega), up_n (by omega)]
                   exact h6 k j q1 (by omega) q3 q4)
          · exact absurd c106 (by decide)
        · have hsu : okL (shQ M s) n ∧ M 2 12 + n < 12 ∧ M92 = up (up (up (up (up M' 113 (4 * M' 2 12) (shQ M s n 0)) 113 (4 * M' 2 12 + 1) (shQ M s n 1)) 113 (4 * M' 2 12 + 2) (shQ M s n 2)) 113 (4 * M' 2 12 + 3) (shQ M s n 3)) 2 12 (M' 2 12 + 1) := by
            rcases h92 with q | ⟨q0, q | q⟩
            · exfalso; omega
            · exfalso; omega
            · exact ⟨okL_iff.mpr q0, by omega, q.2.2⟩
          obtain ⟨u1, u2, u3⟩ := hsu
          rw [h5] at u3
          refine tx_iconst (pc := 98) O dX6_read_98 ?_
          refine tx_goto (pc := 99) 103 O dX6_read_99 rfl ?_
          refine tx_istore_n (pc := 103) (lv' := [(3, _), (4, _), (2, _), (0, _), (1, _)]) O dX6_read_103 rfl (by decide) rfl ?_
          refine tx_iload_n (pc := 104) 2 O dX6_read_104 rfl rfl ?_
          refine tx_iload_n (pc := 105) 0 O dX6_read_105 rfl rfl ?_
          refine tx_if_eq (pc := 106) 113 O dX6_read_106 rfl (by omega) (fun c106 => ?_) (fun c106 => ?_)
          · exact absurd c106 (by decide)
          · refine tx_iconst (pc := 109) O dX6_read_109 ?_
            refine tx_goto (pc := 110) 114 O dX6_read_110 rfl ?_
            refine tx_iadd (pc := 114) O dX6_read_114 ?_
            refine tx_istore_n (pc := 115) (lv' := [(2, _), (3, _), (4, _), (0, _), (1, _)]) O dX6_read_115 rfl (by decide) rfl ?_
            refine tx_goto (pc := 116) 29 O dX6_read_116 rfl ?_
            refine tx_lv (lv' := [(3, _), (2, _), (0, _), (1, _)]) [1, 0, 3, 4] rfl ?_
            first
              | (have hfo2 := hfo
                 refine tx_iload_n (pc := 29) 0 O dX6_read_29 rfl rfl ?_
                 refine tx_if_eq (pc := 30) 119 O dX6_read_30 rfl (by omega) (fun c => ?_) (fun c => absurd rfl c)
                 refine tx_iload_n (pc := 119) 1 O dX6_read_119 rfl rfl ?_
                 rw [show n + 0 = n by omega]
                 exact tx_iret O F dX6_read_120 (tx_QI.mk (fin _ hfo2.1 hfo2.2)))
              | (refine ih _ _ ⟨by omega, by omega, rdS_y h1 h3 ⟨u1, u2⟩, by omega, by rw [u3, up_s]; omega, fun k j q1 q2 q3 q4 => ?_, fun a b q => by rw [u3, up_n (by omega), up_n (by omega), up_n (by omega), up_n (by omega), up_n (by omega)]; exact h7 a b q⟩ (by omega) (by omega)
                 rw [u3, up_n (by omega)]
                 by_cases e : k = n
                 · subst e
                   refine ⟨?_, u1⟩
                   rcases (show j = 0 ∨ j = 1 ∨ j = 2 ∨ j = 3 by omega) with e | e | e | e
                   · subst e; rw [up_n (by omega), up_n (by omega), up_n (by omega), show 4 * (M 2 12 + k) + 0 = 4 * (M 2 12 + k) by omega, up_s]
                   · subst e; rw [up_n (by omega), up_n (by omega), up_s]
                   · subst e; rw [up_n (by omega), up_s]
                   · subst e; rw [up_s]
                 · rw [up_n (by omega), up_n (by omega), up_n (by omega), up_n (by omega)]
                   exact h6 k j q1 (by omega) q3 q4)
  refine tx_iload_n (pc := 0) 1 O dX6_read_0 rfl rfl ?_
  refine tx_cS1 (pc := 1) O dX6_read_1 q906 vX6_isSheet (by decide) (Nat.zero_le _) (sX6_isSheet w _ _ _ (by omega)) (k_P (fun z1 h1 => ?_))
  refine tx_if_ne (pc := 4) 10 O dX6_read_4 rfl (by omega) (fun c4 => ?_) (fun c4 => ?_)
  · have hq := hm s (by omega) (by omega)
    refine tx_aload_n (pc := 10) 0 O dX6_read_10 rfl rfl ?_
    refine fX6_7 (pc := 11) O hR dX6_read_11 ?_
    refine tx_iload_n (pc := 14) 1 O dX6_read_14 rfl rfl ?_
    refine tx_iald (pc := 15) _ O dX6_read_15 (sh_100 w) (by omega) ?_
    refine tx_if_ge (pc := 16) 25 O dX6_read_16 rfl (by omega) (fun c16 => ?_) (fun c16 => ?_)
    · refine tx_iconst (pc := 25) O dX6_read_25 ?_
      refine tx_istore_n (pc := 26) (lv' := [(2, _), (0, _), (1, _)]) O dX6_read_26 rfl (by decide) rfl ?_
      refine tx_iconst (pc := 27) O dX6_read_27 ?_
      refine tx_istore_n (pc := 28) (lv' := [(3, _), (2, _), (0, _), (1, _)]) O dX6_read_28 rfl (by decide) rfl ?_
      exact K (by omega) (by omega) 0 _ ⟨by omega, by omega, rfl, by omega, by omega, fun k j q1 q2 => by omega, fun _ _ _ => rfl⟩
    · refine tx_aload_n (pc := 19) 0 O dX6_read_19 rfl rfl ?_
      refine tx_iconst (pc := 20) O dX6_read_20 ?_
      refine tx_cV1 (pc := 21) O dX6_read_21 q914 vX6_finds (sh_2 w) rfl (by decide) (Nat.zero_le _) (sX6_finds w _ _ _) (k_I (fun z21 M21 h21 => ?_))
      exact tx_iret O F dX6_read_24 (tx_QI.mk (Or.inr ⟨by omega, Or.inl ⟨by omega, by omega, h21.2⟩⟩))
  · refine tx_bipush (pc := 7) O dX6_read_7 (by decide) ?_
    exact tx_iret O F dX6_read_9 (tx_QI.mk (Or.inl ⟨by omega, rfl, rfl⟩))
def dg (h v : Int) : Int := 31 * h + wr v
noncomputable def humsV (u : PU) (c t b y wish what : Int) : Int := @ite Int (humsOkP u c t b y wish what) (Classical.propDecidable _) (humsP u c t b y wish what) (-9223372036854775806)
theorem humsV_of {u : PU} {c t b y wish what z : Int} (h : ¬ humsOkP u c t b y wish what ∧ z = -9223372036854775806 ∨ humsOkP u c t b y wish what ∧ z = humsP u c t b y wish what) : z = humsV u c t b y wish what := by
  rcases h with ⟨h1, h2⟩ | ⟨h1, h2⟩
  · rw [h2]; exact (if_neg h1).symm
  · rw [h2]; exact (if_pos h1).symm
noncomputable def dgT (u : PU) (h t : Int) : Int := 31 * (31 * (dg (dg (dg (dg (dg (dg (dg (dg (dg (dg (dg (dg (dg (dg (dg (dg (dg h (gl (uT u) t).length) (noteP (rNow (runP u (uear u) 6) t) (-1))) (noteP (rNow (runP u (uear u) 40) t) (-1))) (noteP (rNow (runP u (uear u) 6) t) 2)) (hasP u (runP u (uear u) 6) t)) (lendP u t 9 (-1))) (lendP u t 9 0)) (longP u t 3 (-1))) (longP u t 3 0)) (whoP u 0 t 0)) (whoP u 0 t 1)) (farP u 0 t)) (nearP u t)) (mothP u t)) (tellP u t 0)) (tellP u t 1)) (fairP u 7 9 t)) + humsV u 5 t 0 4 9 0) + humsV u 5 t 0 4 9 1
theorem sX6_tellsTune (w : WT) (h t : Int) (R M : TM) (u : PU) (hR : RL R) (hu : mP M u) (ht : 0 ≤ t ∧ t < (uT u).length) : tx_S w yX6_tellsTune cX6_tellsTune 7 (some .long) 7 [rV (wa w) 2, lV h, iV t] R M (QL R (fun z M' => z = dgT u h t ∧ mP M' u ∧ kpQ M M')) := by
  have hok := hu.1.1
  have hD1 := (uT_ok hok).1
  have hbd := tellS_ok u t 4096 (by omega) (by omega)
  have hk : kpQ M M := kpQ.rf
  refine tx_S.ofk (lv := [(0, _), (1, _), (3, _)]) [1, 2, 1] (by decide) (by simp only [List.map_cons, List.map_nil, cat_i, cat_l, cat_r]) (by decide) rfl (fun E O F => ?_)
  refine tx_ldc2 (pc := 0) (z := 31) O dX6_tellsTune_0 q1261 rfl ?_
  refine tx_lload_n (pc := 3) 1 O dX6_tellsTune_3 rfl rfl ?_
  refine tx_lmul (pc := 4) O dX6_tellsTune_4 ?_
  refine tx_aload_n (pc := 5) 0 O dX6_tellsTune_5 rfl rfl ?_
  refine fX6_31 (pc := 6) O hR dX6_tellsTune_6 ?_
  refine tx_iload_n (pc := 9) 2 O dX6_tellsTune_9 rfl rfl ?_
  refine tx_iald (pc := 10) _ O dX6_tellsTune_10 (sh_109 w) (by omega) ?_
  rw [(hu.2.1.2 t ht.1 ht.2).1]
  refine tx_i2lw (pc := 11) O dX6_tellsTune_11 ?_
  refine tx_ladd (pc := 12) O dX6_tellsTune_12 ?_
  refine tx_lstore (pc := 13) (lv' := [(4, _), (0, _), (1, _), (3, _)]) O dX6_tellsTune_13 (by decide) rfl ?_
  refine tx_ldc2 (pc := 15) (z := 31) O dX6_tellsTune_15 q1261 rfl ?_
  refine tx_lload (pc := 18) 0 O dX6_tellsTune_18 rfl ?_
  refine tx_lmul (pc := 20) O dX6_tellsTune_20 ?_
  refine tx_aload_n (pc := 21) 1 O dX6_tellsTune_21 rfl rfl ?_
  refine tx_iconst (pc := 22) O dX6_tellsTune_22 ?_
  refine tx_iload_n (pc := 23) 3 O dX6_tellsTune_23 rfl rfl ?_
  refine tx_iconst (pc := 24) O dX6_tellsTune_24 ?_
  refine tx_cV3 (pc := 25) O dX6_tellsTune_25 q1029 vX6_notesOf (sh_2 w) rfl (by decide) (Nat.le_of_ble_eq_true rfl) (sX6_notesOf w _ _ _ _ _ u hR hu (by omega) (by omega) (by omega)) (k_I (fun z25 M25 h25 => ?_))
  obtain ⟨g25, k25⟩ := h25
  have hu := hu.keep k25
  have hk := hk.tr k25.q
  refine tx_i2lw (pc := 28) O dX6_tellsTune_28 ?_
  refine tx_ladd (pc := 29) O dX6_tellsTune_29 ?_
  refine tx_lstore (pc := 30) (lv' := [(4, _), (0, _), (1, _), (3, _)]) O dX6_tellsTune_30 (by decide) rfl ?_
  refine tx_ldc2 (pc := 32) (z := 31) O dX6_tellsTune_32 q1261 rfl ?_
  refine tx_lload (pc := 35) 0 O dX6_tellsTune_35 rfl ?_
  refine tx_lmul (pc := 37) O dX6_tellsTune_37 ?_
  refine tx_aload_n (pc := 38) 1 O dX6_tellsTune_38 rfl rfl ?_
  refine tx_bipush (pc := 39) O dX6_tellsTune_39 (by decide) ?_
  refine tx_iload_n (pc := 41) 3 O dX6_tellsTune_41 rfl rfl ?_
  refine tx_iconst (pc := 42) O dX6_tellsTune_42 ?_
  refine tx_cV3 (pc := 43) O dX6_tellsTune_43 q1029 vX6_notesOf (sh_2 w) rfl (by decide) (Nat.le_of_ble_eq_true rfl) (sX6_notesOf w _ _ _ _ _ u hR hu (by omega) (by omega) (by omega)) (k_I (fun z43 M43 h43 => ?_))
  obtain ⟨g43, k43⟩ := h43
  have hu := hu.keep k43
  have hk := hk.tr k43.q
  refine tx_i2lw (pc := 46) O dX6_tellsTune_46 ?_
  refine tx_ladd (pc := 47) O dX6_tellsTune_47 ?_
  refine tx_lstore (pc := 48) (lv' := [(4, _), (0, _), (1, _), (3, _)]) O dX6_tellsTune_48 (by decide) rfl ?_
  refine tx_ldc2 (pc := 50) (z := 31) O dX6_tellsTune_50 q1261 rfl ?_
  refine tx_lload (pc := 53) 0 O dX6_tellsTune_53 rfl ?_
  refine tx_lmul (pc := 55) O dX6_tellsTune_55 ?_
  refine tx_aload_n (pc := 56) 1 O dX6_tellsTune_56 rfl rfl ?_
  refine tx_iconst (pc := 57) O dX6_tellsTune_57 ?_
  refine tx_iload_n (pc := 58) 3 O dX6_tellsTune_58 rfl rfl ?_
  refine tx_iconst (pc := 59) O dX6_tellsTune_59 ?_
  refine tx_cV3 (pc := 60) O dX6_tellsTune_60 q1029 vX6_notesOf (sh_2 w) rfl (by decide) (Nat.le_of_ble_eq_true rfl) (sX6_notesOf w _ _ _ _ _ u hR hu (by omega) (by omega) (by omega)) (k_I (fun z60 M60 h60 => ?_))
  obtain ⟨g60, k60⟩ := h60
  have hu := hu.keep k60
  have hk := hk.tr k60.q
  refine tx_i2lw (pc := 63) O dX6_tellsTune_63 ?_
  refine tx_ladd (pc := 64) O dX6_tellsTune_64 ?_
  refine tx_lstore (pc := 65) (lv' := [(4, _), (0, _), (1, _), (3, _)]) O dX6_tellsTune_65 (by decide) rfl ?_
  refine tx_ldc2 (pc := 67) (z := 31) O dX6_tellsTune_67 q1261 rfl ?_
  refine tx_lload (pc := 70) 0 O dX6_tellsTune_70 rfl ?_
  refine tx_lmul (pc := 72) O dX6_tellsTune_72 ?_
  refine tx_aload_n (pc := 73) 1 O dX6_tellsTune_73 rfl rfl ?_
  refine tx_iconst (pc := 74) O dX6_tellsTune_74 ?_
  refine tx_iload_n (pc := 75) 3 O dX6_tellsTune_75 rfl rfl ?_
  refine tx_cV2 (pc := 76) O dX6_tellsTune_76 q1075 vX6_hasOf (sh_2 w) rfl (by decide) (Nat.le_of_ble_eq_true rfl) (sX6_hasOf w _ _ _ _ u hR hu (by omega) (by omega)) (k_I (fun z76 M76 h76 => ?_))
  obtain ⟨g76, k76⟩ := h76
  have hu := hu.keep k76
  have hk := hk.tr k76.q
  refine tx_i2lw (pc := 79) O dX6_tellsTune_79 ?_
  refine tx_ladd (pc := 80) O dX6_tellsTune_80 ?_
  refine tx_lstore (pc := 81) (lv' := [(4, _), (0, _), (1, _), (3, _)]) O dX6_tellsTune_81 (by decide) rfl ?_
  refine tx_ldc2 (pc := 83) (z := 31) O dX6_tellsTune_83 q1261 rfl ?_
  refine tx_lload (pc := 86) 0 O dX6_tellsTune_86 rfl ?_
  refine tx_lmul (pc := 88) O dX6_tellsTune_88 ?_
  refine tx_aload_n (pc := 89) 1 O dX6_tellsTune_89 rfl rfl ?_
  refine tx_iload_n (pc := 90) 3 O dX6_tellsTune_90 rfl rfl ?_
  refine tx_bipush (pc := 91) O dX6_tellsTune_91 (by decide) ?_
  refine tx_iconst (pc := 93) O dX6_tellsTune_93 ?_
  refine tx_cV3 (pc := 94) O dX6_tellsTune_94 q1108 vX6_lendOf (sh_2 w) rfl (by decide) (Nat.le_of_ble_eq_true rfl) (sX6_lendOf w _ _ _ _ _ u hR hu (by omega) (by omega) (by omega)) (k_I (fun z94 M94 h94 => ?_))
  obtain ⟨g94, k94⟩ := h94
  have hu := hu.keep k94
  have hk := hk.tr k94.q
  refine tx_i2lw (pc := 97) O dX6_tellsTune_97 ?_
  refine tx_ladd (pc := 98) O dX6_tellsTune_98 ?_
  refine tx_lstore (pc := 99) (lv' := [(4, _), (0, _), (1, _), (3, _)]) O dX6_tellsTune_99 (by decide) rfl ?_
  refine tx_ldc2 (pc := 101) (z := 31) O dX6_tellsTune_101 q1261 rfl ?_
  refine tx_lload (pc := 104) 0 O dX6_tellsTune_104 rfl ?_
  refine tx_lmul (pc := 106) O dX6_tellsTune_106 ?_
  refine tx_aload_n (pc := 107) 1 O dX6_tellsTune_107 rfl rfl ?_
  refine tx_iload_n (pc := 108) 3 O dX6_tellsTune_108 rfl rfl ?_
  refine tx_bipush (pc := 109) O dX6_tellsTune_109 (by decide) ?_
  refine tx_iconst (pc := 111) O dX6_tellsTune_111 ?_
  refine tx_cV3 (pc := 112) O dX6_tellsTune_112 q1108 vX6_lendOf (sh_2 w) rfl (by decide) (Nat.le_of_ble_eq_true rfl) (sX6_lendOf w _ _ _ _ _ u hR hu (by omega) (by omega) (by omega)) (k_I (fun z112 M112 h112 => ?_))
  obtain ⟨g112, k112⟩ := h112
  have hu := hu.keep k112
  have hk := hk.tr k112.q
  refine tx_i2lw (pc := 115) O dX6_tellsTune_115 ?_
  refine tx_ladd (pc := 116) O dX6_tellsTune_116 ?_
  refine tx_lstore (pc := 117) (lv' := [(4, _), (0, _), (1, _), (3, _)]) O dX6_tellsTune_117 (by decide) rfl ?_
  refine tx_ldc2 (pc := 119) (z := 31) O dX6_tellsTune_119 q1261 rfl ?_
  refine tx_lload (pc := 122) 0 O dX6_tellsTune_122 rfl ?_
  refine tx_lmul (pc := 124) O dX6_tellsTune_124 ?_
  refine tx_aload_n (pc := 125) 1 O dX6_tellsTune_125 rfl rfl ?_
  refine tx_iload_n (pc := 126) 3 O dX6_tellsTune_126 rfl rfl ?_
  refine tx_iconst (pc := 127) O dX6_tellsTune_127 ?_
  refine tx_iconst (pc := 128) O dX6_tellsTune_128 ?_
  refine tx_cV3 (pc := 129) O dX6_tellsTune_129 q1132 vX6_longestOf (sh_2 w) rfl (by decide) (Nat.le_of_ble_eq_true rfl) (sX6_longestOf w _ _ _ _ _ u hR hu (by omega) (by omega) (by omega)) (k_I (fun z129 M129 h129 => ?_))
  obtain ⟨g129, k129⟩ := h129
  have hu := hu.keep k129
  have hk := hk.tr k129.q
  refine tx_i2lw (pc := 132) O dX6_tellsTune_132 ?_
  refine tx_ladd (pc := 133) O dX6_tellsTune_133 ?_
  refine tx_lstore (pc := 134) (lv' := [(4, _), (0, _), (1, _), (3, _)]) O dX6_tellsTune_134 (by decide) rfl ?_
  refine tx_ldc2 (pc := 136) (z := 31) O dX6_tellsTune_136 q1261 rfl ?_
  refine tx_lload (pc := 139) 0 O dX6_tellsTune_139 rfl ?_
  refine tx_lmul (pc := 141) O dX6_tellsTune_141 ?_
  refine tx_aload_n (pc := 142) 1 O dX6_tellsTune_142 rfl rfl ?_
  refine tx_iload_n (pc := 143) 3 O dX6_tellsTune_143 rfl rfl ?_
  refine tx_iconst (pc := 144) O dX6_tellsTune_144 ?_
  refine tx_iconst (pc := 145) O dX6_tellsTune_145 ?_
  refine tx_cV3 (pc := 146) O dX6_tellsTune_146 q1132 vX6_longestOf (sh_2 w) rfl (by decide) (Nat.le_of_ble_eq_true rfl) (sX6_longestOf w _ _ _ _ _ u hR hu (by omega) (by omega) (by omega)) (k_I (fun z146 M146 h146 => ?_))
  obtain ⟨g146, k146⟩ := h146
  have hu := hu.keep k146
  have hk := hk.tr k146.q
  refine tx_i2lw (pc := 149) O dX6_tellsTune_149 ?_
  refine tx_ladd (pc := 150) O dX6_tellsTune_150 ?_
  refine tx_lstore (pc := 151) (lv' := [(4, _), (0, _), (1, _), (3, _)]) O dX6_tellsTune_151 (by decide) rfl ?_
  refine tx_ldc2 (pc := 153) (z := 31) O dX6_tellsTune_153 q1261 rfl ?_
  refine tx_lload (pc := 156) 0 O dX6_tellsTune_156 rfl ?_
  refine tx_lmul (pc := 158) O dX6_tellsTune_158 ?_
  refine tx_aload_n (pc := 159) 1 O dX6_tellsTune_159 rfl rfl ?_
  refine tx_iconst (pc := 160) O dX6_tellsTune_160 ?_
  refine tx_iload_n (pc := 161) 3 O dX6_tellsTune_161 rfl rfl ?_
  refine tx_iconst (pc := 162) O dX6_tellsTune_162 ?_
  refine tx_cV3 (pc := 163) O dX6_tellsTune_163 q1140 vX6_whoOf (sh_2 w) rfl (by decide) (Nat.le_of_ble_eq_true rfl) (sX6_whoOf w _ _ _ _ _ u hR hu (by omega) (by omega) (by omega)) (k_I (fun z163 M163 h163 => ?_))
  obtain ⟨g163, k163⟩ := h163
  have hu := hu.keep k163
  have hk := hk.tr k163.q
  refine tx_i2lw (pc := 166) O dX6_tellsTune_166 ?_
  refine tx_ladd (pc := 167) O dX6_tellsTune_167 ?_
  refine tx_lstore (pc := 168) (lv' := [(4, _), (0, _), (1, _), (3, _)]) O dX6_tellsTune_168 (by decide) rfl ?_
  refine tx_ldc2 (pc := 170) (z := 31) O dX6_tellsTune_170 q1261 rfl ?_
  refine tx_lload (pc := 173) 0 O dX6_tellsTune_173 rfl ?_
  refine tx_lmul (pc := 175) O dX6_tellsTune_175 ?_
  refine tx_aload_n (pc := 176) 1 O dX6_tellsTune_176 rfl rfl ?_
  refine tx_iconst (pc := 177) O dX6_tellsTune_177 ?_
  refine tx_iload_n (pc := 178) 3 O dX6_tellsTune_178 rfl rfl ?_
  refine tx_iconst (pc := 179) O dX6_tellsTune_179 ?_
  refine tx_cV3 (pc := 180) O dX6_tellsTune_180 q1140 vX6_whoOf (sh_2 w) rfl (by decide) (Nat.le_of_ble_eq_true rfl) (sX6_whoOf w _ _ _ _ _ u hR hu (by omega) (by omega) (by omega)) (k_I (fun z180 M180 h180 => ?_))
  obtain ⟨g180, k180⟩ := h180
  have hu := hu.keep k180
  have hk := hk.tr k180.q
  refine tx_i2lw (pc := 183) O dX6_tellsTune_183 ?_
  refine tx_ladd (pc := 184) O dX6_tellsTune_184 ?_
  refine tx_lstore (pc := 185) (lv' := [(4, _), (0, _), (1, _), (3, _)]) O dX6_tellsTune_185 (by decide) rfl ?_
  refine tx_ldc2 (pc := 187) (z := 31) O dX6_tellsTune_187 q1261 rfl ?_
  refine tx_lload (pc := 190) 0 O dX6_tellsTune_190 rfl ?_
  refine tx_lmul (pc := 192) O dX6_tellsTune_192 ?_
  refine tx_aload_n (pc := 193) 1 O dX6_tellsTune_193 rfl rfl ?_
  refine tx_iconst (pc := 194) O dX6_tellsTune_194 ?_
  refine tx_iload_n (pc := 195) 3 O dX6_tellsTune_195 rfl rfl ?_
  refine tx_cV2 (pc := 196) O dX6_tellsTune_196 q1164 vX6_farOf (sh_2 w) rfl (by decide) (Nat.le_of_ble_eq_true rfl) (sX6_farOf w _ _ _ _ u hR hu (by omega) (by omega)) (k_I (fun z196 M196 h196 => ?_))
  obtain ⟨g196, k196⟩ := h196
  have hu := hu.keep k196
  have hk := hk.tr k196.q
  refine tx_i2lw (pc := 199) O dX6_tellsTune_199 ?_
  refine tx_ladd (pc := 200) O dX6_tellsTune_200 ?_
  refine tx_lstore (pc := 201) (lv' := [(4, _), (0, _), (1, _), (3, _)]) O dX6_tellsTune_201 (by decide) rfl ?_
  refine tx_ldc2 (pc := 203) (z := 31) O dX6_tellsTune_203 q1261 rfl ?_
  refine tx_lload (pc := 206) 0 O dX6_tellsTune_206 rfl ?_
  refine tx_lmul (pc := 208) O dX6_tellsTune_208 ?_
  refine tx_aload_n (pc := 209) 1 O dX6_tellsTune_209 rfl rfl ?_
  refine tx_iload_n (pc := 210) 3 O dX6_tellsTune_210 rfl rfl ?_
  refine tx_cV1 (pc := 211) O dX6_tellsTune_211 q1172 vX6_nearestOf (sh_2 w) rfl (by decide) (Nat.le_of_ble_eq_true rfl) (sX6_nearestOf w _ _ _ u hR hu (by omega)) (k_I (fun z211 M211 h211 => ?_))
  obtain ⟨g211, k211⟩ := h211
  have hu := hu.keep k211
  have hk := hk.tr k211.q
  refine tx_i2lw (pc := 214) O dX6_tellsTune_214 ?_
  refine tx_ladd (pc := 215) O dX6_tellsTune_215 ?_
  refine tx_lstore (pc := 216) (lv' := [(4, _), (0, _), (1, _), (3, _)]) O dX6_tellsTune_216 (by decide) rfl ?_
  refine tx_ldc2 (pc := 218) (z := 31) O dX6_tellsTune_218 q1261 rfl ?_
  refine tx_lload (pc := 221) 0 O dX6_tellsTune_221 rfl ?_
  refine tx_lmul (pc := 223) O dX6_tellsTune_223 ?_
  refine tx_aload_n (pc := 224) 1 O dX6_tellsTune_224 rfl rfl ?_
  refine tx_iload_n (pc := 225) 3 O dX6_tellsTune_225 rfl rfl ?_
  refine tx_cV1 (pc := 226) O dX6_tellsTune_226 q1180 vX6_mothersOf (sh_2 w) rfl (by decide) (Nat.le_of_ble_eq_true rfl) (sX6_mothersOf w _ _ _ u hR hu (by omega)) (k_I (fun z226 M226 h226 => ?_))
  obtain ⟨g226, k226⟩ := h226
  have hu := hu.keep k226
  have hk := hk.tr k226.q
  refine tx_i2lw (pc := 229) O dX6_tellsTune_229 ?_
  refine tx_ladd (pc := 230) O dX6_tellsTune_230 ?_
  refine tx_lstore (pc := 231) (lv' := [(4, _), (0, _), (1, _), (3, _)]) O dX6_tellsTune_231 (by decide) rfl ?_
  refine tx_aload_n (pc := 233) 1 O dX6_tellsTune_233 rfl rfl ?_
  refine tx_iload_n (pc := 234) 3 O dX6_tellsTune_234 rfl rfl ?_
  refine tx_cV1 (pc := 235) O dX6_tellsTune_235 q1188 vX6_tellsOf (sh_2 w) rfl (by decide) (Nat.zero_le _) (sX6_tellsOf w _ _ _ u hR hu (by omega)) (k_P (fun z235 h235 => ?_))
  subst h235
  refine tx_istore (pc := 238) (lv' := [(6, _), (4, _), (0, _), (1, _), (3, _)]) O dX6_tellsTune_238 (by decide) rfl ?_
  refine tx_ldc2 (pc := 240) (z := 31) O dX6_tellsTune_240 q1261 rfl ?_
  refine tx_lload (pc := 243) 1 O dX6_tellsTune_243 rfl ?_
  refine tx_lmul (pc := 245) O dX6_tellsTune_245 ?_
  refine tx_iload (pc := 246) 0 O dX6_tellsTune_246 rfl ?_
  refine tx_iconst (pc := 248) O dX6_tellsTune_248 ?_
  refine tx_cS2 (pc := 249) O dX6_tellsTune_249 q1202 vX6_tellsBits (by decide) (Nat.le_of_ble_eq_true rfl) (sX6_tellsBits w _ _ _ _ hbd (by omega)) (k_P (fun z249 h249 => ?_))
  refine tx_i2lw (pc := 252) O dX6_tellsTune_252 ?_
  refine tx_ladd (pc := 253) O dX6_tellsTune_253 ?_
  refine tx_lstore (pc := 254) (lv' := [(4, _), (6, _), (0, _), (1, _), (3, _)]) O dX6_tellsTune_254 (by decide) rfl ?_
  refine tx_ldc2 (pc := 256) (z := 31) O dX6_tellsTune_256 q1261 rfl ?_
  refine tx_lload (pc := 259) 0 O dX6_tellsTune_259 rfl ?_
  refine tx_lmul (pc := 261) O dX6_tellsTune_261 ?_
  refine tx_iload (pc := 262) 1 O dX6_tellsTune_262 rfl ?_
  refine tx_iconst (pc := 264) O dX6_tellsTune_264 ?_
  refine tx_cS2 (pc := 265) O dX6_tellsTune_265 q1202 vX6_tellsBits (by decide) (Nat.le_of_ble_eq_true rfl) (sX6_tellsBits w _ _ _ _ hbd (by omega)) (k_P (fun z265 h265 => ?_))
  refine tx_i2lw (pc := 268) O dX6_tellsTune_268 ?_
  refine tx_ladd (pc := 269) O dX6_tellsTune_269 ?_
  refine tx_lstore (pc := 270) (lv' := [(4, _), (6, _), (0, _), (1, _), (3, _)]) O dX6_tellsTune_270 (by decide) rfl ?_
  refine tx_ldc2 (pc := 272) (z := 31) O dX6_tellsTune_272 q1261 rfl ?_
  refine tx_lload (pc := 275) 0 O dX6_tellsTune_275 rfl ?_
  refine tx_lmul (pc := 277) O dX6_tellsTune_277 ?_
  refine tx_aload_n (pc := 278) 2 O dX6_tellsTune_278 rfl rfl ?_
  refine tx_bipush (pc := 279) O dX6_tellsTune_279 (by decide) ?_
  refine tx_bipush (pc := 281) O dX6_tellsTune_281 (by decide) ?_
  refine tx_iload_n (pc := 283) 4 O dX6_tellsTune_283 rfl rfl ?_
  refine tx_cV3 (pc := 284) O dX6_tellsTune_284 q1243 vX6_fairOf (sh_2 w) rfl (by decide) (Nat.le_of_ble_eq_true rfl) (sX6_fairOf w _ _ _ _ _ u hR hu (by omega) (by omega)) (k_I (fun z284 M284 h284 => ?_))
  obtain ⟨g284, k284⟩ := h284
  have hu := hu.keep k284
  have hk := hk.tr k284.q
  refine tx_i2lw (pc := 287) O dX6_tellsTune_287 ?_
  refine tx_ladd (pc := 288) O dX6_tellsTune_288 ?_
  refine tx_lstore (pc := 289) (lv' := [(4, _), (6, _), (0, _), (1, _), (3, _)]) O dX6_tellsTune_289 (by decide) rfl ?_
  refine tx_ldc2 (pc := 291) (z := 31) O dX6_tellsTune_291 q1261 rfl ?_
  refine tx_lload (pc := 294) 0 O dX6_tellsTune_294 rfl ?_
  refine tx_lmul (pc := 296) O dX6_tellsTune_296 ?_
  refine tx_aload_n (pc := 297) 2 O dX6_tellsTune_297 rfl rfl ?_
  refine tx_iconst (pc := 298) O dX6_tellsTune_298 ?_
  refine tx_iload_n (pc := 299) 4 O dX6_tellsTune_299 rfl rfl ?_
  refine tx_iconst (pc := 300) O dX6_tellsTune_300 ?_
  refine tx_iconst (pc := 301) O dX6_tellsTune_301 ?_
  refine tx_bipush (pc := 302) O dX6_tellsTune_302 (by decide) ?_
  refine tx_iconst (pc := 304) O dX6_tellsTune_304 ?_
  refine tx_cV6 (pc := 305) O dX6_tellsTune_305 q1267 vX6_hums (sh_2 w) rfl (by decide) (Nat.le_of_ble_eq_true rfl) (sX6_hums w _ _ _ _ _ _ _ _ u hR hu.1 (by omega) (by omega) (by omega) (by omega) (by omega) (by omega)) (k_L (fun z305 M305 h305 => ?_))
  obtain ⟨g305, hu, k305⟩ := h305
  have hk := hk.tr k305
  refine tx_ladd (pc := 308) O dX6_tellsTune_308 ?_
  refine tx_lstore (pc := 309) (lv' := [(4, _), (6, _), (0, _), (1, _), (3, _)]) O dX6_tellsTune_309 (by decide) rfl ?_
  refine tx_ldc2 (pc := 311) (z := 31) O dX6_tellsTune_311 q1261 rfl ?_
  refine tx_lload (pc := 314) 0 O dX6_tellsTune_314 rfl ?_
  refine tx_lmul (pc := 316) O dX6_tellsTune_316 ?_
  refine tx_aload_n (pc := 317) 2 O dX6_tellsTune_317 rfl rfl ?_
  refine tx_iconst (pc := 318) O dX6_tellsTune_318 ?_
  refine tx_iload_n (pc := 319) 4 O dX6_tellsTune_319 rfl rfl ?_
  refine tx_iconst (pc := 320) O dX6_tellsTune_320 ?_
  refine tx_iconst (pc := 321) O dX6_tellsTune_321 ?_
  refine tx_bipush (pc := 322) O dX6_tellsTune_322 (by decide) ?_
  refine tx_iconst (pc := 324) O dX6_tellsTune_324 ?_
  refine tx_cV6 (pc := 325) O dX6_tellsTune_325 q1267 vX6_hums (sh_2 w) rfl (by decide) (Nat.le_of_ble_eq_true rfl) (sX6_hums w _ _ _ _ _ _ _ _ u hR hu.1 (by omega) (by omega) (by omega) (by omega) (by omega) (by omega)) (k_L (fun z325 M325 h325 => ?_))
  obtain ⟨g325, hu, k325⟩ := h325
  have hk := hk.tr k325
  refine tx_ladd (pc := 328) O dX6_tellsTune_328 ?_
  exact tx_lret O F dX6_tellsTune_329 (tx_QL.mk ⟨by
      rw [g25, g43, g60, g76, g94, g112, g129, g146, g163, g180, g196, g211, g226, h249, h265, g284, humsV_of g305, humsV_of g325]
      rfl, hu, hk⟩)

