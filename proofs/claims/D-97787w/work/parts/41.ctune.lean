/-! COMPONENT: Math, Tune, Borrower and its heirs -/
set_option maxRecDepth 100000
section MROWS
variable {w : WT} {E : ET} {own : String} {cc : ByteArray} {nL fr pc : Nat} {lv : List (Nat × Value)} {st : List Value} {R M : TM}
theorem tx_mmax {a b : Int} {idx : Nat} (O : tx_O w own cc nL fr E) (hd : decode cc pc = .ok (.invokestatic idx, 3)) (hl0 : Cond.methodLink own idx yJ0_max ∈ lw_all) (h : rng a ∧ rng b) (hfr1 : 1 ≤ fr) (hrm : (st.map fun v => v.category).sum ≤ 8) (k : tx_X w E (pc + 3) lv (iV (max a b) :: st) R M) : tx_X w E pc lv (iV b :: iV a :: st) R M := by
  obtain ⟨p, e, Rm, s, m, args, below, meth, c, cells, slots, Z⟩ := E
  obtain ⟨hx, hb, hml, hown, hts, hK, hJ, hz, hlk, hfr, hlo, hce, hsl⟩ := O
  intro H locs hH hS ls hl
  refine va_mmax (x := Int32.ofInt a) (y := Int32.ofInt b) (rest := st) hx hb hl.1.symm hown (hts _ hl0) (hts _ q295) (hts _ q91) (hts _ q296) (by omega) (by omega) hce hsl hd ?_
  have e : (if Int32.ofInt a < Int32.ofInt b then Int32.ofInt b else Int32.ofInt a) = Int32.ofInt (max a b) := by
    by_cases q : a < b
    · rw [if_pos ((of_lt h.1 h.2).mpr q), show max a b = b by omega]
    · rw [if_neg (fun z => q ((of_lt h.1 h.2).mp z)), show max a b = a by omega]
  rw [e]
  exact k H locs hH hS ls hl
theorem tx_mmin {a b : Int} {idx : Nat} (O : tx_O w own cc nL fr E) (hd : decode cc pc = .ok (.invokestatic idx, 3)) (hl0 : Cond.methodLink own idx yJ0_min ∈ lw_all) (h : rng a ∧ rng b) (hfr1 : 1 ≤ fr) (hrm : (st.map fun v => v.category).sum ≤ 8) (k : tx_X w E (pc + 3) lv (iV (min a b) :: st) R M) : tx_X w E pc lv (iV b :: iV a :: st) R M := by
  obtain ⟨p, e, Rm, s, m, args, below, meth, c, cells, slots, Z⟩ := E
  obtain ⟨hx, hb, hml, hown, hts, hK, hJ, hz, hlk, hfr, hlo, hce, hsl⟩ := O
  intro H locs hH hS ls hl
  refine va_mmin (x := Int32.ofInt a) (y := Int32.ofInt b) (rest := st) hx hb hl.1.symm hown (hts _ hl0) (hts _ q298) (hts _ q91) (hts _ q299) (by omega) (by omega) hce hsl hd ?_
  have e : (if Int32.ofInt b < Int32.ofInt a then Int32.ofInt b else Int32.ofInt a) = Int32.ofInt (min a b) := by
    by_cases q : b < a
    · rw [if_pos ((of_lt h.2 h.1).mpr q), show min a b = b by omega]
    · rw [if_neg (fun z => q ((of_lt h.2 h.1).mp z)), show min a b = a by omega]
  rw [e]
  exact k H locs hH hS ls hl
end MROWS
/-- a Tune's cell holds the list -/
def tuIs (M : TM) (i : Int) (l : List Int) : Prop := M i 1 = l.length ∧ ∀ j : Int, 0 ≤ j → j < l.length → M (i + 1000) j = ga l j
/-- but for this Tune all is as before -/
def kp1 (i : Int) (M M' : TM) : Prop := ∀ a b : Int, (a ≠ i ∧ a ≠ i + 1000) → M' a b = M a b
theorem kp1.rf {i : Int} {M : TM} : kp1 i M M := fun _ _ _ => rfl
theorem kp1.tr {i : Int} {M M' M'' : TM} (h : kp1 i M M') (h' : kp1 i M' M'') : kp1 i M M'' := fun a b q => (h' a b q).trans (h a b q)
theorem kp1.tu {i j : Int} {M M' : TM} {l : List Int} (h : kp1 i M M') (hi : isTn i) (hj : isTn j) (hij : j ≠ i) (ht : tuIs M j l) : tuIs M' j l := ⟨by rw [h _ _ (by omega)]; exact ht.1, fun k q1 q2 => by rw [h _ _ (by omega)]; exact ht.2 k q1 q2⟩
theorem sX1_is (w : WT) (i o : Int) (R M : TM) (l : List Int) (hR : RL R) (hi : isTn i) (ho : isTn o) (hio : i ≠ o) (hl : tuIs M o l) (h40 : l.length ≤ 40) : tx_S w yX1_is cX1_is 2 none 1 [rV (wa w) i, rV (wa w) o] R M (QV R (fun M' => tuIs M' i l ∧ kp1 i M M')) := by
  refine tx_S.ofk (lv := [(0, _), (1, _)]) [1, 1] (by decide) (by simp only [List.map_cons, List.map_nil, cat_i, cat_l, cat_r]) (by decide) rfl (fun E O F => ?_)
  refine tx_aload_n (pc := 0) 1 O dX1_is_0 rfl rfl ?_
  refine fX1_9 (pc := 1) O (ho) hR dX1_is_1 ?_
  refine tx_iconst (pc := 4) O dX1_is_4 ?_
  refine tx_aload_n (pc := 5) 0 O dX1_is_5 rfl rfl ?_
  refine fX1_9 (pc := 6) O (hi) hR dX1_is_6 ?_
  refine tx_iconst (pc := 9) O dX1_is_9 ?_
  refine tx_bipush (pc := 10) O dX1_is_10 (by decide) ?_
  refine tx_acopy (pc := 12) O dX1_is_12 q249 (sh_tr w (ho)) (sh_tr w (hi)) (by decide) (by omega) (fun _ _ _ => rfl) (by decide) (Nat.zero_le _) ?_
  refine tx_aload_n (pc := 15) 0 O dX1_is_15 rfl rfl ?_
  refine tx_aload_n (pc := 16) 1 O dX1_is_16 rfl rfl ?_
  refine fX1_21 (pc := 17) O (ho) dX1_is_17 ?_
  refine fX1_21p (pc := 20) O (hi) dX1_is_20 ?_
  exact tx_vret O F dX1_is_23 (tx_QV.mk ⟨⟨by rw [up_s, cpy_src _ (by omega)]; exact hl.1, fun j q1 q2 => by
      rw [up_n (by omega)]
      unfold cpy
      rw [if_pos ⟨rfl, by omega, by omega⟩, show (0 : Int) + (j - 0) = j by omega]
      exact hl.2 j q1 q2⟩, fun a b q => by rw [up_n (by omega), cpy_src _ (by omega)]⟩)
def ad40 (l : List Int) (v : Int) : List Int := if l.length < 40 then l ++ [v] else l
theorem ad40_take {c : List Int} {v : Int} : ad40 (c.take 40) v = (c ++ [v]).take 40 := by
  unfold ad40
  by_cases h : c.length < 40
  · rw [if_pos (by simp; omega), List.take_of_length_le (by omega), List.take_of_length_le (by simp; omega)]
  · rw [if_neg (by simp; omega), List.take_append_of_le_length (by omega)]
theorem ad40_le {l : List Int} {v : Int} (h : l.length ≤ 40) : (ad40 l v).length ≤ 40 := by
  unfold ad40
  split
  · simp; omega
  · exact h
theorem sX1_adds (w : WT) (i v : Int) (R M : TM) (l : List Int) (hR : RL R) (hi : isTn i) (hl : tuIs M i l) (h40 : l.length ≤ 40) : tx_S w yX1_adds cX1_adds 2 none 1 [rV (wa w) i, iV v] R M (QV R (fun M' => tuIs M' i (ad40 l v) ∧ kp1 i M M')) := by
  refine tx_S.ofk (lv := [(0, _), (1, _)]) [1, 1] (by decide) (by simp only [List.map_cons, List.map_nil, cat_i, cat_l, cat_r]) (by decide) rfl (fun E O F => ?_)
  refine tx_aload_n (pc := 0) 0 O dX1_adds_0 rfl rfl ?_
  refine fX1_21 (pc := 1) O (hi) dX1_adds_1 ?_
  rw [hl.1]
  refine tx_bipush (pc := 4) O dX1_adds_4 (by decide) ?_
  refine tx_icmp_ge (pc := 6) 29 O dX1_adds_6 rfl (by omega) (fun c6 => ?_) (fun c6 => ?_)
  · exact tx_vret O F dX1_adds_29 (tx_QV.mk (by
      unfold ad40
      first
        | (rw [if_neg (by omega)]; exact ⟨hl, kp1.rf⟩)
        | (rw [if_pos (by omega)]
           refine ⟨⟨by rw [up_s]; simp, fun j q1 q2 => ?_⟩, fun a b q => by rw [up_n (by omega), up_n (by omega)]⟩
           have q3 : ((l ++ [v]).length : Int) = l.length + 1 := by simp
           rw [up_n (by omega)]
           by_cases e : j < l.length
           · rw [up_n (by omega), ga_lt q1 e]; exact hl.2 j q1 e
           · rw [show j = (l.length : Int) by omega, ga_eq, up_s])))
  · refine tx_aload_n (pc := 9) 0 O dX1_adds_9 rfl rfl ?_
    refine fX1_9 (pc := 10) O (hi) hR dX1_adds_10 ?_
    refine tx_aload_n (pc := 13) 0 O dX1_adds_13 rfl rfl ?_
    refine fX1_21 (pc := 14) O (hi) dX1_adds_14 ?_
    rw [hl.1]
    refine tx_iload_n (pc := 17) 1 O dX1_adds_17 rfl rfl ?_
    refine tx_iast (pc := 18) _ O dX1_adds_18 (sh_tr w (hi)) (by omega) ?_
    refine tx_aload_n (pc := 19) 0 O dX1_adds_19 rfl rfl ?_
    refine tx_dup (pc := 20) O dX1_adds_20 (cat_r _ _) ?_
    refine fX1_21 (pc := 21) O (hi) dX1_adds_21 ?_
    rw [up_n (by omega), hl.1]
    refine tx_iconst (pc := 24) O dX1_adds_24 ?_
    refine tx_iadd (pc := 25) O dX1_adds_25 ?_
    refine fX1_21p (pc := 26) O (hi) dX1_adds_26 ?_
    exact tx_vret O F dX1_adds_29 (tx_QV.mk (by
      unfold ad40
      first
        | (rw [if_neg (by omega)]; exact ⟨hl, kp1.rf⟩)
        | (rw [if_pos (by omega)]
           refine ⟨⟨by rw [up_s]; simp, fun j q1 q2 => ?_⟩, fun a b q => by rw [up_n (by omega), up_n (by omega)]⟩
           have q3 : ((l ++ [v]).length : Int) = l.length + 1 := by simp
           rw [up_n (by omega)]
           by_cases e : j < l.length
           · rw [up_n (by omega), ga_lt q1 e]; exact hl.2 j q1 e
           · rw [show j = (l.length : Int) by omega, ga_eq, up_s])))
theorem sX1_isLike (w : WT) (i o : Int) (R M : TM) (a b : List Int) (hR : RL R) (hi : isTn i) (ho : isTn o) (ha : tuIs M i a) (hb : tuIs M o b) (oa : okN a) (ob : okN b) : tx_S w yX1_isLike cX1_isLike 4 (some .boolean) 1 [rV (wa w) i, rV (wa w) o] R M (QP R M (fun z => (z = 1 ∧ a = b) ∨ (z = 0 ∧ a ≠ b))) := by
  have a40 := oa.1
  have b40 := ob.1
  refine tx_S.ofk (lv := [(0, _), (1, _)]) [1, 1] (by decide) (by simp only [List.map_cons, List.map_nil, cat_i, cat_l, cat_r]) (by decide) rfl (fun E O F => ?_)
  have K : ∀ (j : Int) (M' : TM), (0 ≤ j ∧ j ≤ a.length ∧ M' = M) → ∀ x : Int, (x = 1 ∧ a.length = b.length ∧ (∀ k : Int, 0 ≤ k → k < j → ga a k = ga b k)) ∨ (x = 0 ∧ a ≠ b) → tx_X w E 19 [(3, iV j), (2, iV x), (0, rV (wa w) i), (1, rV (wa w) o)] [] R M' := by
    refine lp_up _ _ a.length ?_
    rintro j M' ⟨h1, h2, rfl⟩ ih x hx
    refine tx_iload_n (pc := 19) 0 O dX1_isLike_19 rfl rfl ?_
    refine tx_aload_n (pc := 20) 2 O dX1_isLike_20 rfl rfl ?_
    refine fX1_21 (pc := 21) O (hi) dX1_isLike_21 ?_
    rw [ha.1]
    refine tx_icmp_ge (pc := 24) 58 O dX1_isLike_24 rfl (by omega) (fun c24 => ?_) (fun c24 => ?_)
    · refine tx_iload_n (pc := 58) 1 O dX1_isLike_58 rfl rfl ?_
      exact tx_zret O F dX1_isLike_59 (by omega) (tx_QP.mk (by
        rcases hx with q | q
        · refine Or.inl ⟨q.1, ext_ga q.2.1 (fun k q1 q2 => q.2.2 k q1 (by omega))⟩
        · exact Or.inr q))
    · refine tx_iload_n (pc := 27) 1 O dX1_isLike_27 rfl rfl ?_
      refine tx_if_eq (pc := 28) 58 O dX1_isLike_28 rfl (by omega) (fun c28 => ?_) (fun c28 => ?_)
      · refine tx_iload_n (pc := 58) 1 O dX1_isLike_58 rfl rfl ?_
        exact tx_zret O F dX1_isLike_59 (by omega) (tx_QP.mk (by
          rcases hx with q | q
          · refine Or.inl ⟨q.1, ext_ga q.2.1 (fun k q1 q2 => q.2.2 k q1 (by omega))⟩
          · exact Or.inr q))
      · have hl2 : a.length = b.length ∧ ∀ k : Int, 0 ≤ k → k < j → ga a k = ga b k := by
          rcases hx with q | q
          · exact q.2
          · exact absurd q.1 c28
        have e1 := oa.2 _ (ga_mem (l := a) h1 (by omega))
        have e2 := ob.2 _ (ga_mem (l := b) h1 (by omega))
        refine tx_aload_n (pc := 31) 2 O dX1_isLike_31 rfl rfl ?_
        refine fX1_9 (pc := 32) O (hi) hR dX1_isLike_32 ?_
        refine tx_iload_n (pc := 35) 0 O dX1_isLike_35 rfl rfl ?_
        refine tx_iald (pc := 36) _ O dX1_isLike_36 (sh_tr w (hi)) (by omega) ?_
        rw [ha.2 j h1 (by omega)]
        refine tx_aload_n (pc := 37) 3 O dX1_isLike_37 rfl rfl ?_
        refine fX1_9 (pc := 38) O (ho) hR dX1_isLike_38 ?_
        refine tx_iload_n (pc := 41) 0 O dX1_isLike_41 rfl rfl ?_
        refine tx_iald (pc := 42) _ O dX1_isLike_42 (sh_tr w (ho)) (by omega) ?_
        rw [hb.2 j h1 (by omega)]
        refine tx_icmp_ne (pc := 43) 50 O dX1_isLike_43 rfl (by omega) (fun c43 => ?_) (fun c43 => ?_)
        · refine tx_iconst (pc := 50) O dX1_isLike_50 ?_
          refine tx_istore_n (pc := 51) (lv' := [(2, _), (3, _), (0, _), (1, _)]) O dX1_isLike_51 rfl (by decide) (by simp only [List.filter_cons, List.filter_nil, cat_r, cat_i, cat_l]; rfl) ?_
          refine tx_iinc (pc := 52) (lv' := [(3, _), (2, _), (0, _), (1, _)]) 1 O dX1_isLike_52 rfl (by decide) rfl ?_
          refine tx_goto (pc := 55) 19 O dX1_isLike_55 rfl ?_
          first
            | (refine ih _ _ ⟨by omega, by omega, rfl⟩ (by omega) (by omega) 1 (Or.inl ⟨rfl, hl2.1, fun k q1 q2 => ?_⟩)
               by_cases e : k = j
               · rw [e]; exact c43
               · exact hl2.2 k q1 (by omega))
            | exact ih _ _ ⟨by omega, by omega, rfl⟩ (by omega) (by omega) 0 (Or.inr ⟨rfl, fun q => c43 (by rw [q])⟩)
        · refine tx_iconst (pc := 46) O dX1_isLike_46 ?_
          refine tx_goto (pc := 47) 51 O dX1_isLike_47 rfl ?_
          refine tx_istore_n (pc := 51) (lv' := [(2, _), (3, _), (0, _), (1, _)]) O dX1_isLike_51 rfl (by decide) (by simp only [List.filter_cons, List.filter_nil, cat_r, cat_i, cat_l]; rfl) ?_
          refine tx_iinc (pc := 52) (lv' := [(3, _), (2, _), (0, _), (1, _)]) 1 O dX1_isLike_52 rfl (by decide) rfl ?_
          refine tx_goto (pc := 55) 19 O dX1_isLike_55 rfl ?_
          first
            | (refine ih _ _ ⟨by omega, by omega, rfl⟩ (by omega) (by omega) 1 (Or.inl ⟨rfl, hl2.1, fun k q1 q2 => ?_⟩)
               by_cases e : k = j
               · rw [e]; exact c43
               · exact hl2.2 k q1 (by omega))
            | exact ih _ _ ⟨by omega, by omega, rfl⟩ (by omega) (by omega) 0 (Or.inr ⟨rfl, fun q => c43 (by rw [q])⟩)
  refine tx_aload_n (pc := 0) 0 O dX1_isLike_0 rfl rfl ?_
  refine fX1_21 (pc := 1) O (hi) dX1_isLike_1 ?_
  rw [ha.1]
  refine tx_aload_n (pc := 4) 1 O dX1_isLike_4 rfl rfl ?_
  refine fX1_21 (pc := 5) O (ho) dX1_isLike_5 ?_
  rw [hb.1]
  refine tx_icmp_ne (pc := 8) 15 O dX1_isLike_8 rfl (by omega) (fun c8 => ?_) (fun c8 => ?_)
  · refine tx_iconst (pc := 15) O dX1_isLike_15 ?_
    refine tx_istore_n (pc := 16) (lv' := [(2, _), (0, _), (1, _)]) O dX1_isLike_16 rfl (by decide) (by simp only [List.filter_cons, List.filter_nil, cat_r, cat_i, cat_l]; rfl) ?_
    refine tx_iconst (pc := 17) O dX1_isLike_17 ?_
    refine tx_istore_n (pc := 18) (lv' := [(3, _), (2, _), (0, _), (1, _)]) O dX1_isLike_18 rfl (by decide) rfl ?_
    first
      | exact K 0 M ⟨by omega, by omega, rfl⟩ 1 (Or.inl ⟨rfl, by omega, fun k q1 q2 => by omega⟩)
      | exact K 0 M ⟨by omega, by omega, rfl⟩ 0 (Or.inr ⟨rfl, fun q => c8 (by rw [q])⟩)
  · refine tx_iconst (pc := 11) O dX1_isLike_11 ?_
    refine tx_goto (pc := 12) 16 O dX1_isLike_12 rfl ?_
    refine tx_istore_n (pc := 16) (lv' := [(2, _), (0, _), (1, _)]) O dX1_isLike_16 rfl (by decide) (by simp only [List.filter_cons, List.filter_nil, cat_r, cat_i, cat_l]; rfl) ?_
    refine tx_iconst (pc := 17) O dX1_isLike_17 ?_
    refine tx_istore_n (pc := 18) (lv' := [(3, _), (2, _), (0, _), (1, _)]) O dX1_isLike_18 rfl (by decide) rfl ?_
    first
      | exact K 0 M ⟨by omega, by omega, rfl⟩ 1 (Or.inl ⟨rfl, by omega, fun k q1 q2 => by omega⟩)
      | exact K 0 M ⟨by omega, by omega, rfl⟩ 0 (Or.inr ⟨rfl, fun q => c8 (by rw [q])⟩)
theorem sX1_bits (w : WT) (i : Int) (R M : TM) (l : List Int) (hR : RL R) (hi : isTn i) (hl : tuIs M i l) (h40 : l.length ≤ 40) : tx_S w yX1_bits cX1_bits 3 (some .int) 1 [rV (wa w) i] R M (QP R M (fun z => z = bitsP l)) := by
  refine tx_S.ofk (lv := [(0, _)]) [1] (by decide) (by simp only [List.map_cons, List.map_nil, cat_i, cat_l, cat_r]) (by decide) rfl (fun E O F => ?_)
  have K : ∀ (j : Int) (M' : TM), (0 ≤ j ∧ j ≤ l.length ∧ M' = M) → tx_X w E 4 [(2, iV j), (1, iV (itI (fun i b => zor b (zshl 1 (ga l i))) 0 j)), (0, rV (wa w) i)] [] R M' := by
    refine lp_up _ _ l.length ?_
    rintro j M' ⟨h1, h2, rfl⟩ ih
    have hst := itI_1 (fun i b => zor b (zshl 1 (ga l i))) 0 h1
    refine tx_iload_n (pc := 4) 0 O dX1_bits_4 rfl rfl ?_
    refine tx_aload_n (pc := 5) 2 O dX1_bits_5 rfl rfl ?_
    refine fX1_21 (pc := 6) O (hi) dX1_bits_6 ?_
    rw [hl.1]
    refine tx_icmp_ge (pc := 9) 29 O dX1_bits_9 rfl (by omega) (fun c9 => ?_) (fun c9 => ?_)
    · refine tx_iload_n (pc := 29) 1 O dX1_bits_29 rfl rfl ?_
      exact tx_iret O F dX1_bits_30 (tx_QP.mk (by unfold bitsP; rw [show (l.length : Int) = j by omega]))
    · refine tx_iload_n (pc := 12) 1 O dX1_bits_12 rfl rfl ?_
      refine tx_iconst (pc := 13) O dX1_bits_13 ?_
      refine tx_aload_n (pc := 14) 2 O dX1_bits_14 rfl rfl ?_
      refine fX1_9 (pc := 15) O (hi) hR dX1_bits_15 ?_
      refine tx_iload_n (pc := 18) 0 O dX1_bits_18 rfl rfl ?_
      refine tx_iald (pc := 19) _ O dX1_bits_19 (sh_tr w (hi)) (by omega) ?_
      rw [hl.2 j h1 c9]
      refine tx_ishl (pc := 20) O dX1_bits_20 ?_
      refine tx_ior (pc := 21) O dX1_bits_21 ?_
      refine tx_istore_n (pc := 22) (lv' := [(1, _), (2, _), (0, _)]) O dX1_bits_22 rfl (by decide) (by simp only [List.filter_cons, List.filter_nil, cat_r, cat_i, cat_l]; rfl) ?_
      refine tx_iinc (pc := 23) (lv' := [(2, _), (1, _), (0, _)]) 1 O dX1_bits_23 rfl (by decide) rfl ?_
      refine tx_goto (pc := 26) 4 O dX1_bits_26 rfl ?_
      have := ih (j + 1) M' ⟨by omega, by omega, rfl⟩ (by omega) (by omega)
      rw [hst] at this
      exact this
  refine tx_iconst (pc := 0) O dX1_bits_0 ?_
  refine tx_istore_n (pc := 1) (lv' := [(1, _), (0, _)]) O dX1_bits_1 rfl (by decide) (by simp only [List.filter_cons, List.filter_nil, cat_r, cat_i, cat_l]; rfl) ?_
  refine tx_iconst (pc := 2) O dX1_bits_2 ?_
  refine tx_istore_n (pc := 3) (lv' := [(2, _), (1, _), (0, _)]) O dX1_bits_3 rfl (by decide) rfl ?_
  exact K 0 M ⟨by omega, by omega, rfl⟩
theorem sX3_kind (w : WT) (b : Int) (R M : TM) : tx_S w yX3_kind cX3_kind 1 (some .int) 1 [rV (wa w) b] R M (QP R M (fun z => z = 0)) := by
  refine tx_S.ofk (lv := [(0, _)]) [1] (by decide) (by simp only [List.map_cons, List.map_nil, cat_i, cat_l, cat_r]) (by decide) rfl (fun E O F => ?_)
  refine tx_iconst (pc := 0) O dX3_kind_0 ?_
  exact tx_iret O F dX3_kind_1 (tx_QP.mk rfl)
theorem sX4_kind (w : WT) (b : Int) (R M : TM) : tx_S w yX4_kind cX4_kind 1 (some .int) 1 [rV (wa w) b] R M (QP R M (fun z => z = 1)) := by
  refine tx_S.ofk (lv := [(0, _)]) [1] (by decide) (by simp only [List.map_cons, List.map_nil, cat_i, cat_l, cat_r]) (by decide) rfl (fun E O F => ?_)
  refine tx_iconst (pc := 0) O dX4_kind_0 ?_
  exact tx_iret O F dX4_kind_1 (tx_QP.mk rfl)
theorem sX5_kind (w : WT) (b : Int) (R M : TM) : tx_S w yX5_kind cX5_kind 1 (some .int) 1 [rV (wa w) b] R M (QP R M (fun z => z = 2)) := by
  refine tx_S.ofk (lv := [(0, _)]) [1] (by decide) (by simp only [List.map_cons, List.map_nil, cat_i, cat_l, cat_r]) (by decide) rfl (fun E O F => ?_)
  refine tx_iconst (pc := 0) O dX5_kind_0 ?_
  exact tx_iret O F dX5_kind_1 (tx_QP.mk rfl)
theorem sX3_hums (w : WT) (b i : Int) (R M : TM) (l : List Int) (hR : RL R) (hb : isBr b) (hi : isTn i) (hl : tuIs M i l) (h40 : l.length ≤ 40) : tx_S w yX3_hums cX3_hums 2 none 2 [rV (wa w) b, rV (wa w) i] R M (QV R (fun M' => tuIs M' i (ad40 (ad40 l (M b 0)) (M b 1)) ∧ kp1 i M M')) := by
  refine tx_S.ofk (lv := [(0, _), (1, _)]) [1, 1] (by decide) (by simp only [List.map_cons, List.map_nil, cat_i, cat_l, cat_r]) (by decide) rfl (fun E O F => ?_)
  refine tx_aload_n (pc := 0) 1 O dX3_hums_0 rfl rfl ?_
  refine tx_aload_n (pc := 1) 0 O dX3_hums_1 rfl rfl ?_
  refine fX3_7 (pc := 2) O (hb) dX3_hums_2 ?_
  refine tx_cV1 (pc := 5) O dX3_hums_5 q285 vX1_adds (sh_t w (hi)) rfl (by decide) (Nat.zero_le _) (sX1_adds w _ _ _ _ _ hR hi hl (by omega)) (k_V (fun M5 h5 => ?_))
  obtain ⟨g1, g2⟩ := h5
  have hl := g1
  have h41 := ad40_le (v := M b 0) h40
  refine tx_aload_n (pc := 8) 1 O dX3_hums_8 rfl rfl ?_
  refine tx_aload_n (pc := 9) 0 O dX3_hums_9 rfl rfl ?_
  refine fX3_19 (pc := 10) O (hb) dX3_hums_10 ?_
  rw [g2 _ _ (by omega)]
  refine tx_cV1 (pc := 13) O dX3_hums_13 q285 vX1_adds (sh_t w (hi)) rfl (by decide) (Nat.zero_le _) (sX1_adds w _ _ _ _ _ hR hi hl (by omega)) (k_V (fun M13 h13 => ?_))
  exact tx_vret O F dX3_hums_16 (tx_QV.mk ⟨h13.1, g2.tr h13.2⟩)
theorem sX4_hums (w : WT) (b i : Int) (R M : TM) : tx_S w yX4_hums cX4_hums 2 none 1 [rV (wa w) b, rV (wa w) i] R M (QV R (fun M' => M' = M)) := by
  refine tx_S.ofk (lv := [(0, _), (1, _)]) [1, 1] (by decide) (by simp only [List.map_cons, List.map_nil, cat_i, cat_l, cat_r]) (by decide) rfl (fun E O F => ?_)
  exact tx_vret O F dX4_hums_0 (tx_QV.mk rfl)
theorem sX5_hums (w : WT) (b i : Int) (R M : TM) (l : List Int) (hR : RL R) (hb : 520 ≤ b ∧ b ≤ 525) (hi : isTn i) (hl : tuIs M i l) (h40 : l.length ≤ 40) : tx_S w yX5_hums cX5_hums 2 none 2 [rV (wa w) b, rV (wa w) i] R M (QV R (fun M' => tuIs M' i (ad40 l (M b 1)) ∧ kp1 i M M')) := by
  obtain ⟨ci, s1, s2, s3, s4, s5⟩ := sh_br w (i := b) (Or.inr (Or.inr hb))
  have e5 : ci = 5 := by omega
  subst e5
  refine tx_S.ofk (lv := [(0, _), (1, _)]) [1, 1] (by decide) (by simp only [List.map_cons, List.map_nil, cat_i, cat_l, cat_r]) (by decide) rfl (fun E O F => ?_)
  refine tx_aload_n (pc := 0) 0 O dX5_hums_0 rfl rfl ?_
  refine tx_aload_n (pc := 1) 1 O dX5_hums_1 rfl rfl ?_
  refine tx_callSU (pc := 2) (n := 1) (As := [_]) O dX5_hums_2 su_hums ⟨by decide, by decide +kernel⟩ (by decide) s1 rfl (by decide) rfl (Nat.zero_le _) (sX4_hums w _ _ _ _) (k_V (fun M2 h2 => ?_))
  subst h2
  refine tx_aload_n (pc := 5) 1 O dX5_hums_5 rfl rfl ?_
  refine tx_aload_n (pc := 6) 0 O dX5_hums_6 rfl rfl ?_
  refine fX5_11 (pc := 7) O (hb) dX5_hums_7 ?_
  refine tx_cV1 (pc := 10) O dX5_hums_10 q282 vX1_adds (sh_t w (hi)) rfl (by decide) (Nat.zero_le _) (sX1_adds w _ _ _ _ _ hR hi hl (by omega)) (k_V (fun M10 h10 => ?_))
  exact tx_vret O F dX5_hums_13 (tx_QV.mk h10)

