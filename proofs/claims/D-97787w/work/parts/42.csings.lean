/-! COMPONENT: a borrower sings -/
set_option maxRecDepth 100000
/-- a borrower's cell, as note, kind, other -/
def brq (M : TM) (b : Int) : Int × Int × Int := (M b 0, (b - 500) / 10, M b 1)
def hmadd (q : Int × Int × Int) (l : List Int) : List Int := if q.2.1 = 0 then ad40 (ad40 l q.1) q.2.2 else if q.2.1 = 1 then l else ad40 l q.2.2
theorem hmadd_take {q : Int × Int × Int} {c : List Int} {a : Int} (h : a = q.1) : hmadd q (c.take 40) = (c ++ humf q a).take 40 := by
  unfold hmadd humf
  rw [if_pos h]
  by_cases h0 : q.2.1 = 0
  · rw [if_pos h0, if_pos h0, ad40_take, ad40_take, h]; simp
  · rw [if_neg h0, if_neg h0]
    by_cases h1 : q.2.1 = 1
    · rw [if_pos h1, if_pos h1]; simp
    · rw [if_neg h1, if_neg h1, ad40_take]
theorem tx_hums {w : WT} {E : ET} {cc : ByteArray} {nL fr pc : Nat} {lv : List (Nat × Value)} {R M : TM} {b i : Int} {l : List Int} (O : tx_O w RX3 cc nL fr E) (hd : decode cc pc = .ok (.invokevirtual 29, 3)) (hfr : 3 ≤ fr) (hR : RL R) (hb : isBr b) (hi : isTn i) (hl : tuIs M i l) (h40 : l.length ≤ 40) (k : ∀ M' : TM, tuIs M' i (hmadd (brq M b) l) ∧ kp1 i M M' → tx_X w E (pc + 3) lv [] R M') : tx_X w E pc lv [rV (wa w) i, rV (wa w) b] R M := by
  obtain ⟨ci, s1, s2, s3, s4, s5⟩ := sh_br w hb
  rcases s2 with e | e | e <;> subst e
  · have e0 : (b - 500) / 10 = 0 := by have := s3 rfl; omega
    refine tx_callU (As := [_]) (n := 1) O hd u_hums_Borrower s1 rfl hfr rfl (Nat.zero_le _) (sX3_hums w _ _ _ _ l hR hb hi hl h40) (k_V (fun M' h => k M' ?_))
    unfold hmadd brq
    rw [if_pos e0]
    exact h
  · have e0 : (b - 500) / 10 = 1 := by have := s4 rfl; omega
    refine tx_callU (As := [_]) (n := 1) (fr' := 1) O hd u_hums_Dropping s1 rfl (by omega) rfl (Nat.zero_le _) (sX4_hums w _ _ _ _) (k_V (fun M' h => k M' ?_))
    subst h
    unfold hmadd brq
    rw [if_neg (by show ¬ (b - 500) / 10 = 0; omega), if_pos e0]
    exact ⟨hl, kp1.rf⟩
  · have e0 : (b - 500) / 10 = 2 := by have := s5 rfl; omega
    refine tx_callU (As := [_]) (n := 1) O hd u_hums_Changing s1 rfl hfr rfl (Nat.zero_le _) (sX5_hums w _ _ _ _ l hR (s5 rfl) hi hl h40) (k_V (fun M' h => k M' ?_))
    unfold hmadd brq
    rw [if_neg (by show ¬ (b - 500) / 10 = 0; omega), if_neg (by show ¬ (b - 500) / 10 = 1; omega)]
    exact h
theorem sX3_sings (w : WT) (b i o : Int) (R M : TM) (l : List Int) (hR : RL R) (hb : isBr b) (hi : isTn i) (ho : isTn o) (hio : i ≠ o) (hl : tuIs M i l) (oN : okN l) (oq : okq (brq M b)) : tx_S w yX3_sings cX3_sings 4 none 3 [rV (wa w) b, rV (wa w) i, rV (wa w) o] R M (QV R (fun M' => tuIs M' o (hum (brq M b) l) ∧ kp1 o M M')) := by
  have l40 := oN.1
  refine tx_S.ofk (lv := [(0, _), (1, _), (2, _)]) [1, 1, 1] (by decide) (by simp only [List.map_cons, List.map_nil, cat_i, cat_l, cat_r]) (by decide) rfl (fun E O F => ?_)
  have K : ∀ (j : Int) (M' : TM), (0 ≤ j ∧ j ≤ l.length ∧ tuIs M' o ((hmI (brq M b) l j).take 40) ∧ kp1 o M M') → tx_X w E 7 [(3, iV j), (0, rV (wa w) b), (1, rV (wa w) i), (2, rV (wa w) o)] [] R M' := by
    refine lp_up _ _ l.length ?_
    rintro j M' ⟨h1, h2, g1, g2⟩ ih
    have hl2 : tuIs M' i l := g2.tu ho hi hio hl
    have hst := hmI_1 (brq M b) l h1
    have hbq : brq M' b = brq M b := by unfold brq; rw [g2 _ _ (by omega), g2 _ _ (by omega)]
    refine tx_iload_n (pc := 7) 0 O dX3_sings_7 rfl rfl ?_
    refine tx_aload_n (pc := 8) 2 O dX3_sings_8 rfl rfl ?_
    refine fX3_22 (pc := 9) O (hi) dX3_sings_9 ?_
    rw [hl2.1]
    refine tx_icmp_ge (pc := 12) 52 O dX3_sings_12 rfl (by omega) (fun c12 => ?_) (fun c12 => ?_)
    · exact tx_vret O F dX3_sings_52 (tx_QV.mk ⟨by unfold hum; rw [show (l.length : Int) = j by omega]; exact g1, g2⟩)
    · refine tx_aload_n (pc := 15) 2 O dX3_sings_15 rfl rfl ?_
      refine fX3_25 (pc := 16) O (hi) hR dX3_sings_16 ?_
      refine tx_iload_n (pc := 19) 0 O dX3_sings_19 rfl rfl ?_
      refine tx_iald (pc := 20) _ O dX3_sings_20 (sh_tr w (hi)) (by omega) ?_
      rw [hl2.2 j h1 (by omega)]
      refine tx_aload_n (pc := 21) 1 O dX3_sings_21 rfl rfl ?_
      refine fX3_7 (pc := 22) O (hb) dX3_sings_22 ?_
      have e1 := oN.2 _ (ga_mem (l := l) h1 (by omega))
      have e2 : 0 ≤ M' b 0 ∧ M' b 0 ≤ 6 := by rw [g2 _ _ (by omega)]; exact ⟨oq.1, oq.2.1⟩
      refine tx_icmp_ne (pc := 25) 36 O dX3_sings_25 rfl (by omega) (fun c25 => ?_) (fun c25 => ?_)
      · have hne : ¬ ga l j = (brq M b).1 := by rw [← hbq]; exact c25
        refine tx_aload_n (pc := 36) 3 O dX3_sings_36 rfl rfl ?_
        refine tx_aload_n (pc := 37) 2 O dX3_sings_37 rfl rfl ?_
        refine fX3_25 (pc := 38) O (hi) hR dX3_sings_38 ?_
        refine tx_iload_n (pc := 41) 0 O dX3_sings_41 rfl rfl ?_
        refine tx_iald (pc := 42) _ O dX3_sings_42 (sh_tr w (hi)) (by omega) ?_
        rw [hl2.2 j h1 (by omega)]
        refine tx_cV1 (pc := 43) O dX3_sings_43 q285 vX1_adds (sh_t w (ho)) rfl (by decide) (Nat.zero_le _) (sX1_adds w _ _ _ _ _ hR ho g1 (by simp; omega)) (k_V (fun M43 h43 => ?_))
        rw [ad40_take] at h43
        have hf : humf (brq M b) (ga l j) = [ga l j] := by unfold humf; rw [if_neg hne]
        rw [← hf, ← hst] at h43
        refine tx_iinc (pc := 46) (lv' := [(3, _), (0, _), (1, _), (2, _)]) 0 O dX3_sings_46 rfl (by decide) (by simp only [List.filter_cons, List.filter_nil, cat_r, cat_i, cat_l]; rfl) ?_
        refine tx_goto (pc := 49) 7 O dX3_sings_49 rfl ?_
        first
          | exact ih _ _ ⟨by omega, by omega, h30.1, g2.tr h30.2⟩ (by omega) (by omega)
          | exact ih _ _ ⟨by omega, by omega, h43.1, g2.tr h43.2⟩ (by omega) (by omega)
      · have heq : ga l j = (brq M b).1 := by rw [← hbq]; exact c25
        refine tx_aload_n (pc := 28) 1 O dX3_sings_28 rfl rfl ?_
        refine tx_aload_n (pc := 29) 3 O dX3_sings_29 rfl rfl ?_
        refine tx_hums O dX3_sings_30 (by decide) hR hb ho g1 (by simp; omega) (fun M30 h30 => ?_)
        rw [hbq, hmadd_take heq, ← hst] at h30
        skip
        refine tx_goto (pc := 33) 46 O dX3_sings_33 rfl ?_
        refine tx_iinc (pc := 46) (lv' := [(3, _), (0, _), (1, _), (2, _)]) 0 O dX3_sings_46 rfl (by decide) (by simp only [List.filter_cons, List.filter_nil, cat_r, cat_i, cat_l]; rfl) ?_
        refine tx_goto (pc := 49) 7 O dX3_sings_49 rfl ?_
        first
          | exact ih _ _ ⟨by omega, by omega, h30.1, g2.tr h30.2⟩ (by omega) (by omega)
          | exact ih _ _ ⟨by omega, by omega, h43.1, g2.tr h43.2⟩ (by omega) (by omega)
  refine tx_aload_n (pc := 0) 2 O dX3_sings_0 rfl rfl ?_
  refine tx_iconst (pc := 1) O dX3_sings_1 ?_
  refine fX3_22p (pc := 2) O (ho) dX3_sings_2 ?_
  refine tx_iconst (pc := 5) O dX3_sings_5 ?_
  refine tx_istore_n (pc := 6) (lv' := [(3, _), (0, _), (1, _), (2, _)]) O dX3_sings_6 rfl (by decide) (by simp only [List.filter_cons, List.filter_nil, cat_r, cat_i, cat_l]; rfl) ?_
  refine K 0 _ ⟨by omega, by omega, ⟨by rw [up_s]; rfl, fun j q1 q2 => absurd q2 (by rw [hmI_0]; simp; omega)⟩, fun a c q => by rw [up_n (by omega)]⟩
theorem tx_sings {w : WT} {E : ET} {cc : ByteArray} {nL fr pc : Nat} {lv : List (Nat × Value)} {st : List Value} {R M : TM} {b i o : Int} {l : List Int} (O : tx_O w RX0 cc nL fr E) (hd : decode cc pc = .ok (.invokevirtual 165, 3)) (hfr : 4 ≤ fr) (hrm : (st.map fun v => v.category).sum ≤ 8) (hR : RL R) (hb : isBr b) (hi : isTn i) (ho : isTn o) (hio : i ≠ o) (hl : tuIs M i l) (oN : okN l) (oq : okq (brq M b)) (k : ∀ M' : TM, tuIs M' o (hum (brq M b) l) ∧ kp1 o M M' → tx_X w E (pc + 3) lv st R M') : tx_X w E pc lv (rV (wa w) o :: rV (wa w) i :: rV (wa w) b :: st) R M := by
  obtain ⟨ci, s1, s2, s3, s4, s5⟩ := sh_br w hb
  rcases s2 with e | e | e <;> subst e
  · exact tx_callU (As := [_, _]) (n := 2) O hd u_sings_Borrower s1 rfl hfr rfl hrm (sX3_sings w _ _ _ _ _ l hR hb hi ho hio hl oN oq) (k_V (fun M' h => k M' h))
  · exact tx_callU (As := [_, _]) (n := 2) O hd u_sings_Dropping s1 rfl hfr rfl hrm (sX3_sings w _ _ _ _ _ l hR hb hi ho hio hl oN oq) (k_V (fun M' h => k M' h))
  · exact tx_callU (As := [_, _]) (n := 2) O hd u_sings_Changing s1 rfl hfr rfl hrm (sX3_sings w _ _ _ _ _ l hR hb hi ho hio hl oN oq) (k_V (fun M' h => k M' h))
theorem tx_kind {w : WT} {E : ET} {cc : ByteArray} {nL fr pc : Nat} {lv : List (Nat × Value)} {st : List Value} {R M : TM} {b : Int} (O : tx_O w RX0 cc nL fr E) (hd : decode cc pc = .ok (.invokevirtual 93, 3)) (hfr : 2 ≤ fr) (hrm : (st.map fun v => v.category).sum ≤ 8) (hb : isBr b) (k : tx_X w E (pc + 3) lv (iV ((b - 500) / 10) :: st) R M) : tx_X w E pc lv (rV (wa w) b :: st) R M := by
  obtain ⟨ci, s1, s2, s3, s4, s5⟩ := sh_br w hb
  rcases s2 with e | e | e <;> subst e
  · rw [show (b - 500) / 10 = 0 by have := s3 rfl; omega] at k
    exact tx_callU (As := []) (n := 0) O hd u_kind_Borrower s1 rfl hfr rfl hrm (sX3_kind w _ _ _) (k_P (fun z h => by rw [h]; exact k))
  · rw [show (b - 500) / 10 = 1 by have := s4 rfl; omega] at k
    exact tx_callU (As := []) (n := 0) O hd u_kind_Dropping s1 rfl hfr rfl hrm (sX4_kind w _ _ _) (k_P (fun z h => by rw [h]; exact k))
  · rw [show (b - 500) / 10 = 2 by have := s5 rfl; omega] at k
    exact tx_callU (As := []) (n := 0) O hd u_kind_Changing s1 rfl hfr rfl hrm (sX5_kind w _ _ _) (k_P (fun z h => by rw [h]; exact k))

