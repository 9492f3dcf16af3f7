/-! SHEETS: laid, taken, rowOf (what it throws), size, item -/
set_option maxRecDepth 100000
theorem tx_TS.ofk {w : WT} {y : MethodName} {b : ByteArray} {L : Nat} {ret : Option FieldType} {fr mc ms : Nat} {as : List Value} {R M : TM} {nm : String} {lv : List (Nat × Value)} (cs : List Nat) (hy : plainName y.cls = true) (hc : (as.map fun v => v.category) = cs) (hlen : (cs.map fun c => if c = 2 then 2 else 1).sum ≤ L) (hlv : (slotsOf 0 cs).zip as = lv) (hfr : 170 ≤ fr) (h : ∀ E : ET, tx_O w y.cls b L fr E → tx_TZ w nm R M mc ms E → tx_Y w E 0 lv []) : tx_TS w y b L ret fr mc ms as R M nm := by
  subst hc
  exact tx_TS.of hy (by rw [tx_lsl]; exact hlen) (by rw [tx_slots]; exact hlv) hfr h
theorem tx_G.ofk {w : WT} {y : MethodName} {b : ByteArray} {L : Nat} {ret : Option FieldType} {fr mc ms : Nat} {as : List Value} {R M : TM} {Q : Option Value → WT → TM → TM → Prop} {lv : List (Nat × Value)} (cs : List Nat) (hy : plainName y.cls = true) (hc : (as.map fun v => v.category) = cs) (hlen : (cs.map fun c => if c = 2 then 2 else 1).sum ≤ L) (hlv : (slotsOf 0 cs).zip as = lv) (h : ∀ E : ET, tx_O w y.cls b L fr E → tx_GZ w ret mc ms Q [] E → eC E = 0 → eS E = 0 → tx_X w E 0 lv [] R M) : tx_G w y (ws_ y b L ret) fr mc ms as R M Q := by
  subst hc
  exact tx_G.of hy (by rw [tx_lsl]; exact hlen) (by rw [tx_slots]; exact hlv) h
theorem tx_G.ofWk {w : WT} {y : MethodName} {b : ByteArray} {L : Nat} {ret : Option FieldType} {hh : List (Nat × Nat × Nat × Nat)} {fr mc ms : Nat} {as : List Value} {R M : TM} {Q : Option Value → WT → TM → TM → Prop} {lv : List (Nat × Value)} (cs : List Nat) (hy : plainName y.cls = true) (hc : (as.map fun v => v.category) = cs) (hlen : (cs.map fun c => if c = 2 then 2 else 1).sum ≤ L) (hlv : (slotsOf 0 cs).zip as = lv) (h : ∀ E : ET, tx_O w y.cls b L fr E → tx_GZ w ret mc ms Q hh E → eC E = 0 → eS E = 0 → tx_X w E 0 lv [] R M) : tx_G w y (wsW_ y b L ret hh) fr mc ms as R M Q := by
  subst hc
  exact tx_G.ofW hy (by rw [tx_lsl]; exact hlen) (by rw [tx_slots]; exact hlv) h
theorem kF_2 {form : Int} (h : form ≠ 0 ∧ form ≠ 1) : kF form = 1 := by unfold kF; rw [if_neg h.1, if_neg h.2]
theorem zcut_2 {form v : Int} (h : form ≠ 0 ∧ form ≠ 1) : zcut form v = v := by unfold zcut; rw [if_neg h.1, if_neg h.2]
theorem lk_off {form : Int} {a b c : Int} (h : form ≠ 0 ∧ form ≠ 1) : Op.lookupswitch.offset [(0, a), (1, b)] c form = c := by simp [Op.lookupswitch.offset]; omega
theorem sX0_laid (w : WT) (i form j v : Int) (n : Nat) (R M : TM) (hs : tx_sh w i = (kF form, n)) (hf : rng form) (hj : 0 ≤ j ∧ j < n) : tx_S w yX0_laid cX0_laid 4 none 1 [rV (wa w) i, iV form, iV j, iV v] R M (QV R (fun M' => M' = up M i j (zcut form v))) := by
  refine tx_S.ofk (lv := [(0, _), (1, _), (2, _), (3, _)]) [1, 1, 1, 1] (by decide) (by simp only [List.map_cons, List.map_nil, cat_i, cat_l, cat_r]) (by decide) rfl (fun E O F => ?_)
  refine tx_iload_n (pc := 0) 1 O dX0_laid_0 rfl rfl ?_
  rcases (show form = 0 ∨ form = 1 ∨ (form ≠ 0 ∧ form ≠ 1) by omega) with e1 | e1 | e1
  · subst e1
    refine tx_lookup (pc := 1) 28 O dX0_laid_1 (by decide) (by omega) rfl rfl ?_
    have hs0 : tx_sh w i = (3, n) := hs
    refine tx_aload_n (pc := 28) 0 O dX0_laid_28 rfl rfl ?_
    refine tx_castA (pc := 29) 3 n O dX0_laid_29 hs0 (by decide) (by decide) q221 ?_
    refine tx_iload_n (pc := 32) 2 O dX0_laid_32 rfl rfl ?_
    refine tx_iload_n (pc := 33) 3 O dX0_laid_33 rfl rfl ?_
    refine tx_i2b (pc := 34) O dX0_laid_34 ?_
    refine tx_bast (pc := 35) n O dX0_laid_35 hs0 hj (zi2b_rng _) ?_
    refine tx_goto (pc := 36) 57 O dX0_laid_36 rfl ?_
    exact tx_vret O F dX0_laid_57 (tx_QV.mk (by first | rfl | rw [zcut_2 e1]))
  · subst e1
    refine tx_lookup (pc := 1) 39 O dX0_laid_1 (by decide) (by omega) rfl rfl ?_
    have hs0 : tx_sh w i = (4, n) := hs
    refine tx_aload_n (pc := 39) 0 O dX0_laid_39 rfl rfl ?_
    refine tx_castA (pc := 40) 4 n O dX0_laid_40 hs0 (by decide) (by decide) q222 ?_
    refine tx_iload_n (pc := 43) 2 O dX0_laid_43 rfl rfl ?_
    refine tx_iload_n (pc := 44) 3 O dX0_laid_44 rfl rfl ?_
    refine tx_i2s (pc := 45) O dX0_laid_45 ?_
    refine tx_sast (pc := 46) n O dX0_laid_46 hs0 hj (zi2s_rng _) ?_
    refine tx_goto (pc := 47) 57 O dX0_laid_47 rfl ?_
    exact tx_vret O F dX0_laid_57 (tx_QV.mk (by first | rfl | rw [zcut_2 e1]))
  · refine tx_lookup (pc := 1) 50 O dX0_laid_1 (by decide) (by omega) (lk_off e1) rfl ?_
    have hs0 : tx_sh w i = (1, n) := by rw [hs, kF_2 e1]
    refine tx_aload_n (pc := 50) 0 O dX0_laid_50 rfl rfl ?_
    refine tx_castA (pc := 51) 1 n O dX0_laid_51 hs0 (by decide) (by decide) q223 ?_
    refine tx_iload_n (pc := 54) 2 O dX0_laid_54 rfl rfl ?_
    refine tx_iload_n (pc := 55) 3 O dX0_laid_55 rfl rfl ?_
    refine tx_iast (pc := 56) _ O dX0_laid_56 (hs0) (by exact hj) ?_
    exact tx_vret O F dX0_laid_57 (tx_QV.mk (by first | rfl | rw [zcut_2 e1]))
theorem sX0_taken (w : WT) (i form j : Int) (n : Nat) (R M : TM) (hs : tx_sh w i = (kF form, n)) (hf : rng form) (hj : 0 ≤ j ∧ j < n) : tx_S w yX0_taken cX0_taken 3 (some .int) 1 [rV (wa w) i, iV form, iV j] R M (QP R M (fun z => z = M i j)) := by
  refine tx_S.ofk (lv := [(0, _), (1, _), (2, _)]) [1, 1, 1] (by decide) (by simp only [List.map_cons, List.map_nil, cat_i, cat_l, cat_r]) (by decide) rfl (fun E O F => ?_)
  refine tx_iload_n (pc := 0) 1 O dX0_taken_0 rfl rfl ?_
  rcases (show form = 0 ∨ form = 1 ∨ (form ≠ 0 ∧ form ≠ 1) by omega) with e1 | e1 | e1
  · subst e1
    refine tx_lookup (pc := 1) 28 O dX0_taken_1 (by decide) (by omega) rfl rfl ?_
    have hs0 : tx_sh w i = (3, n) := hs
    refine tx_aload_n (pc := 28) 0 O dX0_taken_28 rfl rfl ?_
    refine tx_castA (pc := 29) 3 n O dX0_taken_29 hs0 (by decide) (by decide) q221 ?_
    refine tx_iload_n (pc := 32) 2 O dX0_taken_32 rfl rfl ?_
    refine tx_bald (pc := 33) _ O dX0_taken_33 (hs0) (by exact hj) ?_
    exact tx_iret O F dX0_taken_34 (tx_QP.mk rfl)
  · subst e1
    refine tx_lookup (pc := 1) 35 O dX0_taken_1 (by decide) (by omega) rfl rfl ?_
    have hs0 : tx_sh w i = (4, n) := hs
    refine tx_aload_n (pc := 35) 0 O dX0_taken_35 rfl rfl ?_
    refine tx_castA (pc := 36) 4 n O dX0_taken_36 hs0 (by decide) (by decide) q222 ?_
    refine tx_iload_n (pc := 39) 2 O dX0_taken_39 rfl rfl ?_
    refine tx_sald (pc := 40) _ O dX0_taken_40 (hs0) (by exact hj) ?_
    exact tx_iret O F dX0_taken_41 (tx_QP.mk rfl)
  · refine tx_lookup (pc := 1) 42 O dX0_taken_1 (by decide) (by omega) (lk_off e1) rfl ?_
    have hs0 : tx_sh w i = (1, n) := by rw [hs, kF_2 e1]
    refine tx_aload_n (pc := 42) 0 O dX0_taken_42 rfl rfl ?_
    refine tx_castA (pc := 43) 1 n O dX0_taken_43 hs0 (by decide) (by decide) q223 ?_
    refine tx_iload_n (pc := 46) 2 O dX0_taken_46 rfl rfl ?_
    refine tx_iald (pc := 47) _ O dX0_taken_47 (hs0) (by exact hj) ?_
    exact tx_iret O F dX0_taken_48 (tx_QP.mk rfl)
theorem tX0_laid_npe (w : WT) (form j v : Int) (R M : TM) (hf : rng form) : tx_TS w yX0_laid cX0_laid 4 none 170 3 610 [rV (wa w) 0, iV form, iV j, iV v] R M "java/lang/NullPointerException" := by
  refine tx_TS.ofk (lv := [(0, _), (1, _), (2, _), (3, _)]) [1, 1, 1, 1] (by decide) (by simp only [List.map_cons, List.map_nil, cat_i, cat_l, cat_r]) (by decide) rfl (by decide) (fun E O F => ?_)
  refine ty_iload_n (pc := 0) 1 O dX0_laid_0 rfl rfl ?_
  rcases (show form = 0 ∨ form = 1 ∨ (form ≠ 0 ∧ form ≠ 1) by omega) with e1 | e1 | e1
  · subst e1
    refine ty_lookup (pc := 1) 28 O dX0_laid_1 (by decide) (by omega) rfl rfl ?_
    refine ty_aload_n (pc := 28) 0 O dX0_laid_28 rfl rfl ?_
    refine ty_castN (pc := 29) O dX0_laid_29 ?_
    refine ty_iload_n (pc := 32) 2 O dX0_laid_32 rfl rfl ?_
    refine ty_iload_n (pc := 33) 3 O dX0_laid_33 rfl rfl ?_
    refine ty_i2b (pc := 34) O dX0_laid_34 (fun b => ?_)
    exact ty_bastoreN (pc := 35) O F (by decide) (by decide) dX0_laid_35 (Nat.zero_le _)
  · subst e1
    refine ty_lookup (pc := 1) 39 O dX0_laid_1 (by decide) (by omega) rfl rfl ?_
    refine ty_aload_n (pc := 39) 0 O dX0_laid_39 rfl rfl ?_
    refine ty_castN (pc := 40) O dX0_laid_40 ?_
    refine ty_iload_n (pc := 43) 2 O dX0_laid_43 rfl rfl ?_
    refine ty_iload_n (pc := 44) 3 O dX0_laid_44 rfl rfl ?_
    refine ty_i2s (pc := 45) O dX0_laid_45 (fun b => ?_)
    exact ty_sastoreN (pc := 46) O F (by decide) (by decide) dX0_laid_46 (Nat.zero_le _)
  · refine ty_lookup (pc := 1) 50 O dX0_laid_1 (by decide) (by omega) (lk_off e1) rfl ?_
    refine ty_aload_n (pc := 50) 0 O dX0_laid_50 rfl rfl ?_
    refine ty_castN (pc := 51) O dX0_laid_51 ?_
    refine ty_iload_n (pc := 54) 2 O dX0_laid_54 rfl rfl ?_
    refine ty_iload_n (pc := 55) 3 O dX0_laid_55 rfl rfl ?_
    exact ty_iastoreN (pc := 56) O F (by decide) (by decide) dX0_laid_56 (Nat.zero_le _)
theorem tX0_laid_cce (w : WT) (i form j v : Int) (R M : TM) (hf : rng form) (kd n : Nat) (hs : tx_sh w i = (kd, n)) (hk : (kd = 1 ∨ kd = 3 ∨ kd = 4) ∧ kd ≠ kF form) : tx_TS w yX0_laid cX0_laid 4 none 170 3 610 [rV (wa w) i, iV form, iV j, iV v] R M "java/lang/ClassCastException" := by
  refine tx_TS.ofk (lv := [(0, _), (1, _), (2, _), (3, _)]) [1, 1, 1, 1] (by decide) (by simp only [List.map_cons, List.map_nil, cat_i, cat_l, cat_r]) (by decide) rfl (by decide) (fun E O F => ?_)
  refine ty_iload_n (pc := 0) 1 O dX0_laid_0 rfl rfl ?_
  rcases (show form = 0 ∨ form = 1 ∨ (form ≠ 0 ∧ form ≠ 1) by omega) with e1 | e1 | e1
  · subst e1
    refine ty_lookup (pc := 1) 28 O dX0_laid_1 (by decide) (by omega) rfl rfl ?_
    refine ty_aload_n (pc := 28) 0 O dX0_laid_28 rfl rfl ?_
    exact ty_cce (pc := 29) kd 3 n O F (by decide) (by decide) dX0_laid_29 hs ⟨hk.1, by decide, hk.2⟩ q221 (by simp only [List.map_cons, List.map_nil, cat_i, cat_l, cat_r, List.sum_cons, List.sum_nil]; decide)
  · subst e1
    refine ty_lookup (pc := 1) 39 O dX0_laid_1 (by decide) (by omega) rfl rfl ?_
    refine ty_aload_n (pc := 39) 0 O dX0_laid_39 rfl rfl ?_
    exact ty_cce (pc := 40) kd 4 n O F (by decide) (by decide) dX0_laid_40 hs ⟨hk.1, by decide, hk.2⟩ q222 (by simp only [List.map_cons, List.map_nil, cat_i, cat_l, cat_r, List.sum_cons, List.sum_nil]; decide)
  · refine ty_lookup (pc := 1) 50 O dX0_laid_1 (by decide) (by omega) (lk_off e1) rfl ?_
    refine ty_aload_n (pc := 50) 0 O dX0_laid_50 rfl rfl ?_
    exact ty_cce (pc := 51) kd 1 n O F (by decide) (by decide) dX0_laid_51 hs ⟨hk.1, by decide, (by have h := hk.2; rw [kF_2 e1] at h; exact h)⟩ q223 (by simp only [List.map_cons, List.map_nil, cat_i, cat_l, cat_r, List.sum_cons, List.sum_nil]; decide)
theorem tX0_laid_aio (w : WT) (i form j v : Int) (R M : TM) (hf : rng form) (n : Nat) (hs : tx_sh w i = (kF form, n)) (hr : rng j) (hj : ¬ (0 ≤ j ∧ j < n)) : tx_TS w yX0_laid cX0_laid 4 none 170 3 610 [rV (wa w) i, iV form, iV j, iV v] R M "java/lang/ArrayIndexOutOfBoundsException" := by
  refine tx_TS.ofk (lv := [(0, _), (1, _), (2, _), (3, _)]) [1, 1, 1, 1] (by decide) (by simp only [List.map_cons, List.map_nil, cat_i, cat_l, cat_r]) (by decide) rfl (by decide) (fun E O F => ?_)
  refine ty_iload_n (pc := 0) 1 O dX0_laid_0 rfl rfl ?_
  rcases (show form = 0 ∨ form = 1 ∨ (form ≠ 0 ∧ form ≠ 1) by omega) with e1 | e1 | e1
  · subst e1
    refine ty_lookup (pc := 1) 28 O dX0_laid_1 (by decide) (by omega) rfl rfl ?_
    refine ty_aload_n (pc := 28) 0 O dX0_laid_28 rfl rfl ?_
    have hs0 : tx_sh w i = (3, n) := hs
    refine ty_castA (pc := 29) (R := R) (M := M) 3 n O (fun s h => by obtain ⟨p, e, Rm, s0, m, args, below, meth, c, cells, slots, Z⟩ := E; cases h; exact F.2.1) dX0_laid_29 hs0 (by decide) (by decide) q221 ?_
    refine ty_iload_n (pc := 32) 2 O dX0_laid_32 rfl rfl ?_
    refine ty_iload_n (pc := 33) 3 O dX0_laid_33 rfl rfl ?_
    refine ty_i2b (pc := 34) O dX0_laid_34 (fun b => ?_)
    exact ty_bastoreO (pc := 35) n O F (by decide) (by decide) dX0_laid_35 hs0 hr hj (Nat.zero_le _)
  · subst e1
    refine ty_lookup (pc := 1) 39 O dX0_laid_1 (by decide) (by omega) rfl rfl ?_
    refine ty_aload_n (pc := 39) 0 O dX0_laid_39 rfl rfl ?_
    have hs0 : tx_sh w i = (4, n) := hs
    refine ty_castA (pc := 40) (R := R) (M := M) 4 n O (fun s h => by obtain ⟨p, e, Rm, s0, m, args, below, meth, c, cells, slots, Z⟩ := E; cases h; exact F.2.1) dX0_laid_40 hs0 (by decide) (by decide) q222 ?_
    refine ty_iload_n (pc := 43) 2 O dX0_laid_43 rfl rfl ?_
    refine ty_iload_n (pc := 44) 3 O dX0_laid_44 rfl rfl ?_
    refine ty_i2s (pc := 45) O dX0_laid_45 (fun b => ?_)
    exact ty_sastoreO (pc := 46) n O F (by decide) (by decide) dX0_laid_46 hs0 hr hj (Nat.zero_le _)
  · refine ty_lookup (pc := 1) 50 O dX0_laid_1 (by decide) (by omega) (lk_off e1) rfl ?_
    refine ty_aload_n (pc := 50) 0 O dX0_laid_50 rfl rfl ?_
    have hs0 : tx_sh w i = (1, n) := by rw [hs, kF_2 e1]
    refine ty_castA (pc := 51) (R := R) (M := M) 1 n O (fun s h => by obtain ⟨p, e, Rm, s0, m, args, below, meth, c, cells, slots, Z⟩ := E; cases h; exact F.2.1) dX0_laid_51 hs0 (by decide) (by decide) q223 ?_
    refine ty_iload_n (pc := 54) 2 O dX0_laid_54 rfl rfl ?_
    refine ty_iload_n (pc := 55) 3 O dX0_laid_55 rfl rfl ?_
    exact ty_iastoreO (pc := 56) n O F (by decide) (by decide) dX0_laid_56 hs0 hr hj (Nat.zero_le _)
theorem tX0_taken_npe (w : WT) (form j : Int) (R M : TM) (hf : rng form) : tx_TS w yX0_taken cX0_taken 3 (some .int) 170 3 610 [rV (wa w) 0, iV form, iV j] R M "java/lang/NullPointerException" := by
  refine tx_TS.ofk (lv := [(0, _), (1, _), (2, _)]) [1, 1, 1] (by decide) (by simp only [List.map_cons, List.map_nil, cat_i, cat_l, cat_r]) (by decide) rfl (by decide) (fun E O F => ?_)
  refine ty_iload_n (pc := 0) 1 O dX0_taken_0 rfl rfl ?_
  rcases (show form = 0 ∨ form = 1 ∨ (form ≠ 0 ∧ form ≠ 1) by omega) with e1 | e1 | e1
  · subst e1
    refine ty_lookup (pc := 1) 28 O dX0_taken_1 (by decide) (by omega) rfl rfl ?_
    refine ty_aload_n (pc := 28) 0 O dX0_taken_28 rfl rfl ?_
    refine ty_castN (pc := 29) O dX0_taken_29 ?_
    refine ty_iload_n (pc := 32) 2 O dX0_taken_32 rfl rfl ?_
    exact ty_baloadN (pc := 33) O F (by decide) (by decide) dX0_taken_33 (Nat.zero_le _)
  · subst e1
    refine ty_lookup (pc := 1) 35 O dX0_taken_1 (by decide) (by omega) rfl rfl ?_
    refine ty_aload_n (pc := 35) 0 O dX0_taken_35 rfl rfl ?_
    refine ty_castN (pc := 36) O dX0_taken_36 ?_
    refine ty_iload_n (pc := 39) 2 O dX0_taken_39 rfl rfl ?_
    exact ty_saloadN (pc := 40) O F (by decide) (by decide) dX0_taken_40 (Nat.zero_le _)
  · refine ty_lookup (pc := 1) 42 O dX0_taken_1 (by decide) (by omega) (lk_off e1) rfl ?_
    refine ty_aload_n (pc := 42) 0 O dX0_taken_42 rfl rfl ?_
    refine ty_castN (pc := 43) O dX0_taken_43 ?_
    refine ty_iload_n (pc := 46) 2 O dX0_taken_46 rfl rfl ?_
    exact ty_ialoadN (pc := 47) O F (by decide) (by decide) dX0_taken_47 (Nat.zero_le _)
theorem tX0_taken_cce (w : WT) (i form j : Int) (R M : TM) (hf : rng form) (kd n : Nat) (hs : tx_sh w i = (kd, n)) (hk : (kd = 1 ∨ kd = 3 ∨ kd = 4) ∧ kd ≠ kF form) : tx_TS w yX0_taken cX0_taken 3 (some .int) 170 3 610 [rV (wa w) i, iV form, iV j] R M "java/lang/ClassCastException" := by
  refine tx_TS.ofk (lv := [(0, _), (1, _), (2, _)]) [1, 1, 1] (by decide) (by simp only [List.map_cons, List.map_nil, cat_i, cat_l, cat_r]) (by decide) rfl (by decide) (fun E O F => ?_)
  refine ty_iload_n (pc := 0) 1 O dX0_taken_0 rfl rfl ?_
  rcases (show form = 0 ∨ form = 1 ∨ (form ≠ 0 ∧ form ≠ 1) by omega) with e1 | e1 | e1
  · subst e1
    refine ty_lookup (pc := 1) 28 O dX0_taken_1 (by decide) (by omega) rfl rfl ?_
    refine ty_aload_n (pc := 28) 0 O dX0_taken_28 rfl rfl ?_
    exact ty_cce (pc := 29) kd 3 n O F (by decide) (by decide) dX0_taken_29 hs ⟨hk.1, by decide, hk.2⟩ q221 (by simp only [List.map_cons, List.map_nil, cat_i, cat_l, cat_r, List.sum_cons, List.sum_nil]; decide)
  · subst e1
    refine ty_lookup (pc := 1) 35 O dX0_taken_1 (by decide) (by omega) rfl rfl ?_
    refine ty_aload_n (pc := 35) 0 O dX0_taken_35 rfl rfl ?_
    exact ty_cce (pc := 36) kd 4 n O F (by decide) (by decide) dX0_taken_36 hs ⟨hk.1, by decide, hk.2⟩ q222 (by simp only [List.map_cons, List.map_nil, cat_i, cat_l, cat_r, List.sum_cons, List.sum_nil]; decide)
  · refine ty_lookup (pc := 1) 42 O dX0_taken_1 (by decide) (by omega) (lk_off e1) rfl ?_
    refine ty_aload_n (pc := 42) 0 O dX0_taken_42 rfl rfl ?_
    exact ty_cce (pc := 43) kd 1 n O F (by decide) (by decide) dX0_taken_43 hs ⟨hk.1, by decide, (by have h := hk.2; rw [kF_2 e1] at h; exact h)⟩ q223 (by simp only [List.map_cons, List.map_nil, cat_i, cat_l, cat_r, List.sum_cons, List.sum_nil]; decide)
theorem tX0_taken_aio (w : WT) (i form j : Int) (R M : TM) (hf : rng form) (n : Nat) (hs : tx_sh w i = (kF form, n)) (hr : rng j) (hj : ¬ (0 ≤ j ∧ j < n)) : tx_TS w yX0_taken cX0_taken 3 (some .int) 170 3 610 [rV (wa w) i, iV form, iV j] R M "java/lang/ArrayIndexOutOfBoundsException" := by
  refine tx_TS.ofk (lv := [(0, _), (1, _), (2, _)]) [1, 1, 1] (by decide) (by simp only [List.map_cons, List.map_nil, cat_i, cat_l, cat_r]) (by decide) rfl (by decide) (fun E O F => ?_)
  refine ty_iload_n (pc := 0) 1 O dX0_taken_0 rfl rfl ?_
  rcases (show form = 0 ∨ form = 1 ∨ (form ≠ 0 ∧ form ≠ 1) by omega) with e1 | e1 | e1
  · subst e1
    refine ty_lookup (pc := 1) 28 O dX0_taken_1 (by decide) (by omega) rfl rfl ?_
    refine ty_aload_n (pc := 28) 0 O dX0_taken_28 rfl rfl ?_
    have hs0 : tx_sh w i = (3, n) := hs
    refine ty_castA (pc := 29) (R := R) (M := M) 3 n O (fun s h => by obtain ⟨p, e, Rm, s0, m, args, below, meth, c, cells, slots, Z⟩ := E; cases h; exact F.2.1) dX0_taken_29 hs0 (by decide) (by decide) q221 ?_
    refine ty_iload_n (pc := 32) 2 O dX0_taken_32 rfl rfl ?_
    exact ty_baloadO (pc := 33) n O F (by decide) (by decide) dX0_taken_33 hs0 hr hj (Nat.zero_le _)
  · subst e1
    refine ty_lookup (pc := 1) 35 O dX0_taken_1 (by decide) (by omega) rfl rfl ?_
    refine ty_aload_n (pc := 35) 0 O dX0_taken_35 rfl rfl ?_
    have hs0 : tx_sh w i = (4, n) := hs
    refine ty_castA (pc := 36) (R := R) (M := M) 4 n O (fun s h => by obtain ⟨p, e, Rm, s0, m, args, below, meth, c, cells, slots, Z⟩ := E; cases h; exact F.2.1) dX0_taken_36 hs0 (by decide) (by decide) q222 ?_
    refine ty_iload_n (pc := 39) 2 O dX0_taken_39 rfl rfl ?_
    exact ty_saloadO (pc := 40) n O F (by decide) (by decide) dX0_taken_40 hs0 hr hj (Nat.zero_le _)
  · refine ty_lookup (pc := 1) 42 O dX0_taken_1 (by decide) (by omega) (lk_off e1) rfl ?_
    refine ty_aload_n (pc := 42) 0 O dX0_taken_42 rfl rfl ?_
    have hs0 : tx_sh w i = (1, n) := by rw [hs, kF_2 e1]
    refine ty_castA (pc := 43) (R := R) (M := M) 1 n O (fun s h => by obtain ⟨p, e, Rm, s0, m, args, below, meth, c, cells, slots, Z⟩ := E; cases h; exact F.2.1) dX0_taken_43 hs0 (by decide) (by decide) q223 ?_
    refine ty_iload_n (pc := 46) 2 O dX0_taken_46 rfl rfl ?_
    exact ty_ialoadO (pc := 47) n O F (by decide) (by decide) dX0_taken_47 hs0 hr hj (Nat.zero_le _)
theorem tX0_rowOf (w : WT) (form n : Int) (R M : TM) (hf : rng form) (hn : rng n) (hneg : n < 0) : tx_TS w yX0_rowOf cX0_rowOf 2 (some (.object "java/lang/Object")) 170 3 610 [iV form, iV n] R M "java/lang/NegativeArraySizeException" := by
  refine tx_TS.ofk (lv := [(0, _), (1, _)]) [1, 1] (by decide) (by simp only [List.map_cons, List.map_nil, cat_i, cat_l, cat_r]) (by decide) rfl (by decide) (fun E O F => ?_)
  refine ty_iload_n (pc := 0) 0 O dX0_rowOf_0 rfl rfl ?_
  rcases (show form = 0 ∨ form = 1 ∨ (form ≠ 0 ∧ form ≠ 1) by omega) with e1 | e1 | e1
  · subst e1
    refine ty_lookup (pc := 1) 28 O dX0_rowOf_1 (by decide) (by omega) rfl rfl ?_
    refine ty_iload_n (pc := 28) 1 O dX0_rowOf_28 rfl rfl ?_
    exact ty_neg (pc := 29) O F (by decide) (by decide) dX0_rowOf_29 hn hneg (Nat.zero_le _)
  · subst e1
    refine ty_lookup (pc := 1) 32 O dX0_rowOf_1 (by decide) (by omega) rfl rfl ?_
    refine ty_iload_n (pc := 32) 1 O dX0_rowOf_32 rfl rfl ?_
    exact ty_neg (pc := 33) O F (by decide) (by decide) dX0_rowOf_33 hn hneg (Nat.zero_le _)
  · refine ty_lookup (pc := 1) 36 O dX0_rowOf_1 (by decide) (by omega) (lk_off e1) rfl ?_
    refine ty_iload_n (pc := 36) 1 O dX0_rowOf_36 rfl rfl ?_
    exact ty_neg (pc := 37) O F (by decide) (by decide) dX0_rowOf_37 hn hneg (Nat.zero_le _)
theorem sX2_size (w : WT) (s : Int) (n : Nat) (R M : TM) (h : 600 ≤ s ∧ s ≤ 603) (hf : rng (M s 0)) (hs : tx_sh w (R s 1) = (kF (M s 0), n)) : tx_S w yX2_size cX2_size 1 (some .int) 1 [rV (wa w) s] R M (QP R M (fun z => z = n)) := by
  refine tx_S.ofk (lv := [(0, _)]) [1] (by decide) (by simp only [List.map_cons, List.map_nil, cat_i, cat_l, cat_r]) (by decide) rfl (fun E O F => ?_)
  refine tx_aload_n (pc := 0) 0 O dX2_size_0 rfl rfl ?_
  refine fX2_7 (pc := 1) O (by omega) dX2_size_1 ?_
  refine tx_if_ne (pc := 4) 18 O dX2_size_4 rfl (by omega) (fun c4 => ?_) (fun c4 => ?_)
  · refine tx_aload_n (pc := 18) 0 O dX2_size_18 rfl rfl ?_
    refine fX2_7 (pc := 19) O (by omega) dX2_size_19 ?_
    refine tx_iconst (pc := 22) O dX2_size_22 ?_
    refine tx_icmp_ne (pc := 23) 37 O dX2_size_23 rfl (by omega) (fun c23 => ?_) (fun c23 => ?_)
    · have hs0 : tx_sh w (R s 1) = (1, n) := by rw [hs, kF_2 (by omega)]
      refine tx_aload_n (pc := 37) 0 O dX2_size_37 rfl rfl ?_
      refine fX2_13 (pc := 38) O (by omega) dX2_size_38 ?_
      refine tx_castA (pc := 41) 1 n O dX2_size_41 hs0 (by decide) (by decide) q213 ?_
      refine tx_alen (pc := 44) _ _ O dX2_size_44 (hs0) (by decide) ?_
      exact tx_iret O F dX2_size_45 (tx_QP.mk rfl)
    · have hs0 : tx_sh w (R s 1) = (4, n) := by rw [hs]; unfold kF; rw [if_neg (by omega), if_pos (by omega)]
      refine tx_aload_n (pc := 26) 0 O dX2_size_26 rfl rfl ?_
      refine fX2_13 (pc := 27) O (by omega) dX2_size_27 ?_
      refine tx_castA (pc := 30) 4 n O dX2_size_30 hs0 (by decide) (by decide) q212 ?_
      refine tx_alen (pc := 33) _ _ O dX2_size_33 (hs0) (by decide) ?_
      refine tx_goto (pc := 34) 45 O dX2_size_34 rfl ?_
      exact tx_iret O F dX2_size_45 (tx_QP.mk rfl)
  · have hs0 : tx_sh w (R s 1) = (3, n) := by rw [hs]; unfold kF; rw [if_pos (by omega)]
    refine tx_aload_n (pc := 7) 0 O dX2_size_7 rfl rfl ?_
    refine fX2_13 (pc := 8) O (by omega) dX2_size_8 ?_
    refine tx_castA (pc := 11) 3 n O dX2_size_11 hs0 (by decide) (by decide) q211 ?_
    refine tx_alen (pc := 14) _ _ O dX2_size_14 (hs0) (by decide) ?_
    refine tx_goto (pc := 15) 45 O dX2_size_15 rfl ?_
    exact tx_iret O F dX2_size_45 (tx_QP.mk rfl)

