/-! CONSTRUCTION: the small constructors; TuneLoansModel -/
set_option maxRecDepth 100000
def upL (R : TM) (l : List (Int × Int × Int)) : TM := l.foldl (fun R q => up R q.1 q.2.1 q.2.2) R
theorem sX1_init (w : WT) (t : Int) (n : Nat) (R M : TM) (ht : isTn t) (h1 : ord t < n) (h2 : ord (t + 1000) = n ∧ n + 1 ≤ 109) : tp_C w yX1_init cX1_init 1 2 1 40 [rV (wa w) t] n R M (n + 1) (up R t 0 (t + 1000)) M := by
  have ht0 : t ≠ 0 := by unfold isTn at ht; omega
  refine tp_C.ofk (lv := [(0, _)]) [1] (by decide) rfl (by simp only [List.map_cons, List.map_nil, cat_i, cat_l, cat_r]) (by decide) rfl (fun E O F e0 e1 => ?_)
  obtain ⟨r1, r2⟩ := F.room
  refine tp_aload_n (pc := 0) 0 O dX1_init_0 rfl rfl ?_
  refine tp_objInit (pc := 1) O dX1_init_1 q485 ht0 (by decide) ?_
  refine tp_aload_n (pc := 4) 0 O dX1_init_4 rfl rfl ?_
  refine tp_bipush (pc := 5) O dX1_init_5 (by omega) ?_
  refine tp_newp (pc := 7) 1 40 (t + 1000) O dX1_init_7 ⟨Or.inl rfl, rfl⟩ q497 ⟨rfl, by decide⟩ (sh_tr w ht) ⟨h2.1, by unfold isTn at ht; omega, h2.2⟩ ⟨by omega, by omega⟩ ?_
  have O := O.at F (a := eC E + 1) (b := eS E + 40) (by omega) (by omega)
  have F := F.at (a := eC E + 1) (b := eS E + 40) (by omega) (by omega)
  refine tp_putr (pc := 9) (ci := 1) (C := RX1) (T := TX1) (N := 2) 0 O dX1_init_9 (sh_t w ht) ⟨by omega, ht0⟩ rfl (by decide) q486 (fun _ => rfl) rfl (by rintro v (rfl | ⟨a, rfl⟩) <;> exact ⟨rfl, rfl⟩) ?_
  exact tp_vret (pc := 12) O F dX1_init_12
theorem sX2_init (w : WT) (i : Int) (n : Nat) (R M : TM) (hi : i ≠ 0) : tp_C w yX2_init cX2_init 1 1 0 0 [rV (wa w) i] n R M n R M := by
  refine tp_C.ofk (lv := [(0, _)]) [1] (by decide) rfl (by simp only [List.map_cons, List.map_nil, cat_i, cat_l, cat_r]) (by decide) rfl (fun E O F e0 e1 => ?_)
  refine tp_aload_n (pc := 0) 0 O dX2_init_0 rfl rfl ?_
  refine tp_objInit (pc := 1) O dX2_init_1 q505 hi (by decide) ?_
  exact tp_vret (pc := 4) O F dX2_init_4
theorem sX3_init (w : WT) (i : Int) (n : Nat) (R M : TM) (hi : i ≠ 0) : tp_C w yX3_init cX3_init 1 1 0 0 [rV (wa w) i] n R M n R M := by
  refine tp_C.ofk (lv := [(0, _)]) [1] (by decide) rfl (by simp only [List.map_cons, List.map_nil, cat_i, cat_l, cat_r]) (by decide) rfl (fun E O F e0 e1 => ?_)
  refine tp_aload_n (pc := 0) 0 O dX3_init_0 rfl rfl ?_
  refine tp_objInit (pc := 1) O dX3_init_1 q519 hi (by decide) ?_
  exact tp_vret (pc := 4) O F dX3_init_4
theorem sX4_init (w : WT) (i : Int) (n : Nat) (R M : TM) (hi : i ≠ 0) : tp_C w yX4_init cX4_init 1 2 0 0 [rV (wa w) i] n R M n R M := by
  refine tp_C.ofk (lv := [(0, _)]) [1] (by decide) rfl (by simp only [List.map_cons, List.map_nil, cat_i, cat_l, cat_r]) (by decide) rfl (fun E O F e0 e1 => ?_)
  obtain ⟨r1, r2⟩ := F.room
  refine tp_aload_n (pc := 0) 0 O dX4_init_0 rfl rfl ?_
  refine tp_callIN (pc := 1) (y := yX3_init) (L := 1) (mc := 0) (ms := 0) O dX4_init_1 (by simp [tx_nwl, yX3_init, yX4_init, RX3, RX4]) rfl q517 q518 q86 (by decide +kernel) (by decide) (show 1 + 1 ≤ 2 by decide) hi ⟨by omega, by omega⟩ (Nat.zero_le _) (sX3_init w i n R M hi) ?_
  exact tp_vret (pc := 4) (O.at F (a := eC E + 0) (b := eS E + 0) (by omega) (by omega)) (F.at (a := eC E + 0) (b := eS E + 0) (by omega) (by omega)) dX4_init_4
theorem sX5_init (w : WT) (i : Int) (n : Nat) (R M : TM) (hi : i ≠ 0) : tp_C w yX5_init cX5_init 1 3 0 0 [rV (wa w) i] n R M n R M := by
  refine tp_C.ofk (lv := [(0, _)]) [1] (by decide) rfl (by simp only [List.map_cons, List.map_nil, cat_i, cat_l, cat_r]) (by decide) rfl (fun E O F e0 e1 => ?_)
  obtain ⟨r1, r2⟩ := F.room
  refine tp_aload_n (pc := 0) 0 O dX5_init_0 rfl rfl ?_
  refine tp_callIN (pc := 1) (y := yX4_init) (L := 1) (mc := 0) (ms := 0) O dX5_init_1 (by simp [tx_nwl, yX4_init, yX5_init, RX4, RX5]) rfl q534 q535 q87 (by decide +kernel) (by decide) (show 2 + 1 ≤ 3 by decide) hi ⟨by omega, by omega⟩ (Nat.zero_le _) (sX4_init w i n R M hi) ?_
  exact tp_vret (pc := 4) (O.at F (a := eC E + 0) (b := eS E + 0) (by omega) (by omega)) (F.at (a := eC E + 0) (b := eS E + 0) (by omega) (by omega)) dX5_init_4
def rM6 (R : TM) : TM := upL R [(2, 0, 100), (2, 1, 101), (2, 2, 102), (2, 3, 103), (2, 5, 105), (2, 6, 106), (2, 8, 108), (2, 9, 109), (2, 11, 111), (2, 13, 113), (2, 15, 115), (2, 16, 116), (2, 17, 117), (2, 18, 118), (2, 19, 119), (2, 20, 120), (2, 21, 121), (2, 22, 122), (2, 23, 123), (2, 24, 124), (2, 25, 125)]
def mM6 (M : TM) : TM := upL M [(100, 0, -1), (100, 1, -1), (100, 2, -1), (100, 3, -1), (2, 14, 2)]
theorem up_r0 {R : TM} : rM6 R 2 ((0 : Nat) : Int) = 100 := by simp [rM6, upL, up]
theorem sX6_init (w : WT) (R M : TM) : tp_C w yX6_init cX6_init 2 2 21 1444 [rV (wa w) 2] 88 R M 109 (rM6 R) (mM6 M) := by
  refine tp_C.ofk (lv := [(0, _)]) [1] (by decide) rfl (by simp only [List.map_cons, List.map_nil, cat_i, cat_l, cat_r]) (by decide) rfl (fun E O F e0 e1 => ?_)
  obtain ⟨r1, r2⟩ := F.room
  have O0 := O
  refine tp_aload_n (pc := 0) 0 O dX6_init_0 rfl rfl ?_
  refine tp_objInit (pc := 1) O dX6_init_1 q822 (by decide) (by decide) ?_
  refine tp_aload_n (pc := 4) 0 O dX6_init_4 rfl rfl ?_
  refine tp_iconst (pc := 5) O dX6_init_5 ?_
  refine tp_newp (pc := 6) 1 4 100 O dX6_init_6 ⟨Or.inl rfl, rfl⟩ q497 ⟨rfl, by decide⟩ rfl ⟨by decide, by decide, by decide⟩ ⟨by show eC E + 0 + 1 ≤ E.2.2.1.cells; omega, by show eS E + 0 + 4 ≤ E.2.2.1.slots; omega⟩ ?_
  show tp_X w 89 (eAt E (eC E + 1) (eS E + 4)) 8 _ _ _ _
  have O := O0.at F (a := eC E + 1) (b := eS E + 4) (by omega) (by omega)
  refine tp_putr (pc := 8) (ci := 6) (C := RX6) (T := TX6) (N := 26) 0 O dX6_init_8 (sh_2 w) ⟨by decide, by decide⟩ rfl (by decide) q823 (fun _ => rfl) rfl (by rintro v (rfl | ⟨a, rfl⟩) <;> exact ⟨rfl, rfl⟩) ?_
  refine tp_aload_n (pc := 11) 0 O dX6_init_11 rfl rfl ?_
  refine tp_iconst (pc := 12) O dX6_init_12 ?_
  refine tp_newp (pc := 13) 1 4 101 O dX6_init_13 ⟨Or.inl rfl, rfl⟩ q497 ⟨rfl, by decide⟩ rfl ⟨by decide, by decide, by decide⟩ ⟨by show eC E + 1 + 1 ≤ E.2.2.1.cells; omega, by show eS E + 4 + 4 ≤ E.2.2.1.slots; omega⟩ ?_
  show tp_X w 90 (eAt E (eC E + 2) (eS E + 8)) 15 _ _ _ _
  have O := O0.at F (a := eC E + 2) (b := eS E + 8) (by omega) (by omega)
  refine tp_putr (pc := 15) (ci := 6) (C := RX6) (T := TX6) (N := 26) 1 O dX6_init_15 (sh_2 w) ⟨by decide, by decide⟩ rfl (by decide) q824 (fun _ => rfl) rfl (by rintro v (rfl | ⟨a, rfl⟩) <;> exact ⟨rfl, rfl⟩) ?_
  refine tp_aload_n (pc := 18) 0 O dX6_init_18 rfl rfl ?_
  refine tp_sipush (pc := 19) O dX6_init_19 (by omega) ?_
  refine tp_newp (pc := 22) 1 240 102 O dX6_init_22 ⟨Or.inl rfl, rfl⟩ q497 ⟨rfl, by decide⟩ rfl ⟨by decide, by decide, by decide⟩ ⟨by show eC E + 2 + 1 ≤ E.2.2.1.cells; omega, by show eS E + 8 + 240 ≤ E.2.2.1.slots; omega⟩ ?_
  show tp_X w 91 (eAt E (eC E + 3) (eS E + 248)) 24 _ _ _ _
  have O := O0.at F (a := eC E + 3) (b := eS E + 248) (by omega) (by omega)
  refine tp_putr (pc := 24) (ci := 6) (C := RX6) (T := TX6) (N := 26) 2 O dX6_init_24 (sh_2 w) ⟨by decide, by decide⟩ rfl (by decide) q825 (fun _ => rfl) rfl (by rintro v (rfl | ⟨a, rfl⟩) <;> exact ⟨rfl, rfl⟩) ?_
  refine tp_aload_n (pc := 27) 0 O dX6_init_27 rfl rfl ?_
  refine tp_bipush (pc := 28) O dX6_init_28 (by omega) ?_
  refine tp_newp (pc := 30) 1 60 103 O dX6_init_30 ⟨Or.inl rfl, rfl⟩ q497 ⟨rfl, by decide⟩ rfl ⟨by decide, by decide, by decide⟩ ⟨by show eC E + 3 + 1 ≤ E.2.2.1.cells; omega, by show eS E + 248 + 60 ≤ E.2.2.1.slots; omega⟩ ?_
  show tp_X w 92 (eAt E (eC E + 4) (eS E + 308)) 32 _ _ _ _
  have O := O0.at F (a := eC E + 4) (b := eS E + 308) (by omega) (by omega)
  refine tp_putr (pc := 32) (ci := 6) (C := RX6) (T := TX6) (N := 26) 3 O dX6_init_32 (sh_2 w) ⟨by decide, by decide⟩ rfl (by decide) q826 (fun _ => rfl) rfl (by rintro v (rfl | ⟨a, rfl⟩) <;> exact ⟨rfl, rfl⟩) ?_
  refine tp_aload_n (pc := 35) 0 O dX6_init_35 rfl rfl ?_
  refine tp_bipush (pc := 36) O dX6_init_36 (by omega) ?_
  refine tp_newp (pc := 38) 1 120 105 O dX6_init_38 ⟨Or.inl rfl, rfl⟩ q497 ⟨rfl, by decide⟩ rfl ⟨by decide, by decide, by decide⟩ ⟨by show eC E + 4 + 1 ≤ E.2.2.1.cells; omega, by show eS E + 308 + 120 ≤ E.2.2.1.slots; omega⟩ ?_
  show tp_X w 93 (eAt E (eC E + 5) (eS E + 428)) 40 _ _ _ _
  have O := O0.at F (a := eC E + 5) (b := eS E + 428) (by omega) (by omega)
  refine tp_putr (pc := 40) (ci := 6) (C := RX6) (T := TX6) (N := 26) 5 O dX6_init_40 (sh_2 w) ⟨by decide, by decide⟩ rfl (by decide) q828 (fun _ => rfl) rfl (by rintro v (rfl | ⟨a, rfl⟩) <;> exact ⟨rfl, rfl⟩) ?_
  refine tp_aload_n (pc := 43) 0 O dX6_init_43 rfl rfl ?_
  refine tp_iconst (pc := 44) O dX6_init_44 ?_
  refine tp_newp (pc := 45) 1 2 106 O dX6_init_45 ⟨Or.inl rfl, rfl⟩ q497 ⟨rfl, by decide⟩ rfl ⟨by decide, by decide, by decide⟩ ⟨by show eC E + 5 + 1 ≤ E.2.2.1.cells; omega, by show eS E + 428 + 2 ≤ E.2.2.1.slots; omega⟩ ?_
  show tp_X w 94 (eAt E (eC E + 6) (eS E + 430)) 47 _ _ _ _
  have O := O0.at F (a := eC E + 6) (b := eS E + 430) (by omega) (by omega)
  refine tp_putr (pc := 47) (ci := 6) (C := RX6) (T := TX6) (N := 26) 6 O dX6_init_47 (sh_2 w) ⟨by decide, by decide⟩ rfl (by decide) q829 (fun _ => rfl) rfl (by rintro v (rfl | ⟨a, rfl⟩) <;> exact ⟨rfl, rfl⟩) ?_
  refine tp_aload_n (pc := 50) 0 O dX6_init_50 rfl rfl ?_
  refine tp_sipush (pc := 51) O dX6_init_51 (by omega) ?_
  refine tp_newp (pc := 54) 1 240 108 O dX6_init_54 ⟨Or.inl rfl, rfl⟩ q497 ⟨rfl, by decide⟩ rfl ⟨by decide, by decide, by decide⟩ ⟨by show eC E + 6 + 1 ≤ E.2.2.1.cells; omega, by show eS E + 430 + 240 ≤ E.2.2.1.slots; omega⟩ ?_
  show tp_X w 95 (eAt E (eC E + 7) (eS E + 670)) 56 _ _ _ _
  have O := O0.at F (a := eC E + 7) (b := eS E + 670) (by omega) (by omega)
  refine tp_putr (pc := 56) (ci := 6) (C := RX6) (T := TX6) (N := 26) 8 O dX6_init_56 (sh_2 w) ⟨by decide, by decide⟩ rfl (by decide) q831 (fun _ => rfl) rfl (by rintro v (rfl | ⟨a, rfl⟩) <;> exact ⟨rfl, rfl⟩) ?_
  refine tp_aload_n (pc := 59) 0 O dX6_init_59 rfl rfl ?_
  refine tp_bipush (pc := 60) O dX6_init_60 (by omega) ?_
  refine tp_newp (pc := 62) 1 6 109 O dX6_init_62 ⟨Or.inl rfl, rfl⟩ q497 ⟨rfl, by decide⟩ rfl ⟨by decide, by decide, by decide⟩ ⟨by show eC E + 7 + 1 ≤ E.2.2.1.cells; omega, by show eS E + 670 + 6 ≤ E.2.2.1.slots; omega⟩ ?_
  show tp_X w 96 (eAt E (eC E + 8) (eS E + 676)) 64 _ _ _ _
  have O := O0.at F (a := eC E + 8) (b := eS E + 676) (by omega) (by omega)
  refine tp_putr (pc := 64) (ci := 6) (C := RX6) (T := TX6) (N := 26) 9 O dX6_init_64 (sh_2 w) ⟨by decide, by decide⟩ rfl (by decide) q832 (fun _ => rfl) rfl (by rintro v (rfl | ⟨a, rfl⟩) <;> exact ⟨rfl, rfl⟩) ?_
  refine tp_aload_n (pc := 67) 0 O dX6_init_67 rfl rfl ?_
  refine tp_bipush (pc := 68) O dX6_init_68 (by omega) ?_
  refine tp_newp (pc := 70) 1 18 111 O dX6_init_70 ⟨Or.inl rfl, rfl⟩ q497 ⟨rfl, by decide⟩ rfl ⟨by decide, by decide, by decide⟩ ⟨by show eC E + 8 + 1 ≤ E.2.2.1.cells; omega, by show eS E + 676 + 18 ≤ E.2.2.1.slots; omega⟩ ?_
  show tp_X w 97 (eAt E (eC E + 9) (eS E + 694)) 72 _ _ _ _
  have O := O0.at F (a := eC E + 9) (b := eS E + 694) (by omega) (by omega)
  refine tp_putr (pc := 72) (ci := 6) (C := RX6) (T := TX6) (N := 26) 11 O dX6_init_72 (sh_2 w) ⟨by decide, by decide⟩ rfl (by decide) q834 (fun _ => rfl) rfl (by rintro v (rfl | ⟨a, rfl⟩) <;> exact ⟨rfl, rfl⟩) ?_
  refine tp_aload_n (pc := 75) 0 O dX6_init_75 rfl rfl ?_
  refine tp_bipush (pc := 76) O dX6_init_76 (by omega) ?_
  refine tp_newp (pc := 78) 1 48 113 O dX6_init_78 ⟨Or.inl rfl, rfl⟩ q497 ⟨rfl, by decide⟩ rfl ⟨by decide, by decide, by decide⟩ ⟨by show eC E + 9 + 1 ≤ E.2.2.1.cells; omega, by show eS E + 694 + 48 ≤ E.2.2.1.slots; omega⟩ ?_
  show tp_X w 98 (eAt E (eC E + 10) (eS E + 742)) 80 _ _ _ _
  have O := O0.at F (a := eC E + 10) (b := eS E + 742) (by omega) (by omega)
  refine tp_putr (pc := 80) (ci := 6) (C := RX6) (T := TX6) (N := 26) 13 O dX6_init_80 (sh_2 w) ⟨by decide, by decide⟩ rfl (by decide) q836 (fun _ => rfl) rfl (by rintro v (rfl | ⟨a, rfl⟩) <;> exact ⟨rfl, rfl⟩) ?_
  refine tp_aload_n (pc := 83) 0 O dX6_init_83 rfl rfl ?_
  refine tp_sipush (pc := 84) O dX6_init_84 (by omega) ?_
  refine tp_newp (pc := 87) 1 280 115 O dX6_init_87 ⟨Or.inl rfl, rfl⟩ q497 ⟨rfl, by decide⟩ rfl ⟨by decide, by decide, by decide⟩ ⟨by show eC E + 10 + 1 ≤ E.2.2.1.cells; omega, by show eS E + 742 + 280 ≤ E.2.2.1.slots; omega⟩ ?_
  show tp_X w 99 (eAt E (eC E + 11) (eS E + 1022)) 89 _ _ _ _
  have O := O0.at F (a := eC E + 11) (b := eS E + 1022) (by omega) (by omega)
  refine tp_putr (pc := 89) (ci := 6) (C := RX6) (T := TX6) (N := 26) 15 O dX6_init_89 (sh_2 w) ⟨by decide, by decide⟩ rfl (by decide) q838 (fun _ => rfl) rfl (by rintro v (rfl | ⟨a, rfl⟩) <;> exact ⟨rfl, rfl⟩) ?_
  refine tp_aload_n (pc := 92) 0 O dX6_init_92 rfl rfl ?_
  refine tp_bipush (pc := 93) O dX6_init_93 (by omega) ?_
  refine tp_newp (pc := 95) 1 7 116 O dX6_init_95 ⟨Or.inl rfl, rfl⟩ q497 ⟨rfl, by decide⟩ rfl ⟨by decide, by decide, by decide⟩ ⟨by show eC E + 11 + 1 ≤ E.2.2.1.cells; omega, by show eS E + 1022 + 7 ≤ E.2.2.1.slots; omega⟩ ?_
  show tp_X w 100 (eAt E (eC E + 12) (eS E + 1029)) 97 _ _ _ _
  have O := O0.at F (a := eC E + 12) (b := eS E + 1029) (by omega) (by omega)
  refine tp_putr (pc := 97) (ci := 6) (C := RX6) (T := TX6) (N := 26) 16 O dX6_init_97 (sh_2 w) ⟨by decide, by decide⟩ rfl (by decide) q839 (fun _ => rfl) rfl (by rintro v (rfl | ⟨a, rfl⟩) <;> exact ⟨rfl, rfl⟩) ?_
  refine tp_aload_n (pc := 100) 0 O dX6_init_100 rfl rfl ?_
  refine tp_sipush (pc := 101) O dX6_init_101 (by omega) ?_
  refine tp_newp (pc := 104) 1 240 117 O dX6_init_104 ⟨Or.inl rfl, rfl⟩ q497 ⟨rfl, by decide⟩ rfl ⟨by decide, by decide, by decide⟩ ⟨by show eC E + 12 + 1 ≤ E.2.2.1.cells; omega, by show eS E + 1029 + 240 ≤ E.2.2.1.slots; omega⟩ ?_
  show tp_X w 101 (eAt E (eC E + 13) (eS E + 1269)) 106 _ _ _ _
  have O := O0.at F (a := eC E + 13) (b := eS E + 1269) (by omega) (by omega)
  refine tp_putr (pc := 106) (ci := 6) (C := RX6) (T := TX6) (N := 26) 17 O dX6_init_106 (sh_2 w) ⟨by decide, by decide⟩ rfl (by decide) q840 (fun _ => rfl) rfl (by rintro v (rfl | ⟨a, rfl⟩) <;> exact ⟨rfl, rfl⟩) ?_
  refine tp_aload_n (pc := 109) 0 O dX6_init_109 rfl rfl ?_
  refine tp_bipush (pc := 110) O dX6_init_110 (by omega) ?_
  refine tp_newp (pc := 112) 1 6 118 O dX6_init_112 ⟨Or.inl rfl, rfl⟩ q497 ⟨rfl, by decide⟩ rfl ⟨by decide, by decide, by decide⟩ ⟨by show eC E + 13 + 1 ≤ E.2.2.1.cells; omega, by show eS E + 1269 + 6 ≤ E.2.2.1.slots; omega⟩ ?_
  show tp_X w 102 (eAt E (eC E + 14) (eS E + 1275)) 114 _ _ _ _
  have O := O0.at F (a := eC E + 14) (b := eS E + 1275) (by omega) (by omega)
  refine tp_putr (pc := 114) (ci := 6) (C := RX6) (T := TX6) (N := 26) 18 O dX6_init_114 (sh_2 w) ⟨by decide, by decide⟩ rfl (by decide) q841 (fun _ => rfl) rfl (by rintro v (rfl | ⟨a, rfl⟩) <;> exact ⟨rfl, rfl⟩) ?_
  refine tp_aload_n (pc := 117) 0 O dX6_init_117 rfl rfl ?_
  refine tp_bipush (pc := 118) O dX6_init_118 (by omega) ?_
  refine tp_newp (pc := 120) 1 6 119 O dX6_init_120 ⟨Or.inl rfl, rfl⟩ q497 ⟨rfl, by decide⟩ rfl ⟨by decide, by decide, by decide⟩ ⟨by show eC E + 14 + 1 ≤ E.2.2.1.cells; omega, by show eS E + 1275 + 6 ≤ E.2.2.1.slots; omega⟩ ?_
  show tp_X w 103 (eAt E (eC E + 15) (eS E + 1281)) 122 _ _ _ _
  have O := O0.at F (a := eC E + 15) (b := eS E + 1281) (by omega) (by omega)
  refine tp_putr (pc := 122) (ci := 6) (C := RX6) (T := TX6) (N := 26) 19 O dX6_init_122 (sh_2 w) ⟨by decide, by decide⟩ rfl (by decide) q842 (fun _ => rfl) rfl (by rintro v (rfl | ⟨a, rfl⟩) <;> exact ⟨rfl, rfl⟩) ?_
  refine tp_aload_n (pc := 125) 0 O dX6_init_125 rfl rfl ?_
  refine tp_bipush (pc := 126) O dX6_init_126 (by omega) ?_
  refine tp_newp (pc := 128) 1 6 120 O dX6_init_128 ⟨Or.inl rfl, rfl⟩ q497 ⟨rfl, by decide⟩ rfl ⟨by decide, by decide, by decide⟩ ⟨by show eC E + 15 + 1 ≤ E.2.2.1.cells; omega, by show eS E + 1281 + 6 ≤ E.2.2.1.slots; omega⟩ ?_
  show tp_X w 104 (eAt E (eC E + 16) (eS E + 1287)) 130 _ _ _ _
  have O := O0.at F (a := eC E + 16) (b := eS E + 1287) (by omega) (by omega)
  refine tp_putr (pc := 130) (ci := 6) (C := RX6) (T := TX6) (N := 26) 20 O dX6_init_130 (sh_2 w) ⟨by decide, by decide⟩ rfl (by decide) q843 (fun _ => rfl) rfl (by rintro v (rfl | ⟨a, rfl⟩) <;> exact ⟨rfl, rfl⟩) ?_
  refine tp_aload_n (pc := 133) 0 O dX6_init_133 rfl rfl ?_
  refine tp_bipush (pc := 134) O dX6_init_134 (by omega) ?_
  refine tp_newp (pc := 136) 1 12 121 O dX6_init_136 ⟨Or.inl rfl, rfl⟩ q497 ⟨rfl, by decide⟩ rfl ⟨by decide, by decide, by decide⟩ ⟨by show eC E + 16 + 1 ≤ E.2.2.1.cells; omega, by show eS E + 1287 + 12 ≤ E.2.2.1.slots; omega⟩ ?_
  show tp_X w 105 (eAt E (eC E + 17) (eS E + 1299)) 138 _ _ _ _
  have O := O0.at F (a := eC E + 17) (b := eS E + 1299) (by omega) (by omega)
  refine tp_putr (pc := 138) (ci := 6) (C := RX6) (T := TX6) (N := 26) 21 O dX6_init_138 (sh_2 w) ⟨by decide, by decide⟩ rfl (by decide) q844 (fun _ => rfl) rfl (by rintro v (rfl | ⟨a, rfl⟩) <;> exact ⟨rfl, rfl⟩) ?_
  refine tp_aload_n (pc := 141) 0 O dX6_init_141 rfl rfl ?_
  refine tp_bipush (pc := 142) O dX6_init_142 (by omega) ?_
  refine tp_newp (pc := 144) 1 12 122 O dX6_init_144 ⟨Or.inl rfl, rfl⟩ q497 ⟨rfl, by decide⟩ rfl ⟨by decide, by decide, by decide⟩ ⟨by show eC E + 17 + 1 ≤ E.2.2.1.cells; omega, by show eS E + 1299 + 12 ≤ E.2.2.1.slots; omega⟩ ?_
  show tp_X w 106 (eAt E (eC E + 18) (eS E + 1311)) 146 _ _ _ _
  have O := O0.at F (a := eC E + 18) (b := eS E + 1311) (by omega) (by omega)
  refine tp_putr (pc := 146) (ci := 6) (C := RX6) (T := TX6) (N := 26) 22 O dX6_init_146 (sh_2 w) ⟨by decide, by decide⟩ rfl (by decide) q845 (fun _ => rfl) rfl (by rintro v (rfl | ⟨a, rfl⟩) <;> exact ⟨rfl, rfl⟩) ?_
  refine tp_aload_n (pc := 149) 0 O dX6_init_149 rfl rfl ?_
  refine tp_bipush (pc := 150) O dX6_init_150 (by omega) ?_
  refine tp_newp (pc := 152) 1 12 123 O dX6_init_152 ⟨Or.inl rfl, rfl⟩ q497 ⟨rfl, by decide⟩ rfl ⟨by decide, by decide, by decide⟩ ⟨by show eC E + 18 + 1 ≤ E.2.2.1.cells; omega, by show eS E + 1311 + 12 ≤ E.2.2.1.slots; omega⟩ ?_
  show tp_X w 107 (eAt E (eC E + 19) (eS E + 1323)) 154 _ _ _ _
  have O := O0.at F (a := eC E + 19) (b := eS E + 1323) (by omega) (by omega)
  refine tp_putr (pc := 154) (ci := 6) (C := RX6) (T := TX6) (N := 26) 23 O dX6_init_154 (sh_2 w) ⟨by decide, by decide⟩ rfl (by decide) q846 (fun _ => rfl) rfl (by rintro v (rfl | ⟨a, rfl⟩) <;> exact ⟨rfl, rfl⟩) ?_
  refine tp_aload_n (pc := 157) 0 O dX6_init_157 rfl rfl ?_
  refine tp_bipush (pc := 158) O dX6_init_158 (by omega) ?_
  refine tp_newp (pc := 160) 1 80 124 O dX6_init_160 ⟨Or.inl rfl, rfl⟩ q497 ⟨rfl, by decide⟩ rfl ⟨by decide, by decide, by decide⟩ ⟨by show eC E + 19 + 1 ≤ E.2.2.1.cells; omega, by show eS E + 1323 + 80 ≤ E.2.2.1.slots; omega⟩ ?_
  show tp_X w 108 (eAt E (eC E + 20) (eS E + 1403)) 162 _ _ _ _
  have O := O0.at F (a := eC E + 20) (b := eS E + 1403) (by omega) (by omega)
  refine tp_putr (pc := 162) (ci := 6) (C := RX6) (T := TX6) (N := 26) 24 O dX6_init_162 (sh_2 w) ⟨by decide, by decide⟩ rfl (by decide) q847 (fun _ => rfl) rfl (by rintro v (rfl | ⟨a, rfl⟩) <;> exact ⟨rfl, rfl⟩) ?_
  refine tp_aload_n (pc := 165) 0 O dX6_init_165 rfl rfl ?_
  refine tp_bipush (pc := 166) O dX6_init_166 (by omega) ?_
  refine tp_newp (pc := 168) 1 41 125 O dX6_init_168 ⟨Or.inl rfl, rfl⟩ q497 ⟨rfl, by decide⟩ rfl ⟨by decide, by decide, by decide⟩ ⟨by show eC E + 20 + 1 ≤ E.2.2.1.cells; omega, by show eS E + 1403 + 41 ≤ E.2.2.1.slots; omega⟩ ?_
  show tp_X w 109 (eAt E (eC E + 21) (eS E + 1444)) 170 _ _ _ _
  have O := O0.at F (a := eC E + 21) (b := eS E + 1444) (by omega) (by omega)
  refine tp_putr (pc := 170) (ci := 6) (C := RX6) (T := TX6) (N := 26) 25 O dX6_init_170 (sh_2 w) ⟨by decide, by decide⟩ rfl (by decide) q848 (fun _ => rfl) rfl (by rintro v (rfl | ⟨a, rfl⟩) <;> exact ⟨rfl, rfl⟩) ?_
  show tp_X w 109 (eAt E (eC E + 21) (eS E + 1444)) 173 _ _ (rM6 R) M
  refine tp_iconst (pc := 173) O dX6_init_173 ?_
  refine tp_istore_n (pc := 174) O dX6_init_174 rfl (by decide) rfl ?_
  refine tp_iload_n (pc := 175) 0 O dX6_init_175 rfl rfl ?_
  refine tp_iconst (pc := 176) O dX6_init_176 ?_
  refine tp_icmp_ge (pc := 177) 193 O dX6_init_177 rfl (by omega) (fun c => absurd c (by omega)) (fun _ => ?_)
  refine tp_aload_n (pc := 180) 1 O dX6_init_180 rfl rfl ?_
  refine tp_getr (pc := 181) (ci := 6) (C := RX6) (T := TX6) (N := 26) 0 O dX6_init_181 (sh_2 w) ⟨by decide, by decide⟩ rfl (by decide) q823 rfl ?_
  rw [up_r0]
  refine tp_iload_n (pc := 184) 0 O dX6_init_184 rfl rfl ?_
  refine tp_iconst (pc := 185) O dX6_init_185 ?_
  refine tp_iast (pc := 186) 4 O dX6_init_186 rfl ⟨by decide, by decide⟩ (by omega) (by decide) ?_
  refine tp_iinc (pc := 187) 0 O dX6_init_187 rfl (by decide) rfl ?_
  refine tp_goto (pc := 190) 175 O dX6_init_190 rfl ?_
  refine tp_iload_n (pc := 175) 0 O dX6_init_175 rfl rfl ?_
  refine tp_iconst (pc := 176) O dX6_init_176 ?_
  refine tp_icmp_ge (pc := 177) 193 O dX6_init_177 rfl (by omega) (fun c => absurd c (by omega)) (fun _ => ?_)
  refine tp_aload_n (pc := 180) 1 O dX6_init_180 rfl rfl ?_
  refine tp_getr (pc := 181) (ci := 6) (C := RX6) (T := TX6) (N := 26) 0 O dX6_init_181 (sh_2 w) ⟨by decide, by decide⟩ rfl (by decide) q823 rfl ?_
  rw [up_r0]
  refine tp_iload_n (pc := 184) 0 O dX6_init_184 rfl rfl ?_
  refine tp_iconst (pc := 185) O dX6_init_185 ?_
  refine tp_iast (pc := 186) 4 O dX6_init_186 rfl ⟨by decide, by decide⟩ (by omega) (by decide) ?_
  refine tp_iinc (pc := 187) 0 O dX6_init_187 rfl (by decide) rfl ?_
  refine tp_goto (pc := 190) 175 O dX6_init_190 rfl ?_
  refine tp_iload_n (pc := 175) 0 O dX6_init_175 rfl rfl ?_
  refine tp_iconst (pc := 176) O dX6_init_176 ?_
  refine tp_icmp_ge (pc := 177) 193 O dX6_init_177 rfl (by omega) (fun c => absurd c (by omega)) (fun _ => ?_)
  refine tp_aload_n (pc := 180) 1 O dX6_init_180 rfl rfl ?_
  refine tp_getr (pc := 181) (ci := 6) (C := RX6) (T := TX6) (N := 26) 0 O dX6_init_181 (sh_2 w) ⟨by decide, by decide⟩ rfl (by decide) q823 rfl ?_
  rw [up_r0]
  refine tp_iload_n (pc := 184) 0 O dX6_init_184 rfl rfl ?_
  refine tp_iconst (pc := 185) O dX6_init_185 ?_
  refine tp_iast (pc := 186) 4 O dX6_init_186 rfl ⟨by decide, by decide⟩ (by omega) (by decide) ?_
  refine tp_iinc (pc := 187) 0 O dX6_init_187 rfl (by decide) rfl ?_
  refine tp_goto (pc := 190) 175 O dX6_init_190 rfl ?_
  refine tp_iload_n (pc := 175) 0 O dX6_init_175 rfl rfl ?_
  refine tp_iconst (pc := 176) O dX6_init_176 ?_
  refine tp_icmp_ge (pc := 177) 193 O dX6_init_177 rfl (by omega) (fun c => absurd c (by omega)) (fun _ => ?_)
  refine tp_aload_n (pc := 180) 1 O dX6_init_180 rfl rfl ?_
  refine tp_getr (pc := 181) (ci := 6) (C := RX6) (T := TX6) (N := 26) 0 O dX6_init_181 (sh_2 w) ⟨by decide, by decide⟩ rfl (by decide) q823 rfl ?_
  rw [up_r0]
  refine tp_iload_n (pc := 184) 0 O dX6_init_184 rfl rfl ?_
  refine tp_iconst (pc := 185) O dX6_init_185 ?_
  refine tp_iast (pc := 186) 4 O dX6_init_186 rfl ⟨by decide, by decide⟩ (by omega) (by decide) ?_
  refine tp_iinc (pc := 187) 0 O dX6_init_187 rfl (by decide) rfl ?_
  refine tp_goto (pc := 190) 175 O dX6_init_190 rfl ?_
  refine tp_iload_n (pc := 175) 0 O dX6_init_175 rfl rfl ?_
  refine tp_iconst (pc := 176) O dX6_init_176 ?_
  refine tp_icmp_ge (pc := 177) 193 O dX6_init_177 rfl (by omega) (fun _ => ?_) (fun c => absurd c (by omega))
  refine tp_aload_n (pc := 193) 1 O dX6_init_193 rfl rfl ?_
  refine tp_iconst (pc := 194) O dX6_init_194 ?_
  refine tp_puti (pc := 195) (ci := 6) (C := RX6) (T := TX6) (N := 26) 14 O dX6_init_195 (sh_2 w) ⟨by decide, by decide⟩ rfl (by decide) q837 (fun h => by cases h) rfl ⟨rfl, rfl⟩ ?_
  exact tp_vret (pc := 198) O (F.at (a := eC E + 21) (b := eS E + 1444) (by omega) (by omega)) dX6_init_198
