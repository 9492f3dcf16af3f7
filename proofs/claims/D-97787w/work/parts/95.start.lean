/-! THE START: what the statement's premises give -/
set_option maxRecDepth 100000
theorem st_AOo {args : Array Value} {s : State} {C : String} (h : (Cond.arrayOver (.object C)).before args s = true) : ∃ cA : ClassId, ArrOfT s cA (.object C) ∧ va_RA s cA (.object C) := by
  obtain ⟨comp, c, k, h1, h2, h3, h4, h5⟩ := Cond.arrayOver_spec h
  exact ⟨c, fun n z => ⟨fun k h => (by cases h), k, h3, comp, h4⟩, k, comp, h3, h4, h1, h5⟩
theorem st_AOa {args : Array Value} {s : State} {t : FieldType} (h : (Cond.arrayOver (.array t)).before args s = true) : ∃ cA : ClassId, ArrOfT s cA (.array t) ∧ va_RA s cA (.array t) := by
  obtain ⟨comp, c, k, h1, h2, h3, h4, h5⟩ := arrayOverA_spec h
  exact ⟨c, fun n z => ⟨fun k h => (by cases h), k, h3, comp, h4⟩, h5⟩
theorem st_AC {args : Array Value} {s : State} {t : FieldType} (h : (Cond.arrayClass t).before args s = true) : ∃ cA : ClassId, ArrOfT s cA t ∧ s.vm.findClass ("[" ++ t.toString) = some cA := by
  obtain ⟨c, k, comp, h1, h2, h3⟩ := Cond.arrayClass_spec h
  exact ⟨c, fun n z => ⟨fun k h => (by cases h), k, h2, comp, h3⟩, h1⟩
theorem st_K {args : Array Value} {s : State} (hts : ∀ w ∈ lw_tbl, w.before args s = true) : ∃ (D : va_G) (wc : Nat → ClassId), va_K D vwCl (tysl wc) s := by
  have hta : ∀ w ∈ lw_all, w.before args s = true := fun w h => hts w (lw_all_tbl h)
  obtain ⟨c0, s0, k0⟩ := u_known (C := RX0) (T := TX0) (N := 23) hta (tx_in 0 _ rfl).1 (hta _ q126)
  obtain ⟨c1, s1, k1⟩ := u_known (C := RX1) (T := TX1) (N := 2) hta (tx_in 1 _ rfl).1 (hta _ q481)
  obtain ⟨c2, s2, k2⟩ := u_known (C := RX2) (T := TX2) (N := 2) hta (tx_in 2 _ rfl).1 (hta _ q501)
  obtain ⟨c3, s3, k3⟩ := u_known (C := RX3) (T := TX3) (N := 2) hta (tx_in 3 _ rfl).1 (hta _ q515)
  obtain ⟨c4, s4, k4⟩ := u_known (C := RX4) (T := TX4) (N := 2) hta (tx_in 4 _ rfl).1 (hta _ q532)
  obtain ⟨c5, s5, k5⟩ := u_known (C := RX5) (T := TX5) (N := 2) hta (tx_in 5 _ rfl).1 (hta _ q541)
  obtain ⟨c6, s6, k6⟩ := u_known (C := RX6) (T := TX6) (N := 26) hta (tx_in 6 _ rfl).1 (hta _ q818)
  obtain ⟨a1, x1, y1⟩ := st_AC (hta _ q497)
  obtain ⟨a2, x2, y2⟩ := st_AC (hta _ q498)
  obtain ⟨a3, x3, y3⟩ := st_AC (hta _ q702)
  obtain ⟨a4, x4, y4⟩ := st_AC (hta _ q710)
  obtain ⟨a5, x5, y5⟩ := st_AOa (hts _ q473)
  obtain ⟨a6, x6, y6⟩ := st_AOo (hts _ q475)
  obtain ⟨a7, x7, y7⟩ := st_AOa (hts _ q477)
  obtain ⟨a8, x8, y8⟩ := st_AOo (hts _ q478)
  obtain ⟨a9, x9, y9⟩ := st_AOo (hts _ q500)
  refine ⟨(fun k => match k with | 0 => c0 | 1 => c1 | 2 => c2 | 3 => c3 | 4 => c4 | 5 => c5 | _ => c6, fun k => match k with | 0 => s0 | 1 => s1 | 2 => s2 | 3 => s3 | 4 => s4 | 5 => s5 | _ => s6), fun k => match k with | 1 => a1 | 2 => a2 | 3 => a3 | 4 => a4 | 5 => a5 | 6 => a6 | 7 => a7 | 8 => a8 | _ => a9, ?_, ?_⟩
  · intro k q hq
    match k, hq with
    | 0, hq => cases hq; exact k0
    | 1, hq => cases hq; exact k1
    | 2, hq => cases hq; exact k2
    | 3, hq => cases hq; exact k3
    | 4, hq => cases hq; exact k4
    | 5, hq => cases hq; exact k5
    | 6, hq => cases hq; exact k6
    | k + 7, hq => simp at hq
  · intro k q hq
    match k, hq with
    | 0, hq => cases hq; exact ⟨x9, y9⟩
    | 1, hq => cases hq; exact ⟨x1, y1⟩
    | 2, hq => cases hq; exact ⟨x2, y2⟩
    | 3, hq => cases hq; exact ⟨x3, y3⟩
    | 4, hq => cases hq; exact ⟨x4, y4⟩
    | 5, hq => cases hq; exact ⟨x5, y5⟩
    | 6, hq => cases hq; exact ⟨x6, y6⟩
    | 7, hq => cases hq; exact ⟨x7, y7⟩
    | 8, hq => cases hq; exact ⟨x8, y8⟩
    | 9, hq => cases hq; exact ⟨x9, y9⟩
    | k + 10, hq => simp [tysl] at hq
theorem st_N {args : Array Value} {s : State} (hts : ∀ w ∈ lw_tbl, w.before args s = true) : tx_N s := by
  unfold tx_N tx_nwl
  simp only [List.mem_cons, List.not_mem_nil, or_false, forall_eq_or_imp, forall_eq]
  exact ⟨va_Nw.of rfl (hts _ q218), va_Nw.of rfl (hts _ q482), va_Nw.of rfl (hts _ q502), va_Nw.of rfl (hts _ q507), va_Nw.of rfl (hts _ q509), va_Nw.of rfl (hts _ q516), va_Nw.of rfl (hts _ q533), va_Nw.of rfl (hts _ q536), va_Nw.of rfl (hts _ q542), va_Nw.of rfl (hts _ q545), va_Nw.of rfl (hts _ q656), va_Nw.of rfl (hts _ q684), va_Nw.of rfl (hts _ q685), va_Nw.of rfl (hts _ q686), va_Nw.of rfl (hts _ q687), va_Nw.of rfl (hts _ q688), va_Nw.of rfl (hts _ q689), va_Nw.of rfl (hts _ q690), va_Nw.of rfl (hts _ q741), va_Nw.of rfl (hts _ q743), va_Nw.of rfl (hts _ q756), va_Nw.of rfl (hts _ q773), va_Nw.of rfl (hts _ q774), va_Nw.of rfl (hts _ q775), va_Nw.of rfl (hts _ q1270), va_Nw.of rfl (hts _ q1271), va_Nw.of rfl (hts _ q1272)⟩
theorem st_AV {args : Array Value} {s : State} (hts : ∀ w ∈ lw_tbl, w.before args s = true) : tp_AV s := by
  intro t ht
  simp only [List.mem_cons, List.not_mem_nil, or_false] at ht
  rcases ht with rfl | rfl | rfl | rfl | rfl
  · exact hts _ q473
  · exact hts _ q475
  · exact hts _ q477
  · exact hts _ q478
  · exact hts _ q500
theorem st_st {w : WT} {args : Array Value} {s : State} {O f d : String} (h1 : (Cond.laysStatic O f d).before args s = true) (h2 : (Cond.isRef (.static O f d)).before args s = true) (hz : wz w = s.heap.size) : tx_st w s O f d := by
  obtain ⟨c, k, i, fd, a, cell, g1, g2, g3, g4, g5, g6, g7, g8, g9⟩ := Cond.laysStatic_spec h1
  refine ⟨c, k, i, fd, a, cell, g1, g2, g3, g4, g5, g6, g7, g8, g9, by rw [hz]; exact (Array.getElem?_eq_some_iff.mp g5).1, Cond.staticRefV g2 g3 g4 g5 g6 h2⟩
theorem st_B {w : WT} {args : Array Value} {s : State} (hts : ∀ x ∈ lw_tbl, x.before args s = true) (hz : wz w = s.heap.size) (hl : (wl w).stackTraces = false) (hgv : (Jvm.Cond.and given_1 narrow_1).before args s = true) (hm : modulesRight_1 s = true) : tx_B w s := by
  have hs := flat_of_before _ hgv
  refine ⟨fun q hq => ?_, hm, st_st (hts _ q637) (hs _ (by decide +kernel)) hz, st_st (hts _ q639) (hs _ (by decide +kernel)) hz, hl⟩
  refine nc_moved (s := s) (args := args) (Vm.Alike.refl s.vm) (hs _ ?_)
  unfold ncL at hq
  simp only [List.mem_cons, List.not_mem_nil, or_false] at hq
  rcases hq with rfl | rfl | rfl | rfl | rfl | rfl | rfl | rfl | rfl <;> decide +kernel
