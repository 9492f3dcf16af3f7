/-! THE LAW: what each change does to both -/
set_option maxRecDepth 100000
/-- ranges of the data -/
def jR (M : TM) : Prop := (0 ≤ M 201 0 ∧ M 201 0 ≤ 59) ∧ (0 ≤ M 201 1 ∧ M 201 1 ≤ 23) ∧ (∀ k : Int, 0 ≤ k → k < M 201 0 → 0 ≤ M 300 k ∧ M 300 k ≤ 255) ∧ (∀ k : Int, 0 ≤ k → k < M 201 1 → 0 ≤ M 301 k ∧ M 301 k ≤ 255) ∧ (0 ≤ M 1 9 ∧ M 1 9 ≤ 12) ∧ (∀ k : Int, 0 ≤ k → k < M 1 9 → (0 ≤ M 310 k ∧ M 310 k ≤ 39) ∧ (0 ≤ M 311 k ∧ M 311 k ≤ 5) ∧ (0 ≤ M 312 k ∧ M 312 k ≤ 5) ∧ (1 ≤ M 313 k ∧ M 313 k ≤ 9)) ∧ (0 ≤ M 1 11 ∧ M 1 11 ≤ 12)
theorem jR_iff {M : TM} : uOk (uM M) ↔ jR M := by
  constructor
  · rintro ⟨h1, h2, h3, h4, h5, h6, h7⟩
    exact ⟨h1, h2, h3, h4, h5, fun k a b => h6 k a b, h7⟩
  · rintro ⟨h1, h2, h3, h4, h5, h6, h7⟩
    exact ⟨h1, h2, h3, h4, h5, fun k a b => h6 k a b, h7⟩
theorem jD.r {M : TM} (h : jD M) : jR M := jR_iff.mp h.1
theorem jD.mk {M : TM} (h : jR M) (h1 : M 106 0 = M 201 0) (h2 : M 106 1 = M 201 1) (h3 : ∀ k : Int, 0 ≤ k → k < M 201 0 → M 105 k = M 300 k) (h4 : ∀ k : Int, 0 ≤ k → k < M 201 1 → M 105 (60 + k) = M 301 k) (h5 : M 2 12 = M 1 9) (h6 : ∀ k j : Int, 0 ≤ k → k < M 1 9 → 0 ≤ j → j ≤ 3 → M 113 (4 * k + j) = M (310 + j) k) (h7 : M 2 14 = M 1 11) : jD M := ⟨jR_iff.mpr h, h1, h2, h3, h4, h5, h6, h7⟩
theorem jI.sh {w : WT} {R M M' : TM} (h : jI w R M) (k : ∀ a b : Int, ((100 ≤ a ∧ a ≤ 102) ∨ (600 ≤ a ∧ a ≤ 603) ∨ 2000 ≤ a) → M' a b = M a b) : jSh w R M' := h.2.2.2.1.keep (fun _ _ _ => rfl) k
theorem j_type {w : WT} {R M M1 M2 : TM} {t b z1 z2 : Int} (h : jI w R M) (h1 : ((t < 0 ∨ 1 < t ∨ b < 0 ∨ 255 < b) ∧ z1 = -2 ∧ M1 = M) ∨ ((0 ≤ t ∧ t ≤ 1 ∧ 0 ≤ b ∧ b ≤ 255) ∧ ((M 201 t = 59 - 36 * t ∧ z1 = -4 ∧ M1 = M) ∨ (M 201 t < 59 - 36 * t ∧ z1 = M 201 t + 1 ∧ M1 = up (up (up M (300 + t) (M 201 t) b) 201 t (M 201 t + 1)) 1 2 0))))
    (h2 : ((t < 0 ∨ 1 < t ∨ b < 0 ∨ 255 < b) ∧ z2 = -2 ∧ M2 = M1) ∨ ((0 ≤ t ∧ t ≤ 1 ∧ 0 ≤ b ∧ b ≤ 255) ∧ ((M1 106 t = 59 - 36 * t ∧ z2 = -4 ∧ M2 = M1) ∨ (M1 106 t < 59 - 36 * t ∧ z2 = M1 106 t + 1 ∧ M2 = up (up M1 105 (60 * t + M1 106 t) b) 106 t (M1 106 t + 1))))) : z1 = z2 ∧ jI w R M2 := by
  obtain ⟨i1, ⟨d1, d2, d3, d4, d5, d6, d7, d8⟩, i3, i4, i5, i6⟩ := id h
  rcases h1 with ⟨a1, a2, rfl⟩ | ⟨a1, ⟨a2, a3, rfl⟩ | ⟨a2, a3, rfl⟩⟩
  · rcases h2 with ⟨b1, b2, rfl⟩ | ⟨b1, -⟩
    · exact ⟨by omega, h⟩
    · omega
  · rcases h2 with ⟨b1, -⟩ | ⟨b1, ⟨b2, b3, rfl⟩ | ⟨b2, -⟩⟩
    · omega
    · exact ⟨by omega, h⟩
    · have : M1 106 t = M1 201 t := by
        rcases (show t = 0 ∨ t = 1 by omega) with e | e <;> subst e <;> assumption
      omega
  · have em : up (up (up M (300 + t) (M 201 t) b) 201 t (M 201 t + 1)) 1 2 0 106 t = M 201 t := by
      (repeat rw [up_n (by omega)])
      rcases (show t = 0 ∨ t = 1 by omega) with e | e <;> subst e <;> assumption
    rw [em] at h2
    rcases h2 with ⟨b1, -⟩ | ⟨b1, ⟨b2, -⟩ | ⟨b2, b3, rfl⟩⟩
    · omega
    · omega
    · refine ⟨by omega, i1, ?_, Or.inl ?_, h.sh (fun a q hq => ?_), ?_, i6⟩
      · obtain ⟨o1, o2, o3, o4, o5, o6, o7⟩ := jD.r ⟨d1, d2, d3, d4, d5, d6, d7, d8⟩
        rcases (show t = 0 ∨ t = 1 by omega) with e | e <;> subst e
        · refine jD.mk ⟨?_, ?_, fun k k1 k2 => ?_, fun k k1 k2 => ?_, ?_, fun k k1 k2 => ?_, ?_⟩ ?_ ?_ (fun k k1 k2 => ?_) (fun k k1 k2 => ?_) ?_ (fun k j k1 k2 k3 k4 => ?_) ?_
          · (try simp [up]); omega
          · (try simp [up]); exact o2
          · (try simp [up] at k2); (try simp [up]); by_cases e : k = M 201 0
            · rw [if_pos e]; omega
            · rw [if_neg e]; exact o3 k k1 (by omega)
          · (try simp [up] at k2); (try simp [up]); exact o4 k k1 k2
          · (try simp [up]); exact o5
          · (try simp [up] at k2); (try simp [up]); exact o6 k k1 k2
          · (try simp [up]); exact o7
          · (try simp [up])
          · (try simp [up]); exact d3
          · (try simp [up] at k2); (try simp [up]); by_cases e : k = M 201 0
            · rw [if_pos e, if_pos e]
            · rw [if_neg e, if_neg e]; exact d4 k k1 (by omega)
          · (try simp [up] at k2); (try simp [up]); rw [if_neg (by omega)]; exact d5 k k1 k2
          · (try simp [up]); exact d6
          · (try simp [up] at k2); rw [up_n (by omega), up_n (by omega), up_n (by omega), up_n (by omega), up_n (by omega)]; (repeat rw [up_n (by omega)]); exact d7 k j k1 k2 k3 k4
          · (try simp [up]); exact d8
        · refine jD.mk ⟨?_, ?_, fun k k1 k2 => ?_, fun k k1 k2 => ?_, ?_, fun k k1 k2 => ?_, ?_⟩ ?_ ?_ (fun k k1 k2 => ?_) (fun k k1 k2 => ?_) ?_ (fun k j k1 k2 k3 k4 => ?_) ?_
          · (try simp [up]); exact o1
          · (try simp [up]); omega
          · (try simp [up] at k2); (try simp [up]); exact o3 k k1 k2
          · (try simp [up] at k2); (try simp [up]); by_cases e : k = M 201 1
            · rw [if_pos e]; omega
            · rw [if_neg e]; exact o4 k k1 (by omega)
          · (try simp [up]); exact o5
          · (try simp [up] at k2); (try simp [up]); exact o6 k k1 k2
          · (try simp [up]); exact o7
          · (try simp [up]); exact d2
          · (try simp [up])
          · (try simp [up] at k2); (try simp [up]); rw [if_neg (by omega)]; exact d4 k k1 k2
          · (try simp [up] at k2); (try simp [up]); by_cases e : k = M 201 1
            · rw [if_pos (by omega), if_pos e]
            · rw [if_neg (by omega), if_neg e]; exact d5 k k1 (by omega)
          · (try simp [up]); exact d6
          · (try simp [up] at k2); (repeat rw [up_n (by omega)]); exact d7 k j k1 k2 k3 k4
          · (try simp [up]); exact d8
      · (repeat rw [up_n (by omega)])
        exact up_s
      · (repeat rw [up_n (by omega)])
      · (repeat rw [up_n (by omega)])
        exact i5
theorem txt_keep {M M' : TM} (k : ∀ a b : Int, (a = 300 ∨ a = 301 ∨ a = 201) → M' a b = M a b) : uf0 (uM M') = uf0 (uM M) ∧ un0 (uM M') = un0 (uM M) ∧ uf1 (uM M') = uf1 (uM M) ∧ un1 (uM M') = un1 (uM M) := ⟨funext fun x => k _ _ (by omega), k _ _ (by omega), funext fun x => k _ _ (by omega), k _ _ (by omega)⟩
theorem jD.t {M : TM} (h : jD M) {t : Int} (ht : 0 ≤ t ∧ t ≤ 1) : M 106 t = M 201 t := by
  rcases (show t = 0 ∨ t = 1 by omega) with e | e <;> subst e
  · exact h.2.1
  · exact h.2.2.1
/-- a text gets shorter: M' has no more of it -/
theorem j_short {w : WT} {R M M2 : TM} {t v : Int} (h : jI w R M) (ht : 0 ≤ t ∧ t ≤ 1) (hv : 0 ≤ v ∧ v ≤ M 201 t) (e : M2 = up (up (up M 201 t v) 1 2 0) 106 t v) : jI w R M2 := by
  obtain ⟨i1, d, i3, i4, i5, i6⟩ := id h
  obtain ⟨d1, d2, d3, d4, d5, d6, d7, d8⟩ := id d
  obtain ⟨o1, o2, o3, o4, o5, o6, o7⟩ := d.r
  subst e
  refine ⟨i1, ?_, Or.inl ?_, h.sh (fun a q hq => ?_), ?_, i6⟩
  · rcases (show t = 0 ∨ t = 1 by omega) with e | e <;> subst e
    · refine jD.mk ⟨?_, ?_, fun k k1 k2 => ?_, fun k k1 k2 => ?_, ?_, fun k k1 k2 => ?_, ?_⟩ ?_ ?_ (fun k k1 k2 => ?_) (fun k k1 k2 => ?_) ?_ (fun k j k1 k2 k3 k4 => ?_) ?_
      · (try simp [up]); omega
      · (try simp [up]); exact o2
      · (try simp [up] at k2); (try simp [up]); exact o3 k k1 (by omega)
      · (try simp [up] at k2); (try simp [up]); exact o4 k k1 k2
      · (try simp [up]); exact o5
      · (try simp [up] at k2); (try simp [up]); exact o6 k k1 k2
      · (try simp [up]); exact o7
      · (try simp [up])
      · (try simp [up]); exact d3
      · (try simp [up] at k2); (try simp [up]); exact d4 k k1 (by omega)
      · (try simp [up] at k2); (try simp [up]); exact d5 k k1 k2
      · (try simp [up]); exact d6
      · (try simp [up] at k2); (repeat rw [up_n (by omega)]); exact d7 k j k1 k2 k3 k4
      · (try simp [up]); exact d8
    · refine jD.mk ⟨?_, ?_, fun k k1 k2 => ?_, fun k k1 k2 => ?_, ?_, fun k k1 k2 => ?_, ?_⟩ ?_ ?_ (fun k k1 k2 => ?_) (fun k k1 k2 => ?_) ?_ (fun k j k1 k2 k3 k4 => ?_) ?_
      · (try simp [up]); exact o1
      · (try simp [up]); omega
      · (try simp [up] at k2); (try simp [up]); exact o3 k k1 k2
      · (try simp [up] at k2); (try simp [up]); exact o4 k k1 (by omega)
      · (try simp [up]); exact o5
      · (try simp [up] at k2); (try simp [up]); exact o6 k k1 k2
      · (try simp [up]); exact o7
      · (try simp [up]); exact d2
      · (try simp [up])
      · (try simp [up] at k2); (try simp [up]); exact d4 k k1 k2
      · (try simp [up] at k2); (try simp [up]); exact d5 k k1 (by omega)
      · (try simp [up]); exact d6
      · (try simp [up] at k2); (repeat rw [up_n (by omega)]); exact d7 k j k1 k2 k3 k4
      · (try simp [up]); exact d8
  · (repeat rw [up_n (by omega)])
    exact up_s
  · (repeat rw [up_n (by omega)])
  · (repeat rw [up_n (by omega)])
    exact i5
theorem j_wipe {w : WT} {R M M1 M2 : TM} {t z1 z2 : Int} (h : jI w R M) (h1 : ((t < 0 ∨ 1 < t) ∧ z1 = -2 ∧ M1 = M) ∨ ((0 ≤ t ∧ t ≤ 1) ∧ z1 = M 201 t ∧ M1 = up (up M 201 t 0) 1 2 0)) (h2 : ((t < 0 ∨ 1 < t) ∧ z2 = -2 ∧ M2 = M1) ∨ ((0 ≤ t ∧ t ≤ 1) ∧ z2 = M1 106 t ∧ M2 = up M1 106 t 0)) : z1 = z2 ∧ jI w R M2 := by
  rcases h1 with ⟨a1, a2, rfl⟩ | ⟨a1, a2, rfl⟩
  · rcases h2 with ⟨b1, b2, rfl⟩ | ⟨b1, -⟩
    · exact ⟨by omega, h⟩
    · omega
  · rcases h2 with ⟨b1, -⟩ | ⟨b1, b2, rfl⟩
    · omega
    · rw [up_n (by omega), up_n (by omega), h.2.1.t a1] at b2
      have o := h.2.1.r
      have : 0 ≤ M 201 t := by
        rcases (show t = 0 ∨ t = 1 by omega) with e | e <;> subst e
        · exact o.1.1
        · exact o.2.1.1
      exact ⟨by omega, j_short h a1 ⟨by omega, this⟩ rfl⟩
theorem j_undo {w : WT} {R M M1 M2 : TM} {t z1 z2 : Int} (h : jI w R M) (h1 : ((t < 0 ∨ 1 < t) ∧ z1 = -2 ∧ M1 = M) ∨ ((0 ≤ t ∧ t ≤ 1) ∧ ((M 201 t = 0 ∧ z1 = -3 ∧ M1 = M) ∨ (0 < M 201 t ∧ z1 = M 201 t - 1 ∧ M1 = up (up M 201 t (M 201 t - 1)) 1 2 0)))) (h2 : ((t < 0 ∨ 1 < t) ∧ z2 = -2 ∧ M2 = M1) ∨ ((0 ≤ t ∧ t ≤ 1) ∧ ((M1 106 t = 0 ∧ z2 = -3 ∧ M2 = M1) ∨ (0 < M1 106 t ∧ z2 = M1 106 t - 1 ∧ M2 = up M1 106 t (M1 106 t - 1))))) : z1 = z2 ∧ jI w R M2 := by
  rcases h1 with ⟨a1, a2, rfl⟩ | ⟨a1, ⟨a2, a3, rfl⟩ | ⟨a2, a3, rfl⟩⟩
  · rcases h2 with ⟨b1, b2, rfl⟩ | ⟨b1, -⟩
    · exact ⟨by omega, h⟩
    · omega
  · rw [h.2.1.t a1] at h2
    rcases h2 with ⟨b1, -⟩ | ⟨b1, ⟨b2, b3, rfl⟩ | ⟨b2, -⟩⟩
    · omega
    · exact ⟨by omega, h⟩
    · omega
  · rw [up_n (by omega), up_n (by omega), h.2.1.t a1] at h2
    rcases h2 with ⟨b1, -⟩ | ⟨b1, ⟨b2, -⟩ | ⟨b2, b3, rfl⟩⟩
    · omega
    · omega
    · exact ⟨by omega, j_short h a1 ⟨by omega, by omega⟩ rfl⟩
theorem j_back {w : WT} {R M M1 M2 : TM} {z1 z2 : Int} (h : jI w R M) (h1 : (M 1 9 = 0 ∧ z1 = -3 ∧ M1 = M) ∨ (0 < M 1 9 ∧ z1 = M 1 9 - 1 ∧ M1 = up M 1 9 (M 1 9 - 1))) (h2 : (M1 2 12 = 0 ∧ z2 = -3 ∧ M2 = M1) ∨ (0 < M1 2 12 ∧ z2 = M1 2 12 - 1 ∧ M2 = up M1 2 12 (M1 2 12 - 1))) : z1 = z2 ∧ jI w R M2 := by
  obtain ⟨i1, d, i3, i4, i5, i6⟩ := id h
  obtain ⟨d1, d2, d3, d4, d5, d6, d7, d8⟩ := id d
  obtain ⟨o1, o2, o3, o4, o5, o6, o7⟩ := d.r
  rcases h1 with ⟨a1, a2, rfl⟩ | ⟨a1, a2, rfl⟩
  · rw [d6] at h2
    rcases h2 with ⟨b1, b2, rfl⟩ | ⟨b1, -⟩
    · exact ⟨by omega, h⟩
    · omega
  · rw [up_n (by omega), d6] at h2
    rcases h2 with ⟨b1, -⟩ | ⟨b1, b2, rfl⟩
    · omega
    · refine ⟨by omega, i1, ?_, rd_keep d1 i3 ?_ (fun a q hq => ?_), h.sh (fun a q hq => ?_), ?_, i6⟩
      · refine jD.mk ⟨?_, ?_, fun k k1 k2 => ?_, fun k k1 k2 => ?_, ?_, fun k k1 k2 => ?_, ?_⟩ ?_ ?_ (fun k k1 k2 => ?_) (fun k k1 k2 => ?_) ?_ (fun k j k1 k2 k3 k4 => ?_) ?_
        · (try simp [up]); exact o1
        · (try simp [up]); exact o2
        · (try simp [up] at k2); (try simp [up]); exact o3 k k1 k2
        · (try simp [up] at k2); (try simp [up]); exact o4 k k1 k2
        · (try simp [up]); omega
        · (try simp [up] at k2); (try simp [up]); exact o6 k k1 (by omega)
        · (try simp [up]); exact o7
        · (try simp [up]); exact d2
        · (try simp [up]); exact d3
        · (try simp [up] at k2); (try simp [up]); exact d4 k k1 k2
        · (try simp [up] at k2); (try simp [up]); exact d5 k k1 k2
        · (try simp [up])
        · (try simp [up] at k2); (repeat rw [up_n (by omega)]); exact d7 k j k1 (by omega) k3 k4
        · (try simp [up]); exact d8
      · exact txt_keep (fun a b q => by (repeat rw [up_n (by omega)]))
      · (repeat rw [up_n (by omega)])
      · (repeat rw [up_n (by omega)])
      · (repeat rw [up_n (by omega)])
        exact i5
theorem j_ear {w : WT} {R M M1 M2 : TM} {v z1 z2 : Int} (h : jI w R M) (h1 : ((v < 0 ∨ 12 < v) ∧ z1 = -2 ∧ M1 = M) ∨ ((0 ≤ v ∧ v ≤ 12) ∧ z1 = M 1 11 ∧ M1 = up M 1 11 v)) (h2 : ((v < 0 ∨ 12 < v) ∧ z2 = -2 ∧ M2 = M1) ∨ ((0 ≤ v ∧ v ≤ 12) ∧ z2 = M1 2 14 ∧ M2 = up M1 2 14 v)) : z1 = z2 ∧ jI w R M2 := by
  obtain ⟨i1, d, i3, i4, i5, i6⟩ := id h
  obtain ⟨d1, d2, d3, d4, d5, d6, d7, d8⟩ := id d
  obtain ⟨o1, o2, o3, o4, o5, o6, o7⟩ := d.r
  rcases h1 with ⟨a1, a2, rfl⟩ | ⟨a1, a2, rfl⟩
  · rcases h2 with ⟨b1, b2, rfl⟩ | ⟨b1, -⟩
    · exact ⟨by omega, h⟩
    · omega
  · rw [up_n (by omega), d8] at h2
    rcases h2 with ⟨b1, -⟩ | ⟨b1, b2, rfl⟩
    · omega
    · refine ⟨by omega, i1, ?_, rd_keep d1 i3 ?_ (fun a q hq => ?_), h.sh (fun a q hq => ?_), ?_, i6⟩
      · refine jD.mk ⟨?_, ?_, fun k k1 k2 => ?_, fun k k1 k2 => ?_, ?_, fun k k1 k2 => ?_, ?_⟩ ?_ ?_ (fun k k1 k2 => ?_) (fun k k1 k2 => ?_) ?_ (fun k j k1 k2 k3 k4 => ?_) ?_
        · (try simp [up]); exact o1
        · (try simp [up]); exact o2
        · (try simp [up] at k2); (try simp [up]); exact o3 k k1 k2
        · (try simp [up] at k2); (try simp [up]); exact o4 k k1 k2
        · (try simp [up]); exact o5
        · (try simp [up] at k2); (try simp [up]); exact o6 k k1 k2
        · (try simp [up]); omega
        · (try simp [up]); exact d2
        · (try simp [up]); exact d3
        · (try simp [up] at k2); (try simp [up]); exact d4 k k1 k2
        · (try simp [up] at k2); (try simp [up]); exact d5 k k1 k2
        · (try simp [up]); exact d6
        · (try simp [up] at k2); (repeat rw [up_n (by omega)]); exact d7 k j k1 k2 k3 k4
        · (try simp [up])
      · exact txt_keep (fun a b q => by (repeat rw [up_n (by omega)]))
      · (repeat rw [up_n (by omega)])
      · (repeat rw [up_n (by omega)])
      · (repeat rw [up_n (by omega)])
        exact i5
/-- more loans on both sides, the same -/
theorem j_loans {w : WT} {R M M2 : TM} {n : Int} (q : Int → Int → Int) (h : jI w R M) (hn : 0 ≤ n ∧ M 1 9 + n ≤ 12) (hq : ∀ k : Int, 0 ≤ k → k < n → okL q k) (e1 : M2 1 9 = M 1 9 + n) (e2 : M2 2 12 = M 1 9 + n) (c1 : ∀ k j : Int, 0 ≤ k → k < n → 0 ≤ j → j ≤ 3 → M2 (310 + j) (M 1 9 + k) = q k j) (c2 : ∀ k j : Int, 0 ≤ k → k < n → 0 ≤ j → j ≤ 3 → M2 113 (4 * (M 1 9 + k) + j) = q k j) (hk : ∀ a b : Int, ((a < 310 ∨ 313 < a ∨ b < M 1 9) ∧ (a ≠ 1 ∨ b ≠ 9) ∧ (a ≠ 113 ∨ b < 4 * M 1 9) ∧ (a ≠ 2 ∨ b ≠ 12)) → M2 a b = M a b) : jI w R M2 := by
  obtain ⟨i1, d, i3, i4, i5, i6⟩ := id h
  obtain ⟨d1, d2, d3, d4, d5, d6, d7, d8⟩ := id d
  obtain ⟨o1, o2, o3, o4, o5, o6, o7⟩ := d.r
  refine ⟨i1, ?_, rd_keep d1 i3 ?_ (fun a b hb => hk a b (by omega)), h.sh (fun a b hb => hk a b (by omega)), by rw [hk 1 22 (by omega), hk 2 4 (by omega)]; exact i5, i6⟩
  · have g0 := hk 201 0 (by omega)
    have g1 := hk 201 1 (by omega)
    refine jD.mk ⟨by omega, by omega, fun k k1 k2 => ?_, fun k k1 k2 => ?_, by omega, fun k k1 k2 => ?_, ?_⟩ ?_ ?_ (fun k k1 k2 => ?_) (fun k k1 k2 => ?_) (by omega) (fun k j k1 k2 k3 k4 => ?_) ?_
    · rw [hk 300 _ (by omega)]; exact o3 k k1 (by omega)
    · rw [hk 301 _ (by omega)]; exact o4 k k1 (by omega)
    · by_cases e : k < M 1 9
      · rw [hk 310 _ (by omega), hk 311 _ (by omega), hk 312 _ (by omega), hk 313 _ (by omega)]; exact o6 k k1 e
      · have a0 := c1 (k - M 1 9) 0 (by omega) (by omega) (by omega) (by omega)
        have a1 := c1 (k - M 1 9) 1 (by omega) (by omega) (by omega) (by omega)
        have a2 := c1 (k - M 1 9) 2 (by omega) (by omega) (by omega) (by omega)
        have a3 := c1 (k - M 1 9) 3 (by omega) (by omega) (by omega) (by omega)
        rw [show M 1 9 + (k - M 1 9) = k by omega] at a0 a1 a2 a3
        have a0 : M2 310 k = q (k - M 1 9) 0 := a0
        have a1 : M2 311 k = q (k - M 1 9) 1 := a1
        have a2 : M2 312 k = q (k - M 1 9) 2 := a2
        have a3 : M2 313 k = q (k - M 1 9) 3 := a3
        rw [a0, a1, a2, a3]
        exact hq _ (by omega) (by omega)
    · rw [hk 1 11 (by omega)]; exact o7
    · rw [g0, hk 106 0 (by omega)]; exact d2
    · rw [g1, hk 106 1 (by omega)]; exact d3
    · rw [hk 105 _ (by omega), hk 300 _ (by omega)]; exact d4 k k1 (by omega)
    · rw [hk 105 _ (by omega), hk 301 _ (by omega)]; exact d5 k k1 (by omega)
    · by_cases e : k < M 1 9
      · rw [hk 113 _ (by omega), hk (310 + j) _ (by omega)]; exact d7 k j k1 e k3 k4
      · have a0 := c1 (k - M 1 9) j (by omega) (by omega) k3 k4
        have a1 := c2 (k - M 1 9) j (by omega) (by omega) k3 k4
        rw [show M 1 9 + (k - M 1 9) = k by omega] at a0 a1
        rw [a0, a1]
    · rw [hk 2 14 (by omega), hk 1 11 (by omega)]; exact d8
  · exact ⟨funext fun x => hk 300 x (by omega), hk 201 0 (by omega), funext fun x => hk 301 x (by omega), hk 201 1 (by omega)⟩
theorem j_loan {w : WT} {R M M1 M2 : TM} {y t b n z1 z2 : Int} (h : jI w R M) (h1 : ((y < 0 ∨ 39 < y ∨ t < 0 ∨ 5 < t ∨ b < 0 ∨ 5 < b ∨ n < 1 ∨ 9 < n) ∧ z1 = -2 ∧ M1 = M) ∨ ((0 ≤ y ∧ y ≤ 39 ∧ 0 ≤ t ∧ t ≤ 5 ∧ 0 ≤ b ∧ b ≤ 5 ∧ 1 ≤ n ∧ n ≤ 9) ∧ ((M 1 9 = 12 ∧ z1 = -4 ∧ M1 = M) ∨ (M 1 9 < 12 ∧ z1 = M 1 9 + 1 ∧ M1 = up (up (up (up (up M 310 (M 1 9) y) 311 (M 1 9) t) 312 (M 1 9) b) 313 (M 1 9) n) 1 9 (M 1 9 + 1)))))
    (h2 : ((y < 0 ∨ 39 < y ∨ t < 0 ∨ 5 < t ∨ b < 0 ∨ 5 < b ∨ n < 1 ∨ 9 < n) ∧ z2 = -2 ∧ M2 = M1) ∨ ((0 ≤ y ∧ y ≤ 39 ∧ 0 ≤ t ∧ t ≤ 5 ∧ 0 ≤ b ∧ b ≤ 5 ∧ 1 ≤ n ∧ n ≤ 9) ∧ ((M1 2 12 = 12 ∧ z2 = -4 ∧ M2 = M1) ∨ (M1 2 12 < 12 ∧ z2 = M1 2 12 + 1 ∧ M2 = up (up (up (up (up M1 113 (4 * M1 2 12) y) 113 (4 * M1 2 12 + 1) t) 113 (4 * M1 2 12 + 2) b) 113 (4 * M1 2 12 + 3) n) 2 12 (M1 2 12 + 1))))) : z1 = z2 ∧ jI w R M2 := by
  have d6 := h.2.1.2.2.2.2.2.1
  have o5 := h.2.1.r.2.2.2.2.1
  rcases h1 with ⟨a1, a2, rfl⟩ | ⟨a1, ⟨a2, a3, rfl⟩ | ⟨a2, a3, e1⟩⟩
  · rcases h2 with ⟨b1, b2, rfl⟩ | ⟨b1, -⟩
    · exact ⟨by omega, h⟩
    · omega
  · rw [d6] at h2
    rcases h2 with ⟨b1, -⟩ | ⟨b1, ⟨b2, b3, rfl⟩ | ⟨b2, -⟩⟩
    · omega
    · exact ⟨by omega, h⟩
    · omega
  · have em : M1 2 12 = M 1 9 := by
      rw [e1]; (repeat rw [up_n (by omega)]); exact d6
    rw [em] at h2
    rcases h2 with ⟨b1, -⟩ | ⟨b1, ⟨b2, -⟩ | ⟨b2, b3, e2⟩⟩
    · omega
    · omega
    · refine ⟨by omega, j_loans (n := 1) (fun _ j => if j = 0 then y else if j = 1 then t else if j = 2 then b else n) h ⟨by omega, by omega⟩ (fun k k1 k2 => ?_) ?_ ?_ (fun k j k1 k2 k3 k4 => ?_) (fun k j k1 k2 k3 k4 => ?_) (fun a q hq => ?_)⟩
      · unfold okL
        simp
        omega
      · rw [e2, e1]; (repeat rw [up_n (by omega)]); exact up_s
      · rw [e2]; exact up_s
      · rw [show M 1 9 + k = M 1 9 by omega, e2, e1]
        rcases (show j = 0 ∨ j = 1 ∨ j = 2 ∨ j = 3 by omega) with e | e | e | e <;> subst e <;> simp [up]
      · rw [show 4 * (M 1 9 + k) + j = 4 * M 1 9 + j by omega, e2]
        rcases (show j = 0 ∨ j = 1 ∨ j = 2 ∨ j = 3 by omega) with e | e | e | e <;> subst e
        · rw [show 4 * M 1 9 + 0 = 4 * M 1 9 by omega]; (repeat rw [up_n (by omega)]); rw [up_s]; rfl
        · (repeat rw [up_n (by omega)]); rw [up_s]; rfl
        · (repeat rw [up_n (by omega)]); rw [up_s]; rfl
        · (repeat rw [up_n (by omega)]); rw [up_s]; rfl
      · rw [e2, e1]; (repeat rw [up_n (by omega)])

