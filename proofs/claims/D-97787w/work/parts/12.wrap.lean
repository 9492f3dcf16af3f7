/-! WRAP: where references lead (RL), one row a field of each class, calls by their number of arguments -/
set_option maxRecDepth 100000
/-- a Tune's cell -/
abbrev isTn (i : Int) : Prop := i = 218 ∨ i = 219 ∨ (400 ≤ i ∧ i ≤ 405) ∨ (410 ≤ i ∧ i ≤ 415) ∨ (420 ≤ i ∧ i ≤ 425)
/-- the references that never change -/
def RL (R : TM) : Prop := (∀ k : Int, R 2 k = 100 + k) ∧ (∀ k : Int, R 1 k = 200 + k) ∧ (∀ k : Int, R 200 k = 300 + k) ∧ (∀ k : Int, R 210 k = 310 + k) ∧ (∀ k : Int, R 205 k = 400 + k) ∧ (∀ k : Int, R 212 k = 410 + k) ∧ (∀ k : Int, R 213 k = 420 + k) ∧ (∀ i : Int, isTn i → R i 0 = i + 1000) ∧ (∀ k : Int, R 207 k = 320 + k) ∧ (∀ j k : Int, 0 ≤ j → j ≤ 2 → R (320 + j) k = 500 + 10 * j + k) ∧ (∀ k : Int, R 221 k = 600 + k)
theorem sh_1 (w : WT) : tx_sh w 1 = (10 + 0, 0) := rfl
theorem sh_2 (w : WT) : tx_sh w 2 = (10 + 6, 0) := rfl
theorem sh_lo (w : WT) {i : Int} (h : i < 2000) : tx_sh w i = shS i := by simp [tx_sh, h]
theorem sh_t (w : WT) {i : Int} (h : isTn i) : tx_sh w i = (10 + 1, 0) := by
  rw [sh_lo w (by omega)]
  rcases h with e | e | e | e | e
  · subst e; rfl
  · subst e; rfl
  all_goals
    obtain ⟨j, hj⟩ : ∃ j : Nat, i = (i - j) + j := ⟨0, by omega⟩
    unfold shS
    repeat (first | rw [if_neg (by omega)] | rw [if_pos (by omega)])
theorem sh_tr (w : WT) {i : Int} (h : isTn i) : tx_sh w (i + 1000) = (1, 40) := by
  rw [sh_lo w (by omega)]
  unfold shS
  rcases h with e | e | e | e | e
  all_goals repeat (first | rw [if_neg (by omega)] | rw [if_pos (by omega)])
theorem sh_100 (w : WT) : tx_sh w 100 = (1, 4) := rfl
theorem sh_101 (w : WT) : tx_sh w 101 = (1, 4) := rfl
theorem sh_102 (w : WT) : tx_sh w 102 = (1, 240) := rfl
theorem sh_103 (w : WT) : tx_sh w 103 = (1, 60) := rfl
theorem sh_105 (w : WT) : tx_sh w 105 = (1, 120) := rfl
theorem sh_106 (w : WT) : tx_sh w 106 = (1, 2) := rfl
theorem sh_108 (w : WT) : tx_sh w 108 = (1, 240) := rfl
theorem sh_109 (w : WT) : tx_sh w 109 = (1, 6) := rfl
theorem sh_111 (w : WT) : tx_sh w 111 = (1, 18) := rfl
theorem sh_113 (w : WT) : tx_sh w 113 = (1, 48) := rfl
theorem sh_115 (w : WT) : tx_sh w 115 = (1, 280) := rfl
theorem sh_116 (w : WT) : tx_sh w 116 = (1, 7) := rfl
theorem sh_117 (w : WT) : tx_sh w 117 = (1, 240) := rfl
theorem sh_118 (w : WT) : tx_sh w 118 = (1, 6) := rfl
theorem sh_119 (w : WT) : tx_sh w 119 = (1, 6) := rfl
theorem sh_120 (w : WT) : tx_sh w 120 = (1, 6) := rfl
theorem sh_121 (w : WT) : tx_sh w 121 = (1, 12) := rfl
theorem sh_122 (w : WT) : tx_sh w 122 = (1, 12) := rfl
theorem sh_123 (w : WT) : tx_sh w 123 = (1, 12) := rfl
theorem sh_124 (w : WT) : tx_sh w 124 = (1, 80) := rfl
theorem sh_125 (w : WT) : tx_sh w 125 = (1, 41) := rfl
theorem sh_200 (w : WT) : tx_sh w 200 = (5, 2) := rfl
theorem sh_201 (w : WT) : tx_sh w 201 = (1, 2) := rfl
theorem sh_203 (w : WT) : tx_sh w 203 = (1, 2) := rfl
theorem sh_205 (w : WT) : tx_sh w 205 = (6, 6) := rfl
theorem sh_207 (w : WT) : tx_sh w 207 = (7, 3) := rfl
theorem sh_208 (w : WT) : tx_sh w 208 = (8, 6) := rfl
theorem sh_210 (w : WT) : tx_sh w 210 = (5, 4) := rfl
theorem sh_212 (w : WT) : tx_sh w 212 = (6, 6) := rfl
theorem sh_213 (w : WT) : tx_sh w 213 = (6, 6) := rfl
theorem sh_214 (w : WT) : tx_sh w 214 = (1, 6) := rfl
theorem sh_215 (w : WT) : tx_sh w 215 = (2, 12) := rfl
theorem sh_216 (w : WT) : tx_sh w 216 = (2, 12) := rfl
theorem sh_217 (w : WT) : tx_sh w 217 = (1, 12) := rfl
theorem sh_220 (w : WT) : tx_sh w 220 = (1, 41) := rfl
theorem sh_221 (w : WT) : tx_sh w 221 = (9, 4) := rfl
theorem sh_300 (w : WT) : tx_sh w 300 = (1, 59) := rfl
theorem sh_301 (w : WT) : tx_sh w 301 = (1, 23) := rfl
theorem sh_310 (w : WT) : tx_sh w 310 = (1, 12) := rfl
theorem sh_311 (w : WT) : tx_sh w 311 = (1, 12) := rfl
theorem sh_312 (w : WT) : tx_sh w 312 = (1, 12) := rfl
theorem sh_313 (w : WT) : tx_sh w 313 = (1, 12) := rfl
theorem sh_320 (w : WT) : tx_sh w 320 = (8, 6) := rfl
theorem sh_321 (w : WT) : tx_sh w 321 = (8, 6) := rfl
theorem sh_322 (w : WT) : tx_sh w 322 = (8, 6) := rfl
section WRAP
variable {w : WT} {E : ET} {own : String} {cc : ByteArray} {nL fr pc : Nat} {lv : List (Nat × Value)} {st : List Value} {R M : TM}
theorem fX1_9 {i : Int} (O : tx_O w RX1 cc nL fr E) (hi : isTn i) (hR : RL R) (hd : decode cc pc = .ok (.getfield 9, 3)) (k : tx_X w E (pc + 3) lv (rV (wa w) (i + 1000) :: st) R M) : tx_X w E pc lv (rV (wa w) i :: st) R M := tx_getr (C := RX1) (T := TX1) (N := 2) 0 O hd (sh_t w hi) rfl (by decide) ⟨rfl, rfl, rfl⟩ rfl q486 (by rw [show R i ((0 : Nat) : Int) = i + 1000 from hR.2.2.2.2.2.2.2.1 i hi]; exact k)
theorem fX3_25 {i : Int} (O : tx_O w RX3 cc nL fr E) (hi : isTn i) (hR : RL R) (hd : decode cc pc = .ok (.getfield 25, 3)) (k : tx_X w E (pc + 3) lv (rV (wa w) (i + 1000) :: st) R M) : tx_X w E pc lv (rV (wa w) i :: st) R M := tx_getr (C := RX1) (T := TX1) (N := 2) 0 O hd (sh_t w hi) rfl (by decide) ⟨rfl, rfl, rfl⟩ rfl q487 (by rw [show R i ((0 : Nat) : Int) = i + 1000 from hR.2.2.2.2.2.2.2.1 i hi]; exact k)
theorem fX0_83 {i : Int} (O : tx_O w RX0 cc nL fr E) (hi : isTn i) (hR : RL R) (hd : decode cc pc = .ok (.getfield 83, 3)) (k : tx_X w E (pc + 3) lv (rV (wa w) (i + 1000) :: st) R M) : tx_X w E pc lv (rV (wa w) i :: st) R M := tx_getr (C := RX1) (T := TX1) (N := 2) 0 O hd (sh_t w hi) rfl (by decide) ⟨rfl, rfl, rfl⟩ rfl q488 (by rw [show R i ((0 : Nat) : Int) = i + 1000 from hR.2.2.2.2.2.2.2.1 i hi]; exact k)
theorem fX1_21 {i : Int} (O : tx_O w RX1 cc nL fr E) (hi : isTn i) (hd : decode cc pc = .ok (.getfield 21, 3)) (k : tx_X w E (pc + 3) lv (iV (M i 1) :: st) R M) : tx_X w E pc lv (rV (wa w) i :: st) R M := tx_geti (C := RX1) (T := TX1) (N := 2) 1 O hd (sh_t w hi) rfl (by decide) ⟨rfl, rfl, rfl⟩ rfl q489 k
theorem fX1_21p {i v : Int} (O : tx_O w RX1 cc nL fr E) (hi : isTn i) (hd : decode cc pc = .ok (.putfield 21, 3)) (k : tx_X w E (pc + 3) lv st R (up M i 1 v)) : tx_X w E pc lv (iV v :: rV (wa w) i :: st) R M := tx_puti (C := RX1) (T := TX1) (N := 2) 1 O hd (sh_t w hi) rfl (by decide) ⟨rfl, rfl, rfl⟩ rfl rfl q489 ⟨rfl, rfl⟩ k
theorem fX3_22 {i : Int} (O : tx_O w RX3 cc nL fr E) (hi : isTn i) (hd : decode cc pc = .ok (.getfield 22, 3)) (k : tx_X w E (pc + 3) lv (iV (M i 1) :: st) R M) : tx_X w E pc lv (rV (wa w) i :: st) R M := tx_geti (C := RX1) (T := TX1) (N := 2) 1 O hd (sh_t w hi) rfl (by decide) ⟨rfl, rfl, rfl⟩ rfl q490 k
theorem fX3_22p {i v : Int} (O : tx_O w RX3 cc nL fr E) (hi : isTn i) (hd : decode cc pc = .ok (.putfield 22, 3)) (k : tx_X w E (pc + 3) lv st R (up M i 1 v)) : tx_X w E pc lv (iV v :: rV (wa w) i :: st) R M := tx_puti (C := RX1) (T := TX1) (N := 2) 1 O hd (sh_t w hi) rfl (by decide) ⟨rfl, rfl, rfl⟩ rfl rfl q490 ⟨rfl, rfl⟩ k
theorem fX0_37 {i : Int} (O : tx_O w RX0 cc nL fr E) (hi : isTn i) (hd : decode cc pc = .ok (.getfield 37, 3)) (k : tx_X w E (pc + 3) lv (iV (M i 1) :: st) R M) : tx_X w E pc lv (rV (wa w) i :: st) R M := tx_geti (C := RX1) (T := TX1) (N := 2) 1 O hd (sh_t w hi) rfl (by decide) ⟨rfl, rfl, rfl⟩ rfl q491 k
theorem fX0_37p {i v : Int} (O : tx_O w RX0 cc nL fr E) (hi : isTn i) (hd : decode cc pc = .ok (.putfield 37, 3)) (k : tx_X w E (pc + 3) lv st R (up M i 1 v)) : tx_X w E pc lv (iV v :: rV (wa w) i :: st) R M := tx_puti (C := RX1) (T := TX1) (N := 2) 1 O hd (sh_t w hi) rfl (by decide) ⟨rfl, rfl, rfl⟩ rfl rfl q491 ⟨rfl, rfl⟩ k
theorem fX0_17 (O : tx_O w RX0 cc nL fr E) (hR : RL R) (hd : decode cc pc = .ok (.getfield 17, 3)) (k : tx_X w E (pc + 3) lv (rV (wa w) 200 :: st) R M) : tx_X w E pc lv (rV (wa w) 1 :: st) R M := tx_getr (C := RX0) (T := TX0) (N := 23) 0 O hd (sh_1 w) rfl (by decide) ⟨rfl, rfl, rfl⟩ rfl q548 (by rw [show R 1 ((0 : Nat) : Int) = 200 from hR.2.1 0]; exact k)
theorem fX0_13 (O : tx_O w RX0 cc nL fr E) (hR : RL R) (hd : decode cc pc = .ok (.getfield 13, 3)) (k : tx_X w E (pc + 3) lv (rV (wa w) 201 :: st) R M) : tx_X w E pc lv (rV (wa w) 1 :: st) R M := tx_getr (C := RX0) (T := TX0) (N := 23) 1 O hd (sh_1 w) rfl (by decide) ⟨rfl, rfl, rfl⟩ rfl q549 (by rw [show R 1 ((1 : Nat) : Int) = 201 from hR.2.1 1]; exact k)
theorem fX0_21 (O : tx_O w RX0 cc nL fr E) (hd : decode cc pc = .ok (.getfield 21, 3)) (k : tx_X w E (pc + 3) lv (iV (M 1 2) :: st) R M) : tx_X w E pc lv (rV (wa w) 1 :: st) R M := tx_geti (C := RX0) (T := TX0) (N := 23) 2 O hd (sh_1 w) rfl (by decide) ⟨rfl, rfl, rfl⟩ rfl q550 k
theorem fX0_21p {v : Int} (O : tx_O w RX0 cc nL fr E) (hd : decode cc pc = .ok (.putfield 21, 3)) (hv : v = 0 ∨ v = 1) (k : tx_X w E (pc + 3) lv st R (up M 1 2 v)) : tx_X w E pc lv (iV v :: rV (wa w) 1 :: st) R M := tx_puti (C := RX0) (T := TX0) (N := 23) 2 O hd (sh_1 w) rfl (by decide) ⟨rfl, rfl, rfl⟩ rfl rfl q550 ⟨nar_z hv, by rcases hv with e | e <;> subst e <;> rfl⟩ k
theorem fX0_65 (O : tx_O w RX0 cc nL fr E) (hR : RL R) (hd : decode cc pc = .ok (.getfield 65, 3)) (k : tx_X w E (pc + 3) lv (rV (wa w) 203 :: st) R M) : tx_X w E pc lv (rV (wa w) 1 :: st) R M := tx_getr (C := RX0) (T := TX0) (N := 23) 3 O hd (sh_1 w) rfl (by decide) ⟨rfl, rfl, rfl⟩ rfl q551 (by rw [show R 1 ((3 : Nat) : Int) = 203 from hR.2.1 3]; exact k)
theorem fX0_25 (O : tx_O w RX0 cc nL fr E) (hd : decode cc pc = .ok (.getfield 25, 3)) (k : tx_X w E (pc + 3) lv (iV (M 1 4) :: st) R M) : tx_X w E pc lv (rV (wa w) 1 :: st) R M := tx_geti (C := RX0) (T := TX0) (N := 23) 4 O hd (sh_1 w) rfl (by decide) ⟨rfl, rfl, rfl⟩ rfl q552 k
theorem fX0_25p {v : Int} (O : tx_O w RX0 cc nL fr E) (hd : decode cc pc = .ok (.putfield 25, 3)) (k : tx_X w E (pc + 3) lv st R (up M 1 4 v)) : tx_X w E pc lv (iV v :: rV (wa w) 1 :: st) R M := tx_puti (C := RX0) (T := TX0) (N := 23) 4 O hd (sh_1 w) rfl (by decide) ⟨rfl, rfl, rfl⟩ rfl rfl q552 ⟨rfl, rfl⟩ k
theorem fX0_33 (O : tx_O w RX0 cc nL fr E) (hR : RL R) (hd : decode cc pc = .ok (.getfield 33, 3)) (k : tx_X w E (pc + 3) lv (rV (wa w) 205 :: st) R M) : tx_X w E pc lv (rV (wa w) 1 :: st) R M := tx_getr (C := RX0) (T := TX0) (N := 23) 5 O hd (sh_1 w) rfl (by decide) ⟨rfl, rfl, rfl⟩ rfl q553 (by rw [show R 1 ((5 : Nat) : Int) = 205 from hR.2.1 5]; exact k)
theorem fX0_46 (O : tx_O w RX0 cc nL fr E) (hd : decode cc pc = .ok (.getfield 46, 3)) (k : tx_X w E (pc + 3) lv (iV (M 1 6) :: st) R M) : tx_X w E pc lv (rV (wa w) 1 :: st) R M := tx_geti (C := RX0) (T := TX0) (N := 23) 6 O hd (sh_1 w) rfl (by decide) ⟨rfl, rfl, rfl⟩ rfl q554 k
theorem fX0_46p {v : Int} (O : tx_O w RX0 cc nL fr E) (hd : decode cc pc = .ok (.putfield 46, 3)) (k : tx_X w E (pc + 3) lv st R (up M 1 6 v)) : tx_X w E pc lv (iV v :: rV (wa w) 1 :: st) R M := tx_puti (C := RX0) (T := TX0) (N := 23) 6 O hd (sh_1 w) rfl (by decide) ⟨rfl, rfl, rfl⟩ rfl rfl q554 ⟨rfl, rfl⟩ k
theorem fX0_53 (O : tx_O w RX0 cc nL fr E) (hR : RL R) (hd : decode cc pc = .ok (.getfield 53, 3)) (k : tx_X w E (pc + 3) lv (rV (wa w) 207 :: st) R M) : tx_X w E pc lv (rV (wa w) 1 :: st) R M := tx_getr (C := RX0) (T := TX0) (N := 23) 7 O hd (sh_1 w) rfl (by decide) ⟨rfl, rfl, rfl⟩ rfl q555 (by rw [show R 1 ((7 : Nat) : Int) = 207 from hR.2.1 7]; exact k)
theorem fX0_49 (O : tx_O w RX0 cc nL fr E) (hR : RL R) (hd : decode cc pc = .ok (.getfield 49, 3)) (k : tx_X w E (pc + 3) lv (rV (wa w) 208 :: st) R M) : tx_X w E pc lv (rV (wa w) 1 :: st) R M := tx_getr (C := RX0) (T := TX0) (N := 23) 8 O hd (sh_1 w) rfl (by decide) ⟨rfl, rfl, rfl⟩ rfl q556 (by rw [show R 1 ((8 : Nat) : Int) = 208 from hR.2.1 8]; exact k)
theorem fX0_108 (O : tx_O w RX0 cc nL fr E) (hd : decode cc pc = .ok (.getfield 108, 3)) (k : tx_X w E (pc + 3) lv (iV (M 1 9) :: st) R M) : tx_X w E pc lv (rV (wa w) 1 :: st) R M := tx_geti (C := RX0) (T := TX0) (N := 23) 9 O hd (sh_1 w) rfl (by decide) ⟨rfl, rfl, rfl⟩ rfl q557 k
theorem fX0_108p {v : Int} (O : tx_O w RX0 cc nL fr E) (hd : decode cc pc = .ok (.putfield 108, 3)) (k : tx_X w E (pc + 3) lv st R (up M 1 9 v)) : tx_X w E pc lv (iV v :: rV (wa w) 1 :: st) R M := tx_puti (C := RX0) (T := TX0) (N := 23) 9 O hd (sh_1 w) rfl (by decide) ⟨rfl, rfl, rfl⟩ rfl rfl q557 ⟨rfl, rfl⟩ k
theorem fX0_111 (O : tx_O w RX0 cc nL fr E) (hR : RL R) (hd : decode cc pc = .ok (.getfield 111, 3)) (k : tx_X w E (pc + 3) lv (rV (wa w) 210 :: st) R M) : tx_X w E pc lv (rV (wa w) 1 :: st) R M := tx_getr (C := RX0) (T := TX0) (N := 23) 10 O hd (sh_1 w) rfl (by decide) ⟨rfl, rfl, rfl⟩ rfl q558 (by rw [show R 1 ((10 : Nat) : Int) = 210 from hR.2.1 10]; exact k)
theorem fX0_138 (O : tx_O w RX0 cc nL fr E) (hd : decode cc pc = .ok (.getfield 138, 3)) (k : tx_X w E (pc + 3) lv (iV (M 1 11) :: st) R M) : tx_X w E pc lv (rV (wa w) 1 :: st) R M := tx_geti (C := RX0) (T := TX0) (N := 23) 11 O hd (sh_1 w) rfl (by decide) ⟨rfl, rfl, rfl⟩ rfl q559 k
theorem fX0_138p {v : Int} (O : tx_O w RX0 cc nL fr E) (hd : decode cc pc = .ok (.putfield 138, 3)) (k : tx_X w E (pc + 3) lv st R (up M 1 11 v)) : tx_X w E pc lv (iV v :: rV (wa w) 1 :: st) R M := tx_puti (C := RX0) (T := TX0) (N := 23) 11 O hd (sh_1 w) rfl (by decide) ⟨rfl, rfl, rfl⟩ rfl rfl q559 ⟨rfl, rfl⟩ k
theorem fX0_141 (O : tx_O w RX0 cc nL fr E) (hR : RL R) (hd : decode cc pc = .ok (.getfield 141, 3)) (k : tx_X w E (pc + 3) lv (rV (wa w) 212 :: st) R M) : tx_X w E pc lv (rV (wa w) 1 :: st) R M := tx_getr (C := RX0) (T := TX0) (N := 23) 12 O hd (sh_1 w) rfl (by decide) ⟨rfl, rfl, rfl⟩ rfl q560 (by rw [show R 1 ((12 : Nat) : Int) = 212 from hR.2.1 12]; exact k)
theorem fX0_169 (O : tx_O w RX0 cc nL fr E) (hR : RL R) (hd : decode cc pc = .ok (.getfield 169, 3)) (k : tx_X w E (pc + 3) lv (rV (wa w) 213 :: st) R M) : tx_X w E pc lv (rV (wa w) 1 :: st) R M := tx_getr (C := RX0) (T := TX0) (N := 23) 13 O hd (sh_1 w) rfl (by decide) ⟨rfl, rfl, rfl⟩ rfl q561 (by rw [show R 1 ((13 : Nat) : Int) = 213 from hR.2.1 13]; exact k)
theorem fX0_148 (O : tx_O w RX0 cc nL fr E) (hR : RL R) (hd : decode cc pc = .ok (.getfield 148, 3)) (k : tx_X w E (pc + 3) lv (rV (wa w) 214 :: st) R M) : tx_X w E pc lv (rV (wa w) 1 :: st) R M := tx_getr (C := RX0) (T := TX0) (N := 23) 14 O hd (sh_1 w) rfl (by decide) ⟨rfl, rfl, rfl⟩ rfl q562 (by rw [show R 1 ((14 : Nat) : Int) = 214 from hR.2.1 14]; exact k)
theorem fX0_151 (O : tx_O w RX0 cc nL fr E) (hR : RL R) (hd : decode cc pc = .ok (.getfield 151, 3)) (k : tx_X w E (pc + 3) lv (rV (wa w) 215 :: st) R M) : tx_X w E pc lv (rV (wa w) 1 :: st) R M := tx_getr (C := RX0) (T := TX0) (N := 23) 15 O hd (sh_1 w) rfl (by decide) ⟨rfl, rfl, rfl⟩ rfl q563 (by rw [show R 1 ((15 : Nat) : Int) = 215 from hR.2.1 15]; exact k)
theorem fX0_155 (O : tx_O w RX0 cc nL fr E) (hR : RL R) (hd : decode cc pc = .ok (.getfield 155, 3)) (k : tx_X w E (pc + 3) lv (rV (wa w) 216 :: st) R M) : tx_X w E pc lv (rV (wa w) 1 :: st) R M := tx_getr (C := RX0) (T := TX0) (N := 23) 16 O hd (sh_1 w) rfl (by decide) ⟨rfl, rfl, rfl⟩ rfl q564 (by rw [show R 1 ((16 : Nat) : Int) = 216 from hR.2.1 16]; exact k)
theorem fX0_158 (O : tx_O w RX0 cc nL fr E) (hR : RL R) (hd : decode cc pc = .ok (.getfield 158, 3)) (k : tx_X w E (pc + 3) lv (rV (wa w) 217 :: st) R M) : tx_X w E pc lv (rV (wa w) 1 :: st) R M := tx_getr (C := RX0) (T := TX0) (N := 23) 17 O hd (sh_1 w) rfl (by decide) ⟨rfl, rfl, rfl⟩ rfl q565 (by rw [show R 1 ((17 : Nat) : Int) = 217 from hR.2.1 17]; exact k)
theorem fX0_161 (O : tx_O w RX0 cc nL fr E) (hR : RL R) (hd : decode cc pc = .ok (.getfield 161, 3)) (k : tx_X w E (pc + 3) lv (rV (wa w) 218 :: st) R M) : tx_X w E pc lv (rV (wa w) 1 :: st) R M := tx_getr (C := RX0) (T := TX0) (N := 23) 18 O hd (sh_1 w) rfl (by decide) ⟨rfl, rfl, rfl⟩ rfl q566 (by rw [show R 1 ((18 : Nat) : Int) = 218 from hR.2.1 18]; exact k)
theorem fX0_216 (O : tx_O w RX0 cc nL fr E) (hR : RL R) (hd : decode cc pc = .ok (.getfield 216, 3)) (k : tx_X w E (pc + 3) lv (rV (wa w) 219 :: st) R M) : tx_X w E pc lv (rV (wa w) 1 :: st) R M := tx_getr (C := RX0) (T := TX0) (N := 23) 19 O hd (sh_1 w) rfl (by decide) ⟨rfl, rfl, rfl⟩ rfl q567 (by rw [show R 1 ((19 : Nat) : Int) = 219 from hR.2.1 19]; exact k)
theorem fX0_251 (O : tx_O w RX0 cc nL fr E) (hR : RL R) (hd : decode cc pc = .ok (.getfield 251, 3)) (k : tx_X w E (pc + 3) lv (rV (wa w) 220 :: st) R M) : tx_X w E pc lv (rV (wa w) 1 :: st) R M := tx_getr (C := RX0) (T := TX0) (N := 23) 20 O hd (sh_1 w) rfl (by decide) ⟨rfl, rfl, rfl⟩ rfl q568 (by rw [show R 1 ((20 : Nat) : Int) = 220 from hR.2.1 20]; exact k)
theorem fX0_117 (O : tx_O w RX0 cc nL fr E) (hR : RL R) (hd : decode cc pc = .ok (.getfield 117, 3)) (k : tx_X w E (pc + 3) lv (rV (wa w) 221 :: st) R M) : tx_X w E pc lv (rV (wa w) 1 :: st) R M := tx_getr (C := RX0) (T := TX0) (N := 23) 21 O hd (sh_1 w) rfl (by decide) ⟨rfl, rfl, rfl⟩ rfl q569 (by rw [show R 1 ((21 : Nat) : Int) = 221 from hR.2.1 21]; exact k)
theorem fX0_315 (O : tx_O w RX0 cc nL fr E) (hd : decode cc pc = .ok (.getfield 315, 3)) (k : tx_X w E (pc + 3) lv (iV (M 1 22) :: st) R M) : tx_X w E pc lv (rV (wa w) 1 :: st) R M := tx_geti (C := RX0) (T := TX0) (N := 23) 22 O hd (sh_1 w) rfl (by decide) ⟨rfl, rfl, rfl⟩ rfl q570 k
theorem fX0_315p {v : Int} (O : tx_O w RX0 cc nL fr E) (hd : decode cc pc = .ok (.putfield 315, 3)) (k : tx_X w E (pc + 3) lv st R (up M 1 22 v)) : tx_X w E pc lv (iV v :: rV (wa w) 1 :: st) R M := tx_puti (C := RX0) (T := TX0) (N := 23) 22 O hd (sh_1 w) rfl (by decide) ⟨rfl, rfl, rfl⟩ rfl rfl q570 ⟨rfl, rfl⟩ k
theorem fX6_7 (O : tx_O w RX6 cc nL fr E) (hR : RL R) (hd : decode cc pc = .ok (.getfield 7, 3)) (k : tx_X w E (pc + 3) lv (rV (wa w) 100 :: st) R M) : tx_X w E pc lv (rV (wa w) 2 :: st) R M := tx_getr (C := RX6) (T := TX6) (N := 26) 0 O hd (sh_2 w) rfl (by decide) ⟨rfl, rfl, rfl⟩ rfl q823 (by rw [show R 2 ((0 : Nat) : Int) = 100 from hR.1 0]; exact k)
theorem fX6_13 (O : tx_O w RX6 cc nL fr E) (hR : RL R) (hd : decode cc pc = .ok (.getfield 13, 3)) (k : tx_X w E (pc + 3) lv (rV (wa w) 101 :: st) R M) : tx_X w E pc lv (rV (wa w) 2 :: st) R M := tx_getr (C := RX6) (T := TX6) (N := 26) 1 O hd (sh_2 w) rfl (by decide) ⟨rfl, rfl, rfl⟩ rfl q824 (by rw [show R 2 ((1 : Nat) : Int) = 101 from hR.1 1]; exact k)
theorem fX6_16 (O : tx_O w RX6 cc nL fr E) (hR : RL R) (hd : decode cc pc = .ok (.getfield 16, 3)) (k : tx_X w E (pc + 3) lv (rV (wa w) 102 :: st) R M) : tx_X w E pc lv (rV (wa w) 2 :: st) R M := tx_getr (C := RX6) (T := TX6) (N := 26) 2 O hd (sh_2 w) rfl (by decide) ⟨rfl, rfl, rfl⟩ rfl q825 (by rw [show R 2 ((2 : Nat) : Int) = 102 from hR.1 2]; exact k)
theorem fX6_19 (O : tx_O w RX6 cc nL fr E) (hR : RL R) (hd : decode cc pc = .ok (.getfield 19, 3)) (k : tx_X w E (pc + 3) lv (rV (wa w) 103 :: st) R M) : tx_X w E pc lv (rV (wa w) 2 :: st) R M := tx_getr (C := RX6) (T := TX6) (N := 26) 3 O hd (sh_2 w) rfl (by decide) ⟨rfl, rfl, rfl⟩ rfl q826 (by rw [show R 2 ((3 : Nat) : Int) = 103 from hR.1 3]; exact k)
theorem fX6_83 (O : tx_O w RX6 cc nL fr E) (hd : decode cc pc = .ok (.getfield 83, 3)) (k : tx_X w E (pc + 3) lv (iV (M 2 4) :: st) R M) : tx_X w E pc lv (rV (wa w) 2 :: st) R M := tx_geti (C := RX6) (T := TX6) (N := 26) 4 O hd (sh_2 w) rfl (by decide) ⟨rfl, rfl, rfl⟩ rfl q827 k
theorem fX6_83p {v : Int} (O : tx_O w RX6 cc nL fr E) (hd : decode cc pc = .ok (.putfield 83, 3)) (k : tx_X w E (pc + 3) lv st R (up M 2 4 v)) : tx_X w E pc lv (iV v :: rV (wa w) 2 :: st) R M := tx_puti (C := RX6) (T := TX6) (N := 26) 4 O hd (sh_2 w) rfl (by decide) ⟨rfl, rfl, rfl⟩ rfl rfl q827 ⟨rfl, rfl⟩ k
theorem fX6_22 (O : tx_O w RX6 cc nL fr E) (hR : RL R) (hd : decode cc pc = .ok (.getfield 22, 3)) (k : tx_X w E (pc + 3) lv (rV (wa w) 105 :: st) R M) : tx_X w E pc lv (rV (wa w) 2 :: st) R M := tx_getr (C := RX6) (T := TX6) (N := 26) 5 O hd (sh_2 w) rfl (by decide) ⟨rfl, rfl, rfl⟩ rfl q828 (by rw [show R 2 ((5 : Nat) : Int) = 105 from hR.1 5]; exact k)
theorem fX6_25 (O : tx_O w RX6 cc nL fr E) (hR : RL R) (hd : decode cc pc = .ok (.getfield 25, 3)) (k : tx_X w E (pc + 3) lv (rV (wa w) 106 :: st) R M) : tx_X w E pc lv (rV (wa w) 2 :: st) R M := tx_getr (C := RX6) (T := TX6) (N := 26) 6 O hd (sh_2 w) rfl (by decide) ⟨rfl, rfl, rfl⟩ rfl q829 (by rw [show R 2 ((6 : Nat) : Int) = 106 from hR.1 6]; exact k)
theorem fX6_112 (O : tx_O w RX6 cc nL fr E) (hd : decode cc pc = .ok (.getfield 112, 3)) (k : tx_X w E (pc + 3) lv (iV (M 2 7) :: st) R M) : tx_X w E pc lv (rV (wa w) 2 :: st) R M := tx_geti (C := RX6) (T := TX6) (N := 26) 7 O hd (sh_2 w) rfl (by decide) ⟨rfl, rfl, rfl⟩ rfl q830 k
theorem fX6_112p {v : Int} (O : tx_O w RX6 cc nL fr E) (hd : decode cc pc = .ok (.putfield 112, 3)) (k : tx_X w E (pc + 3) lv st R (up M 2 7 v)) : tx_X w E pc lv (iV v :: rV (wa w) 2 :: st) R M := tx_puti (C := RX6) (T := TX6) (N := 26) 7 O hd (sh_2 w) rfl (by decide) ⟨rfl, rfl, rfl⟩ rfl rfl q830 ⟨rfl, rfl⟩ k
theorem fX6_28 (O : tx_O w RX6 cc nL fr E) (hR : RL R) (hd : decode cc pc = .ok (.getfield 28, 3)) (k : tx_X w E (pc + 3) lv (rV (wa w) 108 :: st) R M) : tx_X w E pc lv (rV (wa w) 2 :: st) R M := tx_getr (C := RX6) (T := TX6) (N := 26) 8 O hd (sh_2 w) rfl (by decide) ⟨rfl, rfl, rfl⟩ rfl q831 (by rw [show R 2 ((8 : Nat) : Int) = 108 from hR.1 8]; exact k)
theorem fX6_31 (O : tx_O w RX6 cc nL fr E) (hR : RL R) (hd : decode cc pc = .ok (.getfield 31, 3)) (k : tx_X w E (pc + 3) lv (rV (wa w) 109 :: st) R M) : tx_X w E pc lv (rV (wa w) 2 :: st) R M := tx_getr (C := RX6) (T := TX6) (N := 26) 9 O hd (sh_2 w) rfl (by decide) ⟨rfl, rfl, rfl⟩ rfl q832 (by rw [show R 2 ((9 : Nat) : Int) = 109 from hR.1 9]; exact k)
theorem fX6_122 (O : tx_O w RX6 cc nL fr E) (hd : decode cc pc = .ok (.getfield 122, 3)) (k : tx_X w E (pc + 3) lv (iV (M 2 10) :: st) R M) : tx_X w E pc lv (rV (wa w) 2 :: st) R M := tx_geti (C := RX6) (T := TX6) (N := 26) 10 O hd (sh_2 w) rfl (by decide) ⟨rfl, rfl, rfl⟩ rfl q833 k
theorem fX6_122p {v : Int} (O : tx_O w RX6 cc nL fr E) (hd : decode cc pc = .ok (.putfield 122, 3)) (k : tx_X w E (pc + 3) lv st R (up M 2 10 v)) : tx_X w E pc lv (iV v :: rV (wa w) 2 :: st) R M := tx_puti (C := RX6) (T := TX6) (N := 26) 10 O hd (sh_2 w) rfl (by decide) ⟨rfl, rfl, rfl⟩ rfl rfl q833 ⟨rfl, rfl⟩ k
theorem fX6_34 (O : tx_O w RX6 cc nL fr E) (hR : RL R) (hd : decode cc pc = .ok (.getfield 34, 3)) (k : tx_X w E (pc + 3) lv (rV (wa w) 111 :: st) R M) : tx_X w E pc lv (rV (wa w) 2 :: st) R M := tx_getr (C := RX6) (T := TX6) (N := 26) 11 O hd (sh_2 w) rfl (by decide) ⟨rfl, rfl, rfl⟩ rfl q834 (by rw [show R 2 ((11 : Nat) : Int) = 111 from hR.1 11]; exact k)
theorem fX6_157 (O : tx_O w RX6 cc nL fr E) (hd : decode cc pc = .ok (.getfield 157, 3)) (k : tx_X w E (pc + 3) lv (iV (M 2 12) :: st) R M) : tx_X w E pc lv (rV (wa w) 2 :: st) R M := tx_geti (C := RX6) (T := TX6) (N := 26) 12 O hd (sh_2 w) rfl (by decide) ⟨rfl, rfl, rfl⟩ rfl q835 k
theorem fX6_157p {v : Int} (O : tx_O w RX6 cc nL fr E) (hd : decode cc pc = .ok (.putfield 157, 3)) (k : tx_X w E (pc + 3) lv st R (up M 2 12 v)) : tx_X w E pc lv (iV v :: rV (wa w) 2 :: st) R M := tx_puti (C := RX6) (T := TX6) (N := 26) 12 O hd (sh_2 w) rfl (by decide) ⟨rfl, rfl, rfl⟩ rfl rfl q835 ⟨rfl, rfl⟩ k
theorem fX6_37 (O : tx_O w RX6 cc nL fr E) (hR : RL R) (hd : decode cc pc = .ok (.getfield 37, 3)) (k : tx_X w E (pc + 3) lv (rV (wa w) 113 :: st) R M) : tx_X w E pc lv (rV (wa w) 2 :: st) R M := tx_getr (C := RX6) (T := TX6) (N := 26) 13 O hd (sh_2 w) rfl (by decide) ⟨rfl, rfl, rfl⟩ rfl q836 (by rw [show R 2 ((13 : Nat) : Int) = 113 from hR.1 13]; exact k)
theorem fX6_73 (O : tx_O w RX6 cc nL fr E) (hd : decode cc pc = .ok (.getfield 73, 3)) (k : tx_X w E (pc + 3) lv (iV (M 2 14) :: st) R M) : tx_X w E pc lv (rV (wa w) 2 :: st) R M := tx_geti (C := RX6) (T := TX6) (N := 26) 14 O hd (sh_2 w) rfl (by decide) ⟨rfl, rfl, rfl⟩ rfl q837 k
theorem fX6_73p {v : Int} (O : tx_O w RX6 cc nL fr E) (hd : decode cc pc = .ok (.putfield 73, 3)) (k : tx_X w E (pc + 3) lv st R (up M 2 14 v)) : tx_X w E pc lv (iV v :: rV (wa w) 2 :: st) R M := tx_puti (C := RX6) (T := TX6) (N := 26) 14 O hd (sh_2 w) rfl (by decide) ⟨rfl, rfl, rfl⟩ rfl rfl q837 ⟨rfl, rfl⟩ k
theorem fX6_40 (O : tx_O w RX6 cc nL fr E) (hR : RL R) (hd : decode cc pc = .ok (.getfield 40, 3)) (k : tx_X w E (pc + 3) lv (rV (wa w) 115 :: st) R M) : tx_X w E pc lv (rV (wa w) 2 :: st) R M := tx_getr (C := RX6) (T := TX6) (N := 26) 15 O hd (sh_2 w) rfl (by decide) ⟨rfl, rfl, rfl⟩ rfl q838 (by rw [show R 2 ((15 : Nat) : Int) = 115 from hR.1 15]; exact k)
theorem fX6_43 (O : tx_O w RX6 cc nL fr E) (hR : RL R) (hd : decode cc pc = .ok (.getfield 43, 3)) (k : tx_X w E (pc + 3) lv (rV (wa w) 116 :: st) R M) : tx_X w E pc lv (rV (wa w) 2 :: st) R M := tx_getr (C := RX6) (T := TX6) (N := 26) 16 O hd (sh_2 w) rfl (by decide) ⟨rfl, rfl, rfl⟩ rfl q839 (by rw [show R 2 ((16 : Nat) : Int) = 116 from hR.1 16]; exact k)
theorem fX6_46 (O : tx_O w RX6 cc nL fr E) (hR : RL R) (hd : decode cc pc = .ok (.getfield 46, 3)) (k : tx_X w E (pc + 3) lv (rV (wa w) 117 :: st) R M) : tx_X w E pc lv (rV (wa w) 2 :: st) R M := tx_getr (C := RX6) (T := TX6) (N := 26) 17 O hd (sh_2 w) rfl (by decide) ⟨rfl, rfl, rfl⟩ rfl q840 (by rw [show R 2 ((17 : Nat) : Int) = 117 from hR.1 17]; exact k)
theorem fX6_49 (O : tx_O w RX6 cc nL fr E) (hR : RL R) (hd : decode cc pc = .ok (.getfield 49, 3)) (k : tx_X w E (pc + 3) lv (rV (wa w) 118 :: st) R M) : tx_X w E pc lv (rV (wa w) 2 :: st) R M := tx_getr (C := RX6) (T := TX6) (N := 26) 18 O hd (sh_2 w) rfl (by decide) ⟨rfl, rfl, rfl⟩ rfl q841 (by rw [show R 2 ((18 : Nat) : Int) = 118 from hR.1 18]; exact k)
theorem fX6_52 (O : tx_O w RX6 cc nL fr E) (hR : RL R) (hd : decode cc pc = .ok (.getfield 52, 3)) (k : tx_X w E (pc + 3) lv (rV (wa w) 119 :: st) R M) : tx_X w E pc lv (rV (wa w) 2 :: st) R M := tx_getr (C := RX6) (T := TX6) (N := 26) 19 O hd (sh_2 w) rfl (by decide) ⟨rfl, rfl, rfl⟩ rfl q842 (by rw [show R 2 ((19 : Nat) : Int) = 119 from hR.1 19]; exact k)
theorem fX6_55 (O : tx_O w RX6 cc nL fr E) (hR : RL R) (hd : decode cc pc = .ok (.getfield 55, 3)) (k : tx_X w E (pc + 3) lv (rV (wa w) 120 :: st) R M) : tx_X w E pc lv (rV (wa w) 2 :: st) R M := tx_getr (C := RX6) (T := TX6) (N := 26) 20 O hd (sh_2 w) rfl (by decide) ⟨rfl, rfl, rfl⟩ rfl q843 (by rw [show R 2 ((20 : Nat) : Int) = 120 from hR.1 20]; exact k)
theorem fX6_58 (O : tx_O w RX6 cc nL fr E) (hR : RL R) (hd : decode cc pc = .ok (.getfield 58, 3)) (k : tx_X w E (pc + 3) lv (rV (wa w) 121 :: st) R M) : tx_X w E pc lv (rV (wa w) 2 :: st) R M := tx_getr (C := RX6) (T := TX6) (N := 26) 21 O hd (sh_2 w) rfl (by decide) ⟨rfl, rfl, rfl⟩ rfl q844 (by rw [show R 2 ((21 : Nat) : Int) = 121 from hR.1 21]; exact k)
theorem fX6_61 (O : tx_O w RX6 cc nL fr E) (hR : RL R) (hd : decode cc pc = .ok (.getfield 61, 3)) (k : tx_X w E (pc + 3) lv (rV (wa w) 122 :: st) R M) : tx_X w E pc lv (rV (wa w) 2 :: st) R M := tx_getr (C := RX6) (T := TX6) (N := 26) 22 O hd (sh_2 w) rfl (by decide) ⟨rfl, rfl, rfl⟩ rfl q845 (by rw [show R 2 ((22 : Nat) : Int) = 122 from hR.1 22]; exact k)
theorem fX6_64 (O : tx_O w RX6 cc nL fr E) (hR : RL R) (hd : decode cc pc = .ok (.getfield 64, 3)) (k : tx_X w E (pc + 3) lv (rV (wa w) 123 :: st) R M) : tx_X w E pc lv (rV (wa w) 2 :: st) R M := tx_getr (C := RX6) (T := TX6) (N := 26) 23 O hd (sh_2 w) rfl (by decide) ⟨rfl, rfl, rfl⟩ rfl q846 (by rw [show R 2 ((23 : Nat) : Int) = 123 from hR.1 23]; exact k)
theorem fX6_67 (O : tx_O w RX6 cc nL fr E) (hR : RL R) (hd : decode cc pc = .ok (.getfield 67, 3)) (k : tx_X w E (pc + 3) lv (rV (wa w) 124 :: st) R M) : tx_X w E pc lv (rV (wa w) 2 :: st) R M := tx_getr (C := RX6) (T := TX6) (N := 26) 24 O hd (sh_2 w) rfl (by decide) ⟨rfl, rfl, rfl⟩ rfl q847 (by rw [show R 2 ((24 : Nat) : Int) = 124 from hR.1 24]; exact k)
theorem fX6_70 (O : tx_O w RX6 cc nL fr E) (hR : RL R) (hd : decode cc pc = .ok (.getfield 70, 3)) (k : tx_X w E (pc + 3) lv (rV (wa w) 125 :: st) R M) : tx_X w E pc lv (rV (wa w) 2 :: st) R M := tx_getr (C := RX6) (T := TX6) (N := 26) 25 O hd (sh_2 w) rfl (by decide) ⟨rfl, rfl, rfl⟩ rfl q848 (by rw [show R 2 ((25 : Nat) : Int) = 125 from hR.1 25]; exact k)
theorem tx_cV0 {y : MethodName} {b : ByteArray} {L : Nat} {ret : Option FieldType} {C : String} {idx fr' ci sn : Nat} {i : Int} {Q' : Option Value → TM → TM → Prop} (O : tx_O w own cc nL fr E) (hd : decode cc pc = .ok (.invokevirtual idx, 3)) (hl : Cond.methodLink own idx y ∈ lw_all) (hv : tx_V y b L ret C 0) (hs : tx_sh w i = (10 + ci, sn)) (hC : (vwCl[ci]?).map (fun q => q.1) = some C) (hfr' : fr' + 1 ≤ fr) (hrm : (st.map fun v => v.category).sum ≤ 8) (S : tx_S w y b L ret fr' (rV (wa w) i :: []) R M Q') (k : ∀ (v : Option Value) (R' M' : TM), Q' v R' M' → tx_X w E (pc + 3) lv (v.toList ++ st) R' M') : tx_X w E pc lv (rV (wa w) i :: st) R M := tx_callV (As := []) O hd hl hv hs hC hfr' rfl hrm S k
theorem tx_cS0 {y : MethodName} {b : ByteArray} {L : Nat} {ret : Option FieldType} {idx fr' : Nat} {Q' : Option Value → TM → TM → Prop} (O : tx_O w own cc nL fr E) (hd : decode cc pc = .ok (.invokestatic idx, 3)) (hl : Cond.methodLink own idx y ∈ lw_all) (hv : tx_T y b L ret 0) (hfr' : fr' + 1 ≤ fr) (hrm : (st.map fun v => v.category).sum ≤ 8) (S : tx_S w y b L ret fr' [] R M Q') (k : ∀ (v : Option Value) (R' M' : TM), Q' v R' M' → tx_X w E (pc + 3) lv (v.toList ++ st) R' M') : tx_X w E pc lv (st) R M := tx_callS (As := []) O hd hl hv hfr' rfl hrm S k
theorem tx_cV1 {y : MethodName} {b : ByteArray} {L : Nat} {ret : Option FieldType} {C : String} {idx fr' ci sn : Nat} {i : Int} {Q' : Option Value → TM → TM → Prop} {a1 : Value} (O : tx_O w own cc nL fr E) (hd : decode cc pc = .ok (.invokevirtual idx, 3)) (hl : Cond.methodLink own idx y ∈ lw_all) (hv : tx_V y b L ret C 1) (hs : tx_sh w i = (10 + ci, sn)) (hC : (vwCl[ci]?).map (fun q => q.1) = some C) (hfr' : fr' + 1 ≤ fr) (hrm : (st.map fun v => v.category).sum ≤ 8) (S : tx_S w y b L ret fr' (rV (wa w) i :: [a1]) R M Q') (k : ∀ (v : Option Value) (R' M' : TM), Q' v R' M' → tx_X w E (pc + 3) lv (v.toList ++ st) R' M') : tx_X w E pc lv (a1 :: rV (wa w) i :: st) R M := tx_callV (As := [a1]) O hd hl hv hs hC hfr' rfl hrm S k
theorem tx_cS1 {y : MethodName} {b : ByteArray} {L : Nat} {ret : Option FieldType} {idx fr' : Nat} {Q' : Option Value → TM → TM → Prop} {a1 : Value} (O : tx_O w own cc nL fr E) (hd : decode cc pc = .ok (.invokestatic idx, 3)) (hl : Cond.methodLink own idx y ∈ lw_all) (hv : tx_T y b L ret 1) (hfr' : fr' + 1 ≤ fr) (hrm : (st.map fun v => v.category).sum ≤ 8) (S : tx_S w y b L ret fr' [a1] R M Q') (k : ∀ (v : Option Value) (R' M' : TM), Q' v R' M' → tx_X w E (pc + 3) lv (v.toList ++ st) R' M') : tx_X w E pc lv (a1 :: st) R M := tx_callS (As := [a1]) O hd hl hv hfr' rfl hrm S k
theorem tx_cV2 {y : MethodName} {b : ByteArray} {L : Nat} {ret : Option FieldType} {C : String} {idx fr' ci sn : Nat} {i : Int} {Q' : Option Value → TM → TM → Prop} {a1 a2 : Value} (O : tx_O w own cc nL fr E) (hd : decode cc pc = .ok (.invokevirtual idx, 3)) (hl : Cond.methodLink own idx y ∈ lw_all) (hv : tx_V y b L ret C 2) (hs : tx_sh w i = (10 + ci, sn)) (hC : (vwCl[ci]?).map (fun q => q.1) = some C) (hfr' : fr' + 1 ≤ fr) (hrm : (st.map fun v => v.category).sum ≤ 8) (S : tx_S w y b L ret fr' (rV (wa w) i :: [a1, a2]) R M Q') (k : ∀ (v : Option Value) (R' M' : TM), Q' v R' M' → tx_X w E (pc + 3) lv (v.toList ++ st) R' M') : tx_X w E pc lv (a2 :: a1 :: rV (wa w) i :: st) R M := tx_callV (As := [a1, a2]) O hd hl hv hs hC hfr' rfl hrm S k
theorem tx_cS2 {y : MethodName} {b : ByteArray} {L : Nat} {ret : Option FieldType} {idx fr' : Nat} {Q' : Option Value → TM → TM → Prop} {a1 a2 : Value} (O : tx_O w own cc nL fr E) (hd : decode cc pc = .ok (.invokestatic idx, 3)) (hl : Cond.methodLink own idx y ∈ lw_all) (hv : tx_T y b L ret 2) (hfr' : fr' + 1 ≤ fr) (hrm : (st.map fun v => v.category).sum ≤ 8) (S : tx_S w y b L ret fr' [a1, a2] R M Q') (k : ∀ (v : Option Value) (R' M' : TM), Q' v R' M' → tx_X w E (pc + 3) lv (v.toList ++ st) R' M') : tx_X w E pc lv (a2 :: a1 :: st) R M := tx_callS (As := [a1, a2]) O hd hl hv hfr' rfl hrm S k
theorem tx_cV3 {y : MethodName} {b : ByteArray} {L : Nat} {ret : Option FieldType} {C : String} {idx fr' ci sn : Nat} {i : Int} {Q' : Option Value → TM → TM → Prop} {a1 a2 a3 : Value} (O : tx_O w own cc nL fr E) (hd : decode cc pc = .ok (.invokevirtual idx, 3)) (hl : Cond.methodLink own idx y ∈ lw_all) (hv : tx_V y b L ret C 3) (hs : tx_sh w i = (10 + ci, sn)) (hC : (vwCl[ci]?).map (fun q => q.1) = some C) (hfr' : fr' + 1 ≤ fr) (hrm : (st.map fun v => v.category).sum ≤ 8) (S : tx_S w y b L ret fr' (rV (wa w) i :: [a1, a2, a3]) R M Q') (k : ∀ (v : Option Value) (R' M' : TM), Q' v R' M' → tx_X w E (pc + 3) lv (v.toList ++ st) R' M') : tx_X w E pc lv (a3 :: a2 :: a1 :: rV (wa w) i :: st) R M := tx_callV (As := [a1, a2, a3]) O hd hl hv hs hC hfr' rfl hrm S k
theorem tx_cS3 {y : MethodName} {b : ByteArray} {L : Nat} {ret : Option FieldType} {idx fr' : Nat} {Q' : Option Value → TM → TM → Prop} {a1 a2 a3 : Value} (O : tx_O w own cc nL fr E) (hd : decode cc pc = .ok (.invokestatic idx, 3)) (hl : Cond.methodLink own idx y ∈ lw_all) (hv : tx_T y b L ret 3) (hfr' : fr' + 1 ≤ fr) (hrm : (st.map fun v => v.category).sum ≤ 8) (S : tx_S w y b L ret fr' [a1, a2, a3] R M Q') (k : ∀ (v : Option Value) (R' M' : TM), Q' v R' M' → tx_X w E (pc + 3) lv (v.toList ++ st) R' M') : tx_X w E pc lv (a3 :: a2 :: a1 :: st) R M := tx_callS (As := [a1, a2, a3]) O hd hl hv hfr' rfl hrm S k
theorem tx_cV4 {y : MethodName} {b : ByteArray} {L : Nat} {ret : Option FieldType} {C : String} {idx fr' ci sn : Nat} {i : Int} {Q' : Option Value → TM → TM → Prop} {a1 a2 a3 a4 : Value} (O : tx_O w own cc nL fr E) (hd : decode cc pc = .ok (.invokevirtual idx, 3)) (hl : Cond.methodLink own idx y ∈ lw_all) (hv : tx_V y b L ret C 4) (hs : tx_sh w i = (10 + ci, sn)) (hC : (vwCl[ci]?).map (fun q => q.1) = some C) (hfr' : fr' + 1 ≤ fr) (hrm : (st.map fun v => v.category).sum ≤ 8) (S : tx_S w y b L ret fr' (rV (wa w) i :: [a1, a2, a3, a4]) R M Q') (k : ∀ (v : Option Value) (R' M' : TM), Q' v R' M' → tx_X w E (pc + 3) lv (v.toList ++ st) R' M') : tx_X w E pc lv (a4 :: a3 :: a2 :: a1 :: rV (wa w) i :: st) R M := tx_callV (As := [a1, a2, a3, a4]) O hd hl hv hs hC hfr' rfl hrm S k
theorem tx_cS4 {y : MethodName} {b : ByteArray} {L : Nat} {ret : Option FieldType} {idx fr' : Nat} {Q' : Option Value → TM → TM → Prop} {a1 a2 a3 a4 : Value} (O : tx_O w own cc nL fr E) (hd : decode cc pc = .ok (.invokestatic idx, 3)) (hl : Cond.methodLink own idx y ∈ lw_all) (hv : tx_T y b L ret 4) (hfr' : fr' + 1 ≤ fr) (hrm : (st.map fun v => v.category).sum ≤ 8) (S : tx_S w y b L ret fr' [a1, a2, a3, a4] R M Q') (k : ∀ (v : Option Value) (R' M' : TM), Q' v R' M' → tx_X w E (pc + 3) lv (v.toList ++ st) R' M') : tx_X w E pc lv (a4 :: a3 :: a2 :: a1 :: st) R M := tx_callS (As := [a1, a2, a3, a4]) O hd hl hv hfr' rfl hrm S k
theorem tx_cV5 {y : MethodName} {b : ByteArray} {L : Nat} {ret : Option FieldType} {C : String} {idx fr' ci sn : Nat} {i : Int} {Q' : Option Value → TM → TM → Prop} {a1 a2 a3 a4 a5 : Value} (O : tx_O w own cc nL fr E) (hd : decode cc pc = .ok (.invokevirtual idx, 3)) (hl : Cond.methodLink own idx y ∈ lw_all) (hv : tx_V y b L ret C 5) (hs : tx_sh w i = (10 + ci, sn)) (hC : (vwCl[ci]?).map (fun q => q.1) = some C) (hfr' : fr' + 1 ≤ fr) (hrm : (st.map fun v => v.category).sum ≤ 8) (S : tx_S w y b L ret fr' (rV (wa w) i :: [a1, a2, a3, a4, a5]) R M Q') (k : ∀ (v : Option Value) (R' M' : TM), Q' v R' M' → tx_X w E (pc + 3) lv (v.toList ++ st) R' M') : tx_X w E pc lv (a5 :: a4 :: a3 :: a2 :: a1 :: rV (wa w) i :: st) R M := tx_callV (As := [a1, a2, a3, a4, a5]) O hd hl hv hs hC hfr' rfl hrm S k
theorem tx_cS5 {y : MethodName} {b : ByteArray} {L : Nat} {ret : Option FieldType} {idx fr' : Nat} {Q' : Option Value → TM → TM → Prop} {a1 a2 a3 a4 a5 : Value} (O : tx_O w own cc nL fr E) (hd : decode cc pc = .ok (.invokestatic idx, 3)) (hl : Cond.methodLink own idx y ∈ lw_all) (hv : tx_T y b L ret 5) (hfr' : fr' + 1 ≤ fr) (hrm : (st.map fun v => v.category).sum ≤ 8) (S : tx_S w y b L ret fr' [a1, a2, a3, a4, a5] R M Q') (k : ∀ (v : Option Value) (R' M' : TM), Q' v R' M' → tx_X w E (pc + 3) lv (v.toList ++ st) R' M') : tx_X w E pc lv (a5 :: a4 :: a3 :: a2 :: a1 :: st) R M := tx_callS (As := [a1, a2, a3, a4, a5]) O hd hl hv hfr' rfl hrm S k
theorem tx_cV6 {y : MethodName} {b : ByteArray} {L : Nat} {ret : Option FieldType} {C : String} {idx fr' ci sn : Nat} {i : Int} {Q' : Option Value → TM → TM → Prop} {a1 a2 a3 a4 a5 a6 : Value} (O : tx_O w own cc nL fr E) (hd : decode cc pc = .ok (.invokevirtual idx, 3)) (hl : Cond.methodLink own idx y ∈ lw_all) (hv : tx_V y b L ret C 6) (hs : tx_sh w i = (10 + ci, sn)) (hC : (vwCl[ci]?).map (fun q => q.1) = some C) (hfr' : fr' + 1 ≤ fr) (hrm : (st.map fun v => v.category).sum ≤ 8) (S : tx_S w y b L ret fr' (rV (wa w) i :: [a1, a2, a3, a4, a5, a6]) R M Q') (k : ∀ (v : Option Value) (R' M' : TM), Q' v R' M' → tx_X w E (pc + 3) lv (v.toList ++ st) R' M') : tx_X w E pc lv (a6 :: a5 :: a4 :: a3 :: a2 :: a1 :: rV (wa w) i :: st) R M := tx_callV (As := [a1, a2, a3, a4, a5, a6]) O hd hl hv hs hC hfr' rfl hrm S k
theorem tx_cS6 {y : MethodName} {b : ByteArray} {L : Nat} {ret : Option FieldType} {idx fr' : Nat} {Q' : Option Value → TM → TM → Prop} {a1 a2 a3 a4 a5 a6 : Value} (O : tx_O w own cc nL fr E) (hd : decode cc pc = .ok (.invokestatic idx, 3)) (hl : Cond.methodLink own idx y ∈ lw_all) (hv : tx_T y b L ret 6) (hfr' : fr' + 1 ≤ fr) (hrm : (st.map fun v => v.category).sum ≤ 8) (S : tx_S w y b L ret fr' [a1, a2, a3, a4, a5, a6] R M Q') (k : ∀ (v : Option Value) (R' M' : TM), Q' v R' M' → tx_X w E (pc + 3) lv (v.toList ++ st) R' M') : tx_X w E pc lv (a6 :: a5 :: a4 :: a3 :: a2 :: a1 :: st) R M := tx_callS (As := [a1, a2, a3, a4, a5, a6]) O hd hl hv hfr' rfl hrm S k
/-- an answer that rests on the arguments and the memory alone, and changes nothing -/
def QP (R M : TM) (P : Int → Prop) : Option Value → TM → TM → Prop := fun v R' M' => R' = R ∧ M' = M ∧ ∃ z : Int, v = some (iV z) ∧ P z
def QPL (R M : TM) (P : Int → Prop) : Option Value → TM → TM → Prop := fun v R' M' => R' = R ∧ M' = M ∧ ∃ z : Int, v = some (lV z) ∧ P z
theorem k_P {P : Int → Prop} (k : ∀ z : Int, P z → tx_X w E pc lv (iV z :: st) R M) : ∀ (v : Option Value) (R' M' : TM), QP R M P v R' M' → tx_X w E pc lv (v.toList ++ st) R' M' := by
  rintro v R' M' ⟨rfl, rfl, z, rfl, h⟩
  exact k z h
theorem k_PL {P : Int → Prop} (k : ∀ z : Int, P z → tx_X w E pc lv (lV z :: st) R M) : ∀ (v : Option Value) (R' M' : TM), QPL R M P v R' M' → tx_X w E pc lv (v.toList ++ st) R' M' := by
  rintro v R' M' ⟨rfl, rfl, z, rfl, h⟩
  exact k z h
theorem tx_QP.mk {P : Int → Prop} {z : Int} (h : P z) : QP R M P (some (iV z)) R M := ⟨rfl, rfl, z, rfl, h⟩
theorem tx_QPL.mk {P : Int → Prop} {z : Int} (h : P z) : QPL R M P (some (lV z)) R M := ⟨rfl, rfl, z, rfl, h⟩
theorem rng_zcmp (a b : Int) : rng (zcmp a b) := by
  unfold zcmp
  split
  · exact ⟨by omega, by omega⟩
  · split <;> exact ⟨by omega, by omega⟩
theorem tx_lif_eq {off a b : Int} (tgt : Nat) (O : tx_O w own cc nL fr E) (hd : decode cc pc = .ok (.lcmp, 1)) (hd2 : decode cc (pc + 1) = .ok (.ifCond .eq off, 3)) (ht : ((pc + 1 : Nat) : Int) + off = (tgt : Int)) (ha : rngL a) (hb0 : rngL b) (kt : a = b → tx_X w E tgt lv st R M) (kf : ¬ a = b → tx_X w E (pc + 1 + 3) lv st R M) : tx_X w E pc lv (lV b :: lV a :: st) R M := by
  refine tx_lcmp O hd ha hb0 (tx_if_eq tgt O hd2 ht (rng_zcmp a b) (fun q => kt ?_) (fun q => kf ?_))
  · unfold zcmp at q
    split at q
    · omega
    · split at q <;> omega
  · unfold zcmp at q
    split at q
    · omega
    · split at q <;> omega
theorem tx_lif_ne {off a b : Int} (tgt : Nat) (O : tx_O w own cc nL fr E) (hd : decode cc pc = .ok (.lcmp, 1)) (hd2 : decode cc (pc + 1) = .ok (.ifCond .ne off, 3)) (ht : ((pc + 1 : Nat) : Int) + off = (tgt : Int)) (ha : rngL a) (hb0 : rngL b) (kt : ¬ a = b → tx_X w E tgt lv st R M) (kf : a = b → tx_X w E (pc + 1 + 3) lv st R M) : tx_X w E pc lv (lV b :: lV a :: st) R M := by
  refine tx_lcmp O hd ha hb0 (tx_if_ne tgt O hd2 ht (rng_zcmp a b) (fun q => kt ?_) (fun q => kf ?_))
  · unfold zcmp at q
    split at q
    · omega
    · split at q <;> omega
  · unfold zcmp at q
    split at q
    · omega
    · split at q <;> omega
theorem tx_lif_lt {off a b : Int} (tgt : Nat) (O : tx_O w own cc nL fr E) (hd : decode cc pc = .ok (.lcmp, 1)) (hd2 : decode cc (pc + 1) = .ok (.ifCond .lt off, 3)) (ht : ((pc + 1 : Nat) : Int) + off = (tgt : Int)) (ha : rngL a) (hb0 : rngL b) (kt : a < b → tx_X w E tgt lv st R M) (kf : b ≤ a → tx_X w E (pc + 1 + 3) lv st R M) : tx_X w E pc lv (lV b :: lV a :: st) R M := by
  refine tx_lcmp O hd ha hb0 (tx_if_lt tgt O hd2 ht (rng_zcmp a b) (fun q => kt ?_) (fun q => kf ?_))
  · unfold zcmp at q
    split at q
    · omega
    · split at q <;> omega
  · unfold zcmp at q
    split at q
    · omega
    · split at q <;> omega
theorem tx_lif_ge {off a b : Int} (tgt : Nat) (O : tx_O w own cc nL fr E) (hd : decode cc pc = .ok (.lcmp, 1)) (hd2 : decode cc (pc + 1) = .ok (.ifCond .ge off, 3)) (ht : ((pc + 1 : Nat) : Int) + off = (tgt : Int)) (ha : rngL a) (hb0 : rngL b) (kt : b ≤ a → tx_X w E tgt lv st R M) (kf : a < b → tx_X w E (pc + 1 + 3) lv st R M) : tx_X w E pc lv (lV b :: lV a :: st) R M := by
  refine tx_lcmp O hd ha hb0 (tx_if_ge tgt O hd2 ht (rng_zcmp a b) (fun q => kt ?_) (fun q => kf ?_))
  · unfold zcmp at q
    split at q
    · omega
    · split at q <;> omega
  · unfold zcmp at q
    split at q
    · omega
    · split at q <;> omega
theorem tx_lif_gt {off a b : Int} (tgt : Nat) (O : tx_O w own cc nL fr E) (hd : decode cc pc = .ok (.lcmp, 1)) (hd2 : decode cc (pc + 1) = .ok (.ifCond .gt off, 3)) (ht : ((pc + 1 : Nat) : Int) + off = (tgt : Int)) (ha : rngL a) (hb0 : rngL b) (kt : b < a → tx_X w E tgt lv st R M) (kf : a ≤ b → tx_X w E (pc + 1 + 3) lv st R M) : tx_X w E pc lv (lV b :: lV a :: st) R M := by
  refine tx_lcmp O hd ha hb0 (tx_if_gt tgt O hd2 ht (rng_zcmp a b) (fun q => kt ?_) (fun q => kf ?_))
  · unfold zcmp at q
    split at q
    · omega
    · split at q <;> omega
  · unfold zcmp at q
    split at q
    · omega
    · split at q <;> omega
theorem tx_lif_le {off a b : Int} (tgt : Nat) (O : tx_O w own cc nL fr E) (hd : decode cc pc = .ok (.lcmp, 1)) (hd2 : decode cc (pc + 1) = .ok (.ifCond .le off, 3)) (ht : ((pc + 1 : Nat) : Int) + off = (tgt : Int)) (ha : rngL a) (hb0 : rngL b) (kt : a ≤ b → tx_X w E tgt lv st R M) (kf : b < a → tx_X w E (pc + 1 + 3) lv st R M) : tx_X w E pc lv (lV b :: lV a :: st) R M := by
  refine tx_lcmp O hd ha hb0 (tx_if_le tgt O hd2 ht (rng_zcmp a b) (fun q => kt ?_) (fun q => kf ?_))
  · unfold zcmp at q
    split at q
    · omega
    · split at q <;> omega
  · unfold zcmp at q
    split at q
    · omega
    · split at q <;> omega
end WRAP
def slotsOf : Nat → List Nat → List Nat
  | _, [] => []
  | i, c :: cs => i :: slotsOf (if c = 2 then i + 2 else i + 1) cs
theorem tx_slots : ∀ (as : List Value) (i : Nat), lv_args i as = (slotsOf i (as.map fun v => v.category)).zip as
  | [], _ => rfl
  | v :: vs, i => by simp [lv_args, slotsOf, tx_slots vs]
theorem tx_lsl : ∀ (as : List Value), (lg_sl as).length = ((as.map fun v => v.category).map fun c => if c = 2 then 2 else 1).sum
  | [] => rfl
  | v :: vs => by
    have h := tx_lsl vs
    unfold lg_sl at h ⊢
    by_cases e : v.category = 2
    · simp [e] at h ⊢; omega
    · simp [e] at h ⊢; omega
theorem tx_S.ofk {w : WT} {y : MethodName} {b : ByteArray} {L : Nat} {ret : Option FieldType} {fr : Nat} {as : List Value} {R M : TM} {Q : Option Value → TM → TM → Prop} {lv : List (Nat × Value)} (cs : List Nat) (hy : plainName y.cls = true) (hc : (as.map fun v => v.category) = cs) (hlen : (cs.map fun c => if c = 2 then 2 else 1).sum ≤ L) (hlv : (slotsOf 0 cs).zip as = lv) (h : ∀ E : ET, tx_O w y.cls b L fr E → tx_Z w ret Q E → tx_X w E 0 lv [] R M) : tx_S w y b L ret fr as R M Q := by
  subst hc
  exact tx_S.of hy (by rw [tx_lsl]; exact hlen) (by rw [tx_slots]; exact hlv) h
