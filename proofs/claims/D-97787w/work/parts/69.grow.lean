/-! A WORLD GROWS: a new cell gets an id that nobody names yet -/
set_option maxRecDepth 100000
def wN (w : WT) (i : Int) (kd n a : Nat) : WT := (wl w, wz w, wD w, wc w, (fun j => if j = i then (kd, n) else wy w j), fun j => if j = i then a else wa w j)
def zM (M : TM) (i : Int) : TM := fun a b => if a = i then 0 else M a b
section GROW
variable {w : WT} {i : Int} {kd n a : Nat} {R M : TM}
theorem wN_ext : tx_ext w (wN w i kd n a) := ⟨rfl, rfl, rfl, rfl⟩
theorem wN_s (h : 2000 ≤ i) : tx_sh (wN w i kd n a) i = (kd, n) := by
  unfold tx_sh
  rw [if_neg (by omega)]
  show (if i = i then (kd, n) else wy w i) = _
  rw [if_pos rfl]
theorem wN_n {j : Int} (h : j ≠ i) : tx_sh (wN w i kd n a) j = tx_sh w j := by
  unfold tx_sh
  split
  · rfl
  · show (if j = i then (kd, n) else wy w j) = _
    rw [if_neg h]
theorem wN_as : wa (wN w i kd n a) i = a := by
  show (if i = i then a else wa w i) = a
  rw [if_pos rfl]
theorem wN_an {j : Int} (h : j ≠ i) : wa (wN w i kd n a) j = wa w j := by
  show (if j = i then a else wa w j) = wa w j
  rw [if_neg h]
theorem wN_F {j : Int} (h : j ≠ i) : rF (wa (wN w i kd n a)) j = rF (wa w) j := by
  unfold rF
  rw [wN_an h]
theorem wN_V {j : Int} (h : j ≠ i) : rV (wa (wN w i kd n a)) j = rV (wa w) j := by
  unfold rV
  rw [wN_F h]
/-- where a cell holds a reference -/
def rIn (w : WT) (x : Int) (y : Nat) : Bool := if (tx_sh w x).1 ≤ 4 then false else if (tx_sh w x).1 ≤ 9 then decide (y < (tx_sh w x).2) else decide (y < ((vwCl[(tx_sh w x).1 - 10]?).map (fun r => r.2.2)).getD 0) && !(fI ((tx_sh w x).1 - 10) y)
theorem vp_q_ext {cA : ClassId} {n : Nat} {f g : Nat → Option Nat} (h : ∀ q, q < n → f q = g q) : vp_cell cA (n, .inr (.inr (.inr (.inr f)))) = vp_cell cA (n, .inr (.inr (.inr (.inr g)))) := by
  rw [vp_cell_q, vp_cell_q]
  unfold arrV
  congr 1
  congr 1
  funext q
  show va_rf (f q.val) = va_rf (g q.val)
  rw [h q.val q.isLt]
theorem wN_at {j : Int} {M' : TM} {H : Heap} (h : j ≠ i) (hR : ∀ y : Nat, rIn w j y = true → R j y ≠ i) (hM : ∀ y, M' j y = M j y) (k : va_at (wD w) vwCl (wa w j, tx_ent w R M j) H) : va_at (wD w) vwCl (wa w j, tx_ent (wN w i kd n a) R M' j) H := by
  unfold tx_ent at k ⊢
  rw [wN_n h]
  by_cases h4 : (tx_sh w j).1 ≤ 4
  · rw [if_pos h4] at k ⊢
    simp only [hM]
    exact k
  · rw [if_neg h4] at k ⊢
    by_cases h9 : (tx_sh w j).1 ≤ 9
    · rw [if_pos h9] at k ⊢
      have k : H[wa w j]? = some (vp_cell _ _) := k
      refine Eq.trans k (congrArg some (vp_q_ext (fun q hq => ?_)))
      exact (wN_F (hR q (by unfold rIn; rw [if_neg h4, if_pos h9]; exact decide_eq_true hq))).symm
    · rw [if_neg h9] at k ⊢
      obtain ⟨r, h1, h2⟩ := k
      obtain ⟨-, i2, -, -⟩ := tx_in _ _ h1
      refine ⟨r, h1, t_OB.to h2 (fun q hq => ?_)⟩
      have hq : q < r.2.2 := hq
      have hq2 : q < 26 := Nat.lt_of_lt_of_le hq i2
      simp only [vp_V, List.getD_eq_getElem?_getD, tx_fl_at hq2, Option.getD_some]
      unfold tx_fv
      rw [hM]
      split
      · rfl
      · rename_i hf
        refine (wN_V (hR q ?_)).symm
        unfold rIn
        rw [if_neg h4, if_neg h9, show vwCl[(tx_sh w j).1 - 10]? = some r from h1]
        simp only [Option.map_some, Option.getD_some, Bool.and_eq_true, decide_eq_true_eq, Bool.not_eq_true']
        exact ⟨hq, by simpa using hf⟩
theorem tx_H.grow {H H1 : Heap} {M' : TM} (hH : tx_H w R M H) (hR : ∀ (x : Int) (y : Nat), (tx_sh w x).1 ≠ 0 → rIn w x y = true → R x y ≠ i) (hM : ∀ x y, x ≠ i → M' x y = M x y) (hnew : va_at (wD w) vwCl (a, tx_ent (wN w i kd n a) R M' i) H1) (ho : ∀ q : Nat, q < H.size → H1[q]? = H[q]?) : tx_H (wN w i kd n a) R M' H1 := by
  intro j hj
  by_cases e : j = i
  · subst e
    rw [wN_as]
    exact hnew
  · rw [wN_n e] at hj
    rw [wN_an e]
    exact wN_at e (fun y hy => hR j y hj hy) (fun y => hM j y e) ((hH j hj).kept (ho _ (hH j hj).lt))
theorem tx_J.grow {H : Heap} (hJ : tx_J w) (hH : tx_H w R M H) (hz : wz w ≤ H.size) (hi : 2000 ≤ i) (hn : n < 2147483648) : tx_J (wN w i kd n H.size) := by
  refine ⟨fun x y hx hy he => ?_, fun x hx => ?_, fun x => ?_⟩
  · by_cases e1 : x = i
    · by_cases e2 : y = i
      · rw [e1, e2]
      · rw [wN_n e2] at hy
        rw [e1, wN_as, wN_an e2] at he
        have := (hH y hy).lt
        have h2 : wa w y < H.size := this
        omega
    · rw [wN_n e1] at hx
      by_cases e2 : y = i
      · rw [e2, wN_as, wN_an e1] at he
        have h2 : wa w x < H.size := (hH x hx).lt
        omega
      · rw [wN_n e2] at hy
        rw [wN_an e1, wN_an e2] at he
        exact hJ.1 x y hx hy he
  · by_cases e1 : x = i
    · rw [e1, wN_as]; exact hz
    · rw [wN_n e1] at hx
      rw [wN_an e1]; exact hJ.2.1 x hx
  · by_cases e1 : x = i
    · rw [e1, wN_s hi]; exact hn
    · rw [wN_n e1]; exact hJ.2.2 x
variable {E : ET} {own : String} {cc : ByteArray} {nL fr pc : Nat} {lv : List (Nat × Value)} {st : List Value}
theorem tx_newp {z : Int} {at0 : ArrayType} (kd : Nat) (i : Int) (O : tx_O w own cc nL fr E) (hd : decode cc pc = .ok (.newarray at0, 2)) (hk : (kd = 1 ∨ kd = 3 ∨ kd = 4) ∧ newarray.typeOf at0 = aty kd) (harr : Cond.arrayClass (aty kd) ∈ lw_all) (hz0 : 0 ≤ z ∧ z ≤ 1000) (hi : 2000 ≤ i) (hR : ∀ (x : Int) (y : Nat), (tx_sh w x).1 ≠ 0 → rIn w x y = true → R x y ≠ i) (hc : eC E + 1 ≤ E.2.2.1.cells ∧ eS E + z.toNat ≤ E.2.2.1.slots)
    (k : ∀ a : Nat, tx_J (wN w i kd z.toNat a) → tx_X (wN w i kd z.toNat a) (eAt E (eC E + 1) (eS E + z.toNat)) (pc + 2) lv (rV (wa (wN w i kd z.toNat a)) i :: st) R (zM M i)) : tx_X w E pc lv (iV z :: st) R M := by
  obtain ⟨p, e, Rm, s, m, args, below, meth, c, cells, slots, Z⟩ := E
  obtain ⟨hx, hb, hml, hown, hts, hK, hJ, hz, hlk, hfr, hlo, hce, hsl⟩ := O
  intro H locs hH hS ls hl
  have hr : rng z := ⟨by omega, by omega⟩
  have hneg : ¬ Int32.ofInt z < 0 := by
    rw [show (0 : Int32) = Int32.ofInt 0 from rfl, of_lt hr ⟨by omega, by omega⟩]
    omega
  have hb8 : componentBytes (newarray.typeOf at0) ≤ 8 := by
    rw [hk.2]
    rcases hk.1 with e | e | e <;> subst e <;> decide
  have hNN : wz w ≤ H.size := Nat.le_trans hz hS.1
  refine va_newaK hx hb (by rw [hk.2]; exact hts _ harr) rfl hd rfl hneg (of_clamp hr) (Nat.le_trans (Nat.mul_le_mul_left _ hb8) (by omega)) hc.1 hc.2 rfl fun H1 cA e1 z1 o1 hAr hNm => ?_
  have hcA : cA = wc w kd := by
    have h2 := tx_arcls hK hk.1
    rw [hk.2] at hNm
    exact Option.some.inj (hNm.symm.trans h2)
  subst hcA
  have hJ' : tx_J (wN w i kd z.toNat H.size) := hJ.grow hH hNN hi (by omega)
  have h := k H.size hJ' H1 locs (hH.grow hR (fun x y hxy => by unfold zM; rw [if_neg hxy]) (by
      rw [tx_ent_p (k := kd) (n := z.toNat) (wN_s hi) (by omega)]
      show H1[H.size]? = some (vp_cell _ _)
      rw [e1, vp_cell_i]
      congr 2
      funext q
      unfold zM
      rw [if_pos rfl, hk.2]
      rcases hk.1 with e | e | e <;> subst e <;> rfl) o1) ⟨Nat.le_trans hS.1 (by omega), fun x h1 h2 => (o1 x (Nat.lt_of_lt_of_le h1 hS.1)).trans (hS.2.1 x h1 h2), hS.2.2⟩ ls hl
  have e9 : rV (wa (wN w i kd z.toNat H.size)) i = .ref H.size := by
    rw [tx_ref (by rw [wN_s hi]; show kd ≠ 0; omega), wN_as]
  rw [e9] at h
  exact h
end GROW
/-- an id that no reference of ours names -/
theorem far_id (l : List Int) : ∃ i : Int, 2000 ≤ i ∧ ∀ v ∈ l, v < i := by
  induction l with
  | nil => exact ⟨2000, by omega, fun v h => by cases h⟩
  | cons a l ih =>
    obtain ⟨i, h1, h2⟩ := ih
    by_cases h : a < i
    · refine ⟨i, h1, fun v hv => ?_⟩
      rcases List.mem_cons.mp hv with e | e
      · rw [e]; exact h
      · exact h2 v e
    · refine ⟨a + 1, by omega, fun v hv => ?_⟩
      rcases List.mem_cons.mp hv with e | e
      · omega
      · have := h2 v e; omega
