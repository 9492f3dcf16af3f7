/-! PURE: rows of borrowers as figures -/
set_option maxRecDepth 100000
def pw (B n : Int) : Int := itI (fun _ s => s * B) 1 n
theorem pw_1 (B : Int) {n : Int} (h : 0 ≤ n) : pw B (n + 1) = pw B n * B := itI_1 _ _ h
theorem pw_ok {B n : Int} (hB : 0 ≤ B ∧ B ≤ 6) (hn : 0 ≤ n ∧ n ≤ 3) : 0 ≤ pw B n ∧ pw B n ≤ 216 ∧ (B = 0 → 0 < n → pw B n = 0) := by
  have h1 : B = 0 ∨ B = 1 ∨ B = 2 ∨ B = 3 ∨ B = 4 ∨ B = 5 ∨ B = 6 := by omega
  have h2 : n = 0 ∨ n = 1 ∨ n = 2 ∨ n = 3 := by omega
  rcases h1 with e | e | e | e | e | e | e <;> subst e <;> rcases h2 with e | e | e | e <;> subst e <;> decide
def fig (B code n i : Int) : Int := itI (fun _ x => x / B) code (n - 1 - i) % B
theorem fig_it {B code : Int} (hB : 0 < B) (hc : 0 ≤ code) : ∀ j, 0 ≤ j → 0 ≤ itI (fun _ x => x / B) code j ∧ itI (fun _ x => x / B) code j ≤ code := by
  intro j hj
  refine itI_ind (f := fun _ x => x / B) (a := code) (fun _ x => 0 ≤ x ∧ x ≤ code) j ⟨hc, Int.le_refl _⟩ ?_ j hj (Int.le_refl _)
  intro i x _ _ ⟨h1, h2⟩
  exact ⟨Int.ediv_nonneg h1 (by omega), Int.le_trans (Int.ediv_le_self _ h1) h2⟩
theorem fig_ok {B code n i : Int} (hB : 0 < B) : 0 ≤ fig B code n i ∧ fig B code n i < B := by
  unfold fig
  exact ⟨Int.emod_nonneg _ (by omega), Int.emod_lt_of_pos _ hB⟩
def turnP (u : PU) (code n : Int) (l : List Int) (i : Int) : List Int := itI (fun i l => hum (uq u (fig (uB u) code n i)) l) l i
theorem turnP_1 (u : PU) (code n : Int) (l : List Int) {i : Int} (h : 0 ≤ i) : turnP u code n l (i + 1) = hum (uq u (fig (uB u) code n i)) (turnP u code n l i) := itI_1 _ _ h
theorem turnP_ok {u : PU} (hu : uOk u) {code n : Int} {l : List Int} (hl : okN l) : ∀ i, 0 ≤ i → (0 < i → 0 < uB u) → okN (turnP u code n l i) := by
  intro i hi hB
  refine itI_ind (f := fun i l => hum (uq u (fig (uB u) code n i)) l) (a := l) (fun _ x => okN x) i hl ?_ i hi (Int.le_refl _)
  intro j x h1 h2 hx
  have hB := hB (by omega)
  exact hum_ok (uq_ok hu (fig_ok hB).1 (fig_ok hB).2) hx
def bitsP (l : List Int) : Int := itI (fun i b => zor b (zshl 1 (ga l i))) 0 l.length
theorem rng_zand (a b : Int) : rng (zand a b) := toInt_rng _
/-- the turned tune -/
def trn (u : PU) (t code n : Int) : List Int := turnP u code n (gl (uT u) t) n
def lendV (u : PU) (i n code : Int) : Int := if i = -1 then n else if i < n then fig (uB u) code n i else -1
def lendI (u : PU) (t wish i n code : Int) (s : Int × Int) : Int × Int := if s.1 = 1 then s else if zand wish (zxor (bitsP (trn u t code n)) (-1)) = 0 then (1, lendV u i n code) else s
def lendR (u : PU) (t wish i n : Int) (s : Int × Int) : Int × Int := itI (lendI u t wish i n) s (pw (uB u) n)
def lendP (u : PU) (t wish i : Int) : Int := (itI (lendR u t wish i) (0, -1) 4).2
theorem lendI_stay (u : PU) (t wish i n : Int) {s : Int × Int} {k m : Int} (h0 : 0 ≤ k) (hk : k ≤ m) (h : (itI (lendI u t wish i n) s k).1 = 1) : itI (lendI u t wish i n) s m = itI (lendI u t wish i n) s k :=
  itI_stay (fun x : Int × Int => x.1 = 1) (fun j x hx => by unfold lendI; rw [if_pos hx]) h0 hk h
theorem lendR_stay (u : PU) (t wish i : Int) {s : Int × Int} {k m : Int} (h0 : 0 ≤ k) (hk : k ≤ m) (h : (itI (lendR u t wish i) s k).1 = 1) : itI (lendR u t wish i) s m = itI (lendR u t wish i) s k := by
  refine itI_stay (fun x : Int × Int => x.1 = 1) (fun j x hx => ?_) h0 hk h
  unfold lendR
  by_cases hp : 0 ≤ pw (uB u) j
  · exact lendI_stay u t wish i j (k := 0) (by omega) hp hx
  · unfold itI
    rw [show (pw (uB u) j).toNat = 0 by omega]
    rfl
theorem lendP_found {u : PU} {t wish i n code : Int} (hn : 0 ≤ n ∧ n < 4) (hc : 0 ≤ code ∧ code < pw (uB u) n) (h1 : itI (lendR u t wish i) (0, -1) n = (0, -1)) (h2 : itI (lendI u t wish i n) (0, -1) code = (0, -1)) (h : zand wish (zxor (bitsP (trn u t code n)) (-1)) = 0) : lendP u t wish i = lendV u i n code := by
  have e1 : itI (lendI u t wish i n) (0, -1) (code + 1) = (1, lendV u i n code) := by
    rw [itI_1 _ _ hc.1, h2]
    unfold lendI
    rw [if_neg (by decide), if_pos h]
  have e2 : itI (lendR u t wish i) (0, -1) (n + 1) = (1, lendV u i n code) := by
    rw [itI_1 _ _ hn.1, h1]
    unfold lendR
    rw [lendI_stay u t wish i n (k := code + 1) (by omega) (by omega) (by rw [e1]), e1]
  unfold lendP
  rw [lendR_stay u t wish i (k := n + 1) (by omega) (by omega) (by rw [e2]), e2]
theorem lendI_no {u : PU} {t wish i n code : Int} (hc : 0 ≤ code) (h2 : itI (lendI u t wish i n) (0, -1) code = (0, -1)) (h : ¬ zand wish (zxor (bitsP (trn u t code n)) (-1)) = 0) : itI (lendI u t wish i n) (0, -1) (code + 1) = (0, -1) := by
  rw [itI_1 _ _ hc, h2]
  unfold lendI
  rw [if_neg (by decide), if_neg h]
theorem lendR_no {u : PU} {t wish i n : Int} (hn : 0 ≤ n) (h1 : itI (lendR u t wish i) (0, -1) n = (0, -1)) (h2 : itI (lendI u t wish i n) (0, -1) (pw (uB u) n) = (0, -1)) : itI (lendR u t wish i) (0, -1) (n + 1) = (0, -1) := by
  rw [itI_1 _ _ hn, h1]
  exact h2
def longI (u : PU) (t n code : Int) (s : Int × Int) : Int × Int := (if s.2 < (trn u t code n).length then code else s.1, max s.2 (trn u t code n).length)
def longP (u : PU) (t n i : Int) : Int := if (itI (longI u t n) (-1, -1) (pw (uB u) n)).1 = -1 then -1 else if i = -1 then (itI (longI u t n) (-1, -1) (pw (uB u) n)).2 else fig (uB u) (itI (longI u t n) (-1, -1) (pw (uB u) n)).1 n i
theorem longI_ok {u : PU} (hu : uOk u) {t n : Int} (ht : 0 ≤ t ∧ t < (uT u).length) (hn : 0 ≤ n ∧ n ≤ 3) : ∀ c, 0 ≤ c → c ≤ pw (uB u) n → (-1 ≤ (itI (longI u t n) (-1, -1) c).1 ∧ (itI (longI u t n) (-1, -1) c).1 < c) ∧ (-1 ≤ (itI (longI u t n) (-1, -1) c).2 ∧ (itI (longI u t n) (-1, -1) c).2 ≤ 40) ∧ ((itI (longI u t n) (-1, -1) c).1 = -1 → (itI (longI u t n) (-1, -1) c).2 = -1) := by
  refine itI_ind (f := longI u t n) (a := ((-1 : Int), (-1 : Int))) (fun c s => (-1 ≤ s.1 ∧ s.1 < c) ∧ (-1 ≤ s.2 ∧ s.2 ≤ 40) ∧ (s.1 = -1 → s.2 = -1)) (pw (uB u) n) (by dsimp only; omega) ?_
  rintro c ⟨b, m⟩ h0 h1 ⟨h2, h3, h4⟩
  have hp := pw_ok (uB_ok hu) hn
  have hT := uT_ok hu
  have hl : okN (trn u t c n) := turnP_ok hu (okN_of (hT.2 _ (gl_mem ht.1 ht.2)).1) n hn.1 (fun q => by have := uB_ok hu; rcases (show uB u = 0 ∨ 0 < uB u by omega) with e | e; (have := hp.2.2 e q; omega); exact e)
  have := hl.1
  unfold longI
  dsimp only at h2 h3 h4 ⊢
  split <;> omega
def codeP (B code n i : Int) : Int := itI (fun i v => 7 * v + fig B code n i + 1) 0 i
theorem codeP_ok {B code n : Int} (hB : 0 < B ∧ B ≤ 6) : ∀ i, 0 ≤ i → i ≤ 3 → 0 ≤ codeP B code n i ∧ codeP B code n i ≤ 7 * 49 := by
  intro i h0 h3
  have h1 : ∀ x, 0 ≤ fig B code n x ∧ fig B code n x ≤ 5 := fun x => by have := fig_ok (code := code) (n := n) (i := x) hB.1; omega
  have e : i = 0 ∨ i = 1 ∨ i = 2 ∨ i = 3 := by omega
  have a0 := h1 0
  have a1 := h1 1
  have a2 := h1 2
  rcases e with e | e | e | e <;> subst e
  · show (0 : Int) ≤ 0 ∧ (0 : Int) ≤ 7 * 49
    omega
  · show 0 ≤ 7 * 0 + fig B code n 0 + 1 ∧ 7 * 0 + fig B code n 0 + 1 ≤ 7 * 49
    omega
  · show 0 ≤ 7 * (7 * 0 + fig B code n 0 + 1) + fig B code n 1 + 1 ∧ 7 * (7 * 0 + fig B code n 0 + 1) + fig B code n 1 + 1 ≤ 7 * 49
    omega
  · show 0 ≤ 7 * (7 * (7 * 0 + fig B code n 0 + 1) + fig B code n 1 + 1) + fig B code n 2 + 1 ∧ 7 * (7 * (7 * 0 + fig B code n 0 + 1) + fig B code n 1 + 1) + fig B code n 2 + 1 ≤ 7 * 49
    omega
def whoI (u : PU) (t o n code : Int) (s : Int × Int) : Int × Int := if trn u t code n = gl (uT u) o then (s.1 + 1, if s.1 = 0 then codeP (uB u) code n n else s.2) else s
def whoR (u : PU) (t o n : Int) (s : Int × Int) : Int × Int := itI (whoI u t o n) s (pw (uB u) n)
def whoS (u : PU) (t o : Int) (n : Int) : Int × Int := itI (whoR u t o) (0, -1) n
def whoP (u : PU) (t o what : Int) : Int := if what = 0 then (whoS u t o 4).1 else (whoS u t o 4).2
theorem ext_ga {a b : List Int} (h : a.length = b.length) (h2 : ∀ i : Int, 0 ≤ i → i < a.length → ga a i = ga b i) : a = b := by
  apply List.ext_getElem h
  intro i h3 h4
  have := h2 i (by omega) (by omega)
  unfold ga at this
  rw [List.getD_eq_getElem?_getD, List.getD_eq_getElem?_getD, Int.toNat_natCast, List.getElem?_eq_getElem h3, List.getElem?_eq_getElem h4] at this
  exact this
theorem trn_ok {u : PU} (hu : uOk u) {t code n : Int} (ht : 0 ≤ t ∧ t < (uT u).length) (hn : 0 ≤ n) (hB : 0 < n → 0 < uB u) : okN (trn u t code n) :=
  turnP_ok hu (okN_of ((uT_ok hu).2 _ (gl_mem ht.1 ht.2)).1) n hn hB
