/-! THE LAW: its cases -/
set_option maxRecDepth 100000
section LAWC
variable {w : WT} {E : ET} {lv : List (Nat × Value)} {st : List Value} {R M : TM} {bb LL : Nat} {xs : Nat → Int32}
theorem tx_icmp_same {own : String} {cc : ByteArray} {nL fr pc : Nat} {off a b : Int} (tgt : Nat) (O : tx_O w own cc nL fr E) (hd : decode cc pc = .ok (.if_icmp .eq off, 3)) (ht : (pc : Int) + off = (tgt : Int)) (e0 : a = b) (kt : tx_X w E tgt lv st R M) : tx_X w E pc lv (iV b :: iV a :: st) R M := by
  obtain ⟨p, e, Rm, s, m, args, below, meth, c, cells, slots, Z⟩ := E
  obtain ⟨hx, hb, hml, hown, hts, hK, hJ, hz, hlk, hfr, hlo, hce, hsl⟩ := O
  intro H locs hH hS ls hl
  subst e0
  exact lv_icmp_eq hx hb hd ht (fun q => kt H locs hH hS ls hl) (fun q => absurd rfl q)
theorem tx_lcmp_same {own : String} {cc : ByteArray} {nL fr pc : Nat} {a b : Int} (O : tx_O w own cc nL fr E) (hd : decode cc pc = .ok (.lcmp, 1)) (e0 : a = b) (k : tx_X w E (pc + 1) lv (iV 0 :: st) R M) : tx_X w E pc lv (lV b :: lV a :: st) R M := by
  obtain ⟨p, e, Rm, s, m, args, below, meth, c, cells, slots, Z⟩ := E
  obtain ⟨hx, hb, hml, hown, hts, hK, hJ, hz, hlk, hfr, hlo, hce, hsl⟩ := O
  intro H locs hH hS ls hl
  subst e0
  refine W.lcmp hx hb hd ?_
  have e1 : lg_cmp (Int64.ofInt a) (Int64.ofInt a) = Int32.ofInt 0 := by
    unfold lg_cmp
    simp [Int64.lt_irrefl]
  rw [e1]
  exact k H locs hH hS ls hl
theorem tx_arg6 {own : String} {cc : ByteArray} {nL fr pc : Nat} {i : Int} {n1 : Int} (O : tx_O w own cc nL fr E) (C : tx_SC w bb LL xs E) (hL : LL < 2147483648) (d0 : decode cc pc = .ok (.aload_n 0, 1)) (d1 : decode cc (pc + 1) = .ok (.iload_n 3, 1)) (d2 : decode cc (pc + 2) = .ok (.bipush n1, 2)) (d3 : decode cc (pc + 4) = .ok (.iadd, 1)) (d4 : decode cc (pc + 5) = .ok (.iaload, 1)) (j0 j3 : Nat) (h0 : lv[j0]? = some (0, .ref bb)) (h3 : lv[j3]? = some (3, iV i)) (hi : 0 ≤ i + n1 ∧ i + n1 < LL ∧ -128 ≤ n1 ∧ n1 ≤ 127) (k : tx_X w E (pc + 6) lv (iV (sc xs (i + n1)) :: st) R M) : tx_X w E pc lv st R M := by
  refine tx_aloadx j0 O d0 rfl h0 ?_
  refine tx_iload_n (pc := pc + 1) j3 O d1 rfl h3 ?_
  refine tx_bipush (pc := pc + 2) O d2 (by omega) ?_
  refine tx_iadd (pc := pc + 4) O d3 ?_
  exact tx_sld (pc := pc + 5) O C d4 hL (by omega) k
theorem jI.cty (h : jI w R M) : cTy M := ⟨h.2.1.r.1, h.2.1.r.2.1⟩
theorem jI.cl (h : jI w R M) : 0 ≤ M 1 9 ∧ M 1 9 ≤ 12 := h.2.1.r.2.2.2.2.1
theorem jI.mid (h : jI w R M) {M1 : TM} (k : ∀ a b : Int, 2 ≤ a ∧ a ≤ 125 → M1 a b = M a b) : mTy M1 ∧ (0 ≤ M1 2 12 ∧ M1 2 12 ≤ 12) ∧ mSh M1 ∧ (∀ j : Int, rng (M1 102 j)) ∧ mT M1 (uM M) := by
  obtain ⟨o1, o2, o3, o4, o5, o6, o7⟩ := h.2.1.r
  obtain ⟨d1, d2, d3, d4, d5, d6, d7, d8⟩ := h.2.1
  refine ⟨?_, ?_, ?_, fun j => by rw [k _ _ (by omega)]; exact h.2.2.2.1.2.2 j, h.m.keep' (fun a b q => k a b (by omega))⟩
  · unfold mTy
    rw [k 106 0 (by omega), k 106 1 (by omega)]
    omega
  · rw [k 2 12 (by omega)]
    omega
  · intro s a b
    rw [k 100 s (by omega), k 101 s (by omega)]
    exact h.n s a b
theorem tx_O.mv {own : String} {cc : ByteArray} {nL fr : Nat} {w' : WT} (O : tx_O w own cc nL fr E) (hx : tx_ext w w') (hJ' : tx_J w') {a b : Nat} (ha : a ≤ E.2.2.1.cells) (hb : b ≤ E.2.2.1.slots) : tx_O w' own cc nL fr (eAt E a b) := by
  obtain ⟨p, e, Rm, s, m, args, below, meth, c, cells, slots, Z⟩ := E
  obtain ⟨hx1, hb1, hml, hown, hts, hK, hJ, hz, hlk, hfr, hlo, hce, hsl⟩ := O
  exact ⟨hx1, hb1, hml, hown, hts, hx.K hK, hJ', by rw [hx.2.1]; exact hz, hlk, hfr, hlo, ha, hb⟩
theorem tx_SC.mv {w' : WT} (C : tx_SC w bb LL xs E) (hx : tx_ext w w') (a b : Nat) : tx_SC w' bb LL xs (eAt E a b) := by
  obtain ⟨p, e, Rm, s, m, args, below, meth, c, cells, slots, Z⟩ := E
  exact ⟨C.1, C.2.1, by rw [hx.2.1]; exact C.2.2⟩
end LAWC
theorem law_type (w : WT) (E : ET) (R M : TM) {bb LL : Nat} {xs : Nat → Int32} (i : Int) (O : tx_O w "TuneLoansLaw" cL_law 4 400 E) (C : tx_SC w bb LL xs E) (hL : LL ≤ 448) (h : jI w R M) (hi : 0 ≤ i ∧ i + 7 ≤ LL) (K : ∀ (R1 M1 : TM), jI w R1 M1 → tx_X w E 1367 [(3, iV i), (2, rV (wa w) 2), (1, rV (wa w) 1), (0, .ref bb)] [] R1 M1) : tx_X w E 188 [(3, iV i), (2, rV (wa w) 2), (1, rV (wa w) 1), (0, .ref bb)] [] R M := by
  refine tx_aload_n (pc := 188) 2 O dL_law_188 rfl rfl ?_
  refine tx_arg (pc := 189) O C (by omega) dL_law_189 dL_law_190 dL_law_191 dL_law_192 dL_law_193 3 0 rfl rfl (by omega) ?_
  refine tx_arg (pc := 194) O C (by omega) dL_law_194 dL_law_195 dL_law_196 dL_law_197 dL_law_198 3 0 rfl rfl (by omega) ?_
  refine tx_cV2 (pc := 199) O dL_law_199 q101 vX0_type (sh_1 w) rfl (by decide) (Nat.zero_le _) (sX0_type w _ _ _ _ h.1 h.cty (sc_rng _ _) (sc_rng _ _)) (k_I (fun z1 M1 h1 => ?_))
  have kk : ∀ a b : Int, 2 ≤ a ∧ a ≤ 125 → M1 a b = M a b := by
    intro a b q
    rcases h1 with ⟨-, -, rfl⟩ | ⟨g, ⟨-, -, rfl⟩ | ⟨-, -, rfl⟩⟩
    all_goals first | rfl | ((repeat rw [up_n (by omega)]))
  have mid := h.mid kk
  refine tx_aload_n (pc := 202) 1 O dL_law_202 rfl rfl ?_
  refine tx_arg (pc := 203) O C (by omega) dL_law_203 dL_law_204 dL_law_205 dL_law_206 dL_law_207 3 0 rfl rfl (by omega) ?_
  refine tx_arg (pc := 208) O C (by omega) dL_law_208 dL_law_209 dL_law_210 dL_law_211 dL_law_212 3 0 rfl rfl (by omega) ?_
  refine tx_cV2 (pc := 213) O dL_law_213 q942 vX6_type (sh_2 w) rfl (by decide) (Nat.le_of_ble_eq_true rfl) (sX6_type _ _ _ _ _ h.1 mid.1 (sc_rng _ _) (sc_rng _ _)) (k_I (fun z2 M2 h2 => ?_))
  obtain ⟨ez, hj⟩ := j_type h h1 h2
  refine tx_icmp_same (pc := 216) 1367 O dL_law_216 rfl ez ?_
  exact K _ _ hj
theorem law_wipe (w : WT) (E : ET) (R M : TM) {bb LL : Nat} {xs : Nat → Int32} (i : Int) (O : tx_O w "TuneLoansLaw" cL_law 4 400 E) (C : tx_SC w bb LL xs E) (hL : LL ≤ 448) (h : jI w R M) (hi : 0 ≤ i ∧ i + 7 ≤ LL) (K : ∀ (R1 M1 : TM), jI w R1 M1 → tx_X w E 1367 [(3, iV i), (2, rV (wa w) 2), (1, rV (wa w) 1), (0, .ref bb)] [] R1 M1) : tx_X w E 221 [(3, iV i), (2, rV (wa w) 2), (1, rV (wa w) 1), (0, .ref bb)] [] R M := by
  refine tx_aload_n (pc := 221) 2 O dL_law_221 rfl rfl ?_
  refine tx_arg (pc := 222) O C (by omega) dL_law_222 dL_law_223 dL_law_224 dL_law_225 dL_law_226 3 0 rfl rfl (by omega) ?_
  refine tx_cV1 (pc := 227) O dL_law_227 q111 vX0_wipe (sh_1 w) rfl (by decide) (Nat.zero_le _) (sX0_wipe w _ _ _ h.1 (sc_rng _ _)) (k_I (fun z1 M1 h1 => ?_))
  have kk : ∀ a b : Int, 2 ≤ a ∧ a ≤ 125 → M1 a b = M a b := by
    intro a b q
    rcases h1 with ⟨-, -, rfl⟩ | ⟨-, -, rfl⟩
    all_goals first | rfl | ((repeat rw [up_n (by omega)]))
  have mid := h.mid kk
  refine tx_aload_n (pc := 230) 1 O dL_law_230 rfl rfl ?_
  refine tx_arg (pc := 231) O C (by omega) dL_law_231 dL_law_232 dL_law_233 dL_law_234 dL_law_235 3 0 rfl rfl (by omega) ?_
  refine tx_cV1 (pc := 236) O dL_law_236 q950 vX6_wipe (sh_2 w) rfl (by decide) (Nat.le_of_ble_eq_true rfl) (sX6_wipe _ _ _ _ h.1 (sc_rng _ _)) (k_I (fun z2 M2 h2 => ?_))
  obtain ⟨ez, hj⟩ := j_wipe h h1 h2
  refine tx_icmp_same (pc := 239) 1367 O dL_law_239 rfl ez ?_
  exact K _ _ hj
theorem law_undo (w : WT) (E : ET) (R M : TM) {bb LL : Nat} {xs : Nat → Int32} (i : Int) (O : tx_O w "TuneLoansLaw" cL_law 4 400 E) (C : tx_SC w bb LL xs E) (hL : LL ≤ 448) (h : jI w R M) (hi : 0 ≤ i ∧ i + 7 ≤ LL) (K : ∀ (R1 M1 : TM), jI w R1 M1 → tx_X w E 1367 [(3, iV i), (2, rV (wa w) 2), (1, rV (wa w) 1), (0, .ref bb)] [] R1 M1) : tx_X w E 244 [(3, iV i), (2, rV (wa w) 2), (1, rV (wa w) 1), (0, .ref bb)] [] R M := by
  refine tx_aload_n (pc := 244) 2 O dL_law_244 rfl rfl ?_
  refine tx_arg (pc := 245) O C (by omega) dL_law_245 dL_law_246 dL_law_247 dL_law_248 dL_law_249 3 0 rfl rfl (by omega) ?_
  refine tx_cV1 (pc := 250) O dL_law_250 q115 vX0_undo (sh_1 w) rfl (by decide) (Nat.zero_le _) (sX0_undo w _ _ _ h.1 h.cty (sc_rng _ _)) (k_I (fun z1 M1 h1 => ?_))
  have kk : ∀ a b : Int, 2 ≤ a ∧ a ≤ 125 → M1 a b = M a b := by
    intro a b q
    rcases h1 with ⟨-, -, rfl⟩ | ⟨-, ⟨-, -, rfl⟩ | ⟨-, -, rfl⟩⟩
    all_goals first | rfl | ((repeat rw [up_n (by omega)]))
  have mid := h.mid kk
  refine tx_aload_n (pc := 253) 1 O dL_law_253 rfl rfl ?_
  refine tx_arg (pc := 254) O C (by omega) dL_law_254 dL_law_255 dL_law_256 dL_law_257 dL_law_258 3 0 rfl rfl (by omega) ?_
  refine tx_cV1 (pc := 259) O dL_law_259 q954 vX6_undo (sh_2 w) rfl (by decide) (Nat.le_of_ble_eq_true rfl) (sX6_undo _ _ _ _ h.1 mid.1 (sc_rng _ _)) (k_I (fun z2 M2 h2 => ?_))
  obtain ⟨ez, hj⟩ := j_undo h h1 h2
  refine tx_icmp_same (pc := 262) 1367 O dL_law_262 rfl ez ?_
  exact K _ _ hj
theorem law_fault (w : WT) (E : ET) (R M : TM) {bb LL : Nat} {xs : Nat → Int32} (i : Int) (O : tx_O w "TuneLoansLaw" cL_law 4 400 E) (C : tx_SC w bb LL xs E) (hL : LL ≤ 448) (h : jI w R M) (hi : 0 ≤ i ∧ i + 7 ≤ LL) (K : ∀ (R1 M1 : TM), jI w R1 M1 → tx_X w E 1367 [(3, iV i), (2, rV (wa w) 2), (1, rV (wa w) 1), (0, .ref bb)] [] R1 M1) : tx_X w E 267 [(3, iV i), (2, rV (wa w) 2), (1, rV (wa w) 1), (0, .ref bb)] [] R M := by
  refine tx_aload_n (pc := 267) 2 O dL_law_267 rfl rfl ?_
  refine tx_arg (pc := 268) O C (by omega) dL_law_268 dL_law_269 dL_law_270 dL_law_271 dL_law_272 3 0 rfl rfl (by omega) ?_
  refine tx_cV1 (pc := 273) O dL_law_273 q119 vX0_fault (sh_1 w) rfl (by decide) (Nat.zero_le _) (sX0_fault w _ _ _ (uM M) h.1 h.c (sc_rng _ _)) (k_C (fun z1 R1 M1 h1 => ?_))
  have kk : ∀ a b : Int, 2 ≤ a ∧ a ≤ 125 → M1 a b = M a b := fun a b q => h1.2.2.1 a b (by omega)
  have mid := h.mid kk
  refine tx_aload_n (pc := 276) 1 O dL_law_276 rfl rfl ?_
  refine tx_arg (pc := 277) O C (by omega) dL_law_277 dL_law_278 dL_law_279 dL_law_280 dL_law_281 3 0 rfl rfl (by omega) ?_
  refine tx_cV1 (pc := 282) O dL_law_282 q958 vX6_fault (sh_2 w) rfl (by decide) (Nat.le_of_ble_eq_true rfl) (sX6_fault _ _ _ _ (uM M) (h.1.kp h1.2.2.2.1) mid.2.2.2.2 (sc_rng _ _)) (k_I (fun z2 M2 h2 => ?_))
  have ez : z1 = z2 := by
    rcases h1.1 with q | q | q <;> rcases h2.1 with r | r | r <;> first | omega | (rw [q.2, r.2])
  have hj := h.q h1.2 h2.2
  refine tx_icmp_same (pc := 285) 1367 O dL_law_285 rfl ez ?_
  exact K _ _ hj
theorem law_tune (w : WT) (E : ET) (R M : TM) {bb LL : Nat} {xs : Nat → Int32} (i : Int) (O : tx_O w "TuneLoansLaw" cL_law 4 400 E) (C : tx_SC w bb LL xs E) (hL : LL ≤ 448) (h : jI w R M) (hi : 0 ≤ i ∧ i + 7 ≤ LL) (K : ∀ (R1 M1 : TM), jI w R1 M1 → tx_X w E 1367 [(3, iV i), (2, rV (wa w) 2), (1, rV (wa w) 1), (0, .ref bb)] [] R1 M1) : tx_X w E 290 [(3, iV i), (2, rV (wa w) 2), (1, rV (wa w) 1), (0, .ref bb)] [] R M := by
  refine tx_aload_n (pc := 290) 2 O dL_law_290 rfl rfl ?_
  refine tx_arg (pc := 291) O C (by omega) dL_law_291 dL_law_292 dL_law_293 dL_law_294 dL_law_295 3 0 rfl rfl (by omega) ?_
  refine tx_arg (pc := 296) O C (by omega) dL_law_296 dL_law_297 dL_law_298 dL_law_299 dL_law_300 3 0 rfl rfl (by omega) ?_
  refine tx_cV2 (pc := 301) O dL_law_301 q148 vX0_tune (sh_1 w) rfl (by decide) (Nat.zero_le _) (sX0_tune w _ _ _ _ (uM M) h.1 h.c (sc_rng _ _) (sc_rng _ _)) (k_C (fun z1 R1 M1 h1 => ?_))
  have kk : ∀ a b : Int, 2 ≤ a ∧ a ≤ 125 → M1 a b = M a b := fun a b q => h1.2.2.1 a b (by omega)
  have mid := h.mid kk
  refine tx_aload_n (pc := 304) 1 O dL_law_304 rfl rfl ?_
  refine tx_arg (pc := 305) O C (by omega) dL_law_305 dL_law_306 dL_law_307 dL_law_308 dL_law_309 3 0 rfl rfl (by omega) ?_
  refine tx_arg (pc := 310) O C (by omega) dL_law_310 dL_law_311 dL_law_312 dL_law_313 dL_law_314 3 0 rfl rfl (by omega) ?_
  refine tx_cV2 (pc := 315) O dL_law_315 q979 vX6_tune (sh_2 w) rfl (by decide) (Nat.le_of_ble_eq_true rfl) (sX6_tune _ _ _ _ _ (uM M) (h.1.kp h1.2.2.2.1) mid.2.2.2.2 (sc_rng _ _) (sc_rng _ _)) (k_I (fun z2 M2 h2 => ?_))
  have ez : z1 = z2 := by
    rcases h1.1 with q | q <;> rcases h2.1 with r | r <;> first | omega | (rw [q.2, r.2])
  have hj := h.q h1.2 h2.2
  refine tx_icmp_same (pc := 318) 1367 O dL_law_318 rfl ez ?_
  exact K _ _ hj
theorem law_borrower (w : WT) (E : ET) (R M : TM) {bb LL : Nat} {xs : Nat → Int32} (i : Int) (O : tx_O w "TuneLoansLaw" cL_law 4 400 E) (C : tx_SC w bb LL xs E) (hL : LL ≤ 448) (h : jI w R M) (hi : 0 ≤ i ∧ i + 7 ≤ LL) (K : ∀ (R1 M1 : TM), jI w R1 M1 → tx_X w E 1367 [(3, iV i), (2, rV (wa w) 2), (1, rV (wa w) 1), (0, .ref bb)] [] R1 M1) : tx_X w E 323 [(3, iV i), (2, rV (wa w) 2), (1, rV (wa w) 1), (0, .ref bb)] [] R M := by
  refine tx_aload_n (pc := 323) 2 O dL_law_323 rfl rfl ?_
  refine tx_arg (pc := 324) O C (by omega) dL_law_324 dL_law_325 dL_law_326 dL_law_327 dL_law_328 3 0 rfl rfl (by omega) ?_
  refine tx_arg (pc := 329) O C (by omega) dL_law_329 dL_law_330 dL_law_331 dL_law_332 dL_law_333 3 0 rfl rfl (by omega) ?_
  refine tx_cV2 (pc := 334) O dL_law_334 q159 vX0_borrower (sh_1 w) rfl (by decide) (Nat.zero_le _) (sX0_borrower w _ _ _ _ (uM M) h.1 h.c (sc_rng _ _) (sc_rng _ _)) (k_C (fun z1 R1 M1 h1 => ?_))
  have kk : ∀ a b : Int, 2 ≤ a ∧ a ≤ 125 → M1 a b = M a b := fun a b q => h1.2.2.1 a b (by omega)
  have mid := h.mid kk
  refine tx_aload_n (pc := 337) 1 O dL_law_337 rfl rfl ?_
  refine tx_arg (pc := 338) O C (by omega) dL_law_338 dL_law_339 dL_law_340 dL_law_341 dL_law_342 3 0 rfl rfl (by omega) ?_
  refine tx_arg (pc := 343) O C (by omega) dL_law_343 dL_law_344 dL_law_345 dL_law_346 dL_law_347 3 0 rfl rfl (by omega) ?_
  refine tx_cV2 (pc := 348) O dL_law_348 q993 vX6_borrower (sh_2 w) rfl (by decide) (Nat.le_of_ble_eq_true rfl) (sX6_borrower _ _ _ _ _ (uM M) (h.1.kp h1.2.2.2.1) mid.2.2.2.2 (sc_rng _ _) (sc_rng _ _)) (k_I (fun z2 M2 h2 => ?_))
  have ez : z1 = z2 := by
    rcases h1.1 with q | q <;> rcases h2.1 with r | r <;> first | omega | (rw [q.2, r.2])
  have hj := h.q h1.2 h2.2
  refine tx_icmp_same (pc := 351) 1367 O dL_law_351 rfl ez ?_
  exact K _ _ hj
theorem law_loan (w : WT) (E : ET) (R M : TM) {bb LL : Nat} {xs : Nat → Int32} (i : Int) (O : tx_O w "TuneLoansLaw" cL_law 4 400 E) (C : tx_SC w bb LL xs E) (hL : LL ≤ 448) (h : jI w R M) (hi : 0 ≤ i ∧ i + 7 ≤ LL) (K : ∀ (R1 M1 : TM), jI w R1 M1 → tx_X w E 1367 [(3, iV i), (2, rV (wa w) 2), (1, rV (wa w) 1), (0, .ref bb)] [] R1 M1) : tx_X w E 356 [(3, iV i), (2, rV (wa w) 2), (1, rV (wa w) 1), (0, .ref bb)] [] R M := by
  refine tx_aload_n (pc := 356) 2 O dL_law_356 rfl rfl ?_
  refine tx_arg (pc := 357) O C (by omega) dL_law_357 dL_law_358 dL_law_359 dL_law_360 dL_law_361 3 0 rfl rfl (by omega) ?_
  refine tx_arg (pc := 362) O C (by omega) dL_law_362 dL_law_363 dL_law_364 dL_law_365 dL_law_366 3 0 rfl rfl (by omega) ?_
  refine tx_arg (pc := 367) O C (by omega) dL_law_367 dL_law_368 dL_law_369 dL_law_370 dL_law_371 3 0 rfl rfl (by omega) ?_
  refine tx_arg (pc := 372) O C (by omega) dL_law_372 dL_law_373 dL_law_374 dL_law_375 dL_law_376 3 0 rfl rfl (by omega) ?_
  refine tx_cV4 (pc := 377) O dL_law_377 q182 vX0_loan (sh_1 w) rfl (by decide) (Nat.zero_le _) (sX0_loan w _ _ _ _ _ _ h.1 h.cl (sc_rng _ _) (sc_rng _ _) (sc_rng _ _) (sc_rng _ _)) (k_I (fun z1 M1 h1 => ?_))
  have kk : ∀ a b : Int, 2 ≤ a ∧ a ≤ 125 → M1 a b = M a b := by
    intro a b q
    rcases h1 with ⟨-, -, rfl⟩ | ⟨-, ⟨-, -, rfl⟩ | ⟨-, -, rfl⟩⟩
    all_goals first | rfl | ((repeat rw [up_n (by omega)]))
  have mid := h.mid kk
  refine tx_aload_n (pc := 380) 1 O dL_law_380 rfl rfl ?_
  refine tx_arg (pc := 381) O C (by omega) dL_law_381 dL_law_382 dL_law_383 dL_law_384 dL_law_385 3 0 rfl rfl (by omega) ?_
  refine tx_arg (pc := 386) O C (by omega) dL_law_386 dL_law_387 dL_law_388 dL_law_389 dL_law_390 3 0 rfl rfl (by omega) ?_
  refine tx_arg (pc := 391) O C (by omega) dL_law_391 dL_law_392 dL_law_393 dL_law_394 dL_law_395 3 0 rfl rfl (by omega) ?_
  refine tx_arg (pc := 396) O C (by omega) dL_law_396 dL_law_397 dL_law_398 dL_law_399 dL_law_400 3 0 rfl rfl (by omega) ?_
  refine tx_cV4 (pc := 401) O dL_law_401 q1001 vX6_loan (sh_2 w) rfl (by decide) (Nat.le_of_ble_eq_true rfl) (sX6_loan _ _ _ _ _ _ _ h.1 mid.2.1 (sc_rng _ _) (sc_rng _ _) (sc_rng _ _) (sc_rng _ _)) (k_I (fun z2 M2 h2 => ?_))
  obtain ⟨ez, hj⟩ := j_loan h h1 h2
  refine tx_icmp_same (pc := 404) 1367 O dL_law_404 rfl ez ?_
  exact K _ _ hj
theorem law_back (w : WT) (E : ET) (R M : TM) {bb LL : Nat} {xs : Nat → Int32} (i : Int) (O : tx_O w "TuneLoansLaw" cL_law 4 400 E) (C : tx_SC w bb LL xs E) (hL : LL ≤ 448) (h : jI w R M) (hi : 0 ≤ i ∧ i + 7 ≤ LL) (K : ∀ (R1 M1 : TM), jI w R1 M1 → tx_X w E 1367 [(3, iV i), (2, rV (wa w) 2), (1, rV (wa w) 1), (0, .ref bb)] [] R1 M1) : tx_X w E 409 [(3, iV i), (2, rV (wa w) 2), (1, rV (wa w) 1), (0, .ref bb)] [] R M := by
  refine tx_aload_n (pc := 409) 2 O dL_law_409 rfl rfl ?_
  refine tx_cV0 (pc := 410) O dL_law_410 q192 vX0_back (sh_1 w) rfl (by decide) (Nat.zero_le _) (sX0_back w _ _ h.cl) (k_I (fun z1 M1 h1 => ?_))
  have kk : ∀ a b : Int, 2 ≤ a ∧ a ≤ 125 → M1 a b = M a b := by
    intro a b q
    rcases h1 with ⟨-, -, rfl⟩ | ⟨-, -, rfl⟩
    all_goals first | rfl | ((repeat rw [up_n (by omega)]))
  have mid := h.mid kk
  refine tx_aload_n (pc := 413) 1 O dL_law_413 rfl rfl ?_
  refine tx_cV0 (pc := 414) O dL_law_414 q1011 vX6_back (sh_2 w) rfl (by decide) (Nat.le_of_ble_eq_true rfl) (sX6_back _ _ _ mid.2.1) (k_I (fun z2 M2 h2 => ?_))
  obtain ⟨ez, hj⟩ := j_back h h1 h2
  refine tx_icmp_same (pc := 417) 1367 O dL_law_417 rfl ez ?_
  exact K _ _ hj
theorem law_read (w : WT) (E : ET) (R M : TM) {bb LL : Nat} {xs : Nat → Int32} (i : Int) (O : tx_O w "TuneLoansLaw" cL_law 4 400 E) (C : tx_SC w bb LL xs E) (hL : LL ≤ 448) (h : jI w R M) (hi : 0 ≤ i ∧ i + 7 ≤ LL) (K : ∀ (R1 M1 : TM), jI w R1 M1 → tx_X w E 1367 [(3, iV i), (2, rV (wa w) 2), (1, rV (wa w) 1), (0, .ref bb)] [] R1 M1) : tx_X w E 422 [(3, iV i), (2, rV (wa w) 2), (1, rV (wa w) 1), (0, .ref bb)] [] R M := by
  have hit : 0 ≤ sc xs (i + 1) → sc xs (i + 1) ≤ 3 → R (600 + sc xs (i + 1)) 1 ≠ 0 → ∀ j : Int, 0 ≤ j → j < (M 101 (sc xs (i + 1))).toNat → rng (M (R (600 + sc xs (i + 1)) 1) j) := by
    intro a b c j j1 j2
    have q := h.2.2.2.1.1 _ a b
    rw [(q.1.resolve_left (fun z => c z.1)).2.2 j j1 (by omega)]
    exact h.2.2.2.1.2.2 _
  refine tx_aload_n (pc := 422) 2 O dL_law_422 rfl rfl ?_
  refine tx_arg (pc := 423) O C (by omega) dL_law_423 dL_law_424 dL_law_425 dL_law_426 dL_law_427 3 0 rfl rfl (by omega) ?_
  refine tx_cV1 (pc := 428) O dL_law_428 q196 vX0_read (sh_1 w) rfl (by decide) (Nat.zero_le _) (sX0_read w _ _ _ _ h.1 h.cl (sc_rng _ _) (h.hc _) hit) (k_I (fun z1 M1 h1 => ?_))
  have kk : ∀ a b : Int, 2 ≤ a ∧ a ≤ 125 → M1 a b = M a b := by
    intro a b q
    rcases h1 with ⟨-, -, rfl⟩ | ⟨-, ⟨-, -, rfl⟩ | ⟨-, -, -, -, -, g⟩⟩
    · rfl
    · rw [up_n (by omega)]
    · exact g a b (by omega)
  have mid := h.mid kk
  refine tx_aload_n (pc := 431) 1 O dL_law_431 rfl rfl ?_
  refine tx_arg (pc := 432) O C (by omega) dL_law_432 dL_law_433 dL_law_434 dL_law_435 dL_law_436 3 0 rfl rfl (by omega) ?_
  refine tx_cV1 (pc := 437) O dL_law_437 q1015 vX6_read (sh_2 w) rfl (by decide) (Nat.le_of_ble_eq_true rfl) (sX6_read _ _ _ _ h.1 mid.2.2.1 mid.2.1 (fun j _ _ => mid.2.2.2.1 j) (sc_rng _ _)) (k_I (fun z2 M2 h2 => ?_))
  obtain ⟨ez, hj⟩ := j_read h h1 h2
  refine tx_icmp_same (pc := 440) 1367 O dL_law_440 rfl ez ?_
  exact K _ _ hj
theorem law_ear (w : WT) (E : ET) (R M : TM) {bb LL : Nat} {xs : Nat → Int32} (i : Int) (O : tx_O w "TuneLoansLaw" cL_law 4 400 E) (C : tx_SC w bb LL xs E) (hL : LL ≤ 448) (h : jI w R M) (hi : 0 ≤ i ∧ i + 7 ≤ LL) (K : ∀ (R1 M1 : TM), jI w R1 M1 → tx_X w E 1367 [(3, iV i), (2, rV (wa w) 2), (1, rV (wa w) 1), (0, .ref bb)] [] R1 M1) : tx_X w E 445 [(3, iV i), (2, rV (wa w) 2), (1, rV (wa w) 1), (0, .ref bb)] [] R M := by
  refine tx_aload_n (pc := 445) 2 O dL_law_445 rfl rfl ?_
  refine tx_arg (pc := 446) O C (by omega) dL_law_446 dL_law_447 dL_law_448 dL_law_449 dL_law_450 3 0 rfl rfl (by omega) ?_
  refine tx_cV1 (pc := 451) O dL_law_451 q225 vX0_ear (sh_1 w) rfl (by decide) (Nat.zero_le _) (sX0_ear w _ _ _ (sc_rng _ _)) (k_I (fun z1 M1 h1 => ?_))
  have kk : ∀ a b : Int, 2 ≤ a ∧ a ≤ 125 → M1 a b = M a b := by
    intro a b q
    rcases h1 with ⟨-, -, rfl⟩ | ⟨-, -, rfl⟩
    all_goals first | rfl | ((repeat rw [up_n (by omega)]))
  have mid := h.mid kk
  refine tx_aload_n (pc := 454) 1 O dL_law_454 rfl rfl ?_
  refine tx_arg (pc := 455) O C (by omega) dL_law_455 dL_law_456 dL_law_457 dL_law_458 dL_law_459 3 0 rfl rfl (by omega) ?_
  refine tx_cV1 (pc := 460) O dL_law_460 q1020 vX6_ear (sh_2 w) rfl (by decide) (Nat.le_of_ble_eq_true rfl) (sX6_ear _ _ _ _ (sc_rng _ _)) (k_I (fun z2 M2 h2 => ?_))
  obtain ⟨ez, hj⟩ := j_ear h h1 h2
  refine tx_icmp_same (pc := 463) 1367 O dL_law_463 rfl ez ?_
  exact K _ _ hj
theorem law_notes (w : WT) (E : ET) (R M : TM) {bb LL : Nat} {xs : Nat → Int32} (i : Int) (O : tx_O w "TuneLoansLaw" cL_law 4 400 E) (C : tx_SC w bb LL xs E) (hL : LL ≤ 448) (h : jI w R M) (hi : 0 ≤ i ∧ i + 7 ≤ LL) (K : ∀ (R1 M1 : TM), jI w R1 M1 → tx_X w E 1367 [(3, iV i), (2, rV (wa w) 2), (1, rV (wa w) 1), (0, .ref bb)] [] R1 M1) : tx_X w E 468 [(3, iV i), (2, rV (wa w) 2), (1, rV (wa w) 1), (0, .ref bb)] [] R M := by
  refine tx_aload_n (pc := 468) 2 O dL_law_468 rfl rfl ?_
  refine tx_arg (pc := 469) O C (by omega) dL_law_469 dL_law_470 dL_law_471 dL_law_472 dL_law_473 3 0 rfl rfl (by omega) ?_
  refine tx_arg (pc := 474) O C (by omega) dL_law_474 dL_law_475 dL_law_476 dL_law_477 dL_law_478 3 0 rfl rfl (by omega) ?_
  refine tx_arg (pc := 479) O C (by omega) dL_law_479 dL_law_480 dL_law_481 dL_law_482 dL_law_483 3 0 rfl rfl (by omega) ?_
  refine tx_cV3 (pc := 484) O dL_law_484 q229 vX0_notes (sh_1 w) rfl (by decide) (Nat.zero_le _) (sX0_notes w _ _ _ _ _ (uM M) h.1 h.c (sc_rng _ _) (sc_rng _ _) (sc_rng _ _)) (k_C (fun z1 R1 M1 h1 => ?_))
  have kk : ∀ a b : Int, 2 ≤ a ∧ a ≤ 125 → M1 a b = M a b := fun a b q => h1.2.2.1 a b (by omega)
  have mid := h.mid kk
  refine tx_aload_n (pc := 487) 1 O dL_law_487 rfl rfl ?_
  refine tx_arg (pc := 488) O C (by omega) dL_law_488 dL_law_489 dL_law_490 dL_law_491 dL_law_492 3 0 rfl rfl (by omega) ?_
  refine tx_arg (pc := 493) O C (by omega) dL_law_493 dL_law_494 dL_law_495 dL_law_496 dL_law_497 3 0 rfl rfl (by omega) ?_
  refine tx_arg (pc := 498) O C (by omega) dL_law_498 dL_law_499 dL_law_500 dL_law_501 dL_law_502 3 0 rfl rfl (by omega) ?_
  refine tx_cV3 (pc := 503) O dL_law_503 q1025 vX6_notes (sh_2 w) rfl (by decide) (Nat.le_of_ble_eq_true rfl) (sX6_notes _ _ _ _ _ _ (uM M) (h.1.kp h1.2.2.2.1) mid.2.2.2.2 (sc_rng _ _) (sc_rng _ _) (sc_rng _ _)) (k_I (fun z2 M2 h2 => ?_))
  have ez : z1 = z2 := by
    rcases h1.1 with q | q <;> rcases h2.1 with r | r <;> first | omega | (rw [q.2, r.2])
  have hj := h.q h1.2 h2.2
  refine tx_icmp_same (pc := 506) 1367 O dL_law_506 rfl ez ?_
  exact K _ _ hj
theorem law_has (w : WT) (E : ET) (R M : TM) {bb LL : Nat} {xs : Nat → Int32} (i : Int) (O : tx_O w "TuneLoansLaw" cL_law 4 400 E) (C : tx_SC w bb LL xs E) (hL : LL ≤ 448) (h : jI w R M) (hi : 0 ≤ i ∧ i + 7 ≤ LL) (K : ∀ (R1 M1 : TM), jI w R1 M1 → tx_X w E 1367 [(3, iV i), (2, rV (wa w) 2), (1, rV (wa w) 1), (0, .ref bb)] [] R1 M1) : tx_X w E 511 [(3, iV i), (2, rV (wa w) 2), (1, rV (wa w) 1), (0, .ref bb)] [] R M := by
  refine tx_aload_n (pc := 511) 2 O dL_law_511 rfl rfl ?_
  refine tx_arg (pc := 512) O C (by omega) dL_law_512 dL_law_513 dL_law_514 dL_law_515 dL_law_516 3 0 rfl rfl (by omega) ?_
  refine tx_arg (pc := 517) O C (by omega) dL_law_517 dL_law_518 dL_law_519 dL_law_520 dL_law_521 3 0 rfl rfl (by omega) ?_
  refine tx_cV2 (pc := 522) O dL_law_522 q300 vX0_has (sh_1 w) rfl (by decide) (Nat.zero_le _) (sX0_has w _ _ _ _ (uM M) h.1 h.c (sc_rng _ _) (sc_rng _ _)) (k_C (fun z1 R1 M1 h1 => ?_))
  have kk : ∀ a b : Int, 2 ≤ a ∧ a ≤ 125 → M1 a b = M a b := fun a b q => h1.2.2.1 a b (by omega)
  have mid := h.mid kk
  refine tx_aload_n (pc := 525) 1 O dL_law_525 rfl rfl ?_
  refine tx_arg (pc := 526) O C (by omega) dL_law_526 dL_law_527 dL_law_528 dL_law_529 dL_law_530 3 0 rfl rfl (by omega) ?_
  refine tx_arg (pc := 531) O C (by omega) dL_law_531 dL_law_532 dL_law_533 dL_law_534 dL_law_535 3 0 rfl rfl (by omega) ?_
  refine tx_cV2 (pc := 536) O dL_law_536 q1071 vX6_has (sh_2 w) rfl (by decide) (Nat.le_of_ble_eq_true rfl) (sX6_has _ _ _ _ _ (uM M) (h.1.kp h1.2.2.2.1) mid.2.2.2.2 (sc_rng _ _) (sc_rng _ _)) (k_I (fun z2 M2 h2 => ?_))
  have ez : z1 = z2 := by
    rcases h1.1 with q | q <;> rcases h2.1 with r | r <;> first | omega | (rw [q.2, r.2])
  have hj := h.q h1.2 h2.2
  refine tx_icmp_same (pc := 539) 1367 O dL_law_539 rfl ez ?_
  exact K _ _ hj
theorem law_came (w : WT) (E : ET) (R M : TM) {bb LL : Nat} {xs : Nat → Int32} (i : Int) (O : tx_O w "TuneLoansLaw" cL_law 4 400 E) (C : tx_SC w bb LL xs E) (hL : LL ≤ 448) (h : jI w R M) (hi : 0 ≤ i ∧ i + 7 ≤ LL) (K : ∀ (R1 M1 : TM), jI w R1 M1 → tx_X w E 1367 [(3, iV i), (2, rV (wa w) 2), (1, rV (wa w) 1), (0, .ref bb)] [] R1 M1) : tx_X w E 544 [(3, iV i), (2, rV (wa w) 2), (1, rV (wa w) 1), (0, .ref bb)] [] R M := by
  refine tx_aload_n (pc := 544) 2 O dL_law_544 rfl rfl ?_
  refine tx_arg (pc := 545) O C (by omega) dL_law_545 dL_law_546 dL_law_547 dL_law_548 dL_law_549 3 0 rfl rfl (by omega) ?_
  refine tx_arg (pc := 550) O C (by omega) dL_law_550 dL_law_551 dL_law_552 dL_law_553 dL_law_554 3 0 rfl rfl (by omega) ?_
  refine tx_cV2 (pc := 555) O dL_law_555 q308 vX0_came (sh_1 w) rfl (by decide) (Nat.zero_le _) (sX0_came w _ _ _ _ (uM M) h.1 h.c (sc_rng _ _) (sc_rng _ _)) (k_C (fun z1 R1 M1 h1 => ?_))
  have kk : ∀ a b : Int, 2 ≤ a ∧ a ≤ 125 → M1 a b = M a b := fun a b q => h1.2.2.1 a b (by omega)
  have mid := h.mid kk
  refine tx_aload_n (pc := 558) 1 O dL_law_558 rfl rfl ?_
  refine tx_arg (pc := 559) O C (by omega) dL_law_559 dL_law_560 dL_law_561 dL_law_562 dL_law_563 3 0 rfl rfl (by omega) ?_
  refine tx_arg (pc := 564) O C (by omega) dL_law_564 dL_law_565 dL_law_566 dL_law_567 dL_law_568 3 0 rfl rfl (by omega) ?_
  refine tx_cV2 (pc := 569) O dL_law_569 q1079 vX6_came (sh_2 w) rfl (by decide) (Nat.le_of_ble_eq_true rfl) (sX6_came _ _ _ _ _ (uM M) (h.1.kp h1.2.2.2.1) mid.2.2.2.2 (sc_rng _ _) (sc_rng _ _)) (k_I (fun z2 M2 h2 => ?_))
  have ez : z1 = z2 := by
    rcases h1.1 with q | q <;> rcases h2.1 with r | r <;> first | omega | (rw [q.2, r.2])
  have hj := h.q h1.2 h2.2
  refine tx_icmp_same (pc := 572) 1367 O dL_law_572 rfl ez ?_
  exact K _ _ hj
theorem law_interest (w : WT) (E : ET) (R M : TM) {bb LL : Nat} {xs : Nat → Int32} (i : Int) (O : tx_O w "TuneLoansLaw" cL_law 4 400 E) (C : tx_SC w bb LL xs E) (hL : LL ≤ 448) (h : jI w R M) (hi : 0 ≤ i ∧ i + 7 ≤ LL) (K : ∀ (R1 M1 : TM), jI w R1 M1 → tx_X w E 1367 [(3, iV i), (2, rV (wa w) 2), (1, rV (wa w) 1), (0, .ref bb)] [] R1 M1) : tx_X w E 577 [(3, iV i), (2, rV (wa w) 2), (1, rV (wa w) 1), (0, .ref bb)] [] R M := by
  refine tx_aload_n (pc := 577) 2 O dL_law_577 rfl rfl ?_
  refine tx_arg (pc := 578) O C (by omega) dL_law_578 dL_law_579 dL_law_580 dL_law_581 dL_law_582 3 0 rfl rfl (by omega) ?_
  refine tx_cV1 (pc := 583) O dL_law_583 q316 vX0_interest (sh_1 w) rfl (by decide) (Nat.zero_le _) (sX0_interest w _ _ _ (uM M) h.1 h.c (sc_rng _ _)) (k_C (fun z1 R1 M1 h1 => ?_))
  have kk : ∀ a b : Int, 2 ≤ a ∧ a ≤ 125 → M1 a b = M a b := fun a b q => h1.2.2.1 a b (by omega)
  have mid := h.mid kk
  refine tx_aload_n (pc := 586) 1 O dL_law_586 rfl rfl ?_
  refine tx_arg (pc := 587) O C (by omega) dL_law_587 dL_law_588 dL_law_589 dL_law_590 dL_law_591 3 0 rfl rfl (by omega) ?_
  refine tx_cV1 (pc := 592) O dL_law_592 q1087 vX6_interest (sh_2 w) rfl (by decide) (Nat.le_of_ble_eq_true rfl) (sX6_interest _ _ _ _ (uM M) (h.1.kp h1.2.2.2.1) mid.2.2.2.2 (sc_rng _ _)) (k_I (fun z2 M2 h2 => ?_))
  have ez : z1 = z2 := by
    rcases h1.1 with q | q <;> rcases h2.1 with r | r <;> first | omega | (rw [q.2, r.2])
  have hj := h.q h1.2 h2.2
  refine tx_icmp_same (pc := 595) 1367 O dL_law_595 rfl ez ?_
  exact K _ _ hj
theorem law_home (w : WT) (E : ET) (R M : TM) {bb LL : Nat} {xs : Nat → Int32} (i : Int) (O : tx_O w "TuneLoansLaw" cL_law 4 400 E) (C : tx_SC w bb LL xs E) (hL : LL ≤ 448) (h : jI w R M) (hi : 0 ≤ i ∧ i + 7 ≤ LL) (K : ∀ (R1 M1 : TM), jI w R1 M1 → tx_X w E 1367 [(3, iV i), (2, rV (wa w) 2), (1, rV (wa w) 1), (0, .ref bb)] [] R1 M1) : tx_X w E 600 [(3, iV i), (2, rV (wa w) 2), (1, rV (wa w) 1), (0, .ref bb)] [] R M := by
  refine tx_aload_n (pc := 600) 2 O dL_law_600 rfl rfl ?_
  refine tx_arg (pc := 601) O C (by omega) dL_law_601 dL_law_602 dL_law_603 dL_law_604 dL_law_605 3 0 rfl rfl (by omega) ?_
  refine tx_cV1 (pc := 606) O dL_law_606 q324 vX0_home (sh_1 w) rfl (by decide) (Nat.zero_le _) (sX0_home w _ _ _ (uM M) h.1 h.c (sc_rng _ _)) (k_C (fun z1 R1 M1 h1 => ?_))
  have kk : ∀ a b : Int, 2 ≤ a ∧ a ≤ 125 → M1 a b = M a b := fun a b q => h1.2.2.1 a b (by omega)
  have mid := h.mid kk
  refine tx_aload_n (pc := 609) 1 O dL_law_609 rfl rfl ?_
  refine tx_arg (pc := 610) O C (by omega) dL_law_610 dL_law_611 dL_law_612 dL_law_613 dL_law_614 3 0 rfl rfl (by omega) ?_
  refine tx_cV1 (pc := 615) O dL_law_615 q1095 vX6_home (sh_2 w) rfl (by decide) (Nat.le_of_ble_eq_true rfl) (sX6_home _ _ _ _ (uM M) (h.1.kp h1.2.2.2.1) mid.2.2.2.2 (sc_rng _ _)) (k_I (fun z2 M2 h2 => ?_))
  have ez : z1 = z2 := by
    rcases h1.1 with q | q <;> rcases h2.1 with r | r <;> first | omega | (rw [q.2, r.2])
  have hj := h.q h1.2 h2.2
  refine tx_icmp_same (pc := 618) 1367 O dL_law_618 rfl ez ?_
  exact K _ _ hj
theorem law_lend (w : WT) (E : ET) (R M : TM) {bb LL : Nat} {xs : Nat → Int32} (i : Int) (O : tx_O w "TuneLoansLaw" cL_law 4 400 E) (C : tx_SC w bb LL xs E) (hL : LL ≤ 448) (h : jI w R M) (hi : 0 ≤ i ∧ i + 7 ≤ LL) (K : ∀ (R1 M1 : TM), jI w R1 M1 → tx_X w E 1367 [(3, iV i), (2, rV (wa w) 2), (1, rV (wa w) 1), (0, .ref bb)] [] R1 M1) : tx_X w E 623 [(3, iV i), (2, rV (wa w) 2), (1, rV (wa w) 1), (0, .ref bb)] [] R M := by
  refine tx_aload_n (pc := 623) 2 O dL_law_623 rfl rfl ?_
  refine tx_arg (pc := 624) O C (by omega) dL_law_624 dL_law_625 dL_law_626 dL_law_627 dL_law_628 3 0 rfl rfl (by omega) ?_
  refine tx_arg (pc := 629) O C (by omega) dL_law_629 dL_law_630 dL_law_631 dL_law_632 dL_law_633 3 0 rfl rfl (by omega) ?_
  refine tx_arg (pc := 634) O C (by omega) dL_law_634 dL_law_635 dL_law_636 dL_law_637 dL_law_638 3 0 rfl rfl (by omega) ?_
  refine tx_cV3 (pc := 639) O dL_law_639 q332 vX0_lend (sh_1 w) rfl (by decide) (Nat.zero_le _) (sX0_lend w _ _ _ _ _ (uM M) h.1 h.c (sc_rng _ _) (sc_rng _ _) (sc_rng _ _)) (k_C (fun z1 R1 M1 h1 => ?_))
  have kk : ∀ a b : Int, 2 ≤ a ∧ a ≤ 125 → M1 a b = M a b := fun a b q => h1.2.2.1 a b (by omega)
  have mid := h.mid kk
  refine tx_aload_n (pc := 642) 1 O dL_law_642 rfl rfl ?_
  refine tx_arg (pc := 643) O C (by omega) dL_law_643 dL_law_644 dL_law_645 dL_law_646 dL_law_647 3 0 rfl rfl (by omega) ?_
  refine tx_arg (pc := 648) O C (by omega) dL_law_648 dL_law_649 dL_law_650 dL_law_651 dL_law_652 3 0 rfl rfl (by omega) ?_
  refine tx_arg (pc := 653) O C (by omega) dL_law_653 dL_law_654 dL_law_655 dL_law_656 dL_law_657 3 0 rfl rfl (by omega) ?_
  refine tx_cV3 (pc := 658) O dL_law_658 q1103 vX6_lend (sh_2 w) rfl (by decide) (Nat.le_of_ble_eq_true rfl) (sX6_lend _ _ _ _ _ _ (uM M) (h.1.kp h1.2.2.2.1) mid.2.2.2.2 (sc_rng _ _) (sc_rng _ _) (sc_rng _ _)) (k_I (fun z2 M2 h2 => ?_))
  have ez : z1 = z2 := by
    rcases h1.1 with q | q <;> rcases h2.1 with r | r <;> first | omega | (rw [q.2, r.2])
  have hj := h.q h1.2 h2.2
  refine tx_icmp_same (pc := 661) 1367 O dL_law_661 rfl ez ?_
  exact K _ _ hj
theorem law_longest (w : WT) (E : ET) (R M : TM) {bb LL : Nat} {xs : Nat → Int32} (i : Int) (O : tx_O w "TuneLoansLaw" cL_law 4 400 E) (C : tx_SC w bb LL xs E) (hL : LL ≤ 448) (h : jI w R M) (hi : 0 ≤ i ∧ i + 7 ≤ LL) (K : ∀ (R1 M1 : TM), jI w R1 M1 → tx_X w E 1367 [(3, iV i), (2, rV (wa w) 2), (1, rV (wa w) 1), (0, .ref bb)] [] R1 M1) : tx_X w E 666 [(3, iV i), (2, rV (wa w) 2), (1, rV (wa w) 1), (0, .ref bb)] [] R M := by
  refine tx_aload_n (pc := 666) 2 O dL_law_666 rfl rfl ?_
  refine tx_arg (pc := 667) O C (by omega) dL_law_667 dL_law_668 dL_law_669 dL_law_670 dL_law_671 3 0 rfl rfl (by omega) ?_
  refine tx_arg (pc := 672) O C (by omega) dL_law_672 dL_law_673 dL_law_674 dL_law_675 dL_law_676 3 0 rfl rfl (by omega) ?_
  refine tx_arg (pc := 677) O C (by omega) dL_law_677 dL_law_678 dL_law_679 dL_law_680 dL_law_681 3 0 rfl rfl (by omega) ?_
  refine tx_cV3 (pc := 682) O dL_law_682 q356 vX0_longest (sh_1 w) rfl (by decide) (Nat.zero_le _) (sX0_longest w _ _ _ _ _ (uM M) h.1 h.c (sc_rng _ _) (sc_rng _ _) (sc_rng _ _)) (k_C (fun z1 R1 M1 h1 => ?_))
  have kk : ∀ a b : Int, 2 ≤ a ∧ a ≤ 125 → M1 a b = M a b := fun a b q => h1.2.2.1 a b (by omega)
  have mid := h.mid kk
  refine tx_aload_n (pc := 685) 1 O dL_law_685 rfl rfl ?_
  refine tx_arg (pc := 686) O C (by omega) dL_law_686 dL_law_687 dL_law_688 dL_law_689 dL_law_690 3 0 rfl rfl (by omega) ?_
  refine tx_arg (pc := 691) O C (by omega) dL_law_691 dL_law_692 dL_law_693 dL_law_694 dL_law_695 3 0 rfl rfl (by omega) ?_
  refine tx_arg (pc := 696) O C (by omega) dL_law_696 dL_law_697 dL_law_698 dL_law_699 dL_law_700 3 0 rfl rfl (by omega) ?_
  refine tx_cV3 (pc := 701) O dL_law_701 q1128 vX6_longest (sh_2 w) rfl (by decide) (Nat.le_of_ble_eq_true rfl) (sX6_longest _ _ _ _ _ _ (uM M) (h.1.kp h1.2.2.2.1) mid.2.2.2.2 (sc_rng _ _) (sc_rng _ _) (sc_rng _ _)) (k_I (fun z2 M2 h2 => ?_))
  have ez : z1 = z2 := by
    rcases h1.1 with q | q <;> rcases h2.1 with r | r <;> first | omega | (rw [q.2, r.2])
  have hj := h.q h1.2 h2.2
  refine tx_icmp_same (pc := 704) 1367 O dL_law_704 rfl ez ?_
  exact K _ _ hj
theorem law_who (w : WT) (E : ET) (R M : TM) {bb LL : Nat} {xs : Nat → Int32} (i : Int) (O : tx_O w "TuneLoansLaw" cL_law 4 400 E) (C : tx_SC w bb LL xs E) (hL : LL ≤ 448) (h : jI w R M) (hi : 0 ≤ i ∧ i + 7 ≤ LL) (K : ∀ (R1 M1 : TM), jI w R1 M1 → tx_X w E 1367 [(3, iV i), (2, rV (wa w) 2), (1, rV (wa w) 1), (0, .ref bb)] [] R1 M1) : tx_X w E 709 [(3, iV i), (2, rV (wa w) 2), (1, rV (wa w) 1), (0, .ref bb)] [] R M := by
  refine tx_aload_n (pc := 709) 2 O dL_law_709 rfl rfl ?_
  refine tx_arg (pc := 710) O C (by omega) dL_law_710 dL_law_711 dL_law_712 dL_law_713 dL_law_714 3 0 rfl rfl (by omega) ?_
  refine tx_arg (pc := 715) O C (by omega) dL_law_715 dL_law_716 dL_law_717 dL_law_718 dL_law_719 3 0 rfl rfl (by omega) ?_
  refine tx_arg (pc := 720) O C (by omega) dL_law_720 dL_law_721 dL_law_722 dL_law_723 dL_law_724 3 0 rfl rfl (by omega) ?_
  refine tx_cV3 (pc := 725) O dL_law_725 q364 vX0_who (sh_1 w) rfl (by decide) (Nat.zero_le _) (sX0_who w _ _ _ _ _ (uM M) h.1 h.c (sc_rng _ _) (sc_rng _ _) (sc_rng _ _)) (k_C (fun z1 R1 M1 h1 => ?_))
  have kk : ∀ a b : Int, 2 ≤ a ∧ a ≤ 125 → M1 a b = M a b := fun a b q => h1.2.2.1 a b (by omega)
  have mid := h.mid kk
  refine tx_aload_n (pc := 728) 1 O dL_law_728 rfl rfl ?_
  refine tx_arg (pc := 729) O C (by omega) dL_law_729 dL_law_730 dL_law_731 dL_law_732 dL_law_733 3 0 rfl rfl (by omega) ?_
  refine tx_arg (pc := 734) O C (by omega) dL_law_734 dL_law_735 dL_law_736 dL_law_737 dL_law_738 3 0 rfl rfl (by omega) ?_
  refine tx_arg (pc := 739) O C (by omega) dL_law_739 dL_law_740 dL_law_741 dL_law_742 dL_law_743 3 0 rfl rfl (by omega) ?_
  refine tx_cV3 (pc := 744) O dL_law_744 q1136 vX6_who (sh_2 w) rfl (by decide) (Nat.le_of_ble_eq_true rfl) (sX6_who _ _ _ _ _ _ (uM M) (h.1.kp h1.2.2.2.1) mid.2.2.2.2 (sc_rng _ _) (sc_rng _ _) (sc_rng _ _)) (k_I (fun z2 M2 h2 => ?_))
  have ez : z1 = z2 := by
    rcases h1.1 with q | q <;> rcases h2.1 with r | r <;> first | omega | (rw [q.2, r.2])
  have hj := h.q h1.2 h2.2
  refine tx_icmp_same (pc := 747) 1367 O dL_law_747 rfl ez ?_
  exact K _ _ hj
theorem law_common (w : WT) (E : ET) (R M : TM) {bb LL : Nat} {xs : Nat → Int32} (i : Int) (O : tx_O w "TuneLoansLaw" cL_law 4 400 E) (C : tx_SC w bb LL xs E) (hL : LL ≤ 448) (h : jI w R M) (hi : 0 ≤ i ∧ i + 7 ≤ LL) (K : ∀ (R1 M1 : TM), jI w R1 M1 → tx_X w E 1367 [(3, iV i), (2, rV (wa w) 2), (1, rV (wa w) 1), (0, .ref bb)] [] R1 M1) : tx_X w E 752 [(3, iV i), (2, rV (wa w) 2), (1, rV (wa w) 1), (0, .ref bb)] [] R M := by
  refine tx_aload_n (pc := 752) 2 O dL_law_752 rfl rfl ?_
  refine tx_arg (pc := 753) O C (by omega) dL_law_753 dL_law_754 dL_law_755 dL_law_756 dL_law_757 3 0 rfl rfl (by omega) ?_
  refine tx_arg (pc := 758) O C (by omega) dL_law_758 dL_law_759 dL_law_760 dL_law_761 dL_law_762 3 0 rfl rfl (by omega) ?_
  refine tx_cV2 (pc := 763) O dL_law_763 q380 vX0_common (sh_1 w) rfl (by decide) (Nat.zero_le _) (sX0_common w _ _ _ _ (uM M) h.1 h.c (sc_rng _ _) (sc_rng _ _)) (k_C (fun z1 R1 M1 h1 => ?_))
  have kk : ∀ a b : Int, 2 ≤ a ∧ a ≤ 125 → M1 a b = M a b := fun a b q => h1.2.2.1 a b (by omega)
  have mid := h.mid kk
  refine tx_aload_n (pc := 766) 1 O dL_law_766 rfl rfl ?_
  refine tx_arg (pc := 767) O C (by omega) dL_law_767 dL_law_768 dL_law_769 dL_law_770 dL_law_771 3 0 rfl rfl (by omega) ?_
  refine tx_arg (pc := 772) O C (by omega) dL_law_772 dL_law_773 dL_law_774 dL_law_775 dL_law_776 3 0 rfl rfl (by omega) ?_
  refine tx_cV2 (pc := 777) O dL_law_777 q1152 vX6_common (sh_2 w) rfl (by decide) (Nat.le_of_ble_eq_true rfl) (sX6_common _ _ _ _ _ (uM M) (h.1.kp h1.2.2.2.1) mid.2.2.2.2 (sc_rng _ _) (sc_rng _ _)) (k_I (fun z2 M2 h2 => ?_))
  have ez : z1 = z2 := by
    rcases h1.1 with q | q <;> rcases h2.1 with r | r <;> first | omega | (rw [q.2, r.2])
  have hj := h.q h1.2 h2.2
  refine tx_icmp_same (pc := 780) 1367 O dL_law_780 rfl ez ?_
  exact K _ _ hj
theorem law_far (w : WT) (E : ET) (R M : TM) {bb LL : Nat} {xs : Nat → Int32} (i : Int) (O : tx_O w "TuneLoansLaw" cL_law 4 400 E) (C : tx_SC w bb LL xs E) (hL : LL ≤ 448) (h : jI w R M) (hi : 0 ≤ i ∧ i + 7 ≤ LL) (K : ∀ (R1 M1 : TM), jI w R1 M1 → tx_X w E 1367 [(3, iV i), (2, rV (wa w) 2), (1, rV (wa w) 1), (0, .ref bb)] [] R1 M1) : tx_X w E 785 [(3, iV i), (2, rV (wa w) 2), (1, rV (wa w) 1), (0, .ref bb)] [] R M := by
  refine tx_aload_n (pc := 785) 2 O dL_law_785 rfl rfl ?_
  refine tx_arg (pc := 786) O C (by omega) dL_law_786 dL_law_787 dL_law_788 dL_law_789 dL_law_790 3 0 rfl rfl (by omega) ?_
  refine tx_arg (pc := 791) O C (by omega) dL_law_791 dL_law_792 dL_law_793 dL_law_794 dL_law_795 3 0 rfl rfl (by omega) ?_
  refine tx_cV2 (pc := 796) O dL_law_796 q384 vX0_far (sh_1 w) rfl (by decide) (Nat.zero_le _) (sX0_far w _ _ _ _ (uM M) h.1 h.c (sc_rng _ _) (sc_rng _ _)) (k_C (fun z1 R1 M1 h1 => ?_))
  have kk : ∀ a b : Int, 2 ≤ a ∧ a ≤ 125 → M1 a b = M a b := fun a b q => h1.2.2.1 a b (by omega)
  have mid := h.mid kk
  refine tx_aload_n (pc := 799) 1 O dL_law_799 rfl rfl ?_
  refine tx_arg (pc := 800) O C (by omega) dL_law_800 dL_law_801 dL_law_802 dL_law_803 dL_law_804 3 0 rfl rfl (by omega) ?_
  refine tx_arg (pc := 805) O C (by omega) dL_law_805 dL_law_806 dL_law_807 dL_law_808 dL_law_809 3 0 rfl rfl (by omega) ?_
  refine tx_cV2 (pc := 810) O dL_law_810 q1160 vX6_far (sh_2 w) rfl (by decide) (Nat.le_of_ble_eq_true rfl) (sX6_far _ _ _ _ _ (uM M) (h.1.kp h1.2.2.2.1) mid.2.2.2.2 (sc_rng _ _) (sc_rng _ _)) (k_I (fun z2 M2 h2 => ?_))
  have ez : z1 = z2 := by
    rcases h1.1 with q | q <;> rcases h2.1 with r | r <;> first | omega | (rw [q.2, r.2])
  have hj := h.q h1.2 h2.2
  refine tx_icmp_same (pc := 813) 1367 O dL_law_813 rfl ez ?_
  exact K _ _ hj
theorem law_nearest (w : WT) (E : ET) (R M : TM) {bb LL : Nat} {xs : Nat → Int32} (i : Int) (O : tx_O w "TuneLoansLaw" cL_law 4 400 E) (C : tx_SC w bb LL xs E) (hL : LL ≤ 448) (h : jI w R M) (hi : 0 ≤ i ∧ i + 7 ≤ LL) (K : ∀ (R1 M1 : TM), jI w R1 M1 → tx_X w E 1367 [(3, iV i), (2, rV (wa w) 2), (1, rV (wa w) 1), (0, .ref bb)] [] R1 M1) : tx_X w E 818 [(3, iV i), (2, rV (wa w) 2), (1, rV (wa w) 1), (0, .ref bb)] [] R M := by
  refine tx_aload_n (pc := 818) 2 O dL_law_818 rfl rfl ?_
  refine tx_arg (pc := 819) O C (by omega) dL_law_819 dL_law_820 dL_law_821 dL_law_822 dL_law_823 3 0 rfl rfl (by omega) ?_
  refine tx_cV1 (pc := 824) O dL_law_824 q392 vX0_nearest (sh_1 w) rfl (by decide) (Nat.zero_le _) (sX0_nearest w _ _ _ (uM M) h.1 h.c (sc_rng _ _)) (k_C (fun z1 R1 M1 h1 => ?_))
  have kk : ∀ a b : Int, 2 ≤ a ∧ a ≤ 125 → M1 a b = M a b := fun a b q => h1.2.2.1 a b (by omega)
  have mid := h.mid kk
  refine tx_aload_n (pc := 827) 1 O dL_law_827 rfl rfl ?_
  refine tx_arg (pc := 828) O C (by omega) dL_law_828 dL_law_829 dL_law_830 dL_law_831 dL_law_832 3 0 rfl rfl (by omega) ?_
  refine tx_cV1 (pc := 833) O dL_law_833 q1168 vX6_nearest (sh_2 w) rfl (by decide) (Nat.le_of_ble_eq_true rfl) (sX6_nearest _ _ _ _ (uM M) (h.1.kp h1.2.2.2.1) mid.2.2.2.2 (sc_rng _ _)) (k_I (fun z2 M2 h2 => ?_))
  have ez : z1 = z2 := by
    rcases h1.1 with q | q <;> rcases h2.1 with r | r <;> first | omega | (rw [q.2, r.2])
  have hj := h.q h1.2 h2.2
  refine tx_icmp_same (pc := 836) 1367 O dL_law_836 rfl ez ?_
  exact K _ _ hj
theorem law_mothers (w : WT) (E : ET) (R M : TM) {bb LL : Nat} {xs : Nat → Int32} (i : Int) (O : tx_O w "TuneLoansLaw" cL_law 4 400 E) (C : tx_SC w bb LL xs E) (hL : LL ≤ 448) (h : jI w R M) (hi : 0 ≤ i ∧ i + 7 ≤ LL) (K : ∀ (R1 M1 : TM), jI w R1 M1 → tx_X w E 1367 [(3, iV i), (2, rV (wa w) 2), (1, rV (wa w) 1), (0, .ref bb)] [] R1 M1) : tx_X w E 841 [(3, iV i), (2, rV (wa w) 2), (1, rV (wa w) 1), (0, .ref bb)] [] R M := by
  refine tx_aload_n (pc := 841) 2 O dL_law_841 rfl rfl ?_
  refine tx_arg (pc := 842) O C (by omega) dL_law_842 dL_law_843 dL_law_844 dL_law_845 dL_law_846 3 0 rfl rfl (by omega) ?_
  refine tx_cV1 (pc := 847) O dL_law_847 q400 vX0_mothers (sh_1 w) rfl (by decide) (Nat.zero_le _) (sX0_mothers w _ _ _ (uM M) h.1 h.c (sc_rng _ _)) (k_C (fun z1 R1 M1 h1 => ?_))
  have kk : ∀ a b : Int, 2 ≤ a ∧ a ≤ 125 → M1 a b = M a b := fun a b q => h1.2.2.1 a b (by omega)
  have mid := h.mid kk
  refine tx_aload_n (pc := 850) 1 O dL_law_850 rfl rfl ?_
  refine tx_arg (pc := 851) O C (by omega) dL_law_851 dL_law_852 dL_law_853 dL_law_854 dL_law_855 3 0 rfl rfl (by omega) ?_
  refine tx_cV1 (pc := 856) O dL_law_856 q1176 vX6_mothers (sh_2 w) rfl (by decide) (Nat.le_of_ble_eq_true rfl) (sX6_mothers _ _ _ _ (uM M) (h.1.kp h1.2.2.2.1) mid.2.2.2.2 (sc_rng _ _)) (k_I (fun z2 M2 h2 => ?_))
  have ez : z1 = z2 := by
    rcases h1.1 with q | q <;> rcases h2.1 with r | r <;> first | omega | (rw [q.2, r.2])
  have hj := h.q h1.2 h2.2
  refine tx_icmp_same (pc := 859) 1367 O dL_law_859 rfl ez ?_
  exact K _ _ hj
theorem law_tells (w : WT) (E : ET) (R M : TM) {bb LL : Nat} {xs : Nat → Int32} (i : Int) (O : tx_O w "TuneLoansLaw" cL_law 4 400 E) (C : tx_SC w bb LL xs E) (hL : LL ≤ 448) (h : jI w R M) (hi : 0 ≤ i ∧ i + 7 ≤ LL) (K : ∀ (R1 M1 : TM), jI w R1 M1 → tx_X w E 1367 [(3, iV i), (2, rV (wa w) 2), (1, rV (wa w) 1), (0, .ref bb)] [] R1 M1) : tx_X w E 864 [(3, iV i), (2, rV (wa w) 2), (1, rV (wa w) 1), (0, .ref bb)] [] R M := by
  refine tx_aload_n (pc := 864) 2 O dL_law_864 rfl rfl ?_
  refine tx_arg (pc := 865) O C (by omega) dL_law_865 dL_law_866 dL_law_867 dL_law_868 dL_law_869 3 0 rfl rfl (by omega) ?_
  refine tx_arg (pc := 870) O C (by omega) dL_law_870 dL_law_871 dL_law_872 dL_law_873 dL_law_874 3 0 rfl rfl (by omega) ?_
  refine tx_cV2 (pc := 875) O dL_law_875 q408 vX0_tells (sh_1 w) rfl (by decide) (Nat.zero_le _) (sX0_tells w _ _ _ _ (uM M) h.1 h.c (sc_rng _ _) (sc_rng _ _)) (k_C (fun z1 R1 M1 h1 => ?_))
  have kk : ∀ a b : Int, 2 ≤ a ∧ a ≤ 125 → M1 a b = M a b := fun a b q => h1.2.2.1 a b (by omega)
  have mid := h.mid kk
  refine tx_aload_n (pc := 878) 1 O dL_law_878 rfl rfl ?_
  refine tx_arg (pc := 879) O C (by omega) dL_law_879 dL_law_880 dL_law_881 dL_law_882 dL_law_883 3 0 rfl rfl (by omega) ?_
  refine tx_arg (pc := 884) O C (by omega) dL_law_884 dL_law_885 dL_law_886 dL_law_887 dL_law_888 3 0 rfl rfl (by omega) ?_
  refine tx_cV2 (pc := 889) O dL_law_889 q1184 vX6_tells (sh_2 w) rfl (by decide) (Nat.le_of_ble_eq_true rfl) (sX6_tells _ _ _ _ _ (uM M) (h.1.kp h1.2.2.2.1) mid.2.2.2.2 (sc_rng _ _) (sc_rng _ _)) (k_I (fun z2 M2 h2 => ?_))
  have ez : z1 = z2 := by
    rcases h1.1 with q | q <;> rcases h2.1 with r | r <;> first | omega | (rw [q.2, r.2])
  have hj := h.q h1.2 h2.2
  refine tx_icmp_same (pc := 892) 1367 O dL_law_892 rfl ez ?_
  exact K _ _ hj
theorem law_loses (w : WT) (E : ET) (R M : TM) {bb LL : Nat} {xs : Nat → Int32} (i : Int) (O : tx_O w "TuneLoansLaw" cL_law 4 400 E) (C : tx_SC w bb LL xs E) (hL : LL ≤ 448) (h : jI w R M) (hi : 0 ≤ i ∧ i + 7 ≤ LL) (K : ∀ (R1 M1 : TM), jI w R1 M1 → tx_X w E 1367 [(3, iV i), (2, rV (wa w) 2), (1, rV (wa w) 1), (0, .ref bb)] [] R1 M1) : tx_X w E 897 [(3, iV i), (2, rV (wa w) 2), (1, rV (wa w) 1), (0, .ref bb)] [] R M := by
  refine tx_aload_n (pc := 897) 2 O dL_law_897 rfl rfl ?_
  refine tx_arg (pc := 898) O C (by omega) dL_law_898 dL_law_899 dL_law_900 dL_law_901 dL_law_902 3 0 rfl rfl (by omega) ?_
  refine tx_cV1 (pc := 903) O dL_law_903 q423 vX0_loses (sh_1 w) rfl (by decide) (Nat.zero_le _) (sX0_loses w _ _ _ (uM M) h.1 h.c (sc_rng _ _)) (k_C (fun z1 R1 M1 h1 => ?_))
  have kk : ∀ a b : Int, 2 ≤ a ∧ a ≤ 125 → M1 a b = M a b := fun a b q => h1.2.2.1 a b (by omega)
  have mid := h.mid kk
  refine tx_aload_n (pc := 906) 1 O dL_law_906 rfl rfl ?_
  refine tx_arg (pc := 907) O C (by omega) dL_law_907 dL_law_908 dL_law_909 dL_law_910 dL_law_911 3 0 rfl rfl (by omega) ?_
  refine tx_cV1 (pc := 912) O dL_law_912 q1205 vX6_loses (sh_2 w) rfl (by decide) (Nat.le_of_ble_eq_true rfl) (sX6_loses _ _ _ _ (uM M) (h.1.kp h1.2.2.2.1) mid.2.2.2.2 (sc_rng _ _)) (k_I (fun z2 M2 h2 => ?_))
  have ez : z1 = z2 := by
    rcases h1.1 with q | q <;> rcases h2.1 with r | r <;> first | omega | (rw [q.2, r.2])
  have hj := h.q h1.2 h2.2
  refine tx_icmp_same (pc := 915) 1367 O dL_law_915 rfl ez ?_
  exact K _ _ hj
theorem law_best (w : WT) (E : ET) (R M : TM) {bb LL : Nat} {xs : Nat → Int32} (i : Int) (O : tx_O w "TuneLoansLaw" cL_law 4 400 E) (C : tx_SC w bb LL xs E) (hL : LL ≤ 448) (h : jI w R M) (hi : 0 ≤ i ∧ i + 7 ≤ LL) (K : ∀ (R1 M1 : TM), jI w R1 M1 → tx_X w E 1367 [(3, iV i), (2, rV (wa w) 2), (1, rV (wa w) 1), (0, .ref bb)] [] R1 M1) : tx_X w E 920 [(3, iV i), (2, rV (wa w) 2), (1, rV (wa w) 1), (0, .ref bb)] [] R M := by
  refine tx_aload_n (pc := 920) 2 O dL_law_920 rfl rfl ?_
  refine tx_arg (pc := 921) O C (by omega) dL_law_921 dL_law_922 dL_law_923 dL_law_924 dL_law_925 3 0 rfl rfl (by omega) ?_
  refine tx_cV1 (pc := 926) O dL_law_926 q431 vX0_best (sh_1 w) rfl (by decide) (Nat.zero_le _) (sX0_best w _ _ _ (uM M) h.1 h.c (sc_rng _ _)) (k_C (fun z1 R1 M1 h1 => ?_))
  have kk : ∀ a b : Int, 2 ≤ a ∧ a ≤ 125 → M1 a b = M a b := fun a b q => h1.2.2.1 a b (by omega)
  have mid := h.mid kk
  refine tx_aload_n (pc := 929) 1 O dL_law_929 rfl rfl ?_
  refine tx_arg (pc := 930) O C (by omega) dL_law_930 dL_law_931 dL_law_932 dL_law_933 dL_law_934 3 0 rfl rfl (by omega) ?_
  refine tx_cV1 (pc := 935) O dL_law_935 q1213 vX6_best (sh_2 w) rfl (by decide) (Nat.le_of_ble_eq_true rfl) (sX6_best _ _ _ _ (uM M) (h.1.kp h1.2.2.2.1) mid.2.2.2.2 (sc_rng _ _)) (k_I (fun z2 M2 h2 => ?_))
  have ez : z1 = z2 := by
    rcases h1.1 with q | q <;> rcases h2.1 with r | r <;> first | omega | (rw [q.2, r.2])
  have hj := h.q h1.2 h2.2
  refine tx_icmp_same (pc := 938) 1367 O dL_law_938 rfl ez ?_
  exact K _ _ hj
theorem law_hums (w : WT) (E : ET) (R M : TM) {bb LL : Nat} {xs : Nat → Int32} (i : Int) (O : tx_O w "TuneLoansLaw" cL_law 4 400 E) (C : tx_SC w bb LL xs E) (hL : LL ≤ 448) (h : jI w R M) (hi : 0 ≤ i ∧ i + 7 ≤ LL) (K : ∀ (R1 M1 : TM), jI w R1 M1 → tx_X w E 1367 [(3, iV i), (2, rV (wa w) 2), (1, rV (wa w) 1), (0, .ref bb)] [] R1 M1) : tx_X w E 943 [(3, iV i), (2, rV (wa w) 2), (1, rV (wa w) 1), (0, .ref bb)] [] R M := by
  refine tx_aload_n (pc := 943) 2 O dL_law_943 rfl rfl ?_
  refine tx_arg (pc := 944) O C (by omega) dL_law_944 dL_law_945 dL_law_946 dL_law_947 dL_law_948 3 0 rfl rfl (by omega) ?_
  refine tx_arg (pc := 949) O C (by omega) dL_law_949 dL_law_950 dL_law_951 dL_law_952 dL_law_953 3 0 rfl rfl (by omega) ?_
  refine tx_arg (pc := 954) O C (by omega) dL_law_954 dL_law_955 dL_law_956 dL_law_957 dL_law_958 3 0 rfl rfl (by omega) ?_
  refine tx_arg (pc := 959) O C (by omega) dL_law_959 dL_law_960 dL_law_961 dL_law_962 dL_law_963 3 0 rfl rfl (by omega) ?_
  refine tx_arg (pc := 964) O C (by omega) dL_law_964 dL_law_965 dL_law_966 dL_law_967 dL_law_968 3 0 rfl rfl (by omega) ?_
  refine tx_arg6 (pc := 969) O C (by omega) dL_law_969 dL_law_970 dL_law_971 dL_law_973 dL_law_974 3 0 rfl rfl (by omega) ?_
  refine tx_cV6 (pc := 975) O dL_law_975 q439 vX0_hums (sh_1 w) rfl (by decide) (Nat.zero_le _) (sX0_hums w _ _ _ _ _ _ _ _ (uM M) h.1 h.c (sc_rng _ _) (sc_rng _ _) (sc_rng _ _) (sc_rng _ _) (sc_rng _ _) (sc_rng _ _)) (k_CL (fun z1 R1 M1 h1 => ?_))
  have kk : ∀ a b : Int, 2 ≤ a ∧ a ≤ 125 → M1 a b = M a b := fun a b q => h1.2.2.1 a b (by omega)
  have mid := h.mid kk
  refine tx_aload_n (pc := 978) 1 O dL_law_978 rfl rfl ?_
  refine tx_arg (pc := 979) O C (by omega) dL_law_979 dL_law_980 dL_law_981 dL_law_982 dL_law_983 3 0 rfl rfl (by omega) ?_
  refine tx_arg (pc := 984) O C (by omega) dL_law_984 dL_law_985 dL_law_986 dL_law_987 dL_law_988 3 0 rfl rfl (by omega) ?_
  refine tx_arg (pc := 989) O C (by omega) dL_law_989 dL_law_990 dL_law_991 dL_law_992 dL_law_993 3 0 rfl rfl (by omega) ?_
  refine tx_arg (pc := 994) O C (by omega) dL_law_994 dL_law_995 dL_law_996 dL_law_997 dL_law_998 3 0 rfl rfl (by omega) ?_
  refine tx_arg (pc := 999) O C (by omega) dL_law_999 dL_law_1000 dL_law_1001 dL_law_1002 dL_law_1003 3 0 rfl rfl (by omega) ?_
  refine tx_arg6 (pc := 1004) O C (by omega) dL_law_1004 dL_law_1005 dL_law_1006 dL_law_1008 dL_law_1009 3 0 rfl rfl (by omega) ?_
  refine tx_cV6 (pc := 1010) O dL_law_1010 q1222 vX6_hums (sh_2 w) rfl (by decide) (Nat.le_of_ble_eq_true rfl) (sX6_hums _ _ _ _ _ _ _ _ _ (uM M) (h.1.kp h1.2.2.2.1) mid.2.2.2.2 (sc_rng _ _) (sc_rng _ _) (sc_rng _ _) (sc_rng _ _) (sc_rng _ _) (sc_rng _ _)) (k_L (fun z2 M2 h2 => ?_))
  have ez : z1 = z2 := by
    rcases h1.1 with q | q <;> rcases h2.1 with r | r <;> first | exact absurd r.1 q.1 | exact absurd q.1 r.1 | (rw [q.2, r.2])
  have hj := h.q h1.2 h2.2.2
  refine tx_lcmp_same (pc := 1013) O dL_law_1013 ez ?_
  refine tx_if_eq (pc := 1014) 1367 O dL_law_1014 rfl (by omega) (fun _ => ?_) (fun c => absurd rfl c)
  exact K _ _ hj
theorem law_fair (w : WT) (E : ET) (R M : TM) {bb LL : Nat} {xs : Nat → Int32} (i : Int) (O : tx_O w "TuneLoansLaw" cL_law 4 400 E) (C : tx_SC w bb LL xs E) (hL : LL ≤ 448) (h : jI w R M) (hi : 0 ≤ i ∧ i + 7 ≤ LL) (K : ∀ (R1 M1 : TM), jI w R1 M1 → tx_X w E 1367 [(3, iV i), (2, rV (wa w) 2), (1, rV (wa w) 1), (0, .ref bb)] [] R1 M1) : tx_X w E 1019 [(3, iV i), (2, rV (wa w) 2), (1, rV (wa w) 1), (0, .ref bb)] [] R M := by
  refine tx_aload_n (pc := 1019) 2 O dL_law_1019 rfl rfl ?_
  refine tx_arg (pc := 1020) O C (by omega) dL_law_1020 dL_law_1021 dL_law_1022 dL_law_1023 dL_law_1024 3 0 rfl rfl (by omega) ?_
  refine tx_arg (pc := 1025) O C (by omega) dL_law_1025 dL_law_1026 dL_law_1027 dL_law_1028 dL_law_1029 3 0 rfl rfl (by omega) ?_
  refine tx_arg (pc := 1030) O C (by omega) dL_law_1030 dL_law_1031 dL_law_1032 dL_law_1033 dL_law_1034 3 0 rfl rfl (by omega) ?_
  refine tx_cV3 (pc := 1035) O dL_law_1035 q457 vX0_fair (sh_1 w) rfl (by decide) (Nat.zero_le _) (sX0_fair w _ _ _ _ _ (uM M) h.1 h.c (sc_rng _ _) (sc_rng _ _)) (k_C (fun z1 R1 M1 h1 => ?_))
  have kk : ∀ a b : Int, 2 ≤ a ∧ a ≤ 125 → M1 a b = M a b := fun a b q => h1.2.2.1 a b (by omega)
  have mid := h.mid kk
  refine tx_aload_n (pc := 1038) 1 O dL_law_1038 rfl rfl ?_
  refine tx_arg (pc := 1039) O C (by omega) dL_law_1039 dL_law_1040 dL_law_1041 dL_law_1042 dL_law_1043 3 0 rfl rfl (by omega) ?_
  refine tx_arg (pc := 1044) O C (by omega) dL_law_1044 dL_law_1045 dL_law_1046 dL_law_1047 dL_law_1048 3 0 rfl rfl (by omega) ?_
  refine tx_arg (pc := 1049) O C (by omega) dL_law_1049 dL_law_1050 dL_law_1051 dL_law_1052 dL_law_1053 3 0 rfl rfl (by omega) ?_
  refine tx_cV3 (pc := 1054) O dL_law_1054 q1239 vX6_fair (sh_2 w) rfl (by decide) (Nat.le_of_ble_eq_true rfl) (sX6_fair _ _ _ _ _ _ (uM M) (h.1.kp h1.2.2.2.1) mid.2.2.2.2 (sc_rng _ _) (sc_rng _ _)) (k_I (fun z2 M2 h2 => ?_))
  have ez : z1 = z2 := by
    rcases h1.1 with q | q <;> rcases h2.1 with r | r <;> first | omega | (rw [q.2, r.2])
  have hj := h.q h1.2 h2.2
  refine tx_icmp_same (pc := 1057) 1367 O dL_law_1057 rfl ez ?_
  exact K _ _ hj
theorem law_sheet (w : WT) (E : ET) (R M : TM) {bb LL : Nat} {xs : Nat → Int32} (i : Int) (O : tx_O w "TuneLoansLaw" cL_law 4 400 E) (C : tx_SC w bb LL xs E) (hL : LL ≤ 448) (h : jI w R M) (hi : 0 ≤ i ∧ i + 7 ≤ LL) (hB : tx_B w E.2.2.2.1) (hc : eC E + 3 ≤ E.2.2.1.cells ∧ eS E + 610 ≤ E.2.2.1.slots) (K : ∀ (w1 : WT) (R1 M1 : TM) (a b : Nat), tx_ext w w1 → tx_J w1 → jI w1 R1 M1 → (∀ q : Int, q < 2000 → rV (wa w1) q = rV (wa w) q) → a ≤ eC E + 3 → b ≤ eS E + 610 → tx_X w1 (eAt E a b) 1367 [(3, iV i), (2, rV (wa w1) 2), (1, rV (wa w1) 1), (0, .ref bb)] [] R1 M1) : tx_X w E 1062 [(3, iV i), (2, rV (wa w) 2), (1, rV (wa w) 1), (0, .ref bb)] [] R M := by
  obtain ⟨j, hj, hjl⟩ := far_id [R 600 1, R 601 1, R 602 1, R 603 1, R 208 0, R 208 1, R 208 2, R 208 3, R 208 4, R 208 5]
  simp only [List.mem_cons, List.not_mem_nil, or_false, forall_eq_or_imp, forall_eq] at hjl
  have hf1 : ∀ s : Int, 0 ≤ s → s ≤ 3 → R (600 + s) 1 ≠ j := by
    intro s s1 s2
    rcases (show s = 0 ∨ s = 1 ∨ s = 2 ∨ s = 3 by omega) with e | e | e | e <;> subst e
    · exact Int.ne_of_lt hjl.1
    · exact Int.ne_of_lt hjl.2.1
    · exact Int.ne_of_lt hjl.2.2.1
    · exact Int.ne_of_lt hjl.2.2.2.1
  have hf2 : ∀ b : Int, 0 ≤ b → b < 6 → R 208 b ≠ j := by
    intro b b1 b2
    rcases (show b = 0 ∨ b = 1 ∨ b = 2 ∨ b = 3 ∨ b = 4 ∨ b = 5 by omega) with e | e | e | e | e | e <;> subst e
    · exact Int.ne_of_lt hjl.2.2.2.2.1
    · exact Int.ne_of_lt hjl.2.2.2.2.2.1
    · exact Int.ne_of_lt hjl.2.2.2.2.2.2.1
    · exact Int.ne_of_lt hjl.2.2.2.2.2.2.2.1
    · exact Int.ne_of_lt hjl.2.2.2.2.2.2.2.2.1
    · exact Int.ne_of_lt hjl.2.2.2.2.2.2.2.2.2
  refine tx_aload_n (pc := 1062) 2 O dL_law_1062 rfl rfl ?_
  refine tx_arg (pc := 1063) O C (by omega) dL_law_1063 dL_law_1064 dL_law_1065 dL_law_1066 dL_law_1067 3 0 rfl rfl (by omega) ?_
  refine tx_arg (pc := 1068) O C (by omega) dL_law_1068 dL_law_1069 dL_law_1070 dL_law_1071 dL_law_1072 3 0 rfl rfl (by omega) ?_
  refine tx_arg (pc := 1073) O C (by omega) dL_law_1073 dL_law_1074 dL_law_1075 dL_law_1076 dL_law_1077 3 0 rfl rfl (by omega) ?_
  refine tx_callVG (pc := 1078) (As := [_, _, _]) (rest := []) (mc := 3) (ms := 610) O hB dL_law_1078 q618 vX0_sheet (by decide) hc rfl (Nat.zero_le _) (sX0_sheet w _ _ _ j _ _ h.1 (sc_rng _ _) (sc_rng _ _) (sc_rng _ _) hj (rfree h.1 h.2.2.2.2.2 hj hf1 hf2)) ?_
  rintro v w1 R1 M1 ⟨z1, rfl, h1⟩ hx1 hJ1
  have hV : ∀ q : Int, q < 2000 → rV (wa w1) q = rV (wa w) q := by
    intro q hq
    rcases h1 with ⟨-, -, rfl, -⟩ | ⟨-, ⟨-, -, rfl, -⟩ | ⟨-, -, a, rfl, -⟩⟩
    · rfl
    · rfl
    · exact wN_V (by omega)
  have kk : ∀ a b : Int, 2 ≤ a ∧ a ≤ 125 → M1 a b = M a b := by
    intro a b q
    rcases h1 with ⟨-, -, -, -, rfl⟩ | ⟨g, ⟨-, -, -, -, rfl⟩ | ⟨-, -, -, -, -, rfl⟩⟩
    · rfl
    · rw [up_n (by omega)]
    · rw [up_n (by omega)]; unfold zM; rw [if_neg (by omega)]
  have hR1 : RL R1 := by
    rcases h1 with ⟨-, -, -, rfl, -⟩ | ⟨g, ⟨-, -, -, rfl, -⟩ | ⟨-, -, -, -, rfl, -⟩⟩
    · exact h.1
    · exact h.1
    · exact h.1.st (by omega)
  rw [← hV 1 (by omega), ← hV 2 (by omega)]
  have O := O.mv hx1 hJ1 hc.1 hc.2
  have C := C.mv hx1 (eC E + 3) (eS E + 610)
  have mid := h.mid kk
  refine tx_aload_n (pc := 1081) 1 O dL_law_1081 rfl rfl ?_
  refine tx_arg (pc := 1082) O C (by omega) dL_law_1082 dL_law_1083 dL_law_1084 dL_law_1085 dL_law_1086 3 0 rfl rfl (by omega) ?_
  refine tx_arg (pc := 1087) O C (by omega) dL_law_1087 dL_law_1088 dL_law_1089 dL_law_1090 dL_law_1091 3 0 rfl rfl (by omega) ?_
  refine tx_arg (pc := 1092) O C (by omega) dL_law_1092 dL_law_1093 dL_law_1094 dL_law_1095 dL_law_1096 3 0 rfl rfl (by omega) ?_
  refine tx_cV3 (pc := 1097) O dL_law_1097 q902 vX6_sheet (sh_2 _) rfl (by decide) (Nat.le_of_ble_eq_true rfl) (sX6_sheet _ _ _ _ _ _ hR1 (sc_rng _ _) (sc_rng _ _) (sc_rng _ _)) (k_I (fun z2 M2 h2 => ?_))
  obtain ⟨ez, hj9⟩ := j_sheet h hj hf1 h1 h2
  refine tx_icmp_same (pc := 1100) 1367 O dL_law_1100 rfl ez ?_
  exact K _ _ _ _ _ hx1 hJ1 hj9 hV (by omega) (by omega)
theorem law_lose (w : WT) (E : ET) (R M : TM) {bb LL : Nat} {xs : Nat → Int32} (i : Int) (O : tx_O w "TuneLoansLaw" cL_law 4 400 E) (C : tx_SC w bb LL xs E) (hL : LL ≤ 448) (h : jI w R M) (hi : 0 ≤ i ∧ i + 7 ≤ LL) (K : ∀ (R1 M1 : TM), jI w R1 M1 → tx_X w E 1367 [(3, iV i), (2, rV (wa w) 2), (1, rV (wa w) 1), (0, .ref bb)] [] R1 M1) : tx_X w E 1105 [(3, iV i), (2, rV (wa w) 2), (1, rV (wa w) 1), (0, .ref bb)] [] R M := by
  refine tx_aload_n (pc := 1105) 2 O dL_law_1105 rfl rfl ?_
  refine tx_arg (pc := 1106) O C (by omega) dL_law_1106 dL_law_1107 dL_law_1108 dL_law_1109 dL_law_1110 3 0 rfl rfl (by omega) ?_
  refine tx_cV1 (pc := 1111) O dL_law_1111 q711 vX0_lose (sh_1 w) rfl (by decide) (Nat.zero_le _) (sX0_lose w _ _ _ _ h.1 (sc_rng _ _) (h.hc _)) (k_C (fun z1 R1 M1 h1 => ?_))
  have kk : ∀ a b : Int, 2 ≤ a ∧ a ≤ 125 → M1 a b = M a b := by
    intro a b q
    rcases h1 with ⟨-, -, -, rfl⟩ | ⟨-, ⟨-, -, -, rfl⟩ | ⟨-, -, -, rfl⟩⟩
    · rfl
    · rw [up_n (by omega)]
    · rfl
  have hR1 : RL R1 := by
    rcases h1 with ⟨-, -, rfl, -⟩ | ⟨g, ⟨-, -, rfl, -⟩ | ⟨-, -, rfl, -⟩⟩
    · exact h.1
    · exact h.1
    · exact h.1.st g
  have mid := h.mid kk
  refine tx_aload_n (pc := 1114) 1 O dL_law_1114 rfl rfl ?_
  refine tx_arg (pc := 1115) O C (by omega) dL_law_1115 dL_law_1116 dL_law_1117 dL_law_1118 dL_law_1119 3 0 rfl rfl (by omega) ?_
  refine tx_cV1 (pc := 1120) O dL_law_1120 q918 vX6_lose (sh_2 w) rfl (by decide) (Nat.le_of_ble_eq_true rfl) (sX6_lose _ _ _ _ hR1 mid.2.2.1 (sc_rng _ _)) (k_I (fun z2 M2 h2 => ?_))
  obtain ⟨ez, hj⟩ := j_lose h h1 h2
  refine tx_icmp_same (pc := 1123) 1367 O dL_law_1123 rfl ez ?_
  exact K _ _ hj
theorem law_lay (w : WT) (E : ET) (R M : TM) {bb LL : Nat} {xs : Nat → Int32} (i : Int) (O : tx_O w "TuneLoansLaw" cL_law 4 400 E) (C : tx_SC w bb LL xs E) (hL : LL ≤ 448) (h : jI w R M) (hi : 0 ≤ i ∧ i + 7 ≤ LL) (hB : tx_B w E.2.2.2.1) (hc : eC E + 3 ≤ E.2.2.1.cells ∧ eS E + 610 ≤ E.2.2.1.slots) (K : ∀ (w1 : WT) (R1 M1 : TM) (a b : Nat), tx_ext w w1 → tx_J w1 → jI w1 R1 M1 → (∀ q : Int, q < 2000 → rV (wa w1) q = rV (wa w) q) → a ≤ eC E + 3 → b ≤ eS E + 610 → tx_X w1 (eAt E a b) 1367 [(3, iV i), (2, rV (wa w1) 2), (1, rV (wa w1) 1), (0, .ref bb)] [] R1 M1) : tx_X w E 1128 [(3, iV i), (2, rV (wa w) 2), (1, rV (wa w) 1), (0, .ref bb)] [] R M := by
  refine tx_aload_n (pc := 1128) 2 O dL_law_1128 rfl rfl ?_
  refine tx_arg (pc := 1129) O C (by omega) dL_law_1129 dL_law_1130 dL_law_1131 dL_law_1132 dL_law_1133 3 0 rfl rfl (by omega) ?_
  refine tx_arg (pc := 1134) O C (by omega) dL_law_1134 dL_law_1135 dL_law_1136 dL_law_1137 dL_law_1138 3 0 rfl rfl (by omega) ?_
  refine tx_arg (pc := 1139) O C (by omega) dL_law_1139 dL_law_1140 dL_law_1141 dL_law_1142 dL_law_1143 3 0 rfl rfl (by omega) ?_
  refine tx_arg (pc := 1144) O C (by omega) dL_law_1144 dL_law_1145 dL_law_1146 dL_law_1147 dL_law_1148 3 0 rfl rfl (by omega) ?_
  refine tx_callVG (pc := 1149) (As := [_, _, _, _]) (rest := []) (mc := 3) (ms := 610) O hB dL_law_1149 q715 vX0_lay (by decide) hc rfl (Nat.zero_le _) (sX0_lay w _ _ _ _ _ _ _ h.1 (sc_rng _ _) (sc_rng _ _) (sc_rng _ _) (h.hc _)) ?_
  rintro v w1 R1 M1 ⟨rfl, rfl, z1, rfl, h1⟩ hx1 hJ1
  have kk : ∀ a b : Int, 2 ≤ a ∧ a ≤ 125 → M1 a b = M a b := by
    intro a b q
    rcases h1 with ⟨-, -, rfl⟩ | ⟨-, ⟨-, -, rfl⟩ | ⟨-, -, -, rfl⟩ | ⟨-, -, -, -, rfl⟩ | ⟨hq, -, -, -, rfl⟩⟩
    all_goals first | rfl | rw [up_n (by omega)] | (have := hq.2.2.1; rw [up_n (by omega)]) | (have := ((h.hc _ (by omega) (by omega)).resolve_left hq.2.1).2.2.1; exact cpy_src _ (by omega))
  have O := O.mv hx1 hJ1 hc.1 hc.2
  have C := C.mv hx1 (eC E + 3) (eS E + 610)
  have mid := h.mid kk
  refine tx_aload_n (pc := 1152) 1 O dL_law_1152 rfl rfl ?_
  refine tx_arg (pc := 1153) O C (by omega) dL_law_1153 dL_law_1154 dL_law_1155 dL_law_1156 dL_law_1157 3 0 rfl rfl (by omega) ?_
  refine tx_arg (pc := 1158) O C (by omega) dL_law_1158 dL_law_1159 dL_law_1160 dL_law_1161 dL_law_1162 3 0 rfl rfl (by omega) ?_
  refine tx_arg (pc := 1163) O C (by omega) dL_law_1163 dL_law_1164 dL_law_1165 dL_law_1166 dL_law_1167 3 0 rfl rfl (by omega) ?_
  refine tx_arg (pc := 1168) O C (by omega) dL_law_1168 dL_law_1169 dL_law_1170 dL_law_1171 dL_law_1172 3 0 rfl rfl (by omega) ?_
  refine tx_cV4 (pc := 1173) O dL_law_1173 q922 vX6_lay (sh_2 _) rfl (by decide) (Nat.le_of_ble_eq_true rfl) (sX6_lay _ _ _ _ _ _ _ h.1 mid.2.2.1 (sc_rng _ _) (sc_rng _ _) (sc_rng _ _)) (k_I (fun z2 M2 h2 => ?_))
  obtain ⟨ez, hj⟩ := j_lay h (sc_rng _ _) h1 h2
  refine tx_icmp_same (pc := 1176) 1367 O dL_law_1176 rfl ez ?_
  exact K _ _ _ _ _ hx1 hJ1 hj (fun q _ => rfl) (by omega) (by omega)
theorem law_get (w : WT) (E : ET) (R M : TM) {bb LL : Nat} {xs : Nat → Int32} (i : Int) (O : tx_O w "TuneLoansLaw" cL_law 4 400 E) (C : tx_SC w bb LL xs E) (hL : LL ≤ 448) (h : jI w R M) (hi : 0 ≤ i ∧ i + 7 ≤ LL) (hB : tx_B w E.2.2.2.1) (hc : eC E + 3 ≤ E.2.2.1.cells ∧ eS E + 610 ≤ E.2.2.1.slots) (K : ∀ (w1 : WT) (R1 M1 : TM) (a b : Nat), tx_ext w w1 → tx_J w1 → jI w1 R1 M1 → (∀ q : Int, q < 2000 → rV (wa w1) q = rV (wa w) q) → a ≤ eC E + 3 → b ≤ eS E + 610 → tx_X w1 (eAt E a b) 1367 [(3, iV i), (2, rV (wa w1) 2), (1, rV (wa w1) 1), (0, .ref bb)] [] R1 M1) : tx_X w E 1181 [(3, iV i), (2, rV (wa w) 2), (1, rV (wa w) 1), (0, .ref bb)] [] R M := by
  refine tx_aload_n (pc := 1181) 2 O dL_law_1181 rfl rfl ?_
  refine tx_arg (pc := 1182) O C (by omega) dL_law_1182 dL_law_1183 dL_law_1184 dL_law_1185 dL_law_1186 3 0 rfl rfl (by omega) ?_
  refine tx_arg (pc := 1187) O C (by omega) dL_law_1187 dL_law_1188 dL_law_1189 dL_law_1190 dL_law_1191 3 0 rfl rfl (by omega) ?_
  refine tx_arg (pc := 1192) O C (by omega) dL_law_1192 dL_law_1193 dL_law_1194 dL_law_1195 dL_law_1196 3 0 rfl rfl (by omega) ?_
  refine tx_callVG (pc := 1197) (As := [_, _, _]) (rest := []) (mc := 3) (ms := 610) O hB dL_law_1197 q780 vX0_get (by decide) hc rfl (Nat.zero_le _) (sX0_get w _ _ _ _ _ _ h.1 (sc_rng _ _) (sc_rng _ _) (sc_rng _ _) (h.hc _)) ?_
  rintro v w1 R1 M1 ⟨rfl, rfl, z1, rfl, h1⟩ hx1 hJ1
  have kk : ∀ a b : Int, 2 ≤ a ∧ a ≤ 125 → M1 a b = M a b := by
    intro a b q
    rcases h1 with ⟨-, -, rfl⟩ | ⟨-, ⟨-, -, rfl⟩ | ⟨-, -, -, rfl⟩ | ⟨-, -, -, -, rfl⟩ | ⟨-, -, -, -, rfl⟩⟩
    all_goals first | rfl | rw [up_n (by omega)] | (have := hq.2.2.1; rw [up_n (by omega)]) | (have := ((h.hc _ (by omega) (by omega)).resolve_left hq.2.1).2.2.1; exact cpy_src _ (by omega))
  have O := O.mv hx1 hJ1 hc.1 hc.2
  have C := C.mv hx1 (eC E + 3) (eS E + 610)
  have mid := h.mid kk
  refine tx_aload_n (pc := 1200) 1 O dL_law_1200 rfl rfl ?_
  refine tx_arg (pc := 1201) O C (by omega) dL_law_1201 dL_law_1202 dL_law_1203 dL_law_1204 dL_law_1205 3 0 rfl rfl (by omega) ?_
  refine tx_arg (pc := 1206) O C (by omega) dL_law_1206 dL_law_1207 dL_law_1208 dL_law_1209 dL_law_1210 3 0 rfl rfl (by omega) ?_
  refine tx_arg (pc := 1211) O C (by omega) dL_law_1211 dL_law_1212 dL_law_1213 dL_law_1214 dL_law_1215 3 0 rfl rfl (by omega) ?_
  refine tx_cV3 (pc := 1216) O dL_law_1216 q933 vX6_get (sh_2 _) rfl (by decide) (Nat.le_of_ble_eq_true rfl) (sX6_get _ _ _ _ _ _ h.1 mid.2.2.1 (sc_rng _ _) (sc_rng _ _) (sc_rng _ _)) (k_I (fun z2 M2 h2 => ?_))
  obtain ⟨ez, hj⟩ := j_get h h1 h2
  refine tx_icmp_same (pc := 1219) 1367 O dL_law_1219 rfl ez ?_
  exact K _ _ _ _ _ hx1 hJ1 hj (fun q _ => rfl) (by omega) (by omega)
def HCopy : Prop := ∀ (w : WT) (s i t j n : Int) (ns nt : Nat) (R M : TM), RL R → rng s → rng i → rng t → rng j → rng n → (0 ≤ s → s ≤ 3 → R (600 + s) 1 = 0 ∨ shC w R M s ns) → (0 ≤ t → t ≤ 3 → R (600 + t) 1 = 0 ∨ shC w R M t nt) → tx_G w yX0_copy (wsW_ yX0_copy cX0_copy 9 (some .int) [(68, 87, 88, 335), (68, 87, 96, 352)]) 171 3 610 [rV (wa w) 1, iV s, iV i, iV t, iV j, iV n] R M (fun r w' R' M' => w' = w ∧ R' = R ∧ ∃ z : Int, r = some (iV z) ∧ copyC s i t j n ns nt R M z M')
theorem law_copy (w : WT) (E : ET) (R M : TM) {bb LL : Nat} {xs : Nat → Int32} (i : Int) (O : tx_O w "TuneLoansLaw" cL_law 4 400 E) (C : tx_SC w bb LL xs E) (hL : LL ≤ 448) (h : jI w R M) (hi : 0 ≤ i ∧ i + 7 ≤ LL) (HC : HCopy) (hB : tx_B w E.2.2.2.1) (hc : eC E + 3 ≤ E.2.2.1.cells ∧ eS E + 610 ≤ E.2.2.1.slots) (K : ∀ (w1 : WT) (R1 M1 : TM) (a b : Nat), tx_ext w w1 → tx_J w1 → jI w1 R1 M1 → (∀ q : Int, q < 2000 → rV (wa w1) q = rV (wa w) q) → a ≤ eC E + 3 → b ≤ eS E + 610 → tx_X w1 (eAt E a b) 1367 [(3, iV i), (2, rV (wa w1) 2), (1, rV (wa w1) 1), (0, .ref bb)] [] R1 M1) : tx_X w E 1224 [(3, iV i), (2, rV (wa w) 2), (1, rV (wa w) 1), (0, .ref bb)] [] R M := by
  refine tx_aload_n (pc := 1224) 2 O dL_law_1224 rfl rfl ?_
  refine tx_arg (pc := 1225) O C (by omega) dL_law_1225 dL_law_1226 dL_law_1227 dL_law_1228 dL_law_1229 3 0 rfl rfl (by omega) ?_
  refine tx_arg (pc := 1230) O C (by omega) dL_law_1230 dL_law_1231 dL_law_1232 dL_law_1233 dL_law_1234 3 0 rfl rfl (by omega) ?_
  refine tx_arg (pc := 1235) O C (by omega) dL_law_1235 dL_law_1236 dL_law_1237 dL_law_1238 dL_law_1239 3 0 rfl rfl (by omega) ?_
  refine tx_arg (pc := 1240) O C (by omega) dL_law_1240 dL_law_1241 dL_law_1242 dL_law_1243 dL_law_1244 3 0 rfl rfl (by omega) ?_
  refine tx_arg (pc := 1245) O C (by omega) dL_law_1245 dL_law_1246 dL_law_1247 dL_law_1248 dL_law_1249 3 0 rfl rfl (by omega) ?_
  refine tx_callVG (pc := 1250) (As := [_, _, _, _, _]) (rest := []) (mc := 3) (ms := 610) O hB dL_law_1250 q786 vX0_copy (by decide) hc rfl (Nat.zero_le _) (HC w _ _ _ _ _ _ _ _ _ h.1 (sc_rng _ _) (sc_rng _ _) (sc_rng _ _) (sc_rng _ _) (sc_rng _ _) (h.hc _) (h.hc _)) ?_
  rintro v w1 R1 M1 ⟨rfl, rfl, z1, rfl, h1⟩ hx1 hJ1
  have kk : ∀ a b : Int, 2 ≤ a ∧ a ≤ 125 → M1 a b = M a b := by
    intro a b q
    rcases h1 with ⟨-, -, rfl⟩ | ⟨g, ⟨-, -, rfl⟩ | ⟨-, -, rfl⟩ | ⟨-, -, -, rfl⟩ | ⟨hq, -, -, rfl⟩⟩
    all_goals first | rfl | rw [up_n (by omega)] | (have := hq.2.2.1; rw [up_n (by omega)]) | (have := ((h.hc _ (by omega) (by omega)).resolve_left hq.2.1).2.2.1; exact cpy_src _ (by omega))
  have O := O.mv hx1 hJ1 hc.1 hc.2
  have C := C.mv hx1 (eC E + 3) (eS E + 610)
  have mid := h.mid kk
  refine tx_aload_n (pc := 1253) 1 O dL_law_1253 rfl rfl ?_
  refine tx_arg (pc := 1254) O C (by omega) dL_law_1254 dL_law_1255 dL_law_1256 dL_law_1257 dL_law_1258 3 0 rfl rfl (by omega) ?_
  refine tx_arg (pc := 1259) O C (by omega) dL_law_1259 dL_law_1260 dL_law_1261 dL_law_1262 dL_law_1263 3 0 rfl rfl (by omega) ?_
  refine tx_arg (pc := 1264) O C (by omega) dL_law_1264 dL_law_1265 dL_law_1266 dL_law_1267 dL_law_1268 3 0 rfl rfl (by omega) ?_
  refine tx_arg (pc := 1269) O C (by omega) dL_law_1269 dL_law_1270 dL_law_1271 dL_law_1272 dL_law_1273 3 0 rfl rfl (by omega) ?_
  refine tx_arg (pc := 1274) O C (by omega) dL_law_1274 dL_law_1275 dL_law_1276 dL_law_1277 dL_law_1278 3 0 rfl rfl (by omega) ?_
  refine tx_cV5 (pc := 1279) O dL_law_1279 q938 vX6_copy (sh_2 _) rfl (by decide) (Nat.le_of_ble_eq_true rfl) (sX6_copy _ _ _ _ _ _ _ _ h.1 mid.2.2.1 (sc_rng _ _) (sc_rng _ _) (sc_rng _ _) (sc_rng _ _) (sc_rng _ _)) (k_I (fun z2 M2 h2 => ?_))
  obtain ⟨ez, hj⟩ := j_copy h h1 h2
  refine tx_icmp_same (pc := 1282) 1367 O dL_law_1282 rfl ez ?_
  exact K _ _ _ _ _ hx1 hJ1 hj (fun q _ => rfl) (by omega) (by omega)
theorem law_write (w : WT) (E : ET) (R M : TM) {bb LL : Nat} {xs : Nat → Int32} (i : Int) (O : tx_O w "TuneLoansLaw" cL_law 4 400 E) (C : tx_SC w bb LL xs E) (hL : LL ≤ 448) (h : jI w R M) (hi : 0 ≤ i ∧ i + 7 ≤ LL) (K : ∀ (R1 M1 : TM), jI w R1 M1 → tx_X w E 1367 [(3, iV i), (2, rV (wa w) 2), (1, rV (wa w) 1), (0, .ref bb)] [] R1 M1) : tx_X w E 1287 [(3, iV i), (2, rV (wa w) 2), (1, rV (wa w) 1), (0, .ref bb)] [] R M := by
  refine tx_aload_n (pc := 1287) 2 O dL_law_1287 rfl rfl ?_
  refine tx_arg (pc := 1288) O C (by omega) dL_law_1288 dL_law_1289 dL_law_1290 dL_law_1291 dL_law_1292 3 0 rfl rfl (by omega) ?_
  refine tx_arg (pc := 1293) O C (by omega) dL_law_1293 dL_law_1294 dL_law_1295 dL_law_1296 dL_law_1297 3 0 rfl rfl (by omega) ?_
  refine tx_arg (pc := 1298) O C (by omega) dL_law_1298 dL_law_1299 dL_law_1300 dL_law_1301 dL_law_1302 3 0 rfl rfl (by omega) ?_
  refine tx_cV3 (pc := 1303) O dL_law_1303 q792 vX0_write (sh_1 w) rfl (by decide) (Nat.zero_le _) (sX0_write w _ _ _ _ _ _ (uM M) h.1 h.c (sc_rng _ _) (sc_rng _ _) (sc_rng _ _) (h.hc _)) (k_C (fun z1 R1 M1 h1 => ?_))
  have kk : ∀ a b : Int, 2 ≤ a ∧ a ≤ 125 → M1 a b = M a b := by
    intro a b q
    rcases h1 with ⟨-, -, g⟩ | ⟨-, ⟨-, -, Mx, g, rfl⟩ | ⟨g0, -, Mx, g, -, g2⟩⟩
    · exact g.2.1 a b (by omega)
    · rw [up_n (by omega)]; exact g.2.1 a b (by omega)
    · have := g0.2.2.1
      rw [g2 a b (by omega)]; exact g.2.1 a b (by omega)
  have hR1 : RL R1 := by
    rcases h1 with ⟨-, -, g⟩ | ⟨-, ⟨-, -, Mx, g, -⟩ | ⟨-, -, Mx, g, -, -⟩⟩
    · exact h.1.kp g.2.2.1
    · exact h.1.kp g.2.2.1
    · exact h.1.kp g.2.2.1
  have mid := h.mid kk
  refine tx_aload_n (pc := 1306) 1 O dL_law_1306 rfl rfl ?_
  refine tx_arg (pc := 1307) O C (by omega) dL_law_1307 dL_law_1308 dL_law_1309 dL_law_1310 dL_law_1311 3 0 rfl rfl (by omega) ?_
  refine tx_arg (pc := 1312) O C (by omega) dL_law_1312 dL_law_1313 dL_law_1314 dL_law_1315 dL_law_1316 3 0 rfl rfl (by omega) ?_
  refine tx_arg (pc := 1317) O C (by omega) dL_law_1317 dL_law_1318 dL_law_1319 dL_law_1320 dL_law_1321 3 0 rfl rfl (by omega) ?_
  refine tx_cV3 (pc := 1322) O dL_law_1322 q1248 vX6_write (sh_2 w) rfl (by decide) (Nat.le_of_ble_eq_true rfl) (sX6_write _ _ _ _ _ _ (uM M) hR1 mid.2.2.2.2 mid.2.2.1 (sc_rng _ _) (sc_rng _ _) (sc_rng _ _)) (k_I (fun z2 M2 h2 => ?_))
  obtain ⟨ez, hj⟩ := j_write h h1 h2
  refine tx_icmp_same (pc := 1325) 1367 O dL_law_1325 rfl ez ?_
  exact K _ _ hj
theorem law_count (w : WT) (E : ET) (R M : TM) {bb LL : Nat} {xs : Nat → Int32} (i : Int) (O : tx_O w "TuneLoansLaw" cL_law 4 400 E) (C : tx_SC w bb LL xs E) (hL : LL ≤ 448) (h : jI w R M) (hi : 0 ≤ i ∧ i + 7 ≤ LL) (K : ∀ (R1 M1 : TM), jI w R1 M1 → tx_X w E 1367 [(3, iV i), (2, rV (wa w) 2), (1, rV (wa w) 1), (0, .ref bb)] [] R1 M1) : tx_X w E 1330 [(3, iV i), (2, rV (wa w) 2), (1, rV (wa w) 1), (0, .ref bb)] [] R M := by
  refine tx_aload_n (pc := 1330) 2 O dL_law_1330 rfl rfl ?_
  refine tx_arg (pc := 1331) O C (by omega) dL_law_1331 dL_law_1332 dL_law_1333 dL_law_1334 dL_law_1335 3 0 rfl rfl (by omega) ?_
  refine tx_cV1 (pc := 1336) O dL_law_1336 q796 vX0_count (sh_1 w) rfl (by decide) (Nat.zero_le _) (sX0_count w _ _ _ (uM M) h.1 h.c (sc_rng _ _)) (k_C (fun z1 R1 M1 h1 => ?_))
  have kk : ∀ a b : Int, 2 ≤ a ∧ a ≤ 125 → M1 a b = M a b := fun a b q => h1.2.2.1 a b (by omega)
  have mid := h.mid kk
  refine tx_aload_n (pc := 1339) 1 O dL_law_1339 rfl rfl ?_
  refine tx_arg (pc := 1340) O C (by omega) dL_law_1340 dL_law_1341 dL_law_1342 dL_law_1343 dL_law_1344 3 0 rfl rfl (by omega) ?_
  refine tx_cV1 (pc := 1345) O dL_law_1345 q1252 vX6_count (sh_2 w) rfl (by decide) (Nat.le_of_ble_eq_true rfl) (sX6_count _ _ _ _ (uM M) (h.1.kp h1.2.2.2.1) mid.2.2.2.2 (sc_rng _ _)) (k_I (fun z2 M2 h2 => ?_))
  have ez : z1 = z2 := by rw [h1.1, h2.1, kk 2 4 (by omega), h.2.2.2.2.1]
  have hj := h.q h1.2 h2.2
  refine tx_icmp_same (pc := 1348) 1367 O dL_law_1348 rfl ez ?_
  exact K _ _ hj
theorem law_digest (w : WT) (E : ET) (R M : TM) {bb LL : Nat} {xs : Nat → Int32} (i : Int) (O : tx_O w "TuneLoansLaw" cL_law 4 400 E) (C : tx_SC w bb LL xs E) (hL : LL ≤ 448) (h : jI w R M) (hi : 0 ≤ i ∧ i + 7 ≤ LL) (K : ∀ (R1 M1 : TM), jI w R1 M1 → tx_X w E 1367 [(3, iV i), (2, rV (wa w) 2), (1, rV (wa w) 1), (0, .ref bb)] [] R1 M1) : tx_X w E 1353 [(3, iV i), (2, rV (wa w) 2), (1, rV (wa w) 1), (0, .ref bb)] [] R M := by
  refine tx_aload_n (pc := 1353) 2 O dL_law_1353 rfl rfl ?_
  refine tx_cV0 (pc := 1354) O dL_law_1354 q804 vX0_digest (sh_1 w) rfl (by decide) (Nat.zero_le _) (sX0_digest w _ _ (uM M) h.1 h.c) (k_CL (fun z1 R1 M1 h1 => ?_))
  have kk : ∀ a b : Int, 2 ≤ a ∧ a ≤ 125 → M1 a b = M a b := fun a b q => h1.2.2.1 a b (by omega)
  have mid := h.mid kk
  refine tx_aload_n (pc := 1357) 1 O dL_law_1357 rfl rfl ?_
  refine tx_cV0 (pc := 1358) O dL_law_1358 q1256 vX6_digest (sh_2 w) rfl (by decide) (Nat.le_of_ble_eq_true rfl) (sX6_digest _ _ _ (uM M) (h.1.kp h1.2.2.2.1) mid.2.2.2.2) (k_L (fun z2 M2 h2 => ?_))
  have ez : z1 = z2 := by rw [h1.1, h2.1]
  have hj := h.q h1.2 h2.2
  refine tx_lcmp_same (pc := 1361) O dL_law_1361 ez ?_
  refine tx_if_eq (pc := 1362) 1367 O dL_law_1362 rfl (by omega) (fun _ => ?_) (fun c => absurd rfl c)
  exact K _ _ hj
