/-! CONSTRUCTION: TuneLoans -/
set_option maxRecDepth 100000
theorem ordk {k : Int} (h : 0 ≤ k ∧ k ≤ 5) : ord (400 + k) = 33 + 9 * k.toNat ∧ ord (400 + k + 1000) = 34 + 9 * k.toNat ∧ ord (410 + k) = 35 + 9 * k.toNat ∧ ord (410 + k + 1000) = 36 + 9 * k.toNat ∧ ord (420 + k) = 37 + 9 * k.toNat ∧ ord (420 + k + 1000) = 38 + 9 * k.toNat ∧ ord (500 + k) = 39 + 9 * k.toNat ∧ ord (510 + k) = 40 + 9 * k.toNat ∧ ord (520 + k) = 41 + 9 * k.toNat := by
  rcases (show k = 0 ∨ k = 1 ∨ k = 2 ∨ k = 3 ∨ k = 4 ∨ k = 5 by omega) with rfl | rfl | rfl | rfl | rfl | rfl <;> decide
theorem shb3 (w : WT) {k : Int} (h : 0 ≤ k ∧ k ≤ 5) : tx_sh w (500 + k) = (10 + 3, 0) ∧ tx_sh w (510 + k) = (10 + 4, 0) ∧ tx_sh w (520 + k) = (10 + 5, 0) := by
  rcases (show k = 0 ∨ k = 1 ∨ k = 2 ∨ k = 3 ∨ k = 4 ∨ k = 5 by omega) with rfl | rfl | rfl | rfl | rfl | rfl <;> exact ⟨rfl, rfl, rfl⟩
def rFx (R : TM) : Prop := R 1 ((5 : Nat) : Int) = 205 ∧ R 1 ((12 : Nat) : Int) = 212 ∧ R 1 ((13 : Nat) : Int) = 213 ∧ R 1 ((7 : Nat) : Int) = 207 ∧ R 207 0 = 320 ∧ R 207 1 = 321 ∧ R 207 2 = 322
theorem rFx.up {R : TM} {a b v : Int} (h : rFx R) (ha : a ≠ 1 ∧ a ≠ 207) : rFx (up R a b v) := by
  obtain ⟨h1, h2, h3, h4, h5, h6, h7⟩ := h
  refine ⟨?_, ?_, ?_, ?_, ?_, ?_, ?_⟩ <;> (rw [up_n (by omega)]; assumption)
def rB (k : Int) (R : TM) : TM := (up (up (up (up (up (up (up (up (up R (400 + k) 0 (400 + k + 1000)) 205 k (400 + k)) (410 + k) 0 (410 + k + 1000)) 212 k (410 + k)) (420 + k) 0 (420 + k + 1000)) 213 k (420 + k)) 320 k (500 + k)) 321 k (510 + k)) 322 k (520 + k))
theorem rFx.B {R : TM} {k : Int} (h : rFx R) (hk : 0 ≤ k ∧ k ≤ 5) : rFx (rB k R) := by
  unfold rB
  exact (((((((((h.up (by omega)).up (by omega)).up (by omega)).up (by omega)).up (by omega)).up (by omega)).up (by omega)).up (by omega)).up (by omega))
set_option maxHeartbeats 2000000 in
theorem tp_body {w : WT} {E : ET} {mc ms n' n : Nat} {k : Int} {R M R' M' : TM} (O : tp_O w yX0_init.cls cX0_init 2 5 E) (F : tp_Z w mc ms n' R' M' E) (hk : 0 ≤ k ∧ k ≤ 5) (hn : n = 33 + 9 * k.toNat) (f0 : rFx R) (hc : eC E + 9 ≤ mc ∧ eS E + 132 ≤ ms) (kk : tp_X w (n + 9) (eAt E (eC E + 9) (eS E + 132)) 228 [(1, iV (k + 1)), (0, rV (wa w) 1)] [] (rB k R) M) : tp_X w n E 228 [(1, iV k), (0, rV (wa w) 1)] [] R M := by
  obtain ⟨r1, r2⟩ := F.room
  obtain ⟨o1, o2, o3, o4, o5, o6, o7, o8, o9⟩ := ordk hk
  obtain ⟨b3, b4, b5⟩ := shb3 w hk
  have p1 : ord 1 < n := by rw [show ord 1 = 0 by decide]; omega
  have p205 : ord 205 < n := by rw [show ord 205 = 6 by decide]; omega
  have p207 : ord 207 < n := by rw [show ord 207 = 7 by decide]; omega
  have p320 : ord 320 < n := by rw [show ord 320 = 8 by decide]; omega
  have p321 : ord 321 < n := by rw [show ord 321 = 9 by decide]; omega
  have p322 : ord 322 < n := by rw [show ord 322 = 10 by decide]; omega
  have p212 : ord 212 < n := by rw [show ord 212 = 17 by decide]; omega
  have p213 : ord 213 < n := by rw [show ord 213 = 18 by decide]; omega
  have O0 := O
  refine tp_iload_n (pc := 228) 0 O dX0_init_228 rfl rfl ?_
  refine tp_bipush (pc := 229) O dX0_init_229 (by omega) ?_
  refine tp_icmp_ge (pc := 231) 324 O dX0_init_231 rfl (by omega) (fun c => absurd c (by omega)) (fun _ => ?_)
  refine tp_aload_n (pc := 234) 1 O dX0_init_234 rfl rfl ?_
  refine tp_getr (pc := 235) (ci := 0) (C := RX0) (T := TX0) (N := 23) 5 O dX0_init_235 (sh_1 w) ⟨by omega, by decide⟩ rfl (by decide) q553 rfl ?_
  rw [f0.1]
  refine tp_iload_n (pc := 238) 0 O dX0_init_238 rfl rfl ?_
  refine tp_new (pc := 239) (ci := 1) (C := RX1) (T := TX1) (N := 2) (400 + k) O dX0_init_239 q474 q481 q84 rfl ⟨0, sh_t w (by unfold isTn; omega)⟩ ⟨by omega, by omega, by omega⟩ ⟨by show eC E + 0 + 1 ≤ E.2.2.1.cells; omega, by show eS E + 0 + 2 ≤ E.2.2.1.slots; omega⟩ (fun j hj => by rcases (show j = 0 ∨ j = 1 by omega) with rfl | rfl <;> rfl) ?_
  show tp_X w (n + 1) (eAt E (eC E + 1) (eS E + 2)) 242 _ _ _ _
  have O := O0.at F (a := eC E + 1) (b := eS E + 2) (by omega) (by omega)
  refine tp_dup (pc := 242) O dX0_init_242 (cat_r _ _) ?_
  refine tp_callIN (pc := 243) (y := yX1_init) (b := cX1_init) (L := 1) (fr' := 2) (mc := 1) (ms := 40) O dX0_init_243 (by simp [tx_nwl, yX1_init, yX0_init, RX1, RX0]) rfl q483 q484 q84 (by decide +kernel) (by decide) (by decide) (by omega) ⟨by show eC E + 1 + 1 ≤ E.2.2.1.cells; omega, by show eS E + 2 + 40 ≤ E.2.2.1.slots; omega⟩ (by simp only [List.map_cons, List.map_nil, cat_r, cat_i]; decide) (sX1_init w (400 + k) (n + 1) _ _ (by unfold isTn; omega) (by omega) ⟨by omega, by omega⟩) ?_
  show tp_X w (n + 2) (eAt E (eC E + 2) (eS E + 42)) 246 _ _ _ _
  have O := O0.at F (a := eC E + 2) (b := eS E + 42) (by omega) (by omega)
  refine tp_aast (pc := 246) 6 6 O dX0_init_246 (sh_205 w) ⟨by decide, by decide⟩ ⟨by omega, by decide⟩ (by omega) (by decide) (by omega) (tp_elO (ci := 1) (C := RX1) (T := TX1) (N := 2) O (sh_t w (by unfold isTn; omega)) (by omega) rfl ⟨by decide, rfl⟩ (Or.inl rfl)) ?_
  have f1 : rFx (up (up R (400 + k) 0 (400 + k + 1000)) 205 k (400 + k)) := (f0.up (by omega)).up (by omega)
  refine tp_aload_n (pc := 247) 1 O dX0_init_247 rfl rfl ?_
  refine tp_getr (pc := 248) (ci := 0) (C := RX0) (T := TX0) (N := 23) 12 O dX0_init_248 (sh_1 w) ⟨by omega, by decide⟩ rfl (by decide) q560 rfl ?_
  rw [f1.2.1]
  refine tp_iload_n (pc := 251) 0 O dX0_init_251 rfl rfl ?_
  refine tp_new (pc := 252) (ci := 1) (C := RX1) (T := TX1) (N := 2) (410 + k) O dX0_init_252 q474 q481 q84 rfl ⟨0, sh_t w (by unfold isTn; omega)⟩ ⟨by omega, by omega, by omega⟩ ⟨by show eC E + 2 + 1 ≤ E.2.2.1.cells; omega, by show eS E + 42 + 2 ≤ E.2.2.1.slots; omega⟩ (fun j hj => by rcases (show j = 0 ∨ j = 1 by omega) with rfl | rfl <;> rfl) ?_
  show tp_X w (n + 3) (eAt E (eC E + 3) (eS E + 44)) 255 _ _ _ _
  have O := O0.at F (a := eC E + 3) (b := eS E + 44) (by omega) (by omega)
  refine tp_dup (pc := 255) O dX0_init_255 (cat_r _ _) ?_
  refine tp_callIN (pc := 256) (y := yX1_init) (b := cX1_init) (L := 1) (fr' := 2) (mc := 1) (ms := 40) O dX0_init_256 (by simp [tx_nwl, yX1_init, yX0_init, RX1, RX0]) rfl q483 q484 q84 (by decide +kernel) (by decide) (by decide) (by omega) ⟨by show eC E + 3 + 1 ≤ E.2.2.1.cells; omega, by show eS E + 44 + 40 ≤ E.2.2.1.slots; omega⟩ (by simp only [List.map_cons, List.map_nil, cat_r, cat_i]; decide) (sX1_init w (410 + k) (n + 3) _ _ (by unfold isTn; omega) (by omega) ⟨by omega, by omega⟩) ?_
  show tp_X w (n + 4) (eAt E (eC E + 4) (eS E + 84)) 259 _ _ _ _
  have O := O0.at F (a := eC E + 4) (b := eS E + 84) (by omega) (by omega)
  refine tp_aast (pc := 259) 6 6 O dX0_init_259 (sh_212 w) ⟨by decide, by decide⟩ ⟨by omega, by decide⟩ (by omega) (by decide) (by omega) (tp_elO (ci := 1) (C := RX1) (T := TX1) (N := 2) O (sh_t w (by unfold isTn; omega)) (by omega) rfl ⟨by decide, rfl⟩ (Or.inl rfl)) ?_
  have f2 : rFx (up (up (up (up R (400 + k) 0 (400 + k + 1000)) 205 k (400 + k)) (410 + k) 0 (410 + k + 1000)) 212 k (410 + k)) := (f1.up (by omega)).up (by omega)
  refine tp_aload_n (pc := 260) 1 O dX0_init_260 rfl rfl ?_
  refine tp_getr (pc := 261) (ci := 0) (C := RX0) (T := TX0) (N := 23) 13 O dX0_init_261 (sh_1 w) ⟨by omega, by decide⟩ rfl (by decide) q561 rfl ?_
  rw [f2.2.2.1]
  refine tp_iload_n (pc := 264) 0 O dX0_init_264 rfl rfl ?_
  refine tp_new (pc := 265) (ci := 1) (C := RX1) (T := TX1) (N := 2) (420 + k) O dX0_init_265 q474 q481 q84 rfl ⟨0, sh_t w (by unfold isTn; omega)⟩ ⟨by omega, by omega, by omega⟩ ⟨by show eC E + 4 + 1 ≤ E.2.2.1.cells; omega, by show eS E + 84 + 2 ≤ E.2.2.1.slots; omega⟩ (fun j hj => by rcases (show j = 0 ∨ j = 1 by omega) with rfl | rfl <;> rfl) ?_
  show tp_X w (n + 5) (eAt E (eC E + 5) (eS E + 86)) 268 _ _ _ _
  have O := O0.at F (a := eC E + 5) (b := eS E + 86) (by omega) (by omega)
  refine tp_dup (pc := 268) O dX0_init_268 (cat_r _ _) ?_
  refine tp_callIN (pc := 269) (y := yX1_init) (b := cX1_init) (L := 1) (fr' := 2) (mc := 1) (ms := 40) O dX0_init_269 (by simp [tx_nwl, yX1_init, yX0_init, RX1, RX0]) rfl q483 q484 q84 (by decide +kernel) (by decide) (by decide) (by omega) ⟨by show eC E + 5 + 1 ≤ E.2.2.1.cells; omega, by show eS E + 86 + 40 ≤ E.2.2.1.slots; omega⟩ (by simp only [List.map_cons, List.map_nil, cat_r, cat_i]; decide) (sX1_init w (420 + k) (n + 5) _ _ (by unfold isTn; omega) (by omega) ⟨by omega, by omega⟩) ?_
  show tp_X w (n + 6) (eAt E (eC E + 6) (eS E + 126)) 272 _ _ _ _
  have O := O0.at F (a := eC E + 6) (b := eS E + 126) (by omega) (by omega)
  refine tp_aast (pc := 272) 6 6 O dX0_init_272 (sh_213 w) ⟨by decide, by decide⟩ ⟨by omega, by decide⟩ (by omega) (by decide) (by omega) (tp_elO (ci := 1) (C := RX1) (T := TX1) (N := 2) O (sh_t w (by unfold isTn; omega)) (by omega) rfl ⟨by decide, rfl⟩ (Or.inl rfl)) ?_
  have f3 : rFx (up (up (up (up (up (up R (400 + k) 0 (400 + k + 1000)) 205 k (400 + k)) (410 + k) 0 (410 + k + 1000)) 212 k (410 + k)) (420 + k) 0 (420 + k + 1000)) 213 k (420 + k)) := (f2.up (by omega)).up (by omega)
  refine tp_aload_n (pc := 273) 1 O dX0_init_273 rfl rfl ?_
  refine tp_getr (pc := 274) (ci := 0) (C := RX0) (T := TX0) (N := 23) 7 O dX0_init_274 (sh_1 w) ⟨by omega, by decide⟩ rfl (by decide) q555 rfl ?_
  rw [f3.2.2.2.1]
  refine tp_iconst (pc := 277) O dX0_init_277 ?_
  refine tp_aald (pc := 278) 7 3 O dX0_init_278 (sh_207 w) ⟨by decide, by decide⟩ ⟨by omega, by decide⟩ (by omega) (by decide) ?_
  rw [f3.2.2.2.2.1]
  refine tp_iload_n (pc := 279) 0 O dX0_init_279 rfl rfl ?_
  refine tp_new (pc := 280) (ci := 3) (C := RX3) (T := TX3) (N := 2) (500 + k) O dX0_init_280 q479 q515 q86 rfl ⟨0, b3⟩ ⟨by omega, by omega, by omega⟩ ⟨by show eC E + 6 + 1 ≤ E.2.2.1.cells; omega, by show eS E + 126 + 2 ≤ E.2.2.1.slots; omega⟩ (fun j hj => by rcases (show j = 0 ∨ j = 1 by omega) with rfl | rfl <;> rfl) ?_
  show tp_X w (n + 7) (eAt E (eC E + 7) (eS E + 128)) 283 _ _ _ _
  have O := O0.at F (a := eC E + 7) (b := eS E + 128) (by omega) (by omega)
  refine tp_dup (pc := 283) O dX0_init_283 (cat_r _ _) ?_
  refine tp_callIN (pc := 284) (y := yX3_init) (b := cX3_init) (L := 1) (fr' := 1) (mc := 0) (ms := 0) O dX0_init_284 (by simp [tx_nwl, yX3_init, yX0_init, RX3, RX0]) rfl q517 q518 q86 (by decide +kernel) (by decide) (by decide) (by omega) ⟨by show eC E + 7 + 0 ≤ E.2.2.1.cells; omega, by show eS E + 128 + 0 ≤ E.2.2.1.slots; omega⟩ (by simp only [List.map_cons, List.map_nil, cat_r, cat_i]; decide) (sX3_init w (500 + k) (n + 7) _ _ (by omega)) ?_
  show tp_X w (n + 7) (eAt E (eC E + 7) (eS E + 128)) 287 _ _ _ _
  have O := O0.at F (a := eC E + 7) (b := eS E + 128) (by omega) (by omega)
  refine tp_aast (pc := 287) 8 6 O dX0_init_287 (sh_320 w) ⟨by decide, by decide⟩ ⟨by omega, by decide⟩ (by omega) (by decide) (by omega) (tp_elO (ci := 3) (C := RX3) (T := TX3) (N := 2) O b3 (by omega) rfl ⟨by decide, rfl⟩ (Or.inl rfl)) ?_
  have f4 : rFx (up (up (up (up (up (up (up R (400 + k) 0 (400 + k + 1000)) 205 k (400 + k)) (410 + k) 0 (410 + k + 1000)) 212 k (410 + k)) (420 + k) 0 (420 + k + 1000)) 213 k (420 + k)) 320 k (500 + k)) := f3.up (by omega)
  refine tp_aload_n (pc := 288) 1 O dX0_init_288 rfl rfl ?_
  refine tp_getr (pc := 289) (ci := 0) (C := RX0) (T := TX0) (N := 23) 7 O dX0_init_289 (sh_1 w) ⟨by omega, by decide⟩ rfl (by decide) q555 rfl ?_
  rw [f4.2.2.2.1]
  refine tp_iconst (pc := 292) O dX0_init_292 ?_
  refine tp_aald (pc := 293) 7 3 O dX0_init_293 (sh_207 w) ⟨by decide, by decide⟩ ⟨by omega, by decide⟩ (by omega) (by decide) ?_
  rw [f4.2.2.2.2.2.1]
  refine tp_iload_n (pc := 294) 0 O dX0_init_294 rfl rfl ?_
  refine tp_new (pc := 295) (ci := 4) (C := RX4) (T := TX4) (N := 2) (510 + k) O dX0_init_295 q531 q532 q87 rfl ⟨0, b4⟩ ⟨by omega, by omega, by omega⟩ ⟨by show eC E + 7 + 1 ≤ E.2.2.1.cells; omega, by show eS E + 128 + 2 ≤ E.2.2.1.slots; omega⟩ (fun j hj => by rcases (show j = 0 ∨ j = 1 by omega) with rfl | rfl <;> rfl) ?_
  show tp_X w (n + 8) (eAt E (eC E + 8) (eS E + 130)) 298 _ _ _ _
  have O := O0.at F (a := eC E + 8) (b := eS E + 130) (by omega) (by omega)
  refine tp_dup (pc := 298) O dX0_init_298 (cat_r _ _) ?_
  refine tp_callIN (pc := 299) (y := yX4_init) (b := cX4_init) (L := 1) (fr' := 2) (mc := 0) (ms := 0) O dX0_init_299 (by simp [tx_nwl, yX4_init, yX0_init, RX4, RX0]) rfl q534 q535 q87 (by decide +kernel) (by decide) (by decide) (by omega) ⟨by show eC E + 8 + 0 ≤ E.2.2.1.cells; omega, by show eS E + 130 + 0 ≤ E.2.2.1.slots; omega⟩ (by simp only [List.map_cons, List.map_nil, cat_r, cat_i]; decide) (sX4_init w (510 + k) (n + 8) _ _ (by omega)) ?_
  show tp_X w (n + 8) (eAt E (eC E + 8) (eS E + 130)) 302 _ _ _ _
  have O := O0.at F (a := eC E + 8) (b := eS E + 130) (by omega) (by omega)
  refine tp_aast (pc := 302) 8 6 O dX0_init_302 (sh_321 w) ⟨by decide, by decide⟩ ⟨by omega, by decide⟩ (by omega) (by decide) (by omega) (tp_elO (ci := 4) (C := RX4) (T := TX4) (N := 2) O b4 (by omega) rfl ⟨by decide, rfl⟩ (Or.inr (by simp [tx_nwl, RX4]))) ?_
  have f5 : rFx (up (up (up (up (up (up (up (up R (400 + k) 0 (400 + k + 1000)) 205 k (400 + k)) (410 + k) 0 (410 + k + 1000)) 212 k (410 + k)) (420 + k) 0 (420 + k + 1000)) 213 k (420 + k)) 320 k (500 + k)) 321 k (510 + k)) := f4.up (by omega)
  refine tp_aload_n (pc := 303) 1 O dX0_init_303 rfl rfl ?_
  refine tp_getr (pc := 304) (ci := 0) (C := RX0) (T := TX0) (N := 23) 7 O dX0_init_304 (sh_1 w) ⟨by omega, by decide⟩ rfl (by decide) q555 rfl ?_
  rw [f5.2.2.2.1]
  refine tp_iconst (pc := 307) O dX0_init_307 ?_
  refine tp_aald (pc := 308) 7 3 O dX0_init_308 (sh_207 w) ⟨by decide, by decide⟩ ⟨by omega, by decide⟩ (by omega) (by decide) ?_
  rw [f5.2.2.2.2.2.2]
  refine tp_iload_n (pc := 309) 0 O dX0_init_309 rfl rfl ?_
  refine tp_new (pc := 310) (ci := 5) (C := RX5) (T := TX5) (N := 2) (520 + k) O dX0_init_310 q540 q541 q88 rfl ⟨0, b5⟩ ⟨by omega, by omega, by omega⟩ ⟨by show eC E + 8 + 1 ≤ E.2.2.1.cells; omega, by show eS E + 130 + 2 ≤ E.2.2.1.slots; omega⟩ (fun j hj => by rcases (show j = 0 ∨ j = 1 by omega) with rfl | rfl <;> rfl) ?_
  show tp_X w (n + 9) (eAt E (eC E + 9) (eS E + 132)) 313 _ _ _ _
  have O := O0.at F (a := eC E + 9) (b := eS E + 132) (by omega) (by omega)
  refine tp_dup (pc := 313) O dX0_init_313 (cat_r _ _) ?_
  refine tp_callIN (pc := 314) (y := yX5_init) (b := cX5_init) (L := 1) (fr' := 3) (mc := 0) (ms := 0) O dX0_init_314 (by simp [tx_nwl, yX5_init, yX0_init, RX5, RX0]) rfl q543 q544 q88 (by decide +kernel) (by decide) (by decide) (by omega) ⟨by show eC E + 9 + 0 ≤ E.2.2.1.cells; omega, by show eS E + 132 + 0 ≤ E.2.2.1.slots; omega⟩ (by simp only [List.map_cons, List.map_nil, cat_r, cat_i]; decide) (sX5_init w (520 + k) (n + 9) _ _ (by omega)) ?_
  show tp_X w (n + 9) (eAt E (eC E + 9) (eS E + 132)) 317 _ _ _ _
  have O := O0.at F (a := eC E + 9) (b := eS E + 132) (by omega) (by omega)
  refine tp_aast (pc := 317) 8 6 O dX0_init_317 (sh_322 w) ⟨by decide, by decide⟩ ⟨by omega, by decide⟩ (by omega) (by decide) (by omega) (tp_elO (ci := 5) (C := RX5) (T := TX5) (N := 2) O b5 (by omega) rfl ⟨by decide, rfl⟩ (Or.inr (by simp [tx_nwl, RX5]))) ?_
  have f6 : rFx (up (up (up (up (up (up (up (up (up R (400 + k) 0 (400 + k + 1000)) 205 k (400 + k)) (410 + k) 0 (410 + k + 1000)) 212 k (410 + k)) (420 + k) 0 (420 + k + 1000)) 213 k (420 + k)) 320 k (500 + k)) 321 k (510 + k)) 322 k (520 + k)) := f5.up (by omega)
  refine tp_iinc (pc := 318) 0 O dX0_init_318 rfl (by decide) (by simp only [List.filter_cons, List.filter_nil, cat_r, cat_i]; rfl) ?_
  refine tp_goto (pc := 321) 228 O dX0_init_321 rfl ?_
  exact kk
def rA (R : TM) : TM := (up (up (up (up (up (up (up (up (up (up (up (up (up (up (up (up (up (rowR (up (up (rowR (up (up (up (up (up (up R 200 0 300) 200 1 301) 1 0 200) 1 1 201) 1 3 203) 1 5 205) 207 (fun j => 320 + j) 3) 1 7 207) 1 8 208) 210 (fun j => 310 + j) 4) 1 10 210) 1 12 212) 1 13 213) 1 14 214) 1 15 215) 1 16 216) 1 17 217) 218 0 (218 + 1000)) 1 18 218) 219 0 (219 + 1000)) 1 19 219) 1 20 220) 221 0 600) 221 1 601) 221 2 602) 221 3 603) 1 21 221)
def mA (M : TM) : TM := (up (up (up (up M 1 2 1) 203 0 (-1)) 203 1 (-1)) 1 11 2)
theorem rFx_A (R : TM) : rFx (rA R) := by unfold rFx rA; simp [up, rowR]
set_option maxHeartbeats 4000000 in
theorem tp_bef {w : WT} {E : ET} {mc ms n' : Nat} {R M R' M' : TM} (O : tp_O w yX0_init.cls cX0_init 2 5 E) (F : tp_Z w mc ms n' R' M' E) (hA : tp_AV E.2.2.2.1) (hc : eC E + 32 ≤ mc ∧ eS E + 364 ≤ ms) (kk : tp_X w 33 (eAt E (eC E + 32) (eS E + 364)) 226 [(0, rV (wa w) 1)] [] (rA R) (mA M)) : tp_X w 1 E 0 [(0, rV (wa w) 1)] [] R M := by
  obtain ⟨r1, r2⟩ := F.room
  have O0 := O
  refine tp_aload_n (pc := 0) 0 O dX0_init_0 rfl rfl ?_
  refine tp_objInit (pc := 1) O dX0_init_1 q470 (by decide) (by decide) ?_
  refine tp_aload_n (pc := 4) 0 O dX0_init_4 rfl rfl ?_
  refine tp_iconst (pc := 5) O dX0_init_5 ?_
  refine tp_newA (pc := 6) 2 200 O hA dX0_init_6 q223 ⟨rfl, by decide⟩ rfl ⟨by decide, by decide, by decide⟩ ⟨by show eC E + 0 + 1 ≤ E.2.2.1.cells; omega, by show eS E + 0 + 2 ≤ E.2.2.1.slots; omega⟩ ?_
  show tp_X w (2) (eAt E (eC E + 1) (eS E + 2)) 9 _ _ _ _
  have O := O0.at F (a := eC E + 1) (b := eS E + 2) (by omega) (by omega)
  refine tp_dup (pc := 9) O dX0_init_9 (cat_r _ _) ?_
  refine tp_iconst (pc := 10) O dX0_init_10 ?_
  refine tp_bipush (pc := 11) O dX0_init_11 (by omega) ?_
  refine tp_newp (pc := 13) 1 59 300 O dX0_init_13 ⟨Or.inl rfl, rfl⟩ q497 ⟨rfl, by decide⟩ rfl ⟨by decide, by decide, by decide⟩ ⟨by show eC E + 1 + 1 ≤ E.2.2.1.cells; omega, by show eS E + 2 + 59 ≤ E.2.2.1.slots; omega⟩ ?_
  show tp_X w (3) (eAt E (eC E + 2) (eS E + 61)) 15 _ _ _ _
  have O := O0.at F (a := eC E + 2) (b := eS E + 61) (by omega) (by omega)
  refine tp_aast (pc := 15) 5 2 O dX0_init_15 rfl ⟨by decide, by decide⟩ ⟨by decide, by decide⟩ (by omega) (by decide) (by decide) (tp_elA O hA rfl (by decide)) ?_
  refine tp_dup (pc := 16) O dX0_init_16 (cat_r _ _) ?_
  refine tp_iconst (pc := 17) O dX0_init_17 ?_
  refine tp_bipush (pc := 18) O dX0_init_18 (by omega) ?_
  refine tp_newp (pc := 20) 1 23 301 O dX0_init_20 ⟨Or.inl rfl, rfl⟩ q497 ⟨rfl, by decide⟩ rfl ⟨by decide, by decide, by decide⟩ ⟨by show eC E + 2 + 1 ≤ E.2.2.1.cells; omega, by show eS E + 61 + 23 ≤ E.2.2.1.slots; omega⟩ ?_
  show tp_X w (4) (eAt E (eC E + 3) (eS E + 84)) 22 _ _ _ _
  have O := O0.at F (a := eC E + 3) (b := eS E + 84) (by omega) (by omega)
  refine tp_aast (pc := 22) 5 2 O dX0_init_22 rfl ⟨by decide, by decide⟩ ⟨by decide, by decide⟩ (by omega) (by decide) (by decide) (tp_elA O hA rfl (by decide)) ?_
  refine tp_putr (pc := 23) (ci := 0) (C := RX0) (T := TX0) (N := 23) 0 O dX0_init_23 (sh_1 w) ⟨by decide, by decide⟩ rfl (by decide) q548 (fun _ => rfl) rfl (by rintro v (rfl | ⟨a, rfl⟩) <;> exact ⟨rfl, rfl⟩) ?_
  refine tp_aload_n (pc := 26) 0 O dX0_init_26 rfl rfl ?_
  refine tp_iconst (pc := 27) O dX0_init_27 ?_
  refine tp_newp (pc := 28) 1 2 201 O dX0_init_28 ⟨Or.inl rfl, rfl⟩ q497 ⟨rfl, by decide⟩ rfl ⟨by decide, by decide, by decide⟩ ⟨by show eC E + 3 + 1 ≤ E.2.2.1.cells; omega, by show eS E + 84 + 2 ≤ E.2.2.1.slots; omega⟩ ?_
  show tp_X w (5) (eAt E (eC E + 4) (eS E + 86)) 30 _ _ _ _
  have O := O0.at F (a := eC E + 4) (b := eS E + 86) (by omega) (by omega)
  refine tp_putr (pc := 30) (ci := 0) (C := RX0) (T := TX0) (N := 23) 1 O dX0_init_30 (sh_1 w) ⟨by decide, by decide⟩ rfl (by decide) q549 (fun _ => rfl) rfl (by rintro v (rfl | ⟨a, rfl⟩) <;> exact ⟨rfl, rfl⟩) ?_
  refine tp_aload_n (pc := 33) 0 O dX0_init_33 rfl rfl ?_
  refine tp_iconst (pc := 34) O dX0_init_34 ?_
  refine tp_puti (pc := 35) (ci := 0) (C := RX0) (T := TX0) (N := 23) 2 O dX0_init_35 (sh_1 w) ⟨by decide, by decide⟩ rfl (by decide) q550 (fun h => by cases h) rfl ⟨rfl, rfl⟩ ?_
  refine tp_aload_n (pc := 38) 0 O dX0_init_38 rfl rfl ?_
  refine tp_iconst (pc := 39) O dX0_init_39 ?_
  refine tp_newp (pc := 40) 1 2 203 O dX0_init_40 ⟨Or.inl rfl, rfl⟩ q497 ⟨rfl, by decide⟩ rfl ⟨by decide, by decide, by decide⟩ ⟨by show eC E + 4 + 1 ≤ E.2.2.1.cells; omega, by show eS E + 86 + 2 ≤ E.2.2.1.slots; omega⟩ ?_
  show tp_X w (6) (eAt E (eC E + 5) (eS E + 88)) 42 _ _ _ _
  have O := O0.at F (a := eC E + 5) (b := eS E + 88) (by omega) (by omega)
  refine tp_dup (pc := 42) O dX0_init_42 (cat_r _ _) ?_
  refine tp_iconst (pc := 43) O dX0_init_43 ?_
  refine tp_iconst (pc := 44) O dX0_init_44 ?_
  refine tp_iast (pc := 45) 2 O dX0_init_45 rfl ⟨by decide, by decide⟩ (by omega) (by decide) ?_
  refine tp_dup (pc := 46) O dX0_init_46 (cat_r _ _) ?_
  refine tp_iconst (pc := 47) O dX0_init_47 ?_
  refine tp_iconst (pc := 48) O dX0_init_48 ?_
  refine tp_iast (pc := 49) 2 O dX0_init_49 rfl ⟨by decide, by decide⟩ (by omega) (by decide) ?_
  refine tp_putr (pc := 50) (ci := 0) (C := RX0) (T := TX0) (N := 23) 3 O dX0_init_50 (sh_1 w) ⟨by decide, by decide⟩ rfl (by decide) q551 (fun _ => rfl) rfl (by rintro v (rfl | ⟨a, rfl⟩) <;> exact ⟨rfl, rfl⟩) ?_
  refine tp_aload_n (pc := 53) 0 O dX0_init_53 rfl rfl ?_
  refine tp_bipush (pc := 54) O dX0_init_54 (by omega) ?_
  refine tp_newq (pc := 56) (C := "TuneLoans$Tune") 6 6 205 O hA dX0_init_56 q474 ⟨⟨by decide, by decide⟩, rfl, by decide⟩ ⟨rfl, by decide⟩ rfl ⟨by decide, by decide, by decide⟩ ⟨by show eC E + 5 + 1 ≤ E.2.2.1.cells; omega, by show eS E + 88 + 6 ≤ E.2.2.1.slots; omega⟩ ?_
  show tp_X w (7) (eAt E (eC E + 6) (eS E + 94)) 59 _ _ _ _
  have O := O0.at F (a := eC E + 6) (b := eS E + 94) (by omega) (by omega)
  refine tp_putr (pc := 59) (ci := 0) (C := RX0) (T := TX0) (N := 23) 5 O dX0_init_59 (sh_1 w) ⟨by decide, by decide⟩ rfl (by decide) q553 (fun _ => rfl) rfl (by rintro v (rfl | ⟨a, rfl⟩) <;> exact ⟨rfl, rfl⟩) ?_
  refine tp_aload_n (pc := 62) 0 O dX0_init_62 rfl rfl ?_
  refine tp_iconst (pc := 63) O dX0_init_63 ?_
  refine tp_bipush (pc := 64) O dX0_init_64 (by omega) ?_
  refine tp_multi (pc := 66) (nm := "[[LTuneLoans$Borrower;") 7 8 3 6 207 (fun j => 320 + j) O dX0_init_66 q476 (fun s e => tp_mcB O hA s e) ⟨⟨by decide, by decide⟩, Or.inr rfl⟩ ⟨rfl, by decide, by decide⟩ ⟨rfl, by decide⟩ rfl ⟨by decide, by decide⟩ (fun j hj => by rcases (show j = 0 ∨ j = 1 ∨ j = 2 by omega) with rfl | rfl | rfl <;> exact ⟨rfl, by decide, by decide⟩) (by decide) ⟨by show eC E + 6 + 1 + 3 ≤ E.2.2.1.cells; omega, by show eS E + 94 + 3 + 3 * 6 ≤ E.2.2.1.slots; omega⟩ ?_
  show tp_X w (11) (eAt E (eC E + 10) (eS E + 115)) 70 _ _ _ _
  have O := O0.at F (a := eC E + 10) (b := eS E + 115) (by omega) (by omega)
  refine tp_putr (pc := 70) (ci := 0) (C := RX0) (T := TX0) (N := 23) 7 O dX0_init_70 (sh_1 w) ⟨by decide, by decide⟩ rfl (by decide) q555 (fun _ => rfl) rfl (by rintro v (rfl | ⟨a, rfl⟩) <;> exact ⟨rfl, rfl⟩) ?_
  refine tp_aload_n (pc := 73) 0 O dX0_init_73 rfl rfl ?_
  refine tp_bipush (pc := 74) O dX0_init_74 (by omega) ?_
  refine tp_newq (pc := 76) (C := "TuneLoans$Borrower") 8 6 208 O hA dX0_init_76 q479 ⟨⟨by decide, by decide⟩, rfl, by decide⟩ ⟨rfl, by decide⟩ rfl ⟨by decide, by decide, by decide⟩ ⟨by show eC E + 10 + 1 ≤ E.2.2.1.cells; omega, by show eS E + 115 + 6 ≤ E.2.2.1.slots; omega⟩ ?_
  show tp_X w (12) (eAt E (eC E + 11) (eS E + 121)) 79 _ _ _ _
  have O := O0.at F (a := eC E + 11) (b := eS E + 121) (by omega) (by omega)
  refine tp_putr (pc := 79) (ci := 0) (C := RX0) (T := TX0) (N := 23) 8 O dX0_init_79 (sh_1 w) ⟨by decide, by decide⟩ rfl (by decide) q556 (fun _ => rfl) rfl (by rintro v (rfl | ⟨a, rfl⟩) <;> exact ⟨rfl, rfl⟩) ?_
  refine tp_aload_n (pc := 82) 0 O dX0_init_82 rfl rfl ?_
  refine tp_iconst (pc := 83) O dX0_init_83 ?_
  refine tp_bipush (pc := 84) O dX0_init_84 (by omega) ?_
  refine tp_multi (pc := 86) (nm := "[[I") 5 1 4 12 210 (fun j => 310 + j) O dX0_init_86 q480 (fun s e => tp_mcA O hA s e) ⟨⟨by decide, by decide⟩, Or.inl rfl⟩ ⟨rfl, by decide, by decide⟩ ⟨rfl, by decide⟩ rfl ⟨by decide, by decide⟩ (fun j hj => by rcases (show j = 0 ∨ j = 1 ∨ j = 2 ∨ j = 3 by omega) with rfl | rfl | rfl | rfl <;> exact ⟨rfl, by decide, by decide⟩) (by decide) ⟨by show eC E + 11 + 1 + 4 ≤ E.2.2.1.cells; omega, by show eS E + 121 + 4 + 4 * 12 ≤ E.2.2.1.slots; omega⟩ ?_
  show tp_X w (17) (eAt E (eC E + 16) (eS E + 173)) 90 _ _ _ _
  have O := O0.at F (a := eC E + 16) (b := eS E + 173) (by omega) (by omega)
  refine tp_putr (pc := 90) (ci := 0) (C := RX0) (T := TX0) (N := 23) 10 O dX0_init_90 (sh_1 w) ⟨by decide, by decide⟩ rfl (by decide) q558 (fun _ => rfl) rfl (by rintro v (rfl | ⟨a, rfl⟩) <;> exact ⟨rfl, rfl⟩) ?_
  refine tp_aload_n (pc := 93) 0 O dX0_init_93 rfl rfl ?_
  refine tp_iconst (pc := 94) O dX0_init_94 ?_
  refine tp_puti (pc := 95) (ci := 0) (C := RX0) (T := TX0) (N := 23) 11 O dX0_init_95 (sh_1 w) ⟨by decide, by decide⟩ rfl (by decide) q559 (fun h => by cases h) rfl ⟨rfl, rfl⟩ ?_
  refine tp_aload_n (pc := 98) 0 O dX0_init_98 rfl rfl ?_
  refine tp_bipush (pc := 99) O dX0_init_99 (by omega) ?_
  refine tp_newq (pc := 101) (C := "TuneLoans$Tune") 6 6 212 O hA dX0_init_101 q474 ⟨⟨by decide, by decide⟩, rfl, by decide⟩ ⟨rfl, by decide⟩ rfl ⟨by decide, by decide, by decide⟩ ⟨by show eC E + 16 + 1 ≤ E.2.2.1.cells; omega, by show eS E + 173 + 6 ≤ E.2.2.1.slots; omega⟩ ?_
  show tp_X w (18) (eAt E (eC E + 17) (eS E + 179)) 104 _ _ _ _
  have O := O0.at F (a := eC E + 17) (b := eS E + 179) (by omega) (by omega)
  refine tp_putr (pc := 104) (ci := 0) (C := RX0) (T := TX0) (N := 23) 12 O dX0_init_104 (sh_1 w) ⟨by decide, by decide⟩ rfl (by decide) q560 (fun _ => rfl) rfl (by rintro v (rfl | ⟨a, rfl⟩) <;> exact ⟨rfl, rfl⟩) ?_
  refine tp_aload_n (pc := 107) 0 O dX0_init_107 rfl rfl ?_
  refine tp_bipush (pc := 108) O dX0_init_108 (by omega) ?_
  refine tp_newq (pc := 110) (C := "TuneLoans$Tune") 6 6 213 O hA dX0_init_110 q474 ⟨⟨by decide, by decide⟩, rfl, by decide⟩ ⟨rfl, by decide⟩ rfl ⟨by decide, by decide, by decide⟩ ⟨by show eC E + 17 + 1 ≤ E.2.2.1.cells; omega, by show eS E + 179 + 6 ≤ E.2.2.1.slots; omega⟩ ?_
  show tp_X w (19) (eAt E (eC E + 18) (eS E + 185)) 113 _ _ _ _
  have O := O0.at F (a := eC E + 18) (b := eS E + 185) (by omega) (by omega)
  refine tp_putr (pc := 113) (ci := 0) (C := RX0) (T := TX0) (N := 23) 13 O dX0_init_113 (sh_1 w) ⟨by decide, by decide⟩ rfl (by decide) q561 (fun _ => rfl) rfl (by rintro v (rfl | ⟨a, rfl⟩) <;> exact ⟨rfl, rfl⟩) ?_
  refine tp_aload_n (pc := 116) 0 O dX0_init_116 rfl rfl ?_
  refine tp_bipush (pc := 117) O dX0_init_117 (by omega) ?_
  refine tp_newp (pc := 119) 1 6 214 O dX0_init_119 ⟨Or.inl rfl, rfl⟩ q497 ⟨rfl, by decide⟩ rfl ⟨by decide, by decide, by decide⟩ ⟨by show eC E + 18 + 1 ≤ E.2.2.1.cells; omega, by show eS E + 185 + 6 ≤ E.2.2.1.slots; omega⟩ ?_
  show tp_X w (20) (eAt E (eC E + 19) (eS E + 191)) 121 _ _ _ _
  have O := O0.at F (a := eC E + 19) (b := eS E + 191) (by omega) (by omega)
  refine tp_putr (pc := 121) (ci := 0) (C := RX0) (T := TX0) (N := 23) 14 O dX0_init_121 (sh_1 w) ⟨by decide, by decide⟩ rfl (by decide) q562 (fun _ => rfl) rfl (by rintro v (rfl | ⟨a, rfl⟩) <;> exact ⟨rfl, rfl⟩) ?_
  refine tp_aload_n (pc := 124) 0 O dX0_init_124 rfl rfl ?_
  refine tp_bipush (pc := 125) O dX0_init_125 (by omega) ?_
  refine tp_newp (pc := 127) 2 12 215 O dX0_init_127 ⟨Or.inr rfl, rfl⟩ q498 ⟨rfl, by decide⟩ rfl ⟨by decide, by decide, by decide⟩ ⟨by show eC E + 19 + 1 ≤ E.2.2.1.cells; omega, by show eS E + 191 + 12 ≤ E.2.2.1.slots; omega⟩ ?_
  show tp_X w (21) (eAt E (eC E + 20) (eS E + 203)) 129 _ _ _ _
  have O := O0.at F (a := eC E + 20) (b := eS E + 203) (by omega) (by omega)
  refine tp_putr (pc := 129) (ci := 0) (C := RX0) (T := TX0) (N := 23) 15 O dX0_init_129 (sh_1 w) ⟨by decide, by decide⟩ rfl (by decide) q563 (fun _ => rfl) rfl (by rintro v (rfl | ⟨a, rfl⟩) <;> exact ⟨rfl, rfl⟩) ?_
  refine tp_aload_n (pc := 132) 0 O dX0_init_132 rfl rfl ?_
  refine tp_bipush (pc := 133) O dX0_init_133 (by omega) ?_
  refine tp_newp (pc := 135) 2 12 216 O dX0_init_135 ⟨Or.inr rfl, rfl⟩ q498 ⟨rfl, by decide⟩ rfl ⟨by decide, by decide, by decide⟩ ⟨by show eC E + 20 + 1 ≤ E.2.2.1.cells; omega, by show eS E + 203 + 12 ≤ E.2.2.1.slots; omega⟩ ?_
  show tp_X w (22) (eAt E (eC E + 21) (eS E + 215)) 137 _ _ _ _
  have O := O0.at F (a := eC E + 21) (b := eS E + 215) (by omega) (by omega)
  refine tp_putr (pc := 137) (ci := 0) (C := RX0) (T := TX0) (N := 23) 16 O dX0_init_137 (sh_1 w) ⟨by decide, by decide⟩ rfl (by decide) q564 (fun _ => rfl) rfl (by rintro v (rfl | ⟨a, rfl⟩) <;> exact ⟨rfl, rfl⟩) ?_
  refine tp_aload_n (pc := 140) 0 O dX0_init_140 rfl rfl ?_
  refine tp_bipush (pc := 141) O dX0_init_141 (by omega) ?_
  refine tp_newp (pc := 143) 1 12 217 O dX0_init_143 ⟨Or.inl rfl, rfl⟩ q497 ⟨rfl, by decide⟩ rfl ⟨by decide, by decide, by decide⟩ ⟨by show eC E + 21 + 1 ≤ E.2.2.1.cells; omega, by show eS E + 215 + 12 ≤ E.2.2.1.slots; omega⟩ ?_
  show tp_X w (23) (eAt E (eC E + 22) (eS E + 227)) 145 _ _ _ _
  have O := O0.at F (a := eC E + 22) (b := eS E + 227) (by omega) (by omega)
  refine tp_putr (pc := 145) (ci := 0) (C := RX0) (T := TX0) (N := 23) 17 O dX0_init_145 (sh_1 w) ⟨by decide, by decide⟩ rfl (by decide) q565 (fun _ => rfl) rfl (by rintro v (rfl | ⟨a, rfl⟩) <;> exact ⟨rfl, rfl⟩) ?_
  refine tp_aload_n (pc := 148) 0 O dX0_init_148 rfl rfl ?_
  refine tp_new (pc := 149) (ci := 1) (C := RX1) (T := TX1) (N := 2) (218) O dX0_init_149 q474 q481 q84 rfl ⟨0, rfl⟩ ⟨by decide, by omega, by omega⟩ ⟨by show eC E + 22 + 1 ≤ E.2.2.1.cells; omega, by show eS E + 227 + 2 ≤ E.2.2.1.slots; omega⟩ (fun j hj => by rcases (show j = 0 ∨ j = 1 by omega) with rfl | rfl <;> rfl) ?_
  show tp_X w (24) (eAt E (eC E + 23) (eS E + 229)) 152 _ _ _ _
  have O := O0.at F (a := eC E + 23) (b := eS E + 229) (by omega) (by omega)
  refine tp_dup (pc := 152) O dX0_init_152 (cat_r _ _) ?_
  refine tp_callIN (pc := 153) (y := yX1_init) (b := cX1_init) (L := 1) (fr' := 2) (mc := 1) (ms := 40) O dX0_init_153 (by simp [tx_nwl, yX1_init, yX0_init, RX1, RX0]) rfl q483 q484 q84 (by decide +kernel) (by decide) (by decide) (by omega) ⟨by show eC E + 23 + 1 ≤ E.2.2.1.cells; omega, by show eS E + 229 + 40 ≤ E.2.2.1.slots; omega⟩ (by simp only [List.map_cons, List.map_nil, cat_r, cat_i]; decide) (sX1_init w (218) (24) _ _ (by unfold isTn; omega) (by decide) ⟨by decide, by decide⟩) ?_
  show tp_X w (25) (eAt E (eC E + 24) (eS E + 269)) 156 _ _ _ _
  have O := O0.at F (a := eC E + 24) (b := eS E + 269) (by omega) (by omega)
  refine tp_putr (pc := 156) (ci := 0) (C := RX0) (T := TX0) (N := 23) 18 O dX0_init_156 (sh_1 w) ⟨by decide, by decide⟩ rfl (by decide) q566 (fun _ => rfl) rfl (by rintro v (rfl | ⟨a, rfl⟩) <;> exact ⟨rfl, rfl⟩) ?_
  refine tp_aload_n (pc := 159) 0 O dX0_init_159 rfl rfl ?_
  refine tp_new (pc := 160) (ci := 1) (C := RX1) (T := TX1) (N := 2) (219) O dX0_init_160 q474 q481 q84 rfl ⟨0, rfl⟩ ⟨by decide, by omega, by omega⟩ ⟨by show eC E + 24 + 1 ≤ E.2.2.1.cells; omega, by show eS E + 269 + 2 ≤ E.2.2.1.slots; omega⟩ (fun j hj => by rcases (show j = 0 ∨ j = 1 by omega) with rfl | rfl <;> rfl) ?_
  show tp_X w (26) (eAt E (eC E + 25) (eS E + 271)) 163 _ _ _ _
  have O := O0.at F (a := eC E + 25) (b := eS E + 271) (by omega) (by omega)
  refine tp_dup (pc := 163) O dX0_init_163 (cat_r _ _) ?_
  refine tp_callIN (pc := 164) (y := yX1_init) (b := cX1_init) (L := 1) (fr' := 2) (mc := 1) (ms := 40) O dX0_init_164 (by simp [tx_nwl, yX1_init, yX0_init, RX1, RX0]) rfl q483 q484 q84 (by decide +kernel) (by decide) (by decide) (by omega) ⟨by show eC E + 25 + 1 ≤ E.2.2.1.cells; omega, by show eS E + 271 + 40 ≤ E.2.2.1.slots; omega⟩ (by simp only [List.map_cons, List.map_nil, cat_r, cat_i]; decide) (sX1_init w (219) (26) _ _ (by unfold isTn; omega) (by decide) ⟨by decide, by decide⟩) ?_
  show tp_X w (27) (eAt E (eC E + 26) (eS E + 311)) 167 _ _ _ _
  have O := O0.at F (a := eC E + 26) (b := eS E + 311) (by omega) (by omega)
  refine tp_putr (pc := 167) (ci := 0) (C := RX0) (T := TX0) (N := 23) 19 O dX0_init_167 (sh_1 w) ⟨by decide, by decide⟩ rfl (by decide) q567 (fun _ => rfl) rfl (by rintro v (rfl | ⟨a, rfl⟩) <;> exact ⟨rfl, rfl⟩) ?_
  refine tp_aload_n (pc := 170) 0 O dX0_init_170 rfl rfl ?_
  refine tp_bipush (pc := 171) O dX0_init_171 (by omega) ?_
  refine tp_newp (pc := 173) 1 41 220 O dX0_init_173 ⟨Or.inl rfl, rfl⟩ q497 ⟨rfl, by decide⟩ rfl ⟨by decide, by decide, by decide⟩ ⟨by show eC E + 26 + 1 ≤ E.2.2.1.cells; omega, by show eS E + 311 + 41 ≤ E.2.2.1.slots; omega⟩ ?_
  show tp_X w (28) (eAt E (eC E + 27) (eS E + 352)) 175 _ _ _ _
  have O := O0.at F (a := eC E + 27) (b := eS E + 352) (by omega) (by omega)
  refine tp_putr (pc := 175) (ci := 0) (C := RX0) (T := TX0) (N := 23) 20 O dX0_init_175 (sh_1 w) ⟨by decide, by decide⟩ rfl (by decide) q568 (fun _ => rfl) rfl (by rintro v (rfl | ⟨a, rfl⟩) <;> exact ⟨rfl, rfl⟩) ?_
  refine tp_aload_n (pc := 178) 0 O dX0_init_178 rfl rfl ?_
  refine tp_iconst (pc := 179) O dX0_init_179 ?_
  refine tp_newq (pc := 180) (C := "TuneLoans$Sheet") 9 4 221 O hA dX0_init_180 q499 ⟨⟨by decide, by decide⟩, rfl, by decide⟩ ⟨rfl, by decide⟩ rfl ⟨by decide, by decide, by decide⟩ ⟨by show eC E + 27 + 1 ≤ E.2.2.1.cells; omega, by show eS E + 352 + 4 ≤ E.2.2.1.slots; omega⟩ ?_
  show tp_X w (29) (eAt E (eC E + 28) (eS E + 356)) 183 _ _ _ _
  have O := O0.at F (a := eC E + 28) (b := eS E + 356) (by omega) (by omega)
  refine tp_dup (pc := 183) O dX0_init_183 (cat_r _ _) ?_
  refine tp_iconst (pc := 184) O dX0_init_184 ?_
  refine tp_new (pc := 185) (ci := 2) (C := RX2) (T := TX2) (N := 2) (600) O dX0_init_185 q499 q501 q85 rfl ⟨0, rfl⟩ ⟨by decide, by omega, by omega⟩ ⟨by show eC E + 28 + 1 ≤ E.2.2.1.cells; omega, by show eS E + 356 + 2 ≤ E.2.2.1.slots; omega⟩ (fun j hj => by rcases (show j = 0 ∨ j = 1 by omega) with rfl | rfl <;> rfl) ?_
  show tp_X w (30) (eAt E (eC E + 29) (eS E + 358)) 188 _ _ _ _
  have O := O0.at F (a := eC E + 29) (b := eS E + 358) (by omega) (by omega)
  refine tp_dup (pc := 188) O dX0_init_188 (cat_r _ _) ?_
  refine tp_callIN (pc := 189) (y := yX2_init) (b := cX2_init) (L := 1) (fr' := 1) (mc := 0) (ms := 0) O dX0_init_189 (by simp [tx_nwl, yX2_init, yX0_init, RX2, RX0]) rfl q503 q504 q85 (by decide +kernel) (by decide) (by decide) (by omega) ⟨by show eC E + 29 + 0 ≤ E.2.2.1.cells; omega, by show eS E + 358 + 0 ≤ E.2.2.1.slots; omega⟩ (by simp only [List.map_cons, List.map_nil, cat_r, cat_i]; decide) (sX2_init w (600) (30) _ _ (by omega)) ?_
  show tp_X w (30) (eAt E (eC E + 29) (eS E + 358)) 192 _ _ _ _
  have O := O0.at F (a := eC E + 29) (b := eS E + 358) (by omega) (by omega)
  refine tp_aast (pc := 192) 9 4 O dX0_init_192 rfl ⟨by decide, by decide⟩ ⟨by decide, by decide⟩ (by omega) (by decide) (by decide) (tp_elO (ci := 2) (C := RX2) (T := TX2) (N := 2) O (show tx_sh w 600 = (10 + 2, 0) from rfl) (by decide) rfl ⟨by decide, rfl⟩ (Or.inl rfl)) ?_
  refine tp_dup (pc := 193) O dX0_init_193 (cat_r _ _) ?_
  refine tp_iconst (pc := 194) O dX0_init_194 ?_
  refine tp_new (pc := 195) (ci := 2) (C := RX2) (T := TX2) (N := 2) (601) O dX0_init_195 q499 q501 q85 rfl ⟨0, rfl⟩ ⟨by decide, by omega, by omega⟩ ⟨by show eC E + 29 + 1 ≤ E.2.2.1.cells; omega, by show eS E + 358 + 2 ≤ E.2.2.1.slots; omega⟩ (fun j hj => by rcases (show j = 0 ∨ j = 1 by omega) with rfl | rfl <;> rfl) ?_
  show tp_X w (31) (eAt E (eC E + 30) (eS E + 360)) 198 _ _ _ _
  have O := O0.at F (a := eC E + 30) (b := eS E + 360) (by omega) (by omega)
  refine tp_dup (pc := 198) O dX0_init_198 (cat_r _ _) ?_
  refine tp_callIN (pc := 199) (y := yX2_init) (b := cX2_init) (L := 1) (fr' := 1) (mc := 0) (ms := 0) O dX0_init_199 (by simp [tx_nwl, yX2_init, yX0_init, RX2, RX0]) rfl q503 q504 q85 (by decide +kernel) (by decide) (by decide) (by omega) ⟨by show eC E + 30 + 0 ≤ E.2.2.1.cells; omega, by show eS E + 360 + 0 ≤ E.2.2.1.slots; omega⟩ (by simp only [List.map_cons, List.map_nil, cat_r, cat_i]; decide) (sX2_init w (601) (31) _ _ (by omega)) ?_
  show tp_X w (31) (eAt E (eC E + 30) (eS E + 360)) 202 _ _ _ _
  have O := O0.at F (a := eC E + 30) (b := eS E + 360) (by omega) (by omega)
  refine tp_aast (pc := 202) 9 4 O dX0_init_202 rfl ⟨by decide, by decide⟩ ⟨by decide, by decide⟩ (by omega) (by decide) (by decide) (tp_elO (ci := 2) (C := RX2) (T := TX2) (N := 2) O (show tx_sh w 601 = (10 + 2, 0) from rfl) (by decide) rfl ⟨by decide, rfl⟩ (Or.inl rfl)) ?_
  refine tp_dup (pc := 203) O dX0_init_203 (cat_r _ _) ?_
  refine tp_iconst (pc := 204) O dX0_init_204 ?_
  refine tp_new (pc := 205) (ci := 2) (C := RX2) (T := TX2) (N := 2) (602) O dX0_init_205 q499 q501 q85 rfl ⟨0, rfl⟩ ⟨by decide, by omega, by omega⟩ ⟨by show eC E + 30 + 1 ≤ E.2.2.1.cells; omega, by show eS E + 360 + 2 ≤ E.2.2.1.slots; omega⟩ (fun j hj => by rcases (show j = 0 ∨ j = 1 by omega) with rfl | rfl <;> rfl) ?_
  show tp_X w (32) (eAt E (eC E + 31) (eS E + 362)) 208 _ _ _ _
  have O := O0.at F (a := eC E + 31) (b := eS E + 362) (by omega) (by omega)
  refine tp_dup (pc := 208) O dX0_init_208 (cat_r _ _) ?_
  refine tp_callIN (pc := 209) (y := yX2_init) (b := cX2_init) (L := 1) (fr' := 1) (mc := 0) (ms := 0) O dX0_init_209 (by simp [tx_nwl, yX2_init, yX0_init, RX2, RX0]) rfl q503 q504 q85 (by decide +kernel) (by decide) (by decide) (by omega) ⟨by show eC E + 31 + 0 ≤ E.2.2.1.cells; omega, by show eS E + 362 + 0 ≤ E.2.2.1.slots; omega⟩ (by simp only [List.map_cons, List.map_nil, cat_r, cat_i]; decide) (sX2_init w (602) (32) _ _ (by omega)) ?_
  show tp_X w (32) (eAt E (eC E + 31) (eS E + 362)) 212 _ _ _ _
  have O := O0.at F (a := eC E + 31) (b := eS E + 362) (by omega) (by omega)
  refine tp_aast (pc := 212) 9 4 O dX0_init_212 rfl ⟨by decide, by decide⟩ ⟨by decide, by decide⟩ (by omega) (by decide) (by decide) (tp_elO (ci := 2) (C := RX2) (T := TX2) (N := 2) O (show tx_sh w 602 = (10 + 2, 0) from rfl) (by decide) rfl ⟨by decide, rfl⟩ (Or.inl rfl)) ?_
  refine tp_dup (pc := 213) O dX0_init_213 (cat_r _ _) ?_
  refine tp_iconst (pc := 214) O dX0_init_214 ?_
  refine tp_new (pc := 215) (ci := 2) (C := RX2) (T := TX2) (N := 2) (603) O dX0_init_215 q499 q501 q85 rfl ⟨0, rfl⟩ ⟨by decide, by omega, by omega⟩ ⟨by show eC E + 31 + 1 ≤ E.2.2.1.cells; omega, by show eS E + 362 + 2 ≤ E.2.2.1.slots; omega⟩ (fun j hj => by rcases (show j = 0 ∨ j = 1 by omega) with rfl | rfl <;> rfl) ?_
  show tp_X w (33) (eAt E (eC E + 32) (eS E + 364)) 218 _ _ _ _
  have O := O0.at F (a := eC E + 32) (b := eS E + 364) (by omega) (by omega)
  refine tp_dup (pc := 218) O dX0_init_218 (cat_r _ _) ?_
  refine tp_callIN (pc := 219) (y := yX2_init) (b := cX2_init) (L := 1) (fr' := 1) (mc := 0) (ms := 0) O dX0_init_219 (by simp [tx_nwl, yX2_init, yX0_init, RX2, RX0]) rfl q503 q504 q85 (by decide +kernel) (by decide) (by decide) (by omega) ⟨by show eC E + 32 + 0 ≤ E.2.2.1.cells; omega, by show eS E + 364 + 0 ≤ E.2.2.1.slots; omega⟩ (by simp only [List.map_cons, List.map_nil, cat_r, cat_i]; decide) (sX2_init w (603) (33) _ _ (by omega)) ?_
  show tp_X w (33) (eAt E (eC E + 32) (eS E + 364)) 222 _ _ _ _
  have O := O0.at F (a := eC E + 32) (b := eS E + 364) (by omega) (by omega)
  refine tp_aast (pc := 222) 9 4 O dX0_init_222 rfl ⟨by decide, by decide⟩ ⟨by decide, by decide⟩ (by omega) (by decide) (by decide) (tp_elO (ci := 2) (C := RX2) (T := TX2) (N := 2) O (show tx_sh w 603 = (10 + 2, 0) from rfl) (by decide) rfl ⟨by decide, rfl⟩ (Or.inl rfl)) ?_
  refine tp_putr (pc := 223) (ci := 0) (C := RX0) (T := TX0) (N := 23) 21 O dX0_init_223 (sh_1 w) ⟨by decide, by decide⟩ rfl (by decide) q569 (fun _ => rfl) rfl (by rintro v (rfl | ⟨a, rfl⟩) <;> exact ⟨rfl, rfl⟩) ?_
  show tp_X w (33) (eAt E (eC E + 32) (eS E + 364)) 226 _ _ (rA R) (mA M)
  exact kk
def rX0 (R : TM) : TM := (rB 5 (rB 4 (rB 3 (rB 2 (rB 1 (rB 0 (rA R)))))))
theorem sX0_init (w : WT) (R M : TM) : tp_CA w yX0_init cX0_init 2 5 86 1156 [rV (wa w) 1] 1 R M 87 (rX0 R) (mA M) := by
  refine tp_CA.ofk (lv := [(0, _)]) [1] (by decide) rfl (by simp only [List.map_cons, List.map_nil, cat_i, cat_l, cat_r]) (by decide) rfl (fun E O F hA e0 e1 => ?_)
  refine tp_bef O F hA ⟨by omega, by omega⟩ ?_
  have O1 := O.at F (a := eC E + 32) (b := eS E + 364) (by omega) (by omega)
  refine tp_iconst (pc := 226) O1 dX0_init_226 ?_
  refine tp_istore_n (pc := 227) O1 dX0_init_227 rfl (by decide) (by simp only [List.filter_cons, List.filter_nil, cat_r, cat_i]; rfl) ?_
  have g0 := rFx_A R
  refine tp_body (k := 0) (O.at F (a := eC E + 32) (b := eS E + 364) (by omega) (by omega)) (F.at (a := eC E + 32) (b := eS E + 364) (by omega) (by omega)) (by omega) rfl g0 ⟨by show eC E + 32 + 9 ≤ _; omega, by show eS E + 364 + 132 ≤ _; omega⟩ ?_
  show tp_X w 42 (eAt E (eC E + 41) (eS E + 496)) 228 [(1, iV 1), (0, rV (wa w) 1)] [] _ _
  have g1 := g0.B (k := 0) (by omega)
  refine tp_body (k := 1) (O.at F (a := eC E + 41) (b := eS E + 496) (by omega) (by omega)) (F.at (a := eC E + 41) (b := eS E + 496) (by omega) (by omega)) (by omega) rfl g1 ⟨by show eC E + 41 + 9 ≤ _; omega, by show eS E + 496 + 132 ≤ _; omega⟩ ?_
  show tp_X w 51 (eAt E (eC E + 50) (eS E + 628)) 228 [(1, iV 2), (0, rV (wa w) 1)] [] _ _
  have g2 := g1.B (k := 1) (by omega)
  refine tp_body (k := 2) (O.at F (a := eC E + 50) (b := eS E + 628) (by omega) (by omega)) (F.at (a := eC E + 50) (b := eS E + 628) (by omega) (by omega)) (by omega) rfl g2 ⟨by show eC E + 50 + 9 ≤ _; omega, by show eS E + 628 + 132 ≤ _; omega⟩ ?_
  show tp_X w 60 (eAt E (eC E + 59) (eS E + 760)) 228 [(1, iV 3), (0, rV (wa w) 1)] [] _ _
  have g3 := g2.B (k := 2) (by omega)
  refine tp_body (k := 3) (O.at F (a := eC E + 59) (b := eS E + 760) (by omega) (by omega)) (F.at (a := eC E + 59) (b := eS E + 760) (by omega) (by omega)) (by omega) rfl g3 ⟨by show eC E + 59 + 9 ≤ _; omega, by show eS E + 760 + 132 ≤ _; omega⟩ ?_
  show tp_X w 69 (eAt E (eC E + 68) (eS E + 892)) 228 [(1, iV 4), (0, rV (wa w) 1)] [] _ _
  have g4 := g3.B (k := 3) (by omega)
  refine tp_body (k := 4) (O.at F (a := eC E + 68) (b := eS E + 892) (by omega) (by omega)) (F.at (a := eC E + 68) (b := eS E + 892) (by omega) (by omega)) (by omega) rfl g4 ⟨by show eC E + 68 + 9 ≤ _; omega, by show eS E + 892 + 132 ≤ _; omega⟩ ?_
  show tp_X w 78 (eAt E (eC E + 77) (eS E + 1024)) 228 [(1, iV 5), (0, rV (wa w) 1)] [] _ _
  have g5 := g4.B (k := 4) (by omega)
  refine tp_body (k := 5) (O.at F (a := eC E + 77) (b := eS E + 1024) (by omega) (by omega)) (F.at (a := eC E + 77) (b := eS E + 1024) (by omega) (by omega)) (by omega) rfl g5 ⟨by show eC E + 77 + 9 ≤ _; omega, by show eS E + 1024 + 132 ≤ _; omega⟩ ?_
  show tp_X w 87 (eAt E (eC E + 86) (eS E + 1156)) 228 [(1, iV 6), (0, rV (wa w) 1)] [] _ _
  have g6 := g5.B (k := 5) (by omega)
  have O2 := O.at F (a := eC E + 86) (b := eS E + 1156) (by omega) (by omega)
  refine tp_iload_n (pc := 228) 0 O2 dX0_init_228 rfl rfl ?_
  refine tp_bipush (pc := 229) O2 dX0_init_229 (by omega) ?_
  refine tp_icmp_ge (pc := 231) 324 O2 dX0_init_231 rfl (by omega) (fun _ => ?_) (fun c => absurd c (by omega))
  exact tp_vret (pc := 324) O2 (F.at (a := eC E + 86) (b := eS E + 1156) (by omega) (by omega)) dX0_init_324
