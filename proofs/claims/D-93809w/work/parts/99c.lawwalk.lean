set_option maxRecDepth 100000
set_option maxHeartbeats 4000000
/-! ===== the law's walk ===== -/
/-- the script, as it lay at the start -/
def SC (E : En) (L : Nat) (f : Nat → Int32) : Prop := eO E 0 < eZ E ∧ ∃ cell : Cell, (eS E).heap[eO E 0]? = some cell ∧ (eS E).isArrayOf cell .int ∧ cell.vm ≠ .unknown ∧ cell.slots.size = L ∧ ∀ j, j < L → cell.slots[j]? = some (.int (f j))
section
variable {E : En} {M : Mi} {d : Nat} {out : Out} {pc : Nat} {lv : List (Option Value)} {st : List Value} {σ : Sg} {L : Nat} {f : Nat → Int32}
theorem V.sln (hS : SC E L f) (hd : decode (mC M) pc = .ok (.arraylength, 1)) (h : V E M d out (pc + 1) lv (.int (nI L) :: st) σ) : V E M d out pc lv (.ref 0 :: st) σ := by
  refine ⟨h.1, fun p e R s m args below meth c' n0 s0 X hf hl' hns hs hc hz ls H locs Ll P Q => ?_⟩
  obtain ⟨q1, cell, q2, q3, q4, q5, q9⟩ := hS
  have q2' : H[cA E 0]? = some cell := by rw [cA_old E (by decide), P.2.2.2.2 _ q1]; exact q2
  exact W.alen X.x X.b q2' (State.isArrayOf_alike X.k.2.alike q3) (by rw [q5]; rfl) rfl rfl hd (h.2 p e R s m args below meth c' n0 s0 X hf hl' hns hs hc hz ls H locs Ll P Q)
theorem V.sld {i : Int32} {j : Nat} (hS : SC E L f) (hi : IX i j L) (hd : decode (mC M) pc = .ok (.iaload, 1)) (h : V E M d out (pc + 1) lv (.int (f j) :: st) σ) : V E M d out pc lv (.int i :: .ref 0 :: st) σ := by
  refine ⟨h.1, fun p e R s m args below meth c' n0 s0 X hf hl' hns hs hc hz ls H locs Ll P Q => ?_⟩
  obtain ⟨q1, cell, q2, q3, q4, q5, q9⟩ := hS
  have q2' : H[cA E 0]? = some cell := by rw [cA_old E (by decide), P.2.2.2.2 _ q1]; exact q2
  obtain ⟨i1, i2, i3⟩ := hi
  exact W.iald X.x X.b (v := .int (f j)) q2' (State.isArrayOf_alike X.k.2.alike q3) q4 (fun z => by rcases z with z | z; exact i1 z; omega) (by rw [i2, q9 j i3]) rfl rfl hd (h.2 p e R s m args below meth c' n0 s0 X hf hl' hns hs hc hz ls H locs Ll P Q)
end
theorem sx {i L k : Nat} (h : i + k < L) (hL : L ≤ 384) {c : Int32} (hc : c = nI k) : IX (nI i + c) (i + k) L := IX.of (by rw [hc, nI_add]) h (by omega)
theorem and63 (x : Int32) : ∃ k, k < 64 ∧ x &&& 63 = nI k := by
  refine ⟨(x &&& 63).toBitVec.toNat, ?_, Int32.toBitVec_inj.mp (by show _ = BitVec.ofNat 32 _; simp)⟩
  rw [Int32.toBitVec_and, BitVec.toNat_and]
  exact Nat.lt_of_le_of_lt Nat.and_le_right (by decide)
theorem lg_self (x : Int64) : lg_cmp x x = 0 := by simp [lg_cmp]
/-- the law has ended well, and the heap is small -/
def LWP (N Z : Nat) : Outcome → Sg → Prop := fun o s => o = .returned (some (.int 1)) ∧ sN s ≤ N ∧ sS s ≤ Z
/-- what is behind a call -/
def LK (E : En) (X : Ge) (M : Nat) (σ : Sg) (i : Nat) (P : Outcome → Sg → Prop) : Prop := ∀ (X' : Ge) (σ1 : Sg) (wx' w' : Wv) (n' : Nat) (K' : Nat → Nat), LV E X' M σ1 wx' w' w' n' K' → X'.1 0 = X.1 0 → sN σ1 ≤ sN σ + 3260 → sS σ1 ≤ sS σ + 16300 → VE E mL_law 2000 P 1641 [some (.ref 0), some (.ref (X.1 0)), some (.ref ((mG M).1 100)), some (.int (nI i))] [] (S X' (S (mG M) σ1 w') wx')
section
variable {E : En} {X : Ge} {M : Nat} {σ : Sg} {wx wm : Wv} {n : Nat} {K : Nat → Nat} {L i : Nat} {f : Nat → Int32} {P : Outcome → Sg → Prop}
theorem law_0 (h : LV E X M σ wx wm wm n K) (hF : EF E) (hB : sN σ + 4000 < 2000000) (hS : SC E L f) (hi : i + 6 ≤ L) (hL : L ≤ 384) (hK : LK E X M σ i P) : VE E mL_law 2000 P 220 [some (.ref 0), some (.ref (X.1 0)), some (.ref ((mG M).1 100)), some (.int (nI i))] [] (S X (S (mG M) σ wm) wx) := by
  refine VE.step (fun _ h9 => V.ald1 dL_law_220 (V.ald0 dL_law_221 (V.ild3 dL_law_222 (V.iconst_1 dL_law_223 (V.iadd dL_law_224 (V.sld hS (sx (k := 1) (by omega) hL rfl) dL_law_225 (V.ald0 dL_law_226 (V.ild3 dL_law_227 (V.iconst_2 dL_law_228 (V.iadd dL_law_229 (V.sld hS (sx (k := 2) (by omega) hL rfl) dL_law_230 (V.ald0 dL_law_231 (V.ild3 dL_law_232 (V.iconst_3 dL_law_233 (V.iadd dL_law_234 (V.sld hS (sx (k := 3) (by omega) hL rfl) dL_law_235 (h9))))))))))))))))) ?_
  refine VE.invV3r vL_13 (show (sT σ (X.1 0)).1 = 0 + 1 from h.1.1.t0) dL_law_236 (x_sort h hF hB) (fun s9 q9 => ?_)
  obtain ⟨X1, σ1, wx1, n1, K1, hge, hL1, e0, ⟨b1, b2⟩, b3, b4⟩ := q9
  refine VE.ge hge ?_
  refine VE.step (fun _ h9 => V.ald2 dL_law_239 (V.ald0 dL_law_240 (V.ild3 dL_law_241 (V.iconst_1 dL_law_242 (V.iadd dL_law_243 (V.sld hS (sx (k := 1) (by omega) hL rfl) dL_law_244 (V.ald0 dL_law_245 (V.ild3 dL_law_246 (V.iconst_2 dL_law_247 (V.iadd dL_law_248 (V.sld hS (sx (k := 2) (by omega) hL rfl) dL_law_249 (V.ald0 dL_law_250 (V.ild3 dL_law_251 (V.iconst_3 dL_law_252 (V.iadd dL_law_253 (V.sld hS (sx (k := 3) (by omega) hL rfl) dL_law_254 (h9))))))))))))))))) ?_
  refine VE.invV3r vL_17 (show (sT σ1 ((mG M).1 100)).1 = 7 + 1 from hL1.2.1.1.2.2.1) dL_law_255 (m_sort hL1) (fun s9 q9 => ?_)
  obtain ⟨σ2, w2, rfl, hL2, d1, d2⟩ := q9
  refine VE.icmp_eq (tgt := 1641) dL_law_258 (by decide) (fun _ => ?_) (fun z => absurd rfl z)
  exact hK X1 σ2 wx1 w2 n1 K1 hL2 e0 (by omega) (by omega)
theorem law_1 (h : LV E X M σ wx wm wm n K) (hF : EF E) (hB : sN σ + 4000 < 2000000) (hS : SC E L f) (hi : i + 6 ≤ L) (hL : L ≤ 384) (hK : LK E X M σ i P) : VE E mL_law 2000 P 263 [some (.ref 0), some (.ref (X.1 0)), some (.ref ((mG M).1 100)), some (.int (nI i))] [] (S X (S (mG M) σ wm) wx) := by
  refine VE.step (fun _ h9 => V.ald1 dL_law_263 (V.ald0 dL_law_264 (V.ild3 dL_law_265 (V.iconst_1 dL_law_266 (V.iadd dL_law_267 (V.sld hS (sx (k := 1) (by omega) hL rfl) dL_law_268 (V.ald0 dL_law_269 (V.ild3 dL_law_270 (V.iconst_2 dL_law_271 (V.iadd dL_law_272 (V.sld hS (sx (k := 2) (by omega) hL rfl) dL_law_273 (V.ald0 dL_law_274 (V.ild3 dL_law_275 (V.iconst_3 dL_law_276 (V.iadd dL_law_277 (V.sld hS (sx (k := 3) (by omega) hL rfl) dL_law_278 (h9))))))))))))))))) ?_
  refine VE.invV3r vL_18 (show (sT σ (X.1 0)).1 = 0 + 1 from h.1.1.t0) dL_law_279 (x_row h hF hB) (fun s9 q9 => ?_)
  obtain ⟨X1, σ1, wx1, n1, K1, hge, hL1, e0, ⟨b1, b2⟩, b3, b4⟩ := q9
  refine VE.ge hge ?_
  refine VE.step (fun _ h9 => V.ald2 dL_law_282 (V.ald0 dL_law_283 (V.ild3 dL_law_284 (V.iconst_1 dL_law_285 (V.iadd dL_law_286 (V.sld hS (sx (k := 1) (by omega) hL rfl) dL_law_287 (V.ald0 dL_law_288 (V.ild3 dL_law_289 (V.iconst_2 dL_law_290 (V.iadd dL_law_291 (V.sld hS (sx (k := 2) (by omega) hL rfl) dL_law_292 (V.ald0 dL_law_293 (V.ild3 dL_law_294 (V.iconst_3 dL_law_295 (V.iadd dL_law_296 (V.sld hS (sx (k := 3) (by omega) hL rfl) dL_law_297 (h9))))))))))))))))) ?_
  refine VE.invV3r vL_21 (show (sT σ1 ((mG M).1 100)).1 = 7 + 1 from hL1.2.1.1.2.2.1) dL_law_298 (m_row hL1) (fun s9 q9 => ?_)
  obtain ⟨σ2, w2, rfl, hL2, d1, d2⟩ := q9
  refine VE.icmp_eq (tgt := 1641) dL_law_301 (by decide) (fun _ => ?_) (fun z => absurd rfl z)
  exact hK X1 σ2 wx1 w2 n1 K1 hL2 e0 (by omega) (by omega)
theorem law_2 (h : LV E X M σ wx wm wm n K) (hF : EF E) (hB : sN σ + 4000 < 2000000) (hS : SC E L f) (hi : i + 6 ≤ L) (hL : L ≤ 384) (hK : LK E X M σ i P) : VE E mL_law 2000 P 306 [some (.ref 0), some (.ref (X.1 0)), some (.ref ((mG M).1 100)), some (.int (nI i))] [] (S X (S (mG M) σ wm) wx) := by
  refine VE.step (fun _ h9 => V.ald1 dL_law_306 (V.ald0 dL_law_307 (V.ild3 dL_law_308 (V.iconst_1 dL_law_309 (V.iadd dL_law_310 (V.sld hS (sx (k := 1) (by omega) hL rfl) dL_law_311 (V.ald0 dL_law_312 (V.ild3 dL_law_313 (V.iconst_2 dL_law_314 (V.iadd dL_law_315 (V.sld hS (sx (k := 2) (by omega) hL rfl) dL_law_316 (V.ald0 dL_law_317 (V.ild3 dL_law_318 (V.iconst_3 dL_law_319 (V.iadd dL_law_320 (V.sld hS (sx (k := 3) (by omega) hL rfl) dL_law_321 (h9))))))))))))))))) ?_
  refine VE.invV3r vL_22 (show (sT σ (X.1 0)).1 = 0 + 1 from h.1.1.t0) dL_law_322 (x_set h hF hB) (fun s9 q9 => ?_)
  obtain ⟨X1, σ1, wx1, n1, K1, hge, hL1, e0, ⟨b1, b2⟩, b3, b4⟩ := q9
  refine VE.ge hge ?_
  refine VE.step (fun _ h9 => V.ald2 dL_law_325 (V.ald0 dL_law_326 (V.ild3 dL_law_327 (V.iconst_1 dL_law_328 (V.iadd dL_law_329 (V.sld hS (sx (k := 1) (by omega) hL rfl) dL_law_330 (V.ald0 dL_law_331 (V.ild3 dL_law_332 (V.iconst_2 dL_law_333 (V.iadd dL_law_334 (V.sld hS (sx (k := 2) (by omega) hL rfl) dL_law_335 (V.ald0 dL_law_336 (V.ild3 dL_law_337 (V.iconst_3 dL_law_338 (V.iadd dL_law_339 (V.sld hS (sx (k := 3) (by omega) hL rfl) dL_law_340 (h9))))))))))))))))) ?_
  refine VE.invV3r vL_25 (show (sT σ1 ((mG M).1 100)).1 = 7 + 1 from hL1.2.1.1.2.2.1) dL_law_341 (m_set hL1) (fun s9 q9 => ?_)
  obtain ⟨σ2, w2, rfl, hL2, d1, d2⟩ := q9
  refine VE.icmp_eq (tgt := 1641) dL_law_344 (by decide) (fun _ => ?_) (fun z => absurd rfl z)
  exact hK X1 σ2 wx1 w2 n1 K1 hL2 e0 (by omega) (by omega)
theorem law_3 (h : LV E X M σ wx wm wm n K) (hF : EF E) (hB : sN σ + 4000 < 2000000) (hS : SC E L f) (hi : i + 6 ≤ L) (hL : L ≤ 384) (hK : LK E X M σ i P) : VE E mL_law 2000 P 349 [some (.ref 0), some (.ref (X.1 0)), some (.ref ((mG M).1 100)), some (.int (nI i))] [] (S X (S (mG M) σ wm) wx) := by
  refine VE.step (fun _ h9 => V.ald1 dL_law_349 (V.ald0 dL_law_350 (V.ild3 dL_law_351 (V.iconst_1 dL_law_352 (V.iadd dL_law_353 (V.sld hS (sx (k := 1) (by omega) hL rfl) dL_law_354 (V.ald0 dL_law_355 (V.ild3 dL_law_356 (V.iconst_2 dL_law_357 (V.iadd dL_law_358 (V.sld hS (sx (k := 2) (by omega) hL rfl) dL_law_359 (V.ald0 dL_law_360 (V.ild3 dL_law_361 (V.iconst_3 dL_law_362 (V.iadd dL_law_363 (V.sld hS (sx (k := 3) (by omega) hL rfl) dL_law_364 (h9))))))))))))))))) ?_
  refine VE.invV3r vL_26 (show (sT σ (X.1 0)).1 = 0 + 1 from h.1.1.t0) dL_law_365 (x_sit h hF hB) (fun s9 q9 => ?_)
  obtain ⟨X1, σ1, wx1, n1, K1, hge, hL1, e0, ⟨b1, b2⟩, b3, b4⟩ := q9
  refine VE.ge hge ?_
  refine VE.step (fun _ h9 => V.ald2 dL_law_368 (V.ald0 dL_law_369 (V.ild3 dL_law_370 (V.iconst_1 dL_law_371 (V.iadd dL_law_372 (V.sld hS (sx (k := 1) (by omega) hL rfl) dL_law_373 (V.ald0 dL_law_374 (V.ild3 dL_law_375 (V.iconst_2 dL_law_376 (V.iadd dL_law_377 (V.sld hS (sx (k := 2) (by omega) hL rfl) dL_law_378 (V.ald0 dL_law_379 (V.ild3 dL_law_380 (V.iconst_3 dL_law_381 (V.iadd dL_law_382 (V.sld hS (sx (k := 3) (by omega) hL rfl) dL_law_383 (h9))))))))))))))))) ?_
  refine VE.invV3r vL_29 (show (sT σ1 ((mG M).1 100)).1 = 7 + 1 from hL1.2.1.1.2.2.1) dL_law_384 (m_sit hL1) (fun s9 q9 => ?_)
  obtain ⟨σ2, w2, rfl, hL2, d1, d2⟩ := q9
  refine VE.icmp_eq (tgt := 1641) dL_law_387 (by decide) (fun _ => ?_) (fun z => absurd rfl z)
  exact hK X1 σ2 wx1 w2 n1 K1 hL2 e0 (by omega) (by omega)
theorem law_4 (h : LV E X M σ wx wm wm n K) (hF : EF E) (hB : sN σ + 4000 < 2000000) (hS : SC E L f) (hi : i + 6 ≤ L) (hL : L ≤ 384) (hK : LK E X M σ i P) : VE E mL_law 2000 P 392 [some (.ref 0), some (.ref (X.1 0)), some (.ref ((mG M).1 100)), some (.int (nI i))] [] (S X (S (mG M) σ wm) wx) := by
  refine VE.step (fun _ h9 => V.ald1 dL_law_392 (V.ald0 dL_law_393 (V.ild3 dL_law_394 (V.iconst_1 dL_law_395 (V.iadd dL_law_396 (V.sld hS (sx (k := 1) (by omega) hL rfl) dL_law_397 (V.ald0 dL_law_398 (V.ild3 dL_law_399 (V.iconst_2 dL_law_400 (V.iadd dL_law_401 (V.sld hS (sx (k := 2) (by omega) hL rfl) dL_law_402 (V.ald0 dL_law_403 (V.ild3 dL_law_404 (V.iconst_3 dL_law_405 (V.iadd dL_law_406 (V.sld hS (sx (k := 3) (by omega) hL rfl) dL_law_407 (h9))))))))))))))))) ?_
  refine VE.invV3r vL_30 (show (sT σ (X.1 0)).1 = 0 + 1 from h.1.1.t0) dL_law_408 (x_told h hF hB) (fun s9 q9 => ?_)
  obtain ⟨X1, σ1, wx1, n1, K1, hge, hL1, e0, ⟨b1, b2⟩, b3, b4⟩ := q9
  refine VE.ge hge ?_
  refine VE.step (fun _ h9 => V.ald2 dL_law_411 (V.ald0 dL_law_412 (V.ild3 dL_law_413 (V.iconst_1 dL_law_414 (V.iadd dL_law_415 (V.sld hS (sx (k := 1) (by omega) hL rfl) dL_law_416 (V.ald0 dL_law_417 (V.ild3 dL_law_418 (V.iconst_2 dL_law_419 (V.iadd dL_law_420 (V.sld hS (sx (k := 2) (by omega) hL rfl) dL_law_421 (V.ald0 dL_law_422 (V.ild3 dL_law_423 (V.iconst_3 dL_law_424 (V.iadd dL_law_425 (V.sld hS (sx (k := 3) (by omega) hL rfl) dL_law_426 (h9))))))))))))))))) ?_
  refine VE.invV3r vL_33 (show (sT σ1 ((mG M).1 100)).1 = 7 + 1 from hL1.2.1.1.2.2.1) dL_law_427 (m_told hL1) (fun s9 q9 => ?_)
  obtain ⟨σ2, w2, rfl, hL2, d1, d2⟩ := q9
  refine VE.icmp_eq (tgt := 1641) dL_law_430 (by decide) (fun _ => ?_) (fun z => absurd rfl z)
  exact hK X1 σ2 wx1 w2 n1 K1 hL2 e0 (by omega) (by omega)
theorem law_5 (h : LV E X M σ wx wm wm n K) (hF : EF E) (hB : sN σ + 4000 < 2000000) (hS : SC E L f) (hi : i + 6 ≤ L) (hL : L ≤ 384) (hK : LK E X M σ i P) : VE E mL_law 2000 P 435 [some (.ref 0), some (.ref (X.1 0)), some (.ref ((mG M).1 100)), some (.int (nI i))] [] (S X (S (mG M) σ wm) wx) := by
  refine VE.step (fun _ h9 => V.ald1 dL_law_435 (V.ald0 dL_law_436 (V.ild3 dL_law_437 (V.iconst_1 dL_law_438 (V.iadd dL_law_439 (V.sld hS (sx (k := 1) (by omega) hL rfl) dL_law_440 (V.ald0 dL_law_441 (V.ild3 dL_law_442 (V.iconst_2 dL_law_443 (V.iadd dL_law_444 (V.sld hS (sx (k := 2) (by omega) hL rfl) dL_law_445 (V.ald0 dL_law_446 (V.ild3 dL_law_447 (V.iconst_3 dL_law_448 (V.iadd dL_law_449 (V.sld hS (sx (k := 3) (by omega) hL rfl) dL_law_450 (h9))))))))))))))))) ?_
  refine VE.invV3r vL_34 (show (sT σ (X.1 0)).1 = 0 + 1 from h.1.1.t0) dL_law_451 (x_point h hF hB) (fun s9 q9 => ?_)
  obtain ⟨X1, σ1, wx1, n1, K1, hge, hL1, e0, ⟨b1, b2⟩, b3, b4⟩ := q9
  refine VE.ge hge ?_
  refine VE.step (fun _ h9 => V.ald2 dL_law_454 (V.ald0 dL_law_455 (V.ild3 dL_law_456 (V.iconst_1 dL_law_457 (V.iadd dL_law_458 (V.sld hS (sx (k := 1) (by omega) hL rfl) dL_law_459 (V.ald0 dL_law_460 (V.ild3 dL_law_461 (V.iconst_2 dL_law_462 (V.iadd dL_law_463 (V.sld hS (sx (k := 2) (by omega) hL rfl) dL_law_464 (V.ald0 dL_law_465 (V.ild3 dL_law_466 (V.iconst_3 dL_law_467 (V.iadd dL_law_468 (V.sld hS (sx (k := 3) (by omega) hL rfl) dL_law_469 (h9))))))))))))))))) ?_
  refine VE.invV3r vL_37 (show (sT σ1 ((mG M).1 100)).1 = 7 + 1 from hL1.2.1.1.2.2.1) dL_law_470 (m_point hL1) (fun s9 q9 => ?_)
  obtain ⟨σ2, w2, rfl, hL2, d1, d2⟩ := q9
  refine VE.icmp_eq (tgt := 1641) dL_law_473 (by decide) (fun _ => ?_) (fun z => absurd rfl z)
  exact hK X1 σ2 wx1 w2 n1 K1 hL2 e0 (by omega) (by omega)
theorem law_6 (h : LV E X M σ wx wm wm n K) (hF : EF E) (hB : sN σ + 4000 < 2000000) (hS : SC E L f) (hi : i + 6 ≤ L) (hL : L ≤ 384) (hK : LK E X M σ i P) : VE E mL_law 2000 P 478 [some (.ref 0), some (.ref (X.1 0)), some (.ref ((mG M).1 100)), some (.int (nI i))] [] (S X (S (mG M) σ wm) wx) := by
  refine VE.step (fun _ h9 => V.ald1 dL_law_478 (V.ald0 dL_law_479 (V.ild3 dL_law_480 (V.iconst_1 dL_law_481 (V.iadd dL_law_482 (V.sld hS (sx (k := 1) (by omega) hL rfl) dL_law_483 (V.ald0 dL_law_484 (V.ild3 dL_law_485 (V.iconst_2 dL_law_486 (V.iadd dL_law_487 (V.sld hS (sx (k := 2) (by omega) hL rfl) dL_law_488 (h9)))))))))))) ?_
  refine VE.invV2r vL_38 (show (sT σ (X.1 0)).1 = 0 + 1 from h.1.1.t0) dL_law_489 (x_post h hF hB) (fun s9 q9 => ?_)
  obtain ⟨X1, σ1, wx1, n1, K1, hge, hL1, e0, ⟨b1, b2⟩, b3, b4⟩ := q9
  refine VE.ge hge ?_
  refine VE.step (fun _ h9 => V.ald2 dL_law_492 (V.ald0 dL_law_493 (V.ild3 dL_law_494 (V.iconst_1 dL_law_495 (V.iadd dL_law_496 (V.sld hS (sx (k := 1) (by omega) hL rfl) dL_law_497 (V.ald0 dL_law_498 (V.ild3 dL_law_499 (V.iconst_2 dL_law_500 (V.iadd dL_law_501 (V.sld hS (sx (k := 2) (by omega) hL rfl) dL_law_502 (h9)))))))))))) ?_
  refine VE.invV2r vL_42 (show (sT σ1 ((mG M).1 100)).1 = 7 + 1 from hL1.2.1.1.2.2.1) dL_law_503 (m_post hL1) (fun s9 q9 => ?_)
  obtain ⟨σ2, w2, rfl, hL2, d1, d2⟩ := q9
  refine VE.icmp_eq (tgt := 1641) dL_law_506 (by decide) (fun _ => ?_) (fun z => absurd rfl z)
  exact hK X1 σ2 wx1 w2 n1 K1 hL2 e0 (by omega) (by omega)
theorem law_7 (h : LV E X M σ wx wm wm n K) (hF : EF E) (hB : sN σ + 4000 < 2000000) (hS : SC E L f) (hi : i + 6 ≤ L) (hL : L ≤ 384) (hK : LK E X M σ i P) : VE E mL_law 2000 P 511 [some (.ref 0), some (.ref (X.1 0)), some (.ref ((mG M).1 100)), some (.int (nI i))] [] (S X (S (mG M) σ wm) wx) := by
  refine VE.step (fun _ h9 => V.ald1 dL_law_511 (V.ald0 dL_law_512 (V.ild3 dL_law_513 (V.iconst_1 dL_law_514 (V.iadd dL_law_515 (V.sld hS (sx (k := 1) (by omega) hL rfl) dL_law_516 (V.ald0 dL_law_517 (V.ild3 dL_law_518 (V.iconst_2 dL_law_519 (V.iadd dL_law_520 (V.sld hS (sx (k := 2) (by omega) hL rfl) dL_law_521 (V.ald0 dL_law_522 (V.ild3 dL_law_523 (V.iconst_3 dL_law_524 (V.iadd dL_law_525 (V.sld hS (sx (k := 3) (by omega) hL rfl) dL_law_526 (h9))))))))))))))))) ?_
  refine VE.invV3r vL_43 (show (sT σ (X.1 0)).1 = 0 + 1 from h.1.1.t0) dL_law_527 (x_moves h hF hB) (fun s9 q9 => ?_)
  obtain ⟨X1, σ1, wx1, n1, K1, hge, hL1, e0, ⟨b1, b2⟩, b3, b4⟩ := q9
  refine VE.ge hge ?_
  refine VE.step (fun _ h9 => V.ald2 dL_law_530 (V.ald0 dL_law_531 (V.ild3 dL_law_532 (V.iconst_1 dL_law_533 (V.iadd dL_law_534 (V.sld hS (sx (k := 1) (by omega) hL rfl) dL_law_535 (V.ald0 dL_law_536 (V.ild3 dL_law_537 (V.iconst_2 dL_law_538 (V.iadd dL_law_539 (V.sld hS (sx (k := 2) (by omega) hL rfl) dL_law_540 (V.ald0 dL_law_541 (V.ild3 dL_law_542 (V.iconst_3 dL_law_543 (V.iadd dL_law_544 (V.sld hS (sx (k := 3) (by omega) hL rfl) dL_law_545 (h9))))))))))))))))) ?_
  refine VE.invV3r vL_46 (show (sT σ1 ((mG M).1 100)).1 = 7 + 1 from hL1.2.1.1.2.2.1) dL_law_546 (m_moves hL1) (fun s9 q9 => ?_)
  obtain ⟨σ2, w2, rfl, hL2, d1, d2⟩ := q9
  refine VE.icmp_eq (tgt := 1641) dL_law_549 (by decide) (fun _ => ?_) (fun z => absurd rfl z)
  exact hK X1 σ2 wx1 w2 n1 K1 hL2 e0 (by omega) (by omega)
theorem law_8 (h : LV E X M σ wx wm wm n K) (hF : EF E) (hB : sN σ + 4000 < 2000000) (hS : SC E L f) (hi : i + 6 ≤ L) (hL : L ≤ 384) (hK : LK E X M σ i P) : VE E mL_law 2000 P 554 [some (.ref 0), some (.ref (X.1 0)), some (.ref ((mG M).1 100)), some (.int (nI i))] [] (S X (S (mG M) σ wm) wx) := by
  refine VE.step (fun _ h9 => V.ald1 dL_law_554 (V.ald0 dL_law_555 (V.ild3 dL_law_556 (V.iconst_1 dL_law_557 (V.iadd dL_law_558 (V.sld hS (sx (k := 1) (by omega) hL rfl) dL_law_559 (h9))))))) ?_
  refine VE.invV1r vL_47 (show (sT σ (X.1 0)).1 = 0 + 1 from h.1.1.t0) dL_law_560 (x_count h hF hB) (fun s9 q9 => ?_)
  obtain ⟨X1, σ1, wx1, n1, K1, hge, hL1, e0, ⟨b1, b2⟩, b3, b4⟩ := q9
  refine VE.ge hge ?_
  refine VE.step (fun _ h9 => V.ald2 dL_law_563 (V.ald0 dL_law_564 (V.ild3 dL_law_565 (V.iconst_1 dL_law_566 (V.iadd dL_law_567 (V.sld hS (sx (k := 1) (by omega) hL rfl) dL_law_568 (h9))))))) ?_
  refine VE.invV1r vL_51 (show (sT σ1 ((mG M).1 100)).1 = 7 + 1 from hL1.2.1.1.2.2.1) dL_law_569 (m_count hL1) (fun s9 q9 => ?_)
  obtain ⟨σ2, w2, rfl, hL2, d1, d2⟩ := q9
  refine VE.icmp_eq (tgt := 1641) dL_law_572 (by decide) (fun _ => ?_) (fun z => absurd rfl z)
  exact hK X1 σ2 wx1 w2 n1 K1 hL2 e0 (by omega) (by omega)
theorem law_9 (h : LV E X M σ wx wm wm n K) (hF : EF E) (hB : sN σ + 4000 < 2000000) (hS : SC E L f) (hi : i + 6 ≤ L) (hL : L ≤ 384) (hK : LK E X M σ i P) : VE E mL_law 2000 P 577 [some (.ref 0), some (.ref (X.1 0)), some (.ref ((mG M).1 100)), some (.int (nI i))] [] (S X (S (mG M) σ wm) wx) := by
  refine VE.step (fun _ h9 => V.ald1 dL_law_577 (V.ald0 dL_law_578 (V.ild3 dL_law_579 (V.iconst_1 dL_law_580 (V.iadd dL_law_581 (V.sld hS (sx (k := 1) (by omega) hL rfl) dL_law_582 (V.i2l dL_law_583 (V.bipush (v := 32) dL_law_584 (by decide) (V.lshl dL_law_586 (V.ald0 dL_law_587 (V.ild3 dL_law_588 (V.iconst_2 dL_law_589 (V.iadd dL_law_590 (V.sld hS (sx (k := 2) (by omega) hL rfl) dL_law_591 (V.i2l dL_law_592 (V.ldc2_w q2091 dL_law_593 (V.land dL_law_596 (V.lor dL_law_597 (V.ald0 dL_law_598 (V.ild3 dL_law_599 (V.iconst_3 dL_law_600 (V.iadd dL_law_601 (V.sld hS (sx (k := 3) (by omega) hL rfl) dL_law_602 (h9)))))))))))))))))))))))) ?_
  refine VE.invV2r vL_54 (show (sT σ (X.1 0)).1 = 0 + 1 from h.1.1.t0) dL_law_603 (x_feed h hF hB) (fun s9 q9 => ?_)
  obtain ⟨X1, σ1, wx1, n1, K1, hge, hL1, e0, ⟨b1, b2⟩, b3, b4⟩ := q9
  refine VE.ge hge ?_
  refine VE.step (fun _ h9 => V.ald2 dL_law_606 (V.ald0 dL_law_607 (V.ild3 dL_law_608 (V.iconst_1 dL_law_609 (V.iadd dL_law_610 (V.sld hS (sx (k := 1) (by omega) hL rfl) dL_law_611 (V.i2l dL_law_612 (V.bipush (v := 32) dL_law_613 (by decide) (V.lshl dL_law_615 (V.ald0 dL_law_616 (V.ild3 dL_law_617 (V.iconst_2 dL_law_618 (V.iadd dL_law_619 (V.sld hS (sx (k := 2) (by omega) hL rfl) dL_law_620 (V.i2l dL_law_621 (V.ldc2_w q2091 dL_law_622 (V.land dL_law_625 (V.lor dL_law_626 (V.ald0 dL_law_627 (V.ild3 dL_law_628 (V.iconst_3 dL_law_629 (V.iadd dL_law_630 (V.sld hS (sx (k := 3) (by omega) hL rfl) dL_law_631 (h9)))))))))))))))))))))))) ?_
  refine VE.invV2r vL_58 (show (sT σ1 ((mG M).1 100)).1 = 7 + 1 from hL1.2.1.1.2.2.1) dL_law_632 (m_feed hL1) (fun s9 q9 => ?_)
  obtain ⟨σ2, w2, rfl, hL2, d1, d2⟩ := q9
  refine VE.icmp_eq (tgt := 1641) dL_law_635 (by decide) (fun _ => ?_) (fun z => absurd rfl z)
  exact hK X1 σ2 wx1 w2 n1 K1 hL2 e0 (by omega) (by omega)
theorem law_10 (h : LV E X M σ wx wm wm n K) (hF : EF E) (hB : sN σ + 4000 < 2000000) (hS : SC E L f) (hi : i + 6 ≤ L) (hL : L ≤ 384) (hK : LK E X M σ i P) : VE E mL_law 2000 P 640 [some (.ref 0), some (.ref (X.1 0)), some (.ref ((mG M).1 100)), some (.int (nI i))] [] (S X (S (mG M) σ wm) wx) := by
  refine VE.step (fun _ h9 => V.ald1 dL_law_640 (h9)) ?_
  refine VE.invV0r vL_59 (show (sT σ (X.1 0)).1 = 0 + 1 from h.1.1.t0) dL_law_641 (x_text h hF hB) (fun s9 q9 => ?_)
  obtain ⟨X1, σ1, wx1, u1, n1, K1, hge, hL1, hTD, e0, ⟨b1, b2⟩, b3, b4⟩ := q9
  refine VE.ge hge ?_
  refine VE.step (fun _ h9 => V.ald2 dL_law_644 (h9)) ?_
  refine VE.invV0r vL_63 (show (sT σ1 ((mG M).1 100)).1 = 7 + 1 from hL1.2.1.1.2.2.1) dL_law_645 (m_text hL1 hTD) (fun s9 q9 => ?_)
  obtain ⟨σ2, w2, rfl, hL2, d1, d2⟩ := q9
  refine VE.icmp_eq (tgt := 1641) dL_law_648 (by decide) (fun _ => ?_) (fun z => absurd rfl z)
  exact hK X1 σ2 wx1 w2 n1 K1 hL2 e0 (by omega) (by omega)
theorem law_11 (h : LV E X M σ wx wm wm n K) (hF : EF E) (hB : sN σ + 4000 < 2000000) (hS : SC E L f) (hi : i + 6 ≤ L) (hL : L ≤ 384) (hK : LK E X M σ i P) : VE E mL_law 2000 P 653 [some (.ref 0), some (.ref (X.1 0)), some (.ref ((mG M).1 100)), some (.int (nI i))] [] (S X (S (mG M) σ wm) wx) := by
  refine VE.step (fun _ h9 => V.ald1 dL_law_653 (V.ald0 dL_law_654 (V.ild3 dL_law_655 (V.iconst_1 dL_law_656 (V.iadd dL_law_657 (V.sld hS (sx (k := 1) (by omega) hL rfl) dL_law_658 (h9))))))) ?_
  refine VE.invV1r vL_64 (show (sT σ (X.1 0)).1 = 0 + 1 from h.1.1.t0) dL_law_659 (x_force h hF hB) (fun s9 q9 => ?_)
  obtain ⟨X1, σ1, wx1, n1, K1, hge, hL1, e0, ⟨b1, b2⟩, b3, b4⟩ := q9
  refine VE.ge hge ?_
  refine VE.step (fun _ h9 => V.ald2 dL_law_662 (V.ald0 dL_law_663 (V.ild3 dL_law_664 (V.iconst_1 dL_law_665 (V.iadd dL_law_666 (V.sld hS (sx (k := 1) (by omega) hL rfl) dL_law_667 (h9))))))) ?_
  refine VE.invV1r vL_67 (show (sT σ1 ((mG M).1 100)).1 = 7 + 1 from hL1.2.1.1.2.2.1) dL_law_668 (m_force hL1) (fun s9 q9 => ?_)
  obtain ⟨σ2, w2, rfl, hL2, d1, d2⟩ := q9
  refine VE.icmp_eq (tgt := 1641) dL_law_671 (by decide) (fun _ => ?_) (fun z => absurd rfl z)
  exact hK X1 σ2 wx1 w2 n1 K1 hL2 e0 (by omega) (by omega)
theorem law_12 (h : LV E X M σ wx wm wm n K) (hF : EF E) (hB : sN σ + 4000 < 2000000) (hS : SC E L f) (hi : i + 6 ≤ L) (hL : L ≤ 384) (hK : LK E X M σ i P) : VE E mL_law 2000 P 676 [some (.ref 0), some (.ref (X.1 0)), some (.ref ((mG M).1 100)), some (.int (nI i))] [] (S X (S (mG M) σ wm) wx) := by
  refine VE.step (fun _ h9 => V.ald1 dL_law_676 (V.ald0 dL_law_677 (V.ild3 dL_law_678 (V.iconst_1 dL_law_679 (V.iadd dL_law_680 (V.sld hS (sx (k := 1) (by omega) hL rfl) dL_law_681 (V.ald0 dL_law_682 (V.ild3 dL_law_683 (V.iconst_2 dL_law_684 (V.iadd dL_law_685 (V.sld hS (sx (k := 2) (by omega) hL rfl) dL_law_686 (V.ald0 dL_law_687 (V.ild3 dL_law_688 (V.iconst_3 dL_law_689 (V.iadd dL_law_690 (V.sld hS (sx (k := 3) (by omega) hL rfl) dL_law_691 (h9))))))))))))))))) ?_
  refine VE.invV3r vL_68 (show (sT σ (X.1 0)).1 = 0 + 1 from h.1.1.t0) dL_law_692 (x_hidden h hF hB) (fun s9 q9 => ?_)
  obtain ⟨X1, σ1, wx1, n1, K1, hge, hL1, e0, ⟨b1, b2⟩, b3, b4⟩ := q9
  refine VE.ge hge ?_
  refine VE.step (fun _ h9 => V.ald2 dL_law_695 (V.ald0 dL_law_696 (V.ild3 dL_law_697 (V.iconst_1 dL_law_698 (V.iadd dL_law_699 (V.sld hS (sx (k := 1) (by omega) hL rfl) dL_law_700 (V.ald0 dL_law_701 (V.ild3 dL_law_702 (V.iconst_2 dL_law_703 (V.iadd dL_law_704 (V.sld hS (sx (k := 2) (by omega) hL rfl) dL_law_705 (V.ald0 dL_law_706 (V.ild3 dL_law_707 (V.iconst_3 dL_law_708 (V.iadd dL_law_709 (V.sld hS (sx (k := 3) (by omega) hL rfl) dL_law_710 (h9))))))))))))))))) ?_
  refine VE.invV3r vL_71 (show (sT σ1 ((mG M).1 100)).1 = 7 + 1 from hL1.2.1.1.2.2.1) dL_law_711 (m_hidden hL1) (fun s9 q9 => ?_)
  obtain ⟨σ2, w2, rfl, hL2, d1, d2⟩ := q9
  refine VE.icmp_eq (tgt := 1641) dL_law_714 (by decide) (fun _ => ?_) (fun z => absurd rfl z)
  exact hK X1 σ2 wx1 w2 n1 K1 hL2 e0 (by omega) (by omega)
theorem law_13 (h : LV E X M σ wx wm wm n K) (hF : EF E) (hB : sN σ + 4000 < 2000000) (hS : SC E L f) (hi : i + 6 ≤ L) (hL : L ≤ 384) (hK : LK E X M σ i P) : VE E mL_law 2000 P 719 [some (.ref 0), some (.ref (X.1 0)), some (.ref ((mG M).1 100)), some (.int (nI i))] [] (S X (S (mG M) σ wm) wx) := by
  refine VE.step (fun _ h9 => V.ald1 dL_law_719 (V.ald0 dL_law_720 (V.ild3 dL_law_721 (V.iconst_1 dL_law_722 (V.iadd dL_law_723 (V.sld hS (sx (k := 1) (by omega) hL rfl) dL_law_724 (V.ald0 dL_law_725 (V.ild3 dL_law_726 (V.iconst_2 dL_law_727 (V.iadd dL_law_728 (V.sld hS (sx (k := 2) (by omega) hL rfl) dL_law_729 (h9)))))))))))) ?_
  refine VE.invV2r vL_72 (show (sT σ (X.1 0)).1 = 0 + 1 from h.1.1.t0) dL_law_730 (x_sees h hF hB) (fun s9 q9 => ?_)
  obtain ⟨X1, σ1, wx1, n1, K1, hge, hL1, e0, ⟨b1, b2⟩, b3, b4⟩ := q9
  refine VE.ge hge ?_
  refine VE.step (fun _ h9 => V.ald2 dL_law_733 (V.ald0 dL_law_734 (V.ild3 dL_law_735 (V.iconst_1 dL_law_736 (V.iadd dL_law_737 (V.sld hS (sx (k := 1) (by omega) hL rfl) dL_law_738 (V.ald0 dL_law_739 (V.ild3 dL_law_740 (V.iconst_2 dL_law_741 (V.iadd dL_law_742 (V.sld hS (sx (k := 2) (by omega) hL rfl) dL_law_743 (h9)))))))))))) ?_
  refine VE.invV2r vL_75 (show (sT σ1 ((mG M).1 100)).1 = 7 + 1 from hL1.2.1.1.2.2.1) dL_law_744 (m_sees hL1) (fun s9 q9 => ?_)
  obtain ⟨σ2, w2, rfl, hL2, d1, d2⟩ := q9
  refine VE.icmp_eq (tgt := 1641) dL_law_747 (by decide) (fun _ => ?_) (fun z => absurd rfl z)
  exact hK X1 σ2 wx1 w2 n1 K1 hL2 e0 (by omega) (by omega)
theorem law_14 (h : LV E X M σ wx wm wm n K) (hF : EF E) (hB : sN σ + 4000 < 2000000) (hS : SC E L f) (hi : i + 6 ≤ L) (hL : L ≤ 384) (hK : LK E X M σ i P) : VE E mL_law 2000 P 752 [some (.ref 0), some (.ref (X.1 0)), some (.ref ((mG M).1 100)), some (.int (nI i))] [] (S X (S (mG M) σ wm) wx) := by
  refine VE.step (fun _ h9 => V.ald1 dL_law_752 (V.ald0 dL_law_753 (V.ild3 dL_law_754 (V.iconst_1 dL_law_755 (V.iadd dL_law_756 (V.sld hS (sx (k := 1) (by omega) hL rfl) dL_law_757 (V.ald0 dL_law_758 (V.ild3 dL_law_759 (V.iconst_2 dL_law_760 (V.iadd dL_law_761 (V.sld hS (sx (k := 2) (by omega) hL rfl) dL_law_762 (h9)))))))))))) ?_
  refine VE.invV2r vL_76 (show (sT σ (X.1 0)).1 = 0 + 1 from h.1.1.t0) dL_law_763 (x_worth h hF hB) (fun s9 q9 => ?_)
  obtain ⟨X1, σ1, wx1, n1, K1, hge, hL1, e0, ⟨b1, b2⟩, b3, b4⟩ := q9
  refine VE.ge hge ?_
  refine VE.step (fun _ h9 => V.ald2 dL_law_766 (V.ald0 dL_law_767 (V.ild3 dL_law_768 (V.iconst_1 dL_law_769 (V.iadd dL_law_770 (V.sld hS (sx (k := 1) (by omega) hL rfl) dL_law_771 (V.ald0 dL_law_772 (V.ild3 dL_law_773 (V.iconst_2 dL_law_774 (V.iadd dL_law_775 (V.sld hS (sx (k := 2) (by omega) hL rfl) dL_law_776 (h9)))))))))))) ?_
  refine VE.invV2r vL_79 (show (sT σ1 ((mG M).1 100)).1 = 7 + 1 from hL1.2.1.1.2.2.1) dL_law_777 (m_worth hL1) (fun s9 q9 => ?_)
  obtain ⟨σ2, w2, rfl, hL2, d1, d2⟩ := q9
  refine VE.icmp_eq (tgt := 1641) dL_law_780 (by decide) (fun _ => ?_) (fun z => absurd rfl z)
  exact hK X1 σ2 wx1 w2 n1 K1 hL2 e0 (by omega) (by omega)
theorem law_15 (h : LV E X M σ wx wm wm n K) (hF : EF E) (hB : sN σ + 4000 < 2000000) (hS : SC E L f) (hi : i + 6 ≤ L) (hL : L ≤ 384) (hK : LK E X M σ i P) : VE E mL_law 2000 P 785 [some (.ref 0), some (.ref (X.1 0)), some (.ref ((mG M).1 100)), some (.int (nI i))] [] (S X (S (mG M) σ wm) wx) := by
  refine VE.step (fun _ h9 => V.ald1 dL_law_785 (V.ald0 dL_law_786 (V.ild3 dL_law_787 (V.iconst_1 dL_law_788 (V.iadd dL_law_789 (V.sld hS (sx (k := 1) (by omega) hL rfl) dL_law_790 (V.ald0 dL_law_791 (V.ild3 dL_law_792 (V.iconst_2 dL_law_793 (V.iadd dL_law_794 (V.sld hS (sx (k := 2) (by omega) hL rfl) dL_law_795 (h9)))))))))))) ?_
  refine VE.invV2r vL_80 (show (sT σ (X.1 0)).1 = 0 + 1 from h.1.1.t0) dL_law_796 (x_price h hF hB) (fun s9 q9 => ?_)
  obtain ⟨X1, σ1, wx1, n1, K1, hge, hL1, e0, ⟨b1, b2⟩, b3, b4⟩ := q9
  refine VE.ge hge ?_
  refine VE.step (fun _ h9 => V.ald2 dL_law_799 (V.ald0 dL_law_800 (V.ild3 dL_law_801 (V.iconst_1 dL_law_802 (V.iadd dL_law_803 (V.sld hS (sx (k := 1) (by omega) hL rfl) dL_law_804 (V.ald0 dL_law_805 (V.ild3 dL_law_806 (V.iconst_2 dL_law_807 (V.iadd dL_law_808 (V.sld hS (sx (k := 2) (by omega) hL rfl) dL_law_809 (h9)))))))))))) ?_
  refine VE.invV2r vL_83 (show (sT σ1 ((mG M).1 100)).1 = 7 + 1 from hL1.2.1.1.2.2.1) dL_law_810 (m_price hL1) (fun s9 q9 => ?_)
  obtain ⟨σ2, w2, rfl, hL2, d1, d2⟩ := q9
  refine VE.icmp_eq (tgt := 1641) dL_law_813 (by decide) (fun _ => ?_) (fun z => absurd rfl z)
  exact hK X1 σ2 wx1 w2 n1 K1 hL2 e0 (by omega) (by omega)
theorem law_16 (h : LV E X M σ wx wm wm n K) (hF : EF E) (hB : sN σ + 4000 < 2000000) (hS : SC E L f) (hi : i + 6 ≤ L) (hL : L ≤ 384) (hK : LK E X M σ i P) : VE E mL_law 2000 P 818 [some (.ref 0), some (.ref (X.1 0)), some (.ref ((mG M).1 100)), some (.int (nI i))] [] (S X (S (mG M) σ wm) wx) := by
  refine VE.step (fun _ h9 => V.ald1 dL_law_818 (V.ald0 dL_law_819 (V.ild3 dL_law_820 (V.iconst_1 dL_law_821 (V.iadd dL_law_822 (V.sld hS (sx (k := 1) (by omega) hL rfl) dL_law_823 (h9))))))) ?_
  refine VE.invV1r vL_84 (show (sT σ (X.1 0)).1 = 0 + 1 from h.1.1.t0) dL_law_824 (x_all h hF hB) (fun s9 q9 => ?_)
  obtain ⟨X1, σ1, wx1, n1, K1, hge, hL1, e0, ⟨b1, b2⟩, b3, b4⟩ := q9
  refine VE.ge hge ?_
  refine VE.step (fun _ h9 => V.ald2 dL_law_827 (V.ald0 dL_law_828 (V.ild3 dL_law_829 (V.iconst_1 dL_law_830 (V.iadd dL_law_831 (V.sld hS (sx (k := 1) (by omega) hL rfl) dL_law_832 (h9))))))) ?_
  refine VE.invV1r vL_87 (show (sT σ1 ((mG M).1 100)).1 = 7 + 1 from hL1.2.1.1.2.2.1) dL_law_833 (m_all hL1) (fun s9 q9 => ?_)
  obtain ⟨σ2, w2, rfl, hL2, d1, d2⟩ := q9
  refine VE.icmp_eq (tgt := 1641) dL_law_836 (by decide) (fun _ => ?_) (fun z => absurd rfl z)
  exact hK X1 σ2 wx1 w2 n1 K1 hL2 e0 (by omega) (by omega)
theorem law_17 (h : LV E X M σ wx wm wm n K) (hF : EF E) (hB : sN σ + 4000 < 2000000) (hS : SC E L f) (hi : i + 6 ≤ L) (hL : L ≤ 384) (hK : LK E X M σ i P) : VE E mL_law 2000 P 841 [some (.ref 0), some (.ref (X.1 0)), some (.ref ((mG M).1 100)), some (.int (nI i))] [] (S X (S (mG M) σ wm) wx) := by
  refine VE.step (fun _ h9 => V.ald1 dL_law_841 (h9)) ?_
  refine VE.invV0r vL_88 (show (sT σ (X.1 0)).1 = 0 + 1 from h.1.1.t0) dL_law_842 (x_cost h hF hB) (fun s9 q9 => ?_)
  obtain ⟨X1, σ1, wx1, n1, K1, hge, hL1, e0, ⟨b1, b2⟩, b3, b4⟩ := q9
  refine VE.ge hge ?_
  refine VE.step (fun _ h9 => V.ald2 dL_law_845 (h9)) ?_
  refine VE.invV0r vL_91 (show (sT σ1 ((mG M).1 100)).1 = 7 + 1 from hL1.2.1.1.2.2.1) dL_law_846 (m_cost hL1) (fun s9 q9 => ?_)
  obtain ⟨σ2, w2, rfl, hL2, d1, d2⟩ := q9
  refine VE.icmp_eq (tgt := 1641) dL_law_849 (by decide) (fun _ => ?_) (fun z => absurd rfl z)
  exact hK X1 σ2 wx1 w2 n1 K1 hL2 e0 (by omega) (by omega)
theorem law_18 (h : LV E X M σ wx wm wm n K) (hF : EF E) (hB : sN σ + 4000 < 2000000) (hS : SC E L f) (hi : i + 6 ≤ L) (hL : L ≤ 384) (hK : LK E X M σ i P) : VE E mL_law 2000 P 854 [some (.ref 0), some (.ref (X.1 0)), some (.ref ((mG M).1 100)), some (.int (nI i))] [] (S X (S (mG M) σ wm) wx) := by
  refine VE.step (fun _ h9 => V.ald1 dL_law_854 (V.ald0 dL_law_855 (V.ild3 dL_law_856 (V.iconst_1 dL_law_857 (V.iadd dL_law_858 (V.sld hS (sx (k := 1) (by omega) hL rfl) dL_law_859 (h9))))))) ?_
  refine VE.invV1r vL_92 (show (sT σ (X.1 0)).1 = 0 + 1 from h.1.1.t0) dL_law_860 (x_lawful h hF hB) (fun s9 q9 => ?_)
  obtain ⟨X1, σ1, wx1, n1, K1, hge, hL1, e0, ⟨b1, b2⟩, b3, b4⟩ := q9
  refine VE.ge hge ?_
  refine VE.step (fun _ h9 => V.ald2 dL_law_863 (V.ald0 dL_law_864 (V.ild3 dL_law_865 (V.iconst_1 dL_law_866 (V.iadd dL_law_867 (V.sld hS (sx (k := 1) (by omega) hL rfl) dL_law_868 (h9))))))) ?_
  refine VE.invV1r vL_95 (show (sT σ1 ((mG M).1 100)).1 = 7 + 1 from hL1.2.1.1.2.2.1) dL_law_869 (m_lawful hL1) (fun s9 q9 => ?_)
  obtain ⟨σ2, w2, rfl, hL2, d1, d2⟩ := q9
  refine VE.icmp_eq (tgt := 1641) dL_law_872 (by decide) (fun _ => ?_) (fun z => absurd rfl z)
  exact hK X1 σ2 wx1 w2 n1 K1 hL2 e0 (by omega) (by omega)
theorem law_19 (h : LV E X M σ wx wm wm n K) (hF : EF E) (hB : sN σ + 4000 < 2000000) (hS : SC E L f) (hi : i + 6 ≤ L) (hL : L ≤ 384) (hK : LK E X M σ i P) : VE E mL_law 2000 P 877 [some (.ref 0), some (.ref (X.1 0)), some (.ref ((mG M).1 100)), some (.int (nI i))] [] (S X (S (mG M) σ wm) wx) := by
  refine VE.step (fun _ h9 => V.ald1 dL_law_877 (V.ald0 dL_law_878 (V.ild3 dL_law_879 (V.iconst_1 dL_law_880 (V.iadd dL_law_881 (V.sld hS (sx (k := 1) (by omega) hL rfl) dL_law_882 (h9))))))) ?_
  refine VE.invV1r vL_96 (show (sT σ (X.1 0)).1 = 0 + 1 from h.1.1.t0) dL_law_883 (x_judge h hF hB) (fun s9 q9 => ?_)
  obtain ⟨X1, σ1, wx1, n1, K1, hge, hL1, e0, ⟨b1, b2⟩, b3, b4⟩ := q9
  refine VE.ge hge ?_
  refine VE.step (fun _ h9 => V.ald2 dL_law_886 (V.ald0 dL_law_887 (V.ild3 dL_law_888 (V.iconst_1 dL_law_889 (V.iadd dL_law_890 (V.sld hS (sx (k := 1) (by omega) hL rfl) dL_law_891 (h9))))))) ?_
  refine VE.invV1r vL_99 (show (sT σ1 ((mG M).1 100)).1 = 7 + 1 from hL1.2.1.1.2.2.1) dL_law_892 (m_judge hL1) (fun s9 q9 => ?_)
  obtain ⟨σ2, w2, rfl, hL2, d1, d2⟩ := q9
  refine VE.icmp_eq (tgt := 1641) dL_law_895 (by decide) (fun _ => ?_) (fun z => absurd rfl z)
  exact hK X1 σ2 wx1 w2 n1 K1 hL2 e0 (by omega) (by omega)
theorem law_20 (h : LV E X M σ wx wm wm n K) (hF : EF E) (hB : sN σ + 4000 < 2000000) (hS : SC E L f) (hi : i + 6 ≤ L) (hL : L ≤ 384) (hK : LK E X M σ i P) : VE E mL_law 2000 P 900 [some (.ref 0), some (.ref (X.1 0)), some (.ref ((mG M).1 100)), some (.int (nI i))] [] (S X (S (mG M) σ wm) wx) := by
  refine VE.step (fun _ h9 => V.ald1 dL_law_900 (V.ald0 dL_law_901 (V.ild3 dL_law_902 (V.iconst_1 dL_law_903 (V.iadd dL_law_904 (V.sld hS (sx (k := 1) (by omega) hL rfl) dL_law_905 (V.ald0 dL_law_906 (V.ild3 dL_law_907 (V.iconst_2 dL_law_908 (V.iadd dL_law_909 (V.sld hS (sx (k := 2) (by omega) hL rfl) dL_law_910 (V.ald0 dL_law_911 (V.ild3 dL_law_912 (V.iconst_3 dL_law_913 (V.iadd dL_law_914 (V.sld hS (sx (k := 3) (by omega) hL rfl) dL_law_915 (V.ald0 dL_law_916 (V.ild3 dL_law_917 (V.iconst_4 dL_law_918 (V.iadd dL_law_919 (V.sld hS (sx (k := 4) (by omega) hL rfl) dL_law_920 (h9)))))))))))))))))))))) ?_
  refine VE.invV4r vL_100 (show (sT σ (X.1 0)).1 = 0 + 1 from h.1.1.t0) dL_law_921 (x_chance h hF hB) (fun s9 q9 => ?_)
  obtain ⟨X1, σ1, wx1, n1, K1, hge, hL1, e0, ⟨b1, b2⟩, b3, b4⟩ := q9
  refine VE.ge hge ?_
  refine VE.step (fun _ h9 => V.ald2 dL_law_924 (V.ald0 dL_law_925 (V.ild3 dL_law_926 (V.iconst_1 dL_law_927 (V.iadd dL_law_928 (V.sld hS (sx (k := 1) (by omega) hL rfl) dL_law_929 (V.ald0 dL_law_930 (V.ild3 dL_law_931 (V.iconst_2 dL_law_932 (V.iadd dL_law_933 (V.sld hS (sx (k := 2) (by omega) hL rfl) dL_law_934 (V.ald0 dL_law_935 (V.ild3 dL_law_936 (V.iconst_3 dL_law_937 (V.iadd dL_law_938 (V.sld hS (sx (k := 3) (by omega) hL rfl) dL_law_939 (V.ald0 dL_law_940 (V.ild3 dL_law_941 (V.iconst_4 dL_law_942 (V.iadd dL_law_943 (V.sld hS (sx (k := 4) (by omega) hL rfl) dL_law_944 (h9)))))))))))))))))))))) ?_
  refine VE.invV4r vL_104 (show (sT σ1 ((mG M).1 100)).1 = 7 + 1 from hL1.2.1.1.2.2.1) dL_law_945 (m_chance hL1) (fun s9 q9 => ?_)
  obtain ⟨σ2, w2, rfl, hL2, d1, d2⟩ := q9
  refine VE.step (fun _ h9 => V.lcmp dL_law_948 h9) ?_
  refine VE.if_eq (tgt := 1641) dL_law_949 (by decide) (fun _ => ?_) (fun z => absurd (lg_self _) z)
  exact hK X1 σ2 wx1 w2 n1 K1 hL2 e0 (by omega) (by omega)
theorem law_21 (h : LV E X M σ wx wm wm n K) (hF : EF E) (hB : sN σ + 4000 < 2000000) (hS : SC E L f) (hi : i + 6 ≤ L) (hL : L ≤ 384) (hK : LK E X M σ i P) : VE E mL_law 2000 P 954 [some (.ref 0), some (.ref (X.1 0)), some (.ref ((mG M).1 100)), some (.int (nI i))] [] (S X (S (mG M) σ wm) wx) := by
  refine VE.step (fun _ h9 => V.ald1 dL_law_954 (V.ald0 dL_law_955 (V.ild3 dL_law_956 (V.iconst_1 dL_law_957 (V.iadd dL_law_958 (V.sld hS (sx (k := 1) (by omega) hL rfl) dL_law_959 (V.ald0 dL_law_960 (V.ild3 dL_law_961 (V.iconst_2 dL_law_962 (V.iadd dL_law_963 (V.sld hS (sx (k := 2) (by omega) hL rfl) dL_law_964 (V.ald0 dL_law_965 (V.ild3 dL_law_966 (V.iconst_3 dL_law_967 (V.iadd dL_law_968 (V.sld hS (sx (k := 3) (by omega) hL rfl) dL_law_969 (h9))))))))))))))))) ?_
  refine VE.invV3r vL_105 (show (sT σ (X.1 0)).1 = 0 + 1 from h.1.1.t0) dL_law_970 (x_mean h hF hB) (fun s9 q9 => ?_)
  obtain ⟨X1, σ1, wx1, n1, K1, hge, hL1, e0, ⟨b1, b2⟩, b3, b4⟩ := q9
  refine VE.ge hge ?_
  refine VE.step (fun _ h9 => V.ald2 dL_law_973 (V.ald0 dL_law_974 (V.ild3 dL_law_975 (V.iconst_1 dL_law_976 (V.iadd dL_law_977 (V.sld hS (sx (k := 1) (by omega) hL rfl) dL_law_978 (V.ald0 dL_law_979 (V.ild3 dL_law_980 (V.iconst_2 dL_law_981 (V.iadd dL_law_982 (V.sld hS (sx (k := 2) (by omega) hL rfl) dL_law_983 (V.ald0 dL_law_984 (V.ild3 dL_law_985 (V.iconst_3 dL_law_986 (V.iadd dL_law_987 (V.sld hS (sx (k := 3) (by omega) hL rfl) dL_law_988 (h9))))))))))))))))) ?_
  refine VE.invV3r vL_109 (show (sT σ1 ((mG M).1 100)).1 = 7 + 1 from hL1.2.1.1.2.2.1) dL_law_989 (m_mean hL1) (fun s9 q9 => ?_)
  obtain ⟨σ2, w2, rfl, hL2, d1, d2⟩ := q9
  refine VE.step (fun _ h9 => V.lcmp dL_law_992 h9) ?_
  refine VE.if_eq (tgt := 1641) dL_law_993 (by decide) (fun _ => ?_) (fun z => absurd (lg_self _) z)
  exact hK X1 σ2 wx1 w2 n1 K1 hL2 e0 (by omega) (by omega)
theorem law_22 (h : LV E X M σ wx wm wm n K) (hF : EF E) (hB : sN σ + 4000 < 2000000) (hS : SC E L f) (hi : i + 6 ≤ L) (hL : L ≤ 384) (hK : LK E X M σ i P) : VE E mL_law 2000 P 998 [some (.ref 0), some (.ref (X.1 0)), some (.ref ((mG M).1 100)), some (.int (nI i))] [] (S X (S (mG M) σ wm) wx) := by
  refine VE.step (fun _ h9 => V.ald1 dL_law_998 (V.ald0 dL_law_999 (V.ild3 dL_law_1000 (V.iconst_1 dL_law_1001 (V.iadd dL_law_1002 (V.sld hS (sx (k := 1) (by omega) hL rfl) dL_law_1003 (h9))))))) ?_
  refine VE.invV1r vL_110 (show (sT σ (X.1 0)).1 = 0 + 1 from h.1.1.t0) dL_law_1004 (x_tall h hF hB) (fun s9 q9 => ?_)
  obtain ⟨X1, σ1, wx1, n1, K1, hge, hL1, e0, ⟨b1, b2⟩, b3, b4⟩ := q9
  refine VE.ge hge ?_
  refine VE.step (fun _ h9 => V.ald2 dL_law_1007 (V.ald0 dL_law_1008 (V.ild3 dL_law_1009 (V.iconst_1 dL_law_1010 (V.iadd dL_law_1011 (V.sld hS (sx (k := 1) (by omega) hL rfl) dL_law_1012 (h9))))))) ?_
  refine VE.invV1r vL_113 (show (sT σ1 ((mG M).1 100)).1 = 7 + 1 from hL1.2.1.1.2.2.1) dL_law_1013 (m_tall hL1) (fun s9 q9 => ?_)
  obtain ⟨σ2, w2, rfl, hL2, d1, d2⟩ := q9
  refine VE.icmp_eq (tgt := 1641) dL_law_1016 (by decide) (fun _ => ?_) (fun z => absurd rfl z)
  exact hK X1 σ2 wx1 w2 n1 K1 hL2 e0 (by omega) (by omega)
theorem law_23 (h : LV E X M σ wx wm wm n K) (hF : EF E) (hB : sN σ + 4000 < 2000000) (hS : SC E L f) (hi : i + 6 ≤ L) (hL : L ≤ 384) (hK : LK E X M σ i P) : VE E mL_law 2000 P 1021 [some (.ref 0), some (.ref (X.1 0)), some (.ref ((mG M).1 100)), some (.int (nI i))] [] (S X (S (mG M) σ wm) wx) := by
  refine VE.step (fun _ h9 => V.ald1 dL_law_1021 (V.ald0 dL_law_1022 (V.ild3 dL_law_1023 (V.iconst_1 dL_law_1024 (V.iadd dL_law_1025 (V.sld hS (sx (k := 1) (by omega) hL rfl) dL_law_1026 (h9))))))) ?_
  refine VE.invV1r vL_114 (show (sT σ (X.1 0)).1 = 0 + 1 from h.1.1.t0) dL_law_1027 (x_needs h hF hB) (fun s9 q9 => ?_)
  obtain ⟨X1, σ1, wx1, n1, K1, hge, hL1, e0, ⟨b1, b2⟩, b3, b4⟩ := q9
  refine VE.ge hge ?_
  refine VE.step (fun _ h9 => V.ald2 dL_law_1030 (V.ald0 dL_law_1031 (V.ild3 dL_law_1032 (V.iconst_1 dL_law_1033 (V.iadd dL_law_1034 (V.sld hS (sx (k := 1) (by omega) hL rfl) dL_law_1035 (h9))))))) ?_
  refine VE.invV1r vL_117 (show (sT σ1 ((mG M).1 100)).1 = 7 + 1 from hL1.2.1.1.2.2.1) dL_law_1036 (m_needs hL1) (fun s9 q9 => ?_)
  obtain ⟨σ2, w2, rfl, hL2, d1, d2⟩ := q9
  refine VE.icmp_eq (tgt := 1641) dL_law_1039 (by decide) (fun _ => ?_) (fun z => absurd rfl z)
  exact hK X1 σ2 wx1 w2 n1 K1 hL2 e0 (by omega) (by omega)
theorem law_24 (h : LV E X M σ wx wm wm n K) (hF : EF E) (hB : sN σ + 4000 < 2000000) (hS : SC E L f) (hi : i + 6 ≤ L) (hL : L ≤ 384) (hK : LK E X M σ i P) : VE E mL_law 2000 P 1044 [some (.ref 0), some (.ref (X.1 0)), some (.ref ((mG M).1 100)), some (.int (nI i))] [] (S X (S (mG M) σ wm) wx) := by
  refine VE.step (fun _ h9 => V.ald1 dL_law_1044 (V.ald0 dL_law_1045 (V.ild3 dL_law_1046 (V.iconst_1 dL_law_1047 (V.iadd dL_law_1048 (V.sld hS (sx (k := 1) (by omega) hL rfl) dL_law_1049 (h9))))))) ?_
  refine VE.invV1r vL_118 (show (sT σ (X.1 0)).1 = 0 + 1 from h.1.1.t0) dL_law_1050 (x_proof h hF hB) (fun s9 q9 => ?_)
  obtain ⟨X1, σ1, wx1, n1, K1, hge, hL1, e0, ⟨b1, b2⟩, b3, b4⟩ := q9
  refine VE.ge hge ?_
  refine VE.step (fun _ h9 => V.ald2 dL_law_1053 (V.ald0 dL_law_1054 (V.ild3 dL_law_1055 (V.iconst_1 dL_law_1056 (V.iadd dL_law_1057 (V.sld hS (sx (k := 1) (by omega) hL rfl) dL_law_1058 (h9))))))) ?_
  refine VE.invV1r vL_121 (show (sT σ1 ((mG M).1 100)).1 = 7 + 1 from hL1.2.1.1.2.2.1) dL_law_1059 (m_proof hL1) (fun s9 q9 => ?_)
  obtain ⟨σ2, w2, rfl, hL2, d1, d2⟩ := q9
  refine VE.icmp_eq (tgt := 1641) dL_law_1062 (by decide) (fun _ => ?_) (fun z => absurd rfl z)
  exact hK X1 σ2 wx1 w2 n1 K1 hL2 e0 (by omega) (by omega)
theorem law_25 (h : LV E X M σ wx wm wm n K) (hF : EF E) (hB : sN σ + 4000 < 2000000) (hS : SC E L f) (hi : i + 6 ≤ L) (hL : L ≤ 384) (hK : LK E X M σ i P) : VE E mL_law 2000 P 1067 [some (.ref 0), some (.ref (X.1 0)), some (.ref ((mG M).1 100)), some (.int (nI i))] [] (S X (S (mG M) σ wm) wx) := by
  refine VE.step (fun _ h9 => V.ald1 dL_law_1067 (V.ald0 dL_law_1068 (V.ild3 dL_law_1069 (V.iconst_1 dL_law_1070 (V.iadd dL_law_1071 (V.sld hS (sx (k := 1) (by omega) hL rfl) dL_law_1072 (h9))))))) ?_
  refine VE.invV1r vL_122 (show (sT σ (X.1 0)).1 = 0 + 1 from h.1.1.t0) dL_law_1073 (x_shifts h hF hB) (fun s9 q9 => ?_)
  obtain ⟨X1, σ1, wx1, n1, K1, hge, hL1, e0, ⟨b1, b2⟩, b3, b4⟩ := q9
  refine VE.ge hge ?_
  refine VE.step (fun _ h9 => V.ald2 dL_law_1076 (V.ald0 dL_law_1077 (V.ild3 dL_law_1078 (V.iconst_1 dL_law_1079 (V.iadd dL_law_1080 (V.sld hS (sx (k := 1) (by omega) hL rfl) dL_law_1081 (h9))))))) ?_
  refine VE.invV1r vL_125 (show (sT σ1 ((mG M).1 100)).1 = 7 + 1 from hL1.2.1.1.2.2.1) dL_law_1082 (m_shifts hL1) (fun s9 q9 => ?_)
  obtain ⟨σ2, w2, rfl, hL2, d1, d2⟩ := q9
  refine VE.icmp_eq (tgt := 1641) dL_law_1085 (by decide) (fun _ => ?_) (fun z => absurd rfl z)
  exact hK X1 σ2 wx1 w2 n1 K1 hL2 e0 (by omega) (by omega)
theorem law_26 (h : LV E X M σ wx wm wm n K) (hF : EF E) (hB : sN σ + 4000 < 2000000) (hS : SC E L f) (hi : i + 6 ≤ L) (hL : L ≤ 384) (hK : LK E X M σ i P) : VE E mL_law 2000 P 1090 [some (.ref 0), some (.ref (X.1 0)), some (.ref ((mG M).1 100)), some (.int (nI i))] [] (S X (S (mG M) σ wm) wx) := by
  refine VE.step (fun _ h9 => V.ald1 dL_law_1090 (V.ald0 dL_law_1091 (V.ild3 dL_law_1092 (V.iconst_1 dL_law_1093 (V.iadd dL_law_1094 (V.sld hS (sx (k := 1) (by omega) hL rfl) dL_law_1095 (V.ald0 dL_law_1096 (V.ild3 dL_law_1097 (V.iconst_2 dL_law_1098 (V.iadd dL_law_1099 (V.sld hS (sx (k := 2) (by omega) hL rfl) dL_law_1100 (h9)))))))))))) ?_
  refine VE.invV2r vL_126 (show (sT σ (X.1 0)).1 = 0 + 1 from h.1.1.t0) dL_law_1101 (x_coin h hF hB) (fun s9 q9 => ?_)
  obtain ⟨X1, σ1, wx1, n1, K1, hge, hL1, e0, ⟨b1, b2⟩, b3, b4⟩ := q9
  refine VE.ge hge ?_
  refine VE.step (fun _ h9 => V.ald2 dL_law_1104 (V.ald0 dL_law_1105 (V.ild3 dL_law_1106 (V.iconst_1 dL_law_1107 (V.iadd dL_law_1108 (V.sld hS (sx (k := 1) (by omega) hL rfl) dL_law_1109 (V.ald0 dL_law_1110 (V.ild3 dL_law_1111 (V.iconst_2 dL_law_1112 (V.iadd dL_law_1113 (V.sld hS (sx (k := 2) (by omega) hL rfl) dL_law_1114 (h9)))))))))))) ?_
  refine VE.invV2r vL_129 (show (sT σ1 ((mG M).1 100)).1 = 7 + 1 from hL1.2.1.1.2.2.1) dL_law_1115 (m_coin hL1) (fun s9 q9 => ?_)
  obtain ⟨σ2, w2, rfl, hL2, d1, d2⟩ := q9
  refine VE.icmp_eq (tgt := 1641) dL_law_1118 (by decide) (fun _ => ?_) (fun z => absurd rfl z)
  exact hK X1 σ2 wx1 w2 n1 K1 hL2 e0 (by omega) (by omega)
theorem law_27 (h : LV E X M σ wx wm wm n K) (hF : EF E) (hB : sN σ + 4000 < 2000000) (hS : SC E L f) (hi : i + 6 ≤ L) (hL : L ≤ 384) (hK : LK E X M σ i P) : VE E mL_law 2000 P 1123 [some (.ref 0), some (.ref (X.1 0)), some (.ref ((mG M).1 100)), some (.int (nI i))] [] (S X (S (mG M) σ wm) wx) := by
  refine VE.step (fun _ h9 => V.ald1 dL_law_1123 (h9)) ?_
  refine VE.invV0r vL_130 (show (sT σ (X.1 0)).1 = 0 + 1 from h.1.1.t0) dL_law_1124 (x_stage h hF hB) (fun s9 q9 => ?_)
  obtain ⟨X1, σ1, wx1, n1, K1, hge, hL1, e0, ⟨b1, b2⟩, b3, b4⟩ := q9
  refine VE.ge hge ?_
  refine VE.step (fun _ h9 => V.ald2 dL_law_1127 (h9)) ?_
  refine VE.invV0r vL_133 (show (sT σ1 ((mG M).1 100)).1 = 7 + 1 from hL1.2.1.1.2.2.1) dL_law_1128 (m_stage hL1) (fun s9 q9 => ?_)
  obtain ⟨σ2, w2, rfl, hL2, d1, d2⟩ := q9
  refine VE.icmp_eq (tgt := 1641) dL_law_1131 (by decide) (fun _ => ?_) (fun z => absurd rfl z)
  exact hK X1 σ2 wx1 w2 n1 K1 hL2 e0 (by omega) (by omega)
theorem law_28 (h : LV E X M σ wx wm wm n K) (hF : EF E) (hB : sN σ + 4000 < 2000000) (hS : SC E L f) (hi : i + 6 ≤ L) (hL : L ≤ 384) (hK : LK E X M σ i P) : VE E mL_law 2000 P 1136 [some (.ref 0), some (.ref (X.1 0)), some (.ref ((mG M).1 100)), some (.int (nI i))] [] (S X (S (mG M) σ wm) wx) := by
  refine VE.step (fun _ h9 => V.ald1 dL_law_1136 (V.ald0 dL_law_1137 (V.ild3 dL_law_1138 (V.iconst_1 dL_law_1139 (V.iadd dL_law_1140 (V.sld hS (sx (k := 1) (by omega) hL rfl) dL_law_1141 (V.ald0 dL_law_1142 (V.ild3 dL_law_1143 (V.iconst_2 dL_law_1144 (V.iadd dL_law_1145 (V.sld hS (sx (k := 2) (by omega) hL rfl) dL_law_1146 (V.ald0 dL_law_1147 (V.ild3 dL_law_1148 (V.iconst_3 dL_law_1149 (V.iadd dL_law_1150 (V.sld hS (sx (k := 3) (by omega) hL rfl) dL_law_1151 (V.ald0 dL_law_1152 (V.ild3 dL_law_1153 (V.iconst_4 dL_law_1154 (V.iadd dL_law_1155 (V.sld hS (sx (k := 4) (by omega) hL rfl) dL_law_1156 (h9)))))))))))))))))))))) ?_
  refine VE.invV4r vL_134 (show (sT σ (X.1 0)).1 = 0 + 1 from h.1.1.t0) dL_law_1157 (x_swap h hF hB) (fun s9 q9 => ?_)
  obtain ⟨X1, σ1, wx1, n1, K1, hge, hL1, e0, ⟨b1, b2⟩, b3, b4⟩ := q9
  refine VE.ge hge ?_
  refine VE.step (fun _ h9 => V.ald2 dL_law_1160 (V.ald0 dL_law_1161 (V.ild3 dL_law_1162 (V.iconst_1 dL_law_1163 (V.iadd dL_law_1164 (V.sld hS (sx (k := 1) (by omega) hL rfl) dL_law_1165 (V.ald0 dL_law_1166 (V.ild3 dL_law_1167 (V.iconst_2 dL_law_1168 (V.iadd dL_law_1169 (V.sld hS (sx (k := 2) (by omega) hL rfl) dL_law_1170 (V.ald0 dL_law_1171 (V.ild3 dL_law_1172 (V.iconst_3 dL_law_1173 (V.iadd dL_law_1174 (V.sld hS (sx (k := 3) (by omega) hL rfl) dL_law_1175 (V.ald0 dL_law_1176 (V.ild3 dL_law_1177 (V.iconst_4 dL_law_1178 (V.iadd dL_law_1179 (V.sld hS (sx (k := 4) (by omega) hL rfl) dL_law_1180 (h9)))))))))))))))))))))) ?_
  refine VE.invV4r vL_138 (show (sT σ1 ((mG M).1 100)).1 = 7 + 1 from hL1.2.1.1.2.2.1) dL_law_1181 (m_swap hL1) (fun s9 q9 => ?_)
  obtain ⟨σ2, w2, rfl, hL2, d1, d2⟩ := q9
  refine VE.icmp_eq (tgt := 1641) dL_law_1184 (by decide) (fun _ => ?_) (fun z => absurd rfl z)
  exact hK X1 σ2 wx1 w2 n1 K1 hL2 e0 (by omega) (by omega)
theorem law_29 (h : LV E X M σ wx wm wm n K) (hF : EF E) (hB : sN σ + 4000 < 2000000) (hS : SC E L f) (hi : i + 6 ≤ L) (hL : L ≤ 384) (hK : LK E X M σ i P) : VE E mL_law 2000 P 1189 [some (.ref 0), some (.ref (X.1 0)), some (.ref ((mG M).1 100)), some (.int (nI i))] [] (S X (S (mG M) σ wm) wx) := by
  refine VE.step (fun _ h9 => V.ald1 dL_law_1189 (V.ald0 dL_law_1190 (V.ild3 dL_law_1191 (V.iconst_1 dL_law_1192 (V.iadd dL_law_1193 (V.sld hS (sx (k := 1) (by omega) hL rfl) dL_law_1194 (V.ald0 dL_law_1195 (V.ild3 dL_law_1196 (V.iconst_2 dL_law_1197 (V.iadd dL_law_1198 (V.sld hS (sx (k := 2) (by omega) hL rfl) dL_law_1199 (h9)))))))))))) ?_
  refine VE.invV2r vL_139 (show (sT σ (X.1 0)).1 = 0 + 1 from h.1.1.t0) dL_law_1200 (x_people h hF hB) (fun s9 q9 => ?_)
  obtain ⟨X1, σ1, wx1, n1, K1, hge, hL1, e0, ⟨b1, b2⟩, b3, b4⟩ := q9
  refine VE.ge hge ?_
  refine VE.step (fun _ h9 => V.ald2 dL_law_1203 (V.ald0 dL_law_1204 (V.ild3 dL_law_1205 (V.iconst_1 dL_law_1206 (V.iadd dL_law_1207 (V.sld hS (sx (k := 1) (by omega) hL rfl) dL_law_1208 (V.ald0 dL_law_1209 (V.ild3 dL_law_1210 (V.iconst_2 dL_law_1211 (V.iadd dL_law_1212 (V.sld hS (sx (k := 2) (by omega) hL rfl) dL_law_1213 (h9)))))))))))) ?_
  refine VE.invV2r vL_142 (show (sT σ1 ((mG M).1 100)).1 = 7 + 1 from hL1.2.1.1.2.2.1) dL_law_1214 (m_people hL1) (fun s9 q9 => ?_)
  obtain ⟨σ2, w2, rfl, hL2, d1, d2⟩ := q9
  refine VE.icmp_eq (tgt := 1641) dL_law_1217 (by decide) (fun _ => ?_) (fun z => absurd rfl z)
  exact hK X1 σ2 wx1 w2 n1 K1 hL2 e0 (by omega) (by omega)
theorem law_30 (h : LV E X M σ wx wm wm n K) (hF : EF E) (hB : sN σ + 4000 < 2000000) (hS : SC E L f) (hi : i + 6 ≤ L) (hL : L ≤ 384) (hK : LK E X M σ i P) : VE E mL_law 2000 P 1222 [some (.ref 0), some (.ref (X.1 0)), some (.ref ((mG M).1 100)), some (.int (nI i))] [] (S X (S (mG M) σ wm) wx) := by
  refine VE.step (fun _ h9 => V.ald1 dL_law_1222 (V.ald0 dL_law_1223 (V.ild3 dL_law_1224 (V.iconst_1 dL_law_1225 (V.iadd dL_law_1226 (V.sld hS (sx (k := 1) (by omega) hL rfl) dL_law_1227 (V.ald0 dL_law_1228 (V.ild3 dL_law_1229 (V.iconst_2 dL_law_1230 (V.iadd dL_law_1231 (V.sld hS (sx (k := 2) (by omega) hL rfl) dL_law_1232 (h9)))))))))))) ?_
  refine VE.invV2r vL_143 (show (sT σ (X.1 0)).1 = 0 + 1 from h.1.1.t0) dL_law_1233 (x_settle h hF hB) (fun s9 q9 => ?_)
  obtain ⟨X1, σ1, wx1, n1, K1, hge, hL1, e0, ⟨b1, b2⟩, b3, b4⟩ := q9
  refine VE.ge hge ?_
  refine VE.step (fun _ h9 => V.ald2 dL_law_1236 (V.ald0 dL_law_1237 (V.ild3 dL_law_1238 (V.iconst_1 dL_law_1239 (V.iadd dL_law_1240 (V.sld hS (sx (k := 1) (by omega) hL rfl) dL_law_1241 (V.ald0 dL_law_1242 (V.ild3 dL_law_1243 (V.iconst_2 dL_law_1244 (V.iadd dL_law_1245 (V.sld hS (sx (k := 2) (by omega) hL rfl) dL_law_1246 (h9)))))))))))) ?_
  refine VE.invV2r vL_146 (show (sT σ1 ((mG M).1 100)).1 = 7 + 1 from hL1.2.1.1.2.2.1) dL_law_1247 (m_settle hL1) (fun s9 q9 => ?_)
  obtain ⟨σ2, w2, rfl, hL2, d1, d2⟩ := q9
  refine VE.icmp_eq (tgt := 1641) dL_law_1250 (by decide) (fun _ => ?_) (fun z => absurd rfl z)
  exact hK X1 σ2 wx1 w2 n1 K1 hL2 e0 (by omega) (by omega)
theorem law_31 (h : LV E X M σ wx wm wm n K) (hF : EF E) (hB : sN σ + 4000 < 2000000) (hS : SC E L f) (hi : i + 6 ≤ L) (hL : L ≤ 384) (hK : LK E X M σ i P) : VE E mL_law 2000 P 1255 [some (.ref 0), some (.ref (X.1 0)), some (.ref ((mG M).1 100)), some (.int (nI i))] [] (S X (S (mG M) σ wm) wx) := by
  refine VE.step (fun _ h9 => V.ald1 dL_law_1255 (V.ald0 dL_law_1256 (V.ild3 dL_law_1257 (V.iconst_1 dL_law_1258 (V.iadd dL_law_1259 (V.sld hS (sx (k := 1) (by omega) hL rfl) dL_law_1260 (V.ald0 dL_law_1261 (V.ild3 dL_law_1262 (V.iconst_2 dL_law_1263 (V.iadd dL_law_1264 (V.sld hS (sx (k := 2) (by omega) hL rfl) dL_law_1265 (V.ald0 dL_law_1266 (V.ild3 dL_law_1267 (V.iconst_3 dL_law_1268 (V.iadd dL_law_1269 (V.sld hS (sx (k := 3) (by omega) hL rfl) dL_law_1270 (h9))))))))))))))))) ?_
  refine VE.invV3r vL_147 (show (sT σ (X.1 0)).1 = 0 + 1 from h.1.1.t0) dL_law_1271 (x_hat h hF hB) (fun s9 q9 => ?_)
  obtain ⟨X1, σ1, wx1, n1, K1, hge, hL1, e0, ⟨b1, b2⟩, b3, b4⟩ := q9
  refine VE.ge hge ?_
  refine VE.step (fun _ h9 => V.ald2 dL_law_1274 (V.ald0 dL_law_1275 (V.ild3 dL_law_1276 (V.iconst_1 dL_law_1277 (V.iadd dL_law_1278 (V.sld hS (sx (k := 1) (by omega) hL rfl) dL_law_1279 (V.ald0 dL_law_1280 (V.ild3 dL_law_1281 (V.iconst_2 dL_law_1282 (V.iadd dL_law_1283 (V.sld hS (sx (k := 2) (by omega) hL rfl) dL_law_1284 (V.ald0 dL_law_1285 (V.ild3 dL_law_1286 (V.iconst_3 dL_law_1287 (V.iadd dL_law_1288 (V.sld hS (sx (k := 3) (by omega) hL rfl) dL_law_1289 (h9))))))))))))))))) ?_
  refine VE.invV3r vL_150 (show (sT σ1 ((mG M).1 100)).1 = 7 + 1 from hL1.2.1.1.2.2.1) dL_law_1290 (m_hat hL1) (fun s9 q9 => ?_)
  obtain ⟨σ2, w2, rfl, hL2, d1, d2⟩ := q9
  refine VE.icmp_eq (tgt := 1641) dL_law_1293 (by decide) (fun _ => ?_) (fun z => absurd rfl z)
  exact hK X1 σ2 wx1 w2 n1 K1 hL2 e0 (by omega) (by omega)
theorem law_32 (h : LV E X M σ wx wm wm n K) (hF : EF E) (hB : sN σ + 4000 < 2000000) (hS : SC E L f) (hi : i + 6 ≤ L) (hL : L ≤ 384) (hK : LK E X M σ i P) : VE E mL_law 2000 P 1298 [some (.ref 0), some (.ref (X.1 0)), some (.ref ((mG M).1 100)), some (.int (nI i))] [] (S X (S (mG M) σ wm) wx) := by
  refine VE.step (fun _ h9 => V.ald1 dL_law_1298 (V.ald0 dL_law_1299 (V.ild3 dL_law_1300 (V.iconst_1 dL_law_1301 (V.iadd dL_law_1302 (V.sld hS (sx (k := 1) (by omega) hL rfl) dL_law_1303 (h9))))))) ?_
  refine VE.invV1r vL_151 (show (sT σ (X.1 0)).1 = 0 + 1 from h.1.1.t0) dL_law_1304 (x_least h hF hB) (fun s9 q9 => ?_)
  obtain ⟨X1, σ1, wx1, n1, K1, hge, hL1, e0, ⟨b1, b2⟩, b3, b4⟩ := q9
  refine VE.ge hge ?_
  refine VE.step (fun _ h9 => V.ald2 dL_law_1307 (V.ald0 dL_law_1308 (V.ild3 dL_law_1309 (V.iconst_1 dL_law_1310 (V.iadd dL_law_1311 (V.sld hS (sx (k := 1) (by omega) hL rfl) dL_law_1312 (h9))))))) ?_
  refine VE.invV1r vL_154 (show (sT σ1 ((mG M).1 100)).1 = 7 + 1 from hL1.2.1.1.2.2.1) dL_law_1313 (m_least hL1) (fun s9 q9 => ?_)
  obtain ⟨σ2, w2, rfl, hL2, d1, d2⟩ := q9
  refine VE.icmp_eq (tgt := 1641) dL_law_1316 (by decide) (fun _ => ?_) (fun z => absurd rfl z)
  exact hK X1 σ2 wx1 w2 n1 K1 hL2 e0 (by omega) (by omega)
theorem law_33 (h : LV E X M σ wx wm wm n K) (hF : EF E) (hB : sN σ + 4000 < 2000000) (hS : SC E L f) (hi : i + 6 ≤ L) (hL : L ≤ 384) (hK : LK E X M σ i P) : VE E mL_law 2000 P 1321 [some (.ref 0), some (.ref (X.1 0)), some (.ref ((mG M).1 100)), some (.int (nI i))] [] (S X (S (mG M) σ wm) wx) := by
  refine VE.step (fun _ h9 => V.ald1 dL_law_1321 (V.ald0 dL_law_1322 (V.ild3 dL_law_1323 (V.iconst_1 dL_law_1324 (V.iadd dL_law_1325 (V.sld hS (sx (k := 1) (by omega) hL rfl) dL_law_1326 (h9))))))) ?_
  refine VE.invV1r vL_155 (show (sT σ (X.1 0)).1 = 0 + 1 from h.1.1.t0) dL_law_1327 (x_sell h hF hB) (fun s9 q9 => ?_)
  obtain ⟨X1, σ1, wx1, n1, K1, hge, hL1, e0, ⟨b1, b2⟩, b3, b4⟩ := q9
  refine VE.ge hge ?_
  refine VE.step (fun _ h9 => V.ald2 dL_law_1330 (V.ald0 dL_law_1331 (V.ild3 dL_law_1332 (V.iconst_1 dL_law_1333 (V.iadd dL_law_1334 (V.sld hS (sx (k := 1) (by omega) hL rfl) dL_law_1335 (h9))))))) ?_
  refine VE.invV1r vL_158 (show (sT σ1 ((mG M).1 100)).1 = 7 + 1 from hL1.2.1.1.2.2.1) dL_law_1336 (m_sell hL1) (fun s9 q9 => ?_)
  obtain ⟨σ2, w2, rfl, hL2, d1, d2⟩ := q9
  refine VE.icmp_eq (tgt := 1641) dL_law_1339 (by decide) (fun _ => ?_) (fun z => absurd rfl z)
  exact hK X1 σ2 wx1 w2 n1 K1 hL2 e0 (by omega) (by omega)
theorem law_34 (h : LV E X M σ wx wm wm n K) (hF : EF E) (hB : sN σ + 4000 < 2000000) (hS : SC E L f) (hi : i + 6 ≤ L) (hL : L ≤ 384) (hK : LK E X M σ i P) : VE E mL_law 2000 P 1344 [some (.ref 0), some (.ref (X.1 0)), some (.ref ((mG M).1 100)), some (.int (nI i))] [] (S X (S (mG M) σ wm) wx) := by
  refine VE.step (fun _ h9 => V.ald1 dL_law_1344 (h9)) ?_
  refine VE.invV0r vL_159 (show (sT σ (X.1 0)).1 = 0 + 1 from h.1.1.t0) dL_law_1345 (x_flat h hF hB) (fun s9 q9 => ?_)
  obtain ⟨X1, σ1, wx1, n1, K1, hge, hL1, e0, ⟨b1, b2⟩, b3, b4⟩ := q9
  refine VE.ge hge ?_
  refine VE.step (fun _ h9 => V.ald2 dL_law_1348 (h9)) ?_
  refine VE.invV0r vL_162 (show (sT σ1 ((mG M).1 100)).1 = 7 + 1 from hL1.2.1.1.2.2.1) dL_law_1349 (m_flat hL1) (fun s9 q9 => ?_)
  obtain ⟨σ2, w2, rfl, hL2, d1, d2⟩ := q9
  refine VE.icmp_eq (tgt := 1641) dL_law_1352 (by decide) (fun _ => ?_) (fun z => absurd rfl z)
  exact hK X1 σ2 wx1 w2 n1 K1 hL2 e0 (by omega) (by omega)
theorem law_35 (h : LV E X M σ wx wm wm n K) (hF : EF E) (hB : sN σ + 4000 < 2000000) (hS : SC E L f) (hi : i + 6 ≤ L) (hL : L ≤ 384) (hK : LK E X M σ i P) : VE E mL_law 2000 P 1357 [some (.ref 0), some (.ref (X.1 0)), some (.ref ((mG M).1 100)), some (.int (nI i))] [] (S X (S (mG M) σ wm) wx) := by
  refine VE.step (fun _ h9 => V.ald1 dL_law_1357 (V.ald0 dL_law_1358 (V.ild3 dL_law_1359 (V.iconst_1 dL_law_1360 (V.iadd dL_law_1361 (V.sld hS (sx (k := 1) (by omega) hL rfl) dL_law_1362 (h9))))))) ?_
  refine VE.invV1r vL_163 (show (sT σ (X.1 0)).1 = 0 + 1 from h.1.1.t0) dL_law_1363 (x_thursday h hF hB) (fun s9 q9 => ?_)
  obtain ⟨X1, σ1, wx1, n1, K1, hge, hL1, e0, ⟨b1, b2⟩, b3, b4⟩ := q9
  refine VE.ge hge ?_
  refine VE.step (fun _ h9 => V.ald2 dL_law_1366 (V.ald0 dL_law_1367 (V.ild3 dL_law_1368 (V.iconst_1 dL_law_1369 (V.iadd dL_law_1370 (V.sld hS (sx (k := 1) (by omega) hL rfl) dL_law_1371 (h9))))))) ?_
  refine VE.invV1r vL_166 (show (sT σ1 ((mG M).1 100)).1 = 7 + 1 from hL1.2.1.1.2.2.1) dL_law_1372 (m_thursday hL1) (fun s9 q9 => ?_)
  obtain ⟨σ2, w2, rfl, hL2, d1, d2⟩ := q9
  refine VE.icmp_eq (tgt := 1641) dL_law_1375 (by decide) (fun _ => ?_) (fun z => absurd rfl z)
  exact hK X1 σ2 wx1 w2 n1 K1 hL2 e0 (by omega) (by omega)
theorem law_36 (h : LV E X M σ wx wm wm n K) (hF : EF E) (hB : sN σ + 4000 < 2000000) (hS : SC E L f) (hi : i + 6 ≤ L) (hL : L ≤ 384) (hK : LK E X M σ i P) : VE E mL_law 2000 P 1380 [some (.ref 0), some (.ref (X.1 0)), some (.ref ((mG M).1 100)), some (.int (nI i))] [] (S X (S (mG M) σ wm) wx) := by
  refine VE.step (fun _ h9 => V.ald1 dL_law_1380 (h9)) ?_
  refine VE.invV0r vL_167 (show (sT σ (X.1 0)).1 = 0 + 1 from h.1.1.t0) dL_law_1381 (x_image h hF hB) (fun s9 q9 => ?_)
  obtain ⟨X1, σ1, wx1, n1, K1, hge, hL1, e0, ⟨b1, b2⟩, b3, b4⟩ := q9
  refine VE.ge hge ?_
  refine VE.step (fun _ h9 => V.ald2 dL_law_1384 (h9)) ?_
  refine VE.invV0r vL_170 (show (sT σ1 ((mG M).1 100)).1 = 7 + 1 from hL1.2.1.1.2.2.1) dL_law_1385 (m_image hL1) (fun s9 q9 => ?_)
  obtain ⟨σ2, w2, rfl, hL2, d1, d2⟩ := q9
  refine VE.icmp_eq (tgt := 1641) dL_law_1388 (by decide) (fun _ => ?_) (fun z => absurd rfl z)
  exact hK X1 σ2 wx1 w2 n1 K1 hL2 e0 (by omega) (by omega)
theorem law_37 (h : LV E X M σ wx wm wm n K) (hF : EF E) (hB : sN σ + 4000 < 2000000) (hS : SC E L f) (hi : i + 6 ≤ L) (hL : L ≤ 384) (hK : LK E X M σ i P) : VE E mL_law 2000 P 1393 [some (.ref 0), some (.ref (X.1 0)), some (.ref ((mG M).1 100)), some (.int (nI i))] [] (S X (S (mG M) σ wm) wx) := by
  refine VE.step (fun _ h9 => V.ald1 dL_law_1393 (h9)) ?_
  refine VE.invV0r vL_171 (show (sT σ (X.1 0)).1 = 0 + 1 from h.1.1.t0) dL_law_1394 (x_back h hF hB) (fun s9 q9 => ?_)
  obtain ⟨X1, σ1, wx1, n1, K1, hge, hL1, e0, ⟨b1, b2⟩, b3, b4⟩ := q9
  refine VE.ge hge ?_
  refine VE.step (fun _ h9 => V.ald2 dL_law_1397 (h9)) ?_
  refine VE.invV0r vL_174 (show (sT σ1 ((mG M).1 100)).1 = 7 + 1 from hL1.2.1.1.2.2.1) dL_law_1398 (m_back hL1) (fun s9 q9 => ?_)
  obtain ⟨σ2, w2, rfl, hL2, d1, d2⟩ := q9
  refine VE.icmp_eq (tgt := 1641) dL_law_1401 (by decide) (fun _ => ?_) (fun z => absurd rfl z)
  exact hK X1 σ2 wx1 w2 n1 K1 hL2 e0 (by omega) (by omega)
theorem law_38 (h : LV E X M σ wx wm wm n K) (hF : EF E) (hB : sN σ + 4000 < 2000000) (hS : SC E L f) (hi : i + 6 ≤ L) (hL : L ≤ 384) (hK : LK E X M σ i P) : VE E mL_law 2000 P 1406 [some (.ref 0), some (.ref (X.1 0)), some (.ref ((mG M).1 100)), some (.int (nI i))] [] (S X (S (mG M) σ wm) wx) := by
  refine VE.step (fun _ h9 => V.ald1 dL_law_1406 (V.ald0 dL_law_1407 (V.ild3 dL_law_1408 (V.iconst_1 dL_law_1409 (V.iadd dL_law_1410 (V.sld hS (sx (k := 1) (by omega) hL rfl) dL_law_1411 (V.ald0 dL_law_1412 (V.ild3 dL_law_1413 (V.iconst_2 dL_law_1414 (V.iadd dL_law_1415 (V.sld hS (sx (k := 2) (by omega) hL rfl) dL_law_1416 (V.ald0 dL_law_1417 (V.ild3 dL_law_1418 (V.iconst_3 dL_law_1419 (V.iadd dL_law_1420 (V.sld hS (sx (k := 3) (by omega) hL rfl) dL_law_1421 (h9))))))))))))))))) ?_
  refine VE.invV3r vL_175 (show (sT σ (X.1 0)).1 = 0 + 1 from h.1.1.t0) dL_law_1422 (x_sheet h hF hB) (fun s9 q9 => ?_)
  obtain ⟨X1, σ1, wx1, n1, K1, hge, hL1, e0, ⟨b1, b2⟩, b3, b4⟩ := q9
  refine VE.ge hge ?_
  refine VE.step (fun _ h9 => V.ald2 dL_law_1425 (V.ald0 dL_law_1426 (V.ild3 dL_law_1427 (V.iconst_1 dL_law_1428 (V.iadd dL_law_1429 (V.sld hS (sx (k := 1) (by omega) hL rfl) dL_law_1430 (V.ald0 dL_law_1431 (V.ild3 dL_law_1432 (V.iconst_2 dL_law_1433 (V.iadd dL_law_1434 (V.sld hS (sx (k := 2) (by omega) hL rfl) dL_law_1435 (V.ald0 dL_law_1436 (V.ild3 dL_law_1437 (V.iconst_3 dL_law_1438 (V.iadd dL_law_1439 (V.sld hS (sx (k := 3) (by omega) hL rfl) dL_law_1440 (h9))))))))))))))))) ?_
  refine VE.invV3r vL_178 (show (sT σ1 ((mG M).1 100)).1 = 7 + 1 from hL1.2.1.1.2.2.1) dL_law_1441 (m_sheet hL1) (fun s9 q9 => ?_)
  obtain ⟨σ2, w2, rfl, hL2, d1, d2⟩ := q9
  refine VE.icmp_eq (tgt := 1641) dL_law_1444 (by decide) (fun _ => ?_) (fun z => absurd rfl z)
  exact hK X1 σ2 wx1 w2 n1 K1 hL2 e0 (by omega) (by omega)
theorem law_39 (h : LV E X M σ wx wm wm n K) (hF : EF E) (hB : sN σ + 4000 < 2000000) (hS : SC E L f) (hi : i + 6 ≤ L) (hL : L ≤ 384) (hK : LK E X M σ i P) : VE E mL_law 2000 P 1449 [some (.ref 0), some (.ref (X.1 0)), some (.ref ((mG M).1 100)), some (.int (nI i))] [] (S X (S (mG M) σ wm) wx) := by
  refine VE.step (fun _ h9 => V.ald1 dL_law_1449 (V.ald0 dL_law_1450 (V.ild3 dL_law_1451 (V.iconst_1 dL_law_1452 (V.iadd dL_law_1453 (V.sld hS (sx (k := 1) (by omega) hL rfl) dL_law_1454 (V.ald0 dL_law_1455 (V.ild3 dL_law_1456 (V.iconst_2 dL_law_1457 (V.iadd dL_law_1458 (V.sld hS (sx (k := 2) (by omega) hL rfl) dL_law_1459 (V.ald0 dL_law_1460 (V.ild3 dL_law_1461 (V.iconst_3 dL_law_1462 (V.iadd dL_law_1463 (V.sld hS (sx (k := 3) (by omega) hL rfl) dL_law_1464 (h9))))))))))))))))) ?_
  refine VE.invV3r vL_179 (show (sT σ (X.1 0)).1 = 0 + 1 from h.1.1.t0) dL_law_1465 (x_cell h hF hB) (fun s9 q9 => ?_)
  obtain ⟨X1, σ1, wx1, n1, K1, hge, hL1, e0, ⟨b1, b2⟩, b3, b4⟩ := q9
  refine VE.ge hge ?_
  refine VE.step (fun _ h9 => V.ald2 dL_law_1468 (V.ald0 dL_law_1469 (V.ild3 dL_law_1470 (V.iconst_1 dL_law_1471 (V.iadd dL_law_1472 (V.sld hS (sx (k := 1) (by omega) hL rfl) dL_law_1473 (V.ald0 dL_law_1474 (V.ild3 dL_law_1475 (V.iconst_2 dL_law_1476 (V.iadd dL_law_1477 (V.sld hS (sx (k := 2) (by omega) hL rfl) dL_law_1478 (V.ald0 dL_law_1479 (V.ild3 dL_law_1480 (V.iconst_3 dL_law_1481 (V.iadd dL_law_1482 (V.sld hS (sx (k := 3) (by omega) hL rfl) dL_law_1483 (h9))))))))))))))))) ?_
  refine VE.invV3r vL_182 (show (sT σ1 ((mG M).1 100)).1 = 7 + 1 from hL1.2.1.1.2.2.1) dL_law_1484 (m_cell hL1) (fun s9 q9 => ?_)
  obtain ⟨σ2, w2, rfl, hL2, d1, d2⟩ := q9
  refine VE.icmp_eq (tgt := 1641) dL_law_1487 (by decide) (fun _ => ?_) (fun z => absurd rfl z)
  exact hK X1 σ2 wx1 w2 n1 K1 hL2 e0 (by omega) (by omega)
theorem law_40 (h : LV E X M σ wx wm wm n K) (hF : EF E) (hB : sN σ + 4000 < 2000000) (hS : SC E L f) (hi : i + 6 ≤ L) (hL : L ≤ 384) (hK : LK E X M σ i P) : VE E mL_law 2000 P 1492 [some (.ref 0), some (.ref (X.1 0)), some (.ref ((mG M).1 100)), some (.int (nI i))] [] (S X (S (mG M) σ wm) wx) := by
  refine VE.step (fun _ h9 => V.ald1 dL_law_1492 (V.ald0 dL_law_1493 (V.ild3 dL_law_1494 (V.iconst_1 dL_law_1495 (V.iadd dL_law_1496 (V.sld hS (sx (k := 1) (by omega) hL rfl) dL_law_1497 (V.ald0 dL_law_1498 (V.ild3 dL_law_1499 (V.iconst_2 dL_law_1500 (V.iadd dL_law_1501 (V.sld hS (sx (k := 2) (by omega) hL rfl) dL_law_1502 (V.ald0 dL_law_1503 (V.ild3 dL_law_1504 (V.iconst_3 dL_law_1505 (V.iadd dL_law_1506 (V.sld hS (sx (k := 3) (by omega) hL rfl) dL_law_1507 (V.ald0 dL_law_1508 (V.ild3 dL_law_1509 (V.iconst_4 dL_law_1510 (V.iadd dL_law_1511 (V.sld hS (sx (k := 4) (by omega) hL rfl) dL_law_1512 (V.ald0 dL_law_1513 (V.ild3 dL_law_1514 (V.iconst_5 dL_law_1515 (V.iadd dL_law_1516 (V.sld hS (sx (k := 5) (by omega) hL rfl) dL_law_1517 (h9))))))))))))))))))))))))))) ?_
  refine VE.invV5r vL_183 (show (sT σ (X.1 0)).1 = 0 + 1 from h.1.1.t0) dL_law_1518 (x_copy h hF hB) (fun s9 q9 => ?_)
  obtain ⟨X1, σ1, wx1, n1, K1, hge, hL1, e0, ⟨b1, b2⟩, b3, b4⟩ := q9
  refine VE.ge hge ?_
  refine VE.step (fun _ h9 => V.ald2 dL_law_1521 (V.ald0 dL_law_1522 (V.ild3 dL_law_1523 (V.iconst_1 dL_law_1524 (V.iadd dL_law_1525 (V.sld hS (sx (k := 1) (by omega) hL rfl) dL_law_1526 (V.ald0 dL_law_1527 (V.ild3 dL_law_1528 (V.iconst_2 dL_law_1529 (V.iadd dL_law_1530 (V.sld hS (sx (k := 2) (by omega) hL rfl) dL_law_1531 (V.ald0 dL_law_1532 (V.ild3 dL_law_1533 (V.iconst_3 dL_law_1534 (V.iadd dL_law_1535 (V.sld hS (sx (k := 3) (by omega) hL rfl) dL_law_1536 (V.ald0 dL_law_1537 (V.ild3 dL_law_1538 (V.iconst_4 dL_law_1539 (V.iadd dL_law_1540 (V.sld hS (sx (k := 4) (by omega) hL rfl) dL_law_1541 (V.ald0 dL_law_1542 (V.ild3 dL_law_1543 (V.iconst_5 dL_law_1544 (V.iadd dL_law_1545 (V.sld hS (sx (k := 5) (by omega) hL rfl) dL_law_1546 (h9))))))))))))))))))))))))))) ?_
  refine VE.invV5r vL_187 (show (sT σ1 ((mG M).1 100)).1 = 7 + 1 from hL1.2.1.1.2.2.1) dL_law_1547 (m_copy hL1) (fun s9 q9 => ?_)
  obtain ⟨σ2, w2, rfl, hL2, d1, d2⟩ := q9
  refine VE.icmp_eq (tgt := 1641) dL_law_1550 (by decide) (fun _ => ?_) (fun z => absurd rfl z)
  exact hK X1 σ2 wx1 w2 n1 K1 hL2 e0 (by omega) (by omega)
theorem law_41 (h : LV E X M σ wx wm wm n K) (hF : EF E) (hB : sN σ + 4000 < 2000000) (hS : SC E L f) (hi : i + 6 ≤ L) (hL : L ≤ 384) (hK : LK E X M σ i P) : VE E mL_law 2000 P 1555 [some (.ref 0), some (.ref (X.1 0)), some (.ref ((mG M).1 100)), some (.int (nI i))] [] (S X (S (mG M) σ wm) wx) := by
  refine VE.step (fun _ h9 => V.ald1 dL_law_1555 (V.ald0 dL_law_1556 (V.ild3 dL_law_1557 (V.iconst_1 dL_law_1558 (V.iadd dL_law_1559 (V.sld hS (sx (k := 1) (by omega) hL rfl) dL_law_1560 (V.ald0 dL_law_1561 (V.ild3 dL_law_1562 (V.iconst_2 dL_law_1563 (V.iadd dL_law_1564 (V.sld hS (sx (k := 2) (by omega) hL rfl) dL_law_1565 (V.ald0 dL_law_1566 (V.ild3 dL_law_1567 (V.iconst_3 dL_law_1568 (V.iadd dL_law_1569 (V.sld hS (sx (k := 3) (by omega) hL rfl) dL_law_1570 (V.ald0 dL_law_1571 (V.ild3 dL_law_1572 (V.iconst_4 dL_law_1573 (V.iadd dL_law_1574 (V.sld hS (sx (k := 4) (by omega) hL rfl) dL_law_1575 (h9)))))))))))))))))))))) ?_
  refine VE.invV4r vL_188 (show (sT σ (X.1 0)).1 = 0 + 1 from h.1.1.t0) dL_law_1576 (x_sitters h hF hB) (fun s9 q9 => ?_)
  obtain ⟨X1, σ1, wx1, n1, K1, hge, hL1, e0, ⟨b1, b2⟩, b3, b4⟩ := q9
  refine VE.ge hge ?_
  refine VE.step (fun _ h9 => V.ald2 dL_law_1579 (V.ald0 dL_law_1580 (V.ild3 dL_law_1581 (V.iconst_1 dL_law_1582 (V.iadd dL_law_1583 (V.sld hS (sx (k := 1) (by omega) hL rfl) dL_law_1584 (V.ald0 dL_law_1585 (V.ild3 dL_law_1586 (V.iconst_2 dL_law_1587 (V.iadd dL_law_1588 (V.sld hS (sx (k := 2) (by omega) hL rfl) dL_law_1589 (V.ald0 dL_law_1590 (V.ild3 dL_law_1591 (V.iconst_3 dL_law_1592 (V.iadd dL_law_1593 (V.sld hS (sx (k := 3) (by omega) hL rfl) dL_law_1594 (V.ald0 dL_law_1595 (V.ild3 dL_law_1596 (V.iconst_4 dL_law_1597 (V.iadd dL_law_1598 (V.sld hS (sx (k := 4) (by omega) hL rfl) dL_law_1599 (h9)))))))))))))))))))))) ?_
  refine VE.invV4r vL_191 (show (sT σ1 ((mG M).1 100)).1 = 7 + 1 from hL1.2.1.1.2.2.1) dL_law_1600 (m_sitters hL1) (fun s9 q9 => ?_)
  obtain ⟨σ2, w2, rfl, hL2, d1, d2⟩ := q9
  refine VE.icmp_eq (tgt := 1641) dL_law_1603 (by decide) (fun _ => ?_) (fun z => absurd rfl z)
  exact hK X1 σ2 wx1 w2 n1 K1 hL2 e0 (by omega) (by omega)
theorem law_42 (h : LV E X M σ wx wm wm n K) (hF : EF E) (hB : sN σ + 4000 < 2000000) (hS : SC E L f) (hi : i + 6 ≤ L) (hL : L ≤ 384) (hK : LK E X M σ i P) : VE E mL_law 2000 P 1608 [some (.ref 0), some (.ref (X.1 0)), some (.ref ((mG M).1 100)), some (.int (nI i))] [] (S X (S (mG M) σ wm) wx) := by
  refine VE.step (fun _ h9 => V.ald1 dL_law_1608 (V.ald0 dL_law_1609 (V.ild3 dL_law_1610 (V.iconst_1 dL_law_1611 (V.iadd dL_law_1612 (V.sld hS (sx (k := 1) (by omega) hL rfl) dL_law_1613 (V.ald0 dL_law_1614 (V.ild3 dL_law_1615 (V.iconst_2 dL_law_1616 (V.iadd dL_law_1617 (V.sld hS (sx (k := 2) (by omega) hL rfl) dL_law_1618 (h9)))))))))))) ?_
  refine VE.invV2r vL_192 (show (sT σ (X.1 0)).1 = 0 + 1 from h.1.1.t0) dL_law_1619 (x_taken h hF hB) (fun s9 q9 => ?_)
  obtain ⟨X1, σ1, wx1, n1, K1, hge, hL1, e0, ⟨b1, b2⟩, b3, b4⟩ := q9
  refine VE.ge hge ?_
  refine VE.step (fun _ h9 => V.ald2 dL_law_1622 (V.ald0 dL_law_1623 (V.ild3 dL_law_1624 (V.iconst_1 dL_law_1625 (V.iadd dL_law_1626 (V.sld hS (sx (k := 1) (by omega) hL rfl) dL_law_1627 (V.ald0 dL_law_1628 (V.ild3 dL_law_1629 (V.iconst_2 dL_law_1630 (V.iadd dL_law_1631 (V.sld hS (sx (k := 2) (by omega) hL rfl) dL_law_1632 (h9)))))))))))) ?_
  refine VE.invV2r vL_195 (show (sT σ1 ((mG M).1 100)).1 = 7 + 1 from hL1.2.1.1.2.2.1) dL_law_1633 (m_taken hL1) (fun s9 q9 => ?_)
  obtain ⟨σ2, w2, rfl, hL2, d1, d2⟩ := q9
  refine VE.icmp_eq (tgt := 1641) dL_law_1636 (by decide) (fun _ => ?_) (fun z => absurd rfl z)
  exact hK X1 σ2 wx1 w2 n1 K1 hL2 e0 (by omega) (by omega)
end
theorem sw_i {i L : Nat} (hi : i ≤ 400) (hL : L ≤ 384) (h : ¬ nI L - 6 < nI i) : i + 6 ≤ L := by
  rcases Nat.lt_or_ge L 6 with q | q
  · exfalso
    apply h
    have h1 : ∀ L, L < 6 → nI L - 6 < 0 := by decide +kernel
    have h2 := nI_pos (n := i) (by omega)
    exact Int32.lt_of_lt_of_le (h1 L q) (Int32.not_lt.mp h2)
  · rw [show (6 : Int32) = nI 6 from rfl, nI_sb q] at h
    rcases Nat.lt_or_ge L (i + 6) with z | z
    · exact absurd (nI_lt9 (a := L - 6) (b := i) (by omega) (by omega) (by omega)) h
    · exact z
theorem law_sw {E : En} {X : Ge} {M : Nat} {σ : Sg} {wx wm : Wv} {n : Nat} {K : Nat → Nat} {L i : Nat} {f : Nat → Int32} {P : Outcome → Sg → Prop} (h : LV E X M σ wx wm wm n K) (hF : EF E) (hB : sN σ + 4000 < 2000000) (hS : SC E L f) (hi : i + 6 ≤ L) (hL : L ≤ 384) (hK : LK E X M σ i P) : VE E mL_law 2000 P 27 [some (.ref 0), some (.ref (X.1 0)), some (.ref ((mG M).1 100)), some (.int (nI i))] [] (S X (S (mG M) σ wm) wx) := by
  refine VE.step (fun _ h9 => V.ald0 dL_law_27 (V.ild3 dL_law_28 (V.sld hS (IX.n (j := i) (by omega) (by omega)) dL_law_29 (V.bipush (v := 63) dL_law_30 (by decide) (V.iand dL_law_32 h9))))) ?_
  obtain ⟨k, hk, e⟩ := and63 (f i)
  rw [e]
  rcases Nat.lt_or_ge k 43 with q | q
  · obtain e | e | e | e | e | e | e | e | e | e | e | e | e | e | e | e | e | e | e | e | e | e | e | e | e | e | e | e | e | e | e | e | e | e | e | e | e | e | e | e | e | e | e := (by omega : k = 0 ∨ k = 1 ∨ k = 2 ∨ k = 3 ∨ k = 4 ∨ k = 5 ∨ k = 6 ∨ k = 7 ∨ k = 8 ∨ k = 9 ∨ k = 10 ∨ k = 11 ∨ k = 12 ∨ k = 13 ∨ k = 14 ∨ k = 15 ∨ k = 16 ∨ k = 17 ∨ k = 18 ∨ k = 19 ∨ k = 20 ∨ k = 21 ∨ k = 22 ∨ k = 23 ∨ k = 24 ∨ k = 25 ∨ k = 26 ∨ k = 27 ∨ k = 28 ∨ k = 29 ∨ k = 30 ∨ k = 31 ∨ k = 32 ∨ k = 33 ∨ k = 34 ∨ k = 35 ∨ k = 36 ∨ k = 37 ∨ k = 38 ∨ k = 39 ∨ k = 40 ∨ k = 41 ∨ k = 42)
    · subst e; exact VE.step (fun _ h9 => V.tableIn (off := 187) (tgt := 220) dL_law_33 (by decide) (by decide) (by decide) (by decide) h9) (law_0 h hF hB hS hi hL hK)
    · subst e; exact VE.step (fun _ h9 => V.tableIn (off := 230) (tgt := 263) dL_law_33 (by decide) (by decide) (by decide) (by decide) h9) (law_1 h hF hB hS hi hL hK)
    · subst e; exact VE.step (fun _ h9 => V.tableIn (off := 273) (tgt := 306) dL_law_33 (by decide) (by decide) (by decide) (by decide) h9) (law_2 h hF hB hS hi hL hK)
    · subst e; exact VE.step (fun _ h9 => V.tableIn (off := 316) (tgt := 349) dL_law_33 (by decide) (by decide) (by decide) (by decide) h9) (law_3 h hF hB hS hi hL hK)
    · subst e; exact VE.step (fun _ h9 => V.tableIn (off := 359) (tgt := 392) dL_law_33 (by decide) (by decide) (by decide) (by decide) h9) (law_4 h hF hB hS hi hL hK)
    · subst e; exact VE.step (fun _ h9 => V.tableIn (off := 402) (tgt := 435) dL_law_33 (by decide) (by decide) (by decide) (by decide) h9) (law_5 h hF hB hS hi hL hK)
    · subst e; exact VE.step (fun _ h9 => V.tableIn (off := 445) (tgt := 478) dL_law_33 (by decide) (by decide) (by decide) (by decide) h9) (law_6 h hF hB hS hi hL hK)
    · subst e; exact VE.step (fun _ h9 => V.tableIn (off := 478) (tgt := 511) dL_law_33 (by decide) (by decide) (by decide) (by decide) h9) (law_7 h hF hB hS hi hL hK)
    · subst e; exact VE.step (fun _ h9 => V.tableIn (off := 521) (tgt := 554) dL_law_33 (by decide) (by decide) (by decide) (by decide) h9) (law_8 h hF hB hS hi hL hK)
    · subst e; exact VE.step (fun _ h9 => V.tableIn (off := 544) (tgt := 577) dL_law_33 (by decide) (by decide) (by decide) (by decide) h9) (law_9 h hF hB hS hi hL hK)
    · subst e; exact VE.step (fun _ h9 => V.tableIn (off := 607) (tgt := 640) dL_law_33 (by decide) (by decide) (by decide) (by decide) h9) (law_10 h hF hB hS hi hL hK)
    · subst e; exact VE.step (fun _ h9 => V.tableIn (off := 620) (tgt := 653) dL_law_33 (by decide) (by decide) (by decide) (by decide) h9) (law_11 h hF hB hS hi hL hK)
    · subst e; exact VE.step (fun _ h9 => V.tableIn (off := 643) (tgt := 676) dL_law_33 (by decide) (by decide) (by decide) (by decide) h9) (law_12 h hF hB hS hi hL hK)
    · subst e; exact VE.step (fun _ h9 => V.tableIn (off := 686) (tgt := 719) dL_law_33 (by decide) (by decide) (by decide) (by decide) h9) (law_13 h hF hB hS hi hL hK)
    · subst e; exact VE.step (fun _ h9 => V.tableIn (off := 719) (tgt := 752) dL_law_33 (by decide) (by decide) (by decide) (by decide) h9) (law_14 h hF hB hS hi hL hK)
    · subst e; exact VE.step (fun _ h9 => V.tableIn (off := 752) (tgt := 785) dL_law_33 (by decide) (by decide) (by decide) (by decide) h9) (law_15 h hF hB hS hi hL hK)
    · subst e; exact VE.step (fun _ h9 => V.tableIn (off := 785) (tgt := 818) dL_law_33 (by decide) (by decide) (by decide) (by decide) h9) (law_16 h hF hB hS hi hL hK)
    · subst e; exact VE.step (fun _ h9 => V.tableIn (off := 808) (tgt := 841) dL_law_33 (by decide) (by decide) (by decide) (by decide) h9) (law_17 h hF hB hS hi hL hK)
    · subst e; exact VE.step (fun _ h9 => V.tableIn (off := 821) (tgt := 854) dL_law_33 (by decide) (by decide) (by decide) (by decide) h9) (law_18 h hF hB hS hi hL hK)
    · subst e; exact VE.step (fun _ h9 => V.tableIn (off := 844) (tgt := 877) dL_law_33 (by decide) (by decide) (by decide) (by decide) h9) (law_19 h hF hB hS hi hL hK)
    · subst e; exact VE.step (fun _ h9 => V.tableIn (off := 867) (tgt := 900) dL_law_33 (by decide) (by decide) (by decide) (by decide) h9) (law_20 h hF hB hS hi hL hK)
    · subst e; exact VE.step (fun _ h9 => V.tableIn (off := 921) (tgt := 954) dL_law_33 (by decide) (by decide) (by decide) (by decide) h9) (law_21 h hF hB hS hi hL hK)
    · subst e; exact VE.step (fun _ h9 => V.tableIn (off := 965) (tgt := 998) dL_law_33 (by decide) (by decide) (by decide) (by decide) h9) (law_22 h hF hB hS hi hL hK)
    · subst e; exact VE.step (fun _ h9 => V.tableIn (off := 988) (tgt := 1021) dL_law_33 (by decide) (by decide) (by decide) (by decide) h9) (law_23 h hF hB hS hi hL hK)
    · subst e; exact VE.step (fun _ h9 => V.tableIn (off := 1011) (tgt := 1044) dL_law_33 (by decide) (by decide) (by decide) (by decide) h9) (law_24 h hF hB hS hi hL hK)
    · subst e; exact VE.step (fun _ h9 => V.tableIn (off := 1034) (tgt := 1067) dL_law_33 (by decide) (by decide) (by decide) (by decide) h9) (law_25 h hF hB hS hi hL hK)
    · subst e; exact VE.step (fun _ h9 => V.tableIn (off := 1057) (tgt := 1090) dL_law_33 (by decide) (by decide) (by decide) (by decide) h9) (law_26 h hF hB hS hi hL hK)
    · subst e; exact VE.step (fun _ h9 => V.tableIn (off := 1090) (tgt := 1123) dL_law_33 (by decide) (by decide) (by decide) (by decide) h9) (law_27 h hF hB hS hi hL hK)
    · subst e; exact VE.step (fun _ h9 => V.tableIn (off := 1103) (tgt := 1136) dL_law_33 (by decide) (by decide) (by decide) (by decide) h9) (law_28 h hF hB hS hi hL hK)
    · subst e; exact VE.step (fun _ h9 => V.tableIn (off := 1156) (tgt := 1189) dL_law_33 (by decide) (by decide) (by decide) (by decide) h9) (law_29 h hF hB hS hi hL hK)
    · subst e; exact VE.step (fun _ h9 => V.tableIn (off := 1189) (tgt := 1222) dL_law_33 (by decide) (by decide) (by decide) (by decide) h9) (law_30 h hF hB hS hi hL hK)
    · subst e; exact VE.step (fun _ h9 => V.tableIn (off := 1222) (tgt := 1255) dL_law_33 (by decide) (by decide) (by decide) (by decide) h9) (law_31 h hF hB hS hi hL hK)
    · subst e; exact VE.step (fun _ h9 => V.tableIn (off := 1265) (tgt := 1298) dL_law_33 (by decide) (by decide) (by decide) (by decide) h9) (law_32 h hF hB hS hi hL hK)
    · subst e; exact VE.step (fun _ h9 => V.tableIn (off := 1288) (tgt := 1321) dL_law_33 (by decide) (by decide) (by decide) (by decide) h9) (law_33 h hF hB hS hi hL hK)
    · subst e; exact VE.step (fun _ h9 => V.tableIn (off := 1311) (tgt := 1344) dL_law_33 (by decide) (by decide) (by decide) (by decide) h9) (law_34 h hF hB hS hi hL hK)
    · subst e; exact VE.step (fun _ h9 => V.tableIn (off := 1324) (tgt := 1357) dL_law_33 (by decide) (by decide) (by decide) (by decide) h9) (law_35 h hF hB hS hi hL hK)
    · subst e; exact VE.step (fun _ h9 => V.tableIn (off := 1347) (tgt := 1380) dL_law_33 (by decide) (by decide) (by decide) (by decide) h9) (law_36 h hF hB hS hi hL hK)
    · subst e; exact VE.step (fun _ h9 => V.tableIn (off := 1360) (tgt := 1393) dL_law_33 (by decide) (by decide) (by decide) (by decide) h9) (law_37 h hF hB hS hi hL hK)
    · subst e; exact VE.step (fun _ h9 => V.tableIn (off := 1373) (tgt := 1406) dL_law_33 (by decide) (by decide) (by decide) (by decide) h9) (law_38 h hF hB hS hi hL hK)
    · subst e; exact VE.step (fun _ h9 => V.tableIn (off := 1416) (tgt := 1449) dL_law_33 (by decide) (by decide) (by decide) (by decide) h9) (law_39 h hF hB hS hi hL hK)
    · subst e; exact VE.step (fun _ h9 => V.tableIn (off := 1459) (tgt := 1492) dL_law_33 (by decide) (by decide) (by decide) (by decide) h9) (law_40 h hF hB hS hi hL hK)
    · subst e; exact VE.step (fun _ h9 => V.tableIn (off := 1522) (tgt := 1555) dL_law_33 (by decide) (by decide) (by decide) (by decide) h9) (law_41 h hF hB hS hi hL hK)
    · subst e; exact VE.step (fun _ h9 => V.tableIn (off := 1575) (tgt := 1608) dL_law_33 (by decide) (by decide) (by decide) (by decide) h9) (law_42 h hF hB hS hi hL hK)
  · refine VE.step (fun _ h9 => V.tableOut (tgt := 1641) dL_law_33 (.inr ?_) (by decide) h9) (hK X σ wx wm n K h rfl (by omega) (by omega))
    have h1 : ∀ k, k < 64 → (nI k).toInt = (k : Int) := by decide +kernel
    rw [h1 k hk]; omega
theorem law_loop {E : En} (hF : EF E) {L : Nat} {f : Nat → Int32} (hS : SC E L f) (hL : L ≤ 384) {N Z : Nat} (hN : N + 4000 < 2000000) : ∀ (m i : Nat) (X : Ge) (M : Nat) (σ : Sg) (wx wm : Wv) (n : Nat) (K : Nat → Nat), L < i + 6 * (m + 1) → i ≤ 400 → sN σ + 3260 * m ≤ N → sS σ + 16300 * m ≤ Z → LV E X M σ wx wm wm n K → VE E mL_law 2000 (LWP N Z) 18 [some (.ref 0), some (.ref (X.1 0)), some (.ref ((mG M).1 100)), some (.int (nI i))] [] (S X (S (mG M) σ wm) wx) := by
  intro m
  induction m with
  | zero =>
    intro i X M σ wx wm n K h1 hi h2 h3 h
    refine VE.step (fun _ h9 => V.ild3 dL_law_18 (V.ald0 dL_law_19 (V.sln hS dL_law_20 (V.bipush (v := 6) dL_law_21 (by decide) (V.isub dL_law_23 h9))))) ?_
    refine VE.icmp_gt (tgt := 1647) dL_law_24 (by decide) (fun _ => ?_) (fun z => absurd (sw_i hi hL z) (by omega))
    refine VE.step (fun _ h9 => V.iconst_1 dL_law_1647 h9) ?_
    exact VE.iret dL_law_1648 rfl rfl ⟨rfl, by show sN σ ≤ N; omega, by show sS σ ≤ Z; omega⟩
  | succ m ih =>
    intro i X M σ wx wm n K h1 hi h2 h3 h
    refine VE.step (fun _ h9 => V.ild3 dL_law_18 (V.ald0 dL_law_19 (V.sln hS dL_law_20 (V.bipush (v := 6) dL_law_21 (by decide) (V.isub dL_law_23 h9))))) ?_
    refine VE.icmp_gt (tgt := 1647) dL_law_24 (by decide) (fun _ => ?_) (fun z => ?_)
    · refine VE.step (fun _ h9 => V.iconst_1 dL_law_1647 h9) ?_
      exact VE.iret dL_law_1648 rfl rfl ⟨rfl, by show sN σ ≤ N; omega, by show sS σ ≤ Z; omega⟩
    · have hi6 := sw_i hi hL z
      refine law_sw h hF (by omega) hS hi6 hL (fun X' σ1 wx' w' n' K' hL' e0 b1 b2 => ?_)
      refine VE.step (fun _ h9 => V.inc6_3 dL_law_1641 (V.goto (tgt := 18) dL_law_1644 (by decide) h9)) ?_
      rw [show nI i + 6 = nI (i + 6) by rw [show (6 : Int32) = nI 6 from rfl, nI_add], ← e0]
      exact ih (i + 6) X' M σ1 wx' w' n' K' (by omega) (by omega) (by omega) (by omega) hL'
