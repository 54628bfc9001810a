set_option maxRecDepth 100000
/-! THE LAW: case by case -/
abbrev yL : MethodName := x
theorem lg_cmp_self (x : Int64) : lg_cmp x x = 0 := by
  unfold lg_cmp
  simp
section X109
variable {g : GC} {kc ks : Nat} {G : MM} {oX oM b L i : Nat} {xs : Nat → Int32} {q : Sg} {st : List Value} {pc : Nat}
abbrev QL : Option Value → MM → Prop := fun v _ => v = some (.int 1)
/-- the law's body at pc -/
abbrev LB (g : GC) (kc ks : Nat) (G : MM) (oX oM b i pc : Nat) (st : List Value) : Prop := Bd g yL cL_law 4 (some .boolean) [] 500 kc ks G pc [some (.ref b), some (.ref oX), some (.ref oM), some (.int (nI i))] st QL noX
theorem r_arg {qm qx : Sg} {j : Nat} {jj : Int} (h : LI g oX oM b L xs qm qx G) (hL : L ≤ 384) (hj : i + j < L) (hjj : Int32.ofInt jj = nI j) (d0 : decode cL_law pc = .ok (.aload_n 0, 1)) (d1 : decode cL_law (pc + 1) = .ok (.iload_n 3, 1)) (d2 : decode cL_law (pc + 1 + 1) = .ok (.iconst jj, 1)) (d3 : decode cL_law (pc + 1 + 1 + 1) = .ok (.iadd, 1)) (d4 : decode cL_law (pc + 1 + 1 + 1 + 1) = .ok (.iaload, 1)) (k : LB g kc ks G oX oM b i (pc + 1 + 1 + 1 + 1 + 1) (.int (xs (i + j)) :: st)) : LB g kc ks G oX oM b i pc st := by
  obtain ⟨h1, h2, h3⟩ := h.scr
  exact r_ald0 d0 (r_ild3 d1 (r_iconst d2 hjj (r_iaddN d3 (r_iald' d4 h1 (by rw [h2]; exact hj) (by omega) (h3 _ hj) k))))
theorem td_feed {a b c d e : Int32} : gTd (feedS q a b c d e).2 ≤ gTd q + 20 := by
  unfold feedS; split
  · exact Nat.le_add_right _ _
  · exact Nat.le_refl _
theorem td_end {x : Int32} : gTd (endS q x).2 ≤ gTd q + 20 := by
  unfold endS; split
  · exact Nat.le_add_right _ _
  · show x.toInt.toNat ≤ _; omega
theorem td_seed {x : Int32} : gTd (seedS q x).2 ≤ gTd q + 20 := by
  unfold seedS; split <;> exact Nat.le_add_right _ _
theorem td_undo : gTd (undoS q).2 ≤ gTd q + 20 := by
  unfold undoS; split <;> exact Nat.le_add_right _ _
theorem td_change {x y : Int32} : gTd (changeQ q x y).2 ≤ gTd q + 20 := by
  unfold changeQ; split
  · split <;> exact Nat.le_add_right _ _
  · exact Nat.le_add_right _ _
theorem td_right {x : Int32} : gTd (rightQ q x).2 ≤ gTd q + 20 := by
  unfold rightQ; split
  · exact Nat.le_add_right _ _
  · split <;> exact Nat.le_add_right _ _
theorem td_spare {x y : Int32} : gTd (spareQ q x y).2 ≤ gTd q + 20 := by
  unfold spareQ; split
  · split <;> exact Nat.le_add_right _ _
  · exact Nat.le_add_right _ _
theorem td_years {x : Int32} : gTd (yearsQ q x).2 ≤ gTd q + 20 := by
  unfold yearsQ; split
  · split <;> exact Nat.le_add_right _ _
  · exact Nat.le_add_right _ _
theorem td_chance {x : Int32} : gTd (chanceQ q x).2 ≤ gTd q + 20 := by
  unfold chanceQ; split
  · split <;> exact Nat.le_add_right _ _
  · exact Nat.le_add_right _ _
theorem td_see : gTd (seeQ q).2 ≤ gTd q + 20 := by
  unfold seeQ; split <;> exact Nat.zero_le _
theorem td_image : gTd (imageQ q).2 ≤ gTd q + 20 := Nat.le_add_right _ _
theorem td_on : gTd (onQ q).2 ≤ gTd q + 20 := by
  unfold onQ; split <;> exact Nat.zero_le _
theorem td_terrace : gTd (terraceQ q).2 = 0 := by
  unfold terraceQ; split <;> rfl
theorem td_ask : gTd (askQ q).2 = 0 := by
  unfold askQ; split
  · split <;> rfl
  · rfl

theorem lc_0 (hL : L ≤ 384) (hi : i + 6 ≤ L) (h : LI g oX oM b L xs q q G) (back : ∀ q' G', LI g oX oM b L xs q' q' G' → gTd q' ≤ gTd q + 20 → LB g kc ks G' oX oM b i 1134 []) : LB g kc ks G oX oM b i 188 [] := by
  refine r_ald1 (pc := 188) dL_law_188 ?_
  refine r_arg (pc := 189) (j := 1) h hL (by omega) (by decide) dL_law_189 dL_law_190 dL_law_191 dL_law_192 dL_law_193 ?_
  refine r_arg (pc := 194) (j := 2) h hL (by omega) (by decide) dL_law_194 dL_law_195 dL_law_196 dL_law_197 dL_law_198 ?_
  refine r_arg (pc := 199) (j := 3) h hL (by omega) (by decide) dL_law_199 dL_law_200 dL_law_201 dL_law_202 dL_law_203 ?_
  refine r_arg (pc := 204) (j := 4) h hL (by omega) (by decide) dL_law_204 dL_law_205 dL_law_206 dL_law_207 dL_law_208 ?_
  refine r_arg (pc := 209) (j := 5) h hL (by omega) (by decide) dL_law_209 dL_law_210 dL_law_211 dL_law_212 dL_law_213 ?_
  refine r_lx (pc := 214) h dL_law_214 cv_L_13 (fun N P ta s hI hG => px_feed hI hG) rfl rfl (Nat.le_of_ble_eq_true rfl) (by decide) ?_
  intro G1 h1
  refine r_ald2 (pc := 217) dL_law_217 ?_
  refine r_arg (pc := 218) (j := 1) h1 hL (by omega) (by decide) dL_law_218 dL_law_219 dL_law_220 dL_law_221 dL_law_222 ?_
  refine r_arg (pc := 223) (j := 2) h1 hL (by omega) (by decide) dL_law_223 dL_law_224 dL_law_225 dL_law_226 dL_law_227 ?_
  refine r_arg (pc := 228) (j := 3) h1 hL (by omega) (by decide) dL_law_228 dL_law_229 dL_law_230 dL_law_231 dL_law_232 ?_
  refine r_arg (pc := 233) (j := 4) h1 hL (by omega) (by decide) dL_law_233 dL_law_234 dL_law_235 dL_law_236 dL_law_237 ?_
  refine r_arg (pc := 238) (j := 5) h1 hL (by omega) (by decide) dL_law_238 dL_law_239 dL_law_240 dL_law_241 dL_law_242 ?_
  refine r_lm (pc := 243) h1 (fun z => GI_feed z) dL_law_243 cv_L_17 (fun N t hS hI hG => pm_feed hS hI hG) rfl rfl (Nat.le_of_ble_eq_true rfl) (by decide) ?_
  intro G2 h2
  refine r_icmp_eq (pc := 246) (tgt := 1134) dL_law_246 (by decide) (fun _ => ?_) (fun hne => absurd rfl hne)
  exact back _ _ h2 td_feed
theorem lc_1 (hL : L ≤ 384) (hi : i + 6 ≤ L) (h : LI g oX oM b L xs q q G) (back : ∀ q' G', LI g oX oM b L xs q' q' G' → gTd q' ≤ gTd q + 20 → LB g kc ks G' oX oM b i 1134 []) : LB g kc ks G oX oM b i 251 [] := by
  refine r_ald1 (pc := 251) dL_law_251 ?_
  refine r_arg (pc := 252) (j := 1) h hL (by omega) (by decide) dL_law_252 dL_law_253 dL_law_254 dL_law_255 dL_law_256 ?_
  refine r_lx (pc := 257) h dL_law_257 cv_L_18 (fun N P ta s hI hG => px_end hI hG) rfl rfl (Nat.le_of_ble_eq_true rfl) (by decide) ?_
  intro G1 h1
  refine r_ald2 (pc := 260) dL_law_260 ?_
  refine r_arg (pc := 261) (j := 1) h1 hL (by omega) (by decide) dL_law_261 dL_law_262 dL_law_263 dL_law_264 dL_law_265 ?_
  refine r_lm (pc := 266) h1 (fun z => GI_end z) dL_law_266 cv_L_22 (fun N t hS hI hG => pm_end hS hI hG) rfl rfl (Nat.le_of_ble_eq_true rfl) (by decide) ?_
  intro G2 h2
  refine r_icmp_eq (pc := 269) (tgt := 1134) dL_law_269 (by decide) (fun _ => ?_) (fun hne => absurd rfl hne)
  exact back _ _ h2 td_end
theorem lc_2 (hL : L ≤ 384) (hi : i + 6 ≤ L) (h : LI g oX oM b L xs q q G) (hn : gTd q ≤ 1280) (hNM : ∃ mi, NM g "[Ljava/lang/Object;" mi) {kc' ks' : Nat} (hk : kc' + (60 * gTd q + 110) ≤ kc) (hs : ks' + (4000 * gTd q + 16000) ≤ ks) (back : ∀ q' G', LI g oX oM b L xs q' q' G' → gTd q' = 0 → LB g kc' ks' G' oX oM b i 1134 []) : LB g kc ks G oX oM b i 274 [] := by
  refine r_ald1 (pc := 274) dL_law_274 ?_
  refine r_lxW (pc := 275) (kc' := kc') (ks' := ks') h dL_law_275 cvw_L_23 (fun N P ta s hI hG hPz hTx hWs => px_terrace hI hG hPz hn hNM hTx hWs) rfl rfl (Nat.le_of_ble_eq_true rfl) (by decide) hk hs ?_
  intro G1 h1
  refine r_ald2 (pc := 278) dL_law_278 ?_
  refine r_lm (pc := 279) h1 (fun z => GI_terrace z) dL_law_279 cv_L_27 (fun N t hS hI hG => pm_terrace hS hI hG) rfl rfl (Nat.le_of_ble_eq_true rfl) (by decide) ?_
  intro G2 h2
  refine r_icmp_eq (pc := 282) (tgt := 1134) dL_law_282 (by decide) (fun _ => ?_) (fun hne => absurd rfl hne)
  exact back _ _ h2 td_terrace
theorem lc_3 (hL : L ≤ 384) (hi : i + 6 ≤ L) (h : LI g oX oM b L xs q q G) (back : ∀ q' G', LI g oX oM b L xs q' q' G' → gTd q' ≤ gTd q + 20 → LB g kc ks G' oX oM b i 1134 []) : LB g kc ks G oX oM b i 287 [] := by
  refine r_ald1 (pc := 287) dL_law_287 ?_
  refine r_arg (pc := 288) (j := 1) h hL (by omega) (by decide) dL_law_288 dL_law_289 dL_law_290 dL_law_291 dL_law_292 ?_
  refine r_lx (pc := 293) h dL_law_293 cv_L_28 (fun N P ta s hI hG => px_fault hI hG) rfl rfl (Nat.le_of_ble_eq_true rfl) (by decide) ?_
  intro G1 h1
  refine r_ald2 (pc := 296) dL_law_296 ?_
  refine r_arg (pc := 297) (j := 1) h1 hL (by omega) (by decide) dL_law_297 dL_law_298 dL_law_299 dL_law_300 dL_law_301 ?_
  refine r_lm (pc := 302) h1 (fun z => z) dL_law_302 cv_L_32 (fun N t hS hI hG => pm_fault hS hI) rfl rfl (Nat.le_of_ble_eq_true rfl) (by decide) ?_
  intro G2 h2
  refine r_icmp_eq (pc := 305) (tgt := 1134) dL_law_305 (by decide) (fun _ => ?_) (fun hne => absurd rfl hne)
  exact back _ _ h2 (Nat.le_add_right _ _)
theorem lc_4 (hL : L ≤ 384) (hi : i + 6 ≤ L) (h : LI g oX oM b L xs q q G) (back : ∀ q' G', LI g oX oM b L xs q' q' G' → gTd q' ≤ gTd q + 20 → LB g kc ks G' oX oM b i 1134 []) : LB g kc ks G oX oM b i 310 [] := by
  refine r_ald1 (pc := 310) dL_law_310 ?_
  refine r_arg (pc := 311) (j := 1) h hL (by omega) (by decide) dL_law_311 dL_law_312 dL_law_313 dL_law_314 dL_law_315 ?_
  refine r_lx (pc := 316) h dL_law_316 cv_L_33 (fun N P ta s hI hG => px_has hI hG) rfl rfl (Nat.le_of_ble_eq_true rfl) (by decide) ?_
  intro G1 h1
  refine r_ald2 (pc := 319) dL_law_319 ?_
  refine r_arg (pc := 320) (j := 1) h1 hL (by omega) (by decide) dL_law_320 dL_law_321 dL_law_322 dL_law_323 dL_law_324 ?_
  refine r_lm (pc := 325) h1 (fun z => z) dL_law_325 cv_L_36 (fun N t hS hI hG => pm_has hS hI hG) rfl rfl (Nat.le_of_ble_eq_true rfl) (by decide) ?_
  intro G2 h2
  refine r_icmp_eq (pc := 328) (tgt := 1134) dL_law_328 (by decide) (fun _ => ?_) (fun hne => absurd rfl hne)
  exact back _ _ h2 (Nat.le_add_right _ _)
theorem lc_5 (hL : L ≤ 384) (hi : i + 6 ≤ L) (h : LI g oX oM b L xs q q G) (back : ∀ q' G', LI g oX oM b L xs q' q' G' → gTd q' ≤ gTd q + 20 → LB g kc ks G' oX oM b i 1134 []) : LB g kc ks G oX oM b i 333 [] := by
  refine r_ald1 (pc := 333) dL_law_333 ?_
  refine r_arg (pc := 334) (j := 1) h hL (by omega) (by decide) dL_law_334 dL_law_335 dL_law_336 dL_law_337 dL_law_338 ?_
  refine r_arg (pc := 339) (j := 2) h hL (by omega) (by decide) dL_law_339 dL_law_340 dL_law_341 dL_law_342 dL_law_343 ?_
  refine r_lx (pc := 344) h dL_law_344 cv_L_37 (fun N P ta s hI hG => px_letter hI hG) rfl rfl (Nat.le_of_ble_eq_true rfl) (by decide) ?_
  intro G1 h1
  refine r_ald2 (pc := 347) dL_law_347 ?_
  refine r_arg (pc := 348) (j := 1) h1 hL (by omega) (by decide) dL_law_348 dL_law_349 dL_law_350 dL_law_351 dL_law_352 ?_
  refine r_arg (pc := 353) (j := 2) h1 hL (by omega) (by decide) dL_law_353 dL_law_354 dL_law_355 dL_law_356 dL_law_357 ?_
  refine r_lm (pc := 358) h1 (fun z => z) dL_law_358 cv_L_41 (fun N t hS hI hG => pm_letter hS hI hG) rfl rfl (Nat.le_of_ble_eq_true rfl) (by decide) ?_
  intro G2 h2
  refine r_icmp_eq (pc := 361) (tgt := 1134) dL_law_361 (by decide) (fun _ => ?_) (fun hne => absurd rfl hne)
  exact back _ _ h2 (Nat.le_add_right _ _)
theorem lc_6 (hL : L ≤ 384) (hi : i + 6 ≤ L) (h : LI g oX oM b L xs q q G) (back : ∀ q' G', LI g oX oM b L xs q' q' G' → gTd q' ≤ gTd q + 20 → LB g kc ks G' oX oM b i 1134 []) : LB g kc ks G oX oM b i 366 [] := by
  refine r_ald1 (pc := 366) dL_law_366 ?_
  refine r_arg (pc := 367) (j := 1) h hL (by omega) (by decide) dL_law_367 dL_law_368 dL_law_369 dL_law_370 dL_law_371 ?_
  refine r_lx (pc := 372) h dL_law_372 cv_L_42 (fun N P ta s hI hG => px_house hI hG) rfl rfl (Nat.le_of_ble_eq_true rfl) (by decide) ?_
  intro G1 h1
  refine r_ald2 (pc := 375) dL_law_375 ?_
  refine r_arg (pc := 376) (j := 1) h1 hL (by omega) (by decide) dL_law_376 dL_law_377 dL_law_378 dL_law_379 dL_law_380 ?_
  refine r_lm (pc := 381) h1 (fun z => z) dL_law_381 cv_L_45 (fun N t hS hI hG => pm_house hS hI hG) rfl rfl (Nat.le_of_ble_eq_true rfl) (by decide) ?_
  intro G2 h2
  refine r_icmp_eq (pc := 384) (tgt := 1134) dL_law_384 (by decide) (fun _ => ?_) (fun hne => absurd rfl hne)
  exact back _ _ h2 (Nat.le_add_right _ _)
theorem lc_7 (hL : L ≤ 384) (hi : i + 6 ≤ L) (h : LI g oX oM b L xs q q G) (back : ∀ q' G', LI g oX oM b L xs q' q' G' → gTd q' ≤ gTd q + 20 → LB g kc ks G' oX oM b i 1134 []) : LB g kc ks G oX oM b i 389 [] := by
  refine r_ald1 (pc := 389) dL_law_389 ?_
  refine r_arg (pc := 390) (j := 1) h hL (by omega) (by decide) dL_law_390 dL_law_391 dL_law_392 dL_law_393 dL_law_394 ?_
  refine r_arg (pc := 395) (j := 2) h hL (by omega) (by decide) dL_law_395 dL_law_396 dL_law_397 dL_law_398 dL_law_399 ?_
  refine r_lx (pc := 400) h dL_law_400 cv_L_46 (fun N P ta s hI hG => px_person hI hG) rfl rfl (Nat.le_of_ble_eq_true rfl) (by decide) ?_
  intro G1 h1
  refine r_ald2 (pc := 403) dL_law_403 ?_
  refine r_arg (pc := 404) (j := 1) h1 hL (by omega) (by decide) dL_law_404 dL_law_405 dL_law_406 dL_law_407 dL_law_408 ?_
  refine r_arg (pc := 409) (j := 2) h1 hL (by omega) (by decide) dL_law_409 dL_law_410 dL_law_411 dL_law_412 dL_law_413 ?_
  refine r_lm (pc := 414) h1 (fun z => z) dL_law_414 cv_L_49 (fun N t hS hI hG => pm_person hS hI hG) rfl rfl (Nat.le_of_ble_eq_true rfl) (by decide) ?_
  intro G2 h2
  refine r_icmp_eq (pc := 417) (tgt := 1134) dL_law_417 (by decide) (fun _ => ?_) (fun hne => absurd rfl hne)
  exact back _ _ h2 (Nat.le_add_right _ _)
theorem lc_8 (hL : L ≤ 384) (hi : i + 6 ≤ L) (h : LI g oX oM b L xs q q G) (back : ∀ q' G', LI g oX oM b L xs q' q' G' → gTd q' ≤ gTd q + 20 → LB g kc ks G' oX oM b i 1134 []) : LB g kc ks G oX oM b i 422 [] := by
  refine r_ald1 (pc := 422) dL_law_422 ?_
  refine r_arg (pc := 423) (j := 1) h hL (by omega) (by decide) dL_law_423 dL_law_424 dL_law_425 dL_law_426 dL_law_427 ?_
  refine r_arg (pc := 428) (j := 2) h hL (by omega) (by decide) dL_law_428 dL_law_429 dL_law_430 dL_law_431 dL_law_432 ?_
  refine r_lx (pc := 433) h dL_law_433 cv_L_50 (fun N P ta s hI hG => px_thinks hI hG) rfl rfl (Nat.le_of_ble_eq_true rfl) (by decide) ?_
  intro G1 h1
  refine r_ald2 (pc := 436) dL_law_436 ?_
  refine r_arg (pc := 437) (j := 1) h1 hL (by omega) (by decide) dL_law_437 dL_law_438 dL_law_439 dL_law_440 dL_law_441 ?_
  refine r_arg (pc := 442) (j := 2) h1 hL (by omega) (by decide) dL_law_442 dL_law_443 dL_law_444 dL_law_445 dL_law_446 ?_
  refine r_lm (pc := 447) h1 (fun z => z) dL_law_447 cv_L_53 (fun N t hS hI hG => pm_thinks hS hI hG) rfl rfl (Nat.le_of_ble_eq_true rfl) (by decide) ?_
  intro G2 h2
  refine r_icmp_eq (pc := 450) (tgt := 1134) dL_law_450 (by decide) (fun _ => ?_) (fun hne => absurd rfl hne)
  exact back _ _ h2 (Nat.le_add_right _ _)
theorem lc_9 (hL : L ≤ 384) (hi : i + 6 ≤ L) (h : LI g oX oM b L xs q q G) (back : ∀ q' G', LI g oX oM b L xs q' q' G' → gTd q' ≤ gTd q + 20 → LB g kc ks G' oX oM b i 1134 []) : LB g kc ks G oX oM b i 455 [] := by
  refine r_ald1 (pc := 455) dL_law_455 ?_
  refine r_arg (pc := 456) (j := 1) h hL (by omega) (by decide) dL_law_456 dL_law_457 dL_law_458 dL_law_459 dL_law_460 ?_
  refine r_arg (pc := 461) (j := 2) h hL (by omega) (by decide) dL_law_461 dL_law_462 dL_law_463 dL_law_464 dL_law_465 ?_
  refine r_lx (pc := 466) h dL_law_466 cv_L_54 (fun N P ta s hI hG => px_paints hI hG) rfl rfl (Nat.le_of_ble_eq_true rfl) (by decide) ?_
  intro G1 h1
  refine r_ald2 (pc := 469) dL_law_469 ?_
  refine r_arg (pc := 470) (j := 1) h1 hL (by omega) (by decide) dL_law_470 dL_law_471 dL_law_472 dL_law_473 dL_law_474 ?_
  refine r_arg (pc := 475) (j := 2) h1 hL (by omega) (by decide) dL_law_475 dL_law_476 dL_law_477 dL_law_478 dL_law_479 ?_
  refine r_lm (pc := 480) h1 (fun z => z) dL_law_480 cv_L_57 (fun N t hS hI hG => pm_paints hS hI hG) rfl rfl (Nat.le_of_ble_eq_true rfl) (by decide) ?_
  intro G2 h2
  refine r_icmp_eq (pc := 483) (tgt := 1134) dL_law_483 (by decide) (fun _ => ?_) (fun hne => absurd rfl hne)
  exact back _ _ h2 (Nat.le_add_right _ _)
theorem lc_10 (hL : L ≤ 384) (hi : i + 6 ≤ L) (h : LI g oX oM b L xs q q G) (back : ∀ q' G', LI g oX oM b L xs q' q' G' → gTd q' ≤ gTd q + 20 → LB g kc ks G' oX oM b i 1134 []) : LB g kc ks G oX oM b i 488 [] := by
  refine r_ald1 (pc := 488) dL_law_488 ?_
  refine r_arg (pc := 489) (j := 1) h hL (by omega) (by decide) dL_law_489 dL_law_490 dL_law_491 dL_law_492 dL_law_493 ?_
  refine r_lx (pc := 494) h dL_law_494 cv_L_58 (fun N P ta s hI hG => px_feud hI hG) rfl rfl (Nat.le_of_ble_eq_true rfl) (by decide) ?_
  intro G1 h1
  refine r_ald2 (pc := 497) dL_law_497 ?_
  refine r_arg (pc := 498) (j := 1) h1 hL (by omega) (by decide) dL_law_498 dL_law_499 dL_law_500 dL_law_501 dL_law_502 ?_
  refine r_lm (pc := 503) h1 (fun z => z) dL_law_503 cv_L_61 (fun N t hS hI hG => pm_feud hS hI hG) rfl rfl (Nat.le_of_ble_eq_true rfl) (by decide) ?_
  intro G2 h2
  refine r_icmp_eq (pc := 506) (tgt := 1134) dL_law_506 (by decide) (fun _ => ?_) (fun hne => absurd rfl hne)
  exact back _ _ h2 (Nat.le_add_right _ _)
theorem lc_11 (hL : L ≤ 384) (hi : i + 6 ≤ L) (h : LI g oX oM b L xs q q G) (back : ∀ q' G', LI g oX oM b L xs q' q' G' → gTd q' ≤ gTd q + 20 → LB g kc ks G' oX oM b i 1134 []) : LB g kc ks G oX oM b i 511 [] := by
  refine r_ald1 (pc := 511) dL_law_511 ?_
  refine r_arg (pc := 512) (j := 1) h hL (by omega) (by decide) dL_law_512 dL_law_513 dL_law_514 dL_law_515 dL_law_516 ?_
  refine r_arg (pc := 517) (j := 2) h hL (by omega) (by decide) dL_law_517 dL_law_518 dL_law_519 dL_law_520 dL_law_521 ?_
  refine r_lx (pc := 522) h dL_law_522 cv_L_62 (fun N P ta s hI hG => px_kept hI hG) rfl rfl (Nat.le_of_ble_eq_true rfl) (by decide) ?_
  intro G1 h1
  refine r_ald2 (pc := 525) dL_law_525 ?_
  refine r_arg (pc := 526) (j := 1) h1 hL (by omega) (by decide) dL_law_526 dL_law_527 dL_law_528 dL_law_529 dL_law_530 ?_
  refine r_arg (pc := 531) (j := 2) h1 hL (by omega) (by decide) dL_law_531 dL_law_532 dL_law_533 dL_law_534 dL_law_535 ?_
  refine r_lm (pc := 536) h1 (fun z => z) dL_law_536 cv_L_65 (fun N t hS hI hG => pm_kept hS hI hG) rfl rfl (Nat.le_of_ble_eq_true rfl) (by decide) ?_
  intro G2 h2
  refine r_icmp_eq (pc := 539) (tgt := 1134) dL_law_539 (by decide) (fun _ => ?_) (fun hne => absurd rfl hne)
  exact back _ _ h2 (Nat.le_add_right _ _)
theorem lc_12 (hL : L ≤ 384) (hi : i + 6 ≤ L) (h : LI g oX oM b L xs q q G) (back : ∀ q' G', LI g oX oM b L xs q' q' G' → gTd q' ≤ gTd q + 20 → LB g kc ks G' oX oM b i 1134 []) : LB g kc ks G oX oM b i 544 [] := by
  refine r_ald1 (pc := 544) dL_law_544 ?_
  refine r_arg (pc := 545) (j := 1) h hL (by omega) (by decide) dL_law_545 dL_law_546 dL_law_547 dL_law_548 dL_law_549 ?_
  refine r_arg (pc := 550) (j := 2) h hL (by omega) (by decide) dL_law_550 dL_law_551 dL_law_552 dL_law_553 dL_law_554 ?_
  refine r_lx (pc := 555) h dL_law_555 cv_L_66 (fun N P ta s hI hG => px_later hI hG) rfl rfl (Nat.le_of_ble_eq_true rfl) (by decide) ?_
  intro G1 h1
  refine r_ald2 (pc := 558) dL_law_558 ?_
  refine r_arg (pc := 559) (j := 1) h1 hL (by omega) (by decide) dL_law_559 dL_law_560 dL_law_561 dL_law_562 dL_law_563 ?_
  refine r_arg (pc := 564) (j := 2) h1 hL (by omega) (by decide) dL_law_564 dL_law_565 dL_law_566 dL_law_567 dL_law_568 ?_
  refine r_lm (pc := 569) h1 (fun z => z) dL_law_569 cv_L_69 (fun N t hS hI hG => pm_later hS hI hG) rfl rfl (Nat.le_of_ble_eq_true rfl) (by decide) ?_
  intro G2 h2
  refine r_icmp_eq (pc := 572) (tgt := 1134) dL_law_572 (by decide) (fun _ => ?_) (fun hne => absurd rfl hne)
  exact back _ _ h2 (Nat.le_add_right _ _)
theorem lc_13 (hL : L ≤ 384) (hi : i + 6 ≤ L) (h : LI g oX oM b L xs q q G) (back : ∀ q' G', LI g oX oM b L xs q' q' G' → gTd q' ≤ gTd q + 20 → LB g kc ks G' oX oM b i 1134 []) : LB g kc ks G oX oM b i 577 [] := by
  refine r_ald1 (pc := 577) dL_law_577 ?_
  refine r_arg (pc := 578) (j := 1) h hL (by omega) (by decide) dL_law_578 dL_law_579 dL_law_580 dL_law_581 dL_law_582 ?_
  refine r_arg (pc := 583) (j := 2) h hL (by omega) (by decide) dL_law_583 dL_law_584 dL_law_585 dL_law_586 dL_law_587 ?_
  refine r_arg (pc := 588) (j := 3) h hL (by omega) (by decide) dL_law_588 dL_law_589 dL_law_590 dL_law_591 dL_law_592 ?_
  refine r_lx (pc := 593) h dL_law_593 cv_L_70 (fun N P ta s hI hG => px_mind hI hG) rfl rfl (Nat.le_of_ble_eq_true rfl) (by decide) ?_
  intro G1 h1
  refine r_ald2 (pc := 596) dL_law_596 ?_
  refine r_arg (pc := 597) (j := 1) h1 hL (by omega) (by decide) dL_law_597 dL_law_598 dL_law_599 dL_law_600 dL_law_601 ?_
  refine r_arg (pc := 602) (j := 2) h1 hL (by omega) (by decide) dL_law_602 dL_law_603 dL_law_604 dL_law_605 dL_law_606 ?_
  refine r_arg (pc := 607) (j := 3) h1 hL (by omega) (by decide) dL_law_607 dL_law_608 dL_law_609 dL_law_610 dL_law_611 ?_
  refine r_lm (pc := 612) h1 (fun z => z) dL_law_612 cv_L_74 (fun N t hS hI hG => pm_mind hS hI hG) rfl rfl (Nat.le_of_ble_eq_true rfl) (by decide) ?_
  intro G2 h2
  refine r_icmp_eq (pc := 615) (tgt := 1134) dL_law_615 (by decide) (fun _ => ?_) (fun hne => absurd rfl hne)
  exact back _ _ h2 (Nat.le_add_right _ _)
theorem lc_14 (hL : L ≤ 384) (hi : i + 6 ≤ L) (h : LI g oX oM b L xs q q G) (back : ∀ q' G', LI g oX oM b L xs q' q' G' → gTd q' ≤ gTd q + 20 → LB g kc ks G' oX oM b i 1134 []) : LB g kc ks G oX oM b i 620 [] := by
  refine r_ald1 (pc := 620) dL_law_620 ?_
  refine r_arg (pc := 621) (j := 1) h hL (by omega) (by decide) dL_law_621 dL_law_622 dL_law_623 dL_law_624 dL_law_625 ?_
  refine r_lx (pc := 626) h dL_law_626 cv_L_75 (fun N P ta s hI hG => px_curtain hI hG) rfl rfl (Nat.le_of_ble_eq_true rfl) (by decide) ?_
  intro G1 h1
  refine r_ald2 (pc := 629) dL_law_629 ?_
  refine r_arg (pc := 630) (j := 1) h1 hL (by omega) (by decide) dL_law_630 dL_law_631 dL_law_632 dL_law_633 dL_law_634 ?_
  refine r_lm (pc := 635) h1 (fun z => z) dL_law_635 cv_L_78 (fun N t hS hI hG => pm_curtain hS hI hG) rfl rfl (Nat.le_of_ble_eq_true rfl) (by decide) ?_
  intro G2 h2
  refine r_icmp_eq (pc := 638) (tgt := 1134) dL_law_638 (by decide) (fun _ => ?_) (fun hne => absurd rfl hne)
  exact back _ _ h2 (Nat.le_add_right _ _)
theorem lc_15 (hL : L ≤ 384) (hi : i + 6 ≤ L) (h : LI g oX oM b L xs q q G) (back : ∀ q' G', LI g oX oM b L xs q' q' G' → gTd q' ≤ gTd q + 20 → LB g kc ks G' oX oM b i 1134 []) : LB g kc ks G oX oM b i 643 [] := by
  refine r_ald1 (pc := 643) dL_law_643 ?_
  refine r_arg (pc := 644) (j := 1) h hL (by omega) (by decide) dL_law_644 dL_law_645 dL_law_646 dL_law_647 dL_law_648 ?_
  refine r_arg (pc := 649) (j := 2) h hL (by omega) (by decide) dL_law_649 dL_law_650 dL_law_651 dL_law_652 dL_law_653 ?_
  refine r_lx (pc := 654) h dL_law_654 cv_L_79 (fun N P ta s hI hG => px_changed hI hG) rfl rfl (Nat.le_of_ble_eq_true rfl) (by decide) ?_
  intro G1 h1
  refine r_ald2 (pc := 657) dL_law_657 ?_
  refine r_arg (pc := 658) (j := 1) h1 hL (by omega) (by decide) dL_law_658 dL_law_659 dL_law_660 dL_law_661 dL_law_662 ?_
  refine r_arg (pc := 663) (j := 2) h1 hL (by omega) (by decide) dL_law_663 dL_law_664 dL_law_665 dL_law_666 dL_law_667 ?_
  refine r_lm (pc := 668) h1 (fun z => z) dL_law_668 cv_L_82 (fun N t hS hI hG => pm_changed hS hI hG) rfl rfl (Nat.le_of_ble_eq_true rfl) (by decide) ?_
  intro G2 h2
  refine r_icmp_eq (pc := 671) (tgt := 1134) dL_law_671 (by decide) (fun _ => ?_) (fun hne => absurd rfl hne)
  exact back _ _ h2 (Nat.le_add_right _ _)
theorem lc_16 (hL : L ≤ 384) (hi : i + 6 ≤ L) (h : LI g oX oM b L xs q q G) (back : ∀ q' G', LI g oX oM b L xs q' q' G' → gTd q' ≤ gTd q + 20 → LB g kc ks G' oX oM b i 1134 []) : LB g kc ks G oX oM b i 676 [] := by
  refine r_ald1 (pc := 676) dL_law_676 ?_
  refine r_arg (pc := 677) (j := 1) h hL (by omega) (by decide) dL_law_677 dL_law_678 dL_law_679 dL_law_680 dL_law_681 ?_
  refine r_arg (pc := 682) (j := 2) h hL (by omega) (by decide) dL_law_682 dL_law_683 dL_law_684 dL_law_685 dL_law_686 ?_
  refine r_arg (pc := 687) (j := 3) h hL (by omega) (by decide) dL_law_687 dL_law_688 dL_law_689 dL_law_690 dL_law_691 ?_
  refine r_arg (pc := 692) (j := 4) h hL (by omega) (by decide) dL_law_692 dL_law_693 dL_law_694 dL_law_695 dL_law_696 ?_
  refine r_lx (pc := 697) h dL_law_697 cv_L_83 (fun N P ta s hI hG => px_stranger hI hG) rfl rfl (Nat.le_of_ble_eq_true rfl) (by decide) ?_
  intro G1 h1
  refine r_ald2 (pc := 700) dL_law_700 ?_
  refine r_arg (pc := 701) (j := 1) h1 hL (by omega) (by decide) dL_law_701 dL_law_702 dL_law_703 dL_law_704 dL_law_705 ?_
  refine r_arg (pc := 706) (j := 2) h1 hL (by omega) (by decide) dL_law_706 dL_law_707 dL_law_708 dL_law_709 dL_law_710 ?_
  refine r_arg (pc := 711) (j := 3) h1 hL (by omega) (by decide) dL_law_711 dL_law_712 dL_law_713 dL_law_714 dL_law_715 ?_
  refine r_arg (pc := 716) (j := 4) h1 hL (by omega) (by decide) dL_law_716 dL_law_717 dL_law_718 dL_law_719 dL_law_720 ?_
  refine r_lm (pc := 721) h1 (fun z => z) dL_law_721 cv_L_87 (fun N t hS hI hG => pm_stranger hS hI hG) rfl rfl (Nat.le_of_ble_eq_true rfl) (by decide) ?_
  intro G2 h2
  refine r_icmp_eq (pc := 724) (tgt := 1134) dL_law_724 (by decide) (fun _ => ?_) (fun hne => absurd rfl hne)
  exact back _ _ h2 (Nat.le_add_right _ _)
theorem lc_17 (hL : L ≤ 384) (hi : i + 6 ≤ L) (h : LI g oX oM b L xs q q G) (back : ∀ q' G', LI g oX oM b L xs q' q' G' → gTd q' ≤ gTd q + 20 → LB g kc ks G' oX oM b i 1134 []) : LB g kc ks G oX oM b i 729 [] := by
  refine r_ald1 (pc := 729) dL_law_729 ?_
  refine r_lx (pc := 730) h dL_law_730 cv_L_88 (fun N P ta s hI hG => px_parted hI hG) rfl rfl (Nat.le_of_ble_eq_true rfl) (by decide) ?_
  intro G1 h1
  refine r_ald2 (pc := 733) dL_law_733 ?_
  refine r_lm (pc := 734) h1 (fun z => z) dL_law_734 cv_L_91 (fun N t hS hI hG => pm_parted hS hI hG) rfl rfl (Nat.le_of_ble_eq_true rfl) (by decide) ?_
  intro G2 h2
  refine r_icmp_eq (pc := 737) (tgt := 1134) dL_law_737 (by decide) (fun _ => ?_) (fun hne => absurd rfl hne)
  exact back _ _ h2 (Nat.le_add_right _ _)
theorem lc_18 (hL : L ≤ 384) (hi : i + 6 ≤ L) (h : LI g oX oM b L xs q q G) (back : ∀ q' G', LI g oX oM b L xs q' q' G' → gTd q' ≤ gTd q + 20 → LB g kc ks G' oX oM b i 1134 []) : LB g kc ks G oX oM b i 742 [] := by
  refine r_ald1 (pc := 742) dL_law_742 ?_
  refine r_arg (pc := 743) (j := 1) h hL (by omega) (by decide) dL_law_743 dL_law_744 dL_law_745 dL_law_746 dL_law_747 ?_
  refine r_lx (pc := 748) h dL_law_748 cv_L_92 (fun N P ta s hI hG => px_rest hI hG) rfl rfl (Nat.le_of_ble_eq_true rfl) (by decide) ?_
  intro G1 h1
  refine r_ald2 (pc := 751) dL_law_751 ?_
  refine r_arg (pc := 752) (j := 1) h1 hL (by omega) (by decide) dL_law_752 dL_law_753 dL_law_754 dL_law_755 dL_law_756 ?_
  refine r_lm (pc := 757) h1 (fun z => z) dL_law_757 cv_L_95 (fun N t hS hI hG => pm_rest hS hI hG) rfl rfl (Nat.le_of_ble_eq_true rfl) (by decide) ?_
  intro G2 h2
  refine r_icmp_eq (pc := 760) (tgt := 1134) dL_law_760 (by decide) (fun _ => ?_) (fun hne => absurd rfl hne)
  exact back _ _ h2 (Nat.le_add_right _ _)
theorem lc_19 (hL : L ≤ 384) (hi : i + 6 ≤ L) (h : LI g oX oM b L xs q q G) (back : ∀ q' G', LI g oX oM b L xs q' q' G' → gTd q' ≤ gTd q + 20 → LB g kc ks G' oX oM b i 1134 []) : LB g kc ks G oX oM b i 765 [] := by
  refine r_ald1 (pc := 765) dL_law_765 ?_
  refine r_lx (pc := 766) h dL_law_766 cv_L_96 (fun N P ta s hI hG => px_see hI hG) rfl rfl (Nat.le_of_ble_eq_true rfl) (by decide) ?_
  intro G1 h1
  refine r_ald2 (pc := 769) dL_law_769 ?_
  refine r_lm (pc := 770) h1 (fun z => GI_see z) dL_law_770 cv_L_99 (fun N t hS hI hG => pm_see hS hI hG) rfl rfl (Nat.le_of_ble_eq_true rfl) (by decide) ?_
  intro G2 h2
  refine r_icmp_eq (pc := 773) (tgt := 1134) dL_law_773 (by decide) (fun _ => ?_) (fun hne => absurd rfl hne)
  exact back _ _ h2 td_see
theorem lc_20 (hL : L ≤ 384) (hi : i + 6 ≤ L) (h : LI g oX oM b L xs q q G) (back : ∀ q' G', LI g oX oM b L xs q' q' G' → gTd q' ≤ gTd q + 20 → LB g kc ks G' oX oM b i 1134 []) : LB g kc ks G oX oM b i 778 [] := by
  refine r_ald1 (pc := 778) dL_law_778 ?_
  refine r_arg (pc := 779) (j := 1) h hL (by omega) (by decide) dL_law_779 dL_law_780 dL_law_781 dL_law_782 dL_law_783 ?_
  refine r_arg (pc := 784) (j := 2) h hL (by omega) (by decide) dL_law_784 dL_law_785 dL_law_786 dL_law_787 dL_law_788 ?_
  refine r_lx (pc := 789) h dL_law_789 cv_L_100 (fun N P ta s hI hG => px_thoughts hI hG) rfl rfl (Nat.le_of_ble_eq_true rfl) (by decide) ?_
  intro G1 h1
  refine r_ald2 (pc := 792) dL_law_792 ?_
  refine r_arg (pc := 793) (j := 1) h1 hL (by omega) (by decide) dL_law_793 dL_law_794 dL_law_795 dL_law_796 dL_law_797 ?_
  refine r_arg (pc := 798) (j := 2) h1 hL (by omega) (by decide) dL_law_798 dL_law_799 dL_law_800 dL_law_801 dL_law_802 ?_
  refine r_lm (pc := 803) h1 (fun z => z) dL_law_803 cv_L_103 (fun N t hS hI hG => pm_thoughts hS hI hG) rfl rfl (Nat.le_of_ble_eq_true rfl) (by decide) ?_
  intro G2 h2
  refine r_icmp_eq (pc := 806) (tgt := 1134) dL_law_806 (by decide) (fun _ => ?_) (fun hne => absurd rfl hne)
  exact back _ _ h2 (Nat.le_add_right _ _)
theorem lc_21 (hL : L ≤ 384) (hi : i + 6 ≤ L) (h : LI g oX oM b L xs q q G) (back : ∀ q' G', LI g oX oM b L xs q' q' G' → gTd q' ≤ gTd q + 20 → LB g kc ks G' oX oM b i 1134 []) : LB g kc ks G oX oM b i 811 [] := by
  refine r_ald1 (pc := 811) dL_law_811 ?_
  refine r_arg (pc := 812) (j := 1) h hL (by omega) (by decide) dL_law_812 dL_law_813 dL_law_814 dL_law_815 dL_law_816 ?_
  refine r_lx (pc := 817) h dL_law_817 cv_L_104 (fun N P ta s hI hG => px_faces hI hG) rfl rfl (Nat.le_of_ble_eq_true rfl) (by decide) ?_
  intro G1 h1
  refine r_ald2 (pc := 820) dL_law_820 ?_
  refine r_arg (pc := 821) (j := 1) h1 hL (by omega) (by decide) dL_law_821 dL_law_822 dL_law_823 dL_law_824 dL_law_825 ?_
  refine r_lm (pc := 826) h1 (fun z => z) dL_law_826 cv_L_107 (fun N t hS hI hG => pm_faces hS hI hG) rfl rfl (Nat.le_of_ble_eq_true rfl) (by decide) ?_
  intro G2 h2
  refine r_icmp_eq (pc := 829) (tgt := 1134) dL_law_829 (by decide) (fun _ => ?_) (fun hne => absurd rfl hne)
  exact back _ _ h2 (Nat.le_add_right _ _)
theorem lc_22 (hL : L ≤ 384) (hi : i + 6 ≤ L) (h : LI g oX oM b L xs q q G) (back : ∀ q' G', LI g oX oM b L xs q' q' G' → gTd q' ≤ gTd q + 20 → LB g kc ks G' oX oM b i 1134 []) : LB g kc ks G oX oM b i 834 [] := by
  refine r_ald1 (pc := 834) dL_law_834 ?_
  refine r_arg (pc := 835) (j := 1) h hL (by omega) (by decide) dL_law_835 dL_law_836 dL_law_837 dL_law_838 dL_law_839 ?_
  refine r_arg (pc := 840) (j := 2) h hL (by omega) (by decide) dL_law_840 dL_law_841 dL_law_842 dL_law_843 dL_law_844 ?_
  refine r_arg (pc := 845) (j := 3) h hL (by omega) (by decide) dL_law_845 dL_law_846 dL_law_847 dL_law_848 dL_law_849 ?_
  refine r_lx (pc := 850) h dL_law_850 cv_L_108 (fun N P ta s hI hG => px_tells hI hG) rfl rfl (Nat.le_of_ble_eq_true rfl) (by decide) ?_
  intro G1 h1
  refine r_ald2 (pc := 853) dL_law_853 ?_
  refine r_arg (pc := 854) (j := 1) h1 hL (by omega) (by decide) dL_law_854 dL_law_855 dL_law_856 dL_law_857 dL_law_858 ?_
  refine r_arg (pc := 859) (j := 2) h1 hL (by omega) (by decide) dL_law_859 dL_law_860 dL_law_861 dL_law_862 dL_law_863 ?_
  refine r_arg (pc := 864) (j := 3) h1 hL (by omega) (by decide) dL_law_864 dL_law_865 dL_law_866 dL_law_867 dL_law_868 ?_
  refine r_lm (pc := 869) h1 (fun z => z) dL_law_869 cv_L_111 (fun N t hS hI hG => pm_tells hS hI hG) rfl rfl (Nat.le_of_ble_eq_true rfl) (by decide) ?_
  intro G2 h2
  refine r_icmp_eq (pc := 872) (tgt := 1134) dL_law_872 (by decide) (fun _ => ?_) (fun hne => absurd rfl hne)
  exact back _ _ h2 (Nat.le_add_right _ _)
theorem lc_23 (hL : L ≤ 384) (hi : i + 6 ≤ L) (h : LI g oX oM b L xs q q G) (back : ∀ q' G', LI g oX oM b L xs q' q' G' → gTd q' ≤ gTd q + 20 → LB g kc ks G' oX oM b i 1134 []) : LB g kc ks G oX oM b i 877 [] := by
  refine r_ald1 (pc := 877) dL_law_877 ?_
  refine r_arg (pc := 878) (j := 1) h hL (by omega) (by decide) dL_law_878 dL_law_879 dL_law_880 dL_law_881 dL_law_882 ?_
  refine r_arg (pc := 883) (j := 2) h hL (by omega) (by decide) dL_law_883 dL_law_884 dL_law_885 dL_law_886 dL_law_887 ?_
  refine r_lx (pc := 888) h dL_law_888 cv_L_112 (fun N P ta s hI hG => px_change hI hG hG.keep) rfl rfl (Nat.le_of_ble_eq_true rfl) (by decide) ?_
  intro G1 h1
  refine r_ald2 (pc := 891) dL_law_891 ?_
  refine r_arg (pc := 892) (j := 1) h1 hL (by omega) (by decide) dL_law_892 dL_law_893 dL_law_894 dL_law_895 dL_law_896 ?_
  refine r_arg (pc := 897) (j := 2) h1 hL (by omega) (by decide) dL_law_897 dL_law_898 dL_law_899 dL_law_900 dL_law_901 ?_
  refine r_lm (pc := 902) h1 (fun z => GI_change z) dL_law_902 cv_L_116 (fun N t hS hI hG => pm_change hS hI hG) rfl rfl (Nat.le_of_ble_eq_true rfl) (by decide) ?_
  intro G2 h2
  refine r_icmp_eq (pc := 905) (tgt := 1134) dL_law_905 (by decide) (fun _ => ?_) (fun hne => absurd rfl hne)
  exact back _ _ h2 td_change
theorem lc_24 (hL : L ≤ 384) (hi : i + 6 ≤ L) (h : LI g oX oM b L xs q q G) (back : ∀ q' G', LI g oX oM b L xs q' q' G' → gTd q' ≤ gTd q + 20 → LB g kc ks G' oX oM b i 1134 []) : LB g kc ks G oX oM b i 910 [] := by
  refine r_ald1 (pc := 910) dL_law_910 ?_
  refine r_arg (pc := 911) (j := 1) h hL (by omega) (by decide) dL_law_911 dL_law_912 dL_law_913 dL_law_914 dL_law_915 ?_
  refine r_lx (pc := 916) h dL_law_916 cv_L_117 (fun N P ta s hI hG => px_right hI hG hG.keep) rfl rfl (Nat.le_of_ble_eq_true rfl) (by decide) ?_
  intro G1 h1
  refine r_ald2 (pc := 919) dL_law_919 ?_
  refine r_arg (pc := 920) (j := 1) h1 hL (by omega) (by decide) dL_law_920 dL_law_921 dL_law_922 dL_law_923 dL_law_924 ?_
  refine r_lm (pc := 925) h1 (fun z => GI_right z) dL_law_925 cv_L_120 (fun N t hS hI hG => pm_right hS hI hG) rfl rfl (Nat.le_of_ble_eq_true rfl) (by decide) ?_
  intro G2 h2
  refine r_icmp_eq (pc := 928) (tgt := 1134) dL_law_928 (by decide) (fun _ => ?_) (fun hne => absurd rfl hne)
  exact back _ _ h2 td_right
theorem lc_25 (hL : L ≤ 384) (hi : i + 6 ≤ L) (h : LI g oX oM b L xs q q G) (back : ∀ q' G', LI g oX oM b L xs q' q' G' → gTd q' ≤ gTd q + 20 → LB g kc ks G' oX oM b i 1134 []) : LB g kc ks G oX oM b i 933 [] := by
  refine r_ald1 (pc := 933) dL_law_933 ?_
  refine r_arg (pc := 934) (j := 1) h hL (by omega) (by decide) dL_law_934 dL_law_935 dL_law_936 dL_law_937 dL_law_938 ?_
  refine r_arg (pc := 939) (j := 2) h hL (by omega) (by decide) dL_law_939 dL_law_940 dL_law_941 dL_law_942 dL_law_943 ?_
  refine r_lx (pc := 944) h dL_law_944 cv_L_121 (fun N P ta s hI hG => px_spare hI hG hG.keep) rfl rfl (Nat.le_of_ble_eq_true rfl) (by decide) ?_
  intro G1 h1
  refine r_ald2 (pc := 947) dL_law_947 ?_
  refine r_arg (pc := 948) (j := 1) h1 hL (by omega) (by decide) dL_law_948 dL_law_949 dL_law_950 dL_law_951 dL_law_952 ?_
  refine r_arg (pc := 953) (j := 2) h1 hL (by omega) (by decide) dL_law_953 dL_law_954 dL_law_955 dL_law_956 dL_law_957 ?_
  refine r_lm (pc := 958) h1 (fun z => GI_spare z) dL_law_958 cv_L_124 (fun N t hS hI hG => pm_spare hS hI hG) rfl rfl (Nat.le_of_ble_eq_true rfl) (by decide) ?_
  intro G2 h2
  refine r_icmp_eq (pc := 961) (tgt := 1134) dL_law_961 (by decide) (fun _ => ?_) (fun hne => absurd rfl hne)
  exact back _ _ h2 td_spare
theorem lc_26 (hL : L ≤ 384) (hi : i + 6 ≤ L) (h : LI g oX oM b L xs q q G) (back : ∀ q' G', LI g oX oM b L xs q' q' G' → gTd q' ≤ gTd q + 20 → LB g kc ks G' oX oM b i 1134 []) : LB g kc ks G oX oM b i 966 [] := by
  refine r_ald1 (pc := 966) dL_law_966 ?_
  refine r_arg (pc := 967) (j := 1) h hL (by omega) (by decide) dL_law_967 dL_law_968 dL_law_969 dL_law_970 dL_law_971 ?_
  refine r_lx (pc := 972) h dL_law_972 cv_L_125 (fun N P ta s hI hG => px_years hI hG hG.keep) rfl rfl (Nat.le_of_ble_eq_true rfl) (by decide) ?_
  intro G1 h1
  refine r_ald2 (pc := 975) dL_law_975 ?_
  refine r_arg (pc := 976) (j := 1) h1 hL (by omega) (by decide) dL_law_976 dL_law_977 dL_law_978 dL_law_979 dL_law_980 ?_
  refine r_lm (pc := 981) h1 (fun z => GI_years z) dL_law_981 cv_L_128 (fun N t hS hI hG => pm_years hS hI hG) rfl rfl (Nat.le_of_ble_eq_true rfl) (by decide) ?_
  intro G2 h2
  refine r_icmp_eq (pc := 984) (tgt := 1134) dL_law_984 (by decide) (fun _ => ?_) (fun hne => absurd rfl hne)
  exact back _ _ h2 td_years
theorem lc_27 (hL : L ≤ 384) (hi : i + 6 ≤ L) (h : LI g oX oM b L xs q q G) (back : ∀ q' G', LI g oX oM b L xs q' q' G' → gTd q' ≤ gTd q + 20 → LB g kc ks G' oX oM b i 1134 []) : LB g kc ks G oX oM b i 989 [] := by
  refine r_ald1 (pc := 989) dL_law_989 ?_
  refine r_arg (pc := 990) (j := 1) h hL (by omega) (by decide) dL_law_990 dL_law_991 dL_law_992 dL_law_993 dL_law_994 ?_
  refine r_lx (pc := 995) h dL_law_995 cv_L_129 (fun N P ta s hI hG => px_chance hI hG hG.keep) rfl rfl (Nat.le_of_ble_eq_true rfl) (by decide) ?_
  intro G1 h1
  refine r_ald2 (pc := 998) dL_law_998 ?_
  refine r_arg (pc := 999) (j := 1) h1 hL (by omega) (by decide) dL_law_999 dL_law_1000 dL_law_1001 dL_law_1002 dL_law_1003 ?_
  refine r_lm (pc := 1004) h1 (fun z => GI_chance z) dL_law_1004 cv_L_132 (fun N t hS hI hG => pm_chance hS hI hG) rfl rfl (Nat.le_of_ble_eq_true rfl) (by decide) ?_
  intro G2 h2
  refine r_icmp_eq (pc := 1007) (tgt := 1134) dL_law_1007 (by decide) (fun _ => ?_) (fun hne => absurd rfl hne)
  exact back _ _ h2 td_chance
theorem lc_28 (hL : L ≤ 384) (hi : i + 6 ≤ L) (h : LI g oX oM b L xs q q G) (back : ∀ q' G', LI g oX oM b L xs q' q' G' → gTd q' ≤ gTd q + 20 → LB g kc ks G' oX oM b i 1134 []) : LB g kc ks G oX oM b i 1012 [] := by
  refine r_ald1 (pc := 1012) dL_law_1012 ?_
  refine r_lx (pc := 1013) h dL_law_1013 cv_L_133 (fun N P ta s hI hG => px_undo hI hG) rfl rfl (Nat.le_of_ble_eq_true rfl) (by decide) ?_
  intro G1 h1
  refine r_ald2 (pc := 1016) dL_law_1016 ?_
  refine r_lm (pc := 1017) h1 (fun z => GI_undo z) dL_law_1017 cv_L_137 (fun N t hS hI hG => pm_undo hS hI hG) rfl rfl (Nat.le_of_ble_eq_true rfl) (by decide) ?_
  intro G2 h2
  refine r_icmp_eq (pc := 1020) (tgt := 1134) dL_law_1020 (by decide) (fun _ => ?_) (fun hne => absurd rfl hne)
  exact back _ _ h2 td_undo
theorem lc_29 (hL : L ≤ 384) (hi : i + 6 ≤ L) (h : LI g oX oM b L xs q q G) (back : ∀ q' G', LI g oX oM b L xs q' q' G' → gTd q' ≤ gTd q + 20 → LB g kc ks G' oX oM b i 1134 []) : LB g kc ks G oX oM b i 1025 [] := by
  refine r_ald1 (pc := 1025) dL_law_1025 ?_
  refine r_arg (pc := 1026) (j := 1) h hL (by omega) (by decide) dL_law_1026 dL_law_1027 dL_law_1028 dL_law_1029 dL_law_1030 ?_
  refine r_lx (pc := 1031) h dL_law_1031 cv_L_138 (fun N P ta s hI hG => px_seed hI hG) rfl rfl (Nat.le_of_ble_eq_true rfl) (by decide) ?_
  intro G1 h1
  refine r_ald2 (pc := 1034) dL_law_1034 ?_
  refine r_arg (pc := 1035) (j := 1) h1 hL (by omega) (by decide) dL_law_1035 dL_law_1036 dL_law_1037 dL_law_1038 dL_law_1039 ?_
  refine r_lm (pc := 1040) h1 (fun z => GI_seed z) dL_law_1040 cv_L_141 (fun N t hS hI hG => pm_seed hS hI) rfl rfl (Nat.le_of_ble_eq_true rfl) (by decide) ?_
  intro G2 h2
  refine r_icmp_eq (pc := 1043) (tgt := 1134) dL_law_1043 (by decide) (fun _ => ?_) (fun hne => absurd rfl hne)
  exact back _ _ h2 td_seed
theorem lc_30 (hL : L ≤ 384) (hi : i + 6 ≤ L) (h : LI g oX oM b L xs q q G) (hn : gTd q ≤ 1280) (hNM : ∃ mi, NM g "[Ljava/lang/Object;" mi) {kc' ks' : Nat} (hk : kc' + (60 * gTd q + 110) ≤ kc) (hs : ks' + (4000 * gTd q + 16000) ≤ ks) (back : ∀ q' G', LI g oX oM b L xs q' q' G' → gTd q' = 0 → LB g kc' ks' G' oX oM b i 1134 []) : LB g kc ks G oX oM b i 1048 [] := by
  refine r_ald1 (pc := 1048) dL_law_1048 ?_
  refine r_lxW (pc := 1049) (kc' := kc') (ks' := ks') h dL_law_1049 cvw_L_142 (fun N P ta s hI hG hPz hTx hWs => px_ask hI hG hPz hn hNM hTx hWs) rfl rfl (Nat.le_of_ble_eq_true rfl) (by decide) hk hs ?_
  intro G1 h1
  refine r_ald2 (pc := 1052) dL_law_1052 ?_
  refine r_lm (pc := 1053) h1 (fun z => GI_ask z) dL_law_1053 cv_L_146 (fun N t hS hI hG => pm_ask hS hI hG) rfl rfl (Nat.le_of_ble_eq_true rfl) (by decide) ?_
  intro G2 h2
  refine r_lcmp (pc := 1056) dL_law_1056 ?_
  refine r_if_eq (pc := 1057) (tgt := 1134) dL_law_1057 (by decide) (fun _ => ?_) (fun hne => absurd (lg_cmp_self _) hne)
  exact back _ _ h2 td_ask
theorem lc_31 (hL : L ≤ 384) (hi : i + 6 ≤ L) (h : LI g oX oM b L xs q q G) (back : ∀ q' G', LI g oX oM b L xs q' q' G' → gTd q' ≤ gTd q + 20 → LB g kc ks G' oX oM b i 1134 []) : LB g kc ks G oX oM b i 1062 [] := by
  refine r_ald1 (pc := 1062) dL_law_1062 ?_
  refine r_lx (pc := 1063) h dL_law_1063 cv_L_147 (fun N P ta s hI hG => px_image hI hG) rfl rfl (Nat.le_of_ble_eq_true rfl) (by decide) ?_
  intro G1 h1
  refine r_ald2 (pc := 1066) dL_law_1066 ?_
  refine r_lm (pc := 1067) h1 (fun z => GI_image z) dL_law_1067 cv_L_150 (fun N t hS hI hG => pm_image hS hI hG) rfl rfl (Nat.le_of_ble_eq_true rfl) (by decide) ?_
  intro G2 h2
  refine r_icmp_eq (pc := 1070) (tgt := 1134) dL_law_1070 (by decide) (fun _ => ?_) (fun hne => absurd rfl hne)
  exact back _ _ h2 td_image
theorem lc_32 (hL : L ≤ 384) (hi : i + 6 ≤ L) (h : LI g oX oM b L xs q q G) (back : ∀ q' G', LI g oX oM b L xs q' q' G' → gTd q' ≤ gTd q + 20 → LB g kc ks G' oX oM b i 1134 []) : LB g kc ks G oX oM b i 1075 [] := by
  refine r_ald1 (pc := 1075) dL_law_1075 ?_
  refine r_arg (pc := 1076) (j := 1) h hL (by omega) (by decide) dL_law_1076 dL_law_1077 dL_law_1078 dL_law_1079 dL_law_1080 ?_
  refine r_lx (pc := 1081) h dL_law_1081 cv_L_151 (fun N P ta s hI hG => px_octet hI hG) rfl rfl (Nat.le_of_ble_eq_true rfl) (by decide) ?_
  intro G1 h1
  refine r_ald2 (pc := 1084) dL_law_1084 ?_
  refine r_arg (pc := 1085) (j := 1) h1 hL (by omega) (by decide) dL_law_1085 dL_law_1086 dL_law_1087 dL_law_1088 dL_law_1089 ?_
  refine r_lm (pc := 1090) h1 (fun z => z) dL_law_1090 cv_L_154 (fun N t hS hI hG => pm_octet hS hI hG) rfl rfl (Nat.le_of_ble_eq_true rfl) (by decide) ?_
  intro G2 h2
  refine r_icmp_eq (pc := 1093) (tgt := 1134) dL_law_1093 (by decide) (fun _ => ?_) (fun hne => absurd rfl hne)
  exact back _ _ h2 (Nat.le_add_right _ _)
theorem lc_33 (hL : L ≤ 384) (hi : i + 6 ≤ L) (h : LI g oX oM b L xs q q G) (back : ∀ q' G', LI g oX oM b L xs q' q' G' → gTd q' ≤ gTd q + 20 → LB g kc ks G' oX oM b i 1134 []) : LB g kc ks G oX oM b i 1098 [] := by
  refine r_ald1 (pc := 1098) dL_law_1098 ?_
  refine r_lx (pc := 1099) h dL_law_1099 cv_L_155 (fun N P ta s hI hG => px_on hI hG) rfl rfl (Nat.le_of_ble_eq_true rfl) (by decide) ?_
  intro G1 h1
  refine r_ald2 (pc := 1102) dL_law_1102 ?_
  refine r_lm (pc := 1103) h1 (fun z => GI_on z) dL_law_1103 cv_L_158 (fun N t hS hI hG => pm_on hS hI hG) rfl rfl (Nat.le_of_ble_eq_true rfl) (by decide) ?_
  intro G2 h2
  refine r_icmp_eq (pc := 1106) (tgt := 1134) dL_law_1106 (by decide) (fun _ => ?_) (fun hne => absurd rfl hne)
  exact back _ _ h2 td_on
theorem lc_34 (hL : L ≤ 384) (hi : i + 6 ≤ L) (h : LI g oX oM b L xs q q G) (back : ∀ q' G', LI g oX oM b L xs q' q' G' → gTd q' ≤ gTd q + 20 → LB g kc ks G' oX oM b i 1134 []) : LB g kc ks G oX oM b i 1111 [] := by
  refine r_ald1 (pc := 1111) dL_law_1111 ?_
  refine r_arg (pc := 1112) (j := 1) h hL (by omega) (by decide) dL_law_1112 dL_law_1113 dL_law_1114 dL_law_1115 dL_law_1116 ?_
  refine r_lx (pc := 1117) h dL_law_1117 cv_L_159 (fun N P ta s hI hG => px_status hI hG) rfl rfl (Nat.le_of_ble_eq_true rfl) (by decide) ?_
  intro G1 h1
  refine r_ald2 (pc := 1120) dL_law_1120 ?_
  refine r_arg (pc := 1121) (j := 1) h1 hL (by omega) (by decide) dL_law_1121 dL_law_1122 dL_law_1123 dL_law_1124 dL_law_1125 ?_
  refine r_lm (pc := 1126) h1 (fun z => z) dL_law_1126 cv_L_162 (fun N t hS hI hG => pm_status hS hI) rfl rfl (Nat.le_of_ble_eq_true rfl) (by decide) ?_
  intro G2 h2
  refine r_icmp_eq (pc := 1129) (tgt := 1134) dL_law_1129 (by decide) (fun _ => ?_) (fun hne => absurd rfl hne)
  exact back _ _ h2 (Nat.le_add_right _ _)
end X109
