/-! THE LAW, 6: its cases -/
set_option maxRecDepth 100000
set_option maxHeartbeats 2000000 in
theorem k_append {g : GZ} {z : ZX} {mc ms k n : Nat} {A : HA} (C : CX g z cL_law RX0 9 1734 mc ms) (K : LwG g) {b Ls c t o i : Nat} {xs : Nat → Int32} (S : Scr g b Ls xs) (hP : LwP g c t o A) (hi : i + 6 ≤ Ls) (hk : k + 34340 ≤ mc) (hs : n + 154700 ≤ ms) (hcont : ∀ (k' n' : Nat) (D : HA), k' ≤ k + 34340 → n' ≤ n + 154700 → LwP g c t o D → wa g z k' n' D 2678 [some (.ref b), some (.ref c), some (.ref t), some (.ref o), some (.int (nI i)), none, none, none, none] []) : wa g z k n A 240 [some (.ref b), some (.ref c), some (.ref t), some (.ref o), some (.int (nI i)), none, none, none, none] [] := by
  have hL4 := S.2.2
  refine r_Z fun hZ0 => ?_
  refine r_Zo fun hZo0 => ?_
  refine r_old fun ho0 => ?_
  refine r_aload_1 (pc := 240) C dL_law_240 ?_
  refine r_aload_0 (pc := 241) C dL_law_241 ?_
  refine r_iload_4 (pc := 242) C dL_law_242 ?_
  refine r_iconst (pc := 244) C dL_law_244 ci_1 ?_
  refine r_iadd (pc := 245) C dL_law_245 ?_
  refine r_top (nI_add _ _) ?_
  refine r_scr (pc := 246) C S rfl (by omega) dL_law_246 ?_
  refine r_aload_0 (pc := 247) C dL_law_247 ?_
  refine r_iload_4 (pc := 248) C dL_law_248 ?_
  refine r_iconst (pc := 250) C dL_law_250 ci_2 ?_
  refine r_iadd (pc := 251) C dL_law_251 ?_
  refine r_top (nI_add _ _) ?_
  refine r_scr (pc := 252) C S rfl (by omega) dL_law_252 ?_
  refine r_aload_0 (pc := 253) C dL_law_253 ?_
  refine r_iload_4 (pc := 254) C dL_law_254 ?_
  refine r_iconst (pc := 256) C dL_law_256 ci_3 ?_
  refine r_iadd (pc := 257) C dL_law_257 ?_
  refine r_top (nI_add _ _) ?_
  refine r_scr (pc := 258) C S rfl (by omega) dL_law_258 ?_
  refine r_aload_0 (pc := 259) C dL_law_259 ?_
  refine r_iload_4 (pc := 260) C dL_law_260 ?_
  refine r_iconst (pc := 262) C dL_law_262 ci_4 ?_
  refine r_iadd (pc := 263) C dL_law_263 ?_
  refine r_top (nI_add _ _) ?_
  refine r_scr (pc := 264) C S rfl (by omega) dL_law_264 ?_
  refine r_aload_0 (pc := 265) C dL_law_265 ?_
  refine r_iload_4 (pc := 266) C dL_law_266 ?_
  refine r_iconst (pc := 268) C dL_law_268 ci_5 ?_
  refine r_iadd (pc := 269) C dL_law_269 ?_
  refine r_top (nI_add _ _) ?_
  refine r_scr (pc := 270) C S rfl (by omega) dL_law_270 ?_
  refine r_aload_3 (pc := 271) C dL_law_271 ?_
  refine r_SH7i (pc := 272) C (lw_append K hP hZ0 hZo0 ho0) sl_X0_125 (by decide) (by omega) (by omega) (Nat.le_of_ble_eq_true rfl) rfl dL_law_272 (fun u1 B1 hc1 => ?_)
  obtain ⟨q, hu, hq2, hL, ht6, hT⟩ := hc1
  refine r_top hu ?_
  refine r_Z fun hZ1 => ?_
  refine r_Zo fun hZo1 => ?_
  refine r_old fun ho1 => ?_
  refine r_istore_5 (pc := 275) C dL_law_275 rfl ?_
  refine r_aload_2 (pc := 277) C dL_law_277 ?_
  refine r_aload_0 (pc := 278) C dL_law_278 ?_
  refine r_iload_4 (pc := 279) C dL_law_279 ?_
  refine r_iconst (pc := 281) C dL_law_281 ci_1 ?_
  refine r_iadd (pc := 282) C dL_law_282 ?_
  refine r_top (nI_add _ _) ?_
  refine r_scr (pc := 283) C S rfl (by omega) dL_law_283 ?_
  refine r_aload_0 (pc := 284) C dL_law_284 ?_
  refine r_iload_4 (pc := 285) C dL_law_285 ?_
  refine r_iconst (pc := 287) C dL_law_287 ci_2 ?_
  refine r_iadd (pc := 288) C dL_law_288 ?_
  refine r_top (nI_add _ _) ?_
  refine r_scr (pc := 289) C S rfl (by omega) dL_law_289 ?_
  refine r_aload_0 (pc := 290) C dL_law_290 ?_
  refine r_iload_4 (pc := 291) C dL_law_291 ?_
  refine r_iconst (pc := 293) C dL_law_293 ci_3 ?_
  refine r_iadd (pc := 294) C dL_law_294 ?_
  refine r_top (nI_add _ _) ?_
  refine r_scr (pc := 295) C S rfl (by omega) dL_law_295 ?_
  refine r_aload_0 (pc := 296) C dL_law_296 ?_
  refine r_iload_4 (pc := 297) C dL_law_297 ?_
  refine r_iconst (pc := 299) C dL_law_299 ci_4 ?_
  refine r_iadd (pc := 300) C dL_law_300 ?_
  refine r_top (nI_add _ _) ?_
  refine r_scr (pc := 301) C S rfl (by omega) dL_law_301 ?_
  refine r_aload_0 (pc := 302) C dL_law_302 ?_
  refine r_iload_4 (pc := 303) C dL_law_303 ?_
  refine r_iconst (pc := 305) C dL_law_305 ci_5 ?_
  refine r_iadd (pc := 306) C dL_law_306 ?_
  refine r_top (nI_add _ _) ?_
  refine r_scr (pc := 307) C S rfl (by omega) dL_law_307 ?_
  refine r_V5io (pc := 308) C (hT hZ1 hZo1 ho1) vl_X0_130 ht6 (by decide) (by omega) (by omega) (Nat.le_of_ble_eq_true rfl) rfl dL_law_308 (fun u2 D hc2 => ?_)
  obtain ⟨hv, h6, hLo, hP2⟩ := hc2
  refine r_istore_6 (pc := 311) C dL_law_311 rfl ?_
  refine r_aload_2 (pc := 313) C dL_law_313 ?_
  refine r_V0io (pc := 314) C (m_thrown hP2.tw) vl_X0_131 (tw_g hP2.tw) (by decide) (by omega) (by omega) (Nat.le_of_ble_eq_true rfl) rfl dL_law_314 (fun u3 A3 hc3 => ?_)
  refine r_top (hc3.1.trans h6) ?_
  refine r_eqA hc3.2 ?_
  clear hc3 A3 u3
  refine r_iload_5 (pc := 317) C dL_law_317 ?_
  refine r_icmp_eq (pc := 319) (tgt := 324) C dL_law_319 (by decide) (fun _ => ?_) (fun h9 => absurd rfl h9)
  refine r_iload_5 (pc := 324) C dL_law_324 ?_
  refine r_if_ne (pc := 326) (tgt := 341) C dL_law_326 (by decide) (fun _ => ?_) (fun h9 => ?_)
  · skip
    refine r_goto (pc := 341) (tgt := 2678) C dL_law_341 (by decide) ?_
    refine r_forget (lv' := [some _, some _, some _, some _, some _, none, none, none, none]) ⟨rfl, rfl, rfl, rfl, rfl, trivial⟩ ?_
    exact hcont _ _ _ (by omega) (by omega) hP2
  · have hq0 : q.1 = 0 := (nI_eq0 (by omega)).mp h9
    refine r_aload_3 (pc := 329) C dL_law_329 ?_
    refine r_iconst (pc := 330) C dL_law_330 ci_0 ?_
    refine r_lald (pc := 331) (j := 0) C hP2.ko.1 rfl rfl (by rw [hP2.ko.2]; exact Nat.one_pos) (by decide) dL_law_331 ?_
    refine r_iload_6 (pc := 332) C dL_law_332 ?_
    have eL : D.L o 0 = u2.toInt64 := by rw [hv hq0, hLo]; exact hL hq0
    refine r_i2l (pc := 334) C dL_law_334 ?_
    refine r_lcmp (pc := 335) C dL_law_335 ?_
    refine r_top ((lg_eq0 _ _).mpr eL) ?_
    refine r_if_eq (pc := 336) (tgt := 341) C dL_law_336 (by decide) (fun _ => ?_) (fun h9 => absurd rfl h9)
    refine r_goto (pc := 341) (tgt := 2678) C dL_law_341 (by decide) ?_
    refine r_forget (lv' := [some _, some _, some _, some _, some _, none, none, none, none]) ⟨rfl, rfl, rfl, rfl, rfl, trivial⟩ ?_
    exact hcont _ _ _ (by omega) (by omega) hP2
set_option maxHeartbeats 2000000 in
theorem k_truncate {g : GZ} {z : ZX} {mc ms k n : Nat} {A : HA} (C : CX g z cL_law RX0 9 1734 mc ms) (K : LwG g) {b Ls c t o i : Nat} {xs : Nat → Int32} (S : Scr g b Ls xs) (hP : LwP g c t o A) (hi : i + 6 ≤ Ls) (hk : k + 34340 ≤ mc) (hs : n + 154700 ≤ ms) (hcont : ∀ (k' n' : Nat) (D : HA), k' ≤ k + 34340 → n' ≤ n + 154700 → LwP g c t o D → wa g z k' n' D 2678 [some (.ref b), some (.ref c), some (.ref t), some (.ref o), some (.int (nI i)), none, none, none, none] []) : wa g z k n A 344 [some (.ref b), some (.ref c), some (.ref t), some (.ref o), some (.int (nI i)), none, none, none, none] [] := by
  have hL4 := S.2.2
  refine r_Z fun hZ0 => ?_
  refine r_Zo fun hZo0 => ?_
  refine r_old fun ho0 => ?_
  refine r_aload_1 (pc := 344) C dL_law_344 ?_
  refine r_aload_0 (pc := 345) C dL_law_345 ?_
  refine r_iload_4 (pc := 346) C dL_law_346 ?_
  refine r_iconst (pc := 348) C dL_law_348 ci_1 ?_
  refine r_iadd (pc := 349) C dL_law_349 ?_
  refine r_top (nI_add _ _) ?_
  refine r_scr (pc := 350) C S rfl (by omega) dL_law_350 ?_
  refine r_aload_3 (pc := 351) C dL_law_351 ?_
  refine r_SH3i (pc := 352) C (lw_truncate K hP hZ0 hZo0 ho0) sl_X0_134 (by decide) (by omega) (by omega) (Nat.le_of_ble_eq_true rfl) rfl dL_law_352 (fun u1 B1 hc1 => ?_)
  obtain ⟨q, hu, hq2, hL, ht6, hT⟩ := hc1
  refine r_top hu ?_
  refine r_Z fun hZ1 => ?_
  refine r_Zo fun hZo1 => ?_
  refine r_old fun ho1 => ?_
  refine r_istore_5 (pc := 355) C dL_law_355 rfl ?_
  refine r_aload_2 (pc := 357) C dL_law_357 ?_
  refine r_aload_0 (pc := 358) C dL_law_358 ?_
  refine r_iload_4 (pc := 359) C dL_law_359 ?_
  refine r_iconst (pc := 361) C dL_law_361 ci_1 ?_
  refine r_iadd (pc := 362) C dL_law_362 ?_
  refine r_top (nI_add _ _) ?_
  refine r_scr (pc := 363) C S rfl (by omega) dL_law_363 ?_
  refine r_V1io (pc := 364) C (hT hZ1 hZo1 ho1) vl_X0_137 ht6 (by decide) (by omega) (by omega) (Nat.le_of_ble_eq_true rfl) rfl dL_law_364 (fun u2 D hc2 => ?_)
  obtain ⟨hv, h6, hLo, hP2⟩ := hc2
  refine r_istore_6 (pc := 367) C dL_law_367 rfl ?_
  refine r_aload_2 (pc := 369) C dL_law_369 ?_
  refine r_V0io (pc := 370) C (m_thrown hP2.tw) vl_X0_131 (tw_g hP2.tw) (by decide) (by omega) (by omega) (Nat.le_of_ble_eq_true rfl) rfl dL_law_370 (fun u3 A3 hc3 => ?_)
  refine r_top (hc3.1.trans h6) ?_
  refine r_eqA hc3.2 ?_
  clear hc3 A3 u3
  refine r_iload_5 (pc := 373) C dL_law_373 ?_
  refine r_icmp_eq (pc := 375) (tgt := 380) C dL_law_375 (by decide) (fun _ => ?_) (fun h9 => absurd rfl h9)
  refine r_iload_5 (pc := 380) C dL_law_380 ?_
  refine r_if_ne (pc := 382) (tgt := 397) C dL_law_382 (by decide) (fun _ => ?_) (fun h9 => ?_)
  · skip
    refine r_goto (pc := 397) (tgt := 2678) C dL_law_397 (by decide) ?_
    refine r_forget (lv' := [some _, some _, some _, some _, some _, none, none, none, none]) ⟨rfl, rfl, rfl, rfl, rfl, trivial⟩ ?_
    exact hcont _ _ _ (by omega) (by omega) hP2
  · have hq0 : q.1 = 0 := (nI_eq0 (by omega)).mp h9
    refine r_aload_3 (pc := 385) C dL_law_385 ?_
    refine r_iconst (pc := 386) C dL_law_386 ci_0 ?_
    refine r_lald (pc := 387) (j := 0) C hP2.ko.1 rfl rfl (by rw [hP2.ko.2]; exact Nat.one_pos) (by decide) dL_law_387 ?_
    refine r_iload_6 (pc := 388) C dL_law_388 ?_
    have eL : D.L o 0 = u2.toInt64 := by rw [hv hq0, hLo]; exact hL hq0
    refine r_i2l (pc := 390) C dL_law_390 ?_
    refine r_lcmp (pc := 391) C dL_law_391 ?_
    refine r_top ((lg_eq0 _ _).mpr eL) ?_
    refine r_if_eq (pc := 392) (tgt := 397) C dL_law_392 (by decide) (fun _ => ?_) (fun h9 => absurd rfl h9)
    refine r_goto (pc := 397) (tgt := 2678) C dL_law_397 (by decide) ?_
    refine r_forget (lv' := [some _, some _, some _, some _, some _, none, none, none, none]) ⟨rfl, rfl, rfl, rfl, rfl, trivial⟩ ?_
    exact hcont _ _ _ (by omega) (by omega) hP2
set_option maxHeartbeats 2000000 in
theorem k_readText {g : GZ} {z : ZX} {mc ms k n : Nat} {A : HA} (C : CX g z cL_law RX0 9 1734 mc ms) (K : LwG g) {b Ls c t o i : Nat} {xs : Nat → Int32} (S : Scr g b Ls xs) (hP : LwP g c t o A) (hi : i + 6 ≤ Ls) (hk : k + 34340 ≤ mc) (hs : n + 154700 ≤ ms) (hcont : ∀ (k' n' : Nat) (D : HA), k' ≤ k + 34340 → n' ≤ n + 154700 → LwP g c t o D → wa g z k' n' D 2678 [some (.ref b), some (.ref c), some (.ref t), some (.ref o), some (.int (nI i)), none, none, none, none] []) : wa g z k n A 400 [some (.ref b), some (.ref c), some (.ref t), some (.ref o), some (.int (nI i)), none, none, none, none] [] := by
  have hL4 := S.2.2
  refine r_Z fun hZ0 => ?_
  refine r_Zo fun hZo0 => ?_
  refine r_old fun ho0 => ?_
  refine r_aload_1 (pc := 400) C dL_law_400 ?_
  refine r_aload_3 (pc := 401) C dL_law_401 ?_
  obtain ⟨mc9, ms9, hm9, hs9, hCt⟩ := lw_readText K hP hZ0 hZo0 ho0
  refine r_SH2i (pc := 402) C hCt sl_X0_138 (by decide) (by omega) (by omega) (Nat.le_of_ble_eq_true rfl) rfl dL_law_402 (fun u1 B1 hc1 => ?_)
  obtain ⟨q, hu, hq2, hL, ht6, hT⟩ := hc1
  refine r_top hu ?_
  refine r_Z fun hZ1 => ?_
  refine r_Zo fun hZo1 => ?_
  refine r_old fun ho1 => ?_
  refine r_istore_5 (pc := 405) C dL_law_405 rfl ?_
  refine r_aload_2 (pc := 407) C dL_law_407 ?_
  refine r_V0io (pc := 408) C (hT hZ1 hZo1 ho1) vl_X0_141 ht6 (by decide) (by omega) (by omega) (Nat.le_of_ble_eq_true rfl) rfl dL_law_408 (fun u2 D hc2 => ?_)
  obtain ⟨hv, h6, hLo, hP2⟩ := hc2
  refine r_istore_6 (pc := 411) C dL_law_411 rfl ?_
  refine r_aload_2 (pc := 413) C dL_law_413 ?_
  refine r_V0io (pc := 414) C (m_thrown hP2.tw) vl_X0_131 (tw_g hP2.tw) (by decide) (by omega) (by omega) (Nat.le_of_ble_eq_true rfl) rfl dL_law_414 (fun u3 A3 hc3 => ?_)
  refine r_top (hc3.1.trans h6) ?_
  refine r_eqA hc3.2 ?_
  clear hc3 A3 u3
  refine r_iload_5 (pc := 417) C dL_law_417 ?_
  refine r_icmp_eq (pc := 419) (tgt := 424) C dL_law_419 (by decide) (fun _ => ?_) (fun h9 => absurd rfl h9)
  refine r_iload_5 (pc := 424) C dL_law_424 ?_
  refine r_if_ne (pc := 426) (tgt := 441) C dL_law_426 (by decide) (fun _ => ?_) (fun h9 => ?_)
  · skip
    refine r_goto (pc := 441) (tgt := 2678) C dL_law_441 (by decide) ?_
    refine r_forget (lv' := [some _, some _, some _, some _, some _, none, none, none, none]) ⟨rfl, rfl, rfl, rfl, rfl, trivial⟩ ?_
    exact hcont _ _ _ (by omega) (by omega) hP2
  · have hq0 : q.1 = 0 := (nI_eq0 (by omega)).mp h9
    refine r_aload_3 (pc := 429) C dL_law_429 ?_
    refine r_iconst (pc := 430) C dL_law_430 ci_0 ?_
    refine r_lald (pc := 431) (j := 0) C hP2.ko.1 rfl rfl (by rw [hP2.ko.2]; exact Nat.one_pos) (by decide) dL_law_431 ?_
    refine r_iload_6 (pc := 432) C dL_law_432 ?_
    have eL : D.L o 0 = u2.toInt64 := by rw [hv hq0, hLo]; exact hL hq0
    refine r_i2l (pc := 434) C dL_law_434 ?_
    refine r_lcmp (pc := 435) C dL_law_435 ?_
    refine r_top ((lg_eq0 _ _).mpr eL) ?_
    refine r_if_eq (pc := 436) (tgt := 441) C dL_law_436 (by decide) (fun _ => ?_) (fun h9 => absurd rfl h9)
    refine r_goto (pc := 441) (tgt := 2678) C dL_law_441 (by decide) ?_
    refine r_forget (lv' := [some _, some _, some _, some _, some _, none, none, none, none]) ⟨rfl, rfl, rfl, rfl, rfl, trivial⟩ ?_
    exact hcont _ _ _ (by omega) (by omega) hP2
set_option maxHeartbeats 2000000 in
theorem k_runOrders {g : GZ} {z : ZX} {mc ms k n : Nat} {A : HA} (C : CX g z cL_law RX0 9 1734 mc ms) (K : LwG g) {b Ls c t o i : Nat} {xs : Nat → Int32} (S : Scr g b Ls xs) (hP : LwP g c t o A) (hi : i + 6 ≤ Ls) (hk : k + 34340 ≤ mc) (hs : n + 154700 ≤ ms) (hcont : ∀ (k' n' : Nat) (D : HA), k' ≤ k + 34340 → n' ≤ n + 154700 → LwP g c t o D → wa g z k' n' D 2678 [some (.ref b), some (.ref c), some (.ref t), some (.ref o), some (.int (nI i)), none, none, none, none] []) : wa g z k n A 444 [some (.ref b), some (.ref c), some (.ref t), some (.ref o), some (.int (nI i)), none, none, none, none] [] := by
  have hL4 := S.2.2
  refine r_Z fun hZ0 => ?_
  refine r_Zo fun hZo0 => ?_
  refine r_old fun ho0 => ?_
  refine r_aload_1 (pc := 444) C dL_law_444 ?_
  refine r_aload_3 (pc := 445) C dL_law_445 ?_
  obtain ⟨mc9, ms9, hm9, hs9, hCt⟩ := lw_runOrders K hP hZ0 hZo0 ho0
  refine r_SH2i (pc := 446) C hCt sl_X0_142 (by decide) (by omega) (by omega) (Nat.le_of_ble_eq_true rfl) rfl dL_law_446 (fun u1 B1 hc1 => ?_)
  obtain ⟨q, hu, hq2, hL, ht6, hT⟩ := hc1
  refine r_top hu ?_
  refine r_Z fun hZ1 => ?_
  refine r_Zo fun hZo1 => ?_
  refine r_old fun ho1 => ?_
  refine r_istore_5 (pc := 449) C dL_law_449 rfl ?_
  refine r_aload_2 (pc := 451) C dL_law_451 ?_
  refine r_V0io (pc := 452) C (hT hZ1 hZo1 ho1) vl_X0_144 ht6 (by decide) (by omega) (by omega) (Nat.le_of_ble_eq_true rfl) rfl dL_law_452 (fun u2 D hc2 => ?_)
  obtain ⟨hv, h6, hLo, hP2⟩ := hc2
  refine r_istore_6 (pc := 455) C dL_law_455 rfl ?_
  refine r_aload_2 (pc := 457) C dL_law_457 ?_
  refine r_V0io (pc := 458) C (m_thrown hP2.tw) vl_X0_131 (tw_g hP2.tw) (by decide) (by omega) (by omega) (Nat.le_of_ble_eq_true rfl) rfl dL_law_458 (fun u3 A3 hc3 => ?_)
  refine r_top (hc3.1.trans h6) ?_
  refine r_eqA hc3.2 ?_
  clear hc3 A3 u3
  refine r_iload_5 (pc := 461) C dL_law_461 ?_
  refine r_icmp_eq (pc := 463) (tgt := 468) C dL_law_463 (by decide) (fun _ => ?_) (fun h9 => absurd rfl h9)
  refine r_iload_5 (pc := 468) C dL_law_468 ?_
  refine r_if_ne (pc := 470) (tgt := 485) C dL_law_470 (by decide) (fun _ => ?_) (fun h9 => ?_)
  · skip
    refine r_goto (pc := 485) (tgt := 2678) C dL_law_485 (by decide) ?_
    refine r_forget (lv' := [some _, some _, some _, some _, some _, none, none, none, none]) ⟨rfl, rfl, rfl, rfl, rfl, trivial⟩ ?_
    exact hcont _ _ _ (by omega) (by omega) hP2
  · have hq0 : q.1 = 0 := (nI_eq0 (by omega)).mp h9
    refine r_aload_3 (pc := 473) C dL_law_473 ?_
    refine r_iconst (pc := 474) C dL_law_474 ci_0 ?_
    refine r_lald (pc := 475) (j := 0) C hP2.ko.1 rfl rfl (by rw [hP2.ko.2]; exact Nat.one_pos) (by decide) dL_law_475 ?_
    refine r_iload_6 (pc := 476) C dL_law_476 ?_
    have eL : D.L o 0 = u2.toInt64 := by rw [hv hq0, hLo]; exact hL hq0
    refine r_i2l (pc := 478) C dL_law_478 ?_
    refine r_lcmp (pc := 479) C dL_law_479 ?_
    refine r_top ((lg_eq0 _ _).mpr eL) ?_
    refine r_if_eq (pc := 480) (tgt := 485) C dL_law_480 (by decide) (fun _ => ?_) (fun h9 => absurd rfl h9)
    refine r_goto (pc := 485) (tgt := 2678) C dL_law_485 (by decide) ?_
    refine r_forget (lv' := [some _, some _, some _, some _, some _, none, none, none, none]) ⟨rfl, rfl, rfl, rfl, rfl, trivial⟩ ?_
    exact hcont _ _ _ (by omega) (by omega) hP2
set_option maxHeartbeats 2000000 in
theorem k_errorCode {g : GZ} {z : ZX} {mc ms k n : Nat} {A : HA} (C : CX g z cL_law RX0 9 1734 mc ms) (K : LwG g) {b Ls c t o i : Nat} {xs : Nat → Int32} (S : Scr g b Ls xs) (hP : LwP g c t o A) (hi : i + 6 ≤ Ls) (hk : k + 34340 ≤ mc) (hs : n + 154700 ≤ ms) (hcont : ∀ (k' n' : Nat) (D : HA), k' ≤ k + 34340 → n' ≤ n + 154700 → LwP g c t o D → wa g z k' n' D 2678 [some (.ref b), some (.ref c), some (.ref t), some (.ref o), some (.int (nI i)), none, none, none, none] []) : wa g z k n A 488 [some (.ref b), some (.ref c), some (.ref t), some (.ref o), some (.int (nI i)), none, none, none, none] [] := by
  have hL4 := S.2.2
  refine r_Z fun hZ0 => ?_
  refine r_Zo fun hZo0 => ?_
  refine r_old fun ho0 => ?_
  refine r_aload_1 (pc := 488) C dL_law_488 ?_
  refine r_V0io (pc := 489) C (lw_errorCode K hP hZ0 hZo0 ho0) vl_X0_145 hP.kc (by decide) (by omega) (by omega) (Nat.le_of_ble_eq_true rfl) rfl dL_law_489 (fun u1 B1 hc1 => ?_)
  obtain ⟨ans, hu, ht6, hT⟩ := hc1
  subst hu
  refine r_Z fun hZ1 => ?_
  refine r_Zo fun hZo1 => ?_
  refine r_old fun ho1 => ?_
  refine r_aload_2 (pc := 492) C dL_law_492 ?_
  refine r_V0io (pc := 493) C (hT hZ1 hZo1 ho1) vl_X0_148 ht6 (by decide) (by omega) (by omega) (Nat.le_of_ble_eq_true rfl) rfl dL_law_493 (fun u2 D hc2 => ?_)
  obtain ⟨hv, hLo, hP2⟩ := hc2
  refine r_top hv ?_
  refine r_icmp_eq (pc := 496) (tgt := 2678) C dL_law_496 (by decide) (fun _ => ?_) (fun h9 => absurd rfl h9)
  refine r_forget (lv' := [some _, some _, some _, some _, some _, none, none, none, none]) ⟨rfl, rfl, rfl, rfl, rfl, trivial⟩ ?_
  exact hcont _ _ _ (by omega) (by omega) hP2
set_option maxHeartbeats 2000000 in
theorem k_errorPosition {g : GZ} {z : ZX} {mc ms k n : Nat} {A : HA} (C : CX g z cL_law RX0 9 1734 mc ms) (K : LwG g) {b Ls c t o i : Nat} {xs : Nat → Int32} (S : Scr g b Ls xs) (hP : LwP g c t o A) (hi : i + 6 ≤ Ls) (hk : k + 34340 ≤ mc) (hs : n + 154700 ≤ ms) (hcont : ∀ (k' n' : Nat) (D : HA), k' ≤ k + 34340 → n' ≤ n + 154700 → LwP g c t o D → wa g z k' n' D 2678 [some (.ref b), some (.ref c), some (.ref t), some (.ref o), some (.int (nI i)), none, none, none, none] []) : wa g z k n A 501 [some (.ref b), some (.ref c), some (.ref t), some (.ref o), some (.int (nI i)), none, none, none, none] [] := by
  have hL4 := S.2.2
  refine r_Z fun hZ0 => ?_
  refine r_Zo fun hZo0 => ?_
  refine r_old fun ho0 => ?_
  refine r_aload_1 (pc := 501) C dL_law_501 ?_
  refine r_V0io (pc := 502) C (lw_errorPosition K hP hZ0 hZo0 ho0) vl_X0_149 hP.kc (by decide) (by omega) (by omega) (Nat.le_of_ble_eq_true rfl) rfl dL_law_502 (fun u1 B1 hc1 => ?_)
  obtain ⟨ans, hu, ht6, hT⟩ := hc1
  subst hu
  refine r_Z fun hZ1 => ?_
  refine r_Zo fun hZo1 => ?_
  refine r_old fun ho1 => ?_
  refine r_aload_2 (pc := 505) C dL_law_505 ?_
  refine r_V0io (pc := 506) C (hT hZ1 hZo1 ho1) vl_X0_152 ht6 (by decide) (by omega) (by omega) (Nat.le_of_ble_eq_true rfl) rfl dL_law_506 (fun u2 D hc2 => ?_)
  obtain ⟨hv, hLo, hP2⟩ := hc2
  refine r_top hv ?_
  refine r_icmp_eq (pc := 509) (tgt := 2678) C dL_law_509 (by decide) (fun _ => ?_) (fun h9 => absurd rfl h9)
  refine r_forget (lv' := [some _, some _, some _, some _, some _, none, none, none, none]) ⟨rfl, rfl, rfl, rfl, rfl, trivial⟩ ?_
  exact hcont _ _ _ (by omega) (by omega) hP2
set_option maxHeartbeats 2000000 in
theorem k_size {g : GZ} {z : ZX} {mc ms k n : Nat} {A : HA} (C : CX g z cL_law RX0 9 1734 mc ms) (K : LwG g) {b Ls c t o i : Nat} {xs : Nat → Int32} (S : Scr g b Ls xs) (hP : LwP g c t o A) (hi : i + 6 ≤ Ls) (hk : k + 34340 ≤ mc) (hs : n + 154700 ≤ ms) (hcont : ∀ (k' n' : Nat) (D : HA), k' ≤ k + 34340 → n' ≤ n + 154700 → LwP g c t o D → wa g z k' n' D 2678 [some (.ref b), some (.ref c), some (.ref t), some (.ref o), some (.int (nI i)), none, none, none, none] []) : wa g z k n A 514 [some (.ref b), some (.ref c), some (.ref t), some (.ref o), some (.int (nI i)), none, none, none, none] [] := by
  have hL4 := S.2.2
  refine r_Z fun hZ0 => ?_
  refine r_Zo fun hZo0 => ?_
  refine r_old fun ho0 => ?_
  refine r_aload_1 (pc := 514) C dL_law_514 ?_
  refine r_aload_0 (pc := 515) C dL_law_515 ?_
  refine r_iload_4 (pc := 516) C dL_law_516 ?_
  refine r_iconst (pc := 518) C dL_law_518 ci_1 ?_
  refine r_iadd (pc := 519) C dL_law_519 ?_
  refine r_top (nI_add _ _) ?_
  refine r_scr (pc := 520) C S rfl (by omega) dL_law_520 ?_
  refine r_aload_3 (pc := 521) C dL_law_521 ?_
  refine r_SH3i (pc := 522) C (lw_size K hP hZ0 hZo0 ho0) sl_X0_153 (by decide) (by omega) (by omega) (Nat.le_of_ble_eq_true rfl) rfl dL_law_522 (fun u1 B1 hc1 => ?_)
  obtain ⟨q, hu, hq2, hL, ht6, hT⟩ := hc1
  refine r_top hu ?_
  refine r_Z fun hZ1 => ?_
  refine r_Zo fun hZo1 => ?_
  refine r_old fun ho1 => ?_
  refine r_istore_5 (pc := 525) C dL_law_525 rfl ?_
  refine r_aload_2 (pc := 527) C dL_law_527 ?_
  refine r_aload_0 (pc := 528) C dL_law_528 ?_
  refine r_iload_4 (pc := 529) C dL_law_529 ?_
  refine r_iconst (pc := 531) C dL_law_531 ci_1 ?_
  refine r_iadd (pc := 532) C dL_law_532 ?_
  refine r_top (nI_add _ _) ?_
  refine r_scr (pc := 533) C S rfl (by omega) dL_law_533 ?_
  refine r_V1io (pc := 534) C (hT hZ1 hZo1 ho1) vl_X0_155 ht6 (by decide) (by omega) (by omega) (Nat.le_of_ble_eq_true rfl) rfl dL_law_534 (fun u2 D hc2 => ?_)
  obtain ⟨hv, h6, hLo, hP2⟩ := hc2
  refine r_istore_6 (pc := 537) C dL_law_537 rfl ?_
  refine r_aload_2 (pc := 539) C dL_law_539 ?_
  refine r_V0io (pc := 540) C (m_thrown hP2.tw) vl_X0_131 (tw_g hP2.tw) (by decide) (by omega) (by omega) (Nat.le_of_ble_eq_true rfl) rfl dL_law_540 (fun u3 A3 hc3 => ?_)
  refine r_top (hc3.1.trans h6) ?_
  refine r_eqA hc3.2 ?_
  clear hc3 A3 u3
  refine r_iload_5 (pc := 543) C dL_law_543 ?_
  refine r_icmp_eq (pc := 545) (tgt := 550) C dL_law_545 (by decide) (fun _ => ?_) (fun h9 => absurd rfl h9)
  refine r_iload_5 (pc := 550) C dL_law_550 ?_
  refine r_if_ne (pc := 552) (tgt := 567) C dL_law_552 (by decide) (fun _ => ?_) (fun h9 => ?_)
  · skip
    refine r_goto (pc := 567) (tgt := 2678) C dL_law_567 (by decide) ?_
    refine r_forget (lv' := [some _, some _, some _, some _, some _, none, none, none, none]) ⟨rfl, rfl, rfl, rfl, rfl, trivial⟩ ?_
    exact hcont _ _ _ (by omega) (by omega) hP2
  · have hq0 : q.1 = 0 := (nI_eq0 (by omega)).mp h9
    refine r_aload_3 (pc := 555) C dL_law_555 ?_
    refine r_iconst (pc := 556) C dL_law_556 ci_0 ?_
    refine r_lald (pc := 557) (j := 0) C hP2.ko.1 rfl rfl (by rw [hP2.ko.2]; exact Nat.one_pos) (by decide) dL_law_557 ?_
    refine r_iload_6 (pc := 558) C dL_law_558 ?_
    have eL : D.L o 0 = u2.toInt64 := by rw [hv hq0, hLo]; exact hL hq0
    refine r_i2l (pc := 560) C dL_law_560 ?_
    refine r_lcmp (pc := 561) C dL_law_561 ?_
    refine r_top ((lg_eq0 _ _).mpr eL) ?_
    refine r_if_eq (pc := 562) (tgt := 567) C dL_law_562 (by decide) (fun _ => ?_) (fun h9 => absurd rfl h9)
    refine r_goto (pc := 567) (tgt := 2678) C dL_law_567 (by decide) ?_
    refine r_forget (lv' := [some _, some _, some _, some _, some _, none, none, none, none]) ⟨rfl, rfl, rfl, rfl, rfl, trivial⟩ ?_
    exact hcont _ _ _ (by omega) (by omega) hP2
set_option maxHeartbeats 2000000 in
theorem k_cell {g : GZ} {z : ZX} {mc ms k n : Nat} {A : HA} (C : CX g z cL_law RX0 9 1734 mc ms) (K : LwG g) {b Ls c t o i : Nat} {xs : Nat → Int32} (S : Scr g b Ls xs) (hP : LwP g c t o A) (hi : i + 6 ≤ Ls) (hk : k + 34340 ≤ mc) (hs : n + 154700 ≤ ms) (hcont : ∀ (k' n' : Nat) (D : HA), k' ≤ k + 34340 → n' ≤ n + 154700 → LwP g c t o D → wa g z k' n' D 2678 [some (.ref b), some (.ref c), some (.ref t), some (.ref o), some (.int (nI i)), none, none, none, none] []) : wa g z k n A 570 [some (.ref b), some (.ref c), some (.ref t), some (.ref o), some (.int (nI i)), none, none, none, none] [] := by
  have hL4 := S.2.2
  refine r_Z fun hZ0 => ?_
  refine r_Zo fun hZo0 => ?_
  refine r_old fun ho0 => ?_
  refine r_aload_1 (pc := 570) C dL_law_570 ?_
  refine r_aload_0 (pc := 571) C dL_law_571 ?_
  refine r_iload_4 (pc := 572) C dL_law_572 ?_
  refine r_iconst (pc := 574) C dL_law_574 ci_1 ?_
  refine r_iadd (pc := 575) C dL_law_575 ?_
  refine r_top (nI_add _ _) ?_
  refine r_scr (pc := 576) C S rfl (by omega) dL_law_576 ?_
  refine r_aload_0 (pc := 577) C dL_law_577 ?_
  refine r_iload_4 (pc := 578) C dL_law_578 ?_
  refine r_iconst (pc := 580) C dL_law_580 ci_2 ?_
  refine r_iadd (pc := 581) C dL_law_581 ?_
  refine r_top (nI_add _ _) ?_
  refine r_scr (pc := 582) C S rfl (by omega) dL_law_582 ?_
  refine r_aload_0 (pc := 583) C dL_law_583 ?_
  refine r_iload_4 (pc := 584) C dL_law_584 ?_
  refine r_iconst (pc := 586) C dL_law_586 ci_3 ?_
  refine r_iadd (pc := 587) C dL_law_587 ?_
  refine r_top (nI_add _ _) ?_
  refine r_scr (pc := 588) C S rfl (by omega) dL_law_588 ?_
  refine r_aload_3 (pc := 589) C dL_law_589 ?_
  refine r_SH5i (pc := 590) C (lw_cell K hP hZ0 hZo0 ho0) sl_X0_156 (by decide) (by omega) (by omega) (Nat.le_of_ble_eq_true rfl) rfl dL_law_590 (fun u1 B1 hc1 => ?_)
  obtain ⟨q, hu, hq2, hL, ht6, hT⟩ := hc1
  refine r_top hu ?_
  refine r_Z fun hZ1 => ?_
  refine r_Zo fun hZo1 => ?_
  refine r_old fun ho1 => ?_
  refine r_istore_5 (pc := 593) C dL_law_593 rfl ?_
  refine r_aload_2 (pc := 595) C dL_law_595 ?_
  refine r_aload_0 (pc := 596) C dL_law_596 ?_
  refine r_iload_4 (pc := 597) C dL_law_597 ?_
  refine r_iconst (pc := 599) C dL_law_599 ci_1 ?_
  refine r_iadd (pc := 600) C dL_law_600 ?_
  refine r_top (nI_add _ _) ?_
  refine r_scr (pc := 601) C S rfl (by omega) dL_law_601 ?_
  refine r_aload_0 (pc := 602) C dL_law_602 ?_
  refine r_iload_4 (pc := 603) C dL_law_603 ?_
  refine r_iconst (pc := 605) C dL_law_605 ci_2 ?_
  refine r_iadd (pc := 606) C dL_law_606 ?_
  refine r_top (nI_add _ _) ?_
  refine r_scr (pc := 607) C S rfl (by omega) dL_law_607 ?_
  refine r_aload_0 (pc := 608) C dL_law_608 ?_
  refine r_iload_4 (pc := 609) C dL_law_609 ?_
  refine r_iconst (pc := 611) C dL_law_611 ci_3 ?_
  refine r_iadd (pc := 612) C dL_law_612 ?_
  refine r_top (nI_add _ _) ?_
  refine r_scr (pc := 613) C S rfl (by omega) dL_law_613 ?_
  refine r_V3io (pc := 614) C (hT hZ1 hZo1 ho1) vl_X0_159 ht6 (by decide) (by omega) (by omega) (Nat.le_of_ble_eq_true rfl) rfl dL_law_614 (fun u2 D hc2 => ?_)
  obtain ⟨hv, h6, hLo, hP2⟩ := hc2
  refine r_istore_6 (pc := 617) C dL_law_617 rfl ?_
  refine r_aload_2 (pc := 619) C dL_law_619 ?_
  refine r_V0io (pc := 620) C (m_thrown hP2.tw) vl_X0_131 (tw_g hP2.tw) (by decide) (by omega) (by omega) (Nat.le_of_ble_eq_true rfl) rfl dL_law_620 (fun u3 A3 hc3 => ?_)
  refine r_top (hc3.1.trans h6) ?_
  refine r_eqA hc3.2 ?_
  clear hc3 A3 u3
  refine r_iload_5 (pc := 623) C dL_law_623 ?_
  refine r_icmp_eq (pc := 625) (tgt := 630) C dL_law_625 (by decide) (fun _ => ?_) (fun h9 => absurd rfl h9)
  refine r_iload_5 (pc := 630) C dL_law_630 ?_
  refine r_if_ne (pc := 632) (tgt := 647) C dL_law_632 (by decide) (fun _ => ?_) (fun h9 => ?_)
  · skip
    refine r_goto (pc := 647) (tgt := 2678) C dL_law_647 (by decide) ?_
    refine r_forget (lv' := [some _, some _, some _, some _, some _, none, none, none, none]) ⟨rfl, rfl, rfl, rfl, rfl, trivial⟩ ?_
    exact hcont _ _ _ (by omega) (by omega) hP2
  · have hq0 : q.1 = 0 := (nI_eq0 (by omega)).mp h9
    refine r_aload_3 (pc := 635) C dL_law_635 ?_
    refine r_iconst (pc := 636) C dL_law_636 ci_0 ?_
    refine r_lald (pc := 637) (j := 0) C hP2.ko.1 rfl rfl (by rw [hP2.ko.2]; exact Nat.one_pos) (by decide) dL_law_637 ?_
    refine r_iload_6 (pc := 638) C dL_law_638 ?_
    have eL : D.L o 0 = u2.toInt64 := by rw [hv hq0, hLo]; exact hL hq0
    refine r_i2l (pc := 640) C dL_law_640 ?_
    refine r_lcmp (pc := 641) C dL_law_641 ?_
    refine r_top ((lg_eq0 _ _).mpr eL) ?_
    refine r_if_eq (pc := 642) (tgt := 647) C dL_law_642 (by decide) (fun _ => ?_) (fun h9 => absurd rfl h9)
    refine r_goto (pc := 647) (tgt := 2678) C dL_law_647 (by decide) ?_
    refine r_forget (lv' := [some _, some _, some _, some _, some _, none, none, none, none]) ⟨rfl, rfl, rfl, rfl, rfl, trivial⟩ ?_
    exact hcont _ _ _ (by omega) (by omega) hP2
set_option maxHeartbeats 2000000 in
theorem k_gate {g : GZ} {z : ZX} {mc ms k n : Nat} {A : HA} (C : CX g z cL_law RX0 9 1734 mc ms) (K : LwG g) {b Ls c t o i : Nat} {xs : Nat → Int32} (S : Scr g b Ls xs) (hP : LwP g c t o A) (hi : i + 6 ≤ Ls) (hk : k + 34340 ≤ mc) (hs : n + 154700 ≤ ms) (hcont : ∀ (k' n' : Nat) (D : HA), k' ≤ k + 34340 → n' ≤ n + 154700 → LwP g c t o D → wa g z k' n' D 2678 [some (.ref b), some (.ref c), some (.ref t), some (.ref o), some (.int (nI i)), none, none, none, none] []) : wa g z k n A 650 [some (.ref b), some (.ref c), some (.ref t), some (.ref o), some (.int (nI i)), none, none, none, none] [] := by
  have hL4 := S.2.2
  refine r_Z fun hZ0 => ?_
  refine r_Zo fun hZo0 => ?_
  refine r_old fun ho0 => ?_
  refine r_aload_1 (pc := 650) C dL_law_650 ?_
  refine r_aload_0 (pc := 651) C dL_law_651 ?_
  refine r_iload_4 (pc := 652) C dL_law_652 ?_
  refine r_iconst (pc := 654) C dL_law_654 ci_1 ?_
  refine r_iadd (pc := 655) C dL_law_655 ?_
  refine r_top (nI_add _ _) ?_
  refine r_scr (pc := 656) C S rfl (by omega) dL_law_656 ?_
  refine r_aload_0 (pc := 657) C dL_law_657 ?_
  refine r_iload_4 (pc := 658) C dL_law_658 ?_
  refine r_iconst (pc := 660) C dL_law_660 ci_2 ?_
  refine r_iadd (pc := 661) C dL_law_661 ?_
  refine r_top (nI_add _ _) ?_
  refine r_scr (pc := 662) C S rfl (by omega) dL_law_662 ?_
  refine r_aload_3 (pc := 663) C dL_law_663 ?_
  refine r_SH4i (pc := 664) C (lw_gate K hP hZ0 hZo0 ho0) sl_X0_160 (by decide) (by omega) (by omega) (Nat.le_of_ble_eq_true rfl) rfl dL_law_664 (fun u1 B1 hc1 => ?_)
  obtain ⟨q, hu, hq2, hL, ht6, hT⟩ := hc1
  refine r_top hu ?_
  refine r_Z fun hZ1 => ?_
  refine r_Zo fun hZo1 => ?_
  refine r_old fun ho1 => ?_
  refine r_istore_5 (pc := 667) C dL_law_667 rfl ?_
  refine r_aload_2 (pc := 669) C dL_law_669 ?_
  refine r_aload_0 (pc := 670) C dL_law_670 ?_
  refine r_iload_4 (pc := 671) C dL_law_671 ?_
  refine r_iconst (pc := 673) C dL_law_673 ci_1 ?_
  refine r_iadd (pc := 674) C dL_law_674 ?_
  refine r_top (nI_add _ _) ?_
  refine r_scr (pc := 675) C S rfl (by omega) dL_law_675 ?_
  refine r_aload_0 (pc := 676) C dL_law_676 ?_
  refine r_iload_4 (pc := 677) C dL_law_677 ?_
  refine r_iconst (pc := 679) C dL_law_679 ci_2 ?_
  refine r_iadd (pc := 680) C dL_law_680 ?_
  refine r_top (nI_add _ _) ?_
  refine r_scr (pc := 681) C S rfl (by omega) dL_law_681 ?_
  refine r_V2io (pc := 682) C (hT hZ1 hZo1 ho1) vl_X0_163 ht6 (by decide) (by omega) (by omega) (Nat.le_of_ble_eq_true rfl) rfl dL_law_682 (fun u2 D hc2 => ?_)
  obtain ⟨hv, h6, hLo, hP2⟩ := hc2
  refine r_istore_6 (pc := 685) C dL_law_685 rfl ?_
  refine r_aload_2 (pc := 687) C dL_law_687 ?_
  refine r_V0io (pc := 688) C (m_thrown hP2.tw) vl_X0_131 (tw_g hP2.tw) (by decide) (by omega) (by omega) (Nat.le_of_ble_eq_true rfl) rfl dL_law_688 (fun u3 A3 hc3 => ?_)
  refine r_top (hc3.1.trans h6) ?_
  refine r_eqA hc3.2 ?_
  clear hc3 A3 u3
  refine r_iload_5 (pc := 691) C dL_law_691 ?_
  refine r_icmp_eq (pc := 693) (tgt := 698) C dL_law_693 (by decide) (fun _ => ?_) (fun h9 => absurd rfl h9)
  refine r_iload_5 (pc := 698) C dL_law_698 ?_
  refine r_if_ne (pc := 700) (tgt := 715) C dL_law_700 (by decide) (fun _ => ?_) (fun h9 => ?_)
  · skip
    refine r_goto (pc := 715) (tgt := 2678) C dL_law_715 (by decide) ?_
    refine r_forget (lv' := [some _, some _, some _, some _, some _, none, none, none, none]) ⟨rfl, rfl, rfl, rfl, rfl, trivial⟩ ?_
    exact hcont _ _ _ (by omega) (by omega) hP2
  · have hq0 : q.1 = 0 := (nI_eq0 (by omega)).mp h9
    refine r_aload_3 (pc := 703) C dL_law_703 ?_
    refine r_iconst (pc := 704) C dL_law_704 ci_0 ?_
    refine r_lald (pc := 705) (j := 0) C hP2.ko.1 rfl rfl (by rw [hP2.ko.2]; exact Nat.one_pos) (by decide) dL_law_705 ?_
    refine r_iload_6 (pc := 706) C dL_law_706 ?_
    have eL : D.L o 0 = u2.toInt64 := by rw [hv hq0, hLo]; exact hL hq0
    refine r_i2l (pc := 708) C dL_law_708 ?_
    refine r_lcmp (pc := 709) C dL_law_709 ?_
    refine r_top ((lg_eq0 _ _).mpr eL) ?_
    refine r_if_eq (pc := 710) (tgt := 715) C dL_law_710 (by decide) (fun _ => ?_) (fun h9 => absurd rfl h9)
    refine r_goto (pc := 715) (tgt := 2678) C dL_law_715 (by decide) ?_
    refine r_forget (lv' := [some _, some _, some _, some _, some _, none, none, none, none]) ⟨rfl, rfl, rfl, rfl, rfl, trivial⟩ ?_
    exact hcont _ _ _ (by omega) (by omega) hP2
set_option maxHeartbeats 2000000 in
theorem k_walker {g : GZ} {z : ZX} {mc ms k n : Nat} {A : HA} (C : CX g z cL_law RX0 9 1734 mc ms) (K : LwG g) {b Ls c t o i : Nat} {xs : Nat → Int32} (S : Scr g b Ls xs) (hP : LwP g c t o A) (hi : i + 6 ≤ Ls) (hk : k + 34340 ≤ mc) (hs : n + 154700 ≤ ms) (hcont : ∀ (k' n' : Nat) (D : HA), k' ≤ k + 34340 → n' ≤ n + 154700 → LwP g c t o D → wa g z k' n' D 2678 [some (.ref b), some (.ref c), some (.ref t), some (.ref o), some (.int (nI i)), none, none, none, none] []) : wa g z k n A 718 [some (.ref b), some (.ref c), some (.ref t), some (.ref o), some (.int (nI i)), none, none, none, none] [] := by
  have hL4 := S.2.2
  refine r_Z fun hZ0 => ?_
  refine r_Zo fun hZo0 => ?_
  refine r_old fun ho0 => ?_
  refine r_aload_1 (pc := 718) C dL_law_718 ?_
  refine r_aload_0 (pc := 719) C dL_law_719 ?_
  refine r_iload_4 (pc := 720) C dL_law_720 ?_
  refine r_iconst (pc := 722) C dL_law_722 ci_1 ?_
  refine r_iadd (pc := 723) C dL_law_723 ?_
  refine r_top (nI_add _ _) ?_
  refine r_scr (pc := 724) C S rfl (by omega) dL_law_724 ?_
  refine r_aload_0 (pc := 725) C dL_law_725 ?_
  refine r_iload_4 (pc := 726) C dL_law_726 ?_
  refine r_iconst (pc := 728) C dL_law_728 ci_2 ?_
  refine r_iadd (pc := 729) C dL_law_729 ?_
  refine r_top (nI_add _ _) ?_
  refine r_scr (pc := 730) C S rfl (by omega) dL_law_730 ?_
  refine r_aload_3 (pc := 731) C dL_law_731 ?_
  refine r_SH4i (pc := 732) C (lw_walker K hP hZ0 hZo0 ho0) sl_X0_164 (by decide) (by omega) (by omega) (Nat.le_of_ble_eq_true rfl) rfl dL_law_732 (fun u1 B1 hc1 => ?_)
  obtain ⟨q, hu, hq2, hL, ht6, hT⟩ := hc1
  refine r_top hu ?_
  refine r_Z fun hZ1 => ?_
  refine r_Zo fun hZo1 => ?_
  refine r_old fun ho1 => ?_
  refine r_istore_5 (pc := 735) C dL_law_735 rfl ?_
  refine r_aload_2 (pc := 737) C dL_law_737 ?_
  refine r_aload_0 (pc := 738) C dL_law_738 ?_
  refine r_iload_4 (pc := 739) C dL_law_739 ?_
  refine r_iconst (pc := 741) C dL_law_741 ci_1 ?_
  refine r_iadd (pc := 742) C dL_law_742 ?_
  refine r_top (nI_add _ _) ?_
  refine r_scr (pc := 743) C S rfl (by omega) dL_law_743 ?_
  refine r_aload_0 (pc := 744) C dL_law_744 ?_
  refine r_iload_4 (pc := 745) C dL_law_745 ?_
  refine r_iconst (pc := 747) C dL_law_747 ci_2 ?_
  refine r_iadd (pc := 748) C dL_law_748 ?_
  refine r_top (nI_add _ _) ?_
  refine r_scr (pc := 749) C S rfl (by omega) dL_law_749 ?_
  refine r_V2io (pc := 750) C (hT hZ1 hZo1 ho1) vl_X0_166 ht6 (by decide) (by omega) (by omega) (Nat.le_of_ble_eq_true rfl) rfl dL_law_750 (fun u2 D hc2 => ?_)
  obtain ⟨hv, h6, hLo, hP2⟩ := hc2
  refine r_istore_6 (pc := 753) C dL_law_753 rfl ?_
  refine r_aload_2 (pc := 755) C dL_law_755 ?_
  refine r_V0io (pc := 756) C (m_thrown hP2.tw) vl_X0_131 (tw_g hP2.tw) (by decide) (by omega) (by omega) (Nat.le_of_ble_eq_true rfl) rfl dL_law_756 (fun u3 A3 hc3 => ?_)
  refine r_top (hc3.1.trans h6) ?_
  refine r_eqA hc3.2 ?_
  clear hc3 A3 u3
  refine r_iload_5 (pc := 759) C dL_law_759 ?_
  refine r_icmp_eq (pc := 761) (tgt := 766) C dL_law_761 (by decide) (fun _ => ?_) (fun h9 => absurd rfl h9)
  refine r_iload_5 (pc := 766) C dL_law_766 ?_
  refine r_if_ne (pc := 768) (tgt := 783) C dL_law_768 (by decide) (fun _ => ?_) (fun h9 => ?_)
  · skip
    refine r_goto (pc := 783) (tgt := 2678) C dL_law_783 (by decide) ?_
    refine r_forget (lv' := [some _, some _, some _, some _, some _, none, none, none, none]) ⟨rfl, rfl, rfl, rfl, rfl, trivial⟩ ?_
    exact hcont _ _ _ (by omega) (by omega) hP2
  · have hq0 : q.1 = 0 := (nI_eq0 (by omega)).mp h9
    refine r_aload_3 (pc := 771) C dL_law_771 ?_
    refine r_iconst (pc := 772) C dL_law_772 ci_0 ?_
    refine r_lald (pc := 773) (j := 0) C hP2.ko.1 rfl rfl (by rw [hP2.ko.2]; exact Nat.one_pos) (by decide) dL_law_773 ?_
    refine r_iload_6 (pc := 774) C dL_law_774 ?_
    have eL : D.L o 0 = u2.toInt64 := by rw [hv hq0, hLo]; exact hL hq0
    refine r_i2l (pc := 776) C dL_law_776 ?_
    refine r_lcmp (pc := 777) C dL_law_777 ?_
    refine r_top ((lg_eq0 _ _).mpr eL) ?_
    refine r_if_eq (pc := 778) (tgt := 783) C dL_law_778 (by decide) (fun _ => ?_) (fun h9 => absurd rfl h9)
    refine r_goto (pc := 783) (tgt := 2678) C dL_law_783 (by decide) ?_
    refine r_forget (lv' := [some _, some _, some _, some _, some _, none, none, none, none]) ⟨rfl, rfl, rfl, rfl, rfl, trivial⟩ ?_
    exact hcont _ _ _ (by omega) (by omega) hP2
set_option maxHeartbeats 2000000 in
theorem k_nameByte {g : GZ} {z : ZX} {mc ms k n : Nat} {A : HA} (C : CX g z cL_law RX0 9 1734 mc ms) (K : LwG g) {b Ls c t o i : Nat} {xs : Nat → Int32} (S : Scr g b Ls xs) (hP : LwP g c t o A) (hi : i + 6 ≤ Ls) (hk : k + 34340 ≤ mc) (hs : n + 154700 ≤ ms) (hcont : ∀ (k' n' : Nat) (D : HA), k' ≤ k + 34340 → n' ≤ n + 154700 → LwP g c t o D → wa g z k' n' D 2678 [some (.ref b), some (.ref c), some (.ref t), some (.ref o), some (.int (nI i)), none, none, none, none] []) : wa g z k n A 786 [some (.ref b), some (.ref c), some (.ref t), some (.ref o), some (.int (nI i)), none, none, none, none] [] := by
  have hL4 := S.2.2
  refine r_Z fun hZ0 => ?_
  refine r_Zo fun hZo0 => ?_
  refine r_old fun ho0 => ?_
  refine r_aload_1 (pc := 786) C dL_law_786 ?_
  refine r_aload_0 (pc := 787) C dL_law_787 ?_
  refine r_iload_4 (pc := 788) C dL_law_788 ?_
  refine r_iconst (pc := 790) C dL_law_790 ci_1 ?_
  refine r_iadd (pc := 791) C dL_law_791 ?_
  refine r_top (nI_add _ _) ?_
  refine r_scr (pc := 792) C S rfl (by omega) dL_law_792 ?_
  refine r_aload_0 (pc := 793) C dL_law_793 ?_
  refine r_iload_4 (pc := 794) C dL_law_794 ?_
  refine r_iconst (pc := 796) C dL_law_796 ci_2 ?_
  refine r_iadd (pc := 797) C dL_law_797 ?_
  refine r_top (nI_add _ _) ?_
  refine r_scr (pc := 798) C S rfl (by omega) dL_law_798 ?_
  refine r_ne0 (pc := 799) C dL_law_799 dL_law_802 dL_law_803 dL_law_806 ?_
  refine r_aload_0 (pc := 807) C dL_law_807 ?_
  refine r_iload_4 (pc := 808) C dL_law_808 ?_
  refine r_iconst (pc := 810) C dL_law_810 ci_3 ?_
  refine r_iadd (pc := 811) C dL_law_811 ?_
  refine r_top (nI_add _ _) ?_
  refine r_scr (pc := 812) C S rfl (by omega) dL_law_812 ?_
  refine r_aload_3 (pc := 813) C dL_law_813 ?_
  refine r_SH5i (pc := 814) C (lw_nameByte K hP hZ0 hZo0 ho0) sl_X0_167 (by decide) (by omega) (by omega) (Nat.le_of_ble_eq_true rfl) rfl dL_law_814 (fun u1 B1 hc1 => ?_)
  obtain ⟨q, hu, hq2, hL, ht6, hT⟩ := hc1
  refine r_top hu ?_
  refine r_Z fun hZ1 => ?_
  refine r_Zo fun hZo1 => ?_
  refine r_old fun ho1 => ?_
  refine r_istore_5 (pc := 817) C dL_law_817 rfl ?_
  refine r_aload_2 (pc := 819) C dL_law_819 ?_
  refine r_aload_0 (pc := 820) C dL_law_820 ?_
  refine r_iload_4 (pc := 821) C dL_law_821 ?_
  refine r_iconst (pc := 823) C dL_law_823 ci_1 ?_
  refine r_iadd (pc := 824) C dL_law_824 ?_
  refine r_top (nI_add _ _) ?_
  refine r_scr (pc := 825) C S rfl (by omega) dL_law_825 ?_
  refine r_aload_0 (pc := 826) C dL_law_826 ?_
  refine r_iload_4 (pc := 827) C dL_law_827 ?_
  refine r_iconst (pc := 829) C dL_law_829 ci_2 ?_
  refine r_iadd (pc := 830) C dL_law_830 ?_
  refine r_top (nI_add _ _) ?_
  refine r_scr (pc := 831) C S rfl (by omega) dL_law_831 ?_
  refine r_ne0 (pc := 832) C dL_law_832 dL_law_835 dL_law_836 dL_law_839 ?_
  refine r_aload_0 (pc := 840) C dL_law_840 ?_
  refine r_iload_4 (pc := 841) C dL_law_841 ?_
  refine r_iconst (pc := 843) C dL_law_843 ci_3 ?_
  refine r_iadd (pc := 844) C dL_law_844 ?_
  refine r_top (nI_add _ _) ?_
  refine r_scr (pc := 845) C S rfl (by omega) dL_law_845 ?_
  refine r_V3io (pc := 846) C (hT hZ1 hZo1 ho1) vl_X0_170 ht6 (by decide) (by omega) (by omega) (Nat.le_of_ble_eq_true rfl) rfl dL_law_846 (fun u2 D hc2 => ?_)
  obtain ⟨hv, h6, hLo, hP2⟩ := hc2
  refine r_istore_6 (pc := 849) C dL_law_849 rfl ?_
  refine r_aload_2 (pc := 851) C dL_law_851 ?_
  refine r_V0io (pc := 852) C (m_thrown hP2.tw) vl_X0_131 (tw_g hP2.tw) (by decide) (by omega) (by omega) (Nat.le_of_ble_eq_true rfl) rfl dL_law_852 (fun u3 A3 hc3 => ?_)
  refine r_top (hc3.1.trans h6) ?_
  refine r_eqA hc3.2 ?_
  clear hc3 A3 u3
  refine r_iload_5 (pc := 855) C dL_law_855 ?_
  refine r_icmp_eq (pc := 857) (tgt := 862) C dL_law_857 (by decide) (fun _ => ?_) (fun h9 => absurd rfl h9)
  refine r_iload_5 (pc := 862) C dL_law_862 ?_
  refine r_if_ne (pc := 864) (tgt := 879) C dL_law_864 (by decide) (fun _ => ?_) (fun h9 => ?_)
  · skip
    refine r_goto (pc := 879) (tgt := 2678) C dL_law_879 (by decide) ?_
    refine r_forget (lv' := [some _, some _, some _, some _, some _, none, none, none, none]) ⟨rfl, rfl, rfl, rfl, rfl, trivial⟩ ?_
    exact hcont _ _ _ (by omega) (by omega) hP2
  · have hq0 : q.1 = 0 := (nI_eq0 (by omega)).mp h9
    refine r_aload_3 (pc := 867) C dL_law_867 ?_
    refine r_iconst (pc := 868) C dL_law_868 ci_0 ?_
    refine r_lald (pc := 869) (j := 0) C hP2.ko.1 rfl rfl (by rw [hP2.ko.2]; exact Nat.one_pos) (by decide) dL_law_869 ?_
    refine r_iload_6 (pc := 870) C dL_law_870 ?_
    have eL : D.L o 0 = u2.toInt64 := by rw [hv hq0, hLo]; exact hL hq0
    refine r_i2l (pc := 872) C dL_law_872 ?_
    refine r_lcmp (pc := 873) C dL_law_873 ?_
    refine r_top ((lg_eq0 _ _).mpr eL) ?_
    refine r_if_eq (pc := 874) (tgt := 879) C dL_law_874 (by decide) (fun _ => ?_) (fun h9 => absurd rfl h9)
    refine r_goto (pc := 879) (tgt := 2678) C dL_law_879 (by decide) ?_
    refine r_forget (lv' := [some _, some _, some _, some _, some _, none, none, none, none]) ⟨rfl, rfl, rfl, rfl, rfl, trivial⟩ ?_
    exact hcont _ _ _ (by omega) (by omega) hP2
set_option maxHeartbeats 2000000 in
theorem k_find {g : GZ} {z : ZX} {mc ms k n : Nat} {A : HA} (C : CX g z cL_law RX0 9 1734 mc ms) (K : LwG g) {b Ls c t o i : Nat} {xs : Nat → Int32} (S : Scr g b Ls xs) (hP : LwP g c t o A) (hi : i + 6 ≤ Ls) (hk : k + 34340 ≤ mc) (hs : n + 154700 ≤ ms) (hcont : ∀ (k' n' : Nat) (D : HA), k' ≤ k + 34340 → n' ≤ n + 154700 → LwP g c t o D → wa g z k' n' D 2678 [some (.ref b), some (.ref c), some (.ref t), some (.ref o), some (.int (nI i)), none, none, none, none] []) : wa g z k n A 882 [some (.ref b), some (.ref c), some (.ref t), some (.ref o), some (.int (nI i)), none, none, none, none] [] := by
  have hL4 := S.2.2
  refine r_Z fun hZ0 => ?_
  refine r_Zo fun hZo0 => ?_
  refine r_old fun ho0 => ?_
  refine r_aload_1 (pc := 882) C dL_law_882 ?_
  refine r_aload_0 (pc := 883) C dL_law_883 ?_
  refine r_iload_4 (pc := 884) C dL_law_884 ?_
  refine r_iconst (pc := 886) C dL_law_886 ci_1 ?_
  refine r_iadd (pc := 887) C dL_law_887 ?_
  refine r_top (nI_add _ _) ?_
  refine r_scr (pc := 888) C S rfl (by omega) dL_law_888 ?_
  refine r_ne0 (pc := 889) C dL_law_889 dL_law_892 dL_law_893 dL_law_896 ?_
  refine r_V1i (pc := 897) C (lw_find K hP hZ0 hZo0 ho0) vl_X0_171 hP.kc (by decide) (by omega) (by omega) (Nat.le_of_ble_eq_true rfl) rfl dL_law_897 (fun u1 B1 hc1 => ?_)
  obtain ⟨ans, hu, ht6, hT⟩ := hc1
  subst hu
  refine r_Z fun hZ1 => ?_
  refine r_Zo fun hZo1 => ?_
  refine r_old fun ho1 => ?_
  refine r_aload_2 (pc := 900) C dL_law_900 ?_
  refine r_aload_0 (pc := 901) C dL_law_901 ?_
  refine r_iload_4 (pc := 902) C dL_law_902 ?_
  refine r_iconst (pc := 904) C dL_law_904 ci_1 ?_
  refine r_iadd (pc := 905) C dL_law_905 ?_
  refine r_top (nI_add _ _) ?_
  refine r_scr (pc := 906) C S rfl (by omega) dL_law_906 ?_
  refine r_ne0 (pc := 907) C dL_law_907 dL_law_910 dL_law_911 dL_law_914 ?_
  refine r_V1io (pc := 915) C (hT hZ1 hZo1 ho1) vl_X0_175 ht6 (by decide) (by omega) (by omega) (Nat.le_of_ble_eq_true rfl) rfl dL_law_915 (fun u2 D hc2 => ?_)
  obtain ⟨hv, hLo, hP2⟩ := hc2
  refine r_top hv ?_
  refine r_icmp_eq (pc := 918) (tgt := 2678) C dL_law_918 (by decide) (fun _ => ?_) (fun h9 => absurd rfl h9)
  refine r_forget (lv' := [some _, some _, some _, some _, some _, none, none, none, none]) ⟨rfl, rfl, rfl, rfl, rfl, trivial⟩ ?_
  exact hcont _ _ _ (by omega) (by omega) hP2
set_option maxHeartbeats 2000000 in
theorem k_isWet {g : GZ} {z : ZX} {mc ms k n : Nat} {A : HA} (C : CX g z cL_law RX0 9 1734 mc ms) (K : LwG g) {b Ls c t o i : Nat} {xs : Nat → Int32} (S : Scr g b Ls xs) (hP : LwP g c t o A) (hi : i + 6 ≤ Ls) (hk : k + 34340 ≤ mc) (hs : n + 154700 ≤ ms) (hcont : ∀ (k' n' : Nat) (D : HA), k' ≤ k + 34340 → n' ≤ n + 154700 → LwP g c t o D → wa g z k' n' D 2678 [some (.ref b), some (.ref c), some (.ref t), some (.ref o), some (.int (nI i)), none, none, none, none] []) : wa g z k n A 923 [some (.ref b), some (.ref c), some (.ref t), some (.ref o), some (.int (nI i)), none, none, none, none] [] := by
  have hL4 := S.2.2
  refine r_Z fun hZ0 => ?_
  refine r_Zo fun hZo0 => ?_
  refine r_old fun ho0 => ?_
  refine r_aload_1 (pc := 923) C dL_law_923 ?_
  refine r_aload_0 (pc := 924) C dL_law_924 ?_
  refine r_iload_4 (pc := 925) C dL_law_925 ?_
  refine r_iconst (pc := 927) C dL_law_927 ci_1 ?_
  refine r_iadd (pc := 928) C dL_law_928 ?_
  refine r_top (nI_add _ _) ?_
  refine r_scr (pc := 929) C S rfl (by omega) dL_law_929 ?_
  refine r_aload_3 (pc := 930) C dL_law_930 ?_
  refine r_SH3i (pc := 931) C (lw_isWet K hP hZ0 hZo0 ho0) sl_X0_176 (by decide) (by omega) (by omega) (Nat.le_of_ble_eq_true rfl) rfl dL_law_931 (fun u1 B1 hc1 => ?_)
  obtain ⟨q, hu, hq2, hL, ht6, hT⟩ := hc1
  refine r_top hu ?_
  refine r_Z fun hZ1 => ?_
  refine r_Zo fun hZo1 => ?_
  refine r_old fun ho1 => ?_
  refine r_istore_5 (pc := 934) C dL_law_934 rfl ?_
  refine r_aload_2 (pc := 936) C dL_law_936 ?_
  refine r_aload_0 (pc := 937) C dL_law_937 ?_
  refine r_iload_4 (pc := 938) C dL_law_938 ?_
  refine r_iconst (pc := 940) C dL_law_940 ci_1 ?_
  refine r_iadd (pc := 941) C dL_law_941 ?_
  refine r_top (nI_add _ _) ?_
  refine r_scr (pc := 942) C S rfl (by omega) dL_law_942 ?_
  refine r_V1io (pc := 943) C (hT hZ1 hZo1 ho1) vl_X0_178 ht6 (by decide) (by omega) (by omega) (Nat.le_of_ble_eq_true rfl) rfl dL_law_943 (fun u2 D hc2 => ?_)
  obtain ⟨hv, h6, hLo, hP2⟩ := hc2
  refine r_istore_6 (pc := 946) C dL_law_946 rfl ?_
  refine r_aload_2 (pc := 948) C dL_law_948 ?_
  refine r_V0io (pc := 949) C (m_thrown hP2.tw) vl_X0_131 (tw_g hP2.tw) (by decide) (by omega) (by omega) (Nat.le_of_ble_eq_true rfl) rfl dL_law_949 (fun u3 A3 hc3 => ?_)
  refine r_top (hc3.1.trans h6) ?_
  refine r_eqA hc3.2 ?_
  clear hc3 A3 u3
  refine r_iload_5 (pc := 952) C dL_law_952 ?_
  refine r_icmp_eq (pc := 954) (tgt := 959) C dL_law_954 (by decide) (fun _ => ?_) (fun h9 => absurd rfl h9)
  refine r_iload_5 (pc := 959) C dL_law_959 ?_
  refine r_if_ne (pc := 961) (tgt := 983) C dL_law_961 (by decide) (fun _ => ?_) (fun h9 => ?_)
  · skip
    refine r_goto (pc := 983) (tgt := 2678) C dL_law_983 (by decide) ?_
    refine r_forget (lv' := [some _, some _, some _, some _, some _, none, none, none, none]) ⟨rfl, rfl, rfl, rfl, rfl, trivial⟩ ?_
    exact hcont _ _ _ (by omega) (by omega) hP2
  · have hq0 : q.1 = 0 := (nI_eq0 (by omega)).mp h9
    refine r_aload_3 (pc := 964) C dL_law_964 ?_
    refine r_iconst (pc := 965) C dL_law_965 ci_0 ?_
    refine r_lald (pc := 966) (j := 0) C hP2.ko.1 rfl rfl (by rw [hP2.ko.2]; exact Nat.one_pos) (by decide) dL_law_966 ?_
    refine r_iload_6 (pc := 967) C dL_law_967 ?_
    have eL0 : D.L o 0 = (if u2 = 0 then 0 else 1) := by rw [hv hq0, hLo]; exact hL hq0
    refine r_if_eq (pc := 969) (tgt := 976) C dL_law_969 (by decide) (fun h8 => ?_) (fun h8 => ?_)
    · have eL := eL0.trans (if_pos h8)
      refine r_lconst (pc := 976) (v := 0) C dL_law_976 (by decide) ?_
      refine r_lcmp (pc := 977) C dL_law_977 ?_
      refine r_top ((lg_eq0 _ _).mpr eL) ?_
      refine r_if_eq (pc := 978) (tgt := 983) C dL_law_978 (by decide) (fun _ => ?_) (fun h9 => absurd rfl h9)
      refine r_goto (pc := 983) (tgt := 2678) C dL_law_983 (by decide) ?_
      refine r_forget (lv' := [some _, some _, some _, some _, some _, none, none, none, none]) ⟨rfl, rfl, rfl, rfl, rfl, trivial⟩ ?_
      exact hcont _ _ _ (by omega) (by omega) hP2
    · have eL := eL0.trans (if_neg h8)
      refine r_lconst (pc := 972) (v := 1) C dL_law_972 (by decide) ?_
      refine r_goto (pc := 973) (tgt := 977) C dL_law_973 (by decide) ?_
      refine r_lcmp (pc := 977) C dL_law_977 ?_
      refine r_top ((lg_eq0 _ _).mpr eL) ?_
      refine r_if_eq (pc := 978) (tgt := 983) C dL_law_978 (by decide) (fun _ => ?_) (fun h9 => absurd rfl h9)
      refine r_goto (pc := 983) (tgt := 2678) C dL_law_983 (by decide) ?_
      refine r_forget (lv' := [some _, some _, some _, some _, some _, none, none, none, none]) ⟨rfl, rfl, rfl, rfl, rfl, trivial⟩ ?_
      exact hcont _ _ _ (by omega) (by omega) hP2
set_option maxHeartbeats 2000000 in
theorem k_cost {g : GZ} {z : ZX} {mc ms k n : Nat} {A : HA} (C : CX g z cL_law RX0 9 1734 mc ms) (K : LwG g) {b Ls c t o i : Nat} {xs : Nat → Int32} (S : Scr g b Ls xs) (hP : LwP g c t o A) (hi : i + 6 ≤ Ls) (hk : k + 34340 ≤ mc) (hs : n + 154700 ≤ ms) (hcont : ∀ (k' n' : Nat) (D : HA), k' ≤ k + 34340 → n' ≤ n + 154700 → LwP g c t o D → wa g z k' n' D 2678 [some (.ref b), some (.ref c), some (.ref t), some (.ref o), some (.int (nI i)), none, none, none, none] []) : wa g z k n A 986 [some (.ref b), some (.ref c), some (.ref t), some (.ref o), some (.int (nI i)), none, none, none, none] [] := by
  have hL4 := S.2.2
  refine r_Z fun hZ0 => ?_
  refine r_Zo fun hZo0 => ?_
  refine r_old fun ho0 => ?_
  refine r_aload_1 (pc := 986) C dL_law_986 ?_
  refine r_aload_0 (pc := 987) C dL_law_987 ?_
  refine r_iload_4 (pc := 988) C dL_law_988 ?_
  refine r_iconst (pc := 990) C dL_law_990 ci_1 ?_
  refine r_iadd (pc := 991) C dL_law_991 ?_
  refine r_top (nI_add _ _) ?_
  refine r_scr (pc := 992) C S rfl (by omega) dL_law_992 ?_
  refine r_aload_0 (pc := 993) C dL_law_993 ?_
  refine r_iload_4 (pc := 994) C dL_law_994 ?_
  refine r_iconst (pc := 996) C dL_law_996 ci_2 ?_
  refine r_iadd (pc := 997) C dL_law_997 ?_
  refine r_top (nI_add _ _) ?_
  refine r_scr (pc := 998) C S rfl (by omega) dL_law_998 ?_
  refine r_aload_0 (pc := 999) C dL_law_999 ?_
  refine r_iload_4 (pc := 1000) C dL_law_1000 ?_
  refine r_iconst (pc := 1002) C dL_law_1002 ci_3 ?_
  refine r_iadd (pc := 1003) C dL_law_1003 ?_
  refine r_top (nI_add _ _) ?_
  refine r_scr (pc := 1004) C S rfl (by omega) dL_law_1004 ?_
  refine r_aload_3 (pc := 1005) C dL_law_1005 ?_
  refine r_SH5i (pc := 1006) C (lw_cost K hP hZ0 hZo0 ho0) sl_X0_179 (by decide) (by omega) (by omega) (Nat.le_of_ble_eq_true rfl) rfl dL_law_1006 (fun u1 B1 hc1 => ?_)
  obtain ⟨q, hu, hq2, hL, ht6, hT⟩ := hc1
  refine r_top hu ?_
  refine r_Z fun hZ1 => ?_
  refine r_Zo fun hZo1 => ?_
  refine r_old fun ho1 => ?_
  refine r_istore_5 (pc := 1009) C dL_law_1009 rfl ?_
  refine r_aload_2 (pc := 1011) C dL_law_1011 ?_
  refine r_aload_0 (pc := 1012) C dL_law_1012 ?_
  refine r_iload_4 (pc := 1013) C dL_law_1013 ?_
  refine r_iconst (pc := 1015) C dL_law_1015 ci_1 ?_
  refine r_iadd (pc := 1016) C dL_law_1016 ?_
  refine r_top (nI_add _ _) ?_
  refine r_scr (pc := 1017) C S rfl (by omega) dL_law_1017 ?_
  refine r_aload_0 (pc := 1018) C dL_law_1018 ?_
  refine r_iload_4 (pc := 1019) C dL_law_1019 ?_
  refine r_iconst (pc := 1021) C dL_law_1021 ci_2 ?_
  refine r_iadd (pc := 1022) C dL_law_1022 ?_
  refine r_top (nI_add _ _) ?_
  refine r_scr (pc := 1023) C S rfl (by omega) dL_law_1023 ?_
  refine r_aload_0 (pc := 1024) C dL_law_1024 ?_
  refine r_iload_4 (pc := 1025) C dL_law_1025 ?_
  refine r_iconst (pc := 1027) C dL_law_1027 ci_3 ?_
  refine r_iadd (pc := 1028) C dL_law_1028 ?_
  refine r_top (nI_add _ _) ?_
  refine r_scr (pc := 1029) C S rfl (by omega) dL_law_1029 ?_
  refine r_V3io (pc := 1030) C (hT hZ1 hZo1 ho1) vl_X0_181 ht6 (by decide) (by omega) (by omega) (Nat.le_of_ble_eq_true rfl) rfl dL_law_1030 (fun u2 D hc2 => ?_)
  obtain ⟨hv, h6, hLo, hP2⟩ := hc2
  refine r_istore_6 (pc := 1033) C dL_law_1033 rfl ?_
  refine r_aload_2 (pc := 1035) C dL_law_1035 ?_
  refine r_V0io (pc := 1036) C (m_thrown hP2.tw) vl_X0_131 (tw_g hP2.tw) (by decide) (by omega) (by omega) (Nat.le_of_ble_eq_true rfl) rfl dL_law_1036 (fun u3 A3 hc3 => ?_)
  refine r_top (hc3.1.trans h6) ?_
  refine r_eqA hc3.2 ?_
  clear hc3 A3 u3
  refine r_iload_5 (pc := 1039) C dL_law_1039 ?_
  refine r_icmp_eq (pc := 1041) (tgt := 1046) C dL_law_1041 (by decide) (fun _ => ?_) (fun h9 => absurd rfl h9)
  refine r_iload_5 (pc := 1046) C dL_law_1046 ?_
  refine r_if_ne (pc := 1048) (tgt := 1063) C dL_law_1048 (by decide) (fun _ => ?_) (fun h9 => ?_)
  · skip
    refine r_goto (pc := 1063) (tgt := 2678) C dL_law_1063 (by decide) ?_
    refine r_forget (lv' := [some _, some _, some _, some _, some _, none, none, none, none]) ⟨rfl, rfl, rfl, rfl, rfl, trivial⟩ ?_
    exact hcont _ _ _ (by omega) (by omega) hP2
  · have hq0 : q.1 = 0 := (nI_eq0 (by omega)).mp h9
    refine r_aload_3 (pc := 1051) C dL_law_1051 ?_
    refine r_iconst (pc := 1052) C dL_law_1052 ci_0 ?_
    refine r_lald (pc := 1053) (j := 0) C hP2.ko.1 rfl rfl (by rw [hP2.ko.2]; exact Nat.one_pos) (by decide) dL_law_1053 ?_
    refine r_iload_6 (pc := 1054) C dL_law_1054 ?_
    have eL : D.L o 0 = u2.toInt64 := by rw [hv hq0, hLo]; exact hL hq0
    refine r_i2l (pc := 1056) C dL_law_1056 ?_
    refine r_lcmp (pc := 1057) C dL_law_1057 ?_
    refine r_top ((lg_eq0 _ _).mpr eL) ?_
    refine r_if_eq (pc := 1058) (tgt := 1063) C dL_law_1058 (by decide) (fun _ => ?_) (fun h9 => absurd rfl h9)
    refine r_goto (pc := 1063) (tgt := 2678) C dL_law_1063 (by decide) ?_
    refine r_forget (lv' := [some _, some _, some _, some _, some _, none, none, none, none]) ⟨rfl, rfl, rfl, rfl, rfl, trivial⟩ ?_
    exact hcont _ _ _ (by omega) (by omega) hP2
set_option maxHeartbeats 2000000 in
theorem k_wayCost {g : GZ} {z : ZX} {mc ms k n : Nat} {A : HA} (C : CX g z cL_law RX0 9 1734 mc ms) (K : LwG g) {b Ls c t o i : Nat} {xs : Nat → Int32} (S : Scr g b Ls xs) (hP : LwP g c t o A) (hi : i + 6 ≤ Ls) (hk : k + 34340 ≤ mc) (hs : n + 154700 ≤ ms) (hcont : ∀ (k' n' : Nat) (D : HA), k' ≤ k + 34340 → n' ≤ n + 154700 → LwP g c t o D → wa g z k' n' D 2678 [some (.ref b), some (.ref c), some (.ref t), some (.ref o), some (.int (nI i)), none, none, none, none] []) : wa g z k n A 1066 [some (.ref b), some (.ref c), some (.ref t), some (.ref o), some (.int (nI i)), none, none, none, none] [] := by
  have hL4 := S.2.2
  refine r_Z fun hZ0 => ?_
  refine r_Zo fun hZo0 => ?_
  refine r_old fun ho0 => ?_
  refine r_aload_1 (pc := 1066) C dL_law_1066 ?_
  refine r_aload_0 (pc := 1067) C dL_law_1067 ?_
  refine r_iload_4 (pc := 1068) C dL_law_1068 ?_
  refine r_iconst (pc := 1070) C dL_law_1070 ci_1 ?_
  refine r_iadd (pc := 1071) C dL_law_1071 ?_
  refine r_top (nI_add _ _) ?_
  refine r_scr (pc := 1072) C S rfl (by omega) dL_law_1072 ?_
  refine r_aload_3 (pc := 1073) C dL_law_1073 ?_
  refine r_SH3i (pc := 1074) C (lw_wayCost K hP hZ0 hZo0 ho0) sl_X0_182 (by decide) (by omega) (by omega) (Nat.le_of_ble_eq_true rfl) rfl dL_law_1074 (fun u1 B1 hc1 => ?_)
  obtain ⟨q, hu, hq2, hL, ht6, hT⟩ := hc1
  refine r_top hu ?_
  refine r_Z fun hZ1 => ?_
  refine r_Zo fun hZo1 => ?_
  refine r_old fun ho1 => ?_
  refine r_istore_5 (pc := 1077) C dL_law_1077 rfl ?_
  refine r_aload_2 (pc := 1079) C dL_law_1079 ?_
  refine r_aload_0 (pc := 1080) C dL_law_1080 ?_
  refine r_iload_4 (pc := 1081) C dL_law_1081 ?_
  refine r_iconst (pc := 1083) C dL_law_1083 ci_1 ?_
  refine r_iadd (pc := 1084) C dL_law_1084 ?_
  refine r_top (nI_add _ _) ?_
  refine r_scr (pc := 1085) C S rfl (by omega) dL_law_1085 ?_
  refine r_V1io (pc := 1086) C (hT hZ1 hZo1 ho1) vl_X0_184 ht6 (by decide) (by omega) (by omega) (Nat.le_of_ble_eq_true rfl) rfl dL_law_1086 (fun u2 D hc2 => ?_)
  obtain ⟨hv, h6, hLo, hP2⟩ := hc2
  refine r_istore_6 (pc := 1089) C dL_law_1089 rfl ?_
  refine r_aload_2 (pc := 1091) C dL_law_1091 ?_
  refine r_V0io (pc := 1092) C (m_thrown hP2.tw) vl_X0_131 (tw_g hP2.tw) (by decide) (by omega) (by omega) (Nat.le_of_ble_eq_true rfl) rfl dL_law_1092 (fun u3 A3 hc3 => ?_)
  refine r_top (hc3.1.trans h6) ?_
  refine r_eqA hc3.2 ?_
  clear hc3 A3 u3
  refine r_iload_5 (pc := 1095) C dL_law_1095 ?_
  refine r_icmp_eq (pc := 1097) (tgt := 1102) C dL_law_1097 (by decide) (fun _ => ?_) (fun h9 => absurd rfl h9)
  refine r_iload_5 (pc := 1102) C dL_law_1102 ?_
  refine r_if_ne (pc := 1104) (tgt := 1119) C dL_law_1104 (by decide) (fun _ => ?_) (fun h9 => ?_)
  · skip
    refine r_goto (pc := 1119) (tgt := 2678) C dL_law_1119 (by decide) ?_
    refine r_forget (lv' := [some _, some _, some _, some _, some _, none, none, none, none]) ⟨rfl, rfl, rfl, rfl, rfl, trivial⟩ ?_
    exact hcont _ _ _ (by omega) (by omega) hP2
  · have hq0 : q.1 = 0 := (nI_eq0 (by omega)).mp h9
    refine r_aload_3 (pc := 1107) C dL_law_1107 ?_
    refine r_iconst (pc := 1108) C dL_law_1108 ci_0 ?_
    refine r_lald (pc := 1109) (j := 0) C hP2.ko.1 rfl rfl (by rw [hP2.ko.2]; exact Nat.one_pos) (by decide) dL_law_1109 ?_
    refine r_iload_6 (pc := 1110) C dL_law_1110 ?_
    have eL : D.L o 0 = u2.toInt64 := by rw [hv hq0, hLo]; exact hL hq0
    refine r_i2l (pc := 1112) C dL_law_1112 ?_
    refine r_lcmp (pc := 1113) C dL_law_1113 ?_
    refine r_top ((lg_eq0 _ _).mpr eL) ?_
    refine r_if_eq (pc := 1114) (tgt := 1119) C dL_law_1114 (by decide) (fun _ => ?_) (fun h9 => absurd rfl h9)
    refine r_goto (pc := 1119) (tgt := 2678) C dL_law_1119 (by decide) ?_
    refine r_forget (lv' := [some _, some _, some _, some _, some _, none, none, none, none]) ⟨rfl, rfl, rfl, rfl, rfl, trivial⟩ ?_
    exact hcont _ _ _ (by omega) (by omega) hP2
set_option maxHeartbeats 2000000 in
theorem k_waySteps {g : GZ} {z : ZX} {mc ms k n : Nat} {A : HA} (C : CX g z cL_law RX0 9 1734 mc ms) (K : LwG g) {b Ls c t o i : Nat} {xs : Nat → Int32} (S : Scr g b Ls xs) (hP : LwP g c t o A) (hi : i + 6 ≤ Ls) (hk : k + 34340 ≤ mc) (hs : n + 154700 ≤ ms) (hcont : ∀ (k' n' : Nat) (D : HA), k' ≤ k + 34340 → n' ≤ n + 154700 → LwP g c t o D → wa g z k' n' D 2678 [some (.ref b), some (.ref c), some (.ref t), some (.ref o), some (.int (nI i)), none, none, none, none] []) : wa g z k n A 1122 [some (.ref b), some (.ref c), some (.ref t), some (.ref o), some (.int (nI i)), none, none, none, none] [] := by
  have hL4 := S.2.2
  refine r_Z fun hZ0 => ?_
  refine r_Zo fun hZo0 => ?_
  refine r_old fun ho0 => ?_
  refine r_aload_1 (pc := 1122) C dL_law_1122 ?_
  refine r_aload_0 (pc := 1123) C dL_law_1123 ?_
  refine r_iload_4 (pc := 1124) C dL_law_1124 ?_
  refine r_iconst (pc := 1126) C dL_law_1126 ci_1 ?_
  refine r_iadd (pc := 1127) C dL_law_1127 ?_
  refine r_top (nI_add _ _) ?_
  refine r_scr (pc := 1128) C S rfl (by omega) dL_law_1128 ?_
  refine r_aload_3 (pc := 1129) C dL_law_1129 ?_
  refine r_SH3i (pc := 1130) C (lw_waySteps K hP hZ0 hZo0 ho0) sl_X0_185 (by decide) (by omega) (by omega) (Nat.le_of_ble_eq_true rfl) rfl dL_law_1130 (fun u1 B1 hc1 => ?_)
  obtain ⟨q, hu, hq2, hL, ht6, hT⟩ := hc1
  refine r_top hu ?_
  refine r_Z fun hZ1 => ?_
  refine r_Zo fun hZo1 => ?_
  refine r_old fun ho1 => ?_
  refine r_istore_5 (pc := 1133) C dL_law_1133 rfl ?_
  refine r_aload_2 (pc := 1135) C dL_law_1135 ?_
  refine r_aload_0 (pc := 1136) C dL_law_1136 ?_
  refine r_iload_4 (pc := 1137) C dL_law_1137 ?_
  refine r_iconst (pc := 1139) C dL_law_1139 ci_1 ?_
  refine r_iadd (pc := 1140) C dL_law_1140 ?_
  refine r_top (nI_add _ _) ?_
  refine r_scr (pc := 1141) C S rfl (by omega) dL_law_1141 ?_
  refine r_V1io (pc := 1142) C (hT hZ1 hZo1 ho1) vl_X0_187 ht6 (by decide) (by omega) (by omega) (Nat.le_of_ble_eq_true rfl) rfl dL_law_1142 (fun u2 D hc2 => ?_)
  obtain ⟨hv, h6, hLo, hP2⟩ := hc2
  refine r_istore_6 (pc := 1145) C dL_law_1145 rfl ?_
  refine r_aload_2 (pc := 1147) C dL_law_1147 ?_
  refine r_V0io (pc := 1148) C (m_thrown hP2.tw) vl_X0_131 (tw_g hP2.tw) (by decide) (by omega) (by omega) (Nat.le_of_ble_eq_true rfl) rfl dL_law_1148 (fun u3 A3 hc3 => ?_)
  refine r_top (hc3.1.trans h6) ?_
  refine r_eqA hc3.2 ?_
  clear hc3 A3 u3
  refine r_iload_5 (pc := 1151) C dL_law_1151 ?_
  refine r_icmp_eq (pc := 1153) (tgt := 1158) C dL_law_1153 (by decide) (fun _ => ?_) (fun h9 => absurd rfl h9)
  refine r_iload_5 (pc := 1158) C dL_law_1158 ?_
  refine r_if_ne (pc := 1160) (tgt := 1175) C dL_law_1160 (by decide) (fun _ => ?_) (fun h9 => ?_)
  · skip
    refine r_goto (pc := 1175) (tgt := 2678) C dL_law_1175 (by decide) ?_
    refine r_forget (lv' := [some _, some _, some _, some _, some _, none, none, none, none]) ⟨rfl, rfl, rfl, rfl, rfl, trivial⟩ ?_
    exact hcont _ _ _ (by omega) (by omega) hP2
  · have hq0 : q.1 = 0 := (nI_eq0 (by omega)).mp h9
    refine r_aload_3 (pc := 1163) C dL_law_1163 ?_
    refine r_iconst (pc := 1164) C dL_law_1164 ci_0 ?_
    refine r_lald (pc := 1165) (j := 0) C hP2.ko.1 rfl rfl (by rw [hP2.ko.2]; exact Nat.one_pos) (by decide) dL_law_1165 ?_
    refine r_iload_6 (pc := 1166) C dL_law_1166 ?_
    have eL : D.L o 0 = u2.toInt64 := by rw [hv hq0, hLo]; exact hL hq0
    refine r_i2l (pc := 1168) C dL_law_1168 ?_
    refine r_lcmp (pc := 1169) C dL_law_1169 ?_
    refine r_top ((lg_eq0 _ _).mpr eL) ?_
    refine r_if_eq (pc := 1170) (tgt := 1175) C dL_law_1170 (by decide) (fun _ => ?_) (fun h9 => absurd rfl h9)
    refine r_goto (pc := 1175) (tgt := 2678) C dL_law_1175 (by decide) ?_
    refine r_forget (lv' := [some _, some _, some _, some _, some _, none, none, none, none]) ⟨rfl, rfl, rfl, rfl, rfl, trivial⟩ ?_
    exact hcont _ _ _ (by omega) (by omega) hP2
