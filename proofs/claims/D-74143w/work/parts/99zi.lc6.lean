/-! the law: its cases (edits) 99zi.lc6 -/
set_option maxRecDepth 100000
set_option maxHeartbeats 8000000 in
theorem L_0 {pg : Program} {l : Launch} {ev : Env} {s : State} {m : MethodId} {ar : Array Value} {bl : List Frame} {me : Method} {c : Code} {Q : State → Prop} {G : zG} {sc LL : Nat} {xs : Nat → Int32} {nw : Nat} {wq wv : Nat → Nat} {lq lva : Nat} {ls : Array Slot} {H : Heap} {locs : List Loc} {ce sl : Nat} {ad adm : Nat → Nat} {o j : Nat} (CX : LCT pg l s m ar me c G sc LL xs nw wq wv lq lva) (hj : j + 6 ≤ LL) (hl : lv_has ls 7 [(4, .int (iZ (j : Int))), (3, .ref o), (2, .ref (adm 0)), (1, .ref (ad 99)), (0, .ref sc)]) (hS : LST s G nw ad adm o H locs) (hce : ce + 40000 ≤ 1200144) (hsl : sl + 200000 ≤ 5497402) (K : ∀ (ls1 : Array Slot) (H1 : Heap) (locs1 : List Loc), lv_has ls1 7 [(4, .int (iZ (j : Int))), (3, .ref o), (2, .ref (adm 0)), (1, .ref (ad 99)), (0, .ref sc)] → LST s G nw ad adm o H1 locs1 → W pg l ev room_1 s m ar bl me c H1 locs1 (ce + 40000) (sl + 200000) Q (F0 m 2566 ls1 [])) : W pg l ev room_1 s m ar bl me c H locs ce sl Q (F0 m 276 ls []) := by
  obtain ⟨C, ⟨hX, hsc, hL⟩, hlt, hnw, hBx, hcs, hsi, hth, hthq, hni, hRW, hlit⟩ := CX
  obtain ⟨tt, tp, ln, fa, fp, b, t, n, v, wt, un, hm, hvv, hww, fr, F, Ar, kp, L, pl, pr, pa, pm, pf, Fm, Am, fo, hDK, hMD, hH⟩ := hS
  have hDK0 := hDK
  have hMD0 := hMD
  obtain ⟨hD, ⟨hF1, hF2, hF3, hF6⟩, htt, htp, htb⟩ := hDK
  have hD0 := hD
  obtain ⟨⟨hn, hFn, hv, hAv, hwt, hAw⟩, ⟨hb, hFb, ht, hFt⟩, ⟨hun, hF14, hkt, hPD⟩, ⟨hPL, hpc⟩, hmo, hfr, h16⟩ := hD
  obtain ⟨⟨m2, m5, m6, m7, m8, m12, m13, m29, m30⟩, hA1, hA3, hA4, hPA⟩ := hMD
  have hpp := PLS_pool hPL
  have hpl := PLS_pl hPL
  have hx1 := sx_r (xs := xs) (j := j) (k := 1)
  have hx2 := sx_r (xs := xs) (j := j) (k := 2)
  have hx3 := sx_r (xs := xs) (j := j) (k := 3)
  have hx4 := sx_r (xs := xs) (j := j) (k := 4)
  have hx5 := sx_r (xs := xs) (j := j) (k := 5)
  have hnzr := nz_r (x := sx xs j 3)
  have hnzb := nz_b (x := sx xs j 3)
  refine z_aload_n C 276 hl dL_law_276 rfl 3 rfl ?_
  refine z_scr C hX hsc hH.2.2 277 1 hl 0 4 rfl rfl (by omega) hL dL_law_277 dL_law_278 dL_law_280 dL_law_281 dL_law_282 ?_
  refine z_scr C hX hsc hH.2.2 283 2 hl 0 4 rfl rfl (by omega) hL dL_law_283 dL_law_284 dL_law_286 dL_law_287 dL_law_288 ?_
  refine z_scr C hX hsc hH.2.2 289 3 hl 0 4 rfl rfl (by omega) hL dL_law_289 dL_law_290 dL_law_292 dL_law_293 dL_law_294 ?_
  refine z_scr C hX hsc hH.2.2 295 4 hl 0 4 rfl rfl (by omega) hL dL_law_295 dL_law_296 dL_law_298 dL_law_299 dL_law_300 ?_
  refine z_scr C hX hsc hH.2.2 301 5 hl 0 4 rfl rfl (by omega) hL dL_law_301 dL_law_302 dL_law_304 dL_law_305 dL_law_306 ?_
  have hM := m_X1_feed l s G H.size ad F Ar kp pl (dPool G pr pa pm pf L) tt tp (Ar 0) (sx xs j 1) (sx xs j 2) (sx xs j 3) (sx xs j 4) (sx xs j 5) (by first | assumption | omega) (by first | assumption | omega) (by first | assumption | omega) (by first | assumption | omega) (by first | assumption | omega) (by first | assumption | omega) (by first | assumption | omega) (by first | assumption | omega)
  rw [va_up_id hF1, va_up_id (rfl : Ar 0 = Ar 0)] at hM
  refine z_fr (w1 := dW ad G F Ar kp pl (dPool G pr pa pm pf L)) (z_runV C hH.2.2 hl.1 (zH_l hH).1 (zH_l hH).2.1 5 (As := [.int (iZ (sx xs j 1)), .int (iZ (sx xs j 2)), .int (iZ (sx xs j 3)), .int (iZ (sx xs j 4)), .int (iZ (sx xs j 5))]) (rest := []) hM (lw_V q294 q295 q296 q89 q297) ⟨rfl, by decide, by decide, by decide +kernel⟩ (q0 := 0) (ci := 1) rfl rfl rfl rfl (Nat.le_of_ble_eq_true rfl) ⟨Nat.le_of_ble_eq_true rfl, Nat.le_of_ble_eq_true rfl⟩ ⟨by show _ + 0 ≤ 1200144; omega, by show _ + 0 ≤ 5497402; omega⟩ dL_law_307) hH (fun u H locs hpost hH => ?_)
  obtain ⟨r1, tp2, t2, a2⟩ := u
  obtain ⟨hs1, g1, g2, g3⟩ := hpost
  refine z_st (st' := [.int (iZ r1)]) rfl ?_
  have hH := zH_rot hH
  refine z_aload_n C 310 hl dL_law_310 rfl 2 rfl ?_
  refine z_scr C hX hsc hH.2.2 311 1 hl 0 4 rfl rfl (by omega) hL dL_law_311 dL_law_312 dL_law_314 dL_law_315 dL_law_316 ?_
  refine z_scr C hX hsc hH.2.2 317 2 hl 0 4 rfl rfl (by omega) hL dL_law_317 dL_law_318 dL_law_320 dL_law_321 dL_law_322 ?_
  refine z_scr C hX hsc hH.2.2 323 3 hl 0 4 rfl rfl (by omega) hL dL_law_323 dL_law_324 dL_law_326 dL_law_327 dL_law_328 ?_
  refine z_scr C hX hsc hH.2.2 329 4 hl 0 4 rfl rfl (by omega) hL dL_law_329 dL_law_330 dL_law_332 dL_law_333 dL_law_334 ?_
  refine z_scr C hX hsc hH.2.2 335 5 hl 0 4 rfl rfl (by omega) hL dL_law_335 dL_law_336 dL_law_338 dL_law_339 dL_law_340 ?_
  have hM := m_X7_feed l s G H.size adm Fm Am tt tp (sx xs j 1) (sx xs j 2) (sx xs j 3) (sx xs j 4) (sx xs j 5) (by first | assumption | omega) (by first | assumption | omega) (by first | assumption | omega) (by first | assumption | omega) (by first | assumption | omega) (by first | assumption | omega)
  simp only [va_up_id m2, va_up_id m5, va_up_id m6, va_up_id m7, va_up_id m8, va_up_id m12, va_up_id m13, va_up_id m29, va_up_id m30, va_up_id hA1, va_up_id (cI_self hA3), va_up_id (cI_self hA4), va_up_id (rfl : Am 9 = Am 9), va_up_id (rfl : Am 10 = Am 10), va_up_id (rfl : Am 11 = Am 11), va_up_id (rfl : Am 14 = Am 14), va_up_id (rfl : Am 15 = Am 15)] at hM
  refine z_fr (w1 := mW adm G Fm Am) (z_runV C hH.2.2 hl.1 (zH_l hH).1 (zH_l hH).2.1 5 (As := [.int (iZ (sx xs j 1)), .int (iZ (sx xs j 2)), .int (iZ (sx xs j 3)), .int (iZ (sx xs j 4)), .int (iZ (sx xs j 5))]) (rest := [.int (iZ r1)]) hM (lw_V q1551 q1552 q1553 q95 q1554) ⟨rfl, by decide, by decide, by decide +kernel⟩ (q0 := 0) (ci := 0) rfl rfl rfl rfl (Nat.le_of_ble_eq_true rfl) ⟨Nat.le_of_ble_eq_true rfl, Nat.le_of_ble_eq_true rfl⟩ ⟨by show _ + 0 ≤ 1200144; omega, by show _ + 0 ≤ 5497402; omega⟩ dL_law_341) hH (fun u H locs hpost hH => ?_)
  obtain ⟨r7, tp2m, t2m⟩ := u
  have hs7 : Sp_feed tt tp (sx xs j 1) (sx xs j 2) (sx xs j 3) (sx xs j 4) (sx xs j 5) r7 tp2m t2m := hpost
  refine z_st (st' := [.int (iZ r7), .int (iZ r1)]) rfl ?_
  have hH := zH_rot hH
  obtain ⟨e1, rfl, rfl⟩ := one_feed hs1 hs7
  refine z_same2 C 344 2566 dL_law_344 rfl e1 ?_
  refine W.widen (by omega) (by omega) (K ls _ _ hl ?_)
  refine ⟨t2, tp2, ln, fa, fp, b, t, n, v, wt, un, hm, hvv, hww, fr, _, _, kp, L, pl, pr, pa, pm, pf, _, _, fo, ?_, ?_, hH⟩
  · exact ⟨⟨⟨hn, hFn, hv, hAv, hwt, hAw⟩, ⟨hb, hFb, ht, hFt⟩, ⟨hun, hF14, hkt, PASTD_F hun hkt hPD (fun k hk => va_up_ne _ _ (by omega)) (fun k hk => va_up_ne _ _ (by omega))⟩, ⟨hPL, hpc⟩, hmo, hfr, h16⟩, ⟨rfl, hF2, hF3, hF6⟩, g1, g3, g2⟩
  · exact ⟨⟨rfl, m5, m6, m7, m8, m12, m13, m29, m30⟩, rfl, hA3, hA4, hPA⟩

theorem Sp_text_tp {t : Nat → Nat} {tp : Nat} {q : Int} {n : Nat} {v w : Nat → Nat} {b ti : Nat} {ln : Int} {un : Nat} {fr fa fp r_ : Int} {n2 : Nat} {v2 w2 : Nat → Nat} {b2 ti2 : Nat} {ln2 : Int} {un2 : Nat} {fr2 fa2 fp2 : Int} {tp2 : Nat} (h : Sp_text t tp q n v w b ti ln un fr fa fp r_ n2 v2 w2 b2 ti2 ln2 un2 fr2 fa2 fp2 tp2) : tp2 ≤ tp := by
  rcases h with ⟨c, h1, h2, h3, h4, h5, h6, h7, h8, h9, h10, h11, h12⟩ | ⟨c, h12, h⟩ <;> omega
theorem Sp_text_past {t : Nat → Nat} {tp : Nat} {q : Int} {n : Nat} {v w : Nat → Nat} {b ti : Nat} {ln : Int} {un : Nat} {fr fa fp r_ : Int} {n2 : Nat} {v2 w2 : Nat → Nat} {b2 ti2 : Nat} {ln2 : Int} {un2 : Nat} {fr2 fa2 fp2 : Int} {tp2 : Nat} {pv pw pm : Nat → Int} {hm : Nat → Nat} {hv hw : Nat → Nat → Nat} (h : Sp_text t tp q n v w b ti ln un fr fa fp r_ n2 v2 w2 b2 ti2 ln2 un2 fr2 fa2 fp2 tp2) (k : PAST un pv pw pm hm hv hw) : PAST un2 pv pw pm hm hv hw := by
  rcases h with ⟨c, h1, h2, h3, h4, h5, h6, h7, h8, h9, h10, h11, h12⟩ | ⟨c, h12, ⟨a, p, hx, h1, h2, h3, h4, h5, h6, h7, h8, h9, h10, h11⟩ | ⟨m, u, x, bl, tx, l, hx, h1, h2, h3, h4, h5, h6, h7, h8, h9, h10, h11⟩⟩
  · rw [h8]; exact k
  · rw [h8]; exact k
  · rw [h8]; exact fun j hj => absurd hj (Nat.not_lt_zero _)
set_option maxHeartbeats 8000000 in
theorem L_1 {pg : Program} {l : Launch} {ev : Env} {s : State} {m : MethodId} {ar : Array Value} {bl : List Frame} {me : Method} {c : Code} {Q : State → Prop} {G : zG} {sc LL : Nat} {xs : Nat → Int32} {nw : Nat} {wq wv : Nat → Nat} {lq lva : Nat} {ls : Array Slot} {H : Heap} {locs : List Loc} {ce sl : Nat} {ad adm : Nat → Nat} {o j : Nat} (CX : LCT pg l s m ar me c G sc LL xs nw wq wv lq lva) (hj : j + 6 ≤ LL) (hl : lv_has ls 7 [(4, .int (iZ (j : Int))), (3, .ref o), (2, .ref (adm 0)), (1, .ref (ad 99)), (0, .ref sc)]) (hS : LST s G nw ad adm o H locs) (hce : ce + 40000 ≤ 1200144) (hsl : sl + 200000 ≤ 5497402) (K : ∀ (ls1 : Array Slot) (H1 : Heap) (locs1 : List Loc), lv_has ls1 7 [(4, .int (iZ (j : Int))), (3, .ref o), (2, .ref (adm 0)), (1, .ref (ad 99)), (0, .ref sc)] → LST s G nw ad adm o H1 locs1 → W pg l ev room_1 s m ar bl me c H1 locs1 (ce + 40000) (sl + 200000) Q (F0 m 2566 ls1 [])) : W pg l ev room_1 s m ar bl me c H locs ce sl Q (F0 m 349 ls []) := by
  obtain ⟨C, ⟨hX, hsc, hL⟩, hlt, hnw, hBx, hcs, hsi, hth, hthq, hni, hRW, hlit⟩ := CX
  obtain ⟨tt, tp, ln, fa, fp, b, t, n, v, wt, un, hm, hvv, hww, fr, F, Ar, kp, L, pl, pr, pa, pm, pf, Fm, Am, fo, hDK, hMD, hH⟩ := hS
  have hDK0 := hDK
  have hMD0 := hMD
  obtain ⟨hD, ⟨hF1, hF2, hF3, hF6⟩, htt, htp, htb⟩ := hDK
  have hD0 := hD
  obtain ⟨⟨hn, hFn, hv, hAv, hwt, hAw⟩, ⟨hb, hFb, ht, hFt⟩, ⟨hun, hF14, hkt, hPD⟩, ⟨hPL, hpc⟩, hmo, hfr, h16⟩ := hD
  obtain ⟨⟨m2, m5, m6, m7, m8, m12, m13, m29, m30⟩, hA1, hA3, hA4, hPA⟩ := hMD
  have hpp := PLS_pool hPL
  have hpl := PLS_pl hPL
  have hx1 := sx_r (xs := xs) (j := j) (k := 1)
  have hx2 := sx_r (xs := xs) (j := j) (k := 2)
  have hx3 := sx_r (xs := xs) (j := j) (k := 3)
  have hx4 := sx_r (xs := xs) (j := j) (k := 4)
  have hx5 := sx_r (xs := xs) (j := j) (k := 5)
  have hnzr := nz_r (x := sx xs j 3)
  have hnzb := nz_b (x := sx xs j 3)
  refine z_aload_n C 349 hl dL_law_349 rfl 3 rfl ?_
  refine z_scr C hX hsc hH.2.2 350 1 hl 0 4 rfl rfl (by omega) hL dL_law_350 dL_law_351 dL_law_353 dL_law_354 dL_law_355 ?_
  have hM := m_X1_text l s G H.size (by first | assumption | omega) (by first | assumption | omega) wq wv (by first | assumption | omega) ad F Ar kp pl L pr pa pm pf nw b t n v wt un hm hvv hww fr (by first | assumption | omega) (by first | assumption | omega) tt tp (sx xs j 1) ln fa fp (by first | assumption | omega) (by first | assumption | omega) (by first | assumption | omega) (by first | assumption | omega) (by first | assumption | omega) (by first | assumption | omega) (by first | assumption | omega) (by first | assumption | omega)
  refine z_fr (w1 := dW ad G F Ar kp pl (dPool G pr pa pm pf L)) (zh_runV C hH.2.2 hl.1 (zH_l hH).1 (zH_l hH).2.1 1 (As := [.int (iZ (sx xs j 1))]) (rest := []) hM (lw_VW q298 q299 q300 q89 q301) ⟨rfl, by decide, by decide, by decide +kernel⟩ (q0 := 0) (ci := 1) rfl rfl rfl rfl (Nat.le_of_ble_eq_true rfl) ⟨Nat.le_of_ble_eq_true rfl, Nat.le_of_ble_eq_true rfl⟩ ⟨by show _ + 15566 ≤ 1200144; omega, by show _ + 133867 ≤ 5497402; omega⟩ dL_law_356) hH (fun u H locs hpost hH => ?_)
  obtain ⟨r1, n2, v2, w2, b2, t2, ln2, un2, fr2, fa2, fp2, tp2, L2, pl2, pr2, pa2, pm2, pf2, F2, A2⟩ := u
  obtain ⟨hs1, hd1, k1, k2, k3, k6, k0⟩ := hpost
  refine z_st (st' := [.int (iZ r1)]) rfl ?_
  have hH := zH_rot hH
  refine z_aload_n C 359 hl dL_law_359 rfl 2 rfl ?_
  refine z_scr C hX hsc hH.2.2 360 1 hl 0 4 rfl rfl (by omega) hL dL_law_360 dL_law_361 dL_law_363 dL_law_364 dL_law_365 ?_
  have hM := m_X7_text l s G H.size adm Fm Am tt tp n b t un ln fr fa fp (sx xs j 1) v wt (Am 3) (Am 4) (Am 14) (Am 15) lq lva (by first | assumption | omega) (by first | assumption | omega) (by first | assumption | omega) (by first | assumption | omega) (by first | assumption | omega) (by first | assumption | omega) (by first | assumption | omega)
  simp only [va_up_id m2, va_up_id m5, va_up_id m6, va_up_id m7, va_up_id m8, va_up_id m12, va_up_id m13, va_up_id m29, va_up_id m30, va_up_id hA1, va_up_id (cI_self hA3), va_up_id (cI_self hA4), va_up_id (rfl : Am 9 = Am 9), va_up_id (rfl : Am 10 = Am 10), va_up_id (rfl : Am 11 = Am 11), va_up_id (rfl : Am 14 = Am 14), va_up_id (rfl : Am 15 = Am 15)] at hM
  refine z_fr (w1 := mW adm G Fm Am) (z_runV C hH.2.2 hl.1 (zH_l hH).1 (zH_l hH).2.1 1 (As := [.int (iZ (sx xs j 1))]) (rest := [.int (iZ r1)]) hM (lw_V q1555 q1556 q1557 q95 q1558) ⟨rfl, by decide, by decide, by decide +kernel⟩ (q0 := 0) (ci := 0) rfl rfl rfl rfl (Nat.le_of_ble_eq_true rfl) ⟨Nat.le_of_ble_eq_true rfl, Nat.le_of_ble_eq_true rfl⟩ ⟨by show _ + 0 ≤ 1200144; omega, by show _ + 0 ≤ 5497402; omega⟩ dL_law_366) hH (fun u H locs hpost hH => ?_)
  obtain ⟨r7, n2m, b2m, ti2m, un2m, tp2m, v2m, w2m, ln2m, fr2m, ft2m, lp2m, F2m, A2m⟩ := u
  obtain ⟨hs7, ⟨-, f2, f5, f6, f7, f8, f12, f13, f29, f30⟩, a3, a4, a1, a9, a10, a11⟩ := hpost
  refine z_st (st' := [.int (iZ r7), .int (iZ r1)]) rfl ?_
  have hH := zH_rot hH
  obtain ⟨e1, rfl, rfl, rfl, rfl, rfl, rfl, rfl, rfl, rfl, rfl, rfl⟩ := one_text hs1 hs7
  have hle : tp2 ≤ tp := Sp_text_tp hs1
  refine z_same2 C 369 2566 dL_law_369 rfl e1 ?_
  refine W.widen (by omega) (by omega) (K ls _ _ hl ?_)
  refine ⟨tt, tp2, ln2, fa2, fp2, b2, t2, n2, v2, w2, un2, hm, hvv, hww, fr2, F2, A2, kp, L2, pl2, pr2, pa2, pm2, pf2, _, _, fo, ?_, ?_, hH⟩
  · exact ⟨hd1, ⟨k1, k2, k3, k6⟩, by rw [k0]; exact fun i hi => htt i (by omega), by omega, fun i hi => htb i (by omega)⟩
  · exact ⟨⟨f2, f5, f6, f7, f8, f12, f13, f29, f30⟩, a1, a3, a4, by rw [a9, a10, a11]; exact Sp_text_past hs1 hPA⟩

set_option maxHeartbeats 8000000 in
theorem L_2 {pg : Program} {l : Launch} {ev : Env} {s : State} {m : MethodId} {ar : Array Value} {bl : List Frame} {me : Method} {c : Code} {Q : State → Prop} {G : zG} {sc LL : Nat} {xs : Nat → Int32} {nw : Nat} {wq wv : Nat → Nat} {lq lva : Nat} {ls : Array Slot} {H : Heap} {locs : List Loc} {ce sl : Nat} {ad adm : Nat → Nat} {o j : Nat} (CX : LCT pg l s m ar me c G sc LL xs nw wq wv lq lva) (hj : j + 6 ≤ LL) (hl : lv_has ls 7 [(4, .int (iZ (j : Int))), (3, .ref o), (2, .ref (adm 0)), (1, .ref (ad 99)), (0, .ref sc)]) (hS : LST s G nw ad adm o H locs) (hce : ce + 40000 ≤ 1200144) (hsl : sl + 200000 ≤ 5497402) (K : ∀ (ls1 : Array Slot) (H1 : Heap) (locs1 : List Loc), lv_has ls1 7 [(4, .int (iZ (j : Int))), (3, .ref o), (2, .ref (adm 0)), (1, .ref (ad 99)), (0, .ref sc)] → LST s G nw ad adm o H1 locs1 → W pg l ev room_1 s m ar bl me c H1 locs1 (ce + 40000) (sl + 200000) Q (F0 m 2566 ls1 [])) : W pg l ev room_1 s m ar bl me c H locs ce sl Q (F0 m 374 ls []) := by
  obtain ⟨C, ⟨hX, hsc, hL⟩, hlt, hnw, hBx, hcs, hsi, hth, hthq, hni, hRW, hlit⟩ := CX
  obtain ⟨tt, tp, ln, fa, fp, b, t, n, v, wt, un, hm, hvv, hww, fr, F, Ar, kp, L, pl, pr, pa, pm, pf, Fm, Am, fo, hDK, hMD, hH⟩ := hS
  have hDK0 := hDK
  have hMD0 := hMD
  obtain ⟨hD, ⟨hF1, hF2, hF3, hF6⟩, htt, htp, htb⟩ := hDK
  have hD0 := hD
  obtain ⟨⟨hn, hFn, hv, hAv, hwt, hAw⟩, ⟨hb, hFb, ht, hFt⟩, ⟨hun, hF14, hkt, hPD⟩, ⟨hPL, hpc⟩, hmo, hfr, h16⟩ := hD
  obtain ⟨⟨m2, m5, m6, m7, m8, m12, m13, m29, m30⟩, hA1, hA3, hA4, hPA⟩ := hMD
  have hpp := PLS_pool hPL
  have hpl := PLS_pl hPL
  have hx1 := sx_r (xs := xs) (j := j) (k := 1)
  have hx2 := sx_r (xs := xs) (j := j) (k := 2)
  have hx3 := sx_r (xs := xs) (j := j) (k := 3)
  have hx4 := sx_r (xs := xs) (j := j) (k := 4)
  have hx5 := sx_r (xs := xs) (j := j) (k := 5)
  have hnzr := nz_r (x := sx xs j 3)
  have hnzb := nz_b (x := sx xs j 3)
  refine z_aload_n C 374 hl dL_law_374 rfl 3 rfl ?_
  refine z_scr C hX hsc hH.2.2 375 1 hl 0 4 rfl rfl (by omega) hL dL_law_375 dL_law_376 dL_law_378 dL_law_379 dL_law_380 ?_
  have hM := u_X1_fault l s G ad F Ar kp pl fa fp (sx xs j 1) (by first | assumption | omega) (by first | assumption | omega) (by first | assumption | omega)
  refine zp_back (zp_runV C hH.2.2 hl.1 (va_P_l (w2 := (dPool G pr pa pm pf L)) (zH_l hH).1) 1 (As := [.int (iZ (sx xs j 1))]) (rest := []) hM (lw_V q787 q788 q789 q89 q790) ⟨rfl, by decide, by decide, by decide +kernel⟩ (q0 := 0) (ci := 1) rfl rfl rfl rfl (Nat.le_of_ble_eq_true rfl) ⟨Nat.le_of_ble_eq_true rfl, Nat.le_of_ble_eq_true rfl⟩ ⟨by show _ + 0 ≤ 1200144; omega, by show _ + 0 ≤ 5497402; omega⟩ dL_law_381) (fun r1 hs1 => ?_)
  refine z_st (st' := [.int (iZ r1)]) rfl ?_
  have hH := zH_rot hH
  refine z_aload_n C 384 hl dL_law_384 rfl 2 rfl ?_
  refine z_scr C hX hsc hH.2.2 385 1 hl 0 4 rfl rfl (by omega) hL dL_law_385 dL_law_386 dL_law_388 dL_law_389 dL_law_390 ?_
  have hM := m_X7_fault l s G H.size adm Fm Am n v (Am 3) t fa fp (sx xs j 1) (by first | assumption | omega) (by first | assumption | omega) (by first | assumption | omega) (by first | assumption | omega)
  simp only [va_up_id m2, va_up_id m5, va_up_id m6, va_up_id m7, va_up_id m8, va_up_id m12, va_up_id m13, va_up_id m29, va_up_id m30, va_up_id hA1, va_up_id (cI_self hA3), va_up_id (cI_self hA4), va_up_id (rfl : Am 9 = Am 9), va_up_id (rfl : Am 10 = Am 10), va_up_id (rfl : Am 11 = Am 11), va_up_id (rfl : Am 14 = Am 14), va_up_id (rfl : Am 15 = Am 15)] at hM
  refine z_fr (w1 := mW adm G Fm Am) (z_runV C hH.2.2 hl.1 (zH_l hH).1 (zH_l hH).2.1 1 (As := [.int (iZ (sx xs j 1))]) (rest := [.int (iZ r1)]) hM (lw_V q1633 q1634 q1635 q95 q1636) ⟨rfl, by decide, by decide, by decide +kernel⟩ (q0 := 0) (ci := 0) rfl rfl rfl rfl (Nat.le_of_ble_eq_true rfl) ⟨Nat.le_of_ble_eq_true rfl, Nat.le_of_ble_eq_true rfl⟩ ⟨by show _ + 0 ≤ 1200144; omega, by show _ + 0 ≤ 5497402; omega⟩ dL_law_391) hH (fun u H locs hpost hH => ?_)
  obtain ⟨r7, F2m, A2m⟩ := u
  obtain ⟨hs7, hk7⟩ := hpost
  refine z_st (st' := [.int (iZ r7), .int (iZ r1)]) rfl ?_
  have hH := zH_rot hH
  refine z_same2 C 394 2566 dL_law_394 rfl (one_fault hs1 hs7) ?_
  exact W.widen (by omega) (by omega) (K ls _ _ hl ⟨tt, tp, ln, fa, fp, b, t, n, v, wt, un, hm, hvv, hww, fr, F, Ar, kp, L, pl, pr, pa, pm, pf, F2m, A2m, fo, hDK0, MDI_q hMD0 hk7, hH⟩)

set_option maxHeartbeats 8000000 in
theorem L_14 {pg : Program} {l : Launch} {ev : Env} {s : State} {m : MethodId} {ar : Array Value} {bl : List Frame} {me : Method} {c : Code} {Q : State → Prop} {G : zG} {sc LL : Nat} {xs : Nat → Int32} {nw : Nat} {wq wv : Nat → Nat} {lq lva : Nat} {ls : Array Slot} {H : Heap} {locs : List Loc} {ce sl : Nat} {ad adm : Nat → Nat} {o j : Nat} (CX : LCT pg l s m ar me c G sc LL xs nw wq wv lq lva) (hj : j + 6 ≤ LL) (hl : lv_has ls 7 [(4, .int (iZ (j : Int))), (3, .ref o), (2, .ref (adm 0)), (1, .ref (ad 99)), (0, .ref sc)]) (hS : LST s G nw ad adm o H locs) (hce : ce + 40000 ≤ 1200144) (hsl : sl + 200000 ≤ 5497402) (K : ∀ (ls1 : Array Slot) (H1 : Heap) (locs1 : List Loc), lv_has ls1 7 [(4, .int (iZ (j : Int))), (3, .ref o), (2, .ref (adm 0)), (1, .ref (ad 99)), (0, .ref sc)] → LST s G nw ad adm o H1 locs1 → W pg l ev room_1 s m ar bl me c H1 locs1 (ce + 40000) (sl + 200000) Q (F0 m 2566 ls1 [])) : W pg l ev room_1 s m ar bl me c H locs ce sl Q (F0 m 877 ls []) := by
  obtain ⟨C, ⟨hX, hsc, hL⟩, hlt, hnw, hBx, hcs, hsi, hth, hthq, hni, hRW, hlit⟩ := CX
  obtain ⟨tt, tp, ln, fa, fp, b, t, n, v, wt, un, hm, hvv, hww, fr, F, Ar, kp, L, pl, pr, pa, pm, pf, Fm, Am, fo, hDK, hMD, hH⟩ := hS
  have hDK0 := hDK
  have hMD0 := hMD
  obtain ⟨hD, ⟨hF1, hF2, hF3, hF6⟩, htt, htp, htb⟩ := hDK
  have hD0 := hD
  obtain ⟨⟨hn, hFn, hv, hAv, hwt, hAw⟩, ⟨hb, hFb, ht, hFt⟩, ⟨hun, hF14, hkt, hPD⟩, ⟨hPL, hpc⟩, hmo, hfr, h16⟩ := hD
  obtain ⟨⟨m2, m5, m6, m7, m8, m12, m13, m29, m30⟩, hA1, hA3, hA4, hPA⟩ := hMD
  have hpp := PLS_pool hPL
  have hpl := PLS_pl hPL
  have hx1 := sx_r (xs := xs) (j := j) (k := 1)
  have hx2 := sx_r (xs := xs) (j := j) (k := 2)
  have hx3 := sx_r (xs := xs) (j := j) (k := 3)
  have hx4 := sx_r (xs := xs) (j := j) (k := 4)
  have hx5 := sx_r (xs := xs) (j := j) (k := 5)
  have hnzr := nz_r (x := sx xs j 3)
  have hnzb := nz_b (x := sx xs j 3)
  refine z_aload_n C 877 hl dL_law_877 rfl 3 rfl ?_
  have hM := u_X1_refreshed l s G ad F Ar kp pl fr (by first | assumption | omega)
  refine zp_back (zp_runV C hH.2.2 hl.1 (va_P_l (w2 := (dPool G pr pa pm pf L)) (zH_l hH).1) 0 (As := []) (rest := []) hM (lw_V q791 q792 q793 q89 q794) ⟨rfl, by decide, by decide, by decide +kernel⟩ (q0 := 0) (ci := 1) rfl rfl rfl rfl (Nat.le_of_ble_eq_true rfl) ⟨Nat.le_of_ble_eq_true rfl, Nat.le_of_ble_eq_true rfl⟩ ⟨by show _ + 0 ≤ 1200144; omega, by show _ + 0 ≤ 5497402; omega⟩ dL_law_878) (fun r1 hs1 => ?_)
  refine z_st (st' := [.int (iZ fr)]) rfl ?_
  have hH := zH_rot hH
  refine z_aload_n C 881 hl dL_law_881 rfl 2 rfl ?_
  have hM := m_X7_refreshed l s G H.size adm Fm Am n v (Am 3) t fr (by first | assumption | omega) (by first | assumption | omega) (by first | assumption | omega)
  simp only [va_up_id m2, va_up_id m5, va_up_id m6, va_up_id m7, va_up_id m8, va_up_id m12, va_up_id m13, va_up_id m29, va_up_id m30, va_up_id hA1, va_up_id (cI_self hA3), va_up_id (cI_self hA4), va_up_id (rfl : Am 9 = Am 9), va_up_id (rfl : Am 10 = Am 10), va_up_id (rfl : Am 11 = Am 11), va_up_id (rfl : Am 14 = Am 14), va_up_id (rfl : Am 15 = Am 15)] at hM
  refine z_fr (w1 := mW adm G Fm Am) (z_runV C hH.2.2 hl.1 (zH_l hH).1 (zH_l hH).2.1 0 (As := []) (rest := [.int (iZ fr)]) hM (lw_V q1748 q1749 q1750 q95 q1751) ⟨rfl, by decide, by decide, by decide +kernel⟩ (q0 := 0) (ci := 0) rfl rfl rfl rfl (Nat.le_of_ble_eq_true rfl) ⟨Nat.le_of_ble_eq_true rfl, Nat.le_of_ble_eq_true rfl⟩ ⟨by show _ + 0 ≤ 1200144; omega, by show _ + 0 ≤ 5497402; omega⟩ dL_law_882) hH (fun u H locs hpost hH => ?_)
  obtain ⟨r7, F2m, A2m⟩ := u
  obtain ⟨hs7, hk7⟩ := hpost
  refine z_st (st' := [.int (iZ r7), .int (iZ fr)]) rfl ?_
  have hH := zH_rot hH
  refine z_same2 C 885 2566 dL_law_885 rfl (Eq.symm hs7) ?_
  exact W.widen (by omega) (by omega) (K ls _ _ hl ⟨tt, tp, ln, fa, fp, b, t, n, v, wt, un, hm, hvv, hww, fr, F, Ar, kp, L, pl, pr, pa, pm, pf, F2m, A2m, fo, hDK0, MDI_q hMD0 hk7, hH⟩)
