/-! the law: its cases (questions) 99zd.lc1 -/
set_option maxRecDepth 100000
set_option maxHeartbeats 8000000 in
theorem L_25 {pg : Program} {l : Launch} {ev : Env} {s : State} {m : MethodId} {ar : Array Value} {bl : List Frame} {me : Method} {c : Code} {Q : State → Prop} {G : zG} {sc LL : Nat} {xs : Nat → Int32} {nw : Nat} {wq wv : Nat → Nat} {lq lva : Nat} {ls : Array Slot} {H : Heap} {locs : List Loc} {ce sl : Nat} {ad adm : Nat → Nat} {o j : Nat} (CX : LCT pg l s m ar me c G sc LL xs nw wq wv lq lva) (hj : j + 6 ≤ LL) (hl : lv_has ls 7 [(4, .int (iZ (j : Int))), (3, .ref o), (2, .ref (adm 0)), (1, .ref (ad 99)), (0, .ref sc)]) (hS : LST s G nw ad adm o H locs) (hce : ce + 40000 ≤ 1200144) (hsl : sl + 200000 ≤ 5497402) (K : ∀ (ls1 : Array Slot) (H1 : Heap) (locs1 : List Loc), lv_has ls1 7 [(4, .int (iZ (j : Int))), (3, .ref o), (2, .ref (adm 0)), (1, .ref (ad 99)), (0, .ref sc)] → LST s G nw ad adm o H1 locs1 → W pg l ev room_1 s m ar bl me c H1 locs1 (ce + 40000) (sl + 200000) Q (F0 m 2566 ls1 [])) : W pg l ev room_1 s m ar bl me c H locs ce sl Q (F0 m 1308 ls []) := by
  obtain ⟨C, ⟨hX, hsc, hL⟩, hlt, hnw, hBx, hcs, hsi, hth, hthq, hni, hRW, hlit⟩ := CX
  obtain ⟨tt, tp, ln, fa, fp, b, t, n, v, wt, un, hm, hvv, hww, fr, F, Ar, kp, L, pl, pr, pa, pm, pf, Fm, Am, fo, hDK, hMD, hH⟩ := hS
  have hDK0 := hDK
  have hMD0 := hMD
  obtain ⟨hD, ⟨hF1, hF2, hF3, hF6⟩, htt, htp, htb⟩ := hDK
  have hD0 := hD
  obtain ⟨⟨hn, hFn, hv, hAv, hwt, hAw⟩, ⟨hb, hFb, ht, hFt⟩, ⟨hun, hF14, hkt, hPD⟩, ⟨hPL, hpc⟩, hmo, hfr, h16⟩ := hD
  obtain ⟨⟨m2, m5, m6, m7, m8, m12, m13, m29, m30⟩, hA1, hA3, hA4, hPA⟩ := hMD
  have hpp := PLS_pool hPL
  have hpl := PLS_pl hPL
  have hx1 := sx_r (xs := xs) (j := j) (k := 1)
  have hx2 := sx_r (xs := xs) (j := j) (k := 2)
  have hx3 := sx_r (xs := xs) (j := j) (k := 3)
  have hx4 := sx_r (xs := xs) (j := j) (k := 4)
  have hx5 := sx_r (xs := xs) (j := j) (k := 5)
  have hnzr := nz_r (x := sx xs j 3)
  have hnzb := nz_b (x := sx xs j 3)
  refine z_aload_n C 1308 hl dL_law_1308 rfl 3 rfl ?_
  refine z_scr C hX hsc hH.2.2 1309 1 hl 0 4 rfl rfl (by omega) hL dL_law_1309 dL_law_1310 dL_law_1312 dL_law_1313 dL_law_1314 ?_
  refine z_scr C hX hsc hH.2.2 1315 2 hl 0 4 rfl rfl (by omega) hL dL_law_1315 dL_law_1316 dL_law_1318 dL_law_1319 dL_law_1320 ?_
  refine z_scr C hX hsc hH.2.2 1321 3 hl 0 4 rfl rfl (by omega) hL dL_law_1321 dL_law_1322 dL_law_1324 dL_law_1325 dL_law_1326 ?_
  have hM := m_X1_heaviest l s G H.size ad F Ar kp pl (dPool G pr pa pm pf L) n v pr pa pm pf nw b t wt (sx xs j 1) (sx xs j 2) (sx xs j 3) (by first | assumption | omega) (by first | assumption | omega) (by first | assumption | omega) (by first | assumption | omega) (by first | assumption | omega) (by first | assumption | omega) (by first | assumption | omega) (by first | assumption | omega) (by first | assumption | omega) (by first | assumption | omega) (by first | assumption | omega) (by first | assumption | omega) (by first | assumption | omega) (by first | assumption | omega) (by first | assumption | omega) (by first | assumption | omega) (by first | assumption | omega) (by first | assumption | omega) (by first | assumption | omega)
  rw [va_up_id h16] at hM
  refine z_fr (w1 := dW ad G F Ar kp pl (dPool G pr pa pm pf L)) (z_runV C hH.2.2 hl.1 (zH_l hH).1 (zH_l hH).2.1 3 (As := [.int (iZ (sx xs j 1)), .int (iZ (sx xs j 2)), .int (iZ (sx xs j 3))]) (rest := []) hM (lw_V q1087 q1088 q1089 q89 q1090) ⟨rfl, by decide, by decide, by decide +kernel⟩ (q0 := 0) (ci := 1) rfl rfl rfl rfl (Nat.le_of_ble_eq_true rfl) ⟨Nat.le_of_ble_eq_true rfl, Nat.le_of_ble_eq_true rfl⟩ ⟨by show _ + 242 ≤ 1200144; omega, by show _ + 486 ≤ 5497402; omega⟩ dL_law_1327) hH (fun u H locs hpost hH => ?_)
  obtain ⟨r1, F2, A2⟩ := u
  obtain ⟨hs1, hk1⟩ := hpost
  have hDK2 := DKI_q hDK0 hk1
  refine z_st (st' := [.int (iZ r1)]) rfl ?_
  have hH := zH_rot hH
  refine z_aload_n C 1330 hl dL_law_1330 rfl 2 rfl ?_
  refine z_scr C hX hsc hH.2.2 1331 1 hl 0 4 rfl rfl (by omega) hL dL_law_1331 dL_law_1332 dL_law_1334 dL_law_1335 dL_law_1336 ?_
  refine z_scr C hX hsc hH.2.2 1337 2 hl 0 4 rfl rfl (by omega) hL dL_law_1337 dL_law_1338 dL_law_1340 dL_law_1341 dL_law_1342 ?_
  refine z_scr C hX hsc hH.2.2 1343 3 hl 0 4 rfl rfl (by omega) hL dL_law_1343 dL_law_1344 dL_law_1346 dL_law_1347 dL_law_1348 ?_
  have hM := m_X7_heaviest l s G H.size adm Fm Am n v (Am 3) t wt (Am 4) (sx xs j 1) (sx xs j 2) (sx xs j 3) (by first | assumption | omega) (by first | assumption | omega) (by first | assumption | omega) (by first | assumption | omega) (by first | assumption | omega) (by first | assumption | omega) (by first | assumption | omega)
  simp only [va_up_id m2, va_up_id m5, va_up_id m6, va_up_id m7, va_up_id m8, va_up_id m12, va_up_id m13, va_up_id m29, va_up_id m30, va_up_id hA1, va_up_id (cI_self hA3), va_up_id (cI_self hA4), va_up_id (rfl : Am 9 = Am 9), va_up_id (rfl : Am 10 = Am 10), va_up_id (rfl : Am 11 = Am 11), va_up_id (rfl : Am 14 = Am 14), va_up_id (rfl : Am 15 = Am 15)] at hM
  refine z_fr (w1 := mW adm G Fm Am) (z_runV C hH.2.2 hl.1 (zH_l hH).1 (zH_l hH).2.1 3 (As := [.int (iZ (sx xs j 1)), .int (iZ (sx xs j 2)), .int (iZ (sx xs j 3))]) (rest := [.int (iZ r1)]) hM (lw_V q1820 q1821 q1822 q95 q1823) ⟨rfl, by decide, by decide, by decide +kernel⟩ (q0 := 0) (ci := 0) rfl rfl rfl rfl (Nat.le_of_ble_eq_true rfl) ⟨Nat.le_of_ble_eq_true rfl, Nat.le_of_ble_eq_true rfl⟩ ⟨by show _ + 0 ≤ 1200144; omega, by show _ + 0 ≤ 5497402; omega⟩ dL_law_1349) hH (fun u H locs hpost hH => ?_)
  obtain ⟨r7, F2m, A2m⟩ := u
  obtain ⟨hs7, hk7⟩ := hpost
  refine z_st (st' := [.int (iZ r7), .int (iZ r1)]) rfl ?_
  have hH := zH_rot hH
  refine z_same2 C 1352 2566 dL_law_1352 rfl (one_heaviest hs1 hs7) ?_
  exact W.widen (by omega) (by omega) (K ls _ _ hl ⟨tt, tp, ln, fa, fp, b, t, n, v, wt, un, hm, hvv, hww, fr, F2, A2, kp, L, pl, pr, pa, pm, pf, F2m, A2m, fo, hDK2, MDI_q hMD0 hk7, hH⟩)

set_option maxHeartbeats 8000000 in
theorem L_26 {pg : Program} {l : Launch} {ev : Env} {s : State} {m : MethodId} {ar : Array Value} {bl : List Frame} {me : Method} {c : Code} {Q : State → Prop} {G : zG} {sc LL : Nat} {xs : Nat → Int32} {nw : Nat} {wq wv : Nat → Nat} {lq lva : Nat} {ls : Array Slot} {H : Heap} {locs : List Loc} {ce sl : Nat} {ad adm : Nat → Nat} {o j : Nat} (CX : LCT pg l s m ar me c G sc LL xs nw wq wv lq lva) (hj : j + 6 ≤ LL) (hl : lv_has ls 7 [(4, .int (iZ (j : Int))), (3, .ref o), (2, .ref (adm 0)), (1, .ref (ad 99)), (0, .ref sc)]) (hS : LST s G nw ad adm o H locs) (hce : ce + 40000 ≤ 1200144) (hsl : sl + 200000 ≤ 5497402) (K : ∀ (ls1 : Array Slot) (H1 : Heap) (locs1 : List Loc), lv_has ls1 7 [(4, .int (iZ (j : Int))), (3, .ref o), (2, .ref (adm 0)), (1, .ref (ad 99)), (0, .ref sc)] → LST s G nw ad adm o H1 locs1 → W pg l ev room_1 s m ar bl me c H1 locs1 (ce + 40000) (sl + 200000) Q (F0 m 2566 ls1 [])) : W pg l ev room_1 s m ar bl me c H locs ce sl Q (F0 m 1357 ls []) := by
  obtain ⟨C, ⟨hX, hsc, hL⟩, hlt, hnw, hBx, hcs, hsi, hth, hthq, hni, hRW, hlit⟩ := CX
  obtain ⟨tt, tp, ln, fa, fp, b, t, n, v, wt, un, hm, hvv, hww, fr, F, Ar, kp, L, pl, pr, pa, pm, pf, Fm, Am, fo, hDK, hMD, hH⟩ := hS
  have hDK0 := hDK
  have hMD0 := hMD
  obtain ⟨hD, ⟨hF1, hF2, hF3, hF6⟩, htt, htp, htb⟩ := hDK
  have hD0 := hD
  obtain ⟨⟨hn, hFn, hv, hAv, hwt, hAw⟩, ⟨hb, hFb, ht, hFt⟩, ⟨hun, hF14, hkt, hPD⟩, ⟨hPL, hpc⟩, hmo, hfr, h16⟩ := hD
  obtain ⟨⟨m2, m5, m6, m7, m8, m12, m13, m29, m30⟩, hA1, hA3, hA4, hPA⟩ := hMD
  have hpp := PLS_pool hPL
  have hpl := PLS_pl hPL
  have hx1 := sx_r (xs := xs) (j := j) (k := 1)
  have hx2 := sx_r (xs := xs) (j := j) (k := 2)
  have hx3 := sx_r (xs := xs) (j := j) (k := 3)
  have hx4 := sx_r (xs := xs) (j := j) (k := 4)
  have hx5 := sx_r (xs := xs) (j := j) (k := 5)
  have hnzr := nz_r (x := sx xs j 3)
  have hnzb := nz_b (x := sx xs j 3)
  refine z_aload_n C 1357 hl dL_law_1357 rfl 3 rfl ?_
  refine z_scr C hX hsc hH.2.2 1358 1 hl 0 4 rfl rfl (by omega) hL dL_law_1358 dL_law_1359 dL_law_1361 dL_law_1362 dL_law_1363 ?_
  refine z_scr C hX hsc hH.2.2 1364 2 hl 0 4 rfl rfl (by omega) hL dL_law_1364 dL_law_1365 dL_law_1367 dL_law_1368 dL_law_1369 ?_
  refine z_scr C hX hsc hH.2.2 1370 3 hl 0 4 rfl rfl (by omega) hL dL_law_1370 dL_law_1371 dL_law_1373 dL_law_1374 dL_law_1375 ?_
  have hM := m_X1_pair l s G H.size ad F Ar kp pl (dPool G pr pa pm pf L) n v pr pa pm pf nw b t (sx xs j 1) (sx xs j 2) (sx xs j 3) (by first | assumption | omega) (by first | assumption | omega) (by first | assumption | omega) (by first | assumption | omega) (by first | assumption | omega) (by first | assumption | omega) (by first | assumption | omega) (by first | assumption | omega) (by first | assumption | omega) (by first | assumption | omega) (by first | assumption | omega) (by first | assumption | omega) (by first | assumption | omega) (by first | assumption | omega) (by first | assumption | omega) (by first | assumption | omega)
  rw [va_up_id h16] at hM
  refine z_fr (w1 := dW ad G F Ar kp pl (dPool G pr pa pm pf L)) (z_runV C hH.2.2 hl.1 (zH_l hH).1 (zH_l hH).2.1 3 (As := [.int (iZ (sx xs j 1)), .int (iZ (sx xs j 2)), .int (iZ (sx xs j 3))]) (rest := []) hM (lw_V q1120 q1121 q1122 q89 q1123) ⟨rfl, by decide, by decide, by decide +kernel⟩ (q0 := 0) (ci := 1) rfl rfl rfl rfl (Nat.le_of_ble_eq_true rfl) ⟨Nat.le_of_ble_eq_true rfl, Nat.le_of_ble_eq_true rfl⟩ ⟨by show _ + 0 ≤ 1200144; omega, by show _ + 0 ≤ 5497402; omega⟩ dL_law_1376) hH (fun u H locs hpost hH => ?_)
  obtain ⟨r1, F2, A2⟩ := u
  obtain ⟨hs1, hk1⟩ := hpost
  have hDK2 := DKI_q hDK0 hk1
  refine z_st (st' := [.int (iZ r1)]) rfl ?_
  have hH := zH_rot hH
  refine z_aload_n C 1379 hl dL_law_1379 rfl 2 rfl ?_
  refine z_scr C hX hsc hH.2.2 1380 1 hl 0 4 rfl rfl (by omega) hL dL_law_1380 dL_law_1381 dL_law_1383 dL_law_1384 dL_law_1385 ?_
  refine z_scr C hX hsc hH.2.2 1386 2 hl 0 4 rfl rfl (by omega) hL dL_law_1386 dL_law_1387 dL_law_1389 dL_law_1390 dL_law_1391 ?_
  refine z_scr C hX hsc hH.2.2 1392 3 hl 0 4 rfl rfl (by omega) hL dL_law_1392 dL_law_1393 dL_law_1395 dL_law_1396 dL_law_1397 ?_
  have hM := m_X7_pair l s G H.size adm Fm Am n v (Am 3) t b (sx xs j 1) (sx xs j 2) (sx xs j 3) (by first | assumption | omega) (by first | assumption | omega) (by first | assumption | omega) (by first | assumption | omega) (by first | assumption | omega) (by first | assumption | omega) (by first | assumption | omega)
  simp only [va_up_id m2, va_up_id m5, va_up_id m6, va_up_id m7, va_up_id m8, va_up_id m12, va_up_id m13, va_up_id m29, va_up_id m30, va_up_id hA1, va_up_id (cI_self hA3), va_up_id (cI_self hA4), va_up_id (rfl : Am 9 = Am 9), va_up_id (rfl : Am 10 = Am 10), va_up_id (rfl : Am 11 = Am 11), va_up_id (rfl : Am 14 = Am 14), va_up_id (rfl : Am 15 = Am 15)] at hM
  refine z_fr (w1 := mW adm G Fm Am) (z_runV C hH.2.2 hl.1 (zH_l hH).1 (zH_l hH).2.1 3 (As := [.int (iZ (sx xs j 1)), .int (iZ (sx xs j 2)), .int (iZ (sx xs j 3))]) (rest := [.int (iZ r1)]) hM (lw_V q1828 q1829 q1830 q95 q1831) ⟨rfl, by decide, by decide, by decide +kernel⟩ (q0 := 0) (ci := 0) rfl rfl rfl rfl (Nat.le_of_ble_eq_true rfl) ⟨Nat.le_of_ble_eq_true rfl, Nat.le_of_ble_eq_true rfl⟩ ⟨by show _ + 0 ≤ 1200144; omega, by show _ + 0 ≤ 5497402; omega⟩ dL_law_1398) hH (fun u H locs hpost hH => ?_)
  obtain ⟨r7, F2m, A2m⟩ := u
  obtain ⟨hs7, hk7⟩ := hpost
  refine z_st (st' := [.int (iZ r7), .int (iZ r1)]) rfl ?_
  have hH := zH_rot hH
  refine z_same2 C 1401 2566 dL_law_1401 rfl (one_pair hs1 hs7) ?_
  exact W.widen (by omega) (by omega) (K ls _ _ hl ⟨tt, tp, ln, fa, fp, b, t, n, v, wt, un, hm, hvv, hww, fr, F2, A2, kp, L, pl, pr, pa, pm, pf, F2m, A2m, fo, hDK2, MDI_q hMD0 hk7, hH⟩)

set_option maxHeartbeats 8000000 in
theorem L_27 {pg : Program} {l : Launch} {ev : Env} {s : State} {m : MethodId} {ar : Array Value} {bl : List Frame} {me : Method} {c : Code} {Q : State → Prop} {G : zG} {sc LL : Nat} {xs : Nat → Int32} {nw : Nat} {wq wv : Nat → Nat} {lq lva : Nat} {ls : Array Slot} {H : Heap} {locs : List Loc} {ce sl : Nat} {ad adm : Nat → Nat} {o j : Nat} (CX : LCT pg l s m ar me c G sc LL xs nw wq wv lq lva) (hj : j + 6 ≤ LL) (hl : lv_has ls 7 [(4, .int (iZ (j : Int))), (3, .ref o), (2, .ref (adm 0)), (1, .ref (ad 99)), (0, .ref sc)]) (hS : LST s G nw ad adm o H locs) (hce : ce + 40000 ≤ 1200144) (hsl : sl + 200000 ≤ 5497402) (K : ∀ (ls1 : Array Slot) (H1 : Heap) (locs1 : List Loc), lv_has ls1 7 [(4, .int (iZ (j : Int))), (3, .ref o), (2, .ref (adm 0)), (1, .ref (ad 99)), (0, .ref sc)] → LST s G nw ad adm o H1 locs1 → W pg l ev room_1 s m ar bl me c H1 locs1 (ce + 40000) (sl + 200000) Q (F0 m 2566 ls1 [])) : W pg l ev room_1 s m ar bl me c H locs ce sl Q (F0 m 1406 ls []) := by
  obtain ⟨C, ⟨hX, hsc, hL⟩, hlt, hnw, hBx, hcs, hsi, hth, hthq, hni, hRW, hlit⟩ := CX
  obtain ⟨tt, tp, ln, fa, fp, b, t, n, v, wt, un, hm, hvv, hww, fr, F, Ar, kp, L, pl, pr, pa, pm, pf, Fm, Am, fo, hDK, hMD, hH⟩ := hS
  have hDK0 := hDK
  have hMD0 := hMD
  obtain ⟨hD, ⟨hF1, hF2, hF3, hF6⟩, htt, htp, htb⟩ := hDK
  have hD0 := hD
  obtain ⟨⟨hn, hFn, hv, hAv, hwt, hAw⟩, ⟨hb, hFb, ht, hFt⟩, ⟨hun, hF14, hkt, hPD⟩, ⟨hPL, hpc⟩, hmo, hfr, h16⟩ := hD
  obtain ⟨⟨m2, m5, m6, m7, m8, m12, m13, m29, m30⟩, hA1, hA3, hA4, hPA⟩ := hMD
  have hpp := PLS_pool hPL
  have hpl := PLS_pl hPL
  have hx1 := sx_r (xs := xs) (j := j) (k := 1)
  have hx2 := sx_r (xs := xs) (j := j) (k := 2)
  have hx3 := sx_r (xs := xs) (j := j) (k := 3)
  have hx4 := sx_r (xs := xs) (j := j) (k := 4)
  have hx5 := sx_r (xs := xs) (j := j) (k := 5)
  have hnzr := nz_r (x := sx xs j 3)
  have hnzb := nz_b (x := sx xs j 3)
  refine z_aload_n C 1406 hl dL_law_1406 rfl 3 rfl ?_
  refine z_scr C hX hsc hH.2.2 1407 1 hl 0 4 rfl rfl (by omega) hL dL_law_1407 dL_law_1408 dL_law_1410 dL_law_1411 dL_law_1412 ?_
  refine z_scr C hX hsc hH.2.2 1413 2 hl 0 4 rfl rfl (by omega) hL dL_law_1413 dL_law_1414 dL_law_1416 dL_law_1417 dL_law_1418 ?_
  refine z_scr C hX hsc hH.2.2 1419 3 hl 0 4 rfl rfl (by omega) hL dL_law_1419 dL_law_1420 dL_law_1422 dL_law_1423 dL_law_1424 ?_
  have hM := m_X1_candidate l s G H.size ad F Ar kp pl (dPool G pr pa pm pf L) n v pr pa pm pf nw b t (sx xs j 1) (sx xs j 2) (sx xs j 3) (by first | assumption | omega) (by first | assumption | omega) (by first | assumption | omega) (by first | assumption | omega) (by first | assumption | omega) (by first | assumption | omega) (by first | assumption | omega) (by first | assumption | omega) (by first | assumption | omega) (by first | assumption | omega) (by first | assumption | omega) (by first | assumption | omega) (by first | assumption | omega) (by first | assumption | omega) (by first | assumption | omega) (by first | assumption | omega)
  rw [va_up_id h16] at hM
  refine z_fr (w1 := dW ad G F Ar kp pl (dPool G pr pa pm pf L)) (z_runV C hH.2.2 hl.1 (zH_l hH).1 (zH_l hH).2.1 3 (As := [.int (iZ (sx xs j 1)), .int (iZ (sx xs j 2)), .int (iZ (sx xs j 3))]) (rest := []) hM (lw_V q1124 q1125 q1126 q89 q1127) ⟨rfl, by decide, by decide, by decide +kernel⟩ (q0 := 0) (ci := 1) rfl rfl rfl rfl (Nat.le_of_ble_eq_true rfl) ⟨Nat.le_of_ble_eq_true rfl, Nat.le_of_ble_eq_true rfl⟩ ⟨by show _ + 0 ≤ 1200144; omega, by show _ + 0 ≤ 5497402; omega⟩ dL_law_1425) hH (fun u H locs hpost hH => ?_)
  obtain ⟨r1, F2, A2⟩ := u
  obtain ⟨hs1, hk1⟩ := hpost
  have hDK2 := DKI_q hDK0 hk1
  refine z_st (st' := [.int (iZ r1)]) rfl ?_
  have hH := zH_rot hH
  refine z_aload_n C 1428 hl dL_law_1428 rfl 2 rfl ?_
  refine z_scr C hX hsc hH.2.2 1429 1 hl 0 4 rfl rfl (by omega) hL dL_law_1429 dL_law_1430 dL_law_1432 dL_law_1433 dL_law_1434 ?_
  refine z_scr C hX hsc hH.2.2 1435 2 hl 0 4 rfl rfl (by omega) hL dL_law_1435 dL_law_1436 dL_law_1438 dL_law_1439 dL_law_1440 ?_
  refine z_scr C hX hsc hH.2.2 1441 3 hl 0 4 rfl rfl (by omega) hL dL_law_1441 dL_law_1442 dL_law_1444 dL_law_1445 dL_law_1446 ?_
  have hM := m_X7_candidate l s G H.size adm Fm Am n v (Am 3) t b (sx xs j 1) (sx xs j 2) (sx xs j 3) (by first | assumption | omega) (by first | assumption | omega) (by first | assumption | omega) (by first | assumption | omega) (by first | assumption | omega) (by first | assumption | omega) (by first | assumption | omega)
  simp only [va_up_id m2, va_up_id m5, va_up_id m6, va_up_id m7, va_up_id m8, va_up_id m12, va_up_id m13, va_up_id m29, va_up_id m30, va_up_id hA1, va_up_id (cI_self hA3), va_up_id (cI_self hA4), va_up_id (rfl : Am 9 = Am 9), va_up_id (rfl : Am 10 = Am 10), va_up_id (rfl : Am 11 = Am 11), va_up_id (rfl : Am 14 = Am 14), va_up_id (rfl : Am 15 = Am 15)] at hM
  refine z_fr (w1 := mW adm G Fm Am) (z_runV C hH.2.2 hl.1 (zH_l hH).1 (zH_l hH).2.1 3 (As := [.int (iZ (sx xs j 1)), .int (iZ (sx xs j 2)), .int (iZ (sx xs j 3))]) (rest := [.int (iZ r1)]) hM (lw_V q1840 q1841 q1842 q95 q1843) ⟨rfl, by decide, by decide, by decide +kernel⟩ (q0 := 0) (ci := 0) rfl rfl rfl rfl (Nat.le_of_ble_eq_true rfl) ⟨Nat.le_of_ble_eq_true rfl, Nat.le_of_ble_eq_true rfl⟩ ⟨by show _ + 0 ≤ 1200144; omega, by show _ + 0 ≤ 5497402; omega⟩ dL_law_1447) hH (fun u H locs hpost hH => ?_)
  obtain ⟨r7, F2m, A2m⟩ := u
  obtain ⟨hs7, hk7⟩ := hpost
  refine z_st (st' := [.int (iZ r7), .int (iZ r1)]) rfl ?_
  have hH := zH_rot hH
  refine z_same2 C 1450 2566 dL_law_1450 rfl (one_candidate hs1 hs7) ?_
  exact W.widen (by omega) (by omega) (K ls _ _ hl ⟨tt, tp, ln, fa, fp, b, t, n, v, wt, un, hm, hvv, hww, fr, F2, A2, kp, L, pl, pr, pa, pm, pf, F2m, A2m, fo, hDK2, MDI_q hMD0 hk7, hH⟩)

set_option maxHeartbeats 8000000 in
theorem L_28 {pg : Program} {l : Launch} {ev : Env} {s : State} {m : MethodId} {ar : Array Value} {bl : List Frame} {me : Method} {c : Code} {Q : State → Prop} {G : zG} {sc LL : Nat} {xs : Nat → Int32} {nw : Nat} {wq wv : Nat → Nat} {lq lva : Nat} {ls : Array Slot} {H : Heap} {locs : List Loc} {ce sl : Nat} {ad adm : Nat → Nat} {o j : Nat} (CX : LCT pg l s m ar me c G sc LL xs nw wq wv lq lva) (hj : j + 6 ≤ LL) (hl : lv_has ls 7 [(4, .int (iZ (j : Int))), (3, .ref o), (2, .ref (adm 0)), (1, .ref (ad 99)), (0, .ref sc)]) (hS : LST s G nw ad adm o H locs) (hce : ce + 40000 ≤ 1200144) (hsl : sl + 200000 ≤ 5497402) (K : ∀ (ls1 : Array Slot) (H1 : Heap) (locs1 : List Loc), lv_has ls1 7 [(4, .int (iZ (j : Int))), (3, .ref o), (2, .ref (adm 0)), (1, .ref (ad 99)), (0, .ref sc)] → LST s G nw ad adm o H1 locs1 → W pg l ev room_1 s m ar bl me c H1 locs1 (ce + 40000) (sl + 200000) Q (F0 m 2566 ls1 [])) : W pg l ev room_1 s m ar bl me c H locs ce sl Q (F0 m 1455 ls []) := by
  obtain ⟨C, ⟨hX, hsc, hL⟩, hlt, hnw, hBx, hcs, hsi, hth, hthq, hni, hRW, hlit⟩ := CX
  obtain ⟨tt, tp, ln, fa, fp, b, t, n, v, wt, un, hm, hvv, hww, fr, F, Ar, kp, L, pl, pr, pa, pm, pf, Fm, Am, fo, hDK, hMD, hH⟩ := hS
  have hDK0 := hDK
  have hMD0 := hMD
  obtain ⟨hD, ⟨hF1, hF2, hF3, hF6⟩, htt, htp, htb⟩ := hDK
  have hD0 := hD
  obtain ⟨⟨hn, hFn, hv, hAv, hwt, hAw⟩, ⟨hb, hFb, ht, hFt⟩, ⟨hun, hF14, hkt, hPD⟩, ⟨hPL, hpc⟩, hmo, hfr, h16⟩ := hD
  obtain ⟨⟨m2, m5, m6, m7, m8, m12, m13, m29, m30⟩, hA1, hA3, hA4, hPA⟩ := hMD
  have hpp := PLS_pool hPL
  have hpl := PLS_pl hPL
  have hx1 := sx_r (xs := xs) (j := j) (k := 1)
  have hx2 := sx_r (xs := xs) (j := j) (k := 2)
  have hx3 := sx_r (xs := xs) (j := j) (k := 3)
  have hx4 := sx_r (xs := xs) (j := j) (k := 4)
  have hx5 := sx_r (xs := xs) (j := j) (k := 5)
  have hnzr := nz_r (x := sx xs j 3)
  have hnzb := nz_b (x := sx xs j 3)
  refine z_aload_n C 1455 hl dL_law_1455 rfl 3 rfl ?_
  refine z_scr C hX hsc hH.2.2 1456 1 hl 0 4 rfl rfl (by omega) hL dL_law_1456 dL_law_1457 dL_law_1459 dL_law_1460 dL_law_1461 ?_
  refine z_scr C hX hsc hH.2.2 1462 2 hl 0 4 rfl rfl (by omega) hL dL_law_1462 dL_law_1463 dL_law_1465 dL_law_1466 dL_law_1467 ?_
  have hM := m_X1_median l s G H.size ad F Ar kp pl (dPool G pr pa pm pf L) n v pr pa pm pf nw b t (sx xs j 1) (sx xs j 2) (by first | assumption | omega) (by first | assumption | omega) (by first | assumption | omega) (by first | assumption | omega) (by first | assumption | omega) (by first | assumption | omega) (by first | assumption | omega) (by first | assumption | omega) (by first | assumption | omega) (by first | assumption | omega) (by first | assumption | omega) (by first | assumption | omega) (by first | assumption | omega) (by first | assumption | omega) (by first | assumption | omega)
  rw [va_up_id h16] at hM
  refine z_fr (w1 := dW ad G F Ar kp pl (dPool G pr pa pm pf L)) (z_runV C hH.2.2 hl.1 (zH_l hH).1 (zH_l hH).2.1 2 (As := [.int (iZ (sx xs j 1)), .int (iZ (sx xs j 2))]) (rest := []) hM (lw_V q1128 q1129 q1130 q89 q1131) ⟨rfl, by decide, by decide, by decide +kernel⟩ (q0 := 0) (ci := 1) rfl rfl rfl rfl (Nat.le_of_ble_eq_true rfl) ⟨Nat.le_of_ble_eq_true rfl, Nat.le_of_ble_eq_true rfl⟩ ⟨by show _ + 0 ≤ 1200144; omega, by show _ + 0 ≤ 5497402; omega⟩ dL_law_1468) hH (fun u H locs hpost hH => ?_)
  obtain ⟨r1, F2, A2⟩ := u
  obtain ⟨hs1, hk1⟩ := hpost
  have hDK2 := DKI_q hDK0 hk1
  refine z_st (st' := [.int (iZ r1)]) rfl ?_
  have hH := zH_rot hH
  refine z_aload_n C 1471 hl dL_law_1471 rfl 2 rfl ?_
  refine z_scr C hX hsc hH.2.2 1472 1 hl 0 4 rfl rfl (by omega) hL dL_law_1472 dL_law_1473 dL_law_1475 dL_law_1476 dL_law_1477 ?_
  refine z_scr C hX hsc hH.2.2 1478 2 hl 0 4 rfl rfl (by omega) hL dL_law_1478 dL_law_1479 dL_law_1481 dL_law_1482 dL_law_1483 ?_
  have hM := m_X7_median l s G H.size adm Fm Am n v (Am 3) t (sx xs j 1) (sx xs j 2) (by first | assumption | omega) (by first | assumption | omega) (by first | assumption | omega) (by first | assumption | omega) (by first | assumption | omega)
  simp only [va_up_id m2, va_up_id m5, va_up_id m6, va_up_id m7, va_up_id m8, va_up_id m12, va_up_id m13, va_up_id m29, va_up_id m30, va_up_id hA1, va_up_id (cI_self hA3), va_up_id (cI_self hA4), va_up_id (rfl : Am 9 = Am 9), va_up_id (rfl : Am 10 = Am 10), va_up_id (rfl : Am 11 = Am 11), va_up_id (rfl : Am 14 = Am 14), va_up_id (rfl : Am 15 = Am 15)] at hM
  refine z_fr (w1 := mW adm G Fm Am) (z_runV C hH.2.2 hl.1 (zH_l hH).1 (zH_l hH).2.1 2 (As := [.int (iZ (sx xs j 1)), .int (iZ (sx xs j 2))]) (rest := [.int (iZ r1)]) hM (lw_V q1844 q1845 q1846 q95 q1847) ⟨rfl, by decide, by decide, by decide +kernel⟩ (q0 := 0) (ci := 0) rfl rfl rfl rfl (Nat.le_of_ble_eq_true rfl) ⟨Nat.le_of_ble_eq_true rfl, Nat.le_of_ble_eq_true rfl⟩ ⟨by show _ + 0 ≤ 1200144; omega, by show _ + 0 ≤ 5497402; omega⟩ dL_law_1484) hH (fun u H locs hpost hH => ?_)
  obtain ⟨r7, F2m, A2m⟩ := u
  obtain ⟨hs7, hk7⟩ := hpost
  refine z_st (st' := [.int (iZ r7), .int (iZ r1)]) rfl ?_
  have hH := zH_rot hH
  refine z_same2 C 1487 2566 dL_law_1487 rfl (one_median hs1 hs7) ?_
  exact W.widen (by omega) (by omega) (K ls _ _ hl ⟨tt, tp, ln, fa, fp, b, t, n, v, wt, un, hm, hvv, hww, fr, F2, A2, kp, L, pl, pr, pa, pm, pf, F2m, A2m, fo, hDK2, MDI_q hMD0 hk7, hH⟩)

set_option maxHeartbeats 8000000 in
theorem L_29 {pg : Program} {l : Launch} {ev : Env} {s : State} {m : MethodId} {ar : Array Value} {bl : List Frame} {me : Method} {c : Code} {Q : State → Prop} {G : zG} {sc LL : Nat} {xs : Nat → Int32} {nw : Nat} {wq wv : Nat → Nat} {lq lva : Nat} {ls : Array Slot} {H : Heap} {locs : List Loc} {ce sl : Nat} {ad adm : Nat → Nat} {o j : Nat} (CX : LCT pg l s m ar me c G sc LL xs nw wq wv lq lva) (hj : j + 6 ≤ LL) (hl : lv_has ls 7 [(4, .int (iZ (j : Int))), (3, .ref o), (2, .ref (adm 0)), (1, .ref (ad 99)), (0, .ref sc)]) (hS : LST s G nw ad adm o H locs) (hce : ce + 40000 ≤ 1200144) (hsl : sl + 200000 ≤ 5497402) (K : ∀ (ls1 : Array Slot) (H1 : Heap) (locs1 : List Loc), lv_has ls1 7 [(4, .int (iZ (j : Int))), (3, .ref o), (2, .ref (adm 0)), (1, .ref (ad 99)), (0, .ref sc)] → LST s G nw ad adm o H1 locs1 → W pg l ev room_1 s m ar bl me c H1 locs1 (ce + 40000) (sl + 200000) Q (F0 m 2566 ls1 [])) : W pg l ev room_1 s m ar bl me c H locs ce sl Q (F0 m 1492 ls []) := by
  obtain ⟨C, ⟨hX, hsc, hL⟩, hlt, hnw, hBx, hcs, hsi, hth, hthq, hni, hRW, hlit⟩ := CX
  obtain ⟨tt, tp, ln, fa, fp, b, t, n, v, wt, un, hm, hvv, hww, fr, F, Ar, kp, L, pl, pr, pa, pm, pf, Fm, Am, fo, hDK, hMD, hH⟩ := hS
  have hDK0 := hDK
  have hMD0 := hMD
  obtain ⟨hD, ⟨hF1, hF2, hF3, hF6⟩, htt, htp, htb⟩ := hDK
  have hD0 := hD
  obtain ⟨⟨hn, hFn, hv, hAv, hwt, hAw⟩, ⟨hb, hFb, ht, hFt⟩, ⟨hun, hF14, hkt, hPD⟩, ⟨hPL, hpc⟩, hmo, hfr, h16⟩ := hD
  obtain ⟨⟨m2, m5, m6, m7, m8, m12, m13, m29, m30⟩, hA1, hA3, hA4, hPA⟩ := hMD
  have hpp := PLS_pool hPL
  have hpl := PLS_pl hPL
  have hx1 := sx_r (xs := xs) (j := j) (k := 1)
  have hx2 := sx_r (xs := xs) (j := j) (k := 2)
  have hx3 := sx_r (xs := xs) (j := j) (k := 3)
  have hx4 := sx_r (xs := xs) (j := j) (k := 4)
  have hx5 := sx_r (xs := xs) (j := j) (k := 5)
  have hnzr := nz_r (x := sx xs j 3)
  have hnzb := nz_b (x := sx xs j 3)
  refine z_aload_n C 1492 hl dL_law_1492 rfl 3 rfl ?_
  refine z_scr C hX hsc hH.2.2 1493 1 hl 0 4 rfl rfl (by omega) hL dL_law_1493 dL_law_1494 dL_law_1496 dL_law_1497 dL_law_1498 ?_
  refine z_scr C hX hsc hH.2.2 1499 2 hl 0 4 rfl rfl (by omega) hL dL_law_1499 dL_law_1500 dL_law_1502 dL_law_1503 dL_law_1504 ?_
  have hM := m_X1_twisted l s G H.size ad F Ar kp pl (dPool G pr pa pm pf L) n v pr pa pm pf nw b t (sx xs j 1) (sx xs j 2) (by first | assumption | omega) (by first | assumption | omega) (by first | assumption | omega) (by first | assumption | omega) (by first | assumption | omega) (by first | assumption | omega) (by first | assumption | omega) (by first | assumption | omega) (by first | assumption | omega) (by first | assumption | omega) (by first | assumption | omega) (by first | assumption | omega) (by first | assumption | omega) (by first | assumption | omega) (by first | assumption | omega)
  rw [va_up_id h16] at hM
  refine z_fr (w1 := dW ad G F Ar kp pl (dPool G pr pa pm pf L)) (z_runV C hH.2.2 hl.1 (zH_l hH).1 (zH_l hH).2.1 2 (As := [.int (iZ (sx xs j 1)), .int (iZ (sx xs j 2))]) (rest := []) hM (lw_V q1136 q1137 q1138 q89 q1139) ⟨rfl, by decide, by decide, by decide +kernel⟩ (q0 := 0) (ci := 1) rfl rfl rfl rfl (Nat.le_of_ble_eq_true rfl) ⟨Nat.le_of_ble_eq_true rfl, Nat.le_of_ble_eq_true rfl⟩ ⟨by show _ + 0 ≤ 1200144; omega, by show _ + 0 ≤ 5497402; omega⟩ dL_law_1505) hH (fun u H locs hpost hH => ?_)
  obtain ⟨r1, F2, A2⟩ := u
  obtain ⟨hs1, hk1⟩ := hpost
  have hDK2 := DKI_q hDK0 hk1
  refine z_st (st' := [.int (iZ r1)]) rfl ?_
  have hH := zH_rot hH
  refine z_aload_n C 1508 hl dL_law_1508 rfl 2 rfl ?_
  refine z_scr C hX hsc hH.2.2 1509 1 hl 0 4 rfl rfl (by omega) hL dL_law_1509 dL_law_1510 dL_law_1512 dL_law_1513 dL_law_1514 ?_
  refine z_scr C hX hsc hH.2.2 1515 2 hl 0 4 rfl rfl (by omega) hL dL_law_1515 dL_law_1516 dL_law_1518 dL_law_1519 dL_law_1520 ?_
  have hM := m_X7_twisted l s G H.size adm Fm Am n v (Am 3) t (sx xs j 1) (sx xs j 2) (by first | assumption | omega) (by first | assumption | omega) (by first | assumption | omega) (by first | assumption | omega) (by first | assumption | omega)
  simp only [va_up_id m2, va_up_id m5, va_up_id m6, va_up_id m7, va_up_id m8, va_up_id m12, va_up_id m13, va_up_id m29, va_up_id m30, va_up_id hA1, va_up_id (cI_self hA3), va_up_id (cI_self hA4), va_up_id (rfl : Am 9 = Am 9), va_up_id (rfl : Am 10 = Am 10), va_up_id (rfl : Am 11 = Am 11), va_up_id (rfl : Am 14 = Am 14), va_up_id (rfl : Am 15 = Am 15)] at hM
  refine z_fr (w1 := mW adm G Fm Am) (z_runV C hH.2.2 hl.1 (zH_l hH).1 (zH_l hH).2.1 2 (As := [.int (iZ (sx xs j 1)), .int (iZ (sx xs j 2))]) (rest := [.int (iZ r1)]) hM (lw_V q1848 q1849 q1850 q95 q1851) ⟨rfl, by decide, by decide, by decide +kernel⟩ (q0 := 0) (ci := 0) rfl rfl rfl rfl (Nat.le_of_ble_eq_true rfl) ⟨Nat.le_of_ble_eq_true rfl, Nat.le_of_ble_eq_true rfl⟩ ⟨by show _ + 0 ≤ 1200144; omega, by show _ + 0 ≤ 5497402; omega⟩ dL_law_1521) hH (fun u H locs hpost hH => ?_)
  obtain ⟨r7, F2m, A2m⟩ := u
  obtain ⟨hs7, hk7⟩ := hpost
  refine z_st (st' := [.int (iZ r7), .int (iZ r1)]) rfl ?_
  have hH := zH_rot hH
  refine z_same2 C 1524 2566 dL_law_1524 rfl (one_twisted hs1 hs7) ?_
  exact W.widen (by omega) (by omega) (K ls _ _ hl ⟨tt, tp, ln, fa, fp, b, t, n, v, wt, un, hm, hvv, hww, fr, F2, A2, kp, L, pl, pr, pa, pm, pf, F2m, A2m, fo, hDK2, MDI_q hMD0 hk7, hH⟩)

set_option maxHeartbeats 8000000 in
theorem L_30 {pg : Program} {l : Launch} {ev : Env} {s : State} {m : MethodId} {ar : Array Value} {bl : List Frame} {me : Method} {c : Code} {Q : State → Prop} {G : zG} {sc LL : Nat} {xs : Nat → Int32} {nw : Nat} {wq wv : Nat → Nat} {lq lva : Nat} {ls : Array Slot} {H : Heap} {locs : List Loc} {ce sl : Nat} {ad adm : Nat → Nat} {o j : Nat} (CX : LCT pg l s m ar me c G sc LL xs nw wq wv lq lva) (hj : j + 6 ≤ LL) (hl : lv_has ls 7 [(4, .int (iZ (j : Int))), (3, .ref o), (2, .ref (adm 0)), (1, .ref (ad 99)), (0, .ref sc)]) (hS : LST s G nw ad adm o H locs) (hce : ce + 40000 ≤ 1200144) (hsl : sl + 200000 ≤ 5497402) (K : ∀ (ls1 : Array Slot) (H1 : Heap) (locs1 : List Loc), lv_has ls1 7 [(4, .int (iZ (j : Int))), (3, .ref o), (2, .ref (adm 0)), (1, .ref (ad 99)), (0, .ref sc)] → LST s G nw ad adm o H1 locs1 → W pg l ev room_1 s m ar bl me c H1 locs1 (ce + 40000) (sl + 200000) Q (F0 m 2566 ls1 [])) : W pg l ev room_1 s m ar bl me c H locs ce sl Q (F0 m 1529 ls []) := by
  obtain ⟨C, ⟨hX, hsc, hL⟩, hlt, hnw, hBx, hcs, hsi, hth, hthq, hni, hRW, hlit⟩ := CX
  obtain ⟨tt, tp, ln, fa, fp, b, t, n, v, wt, un, hm, hvv, hww, fr, F, Ar, kp, L, pl, pr, pa, pm, pf, Fm, Am, fo, hDK, hMD, hH⟩ := hS
  have hDK0 := hDK
  have hMD0 := hMD
  obtain ⟨hD, ⟨hF1, hF2, hF3, hF6⟩, htt, htp, htb⟩ := hDK
  have hD0 := hD
  obtain ⟨⟨hn, hFn, hv, hAv, hwt, hAw⟩, ⟨hb, hFb, ht, hFt⟩, ⟨hun, hF14, hkt, hPD⟩, ⟨hPL, hpc⟩, hmo, hfr, h16⟩ := hD
  obtain ⟨⟨m2, m5, m6, m7, m8, m12, m13, m29, m30⟩, hA1, hA3, hA4, hPA⟩ := hMD
  have hpp := PLS_pool hPL
  have hpl := PLS_pl hPL
  have hx1 := sx_r (xs := xs) (j := j) (k := 1)
  have hx2 := sx_r (xs := xs) (j := j) (k := 2)
  have hx3 := sx_r (xs := xs) (j := j) (k := 3)
  have hx4 := sx_r (xs := xs) (j := j) (k := 4)
  have hx5 := sx_r (xs := xs) (j := j) (k := 5)
  have hnzr := nz_r (x := sx xs j 3)
  have hnzb := nz_b (x := sx xs j 3)
  refine z_aload_n C 1529 hl dL_law_1529 rfl 3 rfl ?_
  refine z_scr C hX hsc hH.2.2 1530 1 hl 0 4 rfl rfl (by omega) hL dL_law_1530 dL_law_1531 dL_law_1533 dL_law_1534 dL_law_1535 ?_
  refine z_scr C hX hsc hH.2.2 1536 2 hl 0 4 rfl rfl (by omega) hL dL_law_1536 dL_law_1537 dL_law_1539 dL_law_1540 dL_law_1541 ?_
  refine z_scr C hX hsc hH.2.2 1542 3 hl 0 4 rfl rfl (by omega) hL dL_law_1542 dL_law_1543 dL_law_1545 dL_law_1546 dL_law_1547 ?_
  have hM := m_X1_run l s G H.size ad F Ar kp pl (dPool G pr pa pm pf L) n v pr pa pm pf nw b t (sx xs j 1) (sx xs j 2) (sx xs j 3) (by first | assumption | omega) (by first | assumption | omega) (by first | assumption | omega) (by first | assumption | omega) (by first | assumption | omega) (by first | assumption | omega) (by first | assumption | omega) (by first | assumption | omega) (by first | assumption | omega) (by first | assumption | omega) (by first | assumption | omega) (by first | assumption | omega) (by first | assumption | omega) (by first | assumption | omega) (by first | assumption | omega) (by first | assumption | omega)
  rw [va_up_id h16] at hM
  refine z_fr (w1 := dW ad G F Ar kp pl (dPool G pr pa pm pf L)) (z_runV C hH.2.2 hl.1 (zH_l hH).1 (zH_l hH).2.1 3 (As := [.int (iZ (sx xs j 1)), .int (iZ (sx xs j 2)), .int (iZ (sx xs j 3))]) (rest := []) hM (lw_V q1140 q1141 q1142 q89 q1143) ⟨rfl, by decide, by decide, by decide +kernel⟩ (q0 := 0) (ci := 1) rfl rfl rfl rfl (Nat.le_of_ble_eq_true rfl) ⟨Nat.le_of_ble_eq_true rfl, Nat.le_of_ble_eq_true rfl⟩ ⟨by show _ + 0 ≤ 1200144; omega, by show _ + 0 ≤ 5497402; omega⟩ dL_law_1548) hH (fun u H locs hpost hH => ?_)
  obtain ⟨r1, F2, A2⟩ := u
  obtain ⟨hs1, hk1⟩ := hpost
  have hDK2 := DKI_q hDK0 hk1
  refine z_st (st' := [.int (iZ r1)]) rfl ?_
  have hH := zH_rot hH
  refine z_aload_n C 1551 hl dL_law_1551 rfl 2 rfl ?_
  refine z_scr C hX hsc hH.2.2 1552 1 hl 0 4 rfl rfl (by omega) hL dL_law_1552 dL_law_1553 dL_law_1555 dL_law_1556 dL_law_1557 ?_
  refine z_scr C hX hsc hH.2.2 1558 2 hl 0 4 rfl rfl (by omega) hL dL_law_1558 dL_law_1559 dL_law_1561 dL_law_1562 dL_law_1563 ?_
  refine z_scr C hX hsc hH.2.2 1564 3 hl 0 4 rfl rfl (by omega) hL dL_law_1564 dL_law_1565 dL_law_1567 dL_law_1568 dL_law_1569 ?_
  have hM := m_X7_run l s G H.size adm Fm Am n v (Am 3) t (sx xs j 1) (sx xs j 2) (sx xs j 3) (by first | assumption | omega) (by first | assumption | omega) (by first | assumption | omega) (by first | assumption | omega) (by first | assumption | omega) (by first | assumption | omega)
  simp only [va_up_id m2, va_up_id m5, va_up_id m6, va_up_id m7, va_up_id m8, va_up_id m12, va_up_id m13, va_up_id m29, va_up_id m30, va_up_id hA1, va_up_id (cI_self hA3), va_up_id (cI_self hA4), va_up_id (rfl : Am 9 = Am 9), va_up_id (rfl : Am 10 = Am 10), va_up_id (rfl : Am 11 = Am 11), va_up_id (rfl : Am 14 = Am 14), va_up_id (rfl : Am 15 = Am 15)] at hM
  refine z_fr (w1 := mW adm G Fm Am) (z_runV C hH.2.2 hl.1 (zH_l hH).1 (zH_l hH).2.1 3 (As := [.int (iZ (sx xs j 1)), .int (iZ (sx xs j 2)), .int (iZ (sx xs j 3))]) (rest := [.int (iZ r1)]) hM (lw_V q1852 q1853 q1854 q95 q1855) ⟨rfl, by decide, by decide, by decide +kernel⟩ (q0 := 0) (ci := 0) rfl rfl rfl rfl (Nat.le_of_ble_eq_true rfl) ⟨Nat.le_of_ble_eq_true rfl, Nat.le_of_ble_eq_true rfl⟩ ⟨by show _ + 0 ≤ 1200144; omega, by show _ + 0 ≤ 5497402; omega⟩ dL_law_1570) hH (fun u H locs hpost hH => ?_)
  obtain ⟨r7, F2m, A2m⟩ := u
  obtain ⟨hs7, hk7⟩ := hpost
  refine z_st (st' := [.int (iZ r7), .int (iZ r1)]) rfl ?_
  have hH := zH_rot hH
  refine z_same2 C 1573 2566 dL_law_1573 rfl (one_run hs1 hs7) ?_
  exact W.widen (by omega) (by omega) (K ls _ _ hl ⟨tt, tp, ln, fa, fp, b, t, n, v, wt, un, hm, hvv, hww, fr, F2, A2, kp, L, pl, pr, pa, pm, pf, F2m, A2m, fo, hDK2, MDI_q hMD0 hk7, hH⟩)

set_option maxHeartbeats 8000000 in
theorem L_31 {pg : Program} {l : Launch} {ev : Env} {s : State} {m : MethodId} {ar : Array Value} {bl : List Frame} {me : Method} {c : Code} {Q : State → Prop} {G : zG} {sc LL : Nat} {xs : Nat → Int32} {nw : Nat} {wq wv : Nat → Nat} {lq lva : Nat} {ls : Array Slot} {H : Heap} {locs : List Loc} {ce sl : Nat} {ad adm : Nat → Nat} {o j : Nat} (CX : LCT pg l s m ar me c G sc LL xs nw wq wv lq lva) (hj : j + 6 ≤ LL) (hl : lv_has ls 7 [(4, .int (iZ (j : Int))), (3, .ref o), (2, .ref (adm 0)), (1, .ref (ad 99)), (0, .ref sc)]) (hS : LST s G nw ad adm o H locs) (hce : ce + 40000 ≤ 1200144) (hsl : sl + 200000 ≤ 5497402) (K : ∀ (ls1 : Array Slot) (H1 : Heap) (locs1 : List Loc), lv_has ls1 7 [(4, .int (iZ (j : Int))), (3, .ref o), (2, .ref (adm 0)), (1, .ref (ad 99)), (0, .ref sc)] → LST s G nw ad adm o H1 locs1 → W pg l ev room_1 s m ar bl me c H1 locs1 (ce + 40000) (sl + 200000) Q (F0 m 2566 ls1 [])) : W pg l ev room_1 s m ar bl me c H locs ce sl Q (F0 m 1578 ls []) := by
  obtain ⟨C, ⟨hX, hsc, hL⟩, hlt, hnw, hBx, hcs, hsi, hth, hthq, hni, hRW, hlit⟩ := CX
  obtain ⟨tt, tp, ln, fa, fp, b, t, n, v, wt, un, hm, hvv, hww, fr, F, Ar, kp, L, pl, pr, pa, pm, pf, Fm, Am, fo, hDK, hMD, hH⟩ := hS
  have hDK0 := hDK
  have hMD0 := hMD
  obtain ⟨hD, ⟨hF1, hF2, hF3, hF6⟩, htt, htp, htb⟩ := hDK
  have hD0 := hD
  obtain ⟨⟨hn, hFn, hv, hAv, hwt, hAw⟩, ⟨hb, hFb, ht, hFt⟩, ⟨hun, hF14, hkt, hPD⟩, ⟨hPL, hpc⟩, hmo, hfr, h16⟩ := hD
  obtain ⟨⟨m2, m5, m6, m7, m8, m12, m13, m29, m30⟩, hA1, hA3, hA4, hPA⟩ := hMD
  have hpp := PLS_pool hPL
  have hpl := PLS_pl hPL
  have hx1 := sx_r (xs := xs) (j := j) (k := 1)
  have hx2 := sx_r (xs := xs) (j := j) (k := 2)
  have hx3 := sx_r (xs := xs) (j := j) (k := 3)
  have hx4 := sx_r (xs := xs) (j := j) (k := 4)
  have hx5 := sx_r (xs := xs) (j := j) (k := 5)
  have hnzr := nz_r (x := sx xs j 3)
  have hnzb := nz_b (x := sx xs j 3)
  refine z_aload_n C 1578 hl dL_law_1578 rfl 3 rfl ?_
  refine z_scr C hX hsc hH.2.2 1579 1 hl 0 4 rfl rfl (by omega) hL dL_law_1579 dL_law_1580 dL_law_1582 dL_law_1583 dL_law_1584 ?_
  refine z_scr C hX hsc hH.2.2 1585 2 hl 0 4 rfl rfl (by omega) hL dL_law_1585 dL_law_1586 dL_law_1588 dL_law_1589 dL_law_1590 ?_
  refine z_scr C hX hsc hH.2.2 1591 3 hl 0 4 rfl rfl (by omega) hL dL_law_1591 dL_law_1592 dL_law_1594 dL_law_1595 dL_law_1596 ?_
  have hM := m_X1_common l s G H.size ad F Ar kp pl (dPool G pr pa pm pf L) n v pr pa pm pf nw b t (sx xs j 1) (sx xs j 2) (sx xs j 3) (by first | assumption | omega) (by first | assumption | omega) (by first | assumption | omega) (by first | assumption | omega) (by first | assumption | omega) (by first | assumption | omega) (by first | assumption | omega) (by first | assumption | omega) (by first | assumption | omega) (by first | assumption | omega) (by first | assumption | omega) (by first | assumption | omega) (by first | assumption | omega) (by first | assumption | omega) (by first | assumption | omega) (by first | assumption | omega)
  rw [va_up_id h16] at hM
  refine z_fr (w1 := dW ad G F Ar kp pl (dPool G pr pa pm pf L)) (z_runV C hH.2.2 hl.1 (zH_l hH).1 (zH_l hH).2.1 3 (As := [.int (iZ (sx xs j 1)), .int (iZ (sx xs j 2)), .int (iZ (sx xs j 3))]) (rest := []) hM (lw_V q1145 q1146 q1147 q89 q1148) ⟨rfl, by decide, by decide, by decide +kernel⟩ (q0 := 0) (ci := 1) rfl rfl rfl rfl (Nat.le_of_ble_eq_true rfl) ⟨Nat.le_of_ble_eq_true rfl, Nat.le_of_ble_eq_true rfl⟩ ⟨by show _ + 0 ≤ 1200144; omega, by show _ + 0 ≤ 5497402; omega⟩ dL_law_1597) hH (fun u H locs hpost hH => ?_)
  obtain ⟨r1, F2, A2⟩ := u
  obtain ⟨hs1, hk1⟩ := hpost
  have hDK2 := DKI_q hDK0 hk1
  refine z_st (st' := [.int (iZ r1)]) rfl ?_
  have hH := zH_rot hH
  refine z_aload_n C 1600 hl dL_law_1600 rfl 2 rfl ?_
  refine z_scr C hX hsc hH.2.2 1601 1 hl 0 4 rfl rfl (by omega) hL dL_law_1601 dL_law_1602 dL_law_1604 dL_law_1605 dL_law_1606 ?_
  refine z_scr C hX hsc hH.2.2 1607 2 hl 0 4 rfl rfl (by omega) hL dL_law_1607 dL_law_1608 dL_law_1610 dL_law_1611 dL_law_1612 ?_
  refine z_scr C hX hsc hH.2.2 1613 3 hl 0 4 rfl rfl (by omega) hL dL_law_1613 dL_law_1614 dL_law_1616 dL_law_1617 dL_law_1618 ?_
  have hM := m_X7_common l s G H.size adm Fm Am n v (Am 3) t (sx xs j 1) (sx xs j 2) (sx xs j 3) (by first | assumption | omega) (by first | assumption | omega) (by first | assumption | omega) (by first | assumption | omega) (by first | assumption | omega) (by first | assumption | omega)
  simp only [va_up_id m2, va_up_id m5, va_up_id m6, va_up_id m7, va_up_id m8, va_up_id m12, va_up_id m13, va_up_id m29, va_up_id m30, va_up_id hA1, va_up_id (cI_self hA3), va_up_id (cI_self hA4), va_up_id (rfl : Am 9 = Am 9), va_up_id (rfl : Am 10 = Am 10), va_up_id (rfl : Am 11 = Am 11), va_up_id (rfl : Am 14 = Am 14), va_up_id (rfl : Am 15 = Am 15)] at hM
  refine z_fr (w1 := mW adm G Fm Am) (z_runV C hH.2.2 hl.1 (zH_l hH).1 (zH_l hH).2.1 3 (As := [.int (iZ (sx xs j 1)), .int (iZ (sx xs j 2)), .int (iZ (sx xs j 3))]) (rest := [.int (iZ r1)]) hM (lw_V q1856 q1857 q1858 q95 q1859) ⟨rfl, by decide, by decide, by decide +kernel⟩ (q0 := 0) (ci := 0) rfl rfl rfl rfl (Nat.le_of_ble_eq_true rfl) ⟨Nat.le_of_ble_eq_true rfl, Nat.le_of_ble_eq_true rfl⟩ ⟨by show _ + 0 ≤ 1200144; omega, by show _ + 0 ≤ 5497402; omega⟩ dL_law_1619) hH (fun u H locs hpost hH => ?_)
  obtain ⟨r7, F2m, A2m⟩ := u
  obtain ⟨hs7, hk7⟩ := hpost
  refine z_st (st' := [.int (iZ r7), .int (iZ r1)]) rfl ?_
  have hH := zH_rot hH
  refine z_same2 C 1622 2566 dL_law_1622 rfl (one_common hs1 hs7) ?_
  exact W.widen (by omega) (by omega) (K ls _ _ hl ⟨tt, tp, ln, fa, fp, b, t, n, v, wt, un, hm, hvv, hww, fr, F2, A2, kp, L, pl, pr, pa, pm, pf, F2m, A2m, fo, hDK2, MDI_q hMD0 hk7, hH⟩)

set_option maxHeartbeats 8000000 in
theorem L_32 {pg : Program} {l : Launch} {ev : Env} {s : State} {m : MethodId} {ar : Array Value} {bl : List Frame} {me : Method} {c : Code} {Q : State → Prop} {G : zG} {sc LL : Nat} {xs : Nat → Int32} {nw : Nat} {wq wv : Nat → Nat} {lq lva : Nat} {ls : Array Slot} {H : Heap} {locs : List Loc} {ce sl : Nat} {ad adm : Nat → Nat} {o j : Nat} (CX : LCT pg l s m ar me c G sc LL xs nw wq wv lq lva) (hj : j + 6 ≤ LL) (hl : lv_has ls 7 [(4, .int (iZ (j : Int))), (3, .ref o), (2, .ref (adm 0)), (1, .ref (ad 99)), (0, .ref sc)]) (hS : LST s G nw ad adm o H locs) (hce : ce + 40000 ≤ 1200144) (hsl : sl + 200000 ≤ 5497402) (K : ∀ (ls1 : Array Slot) (H1 : Heap) (locs1 : List Loc), lv_has ls1 7 [(4, .int (iZ (j : Int))), (3, .ref o), (2, .ref (adm 0)), (1, .ref (ad 99)), (0, .ref sc)] → LST s G nw ad adm o H1 locs1 → W pg l ev room_1 s m ar bl me c H1 locs1 (ce + 40000) (sl + 200000) Q (F0 m 2566 ls1 [])) : W pg l ev room_1 s m ar bl me c H locs ce sl Q (F0 m 1627 ls []) := by
  obtain ⟨C, ⟨hX, hsc, hL⟩, hlt, hnw, hBx, hcs, hsi, hth, hthq, hni, hRW, hlit⟩ := CX
  obtain ⟨tt, tp, ln, fa, fp, b, t, n, v, wt, un, hm, hvv, hww, fr, F, Ar, kp, L, pl, pr, pa, pm, pf, Fm, Am, fo, hDK, hMD, hH⟩ := hS
  have hDK0 := hDK
  have hMD0 := hMD
  obtain ⟨hD, ⟨hF1, hF2, hF3, hF6⟩, htt, htp, htb⟩ := hDK
  have hD0 := hD
  obtain ⟨⟨hn, hFn, hv, hAv, hwt, hAw⟩, ⟨hb, hFb, ht, hFt⟩, ⟨hun, hF14, hkt, hPD⟩, ⟨hPL, hpc⟩, hmo, hfr, h16⟩ := hD
  obtain ⟨⟨m2, m5, m6, m7, m8, m12, m13, m29, m30⟩, hA1, hA3, hA4, hPA⟩ := hMD
  have hpp := PLS_pool hPL
  have hpl := PLS_pl hPL
  have hx1 := sx_r (xs := xs) (j := j) (k := 1)
  have hx2 := sx_r (xs := xs) (j := j) (k := 2)
  have hx3 := sx_r (xs := xs) (j := j) (k := 3)
  have hx4 := sx_r (xs := xs) (j := j) (k := 4)
  have hx5 := sx_r (xs := xs) (j := j) (k := 5)
  have hnzr := nz_r (x := sx xs j 3)
  have hnzb := nz_b (x := sx xs j 3)
  refine z_aload_n C 1627 hl dL_law_1627 rfl 3 rfl ?_
  refine z_scr C hX hsc hH.2.2 1628 1 hl 0 4 rfl rfl (by omega) hL dL_law_1628 dL_law_1629 dL_law_1631 dL_law_1632 dL_law_1633 ?_
  refine z_scr C hX hsc hH.2.2 1634 2 hl 0 4 rfl rfl (by omega) hL dL_law_1634 dL_law_1635 dL_law_1637 dL_law_1638 dL_law_1639 ?_
  have hM := m_X1_window l s G H.size ad F Ar kp pl (dPool G pr pa pm pf L) n v pr pa pm pf nw b t (sx xs j 1) (sx xs j 2) (by first | assumption | omega) (by first | assumption | omega) (by first | assumption | omega) (by first | assumption | omega) (by first | assumption | omega) (by first | assumption | omega) (by first | assumption | omega) (by first | assumption | omega) (by first | assumption | omega) (by first | assumption | omega) (by first | assumption | omega) (by first | assumption | omega) (by first | assumption | omega) (by first | assumption | omega) (by first | assumption | omega)
  rw [va_up_id h16] at hM
  refine z_fr (w1 := dW ad G F Ar kp pl (dPool G pr pa pm pf L)) (z_runV C hH.2.2 hl.1 (zH_l hH).1 (zH_l hH).2.1 2 (As := [.int (iZ (sx xs j 1)), .int (iZ (sx xs j 2))]) (rest := []) hM (lw_V q1149 q1150 q1151 q89 q1152) ⟨rfl, by decide, by decide, by decide +kernel⟩ (q0 := 0) (ci := 1) rfl rfl rfl rfl (Nat.le_of_ble_eq_true rfl) ⟨Nat.le_of_ble_eq_true rfl, Nat.le_of_ble_eq_true rfl⟩ ⟨by show _ + 0 ≤ 1200144; omega, by show _ + 0 ≤ 5497402; omega⟩ dL_law_1640) hH (fun u H locs hpost hH => ?_)
  obtain ⟨r1, F2, A2⟩ := u
  obtain ⟨hs1, hk1⟩ := hpost
  have hDK2 := DKI_q hDK0 hk1
  refine z_st (st' := [.int (iZ r1)]) rfl ?_
  have hH := zH_rot hH
  refine z_aload_n C 1643 hl dL_law_1643 rfl 2 rfl ?_
  refine z_scr C hX hsc hH.2.2 1644 1 hl 0 4 rfl rfl (by omega) hL dL_law_1644 dL_law_1645 dL_law_1647 dL_law_1648 dL_law_1649 ?_
  refine z_scr C hX hsc hH.2.2 1650 2 hl 0 4 rfl rfl (by omega) hL dL_law_1650 dL_law_1651 dL_law_1653 dL_law_1654 dL_law_1655 ?_
  have hM := m_X7_window l s G H.size adm Fm Am n v (Am 3) t (sx xs j 1) (sx xs j 2) (by first | assumption | omega) (by first | assumption | omega) (by first | assumption | omega) (by first | assumption | omega) (by first | assumption | omega)
  simp only [va_up_id m2, va_up_id m5, va_up_id m6, va_up_id m7, va_up_id m8, va_up_id m12, va_up_id m13, va_up_id m29, va_up_id m30, va_up_id hA1, va_up_id (cI_self hA3), va_up_id (cI_self hA4), va_up_id (rfl : Am 9 = Am 9), va_up_id (rfl : Am 10 = Am 10), va_up_id (rfl : Am 11 = Am 11), va_up_id (rfl : Am 14 = Am 14), va_up_id (rfl : Am 15 = Am 15)] at hM
  refine z_fr (w1 := mW adm G Fm Am) (z_runV C hH.2.2 hl.1 (zH_l hH).1 (zH_l hH).2.1 2 (As := [.int (iZ (sx xs j 1)), .int (iZ (sx xs j 2))]) (rest := [.int (iZ r1)]) hM (lw_V q1860 q1861 q1862 q95 q1863) ⟨rfl, by decide, by decide, by decide +kernel⟩ (q0 := 0) (ci := 0) rfl rfl rfl rfl (Nat.le_of_ble_eq_true rfl) ⟨Nat.le_of_ble_eq_true rfl, Nat.le_of_ble_eq_true rfl⟩ ⟨by show _ + 0 ≤ 1200144; omega, by show _ + 0 ≤ 5497402; omega⟩ dL_law_1656) hH (fun u H locs hpost hH => ?_)
  obtain ⟨r7, F2m, A2m⟩ := u
  obtain ⟨hs7, hk7⟩ := hpost
  refine z_st (st' := [.int (iZ r7), .int (iZ r1)]) rfl ?_
  have hH := zH_rot hH
  refine z_same2 C 1659 2566 dL_law_1659 rfl (one_window hs1 hs7) ?_
  exact W.widen (by omega) (by omega) (K ls _ _ hl ⟨tt, tp, ln, fa, fp, b, t, n, v, wt, un, hm, hvv, hww, fr, F2, A2, kp, L, pl, pr, pa, pm, pf, F2m, A2m, fo, hDK2, MDI_q hMD0 hk7, hH⟩)

set_option maxHeartbeats 8000000 in
theorem L_33 {pg : Program} {l : Launch} {ev : Env} {s : State} {m : MethodId} {ar : Array Value} {bl : List Frame} {me : Method} {c : Code} {Q : State → Prop} {G : zG} {sc LL : Nat} {xs : Nat → Int32} {nw : Nat} {wq wv : Nat → Nat} {lq lva : Nat} {ls : Array Slot} {H : Heap} {locs : List Loc} {ce sl : Nat} {ad adm : Nat → Nat} {o j : Nat} (CX : LCT pg l s m ar me c G sc LL xs nw wq wv lq lva) (hj : j + 6 ≤ LL) (hl : lv_has ls 7 [(4, .int (iZ (j : Int))), (3, .ref o), (2, .ref (adm 0)), (1, .ref (ad 99)), (0, .ref sc)]) (hS : LST s G nw ad adm o H locs) (hce : ce + 40000 ≤ 1200144) (hsl : sl + 200000 ≤ 5497402) (K : ∀ (ls1 : Array Slot) (H1 : Heap) (locs1 : List Loc), lv_has ls1 7 [(4, .int (iZ (j : Int))), (3, .ref o), (2, .ref (adm 0)), (1, .ref (ad 99)), (0, .ref sc)] → LST s G nw ad adm o H1 locs1 → W pg l ev room_1 s m ar bl me c H1 locs1 (ce + 40000) (sl + 200000) Q (F0 m 2566 ls1 [])) : W pg l ev room_1 s m ar bl me c H locs ce sl Q (F0 m 1664 ls []) := by
  obtain ⟨C, ⟨hX, hsc, hL⟩, hlt, hnw, hBx, hcs, hsi, hth, hthq, hni, hRW, hlit⟩ := CX
  obtain ⟨tt, tp, ln, fa, fp, b, t, n, v, wt, un, hm, hvv, hww, fr, F, Ar, kp, L, pl, pr, pa, pm, pf, Fm, Am, fo, hDK, hMD, hH⟩ := hS
  have hDK0 := hDK
  have hMD0 := hMD
  obtain ⟨hD, ⟨hF1, hF2, hF3, hF6⟩, htt, htp, htb⟩ := hDK
  have hD0 := hD
  obtain ⟨⟨hn, hFn, hv, hAv, hwt, hAw⟩, ⟨hb, hFb, ht, hFt⟩, ⟨hun, hF14, hkt, hPD⟩, ⟨hPL, hpc⟩, hmo, hfr, h16⟩ := hD
  obtain ⟨⟨m2, m5, m6, m7, m8, m12, m13, m29, m30⟩, hA1, hA3, hA4, hPA⟩ := hMD
  have hpp := PLS_pool hPL
  have hpl := PLS_pl hPL
  have hx1 := sx_r (xs := xs) (j := j) (k := 1)
  have hx2 := sx_r (xs := xs) (j := j) (k := 2)
  have hx3 := sx_r (xs := xs) (j := j) (k := 3)
  have hx4 := sx_r (xs := xs) (j := j) (k := 4)
  have hx5 := sx_r (xs := xs) (j := j) (k := 5)
  have hnzr := nz_r (x := sx xs j 3)
  have hnzb := nz_b (x := sx xs j 3)
  refine z_aload_n C 1664 hl dL_law_1664 rfl 3 rfl ?_
  refine z_scr C hX hsc hH.2.2 1665 1 hl 0 4 rfl rfl (by omega) hL dL_law_1665 dL_law_1666 dL_law_1668 dL_law_1669 dL_law_1670 ?_
  refine z_scr C hX hsc hH.2.2 1671 2 hl 0 4 rfl rfl (by omega) hL dL_law_1671 dL_law_1672 dL_law_1674 dL_law_1675 dL_law_1676 ?_
  have hM := m_X1_windows l s G H.size ad F Ar kp pl (dPool G pr pa pm pf L) n v pr pa pm pf nw b t (sx xs j 1) (sx xs j 2) (by first | assumption | omega) (by first | assumption | omega) (by first | assumption | omega) (by first | assumption | omega) (by first | assumption | omega) (by first | assumption | omega) (by first | assumption | omega) (by first | assumption | omega) (by first | assumption | omega) (by first | assumption | omega) (by first | assumption | omega) (by first | assumption | omega) (by first | assumption | omega) (by first | assumption | omega) (by first | assumption | omega) (by first | assumption | omega)
  rw [va_up_id h16] at hM
  refine z_fr (w1 := dW ad G F Ar kp pl (dPool G pr pa pm pf L)) (z_runV C hH.2.2 hl.1 (zH_l hH).1 (zH_l hH).2.1 2 (As := [.int (iZ (sx xs j 1)), .int (iZ (sx xs j 2))]) (rest := []) hM (lw_V q1153 q1154 q1155 q89 q1156) ⟨rfl, by decide, by decide, by decide +kernel⟩ (q0 := 0) (ci := 1) rfl rfl rfl rfl (Nat.le_of_ble_eq_true rfl) ⟨Nat.le_of_ble_eq_true rfl, Nat.le_of_ble_eq_true rfl⟩ ⟨by show _ + 122 ≤ 1200144; omega, by show _ + 124 ≤ 5497402; omega⟩ dL_law_1677) hH (fun u H locs hpost hH => ?_)
  obtain ⟨r1, F2, A2⟩ := u
  obtain ⟨hs1, hk1⟩ := hpost
  have hDK2 := DKI_q hDK0 hk1
  refine z_st (st' := [.int (iZ r1)]) rfl ?_
  have hH := zH_rot hH
  refine z_aload_n C 1680 hl dL_law_1680 rfl 2 rfl ?_
  refine z_scr C hX hsc hH.2.2 1681 1 hl 0 4 rfl rfl (by omega) hL dL_law_1681 dL_law_1682 dL_law_1684 dL_law_1685 dL_law_1686 ?_
  refine z_scr C hX hsc hH.2.2 1687 2 hl 0 4 rfl rfl (by omega) hL dL_law_1687 dL_law_1688 dL_law_1690 dL_law_1691 dL_law_1692 ?_
  have hM := m_X7_windows l s G H.size adm Fm Am n v (Am 3) t (sx xs j 1) (sx xs j 2) (by first | assumption | omega) (by first | assumption | omega) (by first | assumption | omega) (by first | assumption | omega) (by first | assumption | omega)
  simp only [va_up_id m2, va_up_id m5, va_up_id m6, va_up_id m7, va_up_id m8, va_up_id m12, va_up_id m13, va_up_id m29, va_up_id m30, va_up_id hA1, va_up_id (cI_self hA3), va_up_id (cI_self hA4), va_up_id (rfl : Am 9 = Am 9), va_up_id (rfl : Am 10 = Am 10), va_up_id (rfl : Am 11 = Am 11), va_up_id (rfl : Am 14 = Am 14), va_up_id (rfl : Am 15 = Am 15)] at hM
  refine z_fr (w1 := mW adm G Fm Am) (z_runV C hH.2.2 hl.1 (zH_l hH).1 (zH_l hH).2.1 2 (As := [.int (iZ (sx xs j 1)), .int (iZ (sx xs j 2))]) (rest := [.int (iZ r1)]) hM (lw_V q1864 q1865 q1866 q95 q1867) ⟨rfl, by decide, by decide, by decide +kernel⟩ (q0 := 0) (ci := 0) rfl rfl rfl rfl (Nat.le_of_ble_eq_true rfl) ⟨Nat.le_of_ble_eq_true rfl, Nat.le_of_ble_eq_true rfl⟩ ⟨by show _ + 0 ≤ 1200144; omega, by show _ + 0 ≤ 5497402; omega⟩ dL_law_1693) hH (fun u H locs hpost hH => ?_)
  obtain ⟨r7, F2m, A2m⟩ := u
  obtain ⟨hs7, hk7⟩ := hpost
  refine z_st (st' := [.int (iZ r7), .int (iZ r1)]) rfl ?_
  have hH := zH_rot hH
  refine z_same2 C 1696 2566 dL_law_1696 rfl (one_windows hs1 hs7) ?_
  exact W.widen (by omega) (by omega) (K ls _ _ hl ⟨tt, tp, ln, fa, fp, b, t, n, v, wt, un, hm, hvv, hww, fr, F2, A2, kp, L, pl, pr, pa, pm, pf, F2m, A2m, fo, hDK2, MDI_q hMD0 hk7, hH⟩)
