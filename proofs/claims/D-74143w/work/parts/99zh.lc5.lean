/-! the law: its cases (edits) 99zh.lc5 -/
set_option maxRecDepth 100000
set_option maxHeartbeats 8000000 in
theorem L_4 {pg : Program} {l : Launch} {ev : Env} {s : State} {m : MethodId} {ar : Array Value} {bl : List Frame} {me : Method} {c : Code} {Q : State → Prop} {G : zG} {sc LL : Nat} {xs : Nat → Int32} {nw : Nat} {wq wv : Nat → Nat} {lq lva : Nat} {ls : Array Slot} {H : Heap} {locs : List Loc} {ce sl : Nat} {ad adm : Nat → Nat} {o j : Nat} (CX : LCT pg l s m ar me c G sc LL xs nw wq wv lq lva) (hj : j + 6 ≤ LL) (hl : lv_has ls 7 [(4, .int (iZ (j : Int))), (3, .ref o), (2, .ref (adm 0)), (1, .ref (ad 99)), (0, .ref sc)]) (hS : LST s G nw ad adm o H locs) (hce : ce + 40000 ≤ 1200144) (hsl : sl + 200000 ≤ 5497402) (K : ∀ (ls1 : Array Slot) (H1 : Heap) (locs1 : List Loc), lv_has ls1 7 [(4, .int (iZ (j : Int))), (3, .ref o), (2, .ref (adm 0)), (1, .ref (ad 99)), (0, .ref sc)] → LST s G nw ad adm o H1 locs1 → W pg l ev room_1 s m ar bl me c H1 locs1 (ce + 40000) (sl + 200000) Q (F0 m 2566 ls1 [])) : W pg l ev room_1 s m ar bl me c H locs ce sl Q (F0 m 467 ls []) := by
  obtain ⟨C, ⟨hX, hsc, hL⟩, hlt, hnw, hBx, hcs, hsi, hth, hthq, hni, hRW, hlit⟩ := CX
  obtain ⟨tt, tp, ln, fa, fp, b, t, n, v, wt, un, hm, hvv, hww, fr, F, Ar, kp, L, pl, pr, pa, pm, pf, Fm, Am, fo, hDK, hMD, hH⟩ := hS
  have hDK0 := hDK
  have hMD0 := hMD
  obtain ⟨hD, ⟨hF1, hF2, hF3, hF6⟩, htt, htp, htb⟩ := hDK
  have hD0 := hD
  obtain ⟨⟨hn, hFn, hv, hAv, hwt, hAw⟩, ⟨hb, hFb, ht, hFt⟩, ⟨hun, hF14, hkt, hPD⟩, ⟨hPL, hpc⟩, hmo, hfr, h16⟩ := hD
  obtain ⟨⟨m2, m5, m6, m7, m8, m12, m13, m29, m30⟩, hA1, hA3, hA4, hPA⟩ := hMD
  have hpp := PLS_pool hPL
  have hpl := PLS_pl hPL
  have hx1 := sx_r (xs := xs) (j := j) (k := 1)
  have hx2 := sx_r (xs := xs) (j := j) (k := 2)
  have hx3 := sx_r (xs := xs) (j := j) (k := 3)
  have hx4 := sx_r (xs := xs) (j := j) (k := 4)
  have hx5 := sx_r (xs := xs) (j := j) (k := 5)
  have hnzr := nz_r (x := sx xs j 3)
  have hnzb := nz_b (x := sx xs j 3)
  refine z_aload_n C 467 hl dL_law_467 rfl 3 rfl ?_
  refine z_scr C hX hsc hH.2.2 468 1 hl 0 4 rfl rfl (by omega) hL dL_law_468 dL_law_469 dL_law_471 dL_law_472 dL_law_473 ?_
  refine z_scr C hX hsc hH.2.2 474 2 hl 0 4 rfl rfl (by omega) hL dL_law_474 dL_law_475 dL_law_477 dL_law_478 dL_law_479 ?_
  have hM := m_X1_set l s G H.size ad F Ar kp pl (dPool G pr pa pm pf L) L pr pa pm pf nw b t n v wt un hm hvv hww fr (sx xs j 1) (sx xs j 2) (by first | assumption | omega) (by first | assumption | omega) (by first | assumption | omega) (by first | assumption | omega)
  refine z_fr (w1 := dW ad G F Ar kp pl (dPool G pr pa pm pf L)) (z_runV C hH.2.2 hl.1 (zH_l hH).1 (zH_l hH).2.1 2 (As := [.int (iZ (sx xs j 1)), .int (iZ (sx xs j 2))]) (rest := []) hM (lw_V q795 q796 q797 q89 q798) ⟨rfl, by decide, by decide, by decide +kernel⟩ (q0 := 0) (ci := 1) rfl rfl rfl rfl (Nat.le_of_ble_eq_true rfl) ⟨Nat.le_of_ble_eq_true rfl, Nat.le_of_ble_eq_true rfl⟩ ⟨by show _ + 240 ≤ 1200144; omega, by show _ + 14640 ≤ 5497402; omega⟩ dL_law_480) hH (fun u H locs hpost hH => ?_)
  obtain ⟨r1, n2, v2, w2, un2, hm2, hvv2, hww2, fr2, L2, pl2, pr2, pa2, pm2, pf2, kp2, F2, A2⟩ := u
  obtain ⟨hs1, he1, hd1, hk1⟩ := hpost
  refine z_st (st' := [.int (iZ r1)]) rfl ?_
  have hH := zH_rot hH
  refine z_aload_n C 483 hl dL_law_483 rfl 2 rfl ?_
  refine z_scr C hX hsc hH.2.2 484 1 hl 0 4 rfl rfl (by omega) hL dL_law_484 dL_law_485 dL_law_487 dL_law_488 dL_law_489 ?_
  refine z_scr C hX hsc hH.2.2 490 2 hl 0 4 rfl rfl (by omega) hL dL_law_490 dL_law_491 dL_law_493 dL_law_494 dL_law_495 ?_
  have hM := m_X7_set l s G H.size adm Fm Am n v (Am 3) wt (Am 4) un hm hvv hww (Am 9) (Am 10) (Am 11) b fr (sx xs j 1) (sx xs j 2) (by first | assumption | omega) (by first | assumption | omega) (by first | assumption | omega) (by first | assumption | omega) (by first | assumption | omega) (by first | assumption | omega) (by first | assumption | omega) (by first | assumption | omega)
  simp only [va_up_id m2, va_up_id m5, va_up_id m6, va_up_id m7, va_up_id m8, va_up_id m12, va_up_id m13, va_up_id m29, va_up_id m30, va_up_id hA1, va_up_id (cI_self hA3), va_up_id (cI_self hA4), va_up_id (rfl : Am 9 = Am 9), va_up_id (rfl : Am 10 = Am 10), va_up_id (rfl : Am 11 = Am 11), va_up_id (rfl : Am 14 = Am 14), va_up_id (rfl : Am 15 = Am 15)] at hM
  refine z_fr (w1 := mW adm G Fm Am) (z_runV C hH.2.2 hl.1 (zH_l hH).1 (zH_l hH).2.1 2 (As := [.int (iZ (sx xs j 1)), .int (iZ (sx xs j 2))]) (rest := [.int (iZ r1)]) hM (lw_V q1673 q1674 q1675 q95 q1676) ⟨rfl, by decide, by decide, by decide +kernel⟩ (q0 := 0) (ci := 0) rfl rfl rfl rfl (Nat.le_of_ble_eq_true rfl) ⟨Nat.le_of_ble_eq_true rfl, Nat.le_of_ble_eq_true rfl⟩ ⟨by show _ + 0 ≤ 1200144; omega, by show _ + 0 ≤ 5497402; omega⟩ dL_law_496) hH (fun u H locs hpost hH => ?_)
  obtain ⟨r7, n2m, v2m, w2m, tmm, tvm, twm, gv1m, gw1m, pv2m, pw2m, pm2m, un2m, fr2m, hm2m, hvv2m, hww2m⟩ := u
  obtain ⟨hs7, g1, g2, g3, g4, g5, he7⟩ := hpost
  refine z_st (st' := [.int (iZ r7), .int (iZ r1)]) rfl ?_
  have hH := zH_rot hH
  obtain ⟨e1, rfl, rfl, rfl⟩ := one_set hs1 hs7
  obtain ⟨rfl, rfl, rfl, rfl, rfl⟩ := EDT_u he1 he7
  refine z_same2 C 499 2566 dL_law_499 rfl e1 ?_
  refine W.widen (by omega) (by omega) (K ls _ _ hl ?_)
  refine ⟨tt, tp, ln, fa, fp, b, t, n2, v2, w2, un2, hm2, hvv2, hww2, fr2, F2, A2, kp2, L2, pl2, pr2, pa2, pm2, pf2, _, _, fo, ?_, ?_, hH⟩
  · exact ⟨hd1, ⟨hk1.1.trans hF1, hk1.2.1.trans hF2, hk1.2.2.1.trans hF3, hk1.2.2.2.1.trans hF6⟩, by rw [hk1.2.2.2.2]; exact htt, htp, htb⟩
  · exact ⟨⟨m2, rfl, rfl, m7, m8, rfl, rfl, m29, m30⟩, hA1, fun i hi => if_pos hi, fun i hi => if_pos hi, g4⟩

set_option maxHeartbeats 8000000 in
theorem L_5 {pg : Program} {l : Launch} {ev : Env} {s : State} {m : MethodId} {ar : Array Value} {bl : List Frame} {me : Method} {c : Code} {Q : State → Prop} {G : zG} {sc LL : Nat} {xs : Nat → Int32} {nw : Nat} {wq wv : Nat → Nat} {lq lva : Nat} {ls : Array Slot} {H : Heap} {locs : List Loc} {ce sl : Nat} {ad adm : Nat → Nat} {o j : Nat} (CX : LCT pg l s m ar me c G sc LL xs nw wq wv lq lva) (hj : j + 6 ≤ LL) (hl : lv_has ls 7 [(4, .int (iZ (j : Int))), (3, .ref o), (2, .ref (adm 0)), (1, .ref (ad 99)), (0, .ref sc)]) (hS : LST s G nw ad adm o H locs) (hce : ce + 40000 ≤ 1200144) (hsl : sl + 200000 ≤ 5497402) (K : ∀ (ls1 : Array Slot) (H1 : Heap) (locs1 : List Loc), lv_has ls1 7 [(4, .int (iZ (j : Int))), (3, .ref o), (2, .ref (adm 0)), (1, .ref (ad 99)), (0, .ref sc)] → LST s G nw ad adm o H1 locs1 → W pg l ev room_1 s m ar bl me c H1 locs1 (ce + 40000) (sl + 200000) Q (F0 m 2566 ls1 [])) : W pg l ev room_1 s m ar bl me c H locs ce sl Q (F0 m 504 ls []) := by
  obtain ⟨C, ⟨hX, hsc, hL⟩, hlt, hnw, hBx, hcs, hsi, hth, hthq, hni, hRW, hlit⟩ := CX
  obtain ⟨tt, tp, ln, fa, fp, b, t, n, v, wt, un, hm, hvv, hww, fr, F, Ar, kp, L, pl, pr, pa, pm, pf, Fm, Am, fo, hDK, hMD, hH⟩ := hS
  have hDK0 := hDK
  have hMD0 := hMD
  obtain ⟨hD, ⟨hF1, hF2, hF3, hF6⟩, htt, htp, htb⟩ := hDK
  have hD0 := hD
  obtain ⟨⟨hn, hFn, hv, hAv, hwt, hAw⟩, ⟨hb, hFb, ht, hFt⟩, ⟨hun, hF14, hkt, hPD⟩, ⟨hPL, hpc⟩, hmo, hfr, h16⟩ := hD
  obtain ⟨⟨m2, m5, m6, m7, m8, m12, m13, m29, m30⟩, hA1, hA3, hA4, hPA⟩ := hMD
  have hpp := PLS_pool hPL
  have hpl := PLS_pl hPL
  have hx1 := sx_r (xs := xs) (j := j) (k := 1)
  have hx2 := sx_r (xs := xs) (j := j) (k := 2)
  have hx3 := sx_r (xs := xs) (j := j) (k := 3)
  have hx4 := sx_r (xs := xs) (j := j) (k := 4)
  have hx5 := sx_r (xs := xs) (j := j) (k := 5)
  have hnzr := nz_r (x := sx xs j 3)
  have hnzb := nz_b (x := sx xs j 3)
  refine z_aload_n C 504 hl dL_law_504 rfl 3 rfl ?_
  refine z_scr C hX hsc hH.2.2 505 1 hl 0 4 rfl rfl (by omega) hL dL_law_505 dL_law_506 dL_law_508 dL_law_509 dL_law_510 ?_
  refine z_scr C hX hsc hH.2.2 511 2 hl 0 4 rfl rfl (by omega) hL dL_law_511 dL_law_512 dL_law_514 dL_law_515 dL_law_516 ?_
  have hM := m_X1_weigh l s G H.size ad F Ar kp pl (dPool G pr pa pm pf L) L pr pa pm pf nw b t n v wt un hm hvv hww fr (sx xs j 1) (sx xs j 2) (by first | assumption | omega) (by first | assumption | omega) (by first | assumption | omega) (by first | assumption | omega)
  refine z_fr (w1 := dW ad G F Ar kp pl (dPool G pr pa pm pf L)) (z_runV C hH.2.2 hl.1 (zH_l hH).1 (zH_l hH).2.1 2 (As := [.int (iZ (sx xs j 1)), .int (iZ (sx xs j 2))]) (rest := []) hM (lw_V q835 q836 q837 q89 q838) ⟨rfl, by decide, by decide, by decide +kernel⟩ (q0 := 0) (ci := 1) rfl rfl rfl rfl (Nat.le_of_ble_eq_true rfl) ⟨Nat.le_of_ble_eq_true rfl, Nat.le_of_ble_eq_true rfl⟩ ⟨by show _ + 240 ≤ 1200144; omega, by show _ + 14640 ≤ 5497402; omega⟩ dL_law_517) hH (fun u H locs hpost hH => ?_)
  obtain ⟨r1, n2, v2, w2, un2, hm2, hvv2, hww2, fr2, L2, pl2, pr2, pa2, pm2, pf2, kp2, F2, A2⟩ := u
  obtain ⟨hs1, he1, hd1, hk1⟩ := hpost
  refine z_st (st' := [.int (iZ r1)]) rfl ?_
  have hH := zH_rot hH
  refine z_aload_n C 520 hl dL_law_520 rfl 2 rfl ?_
  refine z_scr C hX hsc hH.2.2 521 1 hl 0 4 rfl rfl (by omega) hL dL_law_521 dL_law_522 dL_law_524 dL_law_525 dL_law_526 ?_
  refine z_scr C hX hsc hH.2.2 527 2 hl 0 4 rfl rfl (by omega) hL dL_law_527 dL_law_528 dL_law_530 dL_law_531 dL_law_532 ?_
  have hM := m_X7_weigh l s G H.size adm Fm Am n v (Am 3) wt (Am 4) un hm hvv hww (Am 9) (Am 10) (Am 11) b fr (sx xs j 1) (sx xs j 2) (by first | assumption | omega) (by first | assumption | omega) (by first | assumption | omega) (by first | assumption | omega) (by first | assumption | omega) (by first | assumption | omega) (by first | assumption | omega) (by first | assumption | omega)
  simp only [va_up_id m2, va_up_id m5, va_up_id m6, va_up_id m7, va_up_id m8, va_up_id m12, va_up_id m13, va_up_id m29, va_up_id m30, va_up_id hA1, va_up_id (cI_self hA3), va_up_id (cI_self hA4), va_up_id (rfl : Am 9 = Am 9), va_up_id (rfl : Am 10 = Am 10), va_up_id (rfl : Am 11 = Am 11), va_up_id (rfl : Am 14 = Am 14), va_up_id (rfl : Am 15 = Am 15)] at hM
  refine z_fr (w1 := mW adm G Fm Am) (z_runV C hH.2.2 hl.1 (zH_l hH).1 (zH_l hH).2.1 2 (As := [.int (iZ (sx xs j 1)), .int (iZ (sx xs j 2))]) (rest := [.int (iZ r1)]) hM (lw_V q1696 q1697 q1698 q95 q1699) ⟨rfl, by decide, by decide, by decide +kernel⟩ (q0 := 0) (ci := 0) rfl rfl rfl rfl (Nat.le_of_ble_eq_true rfl) ⟨Nat.le_of_ble_eq_true rfl, Nat.le_of_ble_eq_true rfl⟩ ⟨by show _ + 0 ≤ 1200144; omega, by show _ + 0 ≤ 5497402; omega⟩ dL_law_533) hH (fun u H locs hpost hH => ?_)
  obtain ⟨r7, n2m, v2m, w2m, tmm, tvm, twm, gv1m, gw1m, pv2m, pw2m, pm2m, un2m, fr2m, hm2m, hvv2m, hww2m⟩ := u
  obtain ⟨hs7, g1, g2, g3, g4, g5, he7⟩ := hpost
  refine z_st (st' := [.int (iZ r7), .int (iZ r1)]) rfl ?_
  have hH := zH_rot hH
  obtain ⟨e1, rfl, rfl, rfl⟩ := one_weigh hs1 hs7
  obtain ⟨rfl, rfl, rfl, rfl, rfl⟩ := EDT_u he1 he7
  refine z_same2 C 536 2566 dL_law_536 rfl e1 ?_
  refine W.widen (by omega) (by omega) (K ls _ _ hl ?_)
  refine ⟨tt, tp, ln, fa, fp, b, t, n2, v2, w2, un2, hm2, hvv2, hww2, fr2, F2, A2, kp2, L2, pl2, pr2, pa2, pm2, pf2, _, _, fo, ?_, ?_, hH⟩
  · exact ⟨hd1, ⟨hk1.1.trans hF1, hk1.2.1.trans hF2, hk1.2.2.1.trans hF3, hk1.2.2.2.1.trans hF6⟩, by rw [hk1.2.2.2.2]; exact htt, htp, htb⟩
  · exact ⟨⟨m2, rfl, rfl, m7, m8, rfl, rfl, m29, m30⟩, hA1, fun i hi => if_pos hi, fun i hi => if_pos hi, g4⟩

set_option maxHeartbeats 8000000 in
theorem L_6 {pg : Program} {l : Launch} {ev : Env} {s : State} {m : MethodId} {ar : Array Value} {bl : List Frame} {me : Method} {c : Code} {Q : State → Prop} {G : zG} {sc LL : Nat} {xs : Nat → Int32} {nw : Nat} {wq wv : Nat → Nat} {lq lva : Nat} {ls : Array Slot} {H : Heap} {locs : List Loc} {ce sl : Nat} {ad adm : Nat → Nat} {o j : Nat} (CX : LCT pg l s m ar me c G sc LL xs nw wq wv lq lva) (hj : j + 6 ≤ LL) (hl : lv_has ls 7 [(4, .int (iZ (j : Int))), (3, .ref o), (2, .ref (adm 0)), (1, .ref (ad 99)), (0, .ref sc)]) (hS : LST s G nw ad adm o H locs) (hce : ce + 40000 ≤ 1200144) (hsl : sl + 200000 ≤ 5497402) (K : ∀ (ls1 : Array Slot) (H1 : Heap) (locs1 : List Loc), lv_has ls1 7 [(4, .int (iZ (j : Int))), (3, .ref o), (2, .ref (adm 0)), (1, .ref (ad 99)), (0, .ref sc)] → LST s G nw ad adm o H1 locs1 → W pg l ev room_1 s m ar bl me c H1 locs1 (ce + 40000) (sl + 200000) Q (F0 m 2566 ls1 [])) : W pg l ev room_1 s m ar bl me c H locs ce sl Q (F0 m 541 ls []) := by
  obtain ⟨C, ⟨hX, hsc, hL⟩, hlt, hnw, hBx, hcs, hsi, hth, hthq, hni, hRW, hlit⟩ := CX
  obtain ⟨tt, tp, ln, fa, fp, b, t, n, v, wt, un, hm, hvv, hww, fr, F, Ar, kp, L, pl, pr, pa, pm, pf, Fm, Am, fo, hDK, hMD, hH⟩ := hS
  have hDK0 := hDK
  have hMD0 := hMD
  obtain ⟨hD, ⟨hF1, hF2, hF3, hF6⟩, htt, htp, htb⟩ := hDK
  have hD0 := hD
  obtain ⟨⟨hn, hFn, hv, hAv, hwt, hAw⟩, ⟨hb, hFb, ht, hFt⟩, ⟨hun, hF14, hkt, hPD⟩, ⟨hPL, hpc⟩, hmo, hfr, h16⟩ := hD
  obtain ⟨⟨m2, m5, m6, m7, m8, m12, m13, m29, m30⟩, hA1, hA3, hA4, hPA⟩ := hMD
  have hpp := PLS_pool hPL
  have hpl := PLS_pl hPL
  have hx1 := sx_r (xs := xs) (j := j) (k := 1)
  have hx2 := sx_r (xs := xs) (j := j) (k := 2)
  have hx3 := sx_r (xs := xs) (j := j) (k := 3)
  have hx4 := sx_r (xs := xs) (j := j) (k := 4)
  have hx5 := sx_r (xs := xs) (j := j) (k := 5)
  have hnzr := nz_r (x := sx xs j 3)
  have hnzb := nz_b (x := sx xs j 3)
  refine z_aload_n C 541 hl dL_law_541 rfl 3 rfl ?_
  refine z_scr C hX hsc hH.2.2 542 1 hl 0 4 rfl rfl (by omega) hL dL_law_542 dL_law_543 dL_law_545 dL_law_546 dL_law_547 ?_
  refine z_scr C hX hsc hH.2.2 548 2 hl 0 4 rfl rfl (by omega) hL dL_law_548 dL_law_549 dL_law_551 dL_law_552 dL_law_553 ?_
  have hM := m_X1_insert l s G H.size ad F Ar kp pl (dPool G pr pa pm pf L) L pr pa pm pf nw b t n v wt un hm hvv hww fr (sx xs j 1) (sx xs j 2) (by first | assumption | omega) (by first | assumption | omega) (by first | assumption | omega) (by first | assumption | omega)
  refine z_fr (w1 := dW ad G F Ar kp pl (dPool G pr pa pm pf L)) (z_runV C hH.2.2 hl.1 (zH_l hH).1 (zH_l hH).2.1 2 (As := [.int (iZ (sx xs j 1)), .int (iZ (sx xs j 2))]) (rest := []) hM (lw_V q840 q841 q842 q89 q843) ⟨rfl, by decide, by decide, by decide +kernel⟩ (q0 := 0) (ci := 1) rfl rfl rfl rfl (Nat.le_of_ble_eq_true rfl) ⟨Nat.le_of_ble_eq_true rfl, Nat.le_of_ble_eq_true rfl⟩ ⟨by show _ + 240 ≤ 1200144; omega, by show _ + 14640 ≤ 5497402; omega⟩ dL_law_554) hH (fun u H locs hpost hH => ?_)
  obtain ⟨r1, n2, v2, w2, un2, hm2, hvv2, hww2, fr2, L2, pl2, pr2, pa2, pm2, pf2, kp2, F2, A2⟩ := u
  obtain ⟨hs1, he1, hd1, hk1⟩ := hpost
  refine z_st (st' := [.int (iZ r1)]) rfl ?_
  have hH := zH_rot hH
  refine z_aload_n C 557 hl dL_law_557 rfl 2 rfl ?_
  refine z_scr C hX hsc hH.2.2 558 1 hl 0 4 rfl rfl (by omega) hL dL_law_558 dL_law_559 dL_law_561 dL_law_562 dL_law_563 ?_
  refine z_scr C hX hsc hH.2.2 564 2 hl 0 4 rfl rfl (by omega) hL dL_law_564 dL_law_565 dL_law_567 dL_law_568 dL_law_569 ?_
  have hM := m_X7_insert l s G H.size adm Fm Am n v (Am 3) wt (Am 4) un hm hvv hww (Am 9) (Am 10) (Am 11) b fr (sx xs j 1) (sx xs j 2) (by first | assumption | omega) (by first | assumption | omega) (by first | assumption | omega) (by first | assumption | omega) (by first | assumption | omega) (by first | assumption | omega) (by first | assumption | omega) (by first | assumption | omega)
  simp only [va_up_id m2, va_up_id m5, va_up_id m6, va_up_id m7, va_up_id m8, va_up_id m12, va_up_id m13, va_up_id m29, va_up_id m30, va_up_id hA1, va_up_id (cI_self hA3), va_up_id (cI_self hA4), va_up_id (rfl : Am 9 = Am 9), va_up_id (rfl : Am 10 = Am 10), va_up_id (rfl : Am 11 = Am 11), va_up_id (rfl : Am 14 = Am 14), va_up_id (rfl : Am 15 = Am 15)] at hM
  refine z_fr (w1 := mW adm G Fm Am) (z_runV C hH.2.2 hl.1 (zH_l hH).1 (zH_l hH).2.1 2 (As := [.int (iZ (sx xs j 1)), .int (iZ (sx xs j 2))]) (rest := [.int (iZ r1)]) hM (lw_V q1700 q1701 q1702 q95 q1703) ⟨rfl, by decide, by decide, by decide +kernel⟩ (q0 := 0) (ci := 0) rfl rfl rfl rfl (Nat.le_of_ble_eq_true rfl) ⟨Nat.le_of_ble_eq_true rfl, Nat.le_of_ble_eq_true rfl⟩ ⟨by show _ + 0 ≤ 1200144; omega, by show _ + 0 ≤ 5497402; omega⟩ dL_law_570) hH (fun u H locs hpost hH => ?_)
  obtain ⟨r7, n2m, v2m, w2m, tmm, tvm, twm, gv1m, gw1m, pv2m, pw2m, pm2m, un2m, fr2m, hm2m, hvv2m, hww2m⟩ := u
  obtain ⟨hs7, g1, g2, g3, g4, g5, he7⟩ := hpost
  refine z_st (st' := [.int (iZ r7), .int (iZ r1)]) rfl ?_
  have hH := zH_rot hH
  obtain ⟨e1, rfl, rfl, rfl⟩ := one_insert hs1 hs7
  obtain ⟨rfl, rfl, rfl, rfl, rfl⟩ := EDT_u he1 he7
  refine z_same2 C 573 2566 dL_law_573 rfl e1 ?_
  refine W.widen (by omega) (by omega) (K ls _ _ hl ?_)
  refine ⟨tt, tp, ln, fa, fp, b, t, n2, v2, w2, un2, hm2, hvv2, hww2, fr2, F2, A2, kp2, L2, pl2, pr2, pa2, pm2, pf2, _, _, fo, ?_, ?_, hH⟩
  · exact ⟨hd1, ⟨hk1.1.trans hF1, hk1.2.1.trans hF2, hk1.2.2.1.trans hF3, hk1.2.2.2.1.trans hF6⟩, by rw [hk1.2.2.2.2]; exact htt, htp, htb⟩
  · exact ⟨⟨m2, rfl, rfl, m7, m8, rfl, rfl, m29, m30⟩, hA1, fun i hi => if_pos hi, fun i hi => if_pos hi, g4⟩

set_option maxHeartbeats 8000000 in
theorem L_7 {pg : Program} {l : Launch} {ev : Env} {s : State} {m : MethodId} {ar : Array Value} {bl : List Frame} {me : Method} {c : Code} {Q : State → Prop} {G : zG} {sc LL : Nat} {xs : Nat → Int32} {nw : Nat} {wq wv : Nat → Nat} {lq lva : Nat} {ls : Array Slot} {H : Heap} {locs : List Loc} {ce sl : Nat} {ad adm : Nat → Nat} {o j : Nat} (CX : LCT pg l s m ar me c G sc LL xs nw wq wv lq lva) (hj : j + 6 ≤ LL) (hl : lv_has ls 7 [(4, .int (iZ (j : Int))), (3, .ref o), (2, .ref (adm 0)), (1, .ref (ad 99)), (0, .ref sc)]) (hS : LST s G nw ad adm o H locs) (hce : ce + 40000 ≤ 1200144) (hsl : sl + 200000 ≤ 5497402) (K : ∀ (ls1 : Array Slot) (H1 : Heap) (locs1 : List Loc), lv_has ls1 7 [(4, .int (iZ (j : Int))), (3, .ref o), (2, .ref (adm 0)), (1, .ref (ad 99)), (0, .ref sc)] → LST s G nw ad adm o H1 locs1 → W pg l ev room_1 s m ar bl me c H1 locs1 (ce + 40000) (sl + 200000) Q (F0 m 2566 ls1 [])) : W pg l ev room_1 s m ar bl me c H locs ce sl Q (F0 m 578 ls []) := by
  obtain ⟨C, ⟨hX, hsc, hL⟩, hlt, hnw, hBx, hcs, hsi, hth, hthq, hni, hRW, hlit⟩ := CX
  obtain ⟨tt, tp, ln, fa, fp, b, t, n, v, wt, un, hm, hvv, hww, fr, F, Ar, kp, L, pl, pr, pa, pm, pf, Fm, Am, fo, hDK, hMD, hH⟩ := hS
  have hDK0 := hDK
  have hMD0 := hMD
  obtain ⟨hD, ⟨hF1, hF2, hF3, hF6⟩, htt, htp, htb⟩ := hDK
  have hD0 := hD
  obtain ⟨⟨hn, hFn, hv, hAv, hwt, hAw⟩, ⟨hb, hFb, ht, hFt⟩, ⟨hun, hF14, hkt, hPD⟩, ⟨hPL, hpc⟩, hmo, hfr, h16⟩ := hD
  obtain ⟨⟨m2, m5, m6, m7, m8, m12, m13, m29, m30⟩, hA1, hA3, hA4, hPA⟩ := hMD
  have hpp := PLS_pool hPL
  have hpl := PLS_pl hPL
  have hx1 := sx_r (xs := xs) (j := j) (k := 1)
  have hx2 := sx_r (xs := xs) (j := j) (k := 2)
  have hx3 := sx_r (xs := xs) (j := j) (k := 3)
  have hx4 := sx_r (xs := xs) (j := j) (k := 4)
  have hx5 := sx_r (xs := xs) (j := j) (k := 5)
  have hnzr := nz_r (x := sx xs j 3)
  have hnzb := nz_b (x := sx xs j 3)
  refine z_aload_n C 578 hl dL_law_578 rfl 3 rfl ?_
  refine z_scr C hX hsc hH.2.2 579 1 hl 0 4 rfl rfl (by omega) hL dL_law_579 dL_law_580 dL_law_582 dL_law_583 dL_law_584 ?_
  have hM := m_X1_remove l s G H.size ad F Ar kp pl (dPool G pr pa pm pf L) L pr pa pm pf nw b t n v wt un hm hvv hww fr (sx xs j 1) (by first | assumption | omega) (by first | assumption | omega) (by first | assumption | omega)
  refine z_fr (w1 := dW ad G F Ar kp pl (dPool G pr pa pm pf L)) (z_runV C hH.2.2 hl.1 (zH_l hH).1 (zH_l hH).2.1 1 (As := [.int (iZ (sx xs j 1))]) (rest := []) hM (lw_V q852 q853 q854 q89 q855) ⟨rfl, by decide, by decide, by decide +kernel⟩ (q0 := 0) (ci := 1) rfl rfl rfl rfl (Nat.le_of_ble_eq_true rfl) ⟨Nat.le_of_ble_eq_true rfl, Nat.le_of_ble_eq_true rfl⟩ ⟨by show _ + 240 ≤ 1200144; omega, by show _ + 14640 ≤ 5497402; omega⟩ dL_law_585) hH (fun u H locs hpost hH => ?_)
  obtain ⟨r1, n2, v2, w2, un2, hm2, hvv2, hww2, fr2, L2, pl2, pr2, pa2, pm2, pf2, kp2, F2, A2⟩ := u
  obtain ⟨hs1, he1, hd1, hk1⟩ := hpost
  refine z_st (st' := [.int (iZ r1)]) rfl ?_
  have hH := zH_rot hH
  refine z_aload_n C 588 hl dL_law_588 rfl 2 rfl ?_
  refine z_scr C hX hsc hH.2.2 589 1 hl 0 4 rfl rfl (by omega) hL dL_law_589 dL_law_590 dL_law_592 dL_law_593 dL_law_594 ?_
  have hM := m_X7_remove l s G H.size adm Fm Am n v (Am 3) wt (Am 4) un hm hvv hww (Am 9) (Am 10) (Am 11) b fr (sx xs j 1) (by first | assumption | omega) (by first | assumption | omega) (by first | assumption | omega) (by first | assumption | omega) (by first | assumption | omega) (by first | assumption | omega) (by first | assumption | omega)
  simp only [va_up_id m2, va_up_id m5, va_up_id m6, va_up_id m7, va_up_id m8, va_up_id m12, va_up_id m13, va_up_id m29, va_up_id m30, va_up_id hA1, va_up_id (cI_self hA3), va_up_id (cI_self hA4), va_up_id (rfl : Am 9 = Am 9), va_up_id (rfl : Am 10 = Am 10), va_up_id (rfl : Am 11 = Am 11), va_up_id (rfl : Am 14 = Am 14), va_up_id (rfl : Am 15 = Am 15)] at hM
  refine z_fr (w1 := mW adm G Fm Am) (z_runV C hH.2.2 hl.1 (zH_l hH).1 (zH_l hH).2.1 1 (As := [.int (iZ (sx xs j 1))]) (rest := [.int (iZ r1)]) hM (lw_V q1704 q1705 q1706 q95 q1707) ⟨rfl, by decide, by decide, by decide +kernel⟩ (q0 := 0) (ci := 0) rfl rfl rfl rfl (Nat.le_of_ble_eq_true rfl) ⟨Nat.le_of_ble_eq_true rfl, Nat.le_of_ble_eq_true rfl⟩ ⟨by show _ + 0 ≤ 1200144; omega, by show _ + 0 ≤ 5497402; omega⟩ dL_law_595) hH (fun u H locs hpost hH => ?_)
  obtain ⟨r7, n2m, v2m, w2m, tmm, tvm, twm, gv1m, gw1m, pv2m, pw2m, pm2m, un2m, fr2m, hm2m, hvv2m, hww2m⟩ := u
  obtain ⟨hs7, g1, g2, g3, g4, g5, he7⟩ := hpost
  refine z_st (st' := [.int (iZ r7), .int (iZ r1)]) rfl ?_
  have hH := zH_rot hH
  obtain ⟨e1, rfl, rfl, rfl⟩ := one_remove hs1 hs7
  obtain ⟨rfl, rfl, rfl, rfl, rfl⟩ := EDT_u he1 he7
  refine z_same2 C 598 2566 dL_law_598 rfl e1 ?_
  refine W.widen (by omega) (by omega) (K ls _ _ hl ?_)
  refine ⟨tt, tp, ln, fa, fp, b, t, n2, v2, w2, un2, hm2, hvv2, hww2, fr2, F2, A2, kp2, L2, pl2, pr2, pa2, pm2, pf2, _, _, fo, ?_, ?_, hH⟩
  · exact ⟨hd1, ⟨hk1.1.trans hF1, hk1.2.1.trans hF2, hk1.2.2.1.trans hF3, hk1.2.2.2.1.trans hF6⟩, by rw [hk1.2.2.2.2]; exact htt, htp, htb⟩
  · exact ⟨⟨m2, rfl, rfl, m7, m8, rfl, rfl, m29, m30⟩, hA1, fun i hi => if_pos hi, fun i hi => if_pos hi, g4⟩

set_option maxHeartbeats 8000000 in
theorem L_8 {pg : Program} {l : Launch} {ev : Env} {s : State} {m : MethodId} {ar : Array Value} {bl : List Frame} {me : Method} {c : Code} {Q : State → Prop} {G : zG} {sc LL : Nat} {xs : Nat → Int32} {nw : Nat} {wq wv : Nat → Nat} {lq lva : Nat} {ls : Array Slot} {H : Heap} {locs : List Loc} {ce sl : Nat} {ad adm : Nat → Nat} {o j : Nat} (CX : LCT pg l s m ar me c G sc LL xs nw wq wv lq lva) (hj : j + 6 ≤ LL) (hl : lv_has ls 7 [(4, .int (iZ (j : Int))), (3, .ref o), (2, .ref (adm 0)), (1, .ref (ad 99)), (0, .ref sc)]) (hS : LST s G nw ad adm o H locs) (hce : ce + 40000 ≤ 1200144) (hsl : sl + 200000 ≤ 5497402) (K : ∀ (ls1 : Array Slot) (H1 : Heap) (locs1 : List Loc), lv_has ls1 7 [(4, .int (iZ (j : Int))), (3, .ref o), (2, .ref (adm 0)), (1, .ref (ad 99)), (0, .ref sc)] → LST s G nw ad adm o H1 locs1 → W pg l ev room_1 s m ar bl me c H1 locs1 (ce + 40000) (sl + 200000) Q (F0 m 2566 ls1 [])) : W pg l ev room_1 s m ar bl me c H locs ce sl Q (F0 m 603 ls []) := by
  obtain ⟨C, ⟨hX, hsc, hL⟩, hlt, hnw, hBx, hcs, hsi, hth, hthq, hni, hRW, hlit⟩ := CX
  obtain ⟨tt, tp, ln, fa, fp, b, t, n, v, wt, un, hm, hvv, hww, fr, F, Ar, kp, L, pl, pr, pa, pm, pf, Fm, Am, fo, hDK, hMD, hH⟩ := hS
  have hDK0 := hDK
  have hMD0 := hMD
  obtain ⟨hD, ⟨hF1, hF2, hF3, hF6⟩, htt, htp, htb⟩ := hDK
  have hD0 := hD
  obtain ⟨⟨hn, hFn, hv, hAv, hwt, hAw⟩, ⟨hb, hFb, ht, hFt⟩, ⟨hun, hF14, hkt, hPD⟩, ⟨hPL, hpc⟩, hmo, hfr, h16⟩ := hD
  obtain ⟨⟨m2, m5, m6, m7, m8, m12, m13, m29, m30⟩, hA1, hA3, hA4, hPA⟩ := hMD
  have hpp := PLS_pool hPL
  have hpl := PLS_pl hPL
  have hx1 := sx_r (xs := xs) (j := j) (k := 1)
  have hx2 := sx_r (xs := xs) (j := j) (k := 2)
  have hx3 := sx_r (xs := xs) (j := j) (k := 3)
  have hx4 := sx_r (xs := xs) (j := j) (k := 4)
  have hx5 := sx_r (xs := xs) (j := j) (k := 5)
  have hnzr := nz_r (x := sx xs j 3)
  have hnzb := nz_b (x := sx xs j 3)
  refine z_aload_n C 603 hl dL_law_603 rfl 3 rfl ?_
  refine z_scr C hX hsc hH.2.2 604 1 hl 0 4 rfl rfl (by omega) hL dL_law_604 dL_law_605 dL_law_607 dL_law_608 dL_law_609 ?_
  refine z_scr C hX hsc hH.2.2 610 2 hl 0 4 rfl rfl (by omega) hL dL_law_610 dL_law_611 dL_law_613 dL_law_614 dL_law_615 ?_
  refine z_scr C hX hsc hH.2.2 616 3 hl 0 4 rfl rfl (by omega) hL dL_law_616 dL_law_617 dL_law_619 dL_law_620 dL_law_621 ?_
  have hM := m_X1_fill l s G H.size ad F Ar kp pl (dPool G pr pa pm pf L) L pr pa pm pf nw b t n v wt un hm hvv hww fr (sx xs j 1) (sx xs j 2) (sx xs j 3) (by first | assumption | omega) (by first | assumption | omega) (by first | assumption | omega) (by first | assumption | omega) (by first | assumption | omega)
  refine z_fr (w1 := dW ad G F Ar kp pl (dPool G pr pa pm pf L)) (z_runV C hH.2.2 hl.1 (zH_l hH).1 (zH_l hH).2.1 3 (As := [.int (iZ (sx xs j 1)), .int (iZ (sx xs j 2)), .int (iZ (sx xs j 3))]) (rest := []) hM (lw_V q860 q861 q862 q89 q863) ⟨rfl, by decide, by decide, by decide +kernel⟩ (q0 := 0) (ci := 1) rfl rfl rfl rfl (Nat.le_of_ble_eq_true rfl) ⟨Nat.le_of_ble_eq_true rfl, Nat.le_of_ble_eq_true rfl⟩ ⟨by show _ + 240 ≤ 1200144; omega, by show _ + 14640 ≤ 5497402; omega⟩ dL_law_622) hH (fun u H locs hpost hH => ?_)
  obtain ⟨r1, n2, v2, w2, un2, hm2, hvv2, hww2, fr2, L2, pl2, pr2, pa2, pm2, pf2, kp2, F2, A2⟩ := u
  obtain ⟨hs1, he1, hd1, hk1⟩ := hpost
  refine z_st (st' := [.int (iZ r1)]) rfl ?_
  have hH := zH_rot hH
  refine z_aload_n C 625 hl dL_law_625 rfl 2 rfl ?_
  refine z_scr C hX hsc hH.2.2 626 1 hl 0 4 rfl rfl (by omega) hL dL_law_626 dL_law_627 dL_law_629 dL_law_630 dL_law_631 ?_
  refine z_scr C hX hsc hH.2.2 632 2 hl 0 4 rfl rfl (by omega) hL dL_law_632 dL_law_633 dL_law_635 dL_law_636 dL_law_637 ?_
  refine z_scr C hX hsc hH.2.2 638 3 hl 0 4 rfl rfl (by omega) hL dL_law_638 dL_law_639 dL_law_641 dL_law_642 dL_law_643 ?_
  have hM := m_X7_fill l s G H.size adm Fm Am n v (Am 3) wt (Am 4) un hm hvv hww (Am 9) (Am 10) (Am 11) b fr (sx xs j 1) (sx xs j 2) (sx xs j 3) (by first | assumption | omega) (by first | assumption | omega) (by first | assumption | omega) (by first | assumption | omega) (by first | assumption | omega) (by first | assumption | omega) (by first | assumption | omega) (by first | assumption | omega) (by first | assumption | omega)
  simp only [va_up_id m2, va_up_id m5, va_up_id m6, va_up_id m7, va_up_id m8, va_up_id m12, va_up_id m13, va_up_id m29, va_up_id m30, va_up_id hA1, va_up_id (cI_self hA3), va_up_id (cI_self hA4), va_up_id (rfl : Am 9 = Am 9), va_up_id (rfl : Am 10 = Am 10), va_up_id (rfl : Am 11 = Am 11), va_up_id (rfl : Am 14 = Am 14), va_up_id (rfl : Am 15 = Am 15)] at hM
  refine z_fr (w1 := mW adm G Fm Am) (z_runV C hH.2.2 hl.1 (zH_l hH).1 (zH_l hH).2.1 3 (As := [.int (iZ (sx xs j 1)), .int (iZ (sx xs j 2)), .int (iZ (sx xs j 3))]) (rest := [.int (iZ r1)]) hM (lw_V q1708 q1709 q1710 q95 q1711) ⟨rfl, by decide, by decide, by decide +kernel⟩ (q0 := 0) (ci := 0) rfl rfl rfl rfl (Nat.le_of_ble_eq_true rfl) ⟨Nat.le_of_ble_eq_true rfl, Nat.le_of_ble_eq_true rfl⟩ ⟨by show _ + 0 ≤ 1200144; omega, by show _ + 0 ≤ 5497402; omega⟩ dL_law_644) hH (fun u H locs hpost hH => ?_)
  obtain ⟨r7, n2m, v2m, w2m, tmm, tvm, twm, gv1m, gw1m, pv2m, pw2m, pm2m, un2m, fr2m, hm2m, hvv2m, hww2m⟩ := u
  obtain ⟨hs7, g1, g2, g3, g4, g5, he7⟩ := hpost
  refine z_st (st' := [.int (iZ r7), .int (iZ r1)]) rfl ?_
  have hH := zH_rot hH
  obtain ⟨e1, rfl, rfl, rfl⟩ := one_fill hs1 hs7
  obtain ⟨rfl, rfl, rfl, rfl, rfl⟩ := EDT_u he1 he7
  refine z_same2 C 647 2566 dL_law_647 rfl e1 ?_
  refine W.widen (by omega) (by omega) (K ls _ _ hl ?_)
  refine ⟨tt, tp, ln, fa, fp, b, t, n2, v2, w2, un2, hm2, hvv2, hww2, fr2, F2, A2, kp2, L2, pl2, pr2, pa2, pm2, pf2, _, _, fo, ?_, ?_, hH⟩
  · exact ⟨hd1, ⟨hk1.1.trans hF1, hk1.2.1.trans hF2, hk1.2.2.1.trans hF3, hk1.2.2.2.1.trans hF6⟩, by rw [hk1.2.2.2.2]; exact htt, htp, htb⟩
  · exact ⟨⟨m2, rfl, rfl, m7, m8, rfl, rfl, m29, m30⟩, hA1, fun i hi => if_pos hi, fun i hi => if_pos hi, g4⟩

set_option maxHeartbeats 8000000 in
theorem L_9 {pg : Program} {l : Launch} {ev : Env} {s : State} {m : MethodId} {ar : Array Value} {bl : List Frame} {me : Method} {c : Code} {Q : State → Prop} {G : zG} {sc LL : Nat} {xs : Nat → Int32} {nw : Nat} {wq wv : Nat → Nat} {lq lva : Nat} {ls : Array Slot} {H : Heap} {locs : List Loc} {ce sl : Nat} {ad adm : Nat → Nat} {o j : Nat} (CX : LCT pg l s m ar me c G sc LL xs nw wq wv lq lva) (hj : j + 6 ≤ LL) (hl : lv_has ls 7 [(4, .int (iZ (j : Int))), (3, .ref o), (2, .ref (adm 0)), (1, .ref (ad 99)), (0, .ref sc)]) (hS : LST s G nw ad adm o H locs) (hce : ce + 40000 ≤ 1200144) (hsl : sl + 200000 ≤ 5497402) (K : ∀ (ls1 : Array Slot) (H1 : Heap) (locs1 : List Loc), lv_has ls1 7 [(4, .int (iZ (j : Int))), (3, .ref o), (2, .ref (adm 0)), (1, .ref (ad 99)), (0, .ref sc)] → LST s G nw ad adm o H1 locs1 → W pg l ev room_1 s m ar bl me c H1 locs1 (ce + 40000) (sl + 200000) Q (F0 m 2566 ls1 [])) : W pg l ev room_1 s m ar bl me c H locs ce sl Q (F0 m 652 ls []) := by
  obtain ⟨C, ⟨hX, hsc, hL⟩, hlt, hnw, hBx, hcs, hsi, hth, hthq, hni, hRW, hlit⟩ := CX
  obtain ⟨tt, tp, ln, fa, fp, b, t, n, v, wt, un, hm, hvv, hww, fr, F, Ar, kp, L, pl, pr, pa, pm, pf, Fm, Am, fo, hDK, hMD, hH⟩ := hS
  have hDK0 := hDK
  have hMD0 := hMD
  obtain ⟨hD, ⟨hF1, hF2, hF3, hF6⟩, htt, htp, htb⟩ := hDK
  have hD0 := hD
  obtain ⟨⟨hn, hFn, hv, hAv, hwt, hAw⟩, ⟨hb, hFb, ht, hFt⟩, ⟨hun, hF14, hkt, hPD⟩, ⟨hPL, hpc⟩, hmo, hfr, h16⟩ := hD
  obtain ⟨⟨m2, m5, m6, m7, m8, m12, m13, m29, m30⟩, hA1, hA3, hA4, hPA⟩ := hMD
  have hpp := PLS_pool hPL
  have hpl := PLS_pl hPL
  have hx1 := sx_r (xs := xs) (j := j) (k := 1)
  have hx2 := sx_r (xs := xs) (j := j) (k := 2)
  have hx3 := sx_r (xs := xs) (j := j) (k := 3)
  have hx4 := sx_r (xs := xs) (j := j) (k := 4)
  have hx5 := sx_r (xs := xs) (j := j) (k := 5)
  have hnzr := nz_r (x := sx xs j 3)
  have hnzb := nz_b (x := sx xs j 3)
  refine z_aload_n C 652 hl dL_law_652 rfl 3 rfl ?_
  refine z_scr C hX hsc hH.2.2 653 1 hl 0 4 rfl rfl (by omega) hL dL_law_653 dL_law_654 dL_law_656 dL_law_657 dL_law_658 ?_
  refine z_scr C hX hsc hH.2.2 659 2 hl 0 4 rfl rfl (by omega) hL dL_law_659 dL_law_660 dL_law_662 dL_law_663 dL_law_664 ?_
  have hM := m_X1_swap l s G H.size ad F Ar kp pl (dPool G pr pa pm pf L) L pr pa pm pf nw b t n v wt un hm hvv hww fr (sx xs j 1) (sx xs j 2) (by first | assumption | omega) (by first | assumption | omega) (by first | assumption | omega) (by first | assumption | omega)
  refine z_fr (w1 := dW ad G F Ar kp pl (dPool G pr pa pm pf L)) (z_runV C hH.2.2 hl.1 (zH_l hH).1 (zH_l hH).2.1 2 (As := [.int (iZ (sx xs j 1)), .int (iZ (sx xs j 2))]) (rest := []) hM (lw_V q868 q869 q870 q89 q871) ⟨rfl, by decide, by decide, by decide +kernel⟩ (q0 := 0) (ci := 1) rfl rfl rfl rfl (Nat.le_of_ble_eq_true rfl) ⟨Nat.le_of_ble_eq_true rfl, Nat.le_of_ble_eq_true rfl⟩ ⟨by show _ + 240 ≤ 1200144; omega, by show _ + 14640 ≤ 5497402; omega⟩ dL_law_665) hH (fun u H locs hpost hH => ?_)
  obtain ⟨r1, n2, v2, w2, un2, hm2, hvv2, hww2, fr2, L2, pl2, pr2, pa2, pm2, pf2, kp2, F2, A2⟩ := u
  obtain ⟨hs1, he1, hd1, hk1⟩ := hpost
  refine z_st (st' := [.int (iZ r1)]) rfl ?_
  have hH := zH_rot hH
  refine z_aload_n C 668 hl dL_law_668 rfl 2 rfl ?_
  refine z_scr C hX hsc hH.2.2 669 1 hl 0 4 rfl rfl (by omega) hL dL_law_669 dL_law_670 dL_law_672 dL_law_673 dL_law_674 ?_
  refine z_scr C hX hsc hH.2.2 675 2 hl 0 4 rfl rfl (by omega) hL dL_law_675 dL_law_676 dL_law_678 dL_law_679 dL_law_680 ?_
  have hM := m_X7_swap l s G H.size adm Fm Am n v (Am 3) wt (Am 4) un hm hvv hww (Am 9) (Am 10) (Am 11) b fr (sx xs j 1) (sx xs j 2) (by first | assumption | omega) (by first | assumption | omega) (by first | assumption | omega) (by first | assumption | omega) (by first | assumption | omega) (by first | assumption | omega) (by first | assumption | omega) (by first | assumption | omega)
  simp only [va_up_id m2, va_up_id m5, va_up_id m6, va_up_id m7, va_up_id m8, va_up_id m12, va_up_id m13, va_up_id m29, va_up_id m30, va_up_id hA1, va_up_id (cI_self hA3), va_up_id (cI_self hA4), va_up_id (rfl : Am 9 = Am 9), va_up_id (rfl : Am 10 = Am 10), va_up_id (rfl : Am 11 = Am 11), va_up_id (rfl : Am 14 = Am 14), va_up_id (rfl : Am 15 = Am 15)] at hM
  refine z_fr (w1 := mW adm G Fm Am) (z_runV C hH.2.2 hl.1 (zH_l hH).1 (zH_l hH).2.1 2 (As := [.int (iZ (sx xs j 1)), .int (iZ (sx xs j 2))]) (rest := [.int (iZ r1)]) hM (lw_V q1724 q1725 q1726 q95 q1727) ⟨rfl, by decide, by decide, by decide +kernel⟩ (q0 := 0) (ci := 0) rfl rfl rfl rfl (Nat.le_of_ble_eq_true rfl) ⟨Nat.le_of_ble_eq_true rfl, Nat.le_of_ble_eq_true rfl⟩ ⟨by show _ + 0 ≤ 1200144; omega, by show _ + 0 ≤ 5497402; omega⟩ dL_law_681) hH (fun u H locs hpost hH => ?_)
  obtain ⟨r7, n2m, v2m, w2m, tmm, tvm, twm, gv1m, gw1m, pv2m, pw2m, pm2m, un2m, fr2m, hm2m, hvv2m, hww2m⟩ := u
  obtain ⟨hs7, g1, g2, g3, g4, g5, he7⟩ := hpost
  refine z_st (st' := [.int (iZ r7), .int (iZ r1)]) rfl ?_
  have hH := zH_rot hH
  obtain ⟨e1, rfl, rfl, rfl⟩ := one_swap hs1 hs7
  obtain ⟨rfl, rfl, rfl, rfl, rfl⟩ := EDT_u he1 he7
  refine z_same2 C 684 2566 dL_law_684 rfl e1 ?_
  refine W.widen (by omega) (by omega) (K ls _ _ hl ?_)
  refine ⟨tt, tp, ln, fa, fp, b, t, n2, v2, w2, un2, hm2, hvv2, hww2, fr2, F2, A2, kp2, L2, pl2, pr2, pa2, pm2, pf2, _, _, fo, ?_, ?_, hH⟩
  · exact ⟨hd1, ⟨hk1.1.trans hF1, hk1.2.1.trans hF2, hk1.2.2.1.trans hF3, hk1.2.2.2.1.trans hF6⟩, by rw [hk1.2.2.2.2]; exact htt, htp, htb⟩
  · exact ⟨⟨m2, rfl, rfl, m7, m8, rfl, rfl, m29, m30⟩, hA1, fun i hi => if_pos hi, fun i hi => if_pos hi, g4⟩

set_option maxHeartbeats 8000000 in
theorem L_10 {pg : Program} {l : Launch} {ev : Env} {s : State} {m : MethodId} {ar : Array Value} {bl : List Frame} {me : Method} {c : Code} {Q : State → Prop} {G : zG} {sc LL : Nat} {xs : Nat → Int32} {nw : Nat} {wq wv : Nat → Nat} {lq lva : Nat} {ls : Array Slot} {H : Heap} {locs : List Loc} {ce sl : Nat} {ad adm : Nat → Nat} {o j : Nat} (CX : LCT pg l s m ar me c G sc LL xs nw wq wv lq lva) (hj : j + 6 ≤ LL) (hl : lv_has ls 7 [(4, .int (iZ (j : Int))), (3, .ref o), (2, .ref (adm 0)), (1, .ref (ad 99)), (0, .ref sc)]) (hS : LST s G nw ad adm o H locs) (hce : ce + 40000 ≤ 1200144) (hsl : sl + 200000 ≤ 5497402) (K : ∀ (ls1 : Array Slot) (H1 : Heap) (locs1 : List Loc), lv_has ls1 7 [(4, .int (iZ (j : Int))), (3, .ref o), (2, .ref (adm 0)), (1, .ref (ad 99)), (0, .ref sc)] → LST s G nw ad adm o H1 locs1 → W pg l ev room_1 s m ar bl me c H1 locs1 (ce + 40000) (sl + 200000) Q (F0 m 2566 ls1 [])) : W pg l ev room_1 s m ar bl me c H locs ce sl Q (F0 m 689 ls []) := by
  obtain ⟨C, ⟨hX, hsc, hL⟩, hlt, hnw, hBx, hcs, hsi, hth, hthq, hni, hRW, hlit⟩ := CX
  obtain ⟨tt, tp, ln, fa, fp, b, t, n, v, wt, un, hm, hvv, hww, fr, F, Ar, kp, L, pl, pr, pa, pm, pf, Fm, Am, fo, hDK, hMD, hH⟩ := hS
  have hDK0 := hDK
  have hMD0 := hMD
  obtain ⟨hD, ⟨hF1, hF2, hF3, hF6⟩, htt, htp, htb⟩ := hDK
  have hD0 := hD
  obtain ⟨⟨hn, hFn, hv, hAv, hwt, hAw⟩, ⟨hb, hFb, ht, hFt⟩, ⟨hun, hF14, hkt, hPD⟩, ⟨hPL, hpc⟩, hmo, hfr, h16⟩ := hD
  obtain ⟨⟨m2, m5, m6, m7, m8, m12, m13, m29, m30⟩, hA1, hA3, hA4, hPA⟩ := hMD
  have hpp := PLS_pool hPL
  have hpl := PLS_pl hPL
  have hx1 := sx_r (xs := xs) (j := j) (k := 1)
  have hx2 := sx_r (xs := xs) (j := j) (k := 2)
  have hx3 := sx_r (xs := xs) (j := j) (k := 3)
  have hx4 := sx_r (xs := xs) (j := j) (k := 4)
  have hx5 := sx_r (xs := xs) (j := j) (k := 5)
  have hnzr := nz_r (x := sx xs j 3)
  have hnzb := nz_b (x := sx xs j 3)
  refine z_aload_n C 689 hl dL_law_689 rfl 3 rfl ?_
  refine z_scr C hX hsc hH.2.2 690 1 hl 0 4 rfl rfl (by omega) hL dL_law_690 dL_law_691 dL_law_693 dL_law_694 dL_law_695 ?_
  refine z_scr C hX hsc hH.2.2 696 2 hl 0 4 rfl rfl (by omega) hL dL_law_696 dL_law_697 dL_law_699 dL_law_700 dL_law_701 ?_
  have hM := m_X1_flip l s G H.size ad F Ar kp pl (dPool G pr pa pm pf L) L pr pa pm pf nw b t n v wt un hm hvv hww fr (sx xs j 1) (sx xs j 2) (by first | assumption | omega) (by first | assumption | omega) (by first | assumption | omega) (by first | assumption | omega)
  refine z_fr (w1 := dW ad G F Ar kp pl (dPool G pr pa pm pf L)) (z_runV C hH.2.2 hl.1 (zH_l hH).1 (zH_l hH).2.1 2 (As := [.int (iZ (sx xs j 1)), .int (iZ (sx xs j 2))]) (rest := []) hM (lw_V q876 q877 q878 q89 q879) ⟨rfl, by decide, by decide, by decide +kernel⟩ (q0 := 0) (ci := 1) rfl rfl rfl rfl (Nat.le_of_ble_eq_true rfl) ⟨Nat.le_of_ble_eq_true rfl, Nat.le_of_ble_eq_true rfl⟩ ⟨by show _ + 240 ≤ 1200144; omega, by show _ + 14640 ≤ 5497402; omega⟩ dL_law_702) hH (fun u H locs hpost hH => ?_)
  obtain ⟨r1, n2, v2, w2, un2, hm2, hvv2, hww2, fr2, L2, pl2, pr2, pa2, pm2, pf2, kp2, F2, A2⟩ := u
  obtain ⟨hs1, he1, hd1, hk1⟩ := hpost
  refine z_st (st' := [.int (iZ r1)]) rfl ?_
  have hH := zH_rot hH
  refine z_aload_n C 705 hl dL_law_705 rfl 2 rfl ?_
  refine z_scr C hX hsc hH.2.2 706 1 hl 0 4 rfl rfl (by omega) hL dL_law_706 dL_law_707 dL_law_709 dL_law_710 dL_law_711 ?_
  refine z_scr C hX hsc hH.2.2 712 2 hl 0 4 rfl rfl (by omega) hL dL_law_712 dL_law_713 dL_law_715 dL_law_716 dL_law_717 ?_
  have hM := m_X7_flip l s G H.size adm Fm Am n v (Am 3) wt (Am 4) un hm hvv hww (Am 9) (Am 10) (Am 11) b fr (sx xs j 1) (sx xs j 2) (by first | assumption | omega) (by first | assumption | omega) (by first | assumption | omega) (by first | assumption | omega) (by first | assumption | omega) (by first | assumption | omega) (by first | assumption | omega) (by first | assumption | omega)
  simp only [va_up_id m2, va_up_id m5, va_up_id m6, va_up_id m7, va_up_id m8, va_up_id m12, va_up_id m13, va_up_id m29, va_up_id m30, va_up_id hA1, va_up_id (cI_self hA3), va_up_id (cI_self hA4), va_up_id (rfl : Am 9 = Am 9), va_up_id (rfl : Am 10 = Am 10), va_up_id (rfl : Am 11 = Am 11), va_up_id (rfl : Am 14 = Am 14), va_up_id (rfl : Am 15 = Am 15)] at hM
  refine z_fr (w1 := mW adm G Fm Am) (z_runV C hH.2.2 hl.1 (zH_l hH).1 (zH_l hH).2.1 2 (As := [.int (iZ (sx xs j 1)), .int (iZ (sx xs j 2))]) (rest := [.int (iZ r1)]) hM (lw_V q1732 q1733 q1734 q95 q1735) ⟨rfl, by decide, by decide, by decide +kernel⟩ (q0 := 0) (ci := 0) rfl rfl rfl rfl (Nat.le_of_ble_eq_true rfl) ⟨Nat.le_of_ble_eq_true rfl, Nat.le_of_ble_eq_true rfl⟩ ⟨by show _ + 0 ≤ 1200144; omega, by show _ + 0 ≤ 5497402; omega⟩ dL_law_718) hH (fun u H locs hpost hH => ?_)
  obtain ⟨r7, n2m, v2m, w2m, tmm, tvm, twm, gv1m, gw1m, pv2m, pw2m, pm2m, un2m, fr2m, hm2m, hvv2m, hww2m⟩ := u
  obtain ⟨hs7, g1, g2, g3, g4, g5, he7⟩ := hpost
  refine z_st (st' := [.int (iZ r7), .int (iZ r1)]) rfl ?_
  have hH := zH_rot hH
  obtain ⟨e1, rfl, rfl, rfl⟩ := one_flip hs1 hs7
  obtain ⟨rfl, rfl, rfl, rfl, rfl⟩ := EDT_u he1 he7
  refine z_same2 C 721 2566 dL_law_721 rfl e1 ?_
  refine W.widen (by omega) (by omega) (K ls _ _ hl ?_)
  refine ⟨tt, tp, ln, fa, fp, b, t, n2, v2, w2, un2, hm2, hvv2, hww2, fr2, F2, A2, kp2, L2, pl2, pr2, pa2, pm2, pf2, _, _, fo, ?_, ?_, hH⟩
  · exact ⟨hd1, ⟨hk1.1.trans hF1, hk1.2.1.trans hF2, hk1.2.2.1.trans hF3, hk1.2.2.2.1.trans hF6⟩, by rw [hk1.2.2.2.2]; exact htt, htp, htb⟩
  · exact ⟨⟨m2, rfl, rfl, m7, m8, rfl, rfl, m29, m30⟩, hA1, fun i hi => if_pos hi, fun i hi => if_pos hi, g4⟩

set_option maxHeartbeats 8000000 in
theorem L_11 {pg : Program} {l : Launch} {ev : Env} {s : State} {m : MethodId} {ar : Array Value} {bl : List Frame} {me : Method} {c : Code} {Q : State → Prop} {G : zG} {sc LL : Nat} {xs : Nat → Int32} {nw : Nat} {wq wv : Nat → Nat} {lq lva : Nat} {ls : Array Slot} {H : Heap} {locs : List Loc} {ce sl : Nat} {ad adm : Nat → Nat} {o j : Nat} (CX : LCT pg l s m ar me c G sc LL xs nw wq wv lq lva) (hj : j + 6 ≤ LL) (hl : lv_has ls 7 [(4, .int (iZ (j : Int))), (3, .ref o), (2, .ref (adm 0)), (1, .ref (ad 99)), (0, .ref sc)]) (hS : LST s G nw ad adm o H locs) (hce : ce + 40000 ≤ 1200144) (hsl : sl + 200000 ≤ 5497402) (K : ∀ (ls1 : Array Slot) (H1 : Heap) (locs1 : List Loc), lv_has ls1 7 [(4, .int (iZ (j : Int))), (3, .ref o), (2, .ref (adm 0)), (1, .ref (ad 99)), (0, .ref sc)] → LST s G nw ad adm o H1 locs1 → W pg l ev room_1 s m ar bl me c H1 locs1 (ce + 40000) (sl + 200000) Q (F0 m 2566 ls1 [])) : W pg l ev room_1 s m ar bl me c H locs ce sl Q (F0 m 726 ls []) := by
  obtain ⟨C, ⟨hX, hsc, hL⟩, hlt, hnw, hBx, hcs, hsi, hth, hthq, hni, hRW, hlit⟩ := CX
  obtain ⟨tt, tp, ln, fa, fp, b, t, n, v, wt, un, hm, hvv, hww, fr, F, Ar, kp, L, pl, pr, pa, pm, pf, Fm, Am, fo, hDK, hMD, hH⟩ := hS
  have hDK0 := hDK
  have hMD0 := hMD
  obtain ⟨hD, ⟨hF1, hF2, hF3, hF6⟩, htt, htp, htb⟩ := hDK
  have hD0 := hD
  obtain ⟨⟨hn, hFn, hv, hAv, hwt, hAw⟩, ⟨hb, hFb, ht, hFt⟩, ⟨hun, hF14, hkt, hPD⟩, ⟨hPL, hpc⟩, hmo, hfr, h16⟩ := hD
  obtain ⟨⟨m2, m5, m6, m7, m8, m12, m13, m29, m30⟩, hA1, hA3, hA4, hPA⟩ := hMD
  have hpp := PLS_pool hPL
  have hpl := PLS_pl hPL
  have hx1 := sx_r (xs := xs) (j := j) (k := 1)
  have hx2 := sx_r (xs := xs) (j := j) (k := 2)
  have hx3 := sx_r (xs := xs) (j := j) (k := 3)
  have hx4 := sx_r (xs := xs) (j := j) (k := 4)
  have hx5 := sx_r (xs := xs) (j := j) (k := 5)
  have hnzr := nz_r (x := sx xs j 3)
  have hnzb := nz_b (x := sx xs j 3)
  refine z_aload_n C 726 hl dL_law_726 rfl 3 rfl ?_
  refine z_scr C hX hsc hH.2.2 727 1 hl 0 4 rfl rfl (by omega) hL dL_law_727 dL_law_728 dL_law_730 dL_law_731 dL_law_732 ?_
  refine z_scr C hX hsc hH.2.2 733 2 hl 0 4 rfl rfl (by omega) hL dL_law_733 dL_law_734 dL_law_736 dL_law_737 dL_law_738 ?_
  refine z_scr C hX hsc hH.2.2 739 3 hl 0 4 rfl rfl (by omega) hL dL_law_739 dL_law_740 dL_law_742 dL_law_743 dL_law_744 ?_
  have hM := m_X1_shift l s G H.size ad F Ar kp pl (dPool G pr pa pm pf L) L pr pa pm pf nw b t n v wt un hm hvv hww fr (sx xs j 1) (sx xs j 2) (sx xs j 3) (by first | assumption | omega) (by first | assumption | omega) (by first | assumption | omega) (by first | assumption | omega) (by first | assumption | omega)
  refine z_fr (w1 := dW ad G F Ar kp pl (dPool G pr pa pm pf L)) (z_runV C hH.2.2 hl.1 (zH_l hH).1 (zH_l hH).2.1 3 (As := [.int (iZ (sx xs j 1)), .int (iZ (sx xs j 2)), .int (iZ (sx xs j 3))]) (rest := []) hM (lw_V q880 q881 q882 q89 q883) ⟨rfl, by decide, by decide, by decide +kernel⟩ (q0 := 0) (ci := 1) rfl rfl rfl rfl (Nat.le_of_ble_eq_true rfl) ⟨Nat.le_of_ble_eq_true rfl, Nat.le_of_ble_eq_true rfl⟩ ⟨by show _ + 240 ≤ 1200144; omega, by show _ + 14640 ≤ 5497402; omega⟩ dL_law_745) hH (fun u H locs hpost hH => ?_)
  obtain ⟨r1, n2, v2, w2, un2, hm2, hvv2, hww2, fr2, L2, pl2, pr2, pa2, pm2, pf2, kp2, F2, A2⟩ := u
  obtain ⟨hs1, he1, hd1, hk1⟩ := hpost
  refine z_st (st' := [.int (iZ r1)]) rfl ?_
  have hH := zH_rot hH
  refine z_aload_n C 748 hl dL_law_748 rfl 2 rfl ?_
  refine z_scr C hX hsc hH.2.2 749 1 hl 0 4 rfl rfl (by omega) hL dL_law_749 dL_law_750 dL_law_752 dL_law_753 dL_law_754 ?_
  refine z_scr C hX hsc hH.2.2 755 2 hl 0 4 rfl rfl (by omega) hL dL_law_755 dL_law_756 dL_law_758 dL_law_759 dL_law_760 ?_
  refine z_scr C hX hsc hH.2.2 761 3 hl 0 4 rfl rfl (by omega) hL dL_law_761 dL_law_762 dL_law_764 dL_law_765 dL_law_766 ?_
  have hM := m_X7_shift l s G H.size adm Fm Am n v (Am 3) wt (Am 4) un hm hvv hww (Am 9) (Am 10) (Am 11) b fr (sx xs j 1) (sx xs j 2) (sx xs j 3) (by first | assumption | omega) (by first | assumption | omega) (by first | assumption | omega) (by first | assumption | omega) (by first | assumption | omega) (by first | assumption | omega) (by first | assumption | omega) (by first | assumption | omega) (by first | assumption | omega)
  simp only [va_up_id m2, va_up_id m5, va_up_id m6, va_up_id m7, va_up_id m8, va_up_id m12, va_up_id m13, va_up_id m29, va_up_id m30, va_up_id hA1, va_up_id (cI_self hA3), va_up_id (cI_self hA4), va_up_id (rfl : Am 9 = Am 9), va_up_id (rfl : Am 10 = Am 10), va_up_id (rfl : Am 11 = Am 11), va_up_id (rfl : Am 14 = Am 14), va_up_id (rfl : Am 15 = Am 15)] at hM
  refine z_fr (w1 := mW adm G Fm Am) (z_runV C hH.2.2 hl.1 (zH_l hH).1 (zH_l hH).2.1 3 (As := [.int (iZ (sx xs j 1)), .int (iZ (sx xs j 2)), .int (iZ (sx xs j 3))]) (rest := [.int (iZ r1)]) hM (lw_V q1736 q1737 q1738 q95 q1739) ⟨rfl, by decide, by decide, by decide +kernel⟩ (q0 := 0) (ci := 0) rfl rfl rfl rfl (Nat.le_of_ble_eq_true rfl) ⟨Nat.le_of_ble_eq_true rfl, Nat.le_of_ble_eq_true rfl⟩ ⟨by show _ + 0 ≤ 1200144; omega, by show _ + 0 ≤ 5497402; omega⟩ dL_law_767) hH (fun u H locs hpost hH => ?_)
  obtain ⟨r7, n2m, v2m, w2m, tmm, tvm, twm, gv1m, gw1m, pv2m, pw2m, pm2m, un2m, fr2m, hm2m, hvv2m, hww2m⟩ := u
  obtain ⟨hs7, g1, g2, g3, g4, g5, he7⟩ := hpost
  refine z_st (st' := [.int (iZ r7), .int (iZ r1)]) rfl ?_
  have hH := zH_rot hH
  obtain ⟨e1, rfl, rfl, rfl⟩ := one_shift hs1 hs7
  obtain ⟨rfl, rfl, rfl, rfl, rfl⟩ := EDT_u he1 he7
  refine z_same2 C 770 2566 dL_law_770 rfl e1 ?_
  refine W.widen (by omega) (by omega) (K ls _ _ hl ?_)
  refine ⟨tt, tp, ln, fa, fp, b, t, n2, v2, w2, un2, hm2, hvv2, hww2, fr2, F2, A2, kp2, L2, pl2, pr2, pa2, pm2, pf2, _, _, fo, ?_, ?_, hH⟩
  · exact ⟨hd1, ⟨hk1.1.trans hF1, hk1.2.1.trans hF2, hk1.2.2.1.trans hF3, hk1.2.2.2.1.trans hF6⟩, by rw [hk1.2.2.2.2]; exact htt, htp, htb⟩
  · exact ⟨⟨m2, rfl, rfl, m7, m8, rfl, rfl, m29, m30⟩, hA1, fun i hi => if_pos hi, fun i hi => if_pos hi, g4⟩

set_option maxHeartbeats 8000000 in
theorem L_12 {pg : Program} {l : Launch} {ev : Env} {s : State} {m : MethodId} {ar : Array Value} {bl : List Frame} {me : Method} {c : Code} {Q : State → Prop} {G : zG} {sc LL : Nat} {xs : Nat → Int32} {nw : Nat} {wq wv : Nat → Nat} {lq lva : Nat} {ls : Array Slot} {H : Heap} {locs : List Loc} {ce sl : Nat} {ad adm : Nat → Nat} {o j : Nat} (CX : LCT pg l s m ar me c G sc LL xs nw wq wv lq lva) (hj : j + 6 ≤ LL) (hl : lv_has ls 7 [(4, .int (iZ (j : Int))), (3, .ref o), (2, .ref (adm 0)), (1, .ref (ad 99)), (0, .ref sc)]) (hS : LST s G nw ad adm o H locs) (hce : ce + 40000 ≤ 1200144) (hsl : sl + 200000 ≤ 5497402) (K : ∀ (ls1 : Array Slot) (H1 : Heap) (locs1 : List Loc), lv_has ls1 7 [(4, .int (iZ (j : Int))), (3, .ref o), (2, .ref (adm 0)), (1, .ref (ad 99)), (0, .ref sc)] → LST s G nw ad adm o H1 locs1 → W pg l ev room_1 s m ar bl me c H1 locs1 (ce + 40000) (sl + 200000) Q (F0 m 2566 ls1 [])) : W pg l ev room_1 s m ar bl me c H locs ce sl Q (F0 m 775 ls []) := by
  obtain ⟨C, ⟨hX, hsc, hL⟩, hlt, hnw, hBx, hcs, hsi, hth, hthq, hni, hRW, hlit⟩ := CX
  obtain ⟨tt, tp, ln, fa, fp, b, t, n, v, wt, un, hm, hvv, hww, fr, F, Ar, kp, L, pl, pr, pa, pm, pf, Fm, Am, fo, hDK, hMD, hH⟩ := hS
  have hDK0 := hDK
  have hMD0 := hMD
  obtain ⟨hD, ⟨hF1, hF2, hF3, hF6⟩, htt, htp, htb⟩ := hDK
  have hD0 := hD
  obtain ⟨⟨hn, hFn, hv, hAv, hwt, hAw⟩, ⟨hb, hFb, ht, hFt⟩, ⟨hun, hF14, hkt, hPD⟩, ⟨hPL, hpc⟩, hmo, hfr, h16⟩ := hD
  obtain ⟨⟨m2, m5, m6, m7, m8, m12, m13, m29, m30⟩, hA1, hA3, hA4, hPA⟩ := hMD
  have hpp := PLS_pool hPL
  have hpl := PLS_pl hPL
  have hx1 := sx_r (xs := xs) (j := j) (k := 1)
  have hx2 := sx_r (xs := xs) (j := j) (k := 2)
  have hx3 := sx_r (xs := xs) (j := j) (k := 3)
  have hx4 := sx_r (xs := xs) (j := j) (k := 4)
  have hx5 := sx_r (xs := xs) (j := j) (k := 5)
  have hnzr := nz_r (x := sx xs j 3)
  have hnzb := nz_b (x := sx xs j 3)
  refine z_aload_n C 775 hl dL_law_775 rfl 3 rfl ?_
  refine z_scr C hX hsc hH.2.2 776 1 hl 0 4 rfl rfl (by omega) hL dL_law_776 dL_law_777 dL_law_779 dL_law_780 dL_law_781 ?_
  refine z_scr C hX hsc hH.2.2 782 2 hl 0 4 rfl rfl (by omega) hL dL_law_782 dL_law_783 dL_law_785 dL_law_786 dL_law_787 ?_
  have hM := m_X1_replace l s G H.size ad F Ar kp pl (dPool G pr pa pm pf L) L pr pa pm pf nw b t n v wt un hm hvv hww fr (sx xs j 1) (sx xs j 2) (by first | assumption | omega) (by first | assumption | omega) (by first | assumption | omega) (by first | assumption | omega) (by first | assumption | omega)
  refine z_fr (w1 := dW ad G F Ar kp pl (dPool G pr pa pm pf L)) (z_runV C hH.2.2 hl.1 (zH_l hH).1 (zH_l hH).2.1 2 (As := [.int (iZ (sx xs j 1)), .int (iZ (sx xs j 2))]) (rest := []) hM (lw_V q884 q885 q886 q89 q887) ⟨rfl, by decide, by decide, by decide +kernel⟩ (q0 := 0) (ci := 1) rfl rfl rfl rfl (Nat.le_of_ble_eq_true rfl) ⟨Nat.le_of_ble_eq_true rfl, Nat.le_of_ble_eq_true rfl⟩ ⟨by show _ + 241 ≤ 1200144; omega, by show _ + 14642 ≤ 5497402; omega⟩ dL_law_788) hH (fun u H locs hpost hH => ?_)
  obtain ⟨r1, n2, v2, w2, un2, hm2, hvv2, hww2, fr2, L2, pl2, pr2, pa2, pm2, pf2, kp2, F2, A2⟩ := u
  obtain ⟨hs1, he1, hd1, hk1⟩ := hpost
  refine z_st (st' := [.int (iZ r1)]) rfl ?_
  have hH := zH_rot hH
  refine z_aload_n C 791 hl dL_law_791 rfl 2 rfl ?_
  refine z_scr C hX hsc hH.2.2 792 1 hl 0 4 rfl rfl (by omega) hL dL_law_792 dL_law_793 dL_law_795 dL_law_796 dL_law_797 ?_
  refine z_scr C hX hsc hH.2.2 798 2 hl 0 4 rfl rfl (by omega) hL dL_law_798 dL_law_799 dL_law_801 dL_law_802 dL_law_803 ?_
  have hM := m_X7_replace l s G H.size adm Fm Am n v (Am 3) wt (Am 4) un hm hvv hww (Am 9) (Am 10) (Am 11) b fr (sx xs j 1) (sx xs j 2) (by first | assumption | omega) (by first | assumption | omega) (by first | assumption | omega) (by first | assumption | omega) (by first | assumption | omega) (by first | assumption | omega) (by first | assumption | omega) (by first | assumption | omega)
  simp only [va_up_id m2, va_up_id m5, va_up_id m6, va_up_id m7, va_up_id m8, va_up_id m12, va_up_id m13, va_up_id m29, va_up_id m30, va_up_id hA1, va_up_id (cI_self hA3), va_up_id (cI_self hA4), va_up_id (rfl : Am 9 = Am 9), va_up_id (rfl : Am 10 = Am 10), va_up_id (rfl : Am 11 = Am 11), va_up_id (rfl : Am 14 = Am 14), va_up_id (rfl : Am 15 = Am 15)] at hM
  refine z_fr (w1 := mW adm G Fm Am) (z_runV C hH.2.2 hl.1 (zH_l hH).1 (zH_l hH).2.1 2 (As := [.int (iZ (sx xs j 1)), .int (iZ (sx xs j 2))]) (rest := [.int (iZ r1)]) hM (lw_V q1740 q1741 q1742 q95 q1743) ⟨rfl, by decide, by decide, by decide +kernel⟩ (q0 := 0) (ci := 0) rfl rfl rfl rfl (Nat.le_of_ble_eq_true rfl) ⟨Nat.le_of_ble_eq_true rfl, Nat.le_of_ble_eq_true rfl⟩ ⟨by show _ + 0 ≤ 1200144; omega, by show _ + 0 ≤ 5497402; omega⟩ dL_law_804) hH (fun u H locs hpost hH => ?_)
  obtain ⟨r7, n2m, v2m, w2m, tmm, tvm, twm, gv1m, gw1m, pv2m, pw2m, pm2m, un2m, fr2m, hm2m, hvv2m, hww2m⟩ := u
  obtain ⟨hs7, g1, g2, g3, g4, g5, he7⟩ := hpost
  refine z_st (st' := [.int (iZ r7), .int (iZ r1)]) rfl ?_
  have hH := zH_rot hH
  obtain ⟨e1, rfl, rfl, rfl⟩ := one_replace hs1 hs7
  obtain ⟨rfl, rfl, rfl, rfl, rfl⟩ := EDT_u he1 he7
  refine z_same2 C 807 2566 dL_law_807 rfl e1 ?_
  refine W.widen (by omega) (by omega) (K ls _ _ hl ?_)
  refine ⟨tt, tp, ln, fa, fp, b, t, n2, v2, w2, un2, hm2, hvv2, hww2, fr2, F2, A2, kp2, L2, pl2, pr2, pa2, pm2, pf2, _, _, fo, ?_, ?_, hH⟩
  · exact ⟨hd1, ⟨hk1.1.trans hF1, hk1.2.1.trans hF2, hk1.2.2.1.trans hF3, hk1.2.2.2.1.trans hF6⟩, by rw [hk1.2.2.2.2]; exact htt, htp, htb⟩
  · exact ⟨⟨m2, rfl, rfl, m7, m8, rfl, rfl, m29, m30⟩, hA1, fun i hi => if_pos hi, fun i hi => if_pos hi, g4⟩

set_option maxHeartbeats 8000000 in
theorem L_13 {pg : Program} {l : Launch} {ev : Env} {s : State} {m : MethodId} {ar : Array Value} {bl : List Frame} {me : Method} {c : Code} {Q : State → Prop} {G : zG} {sc LL : Nat} {xs : Nat → Int32} {nw : Nat} {wq wv : Nat → Nat} {lq lva : Nat} {ls : Array Slot} {H : Heap} {locs : List Loc} {ce sl : Nat} {ad adm : Nat → Nat} {o j : Nat} (CX : LCT pg l s m ar me c G sc LL xs nw wq wv lq lva) (hj : j + 6 ≤ LL) (hl : lv_has ls 7 [(4, .int (iZ (j : Int))), (3, .ref o), (2, .ref (adm 0)), (1, .ref (ad 99)), (0, .ref sc)]) (hS : LST s G nw ad adm o H locs) (hce : ce + 40000 ≤ 1200144) (hsl : sl + 200000 ≤ 5497402) (K : ∀ (ls1 : Array Slot) (H1 : Heap) (locs1 : List Loc), lv_has ls1 7 [(4, .int (iZ (j : Int))), (3, .ref o), (2, .ref (adm 0)), (1, .ref (ad 99)), (0, .ref sc)] → LST s G nw ad adm o H1 locs1 → W pg l ev room_1 s m ar bl me c H1 locs1 (ce + 40000) (sl + 200000) Q (F0 m 2566 ls1 [])) : W pg l ev room_1 s m ar bl me c H locs ce sl Q (F0 m 812 ls []) := by
  obtain ⟨C, ⟨hX, hsc, hL⟩, hlt, hnw, hBx, hcs, hsi, hth, hthq, hni, hRW, hlit⟩ := CX
  obtain ⟨tt, tp, ln, fa, fp, b, t, n, v, wt, un, hm, hvv, hww, fr, F, Ar, kp, L, pl, pr, pa, pm, pf, Fm, Am, fo, hDK, hMD, hH⟩ := hS
  have hDK0 := hDK
  have hMD0 := hMD
  obtain ⟨hD, ⟨hF1, hF2, hF3, hF6⟩, htt, htp, htb⟩ := hDK
  have hD0 := hD
  obtain ⟨⟨hn, hFn, hv, hAv, hwt, hAw⟩, ⟨hb, hFb, ht, hFt⟩, ⟨hun, hF14, hkt, hPD⟩, ⟨hPL, hpc⟩, hmo, hfr, h16⟩ := hD
  obtain ⟨⟨m2, m5, m6, m7, m8, m12, m13, m29, m30⟩, hA1, hA3, hA4, hPA⟩ := hMD
  have hpp := PLS_pool hPL
  have hpl := PLS_pl hPL
  have hx1 := sx_r (xs := xs) (j := j) (k := 1)
  have hx2 := sx_r (xs := xs) (j := j) (k := 2)
  have hx3 := sx_r (xs := xs) (j := j) (k := 3)
  have hx4 := sx_r (xs := xs) (j := j) (k := 4)
  have hx5 := sx_r (xs := xs) (j := j) (k := 5)
  have hnzr := nz_r (x := sx xs j 3)
  have hnzb := nz_b (x := sx xs j 3)
  refine z_aload_n C 812 hl dL_law_812 rfl 3 rfl ?_
  refine z_scr C hX hsc hH.2.2 813 1 hl 0 4 rfl rfl (by omega) hL dL_law_813 dL_law_814 dL_law_816 dL_law_817 dL_law_818 ?_
  refine z_scr C hX hsc hH.2.2 819 2 hl 0 4 rfl rfl (by omega) hL dL_law_819 dL_law_820 dL_law_822 dL_law_823 dL_law_824 ?_
  refine z_scr C hX hsc hH.2.2 825 3 hl 0 4 rfl rfl (by omega) hL dL_law_825 dL_law_826 dL_law_828 dL_law_829 dL_law_830 ?_
  refine z_nz C 831 hx3 dL_law_831 dL_law_834 dL_law_835 dL_law_838 ?_
  have hM := m_X1_sort l s G H.size ad F Ar kp pl (dPool G pr pa pm pf L) L pr pa pm pf nw b t n v wt un hm hvv hww fr (sx xs j 1) (sx xs j 2) (nz (sx xs j 3)) (by first | assumption | omega) (by first | assumption | omega) (by first | assumption | omega) (by first | assumption | omega) (by first | assumption | omega)
  refine z_fr (w1 := dW ad G F Ar kp pl (dPool G pr pa pm pf L)) (z_runV C hH.2.2 hl.1 (zH_l hH).1 (zH_l hH).2.1 3 (As := [.int (iZ (sx xs j 1)), .int (iZ (sx xs j 2)), .int (iZ (nz (sx xs j 3)))]) (rest := []) hM (lw_V q1023 q1024 q1025 q89 q1026) ⟨rfl, by decide, by decide, by decide +kernel⟩ (q0 := 0) (ci := 1) rfl rfl rfl rfl (Nat.le_of_ble_eq_true rfl) ⟨Nat.le_of_ble_eq_true rfl, Nat.le_of_ble_eq_true rfl⟩ ⟨by show _ + 240 ≤ 1200144; omega, by show _ + 14640 ≤ 5497402; omega⟩ dL_law_839) hH (fun u H locs hpost hH => ?_)
  obtain ⟨r1, n2, v2, w2, un2, hm2, hvv2, hww2, fr2, L2, pl2, pr2, pa2, pm2, pf2, kp2, F2, A2⟩ := u
  obtain ⟨hs1, he1, hd1, hk1⟩ := hpost
  refine z_st (st' := [.int (iZ r1)]) rfl ?_
  have hH := zH_rot hH
  refine z_aload_n C 842 hl dL_law_842 rfl 2 rfl ?_
  refine z_scr C hX hsc hH.2.2 843 1 hl 0 4 rfl rfl (by omega) hL dL_law_843 dL_law_844 dL_law_846 dL_law_847 dL_law_848 ?_
  refine z_scr C hX hsc hH.2.2 849 2 hl 0 4 rfl rfl (by omega) hL dL_law_849 dL_law_850 dL_law_852 dL_law_853 dL_law_854 ?_
  refine z_scr C hX hsc hH.2.2 855 3 hl 0 4 rfl rfl (by omega) hL dL_law_855 dL_law_856 dL_law_858 dL_law_859 dL_law_860 ?_
  refine z_nz C 861 hx3 dL_law_861 dL_law_864 dL_law_865 dL_law_868 ?_
  have hM := m_X7_sort l s G H.size adm Fm Am n v (Am 3) wt (Am 4) un hm hvv hww (Am 9) (Am 10) (Am 11) b fr (sx xs j 1) (sx xs j 2) (nz (sx xs j 3)) (by first | assumption | omega) (by first | assumption | omega) (by first | assumption | omega) (by first | assumption | omega) (by first | assumption | omega) (by first | assumption | omega) (by first | assumption | omega) (by first | assumption | omega) (by first | assumption | omega)
  simp only [va_up_id m2, va_up_id m5, va_up_id m6, va_up_id m7, va_up_id m8, va_up_id m12, va_up_id m13, va_up_id m29, va_up_id m30, va_up_id hA1, va_up_id (cI_self hA3), va_up_id (cI_self hA4), va_up_id (rfl : Am 9 = Am 9), va_up_id (rfl : Am 10 = Am 10), va_up_id (rfl : Am 11 = Am 11), va_up_id (rfl : Am 14 = Am 14), va_up_id (rfl : Am 15 = Am 15)] at hM
  refine z_fr (w1 := mW adm G Fm Am) (z_runV C hH.2.2 hl.1 (zH_l hH).1 (zH_l hH).2.1 3 (As := [.int (iZ (sx xs j 1)), .int (iZ (sx xs j 2)), .int (iZ (nz (sx xs j 3)))]) (rest := [.int (iZ r1)]) hM (lw_V q1744 q1745 q1746 q95 q1747) ⟨rfl, by decide, by decide, by decide +kernel⟩ (q0 := 0) (ci := 0) rfl rfl rfl rfl (Nat.le_of_ble_eq_true rfl) ⟨Nat.le_of_ble_eq_true rfl, Nat.le_of_ble_eq_true rfl⟩ ⟨by show _ + 0 ≤ 1200144; omega, by show _ + 0 ≤ 5497402; omega⟩ dL_law_869) hH (fun u H locs hpost hH => ?_)
  obtain ⟨r7, n2m, v2m, w2m, tmm, tvm, twm, gv1m, gw1m, pv2m, pw2m, pm2m, un2m, fr2m, hm2m, hvv2m, hww2m⟩ := u
  obtain ⟨hs7, g1, g2, g3, g4, g5, he7⟩ := hpost
  refine z_st (st' := [.int (iZ r7), .int (iZ r1)]) rfl ?_
  have hH := zH_rot hH
  obtain ⟨e1, rfl, rfl, rfl⟩ := one_sort hs1 hs7
  obtain ⟨rfl, rfl, rfl, rfl, rfl⟩ := EDT_u he1 he7
  refine z_same2 C 872 2566 dL_law_872 rfl e1 ?_
  refine W.widen (by omega) (by omega) (K ls _ _ hl ?_)
  refine ⟨tt, tp, ln, fa, fp, b, t, n2, v2, w2, un2, hm2, hvv2, hww2, fr2, F2, A2, kp2, L2, pl2, pr2, pa2, pm2, pf2, _, _, fo, ?_, ?_, hH⟩
  · exact ⟨hd1, ⟨hk1.1.trans hF1, hk1.2.1.trans hF2, hk1.2.2.1.trans hF3, hk1.2.2.2.1.trans hF6⟩, by rw [hk1.2.2.2.2]; exact htt, htp, htb⟩
  · exact ⟨⟨m2, rfl, rfl, m7, m8, rfl, rfl, m29, m30⟩, hA1, fun i hi => if_pos hi, fun i hi => if_pos hi, g4⟩

set_option maxHeartbeats 8000000 in
theorem L_15 {pg : Program} {l : Launch} {ev : Env} {s : State} {m : MethodId} {ar : Array Value} {bl : List Frame} {me : Method} {c : Code} {Q : State → Prop} {G : zG} {sc LL : Nat} {xs : Nat → Int32} {nw : Nat} {wq wv : Nat → Nat} {lq lva : Nat} {ls : Array Slot} {H : Heap} {locs : List Loc} {ce sl : Nat} {ad adm : Nat → Nat} {o j : Nat} (CX : LCT pg l s m ar me c G sc LL xs nw wq wv lq lva) (hj : j + 6 ≤ LL) (hl : lv_has ls 7 [(4, .int (iZ (j : Int))), (3, .ref o), (2, .ref (adm 0)), (1, .ref (ad 99)), (0, .ref sc)]) (hS : LST s G nw ad adm o H locs) (hce : ce + 40000 ≤ 1200144) (hsl : sl + 200000 ≤ 5497402) (K : ∀ (ls1 : Array Slot) (H1 : Heap) (locs1 : List Loc), lv_has ls1 7 [(4, .int (iZ (j : Int))), (3, .ref o), (2, .ref (adm 0)), (1, .ref (ad 99)), (0, .ref sc)] → LST s G nw ad adm o H1 locs1 → W pg l ev room_1 s m ar bl me c H1 locs1 (ce + 40000) (sl + 200000) Q (F0 m 2566 ls1 [])) : W pg l ev room_1 s m ar bl me c H locs ce sl Q (F0 m 890 ls []) := by
  obtain ⟨C, ⟨hX, hsc, hL⟩, hlt, hnw, hBx, hcs, hsi, hth, hthq, hni, hRW, hlit⟩ := CX
  obtain ⟨tt, tp, ln, fa, fp, b, t, n, v, wt, un, hm, hvv, hww, fr, F, Ar, kp, L, pl, pr, pa, pm, pf, Fm, Am, fo, hDK, hMD, hH⟩ := hS
  have hDK0 := hDK
  have hMD0 := hMD
  obtain ⟨hD, ⟨hF1, hF2, hF3, hF6⟩, htt, htp, htb⟩ := hDK
  have hD0 := hD
  obtain ⟨⟨hn, hFn, hv, hAv, hwt, hAw⟩, ⟨hb, hFb, ht, hFt⟩, ⟨hun, hF14, hkt, hPD⟩, ⟨hPL, hpc⟩, hmo, hfr, h16⟩ := hD
  obtain ⟨⟨m2, m5, m6, m7, m8, m12, m13, m29, m30⟩, hA1, hA3, hA4, hPA⟩ := hMD
  have hpp := PLS_pool hPL
  have hpl := PLS_pl hPL
  have hx1 := sx_r (xs := xs) (j := j) (k := 1)
  have hx2 := sx_r (xs := xs) (j := j) (k := 2)
  have hx3 := sx_r (xs := xs) (j := j) (k := 3)
  have hx4 := sx_r (xs := xs) (j := j) (k := 4)
  have hx5 := sx_r (xs := xs) (j := j) (k := 5)
  have hnzr := nz_r (x := sx xs j 3)
  have hnzb := nz_b (x := sx xs j 3)
  refine z_aload_n C 890 hl dL_law_890 rfl 3 rfl ?_
  have hM := m_X1_undo l s G H.size ad F Ar kp pl (dPool G pr pa pm pf L) L pr pa pm pf nw b t n v wt un hm hvv hww fr (by first | assumption | omega) (by first | assumption | omega)
  refine z_fr (w1 := dW ad G F Ar kp pl (dPool G pr pa pm pf L)) (z_runV C hH.2.2 hl.1 (zH_l hH).1 (zH_l hH).2.1 0 (As := []) (rest := []) hM (lw_V q1027 q1028 q1029 q89 q1030) ⟨rfl, by decide, by decide, by decide +kernel⟩ (q0 := 0) (ci := 1) rfl rfl rfl rfl (Nat.le_of_ble_eq_true rfl) ⟨Nat.le_of_ble_eq_true rfl, Nat.le_of_ble_eq_true rfl⟩ ⟨by show _ + 240 ≤ 1200144; omega, by show _ + 14640 ≤ 5497402; omega⟩ dL_law_891) hH (fun u H locs hpost hH => ?_)
  obtain ⟨r1, n2, v2, w2, un2, fr2, L2, pl2, pr2, pa2, pm2, pf2, F2, A2⟩ := u
  obtain ⟨hs1, hd1, hk1⟩ := hpost
  refine z_st (st' := [.int (iZ r1)]) rfl ?_
  have hH := zH_rot hH
  refine z_aload_n C 894 hl dL_law_894 rfl 2 rfl ?_
  have hM := m_X7_undo l s G H.size adm Fm Am n v (Am 3) wt (Am 4) un hm hvv hww (Am 9) (Am 10) (Am 11) b fr (by first | assumption | omega) (by first | assumption | omega) (by first | assumption | omega) (by first | assumption | omega) (by first | assumption | omega) (by first | assumption | omega)
  simp only [va_up_id m2, va_up_id m5, va_up_id m6, va_up_id m7, va_up_id m8, va_up_id m12, va_up_id m13, va_up_id m29, va_up_id m30, va_up_id hA1, va_up_id (cI_self hA3), va_up_id (cI_self hA4), va_up_id (rfl : Am 9 = Am 9), va_up_id (rfl : Am 10 = Am 10), va_up_id (rfl : Am 11 = Am 11), va_up_id (rfl : Am 14 = Am 14), va_up_id (rfl : Am 15 = Am 15)] at hM
  refine z_fr (w1 := mW adm G Fm Am) (z_runV C hH.2.2 hl.1 (zH_l hH).1 (zH_l hH).2.1 0 (As := []) (rest := [.int (iZ r1)]) hM (lw_V q1653 q1654 q1655 q95 q1656) ⟨rfl, by decide, by decide, by decide +kernel⟩ (q0 := 0) (ci := 0) rfl rfl rfl rfl (Nat.le_of_ble_eq_true rfl) ⟨Nat.le_of_ble_eq_true rfl, Nat.le_of_ble_eq_true rfl⟩ ⟨by show _ + 0 ≤ 1200144; omega, by show _ + 0 ≤ 5497402; omega⟩ dL_law_895) hH (fun u H locs hpost hH => ?_)
  obtain ⟨r7, n2m, v2m, w2m, tmm, tvm, twm, gv1m, gw1m, un2m, fr2m⟩ := u
  obtain ⟨hs7, g1, g2, g3, g4, g5⟩ := hpost
  refine z_st (st' := [.int (iZ r7), .int (iZ r1)]) rfl ?_
  have hH := zH_rot hH
  obtain ⟨e1, rfl, rfl, rfl, rfl, rfl⟩ := one_undo hs1 hs7
  refine z_same2 C 898 2566 dL_law_898 rfl e1 ?_
  refine W.widen (by omega) (by omega) (K ls _ _ hl ?_)
  refine ⟨tt, tp, ln, fa, fp, b, t, n2, v2, w2, un2, hm, hvv, hww, fr2, F2, A2, kp, L2, pl2, pr2, pa2, pm2, pf2, _, _, fo, ?_, ?_, hH⟩
  · exact ⟨hd1, ⟨hk1.1.trans hF1, hk1.2.1.trans hF2, hk1.2.2.1.trans hF3, hk1.2.2.2.1.trans hF6⟩, by rw [hk1.2.2.2.2]; exact htt, htp, htb⟩
  · exact ⟨⟨m2, rfl, rfl, m7, m8, rfl, rfl, m29, m30⟩, hA1, fun i hi => if_pos hi, fun i hi => if_pos hi, g4⟩
