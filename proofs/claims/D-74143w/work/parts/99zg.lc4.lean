/-! the law: its cases (questions) 99zg.lc4 -/
set_option maxRecDepth 100000
set_option maxHeartbeats 8000000 in
theorem L_52 {pg : Program} {l : Launch} {ev : Env} {s : State} {m : MethodId} {ar : Array Value} {bl : List Frame} {me : Method} {c : Code} {Q : State → Prop} {G : zG} {sc LL : Nat} {xs : Nat → Int32} {nw : Nat} {wq wv : Nat → Nat} {lq lva : Nat} {ls : Array Slot} {H : Heap} {locs : List Loc} {ce sl : Nat} {ad adm : Nat → Nat} {o j : Nat} (CX : LCT pg l s m ar me c G sc LL xs nw wq wv lq lva) (hj : j + 6 ≤ LL) (hl : lv_has ls 7 [(4, .int (iZ (j : Int))), (3, .ref o), (2, .ref (adm 0)), (1, .ref (ad 99)), (0, .ref sc)]) (hS : LST s G nw ad adm o H locs) (hce : ce + 40000 ≤ 1200144) (hsl : sl + 200000 ≤ 5497402) (K : ∀ (ls1 : Array Slot) (H1 : Heap) (locs1 : List Loc), lv_has ls1 7 [(4, .int (iZ (j : Int))), (3, .ref o), (2, .ref (adm 0)), (1, .ref (ad 99)), (0, .ref sc)] → LST s G nw ad adm o H1 locs1 → W pg l ev room_1 s m ar bl me c H1 locs1 (ce + 40000) (sl + 200000) Q (F0 m 2566 ls1 [])) : W pg l ev room_1 s m ar bl me c H locs ce sl Q (F0 m 2491 ls []) := by
  obtain ⟨C, ⟨hX, hsc, hL⟩, hlt, hnw, hBx, hcs, hsi, hth, hthq, hni, hRW, hlit⟩ := CX
  obtain ⟨tt, tp, ln, fa, fp, b, t, n, v, wt, un, hm, hvv, hww, fr, F, Ar, kp, L, pl, pr, pa, pm, pf, Fm, Am, fo, hDK, hMD, hH⟩ := hS
  have hDK0 := hDK
  have hMD0 := hMD
  obtain ⟨hD, ⟨hF1, hF2, hF3, hF6⟩, htt, htp, htb⟩ := hDK
  have hD0 := hD
  obtain ⟨⟨hn, hFn, hv, hAv, hwt, hAw⟩, ⟨hb, hFb, ht, hFt⟩, ⟨hun, hF14, hkt, hPD⟩, ⟨hPL, hpc⟩, hmo, hfr, h16⟩ := hD
  obtain ⟨⟨m2, m5, m6, m7, m8, m12, m13, m29, m30⟩, hA1, hA3, hA4, hPA⟩ := hMD
  have hpp := PLS_pool hPL
  have hpl := PLS_pl hPL
  have hx1 := sx_r (xs := xs) (j := j) (k := 1)
  have hx2 := sx_r (xs := xs) (j := j) (k := 2)
  have hx3 := sx_r (xs := xs) (j := j) (k := 3)
  have hx4 := sx_r (xs := xs) (j := j) (k := 4)
  have hx5 := sx_r (xs := xs) (j := j) (k := 5)
  have hnzr := nz_r (x := sx xs j 3)
  have hnzb := nz_b (x := sx xs j 3)
  refine z_aload_n C 2491 hl dL_law_2491 rfl 3 rfl ?_
  refine z_scr C hX hsc hH.2.2 2492 1 hl 0 4 rfl rfl (by omega) hL dL_law_2492 dL_law_2493 dL_law_2495 dL_law_2496 dL_law_2497 ?_
  have hM := m_X1_wide l s G H.size ad F Ar kp pl (dPool G pr pa pm pf L) n v pr pa pm pf nw b t (sx xs j 1) (by first | assumption | omega) (by first | assumption | omega) (by first | assumption | omega) (by first | assumption | omega) (by first | assumption | omega) (by first | assumption | omega) (by first | assumption | omega) (by first | assumption | omega) (by first | assumption | omega) (by first | assumption | omega) (by first | assumption | omega) (by first | assumption | omega) (by first | assumption | omega) (by first | assumption | omega)
  rw [va_up_id h16] at hM
  refine z_fr (w1 := dW ad G F Ar kp pl (dPool G pr pa pm pf L)) (z_runV C hH.2.2 hl.1 (zH_l hH).1 (zH_l hH).2.1 1 (As := [.int (iZ (sx xs j 1))]) (rest := []) hM (lw_V q1333 q1334 q1335 q89 q1336) ⟨rfl, by decide, by decide, by decide +kernel⟩ (q0 := 0) (ci := 1) rfl rfl rfl rfl (Nat.le_of_ble_eq_true rfl) ⟨Nat.le_of_ble_eq_true rfl, Nat.le_of_ble_eq_true rfl⟩ ⟨by show _ + 0 ≤ 1200144; omega, by show _ + 0 ≤ 5497402; omega⟩ dL_law_2498) hH (fun u H locs hpost hH => ?_)
  obtain ⟨r1, F2, A2⟩ := u
  obtain ⟨hs1, hk1⟩ := hpost
  have hDK2 := DKI_q hDK0 hk1
  refine z_st (st' := [.int (iZ r1)]) rfl ?_
  have hH := zH_rot hH
  refine z_aload_n C 2501 hl dL_law_2501 rfl 2 rfl ?_
  refine z_scr C hX hsc hH.2.2 2502 1 hl 0 4 rfl rfl (by omega) hL dL_law_2502 dL_law_2503 dL_law_2505 dL_law_2506 dL_law_2507 ?_
  have hM := m_X7_wide l s G H.size adm Fm Am n v (Am 3) t (sx xs j 1) (by first | assumption | omega) (by first | assumption | omega) (by first | assumption | omega) (by first | assumption | omega)
  simp only [va_up_id m2, va_up_id m5, va_up_id m6, va_up_id m7, va_up_id m8, va_up_id m12, va_up_id m13, va_up_id m29, va_up_id m30, va_up_id hA1, va_up_id (cI_self hA3), va_up_id (cI_self hA4), va_up_id (rfl : Am 9 = Am 9), va_up_id (rfl : Am 10 = Am 10), va_up_id (rfl : Am 11 = Am 11), va_up_id (rfl : Am 14 = Am 14), va_up_id (rfl : Am 15 = Am 15)] at hM
  refine z_fr (w1 := mW adm G Fm Am) (z_runV C hH.2.2 hl.1 (zH_l hH).1 (zH_l hH).2.1 1 (As := [.int (iZ (sx xs j 1))]) (rest := [.int (iZ r1)]) hM (lw_V q1928 q1929 q1930 q95 q1931) ⟨rfl, by decide, by decide, by decide +kernel⟩ (q0 := 0) (ci := 0) rfl rfl rfl rfl (Nat.le_of_ble_eq_true rfl) ⟨Nat.le_of_ble_eq_true rfl, Nat.le_of_ble_eq_true rfl⟩ ⟨by show _ + 0 ≤ 1200144; omega, by show _ + 0 ≤ 5497402; omega⟩ dL_law_2508) hH (fun u H locs hpost hH => ?_)
  obtain ⟨r7, F2m, A2m⟩ := u
  obtain ⟨hs7, hk7⟩ := hpost
  refine z_st (st' := [.int (iZ r7), .int (iZ r1)]) rfl ?_
  have hH := zH_rot hH
  refine z_same2 C 2511 2566 dL_law_2511 rfl (one_wide hs1 hs7) ?_
  exact W.widen (by omega) (by omega) (K ls _ _ hl ⟨tt, tp, ln, fa, fp, b, t, n, v, wt, un, hm, hvv, hww, fr, F2, A2, kp, L, pl, pr, pa, pm, pf, F2m, A2m, fo, hDK2, MDI_q hMD0 hk7, hH⟩)

set_option maxHeartbeats 8000000 in
theorem L_53 {pg : Program} {l : Launch} {ev : Env} {s : State} {m : MethodId} {ar : Array Value} {bl : List Frame} {me : Method} {c : Code} {Q : State → Prop} {G : zG} {sc LL : Nat} {xs : Nat → Int32} {nw : Nat} {wq wv : Nat → Nat} {lq lva : Nat} {ls : Array Slot} {H : Heap} {locs : List Loc} {ce sl : Nat} {ad adm : Nat → Nat} {o j : Nat} (CX : LCT pg l s m ar me c G sc LL xs nw wq wv lq lva) (hj : j + 6 ≤ LL) (hl : lv_has ls 7 [(4, .int (iZ (j : Int))), (3, .ref o), (2, .ref (adm 0)), (1, .ref (ad 99)), (0, .ref sc)]) (hS : LST s G nw ad adm o H locs) (hce : ce + 40000 ≤ 1200144) (hsl : sl + 200000 ≤ 5497402) (K : ∀ (ls1 : Array Slot) (H1 : Heap) (locs1 : List Loc), lv_has ls1 7 [(4, .int (iZ (j : Int))), (3, .ref o), (2, .ref (adm 0)), (1, .ref (ad 99)), (0, .ref sc)] → LST s G nw ad adm o H1 locs1 → W pg l ev room_1 s m ar bl me c H1 locs1 (ce + 40000) (sl + 200000) Q (F0 m 2566 ls1 [])) : W pg l ev room_1 s m ar bl me c H locs ce sl Q (F0 m 2516 ls []) := by
  obtain ⟨C, ⟨hX, hsc, hL⟩, hlt, hnw, hBx, hcs, hsi, hth, hthq, hni, hRW, hlit⟩ := CX
  obtain ⟨tt, tp, ln, fa, fp, b, t, n, v, wt, un, hm, hvv, hww, fr, F, Ar, kp, L, pl, pr, pa, pm, pf, Fm, Am, fo, hDK, hMD, hH⟩ := hS
  have hDK0 := hDK
  have hMD0 := hMD
  obtain ⟨hD, ⟨hF1, hF2, hF3, hF6⟩, htt, htp, htb⟩ := hDK
  have hD0 := hD
  obtain ⟨⟨hn, hFn, hv, hAv, hwt, hAw⟩, ⟨hb, hFb, ht, hFt⟩, ⟨hun, hF14, hkt, hPD⟩, ⟨hPL, hpc⟩, hmo, hfr, h16⟩ := hD
  obtain ⟨⟨m2, m5, m6, m7, m8, m12, m13, m29, m30⟩, hA1, hA3, hA4, hPA⟩ := hMD
  have hpp := PLS_pool hPL
  have hpl := PLS_pl hPL
  have hx1 := sx_r (xs := xs) (j := j) (k := 1)
  have hx2 := sx_r (xs := xs) (j := j) (k := 2)
  have hx3 := sx_r (xs := xs) (j := j) (k := 3)
  have hx4 := sx_r (xs := xs) (j := j) (k := 4)
  have hx5 := sx_r (xs := xs) (j := j) (k := 5)
  have hnzr := nz_r (x := sx xs j 3)
  have hnzb := nz_b (x := sx xs j 3)
  refine z_aload_n C 2516 hl dL_law_2516 rfl 3 rfl ?_
  refine z_scr C hX hsc hH.2.2 2517 1 hl 0 4 rfl rfl (by omega) hL dL_law_2517 dL_law_2518 dL_law_2520 dL_law_2521 dL_law_2522 ?_
  have hM := m_X1_part l s G H.size ad F Ar kp pl (dPool G pr pa pm pf L) n v pr pa pm pf nw b t (sx xs j 1) (by first | assumption | omega) (by first | assumption | omega) (by first | assumption | omega) (by first | assumption | omega) (by first | assumption | omega) (by first | assumption | omega) (by first | assumption | omega) (by first | assumption | omega) (by first | assumption | omega) (by first | assumption | omega) (by first | assumption | omega) (by first | assumption | omega) (by first | assumption | omega) (by first | assumption | omega)
  rw [va_up_id h16] at hM
  refine z_fr (w1 := dW ad G F Ar kp pl (dPool G pr pa pm pf L)) (z_runV C hH.2.2 hl.1 (zH_l hH).1 (zH_l hH).2.1 1 (As := [.int (iZ (sx xs j 1))]) (rest := []) hM (lw_V q1341 q1342 q1343 q89 q1344) ⟨rfl, by decide, by decide, by decide +kernel⟩ (q0 := 0) (ci := 1) rfl rfl rfl rfl (Nat.le_of_ble_eq_true rfl) ⟨Nat.le_of_ble_eq_true rfl, Nat.le_of_ble_eq_true rfl⟩ ⟨by show _ + 0 ≤ 1200144; omega, by show _ + 0 ≤ 5497402; omega⟩ dL_law_2523) hH (fun u H locs hpost hH => ?_)
  obtain ⟨r1, F2, A2⟩ := u
  obtain ⟨hs1, hk1⟩ := hpost
  have hDK2 := DKI_q hDK0 hk1
  refine z_st (st' := [.int (iZ r1)]) rfl ?_
  have hH := zH_rot hH
  refine z_aload_n C 2526 hl dL_law_2526 rfl 2 rfl ?_
  refine z_scr C hX hsc hH.2.2 2527 1 hl 0 4 rfl rfl (by omega) hL dL_law_2527 dL_law_2528 dL_law_2530 dL_law_2531 dL_law_2532 ?_
  have hM := m_X7_part l s G H.size adm Fm Am n v (Am 3) t (sx xs j 1) (by first | assumption | omega) (by first | assumption | omega) (by first | assumption | omega) (by first | assumption | omega)
  simp only [va_up_id m2, va_up_id m5, va_up_id m6, va_up_id m7, va_up_id m8, va_up_id m12, va_up_id m13, va_up_id m29, va_up_id m30, va_up_id hA1, va_up_id (cI_self hA3), va_up_id (cI_self hA4), va_up_id (rfl : Am 9 = Am 9), va_up_id (rfl : Am 10 = Am 10), va_up_id (rfl : Am 11 = Am 11), va_up_id (rfl : Am 14 = Am 14), va_up_id (rfl : Am 15 = Am 15)] at hM
  refine z_fr (w1 := mW adm G Fm Am) (z_runV C hH.2.2 hl.1 (zH_l hH).1 (zH_l hH).2.1 1 (As := [.int (iZ (sx xs j 1))]) (rest := [.int (iZ r1)]) hM (lw_V q1956 q1957 q1958 q95 q1959) ⟨rfl, by decide, by decide, by decide +kernel⟩ (q0 := 0) (ci := 0) rfl rfl rfl rfl (Nat.le_of_ble_eq_true rfl) ⟨Nat.le_of_ble_eq_true rfl, Nat.le_of_ble_eq_true rfl⟩ ⟨by show _ + 0 ≤ 1200144; omega, by show _ + 0 ≤ 5497402; omega⟩ dL_law_2533) hH (fun u H locs hpost hH => ?_)
  obtain ⟨r7, F2m, A2m⟩ := u
  obtain ⟨hs7, hk7⟩ := hpost
  refine z_st (st' := [.int (iZ r7), .int (iZ r1)]) rfl ?_
  have hH := zH_rot hH
  refine z_same2 C 2536 2566 dL_law_2536 rfl (one_part hs1 hs7) ?_
  exact W.widen (by omega) (by omega) (K ls _ _ hl ⟨tt, tp, ln, fa, fp, b, t, n, v, wt, un, hm, hvv, hww, fr, F2, A2, kp, L, pl, pr, pa, pm, pf, F2m, A2m, fo, hDK2, MDI_q hMD0 hk7, hH⟩)

set_option maxHeartbeats 8000000 in
theorem L_54 {pg : Program} {l : Launch} {ev : Env} {s : State} {m : MethodId} {ar : Array Value} {bl : List Frame} {me : Method} {c : Code} {Q : State → Prop} {G : zG} {sc LL : Nat} {xs : Nat → Int32} {nw : Nat} {wq wv : Nat → Nat} {lq lva : Nat} {ls : Array Slot} {H : Heap} {locs : List Loc} {ce sl : Nat} {ad adm : Nat → Nat} {o j : Nat} (CX : LCT pg l s m ar me c G sc LL xs nw wq wv lq lva) (hj : j + 6 ≤ LL) (hl : lv_has ls 7 [(4, .int (iZ (j : Int))), (3, .ref o), (2, .ref (adm 0)), (1, .ref (ad 99)), (0, .ref sc)]) (hS : LST s G nw ad adm o H locs) (hce : ce + 40000 ≤ 1200144) (hsl : sl + 200000 ≤ 5497402) (K : ∀ (ls1 : Array Slot) (H1 : Heap) (locs1 : List Loc), lv_has ls1 7 [(4, .int (iZ (j : Int))), (3, .ref o), (2, .ref (adm 0)), (1, .ref (ad 99)), (0, .ref sc)] → LST s G nw ad adm o H1 locs1 → W pg l ev room_1 s m ar bl me c H1 locs1 (ce + 40000) (sl + 200000) Q (F0 m 2566 ls1 [])) : W pg l ev room_1 s m ar bl me c H locs ce sl Q (F0 m 2541 ls []) := by
  obtain ⟨C, ⟨hX, hsc, hL⟩, hlt, hnw, hBx, hcs, hsi, hth, hthq, hni, hRW, hlit⟩ := CX
  obtain ⟨tt, tp, ln, fa, fp, b, t, n, v, wt, un, hm, hvv, hww, fr, F, Ar, kp, L, pl, pr, pa, pm, pf, Fm, Am, fo, hDK, hMD, hH⟩ := hS
  have hDK0 := hDK
  have hMD0 := hMD
  obtain ⟨hD, ⟨hF1, hF2, hF3, hF6⟩, htt, htp, htb⟩ := hDK
  have hD0 := hD
  obtain ⟨⟨hn, hFn, hv, hAv, hwt, hAw⟩, ⟨hb, hFb, ht, hFt⟩, ⟨hun, hF14, hkt, hPD⟩, ⟨hPL, hpc⟩, hmo, hfr, h16⟩ := hD
  obtain ⟨⟨m2, m5, m6, m7, m8, m12, m13, m29, m30⟩, hA1, hA3, hA4, hPA⟩ := hMD
  have hpp := PLS_pool hPL
  have hpl := PLS_pl hPL
  have hx1 := sx_r (xs := xs) (j := j) (k := 1)
  have hx2 := sx_r (xs := xs) (j := j) (k := 2)
  have hx3 := sx_r (xs := xs) (j := j) (k := 3)
  have hx4 := sx_r (xs := xs) (j := j) (k := 4)
  have hx5 := sx_r (xs := xs) (j := j) (k := 5)
  have hnzr := nz_r (x := sx xs j 3)
  have hnzb := nz_b (x := sx xs j 3)
  refine z_aload_n C 2541 hl dL_law_2541 rfl 3 rfl ?_
  refine z_scr C hX hsc hH.2.2 2542 1 hl 0 4 rfl rfl (by omega) hL dL_law_2542 dL_law_2543 dL_law_2545 dL_law_2546 dL_law_2547 ?_
  have hM := m_X1_count l s G H.size ad F Ar kp pl (dPool G pr pa pm pf L) n v pr pa pm pf nw b t wt ln (un : Int) (tp : Int) (sx xs j 1) (by first | assumption | omega) (by first | assumption | omega) (by first | assumption | omega) (by first | assumption | omega) (by first | assumption | omega) (by first | assumption | omega) (by first | assumption | omega) (by first | assumption | omega) (by first | assumption | omega) (by first | assumption | omega) (by first | assumption | omega) (by first | assumption | omega) (by first | assumption | omega) (by first | assumption | omega) (by first | assumption | omega) (by first | assumption | omega) (by first | assumption | omega) (by first | assumption | omega) (by first | assumption | omega)
  rw [va_up_id h16] at hM
  refine z_fr (w1 := dW ad G F Ar kp pl (dPool G pr pa pm pf L)) (z_runV C hH.2.2 hl.1 (zH_l hH).1 (zH_l hH).2.1 1 (As := [.int (iZ (sx xs j 1))]) (rest := []) hM (lw_V q1353 q1354 q1355 q89 q1356) ⟨rfl, by decide, by decide, by decide +kernel⟩ (q0 := 0) (ci := 1) rfl rfl rfl rfl (Nat.le_of_ble_eq_true rfl) ⟨Nat.le_of_ble_eq_true rfl, Nat.le_of_ble_eq_true rfl⟩ ⟨by show _ + 0 ≤ 1200144; omega, by show _ + 0 ≤ 5497402; omega⟩ dL_law_2548) hH (fun u H locs hpost hH => ?_)
  obtain ⟨r1, F2, A2⟩ := u
  obtain ⟨hs1, hk1⟩ := hpost
  have hDK2 := DKI_q hDK0 hk1
  refine z_st (st' := [.int (iZ r1)]) rfl ?_
  have hH := zH_rot hH
  refine z_aload_n C 2551 hl dL_law_2551 rfl 2 rfl ?_
  refine z_scr C hX hsc hH.2.2 2552 1 hl 0 4 rfl rfl (by omega) hL dL_law_2552 dL_law_2553 dL_law_2555 dL_law_2556 dL_law_2557 ?_
  have hM := m_X7_count l s G H.size adm Fm Am n v (Am 3) t wt (Am 4) b ln (un : Int) (tp : Int) (sx xs j 1) (by first | assumption | omega) (by first | assumption | omega) (by first | assumption | omega) (by first | assumption | omega) (by first | assumption | omega) (by first | assumption | omega)
  simp only [va_up_id m2, va_up_id m5, va_up_id m6, va_up_id m7, va_up_id m8, va_up_id m12, va_up_id m13, va_up_id m29, va_up_id m30, va_up_id hA1, va_up_id (cI_self hA3), va_up_id (cI_self hA4), va_up_id (rfl : Am 9 = Am 9), va_up_id (rfl : Am 10 = Am 10), va_up_id (rfl : Am 11 = Am 11), va_up_id (rfl : Am 14 = Am 14), va_up_id (rfl : Am 15 = Am 15)] at hM
  refine z_fr (w1 := mW adm G Fm Am) (z_runV C hH.2.2 hl.1 (zH_l hH).1 (zH_l hH).2.1 1 (As := [.int (iZ (sx xs j 1))]) (rest := [.int (iZ r1)]) hM (lw_V q1960 q1961 q1962 q95 q1963) ⟨rfl, by decide, by decide, by decide +kernel⟩ (q0 := 0) (ci := 0) rfl rfl rfl rfl (Nat.le_of_ble_eq_true rfl) ⟨Nat.le_of_ble_eq_true rfl, Nat.le_of_ble_eq_true rfl⟩ ⟨by show _ + 0 ≤ 1200144; omega, by show _ + 0 ≤ 5497402; omega⟩ dL_law_2558) hH (fun u H locs hpost hH => ?_)
  obtain ⟨r7, F2m, A2m⟩ := u
  obtain ⟨hs7, hk7⟩ := hpost
  refine z_st (st' := [.int (iZ r7), .int (iZ r1)]) rfl ?_
  have hH := zH_rot hH
  refine z_same2 C 2561 2566 dL_law_2561 rfl (one_count hs1 hs7) ?_
  exact W.widen (by omega) (by omega) (K ls _ _ hl ⟨tt, tp, ln, fa, fp, b, t, n, v, wt, un, hm, hvv, hww, fr, F2, A2, kp, L, pl, pr, pa, pm, pf, F2m, A2m, fo, hDK2, MDI_q hMD0 hk7, hH⟩)
