/-! the law: its cases (questions) 99zc.lc0 -/
set_option maxRecDepth 100000
set_option maxHeartbeats 8000000 in
theorem L_16 {pg : Program} {l : Launch} {ev : Env} {s : State} {m : MethodId} {ar : Array Value} {bl : List Frame} {me : Method} {c : Code} {Q : State → Prop} {G : zG} {sc LL : Nat} {xs : Nat → Int32} {nw : Nat} {wq wv : Nat → Nat} {lq lva : Nat} {ls : Array Slot} {H : Heap} {locs : List Loc} {ce sl : Nat} {ad adm : Nat → Nat} {o j : Nat} (CX : LCT pg l s m ar me c G sc LL xs nw wq wv lq lva) (hj : j + 6 ≤ LL) (hl : lv_has ls 7 [(4, .int (iZ (j : Int))), (3, .ref o), (2, .ref (adm 0)), (1, .ref (ad 99)), (0, .ref sc)]) (hS : LST s G nw ad adm o H locs) (hce : ce + 40000 ≤ 1200144) (hsl : sl + 200000 ≤ 5497402) (K : ∀ (ls1 : Array Slot) (H1 : Heap) (locs1 : List Loc), lv_has ls1 7 [(4, .int (iZ (j : Int))), (3, .ref o), (2, .ref (adm 0)), (1, .ref (ad 99)), (0, .ref sc)] → LST s G nw ad adm o H1 locs1 → W pg l ev room_1 s m ar bl me c H1 locs1 (ce + 40000) (sl + 200000) Q (F0 m 2566 ls1 [])) : W pg l ev room_1 s m ar bl me c H locs ce sl Q (F0 m 903 ls []) := by
  obtain ⟨C, ⟨hX, hsc, hL⟩, hlt, hnw, hBx, hcs, hsi, hth, hthq, hni, hRW, hlit⟩ := CX
  obtain ⟨tt, tp, ln, fa, fp, b, t, n, v, wt, un, hm, hvv, hww, fr, F, Ar, kp, L, pl, pr, pa, pm, pf, Fm, Am, fo, hDK, hMD, hH⟩ := hS
  have hDK0 := hDK
  have hMD0 := hMD
  obtain ⟨hD, ⟨hF1, hF2, hF3, hF6⟩, htt, htp, htb⟩ := hDK
  have hD0 := hD
  obtain ⟨⟨hn, hFn, hv, hAv, hwt, hAw⟩, ⟨hb, hFb, ht, hFt⟩, ⟨hun, hF14, hkt, hPD⟩, ⟨hPL, hpc⟩, hmo, hfr, h16⟩ := hD
  obtain ⟨⟨m2, m5, m6, m7, m8, m12, m13, m29, m30⟩, hA1, hA3, hA4, hPA⟩ := hMD
  have hpp := PLS_pool hPL
  have hpl := PLS_pl hPL
  have hx1 := sx_r (xs := xs) (j := j) (k := 1)
  have hx2 := sx_r (xs := xs) (j := j) (k := 2)
  have hx3 := sx_r (xs := xs) (j := j) (k := 3)
  have hx4 := sx_r (xs := xs) (j := j) (k := 4)
  have hx5 := sx_r (xs := xs) (j := j) (k := 5)
  have hnzr := nz_r (x := sx xs j 3)
  have hnzb := nz_b (x := sx xs j 3)
  refine z_aload_n C 903 hl dL_law_903 rfl 3 rfl ?_
  refine z_scr C hX hsc hH.2.2 904 1 hl 0 4 rfl rfl (by omega) hL dL_law_904 dL_law_905 dL_law_907 dL_law_908 dL_law_909 ?_
  refine z_scr C hX hsc hH.2.2 910 2 hl 0 4 rfl rfl (by omega) hL dL_law_910 dL_law_911 dL_law_913 dL_law_914 dL_law_915 ?_
  have hM := m_X1_was l s G H.size ad F Ar kp pl (dPool G pr pa pm pf L) n v pr pa pm pf nw b t un hm hvv hww (sx xs j 1) (sx xs j 2) (by first | assumption | omega) (by first | assumption | omega) (by first | assumption | omega) (by first | assumption | omega) (by first | assumption | omega) (by first | assumption | omega) (by first | assumption | omega) (by first | assumption | omega) (by first | assumption | omega) (by first | assumption | omega) (by first | assumption | omega) (by first | assumption | omega) (by first | assumption | omega) (by first | assumption | omega) (by first | assumption | omega) (by first | assumption | omega) (by first | assumption | omega) (by first | assumption | omega) (by first | assumption | omega)
  rw [va_up_id h16] at hM
  refine z_fr (w1 := dW ad G F Ar kp pl (dPool G pr pa pm pf L)) (z_runV C hH.2.2 hl.1 (zH_l hH).1 (zH_l hH).2.1 2 (As := [.int (iZ (sx xs j 1)), .int (iZ (sx xs j 2))]) (rest := []) hM (lw_V q1031 q1032 q1033 q89 q1034) ⟨rfl, by decide, by decide, by decide +kernel⟩ (q0 := 0) (ci := 1) rfl rfl rfl rfl (Nat.le_of_ble_eq_true rfl) ⟨Nat.le_of_ble_eq_true rfl, Nat.le_of_ble_eq_true rfl⟩ ⟨by show _ + 0 ≤ 1200144; omega, by show _ + 0 ≤ 5497402; omega⟩ dL_law_916) hH (fun u H locs hpost hH => ?_)
  obtain ⟨r1, F2, A2⟩ := u
  obtain ⟨hs1, hk1⟩ := hpost
  have hDK2 := DKI_q hDK0 hk1
  refine z_st (st' := [.int (iZ r1)]) rfl ?_
  have hH := zH_rot hH
  refine z_aload_n C 919 hl dL_law_919 rfl 2 rfl ?_
  refine z_scr C hX hsc hH.2.2 920 1 hl 0 4 rfl rfl (by omega) hL dL_law_920 dL_law_921 dL_law_923 dL_law_924 dL_law_925 ?_
  refine z_scr C hX hsc hH.2.2 926 2 hl 0 4 rfl rfl (by omega) hL dL_law_926 dL_law_927 dL_law_929 dL_law_930 dL_law_931 ?_
  have hM := m_X7_was l s G H.size adm Fm Am n v (Am 3) t un hm hvv hww (Am 9) (Am 10) (Am 11) (sx xs j 1) (sx xs j 2) (by first | assumption | omega) (by first | assumption | omega) (by first | assumption | omega) (by first | assumption | omega) (by first | assumption | omega) (by first | assumption | omega) (by first | assumption | omega)
  simp only [va_up_id m2, va_up_id m5, va_up_id m6, va_up_id m7, va_up_id m8, va_up_id m12, va_up_id m13, va_up_id m29, va_up_id m30, va_up_id hA1, va_up_id (cI_self hA3), va_up_id (cI_self hA4), va_up_id (rfl : Am 9 = Am 9), va_up_id (rfl : Am 10 = Am 10), va_up_id (rfl : Am 11 = Am 11), va_up_id (rfl : Am 14 = Am 14), va_up_id (rfl : Am 15 = Am 15)] at hM
  refine z_fr (w1 := mW adm G Fm Am) (z_runV C hH.2.2 hl.1 (zH_l hH).1 (zH_l hH).2.1 2 (As := [.int (iZ (sx xs j 1)), .int (iZ (sx xs j 2))]) (rest := [.int (iZ r1)]) hM (lw_V q1752 q1753 q1754 q95 q1755) ⟨rfl, by decide, by decide, by decide +kernel⟩ (q0 := 0) (ci := 0) rfl rfl rfl rfl (Nat.le_of_ble_eq_true rfl) ⟨Nat.le_of_ble_eq_true rfl, Nat.le_of_ble_eq_true rfl⟩ ⟨by show _ + 0 ≤ 1200144; omega, by show _ + 0 ≤ 5497402; omega⟩ dL_law_932) hH (fun u H locs hpost hH => ?_)
  obtain ⟨r7, F2m, A2m⟩ := u
  obtain ⟨hs7, hk7⟩ := hpost
  refine z_st (st' := [.int (iZ r7), .int (iZ r1)]) rfl ?_
  have hH := zH_rot hH
  refine z_same2 C 935 2566 dL_law_935 rfl (one_was hs1 hs7) ?_
  exact W.widen (by omega) (by omega) (K ls _ _ hl ⟨tt, tp, ln, fa, fp, b, t, n, v, wt, un, hm, hvv, hww, fr, F2, A2, kp, L, pl, pr, pa, pm, pf, F2m, A2m, fo, hDK2, MDI_q hMD0 hk7, hH⟩)

set_option maxHeartbeats 8000000 in
theorem L_17 {pg : Program} {l : Launch} {ev : Env} {s : State} {m : MethodId} {ar : Array Value} {bl : List Frame} {me : Method} {c : Code} {Q : State → Prop} {G : zG} {sc LL : Nat} {xs : Nat → Int32} {nw : Nat} {wq wv : Nat → Nat} {lq lva : Nat} {ls : Array Slot} {H : Heap} {locs : List Loc} {ce sl : Nat} {ad adm : Nat → Nat} {o j : Nat} (CX : LCT pg l s m ar me c G sc LL xs nw wq wv lq lva) (hj : j + 6 ≤ LL) (hl : lv_has ls 7 [(4, .int (iZ (j : Int))), (3, .ref o), (2, .ref (adm 0)), (1, .ref (ad 99)), (0, .ref sc)]) (hS : LST s G nw ad adm o H locs) (hce : ce + 40000 ≤ 1200144) (hsl : sl + 200000 ≤ 5497402) (K : ∀ (ls1 : Array Slot) (H1 : Heap) (locs1 : List Loc), lv_has ls1 7 [(4, .int (iZ (j : Int))), (3, .ref o), (2, .ref (adm 0)), (1, .ref (ad 99)), (0, .ref sc)] → LST s G nw ad adm o H1 locs1 → W pg l ev room_1 s m ar bl me c H1 locs1 (ce + 40000) (sl + 200000) Q (F0 m 2566 ls1 [])) : W pg l ev room_1 s m ar bl me c H locs ce sl Q (F0 m 940 ls []) := by
  obtain ⟨C, ⟨hX, hsc, hL⟩, hlt, hnw, hBx, hcs, hsi, hth, hthq, hni, hRW, hlit⟩ := CX
  obtain ⟨tt, tp, ln, fa, fp, b, t, n, v, wt, un, hm, hvv, hww, fr, F, Ar, kp, L, pl, pr, pa, pm, pf, Fm, Am, fo, hDK, hMD, hH⟩ := hS
  have hDK0 := hDK
  have hMD0 := hMD
  obtain ⟨hD, ⟨hF1, hF2, hF3, hF6⟩, htt, htp, htb⟩ := hDK
  have hD0 := hD
  obtain ⟨⟨hn, hFn, hv, hAv, hwt, hAw⟩, ⟨hb, hFb, ht, hFt⟩, ⟨hun, hF14, hkt, hPD⟩, ⟨hPL, hpc⟩, hmo, hfr, h16⟩ := hD
  obtain ⟨⟨m2, m5, m6, m7, m8, m12, m13, m29, m30⟩, hA1, hA3, hA4, hPA⟩ := hMD
  have hpp := PLS_pool hPL
  have hpl := PLS_pl hPL
  have hx1 := sx_r (xs := xs) (j := j) (k := 1)
  have hx2 := sx_r (xs := xs) (j := j) (k := 2)
  have hx3 := sx_r (xs := xs) (j := j) (k := 3)
  have hx4 := sx_r (xs := xs) (j := j) (k := 4)
  have hx5 := sx_r (xs := xs) (j := j) (k := 5)
  have hnzr := nz_r (x := sx xs j 3)
  have hnzb := nz_b (x := sx xs j 3)
  refine z_aload_n C 940 hl dL_law_940 rfl 3 rfl ?_
  refine z_scr C hX hsc hH.2.2 941 1 hl 0 4 rfl rfl (by omega) hL dL_law_941 dL_law_942 dL_law_944 dL_law_945 dL_law_946 ?_
  refine z_scr C hX hsc hH.2.2 947 2 hl 0 4 rfl rfl (by omega) hL dL_law_947 dL_law_948 dL_law_950 dL_law_951 dL_law_952 ?_
  refine z_scr C hX hsc hH.2.2 953 3 hl 0 4 rfl rfl (by omega) hL dL_law_953 dL_law_954 dL_law_956 dL_law_957 dL_law_958 ?_
  have hM := m_X1_mode l s G H.size ad F Ar kp pl (dPool G pr pa pm pf L) n v pr pa pm pf nw b t (sx xs j 1) (sx xs j 2) (sx xs j 3) (by first | assumption | omega) (by first | assumption | omega) (by first | assumption | omega) (by first | assumption | omega) (by first | assumption | omega) (by first | assumption | omega) (by first | assumption | omega) (by first | assumption | omega) (by first | assumption | omega) (by first | assumption | omega) (by first | assumption | omega) (by first | assumption | omega) (by first | assumption | omega) (by first | assumption | omega) (by first | assumption | omega) (by first | assumption | omega)
  rw [va_up_id h16] at hM
  refine z_fr (w1 := dW ad G F Ar kp pl (dPool G pr pa pm pf L)) (z_runV C hH.2.2 hl.1 (zH_l hH).1 (zH_l hH).2.1 3 (As := [.int (iZ (sx xs j 1)), .int (iZ (sx xs j 2)), .int (iZ (sx xs j 3))]) (rest := []) hM (lw_V q1035 q1036 q1037 q89 q1038) ⟨rfl, by decide, by decide, by decide +kernel⟩ (q0 := 0) (ci := 1) rfl rfl rfl rfl (Nat.le_of_ble_eq_true rfl) ⟨Nat.le_of_ble_eq_true rfl, Nat.le_of_ble_eq_true rfl⟩ ⟨by show _ + 0 ≤ 1200144; omega, by show _ + 0 ≤ 5497402; omega⟩ dL_law_959) hH (fun u H locs hpost hH => ?_)
  obtain ⟨r1, F2, A2⟩ := u
  obtain ⟨hs1, hk1⟩ := hpost
  have hDK2 := DKI_q hDK0 hk1
  refine z_st (st' := [.int (iZ r1)]) rfl ?_
  have hH := zH_rot hH
  refine z_aload_n C 962 hl dL_law_962 rfl 2 rfl ?_
  refine z_scr C hX hsc hH.2.2 963 1 hl 0 4 rfl rfl (by omega) hL dL_law_963 dL_law_964 dL_law_966 dL_law_967 dL_law_968 ?_
  refine z_scr C hX hsc hH.2.2 969 2 hl 0 4 rfl rfl (by omega) hL dL_law_969 dL_law_970 dL_law_972 dL_law_973 dL_law_974 ?_
  refine z_scr C hX hsc hH.2.2 975 3 hl 0 4 rfl rfl (by omega) hL dL_law_975 dL_law_976 dL_law_978 dL_law_979 dL_law_980 ?_
  have hM := m_X7_mode l s G H.size adm Fm Am n v (Am 3) t (sx xs j 1) (sx xs j 2) (sx xs j 3) (by first | assumption | omega) (by first | assumption | omega) (by first | assumption | omega) (by first | assumption | omega) (by first | assumption | omega) (by first | assumption | omega)
  simp only [va_up_id m2, va_up_id m5, va_up_id m6, va_up_id m7, va_up_id m8, va_up_id m12, va_up_id m13, va_up_id m29, va_up_id m30, va_up_id hA1, va_up_id (cI_self hA3), va_up_id (cI_self hA4), va_up_id (rfl : Am 9 = Am 9), va_up_id (rfl : Am 10 = Am 10), va_up_id (rfl : Am 11 = Am 11), va_up_id (rfl : Am 14 = Am 14), va_up_id (rfl : Am 15 = Am 15)] at hM
  refine z_fr (w1 := mW adm G Fm Am) (z_runV C hH.2.2 hl.1 (zH_l hH).1 (zH_l hH).2.1 3 (As := [.int (iZ (sx xs j 1)), .int (iZ (sx xs j 2)), .int (iZ (sx xs j 3))]) (rest := [.int (iZ r1)]) hM (lw_V q1756 q1757 q1758 q95 q1759) ⟨rfl, by decide, by decide, by decide +kernel⟩ (q0 := 0) (ci := 0) rfl rfl rfl rfl (Nat.le_of_ble_eq_true rfl) ⟨Nat.le_of_ble_eq_true rfl, Nat.le_of_ble_eq_true rfl⟩ ⟨by show _ + 0 ≤ 1200144; omega, by show _ + 0 ≤ 5497402; omega⟩ dL_law_981) hH (fun u H locs hpost hH => ?_)
  obtain ⟨r7, F2m, A2m⟩ := u
  obtain ⟨hs7, hk7⟩ := hpost
  refine z_st (st' := [.int (iZ r7), .int (iZ r1)]) rfl ?_
  have hH := zH_rot hH
  refine z_same2 C 984 2566 dL_law_984 rfl (one_mode hs1 hs7) ?_
  exact W.widen (by omega) (by omega) (K ls _ _ hl ⟨tt, tp, ln, fa, fp, b, t, n, v, wt, un, hm, hvv, hww, fr, F2, A2, kp, L, pl, pr, pa, pm, pf, F2m, A2m, fo, hDK2, MDI_q hMD0 hk7, hH⟩)

set_option maxHeartbeats 8000000 in
theorem L_18 {pg : Program} {l : Launch} {ev : Env} {s : State} {m : MethodId} {ar : Array Value} {bl : List Frame} {me : Method} {c : Code} {Q : State → Prop} {G : zG} {sc LL : Nat} {xs : Nat → Int32} {nw : Nat} {wq wv : Nat → Nat} {lq lva : Nat} {ls : Array Slot} {H : Heap} {locs : List Loc} {ce sl : Nat} {ad adm : Nat → Nat} {o j : Nat} (CX : LCT pg l s m ar me c G sc LL xs nw wq wv lq lva) (hj : j + 6 ≤ LL) (hl : lv_has ls 7 [(4, .int (iZ (j : Int))), (3, .ref o), (2, .ref (adm 0)), (1, .ref (ad 99)), (0, .ref sc)]) (hS : LST s G nw ad adm o H locs) (hce : ce + 40000 ≤ 1200144) (hsl : sl + 200000 ≤ 5497402) (K : ∀ (ls1 : Array Slot) (H1 : Heap) (locs1 : List Loc), lv_has ls1 7 [(4, .int (iZ (j : Int))), (3, .ref o), (2, .ref (adm 0)), (1, .ref (ad 99)), (0, .ref sc)] → LST s G nw ad adm o H1 locs1 → W pg l ev room_1 s m ar bl me c H1 locs1 (ce + 40000) (sl + 200000) Q (F0 m 2566 ls1 [])) : W pg l ev room_1 s m ar bl me c H locs ce sl Q (F0 m 989 ls []) := by
  obtain ⟨C, ⟨hX, hsc, hL⟩, hlt, hnw, hBx, hcs, hsi, hth, hthq, hni, hRW, hlit⟩ := CX
  obtain ⟨tt, tp, ln, fa, fp, b, t, n, v, wt, un, hm, hvv, hww, fr, F, Ar, kp, L, pl, pr, pa, pm, pf, Fm, Am, fo, hDK, hMD, hH⟩ := hS
  have hDK0 := hDK
  have hMD0 := hMD
  obtain ⟨hD, ⟨hF1, hF2, hF3, hF6⟩, htt, htp, htb⟩ := hDK
  have hD0 := hD
  obtain ⟨⟨hn, hFn, hv, hAv, hwt, hAw⟩, ⟨hb, hFb, ht, hFt⟩, ⟨hun, hF14, hkt, hPD⟩, ⟨hPL, hpc⟩, hmo, hfr, h16⟩ := hD
  obtain ⟨⟨m2, m5, m6, m7, m8, m12, m13, m29, m30⟩, hA1, hA3, hA4, hPA⟩ := hMD
  have hpp := PLS_pool hPL
  have hpl := PLS_pl hPL
  have hx1 := sx_r (xs := xs) (j := j) (k := 1)
  have hx2 := sx_r (xs := xs) (j := j) (k := 2)
  have hx3 := sx_r (xs := xs) (j := j) (k := 3)
  have hx4 := sx_r (xs := xs) (j := j) (k := 4)
  have hx5 := sx_r (xs := xs) (j := j) (k := 5)
  have hnzr := nz_r (x := sx xs j 3)
  have hnzb := nz_b (x := sx xs j 3)
  refine z_aload_n C 989 hl dL_law_989 rfl 3 rfl ?_
  refine z_scr C hX hsc hH.2.2 990 1 hl 0 4 rfl rfl (by omega) hL dL_law_990 dL_law_991 dL_law_993 dL_law_994 dL_law_995 ?_
  refine z_scr C hX hsc hH.2.2 996 2 hl 0 4 rfl rfl (by omega) hL dL_law_996 dL_law_997 dL_law_999 dL_law_1000 dL_law_1001 ?_
  refine z_scr C hX hsc hH.2.2 1002 3 hl 0 4 rfl rfl (by omega) hL dL_law_1002 dL_law_1003 dL_law_1005 dL_law_1006 dL_law_1007 ?_
  refine z_scr C hX hsc hH.2.2 1008 4 hl 0 4 rfl rfl (by omega) hL dL_law_1008 dL_law_1009 dL_law_1011 dL_law_1012 dL_law_1013 ?_
  have hM := m_X1_ranked l s G H.size ad F Ar kp pl (dPool G pr pa pm pf L) n v pr pa pm pf nw b t (sx xs j 1) (sx xs j 2) (sx xs j 3) (sx xs j 4) (by first | assumption | omega) (by first | assumption | omega) (by first | assumption | omega) (by first | assumption | omega) (by first | assumption | omega) (by first | assumption | omega) (by first | assumption | omega) (by first | assumption | omega) (by first | assumption | omega) (by first | assumption | omega) (by first | assumption | omega) (by first | assumption | omega) (by first | assumption | omega) (by first | assumption | omega) (by first | assumption | omega) (by first | assumption | omega) (by first | assumption | omega)
  rw [va_up_id h16] at hM
  refine z_fr (w1 := dW ad G F Ar kp pl (dPool G pr pa pm pf L)) (z_runV C hH.2.2 hl.1 (zH_l hH).1 (zH_l hH).2.1 4 (As := [.int (iZ (sx xs j 1)), .int (iZ (sx xs j 2)), .int (iZ (sx xs j 3)), .int (iZ (sx xs j 4))]) (rest := []) hM (lw_V q1047 q1048 q1049 q89 q1050) ⟨rfl, by decide, by decide, by decide +kernel⟩ (q0 := 0) (ci := 1) rfl rfl rfl rfl (Nat.le_of_ble_eq_true rfl) ⟨Nat.le_of_ble_eq_true rfl, Nat.le_of_ble_eq_true rfl⟩ ⟨by show _ + 0 ≤ 1200144; omega, by show _ + 0 ≤ 5497402; omega⟩ dL_law_1014) hH (fun u H locs hpost hH => ?_)
  obtain ⟨r1, F2, A2⟩ := u
  obtain ⟨hs1, hk1⟩ := hpost
  have hDK2 := DKI_q hDK0 hk1
  refine z_st (st' := [.int (iZ r1)]) rfl ?_
  have hH := zH_rot hH
  refine z_aload_n C 1017 hl dL_law_1017 rfl 2 rfl ?_
  refine z_scr C hX hsc hH.2.2 1018 1 hl 0 4 rfl rfl (by omega) hL dL_law_1018 dL_law_1019 dL_law_1021 dL_law_1022 dL_law_1023 ?_
  refine z_scr C hX hsc hH.2.2 1024 2 hl 0 4 rfl rfl (by omega) hL dL_law_1024 dL_law_1025 dL_law_1027 dL_law_1028 dL_law_1029 ?_
  refine z_scr C hX hsc hH.2.2 1030 3 hl 0 4 rfl rfl (by omega) hL dL_law_1030 dL_law_1031 dL_law_1033 dL_law_1034 dL_law_1035 ?_
  refine z_scr C hX hsc hH.2.2 1036 4 hl 0 4 rfl rfl (by omega) hL dL_law_1036 dL_law_1037 dL_law_1039 dL_law_1040 dL_law_1041 ?_
  have hM := m_X7_ranked l s G H.size adm Fm Am n v (Am 3) t (sx xs j 1) (sx xs j 2) (sx xs j 3) (sx xs j 4) (by first | assumption | omega) (by first | assumption | omega) (by first | assumption | omega) (by first | assumption | omega) (by first | assumption | omega) (by first | assumption | omega) (by first | assumption | omega)
  simp only [va_up_id m2, va_up_id m5, va_up_id m6, va_up_id m7, va_up_id m8, va_up_id m12, va_up_id m13, va_up_id m29, va_up_id m30, va_up_id hA1, va_up_id (cI_self hA3), va_up_id (cI_self hA4), va_up_id (rfl : Am 9 = Am 9), va_up_id (rfl : Am 10 = Am 10), va_up_id (rfl : Am 11 = Am 11), va_up_id (rfl : Am 14 = Am 14), va_up_id (rfl : Am 15 = Am 15)] at hM
  refine z_fr (w1 := mW adm G Fm Am) (z_runV C hH.2.2 hl.1 (zH_l hH).1 (zH_l hH).2.1 4 (As := [.int (iZ (sx xs j 1)), .int (iZ (sx xs j 2)), .int (iZ (sx xs j 3)), .int (iZ (sx xs j 4))]) (rest := [.int (iZ r1)]) hM (lw_V q1780 q1781 q1782 q95 q1783) ⟨rfl, by decide, by decide, by decide +kernel⟩ (q0 := 0) (ci := 0) rfl rfl rfl rfl (Nat.le_of_ble_eq_true rfl) ⟨Nat.le_of_ble_eq_true rfl, Nat.le_of_ble_eq_true rfl⟩ ⟨by show _ + 0 ≤ 1200144; omega, by show _ + 0 ≤ 5497402; omega⟩ dL_law_1042) hH (fun u H locs hpost hH => ?_)
  obtain ⟨r7, F2m, A2m⟩ := u
  obtain ⟨hs7, hk7⟩ := hpost
  refine z_st (st' := [.int (iZ r7), .int (iZ r1)]) rfl ?_
  have hH := zH_rot hH
  refine z_same2 C 1045 2566 dL_law_1045 rfl (one_ranked hs1 hs7) ?_
  exact W.widen (by omega) (by omega) (K ls _ _ hl ⟨tt, tp, ln, fa, fp, b, t, n, v, wt, un, hm, hvv, hww, fr, F2, A2, kp, L, pl, pr, pa, pm, pf, F2m, A2m, fo, hDK2, MDI_q hMD0 hk7, hH⟩)

set_option maxHeartbeats 8000000 in
theorem L_19 {pg : Program} {l : Launch} {ev : Env} {s : State} {m : MethodId} {ar : Array Value} {bl : List Frame} {me : Method} {c : Code} {Q : State → Prop} {G : zG} {sc LL : Nat} {xs : Nat → Int32} {nw : Nat} {wq wv : Nat → Nat} {lq lva : Nat} {ls : Array Slot} {H : Heap} {locs : List Loc} {ce sl : Nat} {ad adm : Nat → Nat} {o j : Nat} (CX : LCT pg l s m ar me c G sc LL xs nw wq wv lq lva) (hj : j + 6 ≤ LL) (hl : lv_has ls 7 [(4, .int (iZ (j : Int))), (3, .ref o), (2, .ref (adm 0)), (1, .ref (ad 99)), (0, .ref sc)]) (hS : LST s G nw ad adm o H locs) (hce : ce + 40000 ≤ 1200144) (hsl : sl + 200000 ≤ 5497402) (K : ∀ (ls1 : Array Slot) (H1 : Heap) (locs1 : List Loc), lv_has ls1 7 [(4, .int (iZ (j : Int))), (3, .ref o), (2, .ref (adm 0)), (1, .ref (ad 99)), (0, .ref sc)] → LST s G nw ad adm o H1 locs1 → W pg l ev room_1 s m ar bl me c H1 locs1 (ce + 40000) (sl + 200000) Q (F0 m 2566 ls1 [])) : W pg l ev room_1 s m ar bl me c H locs ce sl Q (F0 m 1050 ls []) := by
  obtain ⟨C, ⟨hX, hsc, hL⟩, hlt, hnw, hBx, hcs, hsi, hth, hthq, hni, hRW, hlit⟩ := CX
  obtain ⟨tt, tp, ln, fa, fp, b, t, n, v, wt, un, hm, hvv, hww, fr, F, Ar, kp, L, pl, pr, pa, pm, pf, Fm, Am, fo, hDK, hMD, hH⟩ := hS
  have hDK0 := hDK
  have hMD0 := hMD
  obtain ⟨hD, ⟨hF1, hF2, hF3, hF6⟩, htt, htp, htb⟩ := hDK
  have hD0 := hD
  obtain ⟨⟨hn, hFn, hv, hAv, hwt, hAw⟩, ⟨hb, hFb, ht, hFt⟩, ⟨hun, hF14, hkt, hPD⟩, ⟨hPL, hpc⟩, hmo, hfr, h16⟩ := hD
  obtain ⟨⟨m2, m5, m6, m7, m8, m12, m13, m29, m30⟩, hA1, hA3, hA4, hPA⟩ := hMD
  have hpp := PLS_pool hPL
  have hpl := PLS_pl hPL
  have hx1 := sx_r (xs := xs) (j := j) (k := 1)
  have hx2 := sx_r (xs := xs) (j := j) (k := 2)
  have hx3 := sx_r (xs := xs) (j := j) (k := 3)
  have hx4 := sx_r (xs := xs) (j := j) (k := 4)
  have hx5 := sx_r (xs := xs) (j := j) (k := 5)
  have hnzr := nz_r (x := sx xs j 3)
  have hnzb := nz_b (x := sx xs j 3)
  refine z_aload_n C 1050 hl dL_law_1050 rfl 3 rfl ?_
  refine z_scr C hX hsc hH.2.2 1051 1 hl 0 4 rfl rfl (by omega) hL dL_law_1051 dL_law_1052 dL_law_1054 dL_law_1055 dL_law_1056 ?_
  refine z_scr C hX hsc hH.2.2 1057 2 hl 0 4 rfl rfl (by omega) hL dL_law_1057 dL_law_1058 dL_law_1060 dL_law_1061 dL_law_1062 ?_
  refine z_scr C hX hsc hH.2.2 1063 3 hl 0 4 rfl rfl (by omega) hL dL_law_1063 dL_law_1064 dL_law_1066 dL_law_1067 dL_law_1068 ?_
  have hM := m_X1_rank l s G H.size ad F Ar kp pl (dPool G pr pa pm pf L) n v pr pa pm pf nw b t (sx xs j 1) (sx xs j 2) (sx xs j 3) (by first | assumption | omega) (by first | assumption | omega) (by first | assumption | omega) (by first | assumption | omega) (by first | assumption | omega) (by first | assumption | omega) (by first | assumption | omega) (by first | assumption | omega) (by first | assumption | omega) (by first | assumption | omega) (by first | assumption | omega) (by first | assumption | omega) (by first | assumption | omega) (by first | assumption | omega) (by first | assumption | omega) (by first | assumption | omega)
  rw [va_up_id h16] at hM
  refine z_fr (w1 := dW ad G F Ar kp pl (dPool G pr pa pm pf L)) (z_runV C hH.2.2 hl.1 (zH_l hH).1 (zH_l hH).2.1 3 (As := [.int (iZ (sx xs j 1)), .int (iZ (sx xs j 2)), .int (iZ (sx xs j 3))]) (rest := []) hM (lw_V q1059 q1060 q1061 q89 q1062) ⟨rfl, by decide, by decide, by decide +kernel⟩ (q0 := 0) (ci := 1) rfl rfl rfl rfl (Nat.le_of_ble_eq_true rfl) ⟨Nat.le_of_ble_eq_true rfl, Nat.le_of_ble_eq_true rfl⟩ ⟨by show _ + 0 ≤ 1200144; omega, by show _ + 0 ≤ 5497402; omega⟩ dL_law_1069) hH (fun u H locs hpost hH => ?_)
  obtain ⟨r1, F2, A2⟩ := u
  obtain ⟨hs1, hk1⟩ := hpost
  have hDK2 := DKI_q hDK0 hk1
  refine z_st (st' := [.int (iZ r1)]) rfl ?_
  have hH := zH_rot hH
  refine z_aload_n C 1072 hl dL_law_1072 rfl 2 rfl ?_
  refine z_scr C hX hsc hH.2.2 1073 1 hl 0 4 rfl rfl (by omega) hL dL_law_1073 dL_law_1074 dL_law_1076 dL_law_1077 dL_law_1078 ?_
  refine z_scr C hX hsc hH.2.2 1079 2 hl 0 4 rfl rfl (by omega) hL dL_law_1079 dL_law_1080 dL_law_1082 dL_law_1083 dL_law_1084 ?_
  refine z_scr C hX hsc hH.2.2 1085 3 hl 0 4 rfl rfl (by omega) hL dL_law_1085 dL_law_1086 dL_law_1088 dL_law_1089 dL_law_1090 ?_
  have hM := m_X7_rank l s G H.size adm Fm Am n v (Am 3) t (sx xs j 1) (sx xs j 2) (sx xs j 3) (by first | assumption | omega) (by first | assumption | omega) (by first | assumption | omega) (by first | assumption | omega) (by first | assumption | omega) (by first | assumption | omega)
  simp only [va_up_id m2, va_up_id m5, va_up_id m6, va_up_id m7, va_up_id m8, va_up_id m12, va_up_id m13, va_up_id m29, va_up_id m30, va_up_id hA1, va_up_id (cI_self hA3), va_up_id (cI_self hA4), va_up_id (rfl : Am 9 = Am 9), va_up_id (rfl : Am 10 = Am 10), va_up_id (rfl : Am 11 = Am 11), va_up_id (rfl : Am 14 = Am 14), va_up_id (rfl : Am 15 = Am 15)] at hM
  refine z_fr (w1 := mW adm G Fm Am) (z_runV C hH.2.2 hl.1 (zH_l hH).1 (zH_l hH).2.1 3 (As := [.int (iZ (sx xs j 1)), .int (iZ (sx xs j 2)), .int (iZ (sx xs j 3))]) (rest := [.int (iZ r1)]) hM (lw_V q1792 q1793 q1794 q95 q1795) ⟨rfl, by decide, by decide, by decide +kernel⟩ (q0 := 0) (ci := 0) rfl rfl rfl rfl (Nat.le_of_ble_eq_true rfl) ⟨Nat.le_of_ble_eq_true rfl, Nat.le_of_ble_eq_true rfl⟩ ⟨by show _ + 0 ≤ 1200144; omega, by show _ + 0 ≤ 5497402; omega⟩ dL_law_1091) hH (fun u H locs hpost hH => ?_)
  obtain ⟨r7, F2m, A2m⟩ := u
  obtain ⟨hs7, hk7⟩ := hpost
  refine z_st (st' := [.int (iZ r7), .int (iZ r1)]) rfl ?_
  have hH := zH_rot hH
  refine z_same2 C 1094 2566 dL_law_1094 rfl (one_rank hs1 hs7) ?_
  exact W.widen (by omega) (by omega) (K ls _ _ hl ⟨tt, tp, ln, fa, fp, b, t, n, v, wt, un, hm, hvv, hww, fr, F2, A2, kp, L, pl, pr, pa, pm, pf, F2m, A2m, fo, hDK2, MDI_q hMD0 hk7, hH⟩)

set_option maxHeartbeats 8000000 in
theorem L_20 {pg : Program} {l : Launch} {ev : Env} {s : State} {m : MethodId} {ar : Array Value} {bl : List Frame} {me : Method} {c : Code} {Q : State → Prop} {G : zG} {sc LL : Nat} {xs : Nat → Int32} {nw : Nat} {wq wv : Nat → Nat} {lq lva : Nat} {ls : Array Slot} {H : Heap} {locs : List Loc} {ce sl : Nat} {ad adm : Nat → Nat} {o j : Nat} (CX : LCT pg l s m ar me c G sc LL xs nw wq wv lq lva) (hj : j + 6 ≤ LL) (hl : lv_has ls 7 [(4, .int (iZ (j : Int))), (3, .ref o), (2, .ref (adm 0)), (1, .ref (ad 99)), (0, .ref sc)]) (hS : LST s G nw ad adm o H locs) (hce : ce + 40000 ≤ 1200144) (hsl : sl + 200000 ≤ 5497402) (K : ∀ (ls1 : Array Slot) (H1 : Heap) (locs1 : List Loc), lv_has ls1 7 [(4, .int (iZ (j : Int))), (3, .ref o), (2, .ref (adm 0)), (1, .ref (ad 99)), (0, .ref sc)] → LST s G nw ad adm o H1 locs1 → W pg l ev room_1 s m ar bl me c H1 locs1 (ce + 40000) (sl + 200000) Q (F0 m 2566 ls1 [])) : W pg l ev room_1 s m ar bl me c H locs ce sl Q (F0 m 1099 ls []) := by
  obtain ⟨C, ⟨hX, hsc, hL⟩, hlt, hnw, hBx, hcs, hsi, hth, hthq, hni, hRW, hlit⟩ := CX
  obtain ⟨tt, tp, ln, fa, fp, b, t, n, v, wt, un, hm, hvv, hww, fr, F, Ar, kp, L, pl, pr, pa, pm, pf, Fm, Am, fo, hDK, hMD, hH⟩ := hS
  have hDK0 := hDK
  have hMD0 := hMD
  obtain ⟨hD, ⟨hF1, hF2, hF3, hF6⟩, htt, htp, htb⟩ := hDK
  have hD0 := hD
  obtain ⟨⟨hn, hFn, hv, hAv, hwt, hAw⟩, ⟨hb, hFb, ht, hFt⟩, ⟨hun, hF14, hkt, hPD⟩, ⟨hPL, hpc⟩, hmo, hfr, h16⟩ := hD
  obtain ⟨⟨m2, m5, m6, m7, m8, m12, m13, m29, m30⟩, hA1, hA3, hA4, hPA⟩ := hMD
  have hpp := PLS_pool hPL
  have hpl := PLS_pl hPL
  have hx1 := sx_r (xs := xs) (j := j) (k := 1)
  have hx2 := sx_r (xs := xs) (j := j) (k := 2)
  have hx3 := sx_r (xs := xs) (j := j) (k := 3)
  have hx4 := sx_r (xs := xs) (j := j) (k := 4)
  have hx5 := sx_r (xs := xs) (j := j) (k := 5)
  have hnzr := nz_r (x := sx xs j 3)
  have hnzb := nz_b (x := sx xs j 3)
  refine z_aload_n C 1099 hl dL_law_1099 rfl 3 rfl ?_
  refine z_scr C hX hsc hH.2.2 1100 1 hl 0 4 rfl rfl (by omega) hL dL_law_1100 dL_law_1101 dL_law_1103 dL_law_1104 dL_law_1105 ?_
  refine z_scr C hX hsc hH.2.2 1106 2 hl 0 4 rfl rfl (by omega) hL dL_law_1106 dL_law_1107 dL_law_1109 dL_law_1110 dL_law_1111 ?_
  refine z_scr C hX hsc hH.2.2 1112 3 hl 0 4 rfl rfl (by omega) hL dL_law_1112 dL_law_1113 dL_law_1115 dL_law_1116 dL_law_1117 ?_
  have hM := m_X1_often l s G H.size ad F Ar kp pl (dPool G pr pa pm pf L) n v pr pa pm pf nw b t (sx xs j 1) (sx xs j 2) (sx xs j 3) (by first | assumption | omega) (by first | assumption | omega) (by first | assumption | omega) (by first | assumption | omega) (by first | assumption | omega) (by first | assumption | omega) (by first | assumption | omega) (by first | assumption | omega) (by first | assumption | omega) (by first | assumption | omega) (by first | assumption | omega) (by first | assumption | omega) (by first | assumption | omega) (by first | assumption | omega) (by first | assumption | omega) (by first | assumption | omega)
  rw [va_up_id h16] at hM
  refine z_fr (w1 := dW ad G F Ar kp pl (dPool G pr pa pm pf L)) (z_runV C hH.2.2 hl.1 (zH_l hH).1 (zH_l hH).2.1 3 (As := [.int (iZ (sx xs j 1)), .int (iZ (sx xs j 2)), .int (iZ (sx xs j 3))]) (rest := []) hM (lw_V q1063 q1064 q1065 q89 q1066) ⟨rfl, by decide, by decide, by decide +kernel⟩ (q0 := 0) (ci := 1) rfl rfl rfl rfl (Nat.le_of_ble_eq_true rfl) ⟨Nat.le_of_ble_eq_true rfl, Nat.le_of_ble_eq_true rfl⟩ ⟨by show _ + 0 ≤ 1200144; omega, by show _ + 0 ≤ 5497402; omega⟩ dL_law_1118) hH (fun u H locs hpost hH => ?_)
  obtain ⟨r1, F2, A2⟩ := u
  obtain ⟨hs1, hk1⟩ := hpost
  have hDK2 := DKI_q hDK0 hk1
  refine z_st (st' := [.int (iZ r1)]) rfl ?_
  have hH := zH_rot hH
  refine z_aload_n C 1121 hl dL_law_1121 rfl 2 rfl ?_
  refine z_scr C hX hsc hH.2.2 1122 1 hl 0 4 rfl rfl (by omega) hL dL_law_1122 dL_law_1123 dL_law_1125 dL_law_1126 dL_law_1127 ?_
  refine z_scr C hX hsc hH.2.2 1128 2 hl 0 4 rfl rfl (by omega) hL dL_law_1128 dL_law_1129 dL_law_1131 dL_law_1132 dL_law_1133 ?_
  refine z_scr C hX hsc hH.2.2 1134 3 hl 0 4 rfl rfl (by omega) hL dL_law_1134 dL_law_1135 dL_law_1137 dL_law_1138 dL_law_1139 ?_
  have hM := m_X7_often l s G H.size adm Fm Am n v (Am 3) t (sx xs j 1) (sx xs j 2) (sx xs j 3) (by first | assumption | omega) (by first | assumption | omega) (by first | assumption | omega) (by first | assumption | omega) (by first | assumption | omega) (by first | assumption | omega)
  simp only [va_up_id m2, va_up_id m5, va_up_id m6, va_up_id m7, va_up_id m8, va_up_id m12, va_up_id m13, va_up_id m29, va_up_id m30, va_up_id hA1, va_up_id (cI_self hA3), va_up_id (cI_self hA4), va_up_id (rfl : Am 9 = Am 9), va_up_id (rfl : Am 10 = Am 10), va_up_id (rfl : Am 11 = Am 11), va_up_id (rfl : Am 14 = Am 14), va_up_id (rfl : Am 15 = Am 15)] at hM
  refine z_fr (w1 := mW adm G Fm Am) (z_runV C hH.2.2 hl.1 (zH_l hH).1 (zH_l hH).2.1 3 (As := [.int (iZ (sx xs j 1)), .int (iZ (sx xs j 2)), .int (iZ (sx xs j 3))]) (rest := [.int (iZ r1)]) hM (lw_V q1796 q1797 q1798 q95 q1799) ⟨rfl, by decide, by decide, by decide +kernel⟩ (q0 := 0) (ci := 0) rfl rfl rfl rfl (Nat.le_of_ble_eq_true rfl) ⟨Nat.le_of_ble_eq_true rfl, Nat.le_of_ble_eq_true rfl⟩ ⟨by show _ + 0 ≤ 1200144; omega, by show _ + 0 ≤ 5497402; omega⟩ dL_law_1140) hH (fun u H locs hpost hH => ?_)
  obtain ⟨r7, F2m, A2m⟩ := u
  obtain ⟨hs7, hk7⟩ := hpost
  refine z_st (st' := [.int (iZ r7), .int (iZ r1)]) rfl ?_
  have hH := zH_rot hH
  refine z_same2 C 1143 2566 dL_law_1143 rfl (one_often hs1 hs7) ?_
  exact W.widen (by omega) (by omega) (K ls _ _ hl ⟨tt, tp, ln, fa, fp, b, t, n, v, wt, un, hm, hvv, hww, fr, F2, A2, kp, L, pl, pr, pa, pm, pf, F2m, A2m, fo, hDK2, MDI_q hMD0 hk7, hH⟩)

set_option maxHeartbeats 8000000 in
theorem L_21 {pg : Program} {l : Launch} {ev : Env} {s : State} {m : MethodId} {ar : Array Value} {bl : List Frame} {me : Method} {c : Code} {Q : State → Prop} {G : zG} {sc LL : Nat} {xs : Nat → Int32} {nw : Nat} {wq wv : Nat → Nat} {lq lva : Nat} {ls : Array Slot} {H : Heap} {locs : List Loc} {ce sl : Nat} {ad adm : Nat → Nat} {o j : Nat} (CX : LCT pg l s m ar me c G sc LL xs nw wq wv lq lva) (hj : j + 6 ≤ LL) (hl : lv_has ls 7 [(4, .int (iZ (j : Int))), (3, .ref o), (2, .ref (adm 0)), (1, .ref (ad 99)), (0, .ref sc)]) (hS : LST s G nw ad adm o H locs) (hce : ce + 40000 ≤ 1200144) (hsl : sl + 200000 ≤ 5497402) (K : ∀ (ls1 : Array Slot) (H1 : Heap) (locs1 : List Loc), lv_has ls1 7 [(4, .int (iZ (j : Int))), (3, .ref o), (2, .ref (adm 0)), (1, .ref (ad 99)), (0, .ref sc)] → LST s G nw ad adm o H1 locs1 → W pg l ev room_1 s m ar bl me c H1 locs1 (ce + 40000) (sl + 200000) Q (F0 m 2566 ls1 [])) : W pg l ev room_1 s m ar bl me c H locs ce sl Q (F0 m 1148 ls []) := by
  obtain ⟨C, ⟨hX, hsc, hL⟩, hlt, hnw, hBx, hcs, hsi, hth, hthq, hni, hRW, hlit⟩ := CX
  obtain ⟨tt, tp, ln, fa, fp, b, t, n, v, wt, un, hm, hvv, hww, fr, F, Ar, kp, L, pl, pr, pa, pm, pf, Fm, Am, fo, hDK, hMD, hH⟩ := hS
  have hDK0 := hDK
  have hMD0 := hMD
  obtain ⟨hD, ⟨hF1, hF2, hF3, hF6⟩, htt, htp, htb⟩ := hDK
  have hD0 := hD
  obtain ⟨⟨hn, hFn, hv, hAv, hwt, hAw⟩, ⟨hb, hFb, ht, hFt⟩, ⟨hun, hF14, hkt, hPD⟩, ⟨hPL, hpc⟩, hmo, hfr, h16⟩ := hD
  obtain ⟨⟨m2, m5, m6, m7, m8, m12, m13, m29, m30⟩, hA1, hA3, hA4, hPA⟩ := hMD
  have hpp := PLS_pool hPL
  have hpl := PLS_pl hPL
  have hx1 := sx_r (xs := xs) (j := j) (k := 1)
  have hx2 := sx_r (xs := xs) (j := j) (k := 2)
  have hx3 := sx_r (xs := xs) (j := j) (k := 3)
  have hx4 := sx_r (xs := xs) (j := j) (k := 4)
  have hx5 := sx_r (xs := xs) (j := j) (k := 5)
  have hnzr := nz_r (x := sx xs j 3)
  have hnzb := nz_b (x := sx xs j 3)
  refine z_aload_n C 1148 hl dL_law_1148 rfl 3 rfl ?_
  refine z_scr C hX hsc hH.2.2 1149 1 hl 0 4 rfl rfl (by omega) hL dL_law_1149 dL_law_1150 dL_law_1152 dL_law_1153 dL_law_1154 ?_
  refine z_scr C hX hsc hH.2.2 1155 2 hl 0 4 rfl rfl (by omega) hL dL_law_1155 dL_law_1156 dL_law_1158 dL_law_1159 dL_law_1160 ?_
  have hM := m_X1_at l s G H.size ad F Ar kp pl (dPool G pr pa pm pf L) n v pr pa pm pf nw b t (sx xs j 1) (sx xs j 2) (by first | assumption | omega) (by first | assumption | omega) (by first | assumption | omega) (by first | assumption | omega) (by first | assumption | omega) (by first | assumption | omega) (by first | assumption | omega) (by first | assumption | omega) (by first | assumption | omega) (by first | assumption | omega) (by first | assumption | omega) (by first | assumption | omega) (by first | assumption | omega) (by first | assumption | omega) (by first | assumption | omega) (by first | assumption | omega)
  rw [va_up_id h16] at hM
  refine z_fr (w1 := dW ad G F Ar kp pl (dPool G pr pa pm pf L)) (z_runV C hH.2.2 hl.1 (zH_l hH).1 (zH_l hH).2.1 2 (As := [.int (iZ (sx xs j 1)), .int (iZ (sx xs j 2))]) (rest := []) hM (lw_V q1067 q1068 q1069 q89 q1070) ⟨rfl, by decide, by decide, by decide +kernel⟩ (q0 := 0) (ci := 1) rfl rfl rfl rfl (Nat.le_of_ble_eq_true rfl) ⟨Nat.le_of_ble_eq_true rfl, Nat.le_of_ble_eq_true rfl⟩ ⟨by show _ + 1 ≤ 1200144; omega, by show _ + 2 ≤ 5497402; omega⟩ dL_law_1161) hH (fun u H locs hpost hH => ?_)
  obtain ⟨r1, F2, A2⟩ := u
  obtain ⟨hs1, hk1⟩ := hpost
  have hDK2 := DKI_q hDK0 hk1
  refine z_st (st' := [.int (iZ r1)]) rfl ?_
  have hH := zH_rot hH
  refine z_aload_n C 1164 hl dL_law_1164 rfl 2 rfl ?_
  refine z_scr C hX hsc hH.2.2 1165 1 hl 0 4 rfl rfl (by omega) hL dL_law_1165 dL_law_1166 dL_law_1168 dL_law_1169 dL_law_1170 ?_
  refine z_scr C hX hsc hH.2.2 1171 2 hl 0 4 rfl rfl (by omega) hL dL_law_1171 dL_law_1172 dL_law_1174 dL_law_1175 dL_law_1176 ?_
  have hM := m_X7_at l s G H.size adm Fm Am n v (Am 3) t (sx xs j 1) (sx xs j 2) (by first | assumption | omega) (by first | assumption | omega) (by first | assumption | omega) (by first | assumption | omega) (by first | assumption | omega)
  simp only [va_up_id m2, va_up_id m5, va_up_id m6, va_up_id m7, va_up_id m8, va_up_id m12, va_up_id m13, va_up_id m29, va_up_id m30, va_up_id hA1, va_up_id (cI_self hA3), va_up_id (cI_self hA4), va_up_id (rfl : Am 9 = Am 9), va_up_id (rfl : Am 10 = Am 10), va_up_id (rfl : Am 11 = Am 11), va_up_id (rfl : Am 14 = Am 14), va_up_id (rfl : Am 15 = Am 15)] at hM
  refine z_fr (w1 := mW adm G Fm Am) (z_runV C hH.2.2 hl.1 (zH_l hH).1 (zH_l hH).2.1 2 (As := [.int (iZ (sx xs j 1)), .int (iZ (sx xs j 2))]) (rest := [.int (iZ r1)]) hM (lw_V q1800 q1801 q1802 q95 q1803) ⟨rfl, by decide, by decide, by decide +kernel⟩ (q0 := 0) (ci := 0) rfl rfl rfl rfl (Nat.le_of_ble_eq_true rfl) ⟨Nat.le_of_ble_eq_true rfl, Nat.le_of_ble_eq_true rfl⟩ ⟨by show _ + 0 ≤ 1200144; omega, by show _ + 0 ≤ 5497402; omega⟩ dL_law_1177) hH (fun u H locs hpost hH => ?_)
  obtain ⟨r7, F2m, A2m⟩ := u
  obtain ⟨hs7, hk7⟩ := hpost
  refine z_st (st' := [.int (iZ r7), .int (iZ r1)]) rfl ?_
  have hH := zH_rot hH
  refine z_same2 C 1180 2566 dL_law_1180 rfl (one_at hs1 hs7) ?_
  exact W.widen (by omega) (by omega) (K ls _ _ hl ⟨tt, tp, ln, fa, fp, b, t, n, v, wt, un, hm, hvv, hww, fr, F2, A2, kp, L, pl, pr, pa, pm, pf, F2m, A2m, fo, hDK2, MDI_q hMD0 hk7, hH⟩)

set_option maxHeartbeats 8000000 in
theorem L_22 {pg : Program} {l : Launch} {ev : Env} {s : State} {m : MethodId} {ar : Array Value} {bl : List Frame} {me : Method} {c : Code} {Q : State → Prop} {G : zG} {sc LL : Nat} {xs : Nat → Int32} {nw : Nat} {wq wv : Nat → Nat} {lq lva : Nat} {ls : Array Slot} {H : Heap} {locs : List Loc} {ce sl : Nat} {ad adm : Nat → Nat} {o j : Nat} (CX : LCT pg l s m ar me c G sc LL xs nw wq wv lq lva) (hj : j + 6 ≤ LL) (hl : lv_has ls 7 [(4, .int (iZ (j : Int))), (3, .ref o), (2, .ref (adm 0)), (1, .ref (ad 99)), (0, .ref sc)]) (hS : LST s G nw ad adm o H locs) (hce : ce + 40000 ≤ 1200144) (hsl : sl + 200000 ≤ 5497402) (K : ∀ (ls1 : Array Slot) (H1 : Heap) (locs1 : List Loc), lv_has ls1 7 [(4, .int (iZ (j : Int))), (3, .ref o), (2, .ref (adm 0)), (1, .ref (ad 99)), (0, .ref sc)] → LST s G nw ad adm o H1 locs1 → W pg l ev room_1 s m ar bl me c H1 locs1 (ce + 40000) (sl + 200000) Q (F0 m 2566 ls1 [])) : W pg l ev room_1 s m ar bl me c H locs ce sl Q (F0 m 1185 ls []) := by
  obtain ⟨C, ⟨hX, hsc, hL⟩, hlt, hnw, hBx, hcs, hsi, hth, hthq, hni, hRW, hlit⟩ := CX
  obtain ⟨tt, tp, ln, fa, fp, b, t, n, v, wt, un, hm, hvv, hww, fr, F, Ar, kp, L, pl, pr, pa, pm, pf, Fm, Am, fo, hDK, hMD, hH⟩ := hS
  have hDK0 := hDK
  have hMD0 := hMD
  obtain ⟨hD, ⟨hF1, hF2, hF3, hF6⟩, htt, htp, htb⟩ := hDK
  have hD0 := hD
  obtain ⟨⟨hn, hFn, hv, hAv, hwt, hAw⟩, ⟨hb, hFb, ht, hFt⟩, ⟨hun, hF14, hkt, hPD⟩, ⟨hPL, hpc⟩, hmo, hfr, h16⟩ := hD
  obtain ⟨⟨m2, m5, m6, m7, m8, m12, m13, m29, m30⟩, hA1, hA3, hA4, hPA⟩ := hMD
  have hpp := PLS_pool hPL
  have hpl := PLS_pl hPL
  have hx1 := sx_r (xs := xs) (j := j) (k := 1)
  have hx2 := sx_r (xs := xs) (j := j) (k := 2)
  have hx3 := sx_r (xs := xs) (j := j) (k := 3)
  have hx4 := sx_r (xs := xs) (j := j) (k := 4)
  have hx5 := sx_r (xs := xs) (j := j) (k := 5)
  have hnzr := nz_r (x := sx xs j 3)
  have hnzb := nz_b (x := sx xs j 3)
  refine z_aload_n C 1185 hl dL_law_1185 rfl 3 rfl ?_
  refine z_scr C hX hsc hH.2.2 1186 1 hl 0 4 rfl rfl (by omega) hL dL_law_1186 dL_law_1187 dL_law_1189 dL_law_1190 dL_law_1191 ?_
  refine z_scr C hX hsc hH.2.2 1192 2 hl 0 4 rfl rfl (by omega) hL dL_law_1192 dL_law_1193 dL_law_1195 dL_law_1196 dL_law_1197 ?_
  have hM := m_X1_unlike l s G H.size ad F Ar kp pl (dPool G pr pa pm pf L) n v pr pa pm pf nw b t (sx xs j 1) (sx xs j 2) (by first | assumption | omega) (by first | assumption | omega) (by first | assumption | omega) (by first | assumption | omega) (by first | assumption | omega) (by first | assumption | omega) (by first | assumption | omega) (by first | assumption | omega) (by first | assumption | omega) (by first | assumption | omega) (by first | assumption | omega) (by first | assumption | omega) (by first | assumption | omega) (by first | assumption | omega) (by first | assumption | omega)
  rw [va_up_id h16] at hM
  refine z_fr (w1 := dW ad G F Ar kp pl (dPool G pr pa pm pf L)) (z_runV C hH.2.2 hl.1 (zH_l hH).1 (zH_l hH).2.1 2 (As := [.int (iZ (sx xs j 1)), .int (iZ (sx xs j 2))]) (rest := []) hM (lw_V q1071 q1072 q1073 q89 q1074) ⟨rfl, by decide, by decide, by decide +kernel⟩ (q0 := 0) (ci := 1) rfl rfl rfl rfl (Nat.le_of_ble_eq_true rfl) ⟨Nat.le_of_ble_eq_true rfl, Nat.le_of_ble_eq_true rfl⟩ ⟨by show _ + 0 ≤ 1200144; omega, by show _ + 0 ≤ 5497402; omega⟩ dL_law_1198) hH (fun u H locs hpost hH => ?_)
  obtain ⟨r1, F2, A2⟩ := u
  obtain ⟨hs1, hk1⟩ := hpost
  have hDK2 := DKI_q hDK0 hk1
  refine z_st (st' := [.int (iZ r1)]) rfl ?_
  have hH := zH_rot hH
  refine z_aload_n C 1201 hl dL_law_1201 rfl 2 rfl ?_
  refine z_scr C hX hsc hH.2.2 1202 1 hl 0 4 rfl rfl (by omega) hL dL_law_1202 dL_law_1203 dL_law_1205 dL_law_1206 dL_law_1207 ?_
  refine z_scr C hX hsc hH.2.2 1208 2 hl 0 4 rfl rfl (by omega) hL dL_law_1208 dL_law_1209 dL_law_1211 dL_law_1212 dL_law_1213 ?_
  have hM := m_X7_unlike l s G H.size adm Fm Am n v (Am 3) t (sx xs j 1) (sx xs j 2) (by first | assumption | omega) (by first | assumption | omega) (by first | assumption | omega) (by first | assumption | omega) (by first | assumption | omega)
  simp only [va_up_id m2, va_up_id m5, va_up_id m6, va_up_id m7, va_up_id m8, va_up_id m12, va_up_id m13, va_up_id m29, va_up_id m30, va_up_id hA1, va_up_id (cI_self hA3), va_up_id (cI_self hA4), va_up_id (rfl : Am 9 = Am 9), va_up_id (rfl : Am 10 = Am 10), va_up_id (rfl : Am 11 = Am 11), va_up_id (rfl : Am 14 = Am 14), va_up_id (rfl : Am 15 = Am 15)] at hM
  refine z_fr (w1 := mW adm G Fm Am) (z_runV C hH.2.2 hl.1 (zH_l hH).1 (zH_l hH).2.1 2 (As := [.int (iZ (sx xs j 1)), .int (iZ (sx xs j 2))]) (rest := [.int (iZ r1)]) hM (lw_V q1804 q1805 q1806 q95 q1807) ⟨rfl, by decide, by decide, by decide +kernel⟩ (q0 := 0) (ci := 0) rfl rfl rfl rfl (Nat.le_of_ble_eq_true rfl) ⟨Nat.le_of_ble_eq_true rfl, Nat.le_of_ble_eq_true rfl⟩ ⟨by show _ + 0 ≤ 1200144; omega, by show _ + 0 ≤ 5497402; omega⟩ dL_law_1214) hH (fun u H locs hpost hH => ?_)
  obtain ⟨r7, F2m, A2m⟩ := u
  obtain ⟨hs7, hk7⟩ := hpost
  refine z_st (st' := [.int (iZ r7), .int (iZ r1)]) rfl ?_
  have hH := zH_rot hH
  refine z_same2 C 1217 2566 dL_law_1217 rfl (one_unlike hs1 hs7) ?_
  exact W.widen (by omega) (by omega) (K ls _ _ hl ⟨tt, tp, ln, fa, fp, b, t, n, v, wt, un, hm, hvv, hww, fr, F2, A2, kp, L, pl, pr, pa, pm, pf, F2m, A2m, fo, hDK2, MDI_q hMD0 hk7, hH⟩)

set_option maxHeartbeats 8000000 in
theorem L_23 {pg : Program} {l : Launch} {ev : Env} {s : State} {m : MethodId} {ar : Array Value} {bl : List Frame} {me : Method} {c : Code} {Q : State → Prop} {G : zG} {sc LL : Nat} {xs : Nat → Int32} {nw : Nat} {wq wv : Nat → Nat} {lq lva : Nat} {ls : Array Slot} {H : Heap} {locs : List Loc} {ce sl : Nat} {ad adm : Nat → Nat} {o j : Nat} (CX : LCT pg l s m ar me c G sc LL xs nw wq wv lq lva) (hj : j + 6 ≤ LL) (hl : lv_has ls 7 [(4, .int (iZ (j : Int))), (3, .ref o), (2, .ref (adm 0)), (1, .ref (ad 99)), (0, .ref sc)]) (hS : LST s G nw ad adm o H locs) (hce : ce + 40000 ≤ 1200144) (hsl : sl + 200000 ≤ 5497402) (K : ∀ (ls1 : Array Slot) (H1 : Heap) (locs1 : List Loc), lv_has ls1 7 [(4, .int (iZ (j : Int))), (3, .ref o), (2, .ref (adm 0)), (1, .ref (ad 99)), (0, .ref sc)] → LST s G nw ad adm o H1 locs1 → W pg l ev room_1 s m ar bl me c H1 locs1 (ce + 40000) (sl + 200000) Q (F0 m 2566 ls1 [])) : W pg l ev room_1 s m ar bl me c H locs ce sl Q (F0 m 1222 ls []) := by
  obtain ⟨C, ⟨hX, hsc, hL⟩, hlt, hnw, hBx, hcs, hsi, hth, hthq, hni, hRW, hlit⟩ := CX
  obtain ⟨tt, tp, ln, fa, fp, b, t, n, v, wt, un, hm, hvv, hww, fr, F, Ar, kp, L, pl, pr, pa, pm, pf, Fm, Am, fo, hDK, hMD, hH⟩ := hS
  have hDK0 := hDK
  have hMD0 := hMD
  obtain ⟨hD, ⟨hF1, hF2, hF3, hF6⟩, htt, htp, htb⟩ := hDK
  have hD0 := hD
  obtain ⟨⟨hn, hFn, hv, hAv, hwt, hAw⟩, ⟨hb, hFb, ht, hFt⟩, ⟨hun, hF14, hkt, hPD⟩, ⟨hPL, hpc⟩, hmo, hfr, h16⟩ := hD
  obtain ⟨⟨m2, m5, m6, m7, m8, m12, m13, m29, m30⟩, hA1, hA3, hA4, hPA⟩ := hMD
  have hpp := PLS_pool hPL
  have hpl := PLS_pl hPL
  have hx1 := sx_r (xs := xs) (j := j) (k := 1)
  have hx2 := sx_r (xs := xs) (j := j) (k := 2)
  have hx3 := sx_r (xs := xs) (j := j) (k := 3)
  have hx4 := sx_r (xs := xs) (j := j) (k := 4)
  have hx5 := sx_r (xs := xs) (j := j) (k := 5)
  have hnzr := nz_r (x := sx xs j 3)
  have hnzb := nz_b (x := sx xs j 3)
  refine z_aload_n C 1222 hl dL_law_1222 rfl 3 rfl ?_
  refine z_scr C hX hsc hH.2.2 1223 1 hl 0 4 rfl rfl (by omega) hL dL_law_1223 dL_law_1224 dL_law_1226 dL_law_1227 dL_law_1228 ?_
  refine z_scr C hX hsc hH.2.2 1229 2 hl 0 4 rfl rfl (by omega) hL dL_law_1229 dL_law_1230 dL_law_1232 dL_law_1233 dL_law_1234 ?_
  refine z_scr C hX hsc hH.2.2 1235 3 hl 0 4 rfl rfl (by omega) hL dL_law_1235 dL_law_1236 dL_law_1238 dL_law_1239 dL_law_1240 ?_
  have hM := m_X1_times l s G H.size ad F Ar kp pl (dPool G pr pa pm pf L) n v pr pa pm pf nw b t (sx xs j 1) (sx xs j 2) (sx xs j 3) (by first | assumption | omega) (by first | assumption | omega) (by first | assumption | omega) (by first | assumption | omega) (by first | assumption | omega) (by first | assumption | omega) (by first | assumption | omega) (by first | assumption | omega) (by first | assumption | omega) (by first | assumption | omega) (by first | assumption | omega) (by first | assumption | omega) (by first | assumption | omega) (by first | assumption | omega) (by first | assumption | omega) (by first | assumption | omega)
  rw [va_up_id h16] at hM
  refine z_fr (w1 := dW ad G F Ar kp pl (dPool G pr pa pm pf L)) (z_runV C hH.2.2 hl.1 (zH_l hH).1 (zH_l hH).2.1 3 (As := [.int (iZ (sx xs j 1)), .int (iZ (sx xs j 2)), .int (iZ (sx xs j 3))]) (rest := []) hM (lw_V q1075 q1076 q1077 q89 q1078) ⟨rfl, by decide, by decide, by decide +kernel⟩ (q0 := 0) (ci := 1) rfl rfl rfl rfl (Nat.le_of_ble_eq_true rfl) ⟨Nat.le_of_ble_eq_true rfl, Nat.le_of_ble_eq_true rfl⟩ ⟨by show _ + 0 ≤ 1200144; omega, by show _ + 0 ≤ 5497402; omega⟩ dL_law_1241) hH (fun u H locs hpost hH => ?_)
  obtain ⟨r1, F2, A2⟩ := u
  obtain ⟨hs1, hk1⟩ := hpost
  have hDK2 := DKI_q hDK0 hk1
  refine z_st (st' := [.int (iZ r1)]) rfl ?_
  have hH := zH_rot hH
  refine z_aload_n C 1244 hl dL_law_1244 rfl 2 rfl ?_
  refine z_scr C hX hsc hH.2.2 1245 1 hl 0 4 rfl rfl (by omega) hL dL_law_1245 dL_law_1246 dL_law_1248 dL_law_1249 dL_law_1250 ?_
  refine z_scr C hX hsc hH.2.2 1251 2 hl 0 4 rfl rfl (by omega) hL dL_law_1251 dL_law_1252 dL_law_1254 dL_law_1255 dL_law_1256 ?_
  refine z_scr C hX hsc hH.2.2 1257 3 hl 0 4 rfl rfl (by omega) hL dL_law_1257 dL_law_1258 dL_law_1260 dL_law_1261 dL_law_1262 ?_
  have hM := m_X7_times l s G H.size adm Fm Am n v (Am 3) t (sx xs j 1) (sx xs j 2) (sx xs j 3) (by first | assumption | omega) (by first | assumption | omega) (by first | assumption | omega) (by first | assumption | omega) (by first | assumption | omega) (by first | assumption | omega)
  simp only [va_up_id m2, va_up_id m5, va_up_id m6, va_up_id m7, va_up_id m8, va_up_id m12, va_up_id m13, va_up_id m29, va_up_id m30, va_up_id hA1, va_up_id (cI_self hA3), va_up_id (cI_self hA4), va_up_id (rfl : Am 9 = Am 9), va_up_id (rfl : Am 10 = Am 10), va_up_id (rfl : Am 11 = Am 11), va_up_id (rfl : Am 14 = Am 14), va_up_id (rfl : Am 15 = Am 15)] at hM
  refine z_fr (w1 := mW adm G Fm Am) (z_runV C hH.2.2 hl.1 (zH_l hH).1 (zH_l hH).2.1 3 (As := [.int (iZ (sx xs j 1)), .int (iZ (sx xs j 2)), .int (iZ (sx xs j 3))]) (rest := [.int (iZ r1)]) hM (lw_V q1808 q1809 q1810 q95 q1811) ⟨rfl, by decide, by decide, by decide +kernel⟩ (q0 := 0) (ci := 0) rfl rfl rfl rfl (Nat.le_of_ble_eq_true rfl) ⟨Nat.le_of_ble_eq_true rfl, Nat.le_of_ble_eq_true rfl⟩ ⟨by show _ + 0 ≤ 1200144; omega, by show _ + 0 ≤ 5497402; omega⟩ dL_law_1263) hH (fun u H locs hpost hH => ?_)
  obtain ⟨r7, F2m, A2m⟩ := u
  obtain ⟨hs7, hk7⟩ := hpost
  refine z_st (st' := [.int (iZ r7), .int (iZ r1)]) rfl ?_
  have hH := zH_rot hH
  refine z_same2 C 1266 2566 dL_law_1266 rfl (one_times hs1 hs7) ?_
  exact W.widen (by omega) (by omega) (K ls _ _ hl ⟨tt, tp, ln, fa, fp, b, t, n, v, wt, un, hm, hvv, hww, fr, F2, A2, kp, L, pl, pr, pa, pm, pf, F2m, A2m, fo, hDK2, MDI_q hMD0 hk7, hH⟩)

set_option maxHeartbeats 8000000 in
theorem L_24 {pg : Program} {l : Launch} {ev : Env} {s : State} {m : MethodId} {ar : Array Value} {bl : List Frame} {me : Method} {c : Code} {Q : State → Prop} {G : zG} {sc LL : Nat} {xs : Nat → Int32} {nw : Nat} {wq wv : Nat → Nat} {lq lva : Nat} {ls : Array Slot} {H : Heap} {locs : List Loc} {ce sl : Nat} {ad adm : Nat → Nat} {o j : Nat} (CX : LCT pg l s m ar me c G sc LL xs nw wq wv lq lva) (hj : j + 6 ≤ LL) (hl : lv_has ls 7 [(4, .int (iZ (j : Int))), (3, .ref o), (2, .ref (adm 0)), (1, .ref (ad 99)), (0, .ref sc)]) (hS : LST s G nw ad adm o H locs) (hce : ce + 40000 ≤ 1200144) (hsl : sl + 200000 ≤ 5497402) (K : ∀ (ls1 : Array Slot) (H1 : Heap) (locs1 : List Loc), lv_has ls1 7 [(4, .int (iZ (j : Int))), (3, .ref o), (2, .ref (adm 0)), (1, .ref (ad 99)), (0, .ref sc)] → LST s G nw ad adm o H1 locs1 → W pg l ev room_1 s m ar bl me c H1 locs1 (ce + 40000) (sl + 200000) Q (F0 m 2566 ls1 [])) : W pg l ev room_1 s m ar bl me c H locs ce sl Q (F0 m 1271 ls []) := by
  obtain ⟨C, ⟨hX, hsc, hL⟩, hlt, hnw, hBx, hcs, hsi, hth, hthq, hni, hRW, hlit⟩ := CX
  obtain ⟨tt, tp, ln, fa, fp, b, t, n, v, wt, un, hm, hvv, hww, fr, F, Ar, kp, L, pl, pr, pa, pm, pf, Fm, Am, fo, hDK, hMD, hH⟩ := hS
  have hDK0 := hDK
  have hMD0 := hMD
  obtain ⟨hD, ⟨hF1, hF2, hF3, hF6⟩, htt, htp, htb⟩ := hDK
  have hD0 := hD
  obtain ⟨⟨hn, hFn, hv, hAv, hwt, hAw⟩, ⟨hb, hFb, ht, hFt⟩, ⟨hun, hF14, hkt, hPD⟩, ⟨hPL, hpc⟩, hmo, hfr, h16⟩ := hD
  obtain ⟨⟨m2, m5, m6, m7, m8, m12, m13, m29, m30⟩, hA1, hA3, hA4, hPA⟩ := hMD
  have hpp := PLS_pool hPL
  have hpl := PLS_pl hPL
  have hx1 := sx_r (xs := xs) (j := j) (k := 1)
  have hx2 := sx_r (xs := xs) (j := j) (k := 2)
  have hx3 := sx_r (xs := xs) (j := j) (k := 3)
  have hx4 := sx_r (xs := xs) (j := j) (k := 4)
  have hx5 := sx_r (xs := xs) (j := j) (k := 5)
  have hnzr := nz_r (x := sx xs j 3)
  have hnzb := nz_b (x := sx xs j 3)
  refine z_aload_n C 1271 hl dL_law_1271 rfl 3 rfl ?_
  refine z_scr C hX hsc hH.2.2 1272 1 hl 0 4 rfl rfl (by omega) hL dL_law_1272 dL_law_1273 dL_law_1275 dL_law_1276 dL_law_1277 ?_
  refine z_scr C hX hsc hH.2.2 1278 2 hl 0 4 rfl rfl (by omega) hL dL_law_1278 dL_law_1279 dL_law_1281 dL_law_1282 dL_law_1283 ?_
  have hM := m_X1_majority l s G H.size ad F Ar kp pl (dPool G pr pa pm pf L) n v pr pa pm pf nw b t (sx xs j 1) (sx xs j 2) (by first | assumption | omega) (by first | assumption | omega) (by first | assumption | omega) (by first | assumption | omega) (by first | assumption | omega) (by first | assumption | omega) (by first | assumption | omega) (by first | assumption | omega) (by first | assumption | omega) (by first | assumption | omega) (by first | assumption | omega) (by first | assumption | omega) (by first | assumption | omega) (by first | assumption | omega) (by first | assumption | omega)
  rw [va_up_id h16] at hM
  refine z_fr (w1 := dW ad G F Ar kp pl (dPool G pr pa pm pf L)) (z_runV C hH.2.2 hl.1 (zH_l hH).1 (zH_l hH).2.1 2 (As := [.int (iZ (sx xs j 1)), .int (iZ (sx xs j 2))]) (rest := []) hM (lw_V q1079 q1080 q1081 q89 q1082) ⟨rfl, by decide, by decide, by decide +kernel⟩ (q0 := 0) (ci := 1) rfl rfl rfl rfl (Nat.le_of_ble_eq_true rfl) ⟨Nat.le_of_ble_eq_true rfl, Nat.le_of_ble_eq_true rfl⟩ ⟨by show _ + 0 ≤ 1200144; omega, by show _ + 0 ≤ 5497402; omega⟩ dL_law_1284) hH (fun u H locs hpost hH => ?_)
  obtain ⟨r1, F2, A2⟩ := u
  obtain ⟨hs1, hk1⟩ := hpost
  have hDK2 := DKI_q hDK0 hk1
  refine z_st (st' := [.int (iZ r1)]) rfl ?_
  have hH := zH_rot hH
  refine z_aload_n C 1287 hl dL_law_1287 rfl 2 rfl ?_
  refine z_scr C hX hsc hH.2.2 1288 1 hl 0 4 rfl rfl (by omega) hL dL_law_1288 dL_law_1289 dL_law_1291 dL_law_1292 dL_law_1293 ?_
  refine z_scr C hX hsc hH.2.2 1294 2 hl 0 4 rfl rfl (by omega) hL dL_law_1294 dL_law_1295 dL_law_1297 dL_law_1298 dL_law_1299 ?_
  have hM := m_X7_majority l s G H.size adm Fm Am n v (Am 3) t (sx xs j 1) (sx xs j 2) (by first | assumption | omega) (by first | assumption | omega) (by first | assumption | omega) (by first | assumption | omega) (by first | assumption | omega)
  simp only [va_up_id m2, va_up_id m5, va_up_id m6, va_up_id m7, va_up_id m8, va_up_id m12, va_up_id m13, va_up_id m29, va_up_id m30, va_up_id hA1, va_up_id (cI_self hA3), va_up_id (cI_self hA4), va_up_id (rfl : Am 9 = Am 9), va_up_id (rfl : Am 10 = Am 10), va_up_id (rfl : Am 11 = Am 11), va_up_id (rfl : Am 14 = Am 14), va_up_id (rfl : Am 15 = Am 15)] at hM
  refine z_fr (w1 := mW adm G Fm Am) (z_runV C hH.2.2 hl.1 (zH_l hH).1 (zH_l hH).2.1 2 (As := [.int (iZ (sx xs j 1)), .int (iZ (sx xs j 2))]) (rest := [.int (iZ r1)]) hM (lw_V q1812 q1813 q1814 q95 q1815) ⟨rfl, by decide, by decide, by decide +kernel⟩ (q0 := 0) (ci := 0) rfl rfl rfl rfl (Nat.le_of_ble_eq_true rfl) ⟨Nat.le_of_ble_eq_true rfl, Nat.le_of_ble_eq_true rfl⟩ ⟨by show _ + 0 ≤ 1200144; omega, by show _ + 0 ≤ 5497402; omega⟩ dL_law_1300) hH (fun u H locs hpost hH => ?_)
  obtain ⟨r7, F2m, A2m⟩ := u
  obtain ⟨hs7, hk7⟩ := hpost
  refine z_st (st' := [.int (iZ r7), .int (iZ r1)]) rfl ?_
  have hH := zH_rot hH
  refine z_same2 C 1303 2566 dL_law_1303 rfl (one_majority hs1 hs7) ?_
  exact W.widen (by omega) (by omega) (K ls _ _ hl ⟨tt, tp, ln, fa, fp, b, t, n, v, wt, un, hm, hvv, hww, fr, F2, A2, kp, L, pl, pr, pa, pm, pf, F2m, A2m, fo, hDK2, MDI_q hMD0 hk7, hH⟩)
