/-! the law: its cases (questions) 99zf.lc3 -/
set_option maxRecDepth 100000
set_option maxHeartbeats 8000000 in
theorem L_43 {pg : Program} {l : Launch} {ev : Env} {s : State} {m : MethodId} {ar : Array Value} {bl : List Frame} {me : Method} {c : Code} {Q : State → Prop} {G : zG} {sc LL : Nat} {xs : Nat → Int32} {nw : Nat} {wq wv : Nat → Nat} {lq lva : Nat} {ls : Array Slot} {H : Heap} {locs : List Loc} {ce sl : Nat} {ad adm : Nat → Nat} {o j : Nat} (CX : LCT pg l s m ar me c G sc LL xs nw wq wv lq lva) (hj : j + 6 ≤ LL) (hl : lv_has ls 7 [(4, .int (iZ (j : Int))), (3, .ref o), (2, .ref (adm 0)), (1, .ref (ad 99)), (0, .ref sc)]) (hS : LST s G nw ad adm o H locs) (hce : ce + 40000 ≤ 1200144) (hsl : sl + 200000 ≤ 5497402) (K : ∀ (ls1 : Array Slot) (H1 : Heap) (locs1 : List Loc), lv_has ls1 7 [(4, .int (iZ (j : Int))), (3, .ref o), (2, .ref (adm 0)), (1, .ref (ad 99)), (0, .ref sc)] → LST s G nw ad adm o H1 locs1 → W pg l ev room_1 s m ar bl me c H1 locs1 (ce + 40000) (sl + 200000) Q (F0 m 2566 ls1 [])) : W pg l ev room_1 s m ar bl me c H locs ce sl Q (F0 m 2094 ls []) := by
  obtain ⟨C, ⟨hX, hsc, hL⟩, hlt, hnw, hBx, hcs, hsi, hth, hthq, hni, hRW, hlit⟩ := CX
  obtain ⟨tt, tp, ln, fa, fp, b, t, n, v, wt, un, hm, hvv, hww, fr, F, Ar, kp, L, pl, pr, pa, pm, pf, Fm, Am, fo, hDK, hMD, hH⟩ := hS
  have hDK0 := hDK
  have hMD0 := hMD
  obtain ⟨hD, ⟨hF1, hF2, hF3, hF6⟩, htt, htp, htb⟩ := hDK
  have hD0 := hD
  obtain ⟨⟨hn, hFn, hv, hAv, hwt, hAw⟩, ⟨hb, hFb, ht, hFt⟩, ⟨hun, hF14, hkt, hPD⟩, ⟨hPL, hpc⟩, hmo, hfr, h16⟩ := hD
  obtain ⟨⟨m2, m5, m6, m7, m8, m12, m13, m29, m30⟩, hA1, hA3, hA4, hPA⟩ := hMD
  have hpp := PLS_pool hPL
  have hpl := PLS_pl hPL
  have hx1 := sx_r (xs := xs) (j := j) (k := 1)
  have hx2 := sx_r (xs := xs) (j := j) (k := 2)
  have hx3 := sx_r (xs := xs) (j := j) (k := 3)
  have hx4 := sx_r (xs := xs) (j := j) (k := 4)
  have hx5 := sx_r (xs := xs) (j := j) (k := 5)
  have hnzr := nz_r (x := sx xs j 3)
  have hnzb := nz_b (x := sx xs j 3)
  refine z_aload_n C 2094 hl dL_law_2094 rfl 3 rfl ?_
  refine z_scr C hX hsc hH.2.2 2095 1 hl 0 4 rfl rfl (by omega) hL dL_law_2095 dL_law_2096 dL_law_2098 dL_law_2099 dL_law_2100 ?_
  refine z_scr C hX hsc hH.2.2 2101 2 hl 0 4 rfl rfl (by omega) hL dL_law_2101 dL_law_2102 dL_law_2104 dL_law_2105 dL_law_2106 ?_
  refine z_scr C hX hsc hH.2.2 2107 3 hl 0 4 rfl rfl (by omega) hL dL_law_2107 dL_law_2108 dL_law_2110 dL_law_2111 dL_law_2112 ?_
  refine z_nz C 2113 hx3 dL_law_2113 dL_law_2116 dL_law_2117 dL_law_2120 ?_
  have hM := m_X1_follow l s G H.size ad F Ar kp pl (dPool G pr pa pm pf L) n v pr pa pm pf nw b t (sx xs j 1) (sx xs j 2) (nz (sx xs j 3)) (by first | assumption | omega) (by first | assumption | omega) (by first | assumption | omega) (by first | assumption | omega) (by first | assumption | omega) (by first | assumption | omega) (by first | assumption | omega) (by first | assumption | omega) (by first | assumption | omega) (by first | assumption | omega) (by first | assumption | omega) (by first | assumption | omega) (by first | assumption | omega) (by first | assumption | omega) (by first | assumption | omega) (by first | assumption | omega)
  rw [va_up_id h16] at hM
  refine z_fr (w1 := dW ad G F Ar kp pl (dPool G pr pa pm pf L)) (z_runV C hH.2.2 hl.1 (zH_l hH).1 (zH_l hH).2.1 3 (As := [.int (iZ (sx xs j 1)), .int (iZ (sx xs j 2)), .int (iZ (nz (sx xs j 3)))]) (rest := []) hM (lw_V q1274 q1275 q1276 q89 q1277) ⟨rfl, by decide, by decide, by decide +kernel⟩ (q0 := 0) (ci := 1) rfl rfl rfl rfl (Nat.le_of_ble_eq_true rfl) ⟨Nat.le_of_ble_eq_true rfl, Nat.le_of_ble_eq_true rfl⟩ ⟨by show _ + 0 ≤ 1200144; omega, by show _ + 0 ≤ 5497402; omega⟩ dL_law_2121) hH (fun u H locs hpost hH => ?_)
  obtain ⟨r1, F2, A2⟩ := u
  obtain ⟨hs1, hk1⟩ := hpost
  have hDK2 := DKI_q hDK0 hk1
  refine z_st (st' := [.int (iZ r1)]) rfl ?_
  have hH := zH_rot hH
  refine z_aload_n C 2124 hl dL_law_2124 rfl 2 rfl ?_
  refine z_scr C hX hsc hH.2.2 2125 1 hl 0 4 rfl rfl (by omega) hL dL_law_2125 dL_law_2126 dL_law_2128 dL_law_2129 dL_law_2130 ?_
  refine z_scr C hX hsc hH.2.2 2131 2 hl 0 4 rfl rfl (by omega) hL dL_law_2131 dL_law_2132 dL_law_2134 dL_law_2135 dL_law_2136 ?_
  refine z_scr C hX hsc hH.2.2 2137 3 hl 0 4 rfl rfl (by omega) hL dL_law_2137 dL_law_2138 dL_law_2140 dL_law_2141 dL_law_2142 ?_
  refine z_nz C 2143 hx3 dL_law_2143 dL_law_2146 dL_law_2147 dL_law_2150 ?_
  have hM := m_X7_follow l s G H.size adm Fm Am n v (Am 3) t (sx xs j 1) (sx xs j 2) (nz (sx xs j 3)) (by first | assumption | omega) (by first | assumption | omega) (by first | assumption | omega) (by first | assumption | omega) (by first | assumption | omega) (by first | assumption | omega)
  simp only [va_up_id m2, va_up_id m5, va_up_id m6, va_up_id m7, va_up_id m8, va_up_id m12, va_up_id m13, va_up_id m29, va_up_id m30, va_up_id hA1, va_up_id (cI_self hA3), va_up_id (cI_self hA4), va_up_id (rfl : Am 9 = Am 9), va_up_id (rfl : Am 10 = Am 10), va_up_id (rfl : Am 11 = Am 11), va_up_id (rfl : Am 14 = Am 14), va_up_id (rfl : Am 15 = Am 15)] at hM
  refine z_fr (w1 := mW adm G Fm Am) (z_runV C hH.2.2 hl.1 (zH_l hH).1 (zH_l hH).2.1 3 (As := [.int (iZ (sx xs j 1)), .int (iZ (sx xs j 2)), .int (iZ (nz (sx xs j 3)))]) (rest := [.int (iZ r1)]) hM (lw_V q1904 q1905 q1906 q95 q1907) ⟨rfl, by decide, by decide, by decide +kernel⟩ (q0 := 0) (ci := 0) rfl rfl rfl rfl (Nat.le_of_ble_eq_true rfl) ⟨Nat.le_of_ble_eq_true rfl, Nat.le_of_ble_eq_true rfl⟩ ⟨by show _ + 0 ≤ 1200144; omega, by show _ + 0 ≤ 5497402; omega⟩ dL_law_2151) hH (fun u H locs hpost hH => ?_)
  obtain ⟨r7, F2m, A2m⟩ := u
  obtain ⟨hs7, hk7⟩ := hpost
  refine z_st (st' := [.int (iZ r7), .int (iZ r1)]) rfl ?_
  have hH := zH_rot hH
  refine z_same2 C 2154 2566 dL_law_2154 rfl (one_follow hs1 hs7) ?_
  exact W.widen (by omega) (by omega) (K ls _ _ hl ⟨tt, tp, ln, fa, fp, b, t, n, v, wt, un, hm, hvv, hww, fr, F2, A2, kp, L, pl, pr, pa, pm, pf, F2m, A2m, fo, hDK2, MDI_q hMD0 hk7, hH⟩)

set_option maxHeartbeats 8000000 in
theorem L_44 {pg : Program} {l : Launch} {ev : Env} {s : State} {m : MethodId} {ar : Array Value} {bl : List Frame} {me : Method} {c : Code} {Q : State → Prop} {G : zG} {sc LL : Nat} {xs : Nat → Int32} {nw : Nat} {wq wv : Nat → Nat} {lq lva : Nat} {ls : Array Slot} {H : Heap} {locs : List Loc} {ce sl : Nat} {ad adm : Nat → Nat} {o j : Nat} (CX : LCT pg l s m ar me c G sc LL xs nw wq wv lq lva) (hj : j + 6 ≤ LL) (hl : lv_has ls 7 [(4, .int (iZ (j : Int))), (3, .ref o), (2, .ref (adm 0)), (1, .ref (ad 99)), (0, .ref sc)]) (hS : LST s G nw ad adm o H locs) (hce : ce + 40000 ≤ 1200144) (hsl : sl + 200000 ≤ 5497402) (K : ∀ (ls1 : Array Slot) (H1 : Heap) (locs1 : List Loc), lv_has ls1 7 [(4, .int (iZ (j : Int))), (3, .ref o), (2, .ref (adm 0)), (1, .ref (ad 99)), (0, .ref sc)] → LST s G nw ad adm o H1 locs1 → W pg l ev room_1 s m ar bl me c H1 locs1 (ce + 40000) (sl + 200000) Q (F0 m 2566 ls1 [])) : W pg l ev room_1 s m ar bl me c H locs ce sl Q (F0 m 2159 ls []) := by
  obtain ⟨C, ⟨hX, hsc, hL⟩, hlt, hnw, hBx, hcs, hsi, hth, hthq, hni, hRW, hlit⟩ := CX
  obtain ⟨tt, tp, ln, fa, fp, b, t, n, v, wt, un, hm, hvv, hww, fr, F, Ar, kp, L, pl, pr, pa, pm, pf, Fm, Am, fo, hDK, hMD, hH⟩ := hS
  have hDK0 := hDK
  have hMD0 := hMD
  obtain ⟨hD, ⟨hF1, hF2, hF3, hF6⟩, htt, htp, htb⟩ := hDK
  have hD0 := hD
  obtain ⟨⟨hn, hFn, hv, hAv, hwt, hAw⟩, ⟨hb, hFb, ht, hFt⟩, ⟨hun, hF14, hkt, hPD⟩, ⟨hPL, hpc⟩, hmo, hfr, h16⟩ := hD
  obtain ⟨⟨m2, m5, m6, m7, m8, m12, m13, m29, m30⟩, hA1, hA3, hA4, hPA⟩ := hMD
  have hpp := PLS_pool hPL
  have hpl := PLS_pl hPL
  have hx1 := sx_r (xs := xs) (j := j) (k := 1)
  have hx2 := sx_r (xs := xs) (j := j) (k := 2)
  have hx3 := sx_r (xs := xs) (j := j) (k := 3)
  have hx4 := sx_r (xs := xs) (j := j) (k := 4)
  have hx5 := sx_r (xs := xs) (j := j) (k := 5)
  have hnzr := nz_r (x := sx xs j 3)
  have hnzb := nz_b (x := sx xs j 3)
  refine z_aload_n C 2159 hl dL_law_2159 rfl 3 rfl ?_
  refine z_scr C hX hsc hH.2.2 2160 1 hl 0 4 rfl rfl (by omega) hL dL_law_2160 dL_law_2161 dL_law_2163 dL_law_2164 dL_law_2165 ?_
  refine z_scr C hX hsc hH.2.2 2166 2 hl 0 4 rfl rfl (by omega) hL dL_law_2166 dL_law_2167 dL_law_2169 dL_law_2170 dL_law_2171 ?_
  refine z_scr C hX hsc hH.2.2 2172 3 hl 0 4 rfl rfl (by omega) hL dL_law_2172 dL_law_2173 dL_law_2175 dL_law_2176 dL_law_2177 ?_
  have hM := m_X1_split l s G H.size ad F Ar kp pl (dPool G pr pa pm pf L) n v pr pa pm pf nw b t (sx xs j 1) (sx xs j 2) (sx xs j 3) (by first | assumption | omega) (by first | assumption | omega) (by first | assumption | omega) (by first | assumption | omega) (by first | assumption | omega) (by first | assumption | omega) (by first | assumption | omega) (by first | assumption | omega) (by first | assumption | omega) (by first | assumption | omega) (by first | assumption | omega) (by first | assumption | omega) (by first | assumption | omega) (by first | assumption | omega) (by first | assumption | omega) (by first | assumption | omega)
  rw [va_up_id h16] at hM
  refine z_fr (w1 := dW ad G F Ar kp pl (dPool G pr pa pm pf L)) (z_runV C hH.2.2 hl.1 (zH_l hH).1 (zH_l hH).2.1 3 (As := [.int (iZ (sx xs j 1)), .int (iZ (sx xs j 2)), .int (iZ (sx xs j 3))]) (rest := []) hM (lw_V q1278 q1279 q1280 q89 q1281) ⟨rfl, by decide, by decide, by decide +kernel⟩ (q0 := 0) (ci := 1) rfl rfl rfl rfl (Nat.le_of_ble_eq_true rfl) ⟨Nat.le_of_ble_eq_true rfl, Nat.le_of_ble_eq_true rfl⟩ ⟨by show _ + 0 ≤ 1200144; omega, by show _ + 0 ≤ 5497402; omega⟩ dL_law_2178) hH (fun u H locs hpost hH => ?_)
  obtain ⟨r1, F2, A2⟩ := u
  obtain ⟨hs1, hk1⟩ := hpost
  have hDK2 := DKI_q hDK0 hk1
  refine z_st (st' := [.int (iZ r1)]) rfl ?_
  have hH := zH_rot hH
  refine z_aload_n C 2181 hl dL_law_2181 rfl 2 rfl ?_
  refine z_scr C hX hsc hH.2.2 2182 1 hl 0 4 rfl rfl (by omega) hL dL_law_2182 dL_law_2183 dL_law_2185 dL_law_2186 dL_law_2187 ?_
  refine z_scr C hX hsc hH.2.2 2188 2 hl 0 4 rfl rfl (by omega) hL dL_law_2188 dL_law_2189 dL_law_2191 dL_law_2192 dL_law_2193 ?_
  refine z_scr C hX hsc hH.2.2 2194 3 hl 0 4 rfl rfl (by omega) hL dL_law_2194 dL_law_2195 dL_law_2197 dL_law_2198 dL_law_2199 ?_
  have hM := m_X7_split l s G H.size adm Fm Am n v (Am 3) t (sx xs j 1) (sx xs j 2) (sx xs j 3) (by first | assumption | omega) (by first | assumption | omega) (by first | assumption | omega) (by first | assumption | omega) (by first | assumption | omega) (by first | assumption | omega)
  simp only [va_up_id m2, va_up_id m5, va_up_id m6, va_up_id m7, va_up_id m8, va_up_id m12, va_up_id m13, va_up_id m29, va_up_id m30, va_up_id hA1, va_up_id (cI_self hA3), va_up_id (cI_self hA4), va_up_id (rfl : Am 9 = Am 9), va_up_id (rfl : Am 10 = Am 10), va_up_id (rfl : Am 11 = Am 11), va_up_id (rfl : Am 14 = Am 14), va_up_id (rfl : Am 15 = Am 15)] at hM
  refine z_fr (w1 := mW adm G Fm Am) (z_runV C hH.2.2 hl.1 (zH_l hH).1 (zH_l hH).2.1 3 (As := [.int (iZ (sx xs j 1)), .int (iZ (sx xs j 2)), .int (iZ (sx xs j 3))]) (rest := [.int (iZ r1)]) hM (lw_V q1908 q1909 q1910 q95 q1911) ⟨rfl, by decide, by decide, by decide +kernel⟩ (q0 := 0) (ci := 0) rfl rfl rfl rfl (Nat.le_of_ble_eq_true rfl) ⟨Nat.le_of_ble_eq_true rfl, Nat.le_of_ble_eq_true rfl⟩ ⟨by show _ + 0 ≤ 1200144; omega, by show _ + 0 ≤ 5497402; omega⟩ dL_law_2200) hH (fun u H locs hpost hH => ?_)
  obtain ⟨r7, F2m, A2m⟩ := u
  obtain ⟨hs7, hk7⟩ := hpost
  refine z_st (st' := [.int (iZ r7), .int (iZ r1)]) rfl ?_
  have hH := zH_rot hH
  refine z_same2 C 2203 2566 dL_law_2203 rfl (one_split hs1 hs7) ?_
  exact W.widen (by omega) (by omega) (K ls _ _ hl ⟨tt, tp, ln, fa, fp, b, t, n, v, wt, un, hm, hvv, hww, fr, F2, A2, kp, L, pl, pr, pa, pm, pf, F2m, A2m, fo, hDK2, MDI_q hMD0 hk7, hH⟩)

set_option maxHeartbeats 8000000 in
theorem L_45 {pg : Program} {l : Launch} {ev : Env} {s : State} {m : MethodId} {ar : Array Value} {bl : List Frame} {me : Method} {c : Code} {Q : State → Prop} {G : zG} {sc LL : Nat} {xs : Nat → Int32} {nw : Nat} {wq wv : Nat → Nat} {lq lva : Nat} {ls : Array Slot} {H : Heap} {locs : List Loc} {ce sl : Nat} {ad adm : Nat → Nat} {o j : Nat} (CX : LCT pg l s m ar me c G sc LL xs nw wq wv lq lva) (hj : j + 6 ≤ LL) (hl : lv_has ls 7 [(4, .int (iZ (j : Int))), (3, .ref o), (2, .ref (adm 0)), (1, .ref (ad 99)), (0, .ref sc)]) (hS : LST s G nw ad adm o H locs) (hce : ce + 40000 ≤ 1200144) (hsl : sl + 200000 ≤ 5497402) (K : ∀ (ls1 : Array Slot) (H1 : Heap) (locs1 : List Loc), lv_has ls1 7 [(4, .int (iZ (j : Int))), (3, .ref o), (2, .ref (adm 0)), (1, .ref (ad 99)), (0, .ref sc)] → LST s G nw ad adm o H1 locs1 → W pg l ev room_1 s m ar bl me c H1 locs1 (ce + 40000) (sl + 200000) Q (F0 m 2566 ls1 [])) : W pg l ev room_1 s m ar bl me c H locs ce sl Q (F0 m 2208 ls []) := by
  obtain ⟨C, ⟨hX, hsc, hL⟩, hlt, hnw, hBx, hcs, hsi, hth, hthq, hni, hRW, hlit⟩ := CX
  obtain ⟨tt, tp, ln, fa, fp, b, t, n, v, wt, un, hm, hvv, hww, fr, F, Ar, kp, L, pl, pr, pa, pm, pf, Fm, Am, fo, hDK, hMD, hH⟩ := hS
  have hDK0 := hDK
  have hMD0 := hMD
  obtain ⟨hD, ⟨hF1, hF2, hF3, hF6⟩, htt, htp, htb⟩ := hDK
  have hD0 := hD
  obtain ⟨⟨hn, hFn, hv, hAv, hwt, hAw⟩, ⟨hb, hFb, ht, hFt⟩, ⟨hun, hF14, hkt, hPD⟩, ⟨hPL, hpc⟩, hmo, hfr, h16⟩ := hD
  obtain ⟨⟨m2, m5, m6, m7, m8, m12, m13, m29, m30⟩, hA1, hA3, hA4, hPA⟩ := hMD
  have hpp := PLS_pool hPL
  have hpl := PLS_pl hPL
  have hx1 := sx_r (xs := xs) (j := j) (k := 1)
  have hx2 := sx_r (xs := xs) (j := j) (k := 2)
  have hx3 := sx_r (xs := xs) (j := j) (k := 3)
  have hx4 := sx_r (xs := xs) (j := j) (k := 4)
  have hx5 := sx_r (xs := xs) (j := j) (k := 5)
  have hnzr := nz_r (x := sx xs j 3)
  have hnzb := nz_b (x := sx xs j 3)
  refine z_aload_n C 2208 hl dL_law_2208 rfl 3 rfl ?_
  refine z_scr C hX hsc hH.2.2 2209 1 hl 0 4 rfl rfl (by omega) hL dL_law_2209 dL_law_2210 dL_law_2212 dL_law_2213 dL_law_2214 ?_
  refine z_scr C hX hsc hH.2.2 2215 2 hl 0 4 rfl rfl (by omega) hL dL_law_2215 dL_law_2216 dL_law_2218 dL_law_2219 dL_law_2220 ?_
  refine z_scr C hX hsc hH.2.2 2221 3 hl 0 4 rfl rfl (by omega) hL dL_law_2221 dL_law_2222 dL_law_2224 dL_law_2225 dL_law_2226 ?_
  refine z_scr C hX hsc hH.2.2 2227 4 hl 0 4 rfl rfl (by omega) hL dL_law_2227 dL_law_2228 dL_law_2230 dL_law_2231 dL_law_2232 ?_
  refine z_scr C hX hsc hH.2.2 2233 5 hl 0 4 rfl rfl (by omega) hL dL_law_2233 dL_law_2234 dL_law_2236 dL_law_2237 dL_law_2238 ?_
  have hM := m_X1_together l s G H.size ad F Ar kp pl (dPool G pr pa pm pf L) n v pr pa pm pf nw b t (sx xs j 1) (sx xs j 2) (sx xs j 3) (sx xs j 4) (sx xs j 5) (by first | assumption | omega) (by first | assumption | omega) (by first | assumption | omega) (by first | assumption | omega) (by first | assumption | omega) (by first | assumption | omega) (by first | assumption | omega) (by first | assumption | omega) (by first | assumption | omega) (by first | assumption | omega) (by first | assumption | omega) (by first | assumption | omega) (by first | assumption | omega) (by first | assumption | omega) (by first | assumption | omega) (by first | assumption | omega) (by first | assumption | omega) (by first | assumption | omega)
  rw [va_up_id h16] at hM
  refine z_fr (w1 := dW ad G F Ar kp pl (dPool G pr pa pm pf L)) (z_runV C hH.2.2 hl.1 (zH_l hH).1 (zH_l hH).2.1 5 (As := [.int (iZ (sx xs j 1)), .int (iZ (sx xs j 2)), .int (iZ (sx xs j 3)), .int (iZ (sx xs j 4)), .int (iZ (sx xs j 5))]) (rest := []) hM (lw_V q1286 q1287 q1288 q89 q1289) ⟨rfl, by decide, by decide, by decide +kernel⟩ (q0 := 0) (ci := 1) rfl rfl rfl rfl (Nat.le_of_ble_eq_true rfl) ⟨Nat.le_of_ble_eq_true rfl, Nat.le_of_ble_eq_true rfl⟩ ⟨by show _ + 0 ≤ 1200144; omega, by show _ + 0 ≤ 5497402; omega⟩ dL_law_2239) hH (fun u H locs hpost hH => ?_)
  obtain ⟨r1, F2, A2⟩ := u
  obtain ⟨hs1, hk1⟩ := hpost
  have hDK2 := DKI_q hDK0 hk1
  refine z_st (st' := [.int (iZ r1)]) rfl ?_
  have hH := zH_rot hH
  refine z_aload_n C 2242 hl dL_law_2242 rfl 2 rfl ?_
  refine z_scr C hX hsc hH.2.2 2243 1 hl 0 4 rfl rfl (by omega) hL dL_law_2243 dL_law_2244 dL_law_2246 dL_law_2247 dL_law_2248 ?_
  refine z_scr C hX hsc hH.2.2 2249 2 hl 0 4 rfl rfl (by omega) hL dL_law_2249 dL_law_2250 dL_law_2252 dL_law_2253 dL_law_2254 ?_
  refine z_scr C hX hsc hH.2.2 2255 3 hl 0 4 rfl rfl (by omega) hL dL_law_2255 dL_law_2256 dL_law_2258 dL_law_2259 dL_law_2260 ?_
  refine z_scr C hX hsc hH.2.2 2261 4 hl 0 4 rfl rfl (by omega) hL dL_law_2261 dL_law_2262 dL_law_2264 dL_law_2265 dL_law_2266 ?_
  refine z_scr C hX hsc hH.2.2 2267 5 hl 0 4 rfl rfl (by omega) hL dL_law_2267 dL_law_2268 dL_law_2270 dL_law_2271 dL_law_2272 ?_
  have hM := m_X7_together l s G H.size adm Fm Am n v (Am 3) t (sx xs j 1) (sx xs j 2) (sx xs j 3) (sx xs j 4) (sx xs j 5) (by first | assumption | omega) (by first | assumption | omega) (by first | assumption | omega) (by first | assumption | omega) (by first | assumption | omega) (by first | assumption | omega) (by first | assumption | omega) (by first | assumption | omega)
  simp only [va_up_id m2, va_up_id m5, va_up_id m6, va_up_id m7, va_up_id m8, va_up_id m12, va_up_id m13, va_up_id m29, va_up_id m30, va_up_id hA1, va_up_id (cI_self hA3), va_up_id (cI_self hA4), va_up_id (rfl : Am 9 = Am 9), va_up_id (rfl : Am 10 = Am 10), va_up_id (rfl : Am 11 = Am 11), va_up_id (rfl : Am 14 = Am 14), va_up_id (rfl : Am 15 = Am 15)] at hM
  refine z_fr (w1 := mW adm G Fm Am) (z_runV C hH.2.2 hl.1 (zH_l hH).1 (zH_l hH).2.1 5 (As := [.int (iZ (sx xs j 1)), .int (iZ (sx xs j 2)), .int (iZ (sx xs j 3)), .int (iZ (sx xs j 4)), .int (iZ (sx xs j 5))]) (rest := [.int (iZ r1)]) hM (lw_V q1912 q1913 q1914 q95 q1915) ⟨rfl, by decide, by decide, by decide +kernel⟩ (q0 := 0) (ci := 0) rfl rfl rfl rfl (Nat.le_of_ble_eq_true rfl) ⟨Nat.le_of_ble_eq_true rfl, Nat.le_of_ble_eq_true rfl⟩ ⟨by show _ + 0 ≤ 1200144; omega, by show _ + 0 ≤ 5497402; omega⟩ dL_law_2273) hH (fun u H locs hpost hH => ?_)
  obtain ⟨r7, F2m, A2m⟩ := u
  obtain ⟨hs7, hk7⟩ := hpost
  refine z_st (st' := [.int (iZ r7), .int (iZ r1)]) rfl ?_
  have hH := zH_rot hH
  refine z_same2 C 2276 2566 dL_law_2276 rfl (one_together hs1 hs7) ?_
  exact W.widen (by omega) (by omega) (K ls _ _ hl ⟨tt, tp, ln, fa, fp, b, t, n, v, wt, un, hm, hvv, hww, fr, F2, A2, kp, L, pl, pr, pa, pm, pf, F2m, A2m, fo, hDK2, MDI_q hMD0 hk7, hH⟩)

set_option maxHeartbeats 8000000 in
theorem L_46 {pg : Program} {l : Launch} {ev : Env} {s : State} {m : MethodId} {ar : Array Value} {bl : List Frame} {me : Method} {c : Code} {Q : State → Prop} {G : zG} {sc LL : Nat} {xs : Nat → Int32} {nw : Nat} {wq wv : Nat → Nat} {lq lva : Nat} {ls : Array Slot} {H : Heap} {locs : List Loc} {ce sl : Nat} {ad adm : Nat → Nat} {o j : Nat} (CX : LCT pg l s m ar me c G sc LL xs nw wq wv lq lva) (hj : j + 6 ≤ LL) (hl : lv_has ls 7 [(4, .int (iZ (j : Int))), (3, .ref o), (2, .ref (adm 0)), (1, .ref (ad 99)), (0, .ref sc)]) (hS : LST s G nw ad adm o H locs) (hce : ce + 40000 ≤ 1200144) (hsl : sl + 200000 ≤ 5497402) (K : ∀ (ls1 : Array Slot) (H1 : Heap) (locs1 : List Loc), lv_has ls1 7 [(4, .int (iZ (j : Int))), (3, .ref o), (2, .ref (adm 0)), (1, .ref (ad 99)), (0, .ref sc)] → LST s G nw ad adm o H1 locs1 → W pg l ev room_1 s m ar bl me c H1 locs1 (ce + 40000) (sl + 200000) Q (F0 m 2566 ls1 [])) : W pg l ev room_1 s m ar bl me c H locs ce sl Q (F0 m 2281 ls []) := by
  obtain ⟨C, ⟨hX, hsc, hL⟩, hlt, hnw, hBx, hcs, hsi, hth, hthq, hni, hRW, hlit⟩ := CX
  obtain ⟨tt, tp, ln, fa, fp, b, t, n, v, wt, un, hm, hvv, hww, fr, F, Ar, kp, L, pl, pr, pa, pm, pf, Fm, Am, fo, hDK, hMD, hH⟩ := hS
  have hDK0 := hDK
  have hMD0 := hMD
  obtain ⟨hD, ⟨hF1, hF2, hF3, hF6⟩, htt, htp, htb⟩ := hDK
  have hD0 := hD
  obtain ⟨⟨hn, hFn, hv, hAv, hwt, hAw⟩, ⟨hb, hFb, ht, hFt⟩, ⟨hun, hF14, hkt, hPD⟩, ⟨hPL, hpc⟩, hmo, hfr, h16⟩ := hD
  obtain ⟨⟨m2, m5, m6, m7, m8, m12, m13, m29, m30⟩, hA1, hA3, hA4, hPA⟩ := hMD
  have hpp := PLS_pool hPL
  have hpl := PLS_pl hPL
  have hx1 := sx_r (xs := xs) (j := j) (k := 1)
  have hx2 := sx_r (xs := xs) (j := j) (k := 2)
  have hx3 := sx_r (xs := xs) (j := j) (k := 3)
  have hx4 := sx_r (xs := xs) (j := j) (k := 4)
  have hx5 := sx_r (xs := xs) (j := j) (k := 5)
  have hnzr := nz_r (x := sx xs j 3)
  have hnzb := nz_b (x := sx xs j 3)
  refine z_aload_n C 2281 hl dL_law_2281 rfl 3 rfl ?_
  refine z_scr C hX hsc hH.2.2 2282 1 hl 0 4 rfl rfl (by omega) hL dL_law_2282 dL_law_2283 dL_law_2285 dL_law_2286 dL_law_2287 ?_
  refine z_scr C hX hsc hH.2.2 2288 2 hl 0 4 rfl rfl (by omega) hL dL_law_2288 dL_law_2289 dL_law_2291 dL_law_2292 dL_law_2293 ?_
  refine z_scr C hX hsc hH.2.2 2294 3 hl 0 4 rfl rfl (by omega) hL dL_law_2294 dL_law_2295 dL_law_2297 dL_law_2298 dL_law_2299 ?_
  have hM := m_X1_agree l s G H.size ad F Ar kp pl (dPool G pr pa pm pf L) n v pr pa pm pf nw b t (sx xs j 1) (sx xs j 2) (sx xs j 3) (by first | assumption | omega) (by first | assumption | omega) (by first | assumption | omega) (by first | assumption | omega) (by first | assumption | omega) (by first | assumption | omega) (by first | assumption | omega) (by first | assumption | omega) (by first | assumption | omega) (by first | assumption | omega) (by first | assumption | omega) (by first | assumption | omega) (by first | assumption | omega) (by first | assumption | omega) (by first | assumption | omega) (by first | assumption | omega)
  rw [va_up_id h16] at hM
  refine z_fr (w1 := dW ad G F Ar kp pl (dPool G pr pa pm pf L)) (z_runV C hH.2.2 hl.1 (zH_l hH).1 (zH_l hH).2.1 3 (As := [.int (iZ (sx xs j 1)), .int (iZ (sx xs j 2)), .int (iZ (sx xs j 3))]) (rest := []) hM (lw_V q1291 q1292 q1293 q89 q1294) ⟨rfl, by decide, by decide, by decide +kernel⟩ (q0 := 0) (ci := 1) rfl rfl rfl rfl (Nat.le_of_ble_eq_true rfl) ⟨Nat.le_of_ble_eq_true rfl, Nat.le_of_ble_eq_true rfl⟩ ⟨by show _ + 0 ≤ 1200144; omega, by show _ + 0 ≤ 5497402; omega⟩ dL_law_2300) hH (fun u H locs hpost hH => ?_)
  obtain ⟨r1, F2, A2⟩ := u
  obtain ⟨hs1, hk1⟩ := hpost
  have hDK2 := DKI_q hDK0 hk1
  refine z_st (st' := [.int (iZ r1)]) rfl ?_
  have hH := zH_rot hH
  refine z_aload_n C 2303 hl dL_law_2303 rfl 2 rfl ?_
  refine z_scr C hX hsc hH.2.2 2304 1 hl 0 4 rfl rfl (by omega) hL dL_law_2304 dL_law_2305 dL_law_2307 dL_law_2308 dL_law_2309 ?_
  refine z_scr C hX hsc hH.2.2 2310 2 hl 0 4 rfl rfl (by omega) hL dL_law_2310 dL_law_2311 dL_law_2313 dL_law_2314 dL_law_2315 ?_
  refine z_scr C hX hsc hH.2.2 2316 3 hl 0 4 rfl rfl (by omega) hL dL_law_2316 dL_law_2317 dL_law_2319 dL_law_2320 dL_law_2321 ?_
  have hM := m_X7_agree l s G H.size adm Fm Am n v (Am 3) t (sx xs j 1) (sx xs j 2) (sx xs j 3) (by first | assumption | omega) (by first | assumption | omega) (by first | assumption | omega) (by first | assumption | omega) (by first | assumption | omega) (by first | assumption | omega)
  simp only [va_up_id m2, va_up_id m5, va_up_id m6, va_up_id m7, va_up_id m8, va_up_id m12, va_up_id m13, va_up_id m29, va_up_id m30, va_up_id hA1, va_up_id (cI_self hA3), va_up_id (cI_self hA4), va_up_id (rfl : Am 9 = Am 9), va_up_id (rfl : Am 10 = Am 10), va_up_id (rfl : Am 11 = Am 11), va_up_id (rfl : Am 14 = Am 14), va_up_id (rfl : Am 15 = Am 15)] at hM
  refine z_fr (w1 := mW adm G Fm Am) (z_runV C hH.2.2 hl.1 (zH_l hH).1 (zH_l hH).2.1 3 (As := [.int (iZ (sx xs j 1)), .int (iZ (sx xs j 2)), .int (iZ (sx xs j 3))]) (rest := [.int (iZ r1)]) hM (lw_V q1916 q1917 q1918 q95 q1919) ⟨rfl, by decide, by decide, by decide +kernel⟩ (q0 := 0) (ci := 0) rfl rfl rfl rfl (Nat.le_of_ble_eq_true rfl) ⟨Nat.le_of_ble_eq_true rfl, Nat.le_of_ble_eq_true rfl⟩ ⟨by show _ + 0 ≤ 1200144; omega, by show _ + 0 ≤ 5497402; omega⟩ dL_law_2322) hH (fun u H locs hpost hH => ?_)
  obtain ⟨r7, F2m, A2m⟩ := u
  obtain ⟨hs7, hk7⟩ := hpost
  refine z_st (st' := [.int (iZ r7), .int (iZ r1)]) rfl ?_
  have hH := zH_rot hH
  refine z_same2 C 2325 2566 dL_law_2325 rfl (one_agree hs1 hs7) ?_
  exact W.widen (by omega) (by omega) (K ls _ _ hl ⟨tt, tp, ln, fa, fp, b, t, n, v, wt, un, hm, hvv, hww, fr, F2, A2, kp, L, pl, pr, pa, pm, pf, F2m, A2m, fo, hDK2, MDI_q hMD0 hk7, hH⟩)

set_option maxHeartbeats 8000000 in
theorem L_47 {pg : Program} {l : Launch} {ev : Env} {s : State} {m : MethodId} {ar : Array Value} {bl : List Frame} {me : Method} {c : Code} {Q : State → Prop} {G : zG} {sc LL : Nat} {xs : Nat → Int32} {nw : Nat} {wq wv : Nat → Nat} {lq lva : Nat} {ls : Array Slot} {H : Heap} {locs : List Loc} {ce sl : Nat} {ad adm : Nat → Nat} {o j : Nat} (CX : LCT pg l s m ar me c G sc LL xs nw wq wv lq lva) (hj : j + 6 ≤ LL) (hl : lv_has ls 7 [(4, .int (iZ (j : Int))), (3, .ref o), (2, .ref (adm 0)), (1, .ref (ad 99)), (0, .ref sc)]) (hS : LST s G nw ad adm o H locs) (hce : ce + 40000 ≤ 1200144) (hsl : sl + 200000 ≤ 5497402) (K : ∀ (ls1 : Array Slot) (H1 : Heap) (locs1 : List Loc), lv_has ls1 7 [(4, .int (iZ (j : Int))), (3, .ref o), (2, .ref (adm 0)), (1, .ref (ad 99)), (0, .ref sc)] → LST s G nw ad adm o H1 locs1 → W pg l ev room_1 s m ar bl me c H1 locs1 (ce + 40000) (sl + 200000) Q (F0 m 2566 ls1 [])) : W pg l ev room_1 s m ar bl me c H locs ce sl Q (F0 m 2330 ls []) := by
  obtain ⟨C, ⟨hX, hsc, hL⟩, hlt, hnw, hBx, hcs, hsi, hth, hthq, hni, hRW, hlit⟩ := CX
  obtain ⟨tt, tp, ln, fa, fp, b, t, n, v, wt, un, hm, hvv, hww, fr, F, Ar, kp, L, pl, pr, pa, pm, pf, Fm, Am, fo, hDK, hMD, hH⟩ := hS
  have hDK0 := hDK
  have hMD0 := hMD
  obtain ⟨hD, ⟨hF1, hF2, hF3, hF6⟩, htt, htp, htb⟩ := hDK
  have hD0 := hD
  obtain ⟨⟨hn, hFn, hv, hAv, hwt, hAw⟩, ⟨hb, hFb, ht, hFt⟩, ⟨hun, hF14, hkt, hPD⟩, ⟨hPL, hpc⟩, hmo, hfr, h16⟩ := hD
  obtain ⟨⟨m2, m5, m6, m7, m8, m12, m13, m29, m30⟩, hA1, hA3, hA4, hPA⟩ := hMD
  have hpp := PLS_pool hPL
  have hpl := PLS_pl hPL
  have hx1 := sx_r (xs := xs) (j := j) (k := 1)
  have hx2 := sx_r (xs := xs) (j := j) (k := 2)
  have hx3 := sx_r (xs := xs) (j := j) (k := 3)
  have hx4 := sx_r (xs := xs) (j := j) (k := 4)
  have hx5 := sx_r (xs := xs) (j := j) (k := 5)
  have hnzr := nz_r (x := sx xs j 3)
  have hnzb := nz_b (x := sx xs j 3)
  refine z_aload_n C 2330 hl dL_law_2330 rfl 3 rfl ?_
  refine z_scr C hX hsc hH.2.2 2331 1 hl 0 4 rfl rfl (by omega) hL dL_law_2331 dL_law_2332 dL_law_2334 dL_law_2335 dL_law_2336 ?_
  refine z_scr C hX hsc hH.2.2 2337 2 hl 0 4 rfl rfl (by omega) hL dL_law_2337 dL_law_2338 dL_law_2340 dL_law_2341 dL_law_2342 ?_
  refine z_scr C hX hsc hH.2.2 2343 3 hl 0 4 rfl rfl (by omega) hL dL_law_2343 dL_law_2344 dL_law_2346 dL_law_2347 dL_law_2348 ?_
  have hM := m_X1_peeled l s G H.size ad F Ar kp pl (dPool G pr pa pm pf L) n v pr pa pm pf nw b t (sx xs j 1) (sx xs j 2) (sx xs j 3) (by first | assumption | omega) (by first | assumption | omega) (by first | assumption | omega) (by first | assumption | omega) (by first | assumption | omega) (by first | assumption | omega) (by first | assumption | omega) (by first | assumption | omega) (by first | assumption | omega) (by first | assumption | omega) (by first | assumption | omega) (by first | assumption | omega) (by first | assumption | omega) (by first | assumption | omega) (by first | assumption | omega) (by first | assumption | omega)
  rw [va_up_id h16] at hM
  refine z_fr (w1 := dW ad G F Ar kp pl (dPool G pr pa pm pf L)) (z_runV C hH.2.2 hl.1 (zH_l hH).1 (zH_l hH).2.1 3 (As := [.int (iZ (sx xs j 1)), .int (iZ (sx xs j 2)), .int (iZ (sx xs j 3))]) (rest := []) hM (lw_V q1295 q1296 q1297 q89 q1298) ⟨rfl, by decide, by decide, by decide +kernel⟩ (q0 := 0) (ci := 1) rfl rfl rfl rfl (Nat.le_of_ble_eq_true rfl) ⟨Nat.le_of_ble_eq_true rfl, Nat.le_of_ble_eq_true rfl⟩ ⟨by show _ + 0 ≤ 1200144; omega, by show _ + 0 ≤ 5497402; omega⟩ dL_law_2349) hH (fun u H locs hpost hH => ?_)
  obtain ⟨r1, F2, A2⟩ := u
  obtain ⟨hs1, hk1⟩ := hpost
  have hDK2 := DKI_q hDK0 hk1
  refine z_st (st' := [.int (iZ r1)]) rfl ?_
  have hH := zH_rot hH
  refine z_aload_n C 2352 hl dL_law_2352 rfl 2 rfl ?_
  refine z_scr C hX hsc hH.2.2 2353 1 hl 0 4 rfl rfl (by omega) hL dL_law_2353 dL_law_2354 dL_law_2356 dL_law_2357 dL_law_2358 ?_
  refine z_scr C hX hsc hH.2.2 2359 2 hl 0 4 rfl rfl (by omega) hL dL_law_2359 dL_law_2360 dL_law_2362 dL_law_2363 dL_law_2364 ?_
  refine z_scr C hX hsc hH.2.2 2365 3 hl 0 4 rfl rfl (by omega) hL dL_law_2365 dL_law_2366 dL_law_2368 dL_law_2369 dL_law_2370 ?_
  have hM := m_X7_peeled l s G H.size adm Fm Am n v (Am 3) t (sx xs j 1) (sx xs j 2) (sx xs j 3) (by first | assumption | omega) (by first | assumption | omega) (by first | assumption | omega) (by first | assumption | omega) (by first | assumption | omega) (by first | assumption | omega)
  simp only [va_up_id m2, va_up_id m5, va_up_id m6, va_up_id m7, va_up_id m8, va_up_id m12, va_up_id m13, va_up_id m29, va_up_id m30, va_up_id hA1, va_up_id (cI_self hA3), va_up_id (cI_self hA4), va_up_id (rfl : Am 9 = Am 9), va_up_id (rfl : Am 10 = Am 10), va_up_id (rfl : Am 11 = Am 11), va_up_id (rfl : Am 14 = Am 14), va_up_id (rfl : Am 15 = Am 15)] at hM
  refine z_fr (w1 := mW adm G Fm Am) (z_runV C hH.2.2 hl.1 (zH_l hH).1 (zH_l hH).2.1 3 (As := [.int (iZ (sx xs j 1)), .int (iZ (sx xs j 2)), .int (iZ (sx xs j 3))]) (rest := [.int (iZ r1)]) hM (lw_V q1920 q1921 q1922 q95 q1923) ⟨rfl, by decide, by decide, by decide +kernel⟩ (q0 := 0) (ci := 0) rfl rfl rfl rfl (Nat.le_of_ble_eq_true rfl) ⟨Nat.le_of_ble_eq_true rfl, Nat.le_of_ble_eq_true rfl⟩ ⟨by show _ + 0 ≤ 1200144; omega, by show _ + 0 ≤ 5497402; omega⟩ dL_law_2371) hH (fun u H locs hpost hH => ?_)
  obtain ⟨r7, F2m, A2m⟩ := u
  obtain ⟨hs7, hk7⟩ := hpost
  refine z_st (st' := [.int (iZ r7), .int (iZ r1)]) rfl ?_
  have hH := zH_rot hH
  refine z_same2 C 2374 2566 dL_law_2374 rfl (one_peeled hs1 hs7) ?_
  exact W.widen (by omega) (by omega) (K ls _ _ hl ⟨tt, tp, ln, fa, fp, b, t, n, v, wt, un, hm, hvv, hww, fr, F2, A2, kp, L, pl, pr, pa, pm, pf, F2m, A2m, fo, hDK2, MDI_q hMD0 hk7, hH⟩)

set_option maxHeartbeats 8000000 in
theorem L_48 {pg : Program} {l : Launch} {ev : Env} {s : State} {m : MethodId} {ar : Array Value} {bl : List Frame} {me : Method} {c : Code} {Q : State → Prop} {G : zG} {sc LL : Nat} {xs : Nat → Int32} {nw : Nat} {wq wv : Nat → Nat} {lq lva : Nat} {ls : Array Slot} {H : Heap} {locs : List Loc} {ce sl : Nat} {ad adm : Nat → Nat} {o j : Nat} (CX : LCT pg l s m ar me c G sc LL xs nw wq wv lq lva) (hj : j + 6 ≤ LL) (hl : lv_has ls 7 [(4, .int (iZ (j : Int))), (3, .ref o), (2, .ref (adm 0)), (1, .ref (ad 99)), (0, .ref sc)]) (hS : LST s G nw ad adm o H locs) (hce : ce + 40000 ≤ 1200144) (hsl : sl + 200000 ≤ 5497402) (K : ∀ (ls1 : Array Slot) (H1 : Heap) (locs1 : List Loc), lv_has ls1 7 [(4, .int (iZ (j : Int))), (3, .ref o), (2, .ref (adm 0)), (1, .ref (ad 99)), (0, .ref sc)] → LST s G nw ad adm o H1 locs1 → W pg l ev room_1 s m ar bl me c H1 locs1 (ce + 40000) (sl + 200000) Q (F0 m 2566 ls1 [])) : W pg l ev room_1 s m ar bl me c H locs ce sl Q (F0 m 2379 ls []) := by
  obtain ⟨C, ⟨hX, hsc, hL⟩, hlt, hnw, hBx, hcs, hsi, hth, hthq, hni, hRW, hlit⟩ := CX
  obtain ⟨tt, tp, ln, fa, fp, b, t, n, v, wt, un, hm, hvv, hww, fr, F, Ar, kp, L, pl, pr, pa, pm, pf, Fm, Am, fo, hDK, hMD, hH⟩ := hS
  have hDK0 := hDK
  have hMD0 := hMD
  obtain ⟨hD, ⟨hF1, hF2, hF3, hF6⟩, htt, htp, htb⟩ := hDK
  have hD0 := hD
  obtain ⟨⟨hn, hFn, hv, hAv, hwt, hAw⟩, ⟨hb, hFb, ht, hFt⟩, ⟨hun, hF14, hkt, hPD⟩, ⟨hPL, hpc⟩, hmo, hfr, h16⟩ := hD
  obtain ⟨⟨m2, m5, m6, m7, m8, m12, m13, m29, m30⟩, hA1, hA3, hA4, hPA⟩ := hMD
  have hpp := PLS_pool hPL
  have hpl := PLS_pl hPL
  have hx1 := sx_r (xs := xs) (j := j) (k := 1)
  have hx2 := sx_r (xs := xs) (j := j) (k := 2)
  have hx3 := sx_r (xs := xs) (j := j) (k := 3)
  have hx4 := sx_r (xs := xs) (j := j) (k := 4)
  have hx5 := sx_r (xs := xs) (j := j) (k := 5)
  have hnzr := nz_r (x := sx xs j 3)
  have hnzb := nz_b (x := sx xs j 3)
  refine z_aload_n C 2379 hl dL_law_2379 rfl 3 rfl ?_
  refine z_scr C hX hsc hH.2.2 2380 1 hl 0 4 rfl rfl (by omega) hL dL_law_2380 dL_law_2381 dL_law_2383 dL_law_2384 dL_law_2385 ?_
  refine z_scr C hX hsc hH.2.2 2386 2 hl 0 4 rfl rfl (by omega) hL dL_law_2386 dL_law_2387 dL_law_2389 dL_law_2390 dL_law_2391 ?_
  have hM := m_X1_reign l s G H.size ad F Ar kp pl (dPool G pr pa pm pf L) n v pr pa pm pf nw b t (sx xs j 1) (sx xs j 2) (by first | assumption | omega) (by first | assumption | omega) (by first | assumption | omega) (by first | assumption | omega) (by first | assumption | omega) (by first | assumption | omega) (by first | assumption | omega) (by first | assumption | omega) (by first | assumption | omega) (by first | assumption | omega) (by first | assumption | omega) (by first | assumption | omega) (by first | assumption | omega) (by first | assumption | omega) (by first | assumption | omega)
  rw [va_up_id h16] at hM
  refine z_fr (w1 := dW ad G F Ar kp pl (dPool G pr pa pm pf L)) (z_runV C hH.2.2 hl.1 (zH_l hH).1 (zH_l hH).2.1 2 (As := [.int (iZ (sx xs j 1)), .int (iZ (sx xs j 2))]) (rest := []) hM (lw_V q1299 q1300 q1301 q89 q1302) ⟨rfl, by decide, by decide, by decide +kernel⟩ (q0 := 0) (ci := 1) rfl rfl rfl rfl (Nat.le_of_ble_eq_true rfl) ⟨Nat.le_of_ble_eq_true rfl, Nat.le_of_ble_eq_true rfl⟩ ⟨by show _ + 1 ≤ 1200144; omega, by show _ + 3 ≤ 5497402; omega⟩ dL_law_2392) hH (fun u H locs hpost hH => ?_)
  obtain ⟨r1, F2, A2⟩ := u
  obtain ⟨hs1, hk1⟩ := hpost
  have hDK2 := DKI_q hDK0 hk1
  refine z_st (st' := [.int (iZ r1)]) rfl ?_
  have hH := zH_rot hH
  refine z_aload_n C 2395 hl dL_law_2395 rfl 2 rfl ?_
  refine z_scr C hX hsc hH.2.2 2396 1 hl 0 4 rfl rfl (by omega) hL dL_law_2396 dL_law_2397 dL_law_2399 dL_law_2400 dL_law_2401 ?_
  refine z_scr C hX hsc hH.2.2 2402 2 hl 0 4 rfl rfl (by omega) hL dL_law_2402 dL_law_2403 dL_law_2405 dL_law_2406 dL_law_2407 ?_
  have hM := m_X7_reign l s G H.size adm Fm Am n v (Am 3) t (sx xs j 1) (sx xs j 2) (by first | assumption | omega) (by first | assumption | omega) (by first | assumption | omega) (by first | assumption | omega) (by first | assumption | omega)
  simp only [va_up_id m2, va_up_id m5, va_up_id m6, va_up_id m7, va_up_id m8, va_up_id m12, va_up_id m13, va_up_id m29, va_up_id m30, va_up_id hA1, va_up_id (cI_self hA3), va_up_id (cI_self hA4), va_up_id (rfl : Am 9 = Am 9), va_up_id (rfl : Am 10 = Am 10), va_up_id (rfl : Am 11 = Am 11), va_up_id (rfl : Am 14 = Am 14), va_up_id (rfl : Am 15 = Am 15)] at hM
  refine z_fr (w1 := mW adm G Fm Am) (z_runV C hH.2.2 hl.1 (zH_l hH).1 (zH_l hH).2.1 2 (As := [.int (iZ (sx xs j 1)), .int (iZ (sx xs j 2))]) (rest := [.int (iZ r1)]) hM (lw_V q1932 q1933 q1934 q95 q1935) ⟨rfl, by decide, by decide, by decide +kernel⟩ (q0 := 0) (ci := 0) rfl rfl rfl rfl (Nat.le_of_ble_eq_true rfl) ⟨Nat.le_of_ble_eq_true rfl, Nat.le_of_ble_eq_true rfl⟩ ⟨by show _ + 0 ≤ 1200144; omega, by show _ + 0 ≤ 5497402; omega⟩ dL_law_2408) hH (fun u H locs hpost hH => ?_)
  obtain ⟨r7, F2m, A2m⟩ := u
  obtain ⟨hs7, hk7⟩ := hpost
  refine z_st (st' := [.int (iZ r7), .int (iZ r1)]) rfl ?_
  have hH := zH_rot hH
  refine z_same2 C 2411 2566 dL_law_2411 rfl (one_reign hs1 hs7) ?_
  exact W.widen (by omega) (by omega) (K ls _ _ hl ⟨tt, tp, ln, fa, fp, b, t, n, v, wt, un, hm, hvv, hww, fr, F2, A2, kp, L, pl, pr, pa, pm, pf, F2m, A2m, fo, hDK2, MDI_q hMD0 hk7, hH⟩)

set_option maxHeartbeats 8000000 in
theorem L_49 {pg : Program} {l : Launch} {ev : Env} {s : State} {m : MethodId} {ar : Array Value} {bl : List Frame} {me : Method} {c : Code} {Q : State → Prop} {G : zG} {sc LL : Nat} {xs : Nat → Int32} {nw : Nat} {wq wv : Nat → Nat} {lq lva : Nat} {ls : Array Slot} {H : Heap} {locs : List Loc} {ce sl : Nat} {ad adm : Nat → Nat} {o j : Nat} (CX : LCT pg l s m ar me c G sc LL xs nw wq wv lq lva) (hj : j + 6 ≤ LL) (hl : lv_has ls 7 [(4, .int (iZ (j : Int))), (3, .ref o), (2, .ref (adm 0)), (1, .ref (ad 99)), (0, .ref sc)]) (hS : LST s G nw ad adm o H locs) (hce : ce + 40000 ≤ 1200144) (hsl : sl + 200000 ≤ 5497402) (K : ∀ (ls1 : Array Slot) (H1 : Heap) (locs1 : List Loc), lv_has ls1 7 [(4, .int (iZ (j : Int))), (3, .ref o), (2, .ref (adm 0)), (1, .ref (ad 99)), (0, .ref sc)] → LST s G nw ad adm o H1 locs1 → W pg l ev room_1 s m ar bl me c H1 locs1 (ce + 40000) (sl + 200000) Q (F0 m 2566 ls1 [])) : W pg l ev room_1 s m ar bl me c H locs ce sl Q (F0 m 2416 ls []) := by
  obtain ⟨C, ⟨hX, hsc, hL⟩, hlt, hnw, hBx, hcs, hsi, hth, hthq, hni, hRW, hlit⟩ := CX
  obtain ⟨tt, tp, ln, fa, fp, b, t, n, v, wt, un, hm, hvv, hww, fr, F, Ar, kp, L, pl, pr, pa, pm, pf, Fm, Am, fo, hDK, hMD, hH⟩ := hS
  have hDK0 := hDK
  have hMD0 := hMD
  obtain ⟨hD, ⟨hF1, hF2, hF3, hF6⟩, htt, htp, htb⟩ := hDK
  have hD0 := hD
  obtain ⟨⟨hn, hFn, hv, hAv, hwt, hAw⟩, ⟨hb, hFb, ht, hFt⟩, ⟨hun, hF14, hkt, hPD⟩, ⟨hPL, hpc⟩, hmo, hfr, h16⟩ := hD
  obtain ⟨⟨m2, m5, m6, m7, m8, m12, m13, m29, m30⟩, hA1, hA3, hA4, hPA⟩ := hMD
  have hpp := PLS_pool hPL
  have hpl := PLS_pl hPL
  have hx1 := sx_r (xs := xs) (j := j) (k := 1)
  have hx2 := sx_r (xs := xs) (j := j) (k := 2)
  have hx3 := sx_r (xs := xs) (j := j) (k := 3)
  have hx4 := sx_r (xs := xs) (j := j) (k := 4)
  have hx5 := sx_r (xs := xs) (j := j) (k := 5)
  have hnzr := nz_r (x := sx xs j 3)
  have hnzb := nz_b (x := sx xs j 3)
  refine z_aload_n C 2416 hl dL_law_2416 rfl 3 rfl ?_
  refine z_scr C hX hsc hH.2.2 2417 1 hl 0 4 rfl rfl (by omega) hL dL_law_2417 dL_law_2418 dL_law_2420 dL_law_2421 dL_law_2422 ?_
  have hM := m_X1_beginnings l s G H.size ad F Ar kp pl (dPool G pr pa pm pf L) n v pr pa pm pf nw b t (sx xs j 1) (by first | assumption | omega) (by first | assumption | omega) (by first | assumption | omega) (by first | assumption | omega) (by first | assumption | omega) (by first | assumption | omega) (by first | assumption | omega) (by first | assumption | omega) (by first | assumption | omega) (by first | assumption | omega) (by first | assumption | omega) (by first | assumption | omega) (by first | assumption | omega) (by first | assumption | omega)
  rw [va_up_id h16] at hM
  refine z_fr (w1 := dW ad G F Ar kp pl (dPool G pr pa pm pf L)) (z_runV C hH.2.2 hl.1 (zH_l hH).1 (zH_l hH).2.1 1 (As := [.int (iZ (sx xs j 1))]) (rest := []) hM (lw_V q1320 q1321 q1322 q89 q1323) ⟨rfl, by decide, by decide, by decide +kernel⟩ (q0 := 0) (ci := 1) rfl rfl rfl rfl (Nat.le_of_ble_eq_true rfl) ⟨Nat.le_of_ble_eq_true rfl, Nat.le_of_ble_eq_true rfl⟩ ⟨by show _ + 0 ≤ 1200144; omega, by show _ + 0 ≤ 5497402; omega⟩ dL_law_2423) hH (fun u H locs hpost hH => ?_)
  obtain ⟨r1, F2, A2⟩ := u
  obtain ⟨hs1, hk1⟩ := hpost
  have hDK2 := DKI_q hDK0 hk1
  refine z_st (st' := [.int (iZ r1)]) rfl ?_
  have hH := zH_rot hH
  refine z_aload_n C 2426 hl dL_law_2426 rfl 2 rfl ?_
  refine z_scr C hX hsc hH.2.2 2427 1 hl 0 4 rfl rfl (by omega) hL dL_law_2427 dL_law_2428 dL_law_2430 dL_law_2431 dL_law_2432 ?_
  have hM := m_X7_beginnings l s G H.size adm Fm Am n v (Am 3) t (sx xs j 1) (by first | assumption | omega) (by first | assumption | omega) (by first | assumption | omega) (by first | assumption | omega)
  simp only [va_up_id m2, va_up_id m5, va_up_id m6, va_up_id m7, va_up_id m8, va_up_id m12, va_up_id m13, va_up_id m29, va_up_id m30, va_up_id hA1, va_up_id (cI_self hA3), va_up_id (cI_self hA4), va_up_id (rfl : Am 9 = Am 9), va_up_id (rfl : Am 10 = Am 10), va_up_id (rfl : Am 11 = Am 11), va_up_id (rfl : Am 14 = Am 14), va_up_id (rfl : Am 15 = Am 15)] at hM
  refine z_fr (w1 := mW adm G Fm Am) (z_runV C hH.2.2 hl.1 (zH_l hH).1 (zH_l hH).2.1 1 (As := [.int (iZ (sx xs j 1))]) (rest := [.int (iZ r1)]) hM (lw_V q1936 q1937 q1938 q95 q1939) ⟨rfl, by decide, by decide, by decide +kernel⟩ (q0 := 0) (ci := 0) rfl rfl rfl rfl (Nat.le_of_ble_eq_true rfl) ⟨Nat.le_of_ble_eq_true rfl, Nat.le_of_ble_eq_true rfl⟩ ⟨by show _ + 0 ≤ 1200144; omega, by show _ + 0 ≤ 5497402; omega⟩ dL_law_2433) hH (fun u H locs hpost hH => ?_)
  obtain ⟨r7, F2m, A2m⟩ := u
  obtain ⟨hs7, hk7⟩ := hpost
  refine z_st (st' := [.int (iZ r7), .int (iZ r1)]) rfl ?_
  have hH := zH_rot hH
  refine z_same2 C 2436 2566 dL_law_2436 rfl (one_beginnings hs1 hs7) ?_
  exact W.widen (by omega) (by omega) (K ls _ _ hl ⟨tt, tp, ln, fa, fp, b, t, n, v, wt, un, hm, hvv, hww, fr, F2, A2, kp, L, pl, pr, pa, pm, pf, F2m, A2m, fo, hDK2, MDI_q hMD0 hk7, hH⟩)

set_option maxHeartbeats 8000000 in
theorem L_50 {pg : Program} {l : Launch} {ev : Env} {s : State} {m : MethodId} {ar : Array Value} {bl : List Frame} {me : Method} {c : Code} {Q : State → Prop} {G : zG} {sc LL : Nat} {xs : Nat → Int32} {nw : Nat} {wq wv : Nat → Nat} {lq lva : Nat} {ls : Array Slot} {H : Heap} {locs : List Loc} {ce sl : Nat} {ad adm : Nat → Nat} {o j : Nat} (CX : LCT pg l s m ar me c G sc LL xs nw wq wv lq lva) (hj : j + 6 ≤ LL) (hl : lv_has ls 7 [(4, .int (iZ (j : Int))), (3, .ref o), (2, .ref (adm 0)), (1, .ref (ad 99)), (0, .ref sc)]) (hS : LST s G nw ad adm o H locs) (hce : ce + 40000 ≤ 1200144) (hsl : sl + 200000 ≤ 5497402) (K : ∀ (ls1 : Array Slot) (H1 : Heap) (locs1 : List Loc), lv_has ls1 7 [(4, .int (iZ (j : Int))), (3, .ref o), (2, .ref (adm 0)), (1, .ref (ad 99)), (0, .ref sc)] → LST s G nw ad adm o H1 locs1 → W pg l ev room_1 s m ar bl me c H1 locs1 (ce + 40000) (sl + 200000) Q (F0 m 2566 ls1 [])) : W pg l ev room_1 s m ar bl me c H locs ce sl Q (F0 m 2441 ls []) := by
  obtain ⟨C, ⟨hX, hsc, hL⟩, hlt, hnw, hBx, hcs, hsi, hth, hthq, hni, hRW, hlit⟩ := CX
  obtain ⟨tt, tp, ln, fa, fp, b, t, n, v, wt, un, hm, hvv, hww, fr, F, Ar, kp, L, pl, pr, pa, pm, pf, Fm, Am, fo, hDK, hMD, hH⟩ := hS
  have hDK0 := hDK
  have hMD0 := hMD
  obtain ⟨hD, ⟨hF1, hF2, hF3, hF6⟩, htt, htp, htb⟩ := hDK
  have hD0 := hD
  obtain ⟨⟨hn, hFn, hv, hAv, hwt, hAw⟩, ⟨hb, hFb, ht, hFt⟩, ⟨hun, hF14, hkt, hPD⟩, ⟨hPL, hpc⟩, hmo, hfr, h16⟩ := hD
  obtain ⟨⟨m2, m5, m6, m7, m8, m12, m13, m29, m30⟩, hA1, hA3, hA4, hPA⟩ := hMD
  have hpp := PLS_pool hPL
  have hpl := PLS_pl hPL
  have hx1 := sx_r (xs := xs) (j := j) (k := 1)
  have hx2 := sx_r (xs := xs) (j := j) (k := 2)
  have hx3 := sx_r (xs := xs) (j := j) (k := 3)
  have hx4 := sx_r (xs := xs) (j := j) (k := 4)
  have hx5 := sx_r (xs := xs) (j := j) (k := 5)
  have hnzr := nz_r (x := sx xs j 3)
  have hnzb := nz_b (x := sx xs j 3)
  refine z_aload_n C 2441 hl dL_law_2441 rfl 3 rfl ?_
  refine z_scr C hX hsc hH.2.2 2442 1 hl 0 4 rfl rfl (by omega) hL dL_law_2442 dL_law_2443 dL_law_2445 dL_law_2446 dL_law_2447 ?_
  have hM := m_X1_since l s G H.size ad F Ar kp pl (dPool G pr pa pm pf L) n v pr pa pm pf nw b t un hm hvv hww (sx xs j 1) (by first | assumption | omega) (by first | assumption | omega) (by first | assumption | omega) (by first | assumption | omega) (by first | assumption | omega) (by first | assumption | omega) (by first | assumption | omega) (by first | assumption | omega) (by first | assumption | omega) (by first | assumption | omega) (by first | assumption | omega) (by first | assumption | omega) (by first | assumption | omega) (by first | assumption | omega) (by first | assumption | omega) (by first | assumption | omega) (by first | assumption | omega) (by first | assumption | omega)
  rw [va_up_id h16] at hM
  refine z_fr (w1 := dW ad G F Ar kp pl (dPool G pr pa pm pf L)) (z_runV C hH.2.2 hl.1 (zH_l hH).1 (zH_l hH).2.1 1 (As := [.int (iZ (sx xs j 1))]) (rest := []) hM (lw_V q1325 q1326 q1327 q89 q1328) ⟨rfl, by decide, by decide, by decide +kernel⟩ (q0 := 0) (ci := 1) rfl rfl rfl rfl (Nat.le_of_ble_eq_true rfl) ⟨Nat.le_of_ble_eq_true rfl, Nat.le_of_ble_eq_true rfl⟩ ⟨by show _ + 0 ≤ 1200144; omega, by show _ + 0 ≤ 5497402; omega⟩ dL_law_2448) hH (fun u H locs hpost hH => ?_)
  obtain ⟨r1, F2, A2⟩ := u
  obtain ⟨hs1, hk1⟩ := hpost
  have hDK2 := DKI_q hDK0 hk1
  refine z_st (st' := [.int (iZ r1)]) rfl ?_
  have hH := zH_rot hH
  refine z_aload_n C 2451 hl dL_law_2451 rfl 2 rfl ?_
  refine z_scr C hX hsc hH.2.2 2452 1 hl 0 4 rfl rfl (by omega) hL dL_law_2452 dL_law_2453 dL_law_2455 dL_law_2456 dL_law_2457 ?_
  have hM := m_X7_since l s G H.size adm Fm Am n v (Am 3) t un hm hvv hww (Am 9) (Am 10) (Am 11) (sx xs j 1) (by first | assumption | omega) (by first | assumption | omega) (by first | assumption | omega) (by first | assumption | omega) (by first | assumption | omega) (by first | assumption | omega)
  simp only [va_up_id m2, va_up_id m5, va_up_id m6, va_up_id m7, va_up_id m8, va_up_id m12, va_up_id m13, va_up_id m29, va_up_id m30, va_up_id hA1, va_up_id (cI_self hA3), va_up_id (cI_self hA4), va_up_id (rfl : Am 9 = Am 9), va_up_id (rfl : Am 10 = Am 10), va_up_id (rfl : Am 11 = Am 11), va_up_id (rfl : Am 14 = Am 14), va_up_id (rfl : Am 15 = Am 15)] at hM
  refine z_fr (w1 := mW adm G Fm Am) (z_runV C hH.2.2 hl.1 (zH_l hH).1 (zH_l hH).2.1 1 (As := [.int (iZ (sx xs j 1))]) (rest := [.int (iZ r1)]) hM (lw_V q1940 q1941 q1942 q95 q1943) ⟨rfl, by decide, by decide, by decide +kernel⟩ (q0 := 0) (ci := 0) rfl rfl rfl rfl (Nat.le_of_ble_eq_true rfl) ⟨Nat.le_of_ble_eq_true rfl, Nat.le_of_ble_eq_true rfl⟩ ⟨by show _ + 0 ≤ 1200144; omega, by show _ + 0 ≤ 5497402; omega⟩ dL_law_2458) hH (fun u H locs hpost hH => ?_)
  obtain ⟨r7, F2m, A2m⟩ := u
  obtain ⟨hs7, hk7⟩ := hpost
  refine z_st (st' := [.int (iZ r7), .int (iZ r1)]) rfl ?_
  have hH := zH_rot hH
  refine z_same2 C 2461 2566 dL_law_2461 rfl (one_since hs1 hs7) ?_
  exact W.widen (by omega) (by omega) (K ls _ _ hl ⟨tt, tp, ln, fa, fp, b, t, n, v, wt, un, hm, hvv, hww, fr, F2, A2, kp, L, pl, pr, pa, pm, pf, F2m, A2m, fo, hDK2, MDI_q hMD0 hk7, hH⟩)

set_option maxHeartbeats 8000000 in
theorem L_51 {pg : Program} {l : Launch} {ev : Env} {s : State} {m : MethodId} {ar : Array Value} {bl : List Frame} {me : Method} {c : Code} {Q : State → Prop} {G : zG} {sc LL : Nat} {xs : Nat → Int32} {nw : Nat} {wq wv : Nat → Nat} {lq lva : Nat} {ls : Array Slot} {H : Heap} {locs : List Loc} {ce sl : Nat} {ad adm : Nat → Nat} {o j : Nat} (CX : LCT pg l s m ar me c G sc LL xs nw wq wv lq lva) (hj : j + 6 ≤ LL) (hl : lv_has ls 7 [(4, .int (iZ (j : Int))), (3, .ref o), (2, .ref (adm 0)), (1, .ref (ad 99)), (0, .ref sc)]) (hS : LST s G nw ad adm o H locs) (hce : ce + 40000 ≤ 1200144) (hsl : sl + 200000 ≤ 5497402) (K : ∀ (ls1 : Array Slot) (H1 : Heap) (locs1 : List Loc), lv_has ls1 7 [(4, .int (iZ (j : Int))), (3, .ref o), (2, .ref (adm 0)), (1, .ref (ad 99)), (0, .ref sc)] → LST s G nw ad adm o H1 locs1 → W pg l ev room_1 s m ar bl me c H1 locs1 (ce + 40000) (sl + 200000) Q (F0 m 2566 ls1 [])) : W pg l ev room_1 s m ar bl me c H locs ce sl Q (F0 m 2466 ls []) := by
  obtain ⟨C, ⟨hX, hsc, hL⟩, hlt, hnw, hBx, hcs, hsi, hth, hthq, hni, hRW, hlit⟩ := CX
  obtain ⟨tt, tp, ln, fa, fp, b, t, n, v, wt, un, hm, hvv, hww, fr, F, Ar, kp, L, pl, pr, pa, pm, pf, Fm, Am, fo, hDK, hMD, hH⟩ := hS
  have hDK0 := hDK
  have hMD0 := hMD
  obtain ⟨hD, ⟨hF1, hF2, hF3, hF6⟩, htt, htp, htb⟩ := hDK
  have hD0 := hD
  obtain ⟨⟨hn, hFn, hv, hAv, hwt, hAw⟩, ⟨hb, hFb, ht, hFt⟩, ⟨hun, hF14, hkt, hPD⟩, ⟨hPL, hpc⟩, hmo, hfr, h16⟩ := hD
  obtain ⟨⟨m2, m5, m6, m7, m8, m12, m13, m29, m30⟩, hA1, hA3, hA4, hPA⟩ := hMD
  have hpp := PLS_pool hPL
  have hpl := PLS_pl hPL
  have hx1 := sx_r (xs := xs) (j := j) (k := 1)
  have hx2 := sx_r (xs := xs) (j := j) (k := 2)
  have hx3 := sx_r (xs := xs) (j := j) (k := 3)
  have hx4 := sx_r (xs := xs) (j := j) (k := 4)
  have hx5 := sx_r (xs := xs) (j := j) (k := 5)
  have hnzr := nz_r (x := sx xs j 3)
  have hnzb := nz_b (x := sx xs j 3)
  refine z_aload_n C 2466 hl dL_law_2466 rfl 3 rfl ?_
  refine z_scr C hX hsc hH.2.2 2467 1 hl 0 4 rfl rfl (by omega) hL dL_law_2467 dL_law_2468 dL_law_2470 dL_law_2471 dL_law_2472 ?_
  have hM := m_X1_gap l s G H.size ad F Ar kp pl (dPool G pr pa pm pf L) n v pr pa pm pf nw b t (sx xs j 1) (by first | assumption | omega) (by first | assumption | omega) (by first | assumption | omega) (by first | assumption | omega) (by first | assumption | omega) (by first | assumption | omega) (by first | assumption | omega) (by first | assumption | omega) (by first | assumption | omega) (by first | assumption | omega) (by first | assumption | omega) (by first | assumption | omega) (by first | assumption | omega) (by first | assumption | omega) (by first | assumption | omega)
  rw [va_up_id h16] at hM
  refine z_fr (w1 := dW ad G F Ar kp pl (dPool G pr pa pm pf L)) (z_runV C hH.2.2 hl.1 (zH_l hH).1 (zH_l hH).2.1 1 (As := [.int (iZ (sx xs j 1))]) (rest := []) hM (lw_V q1329 q1330 q1331 q89 q1332) ⟨rfl, by decide, by decide, by decide +kernel⟩ (q0 := 0) (ci := 1) rfl rfl rfl rfl (Nat.le_of_ble_eq_true rfl) ⟨Nat.le_of_ble_eq_true rfl, Nat.le_of_ble_eq_true rfl⟩ ⟨by show _ + 1 ≤ 1200144; omega, by show _ + 2 ≤ 5497402; omega⟩ dL_law_2473) hH (fun u H locs hpost hH => ?_)
  obtain ⟨r1, F2, A2⟩ := u
  obtain ⟨hs1, hk1⟩ := hpost
  have hDK2 := DKI_q hDK0 hk1
  refine z_st (st' := [.int (iZ r1)]) rfl ?_
  have hH := zH_rot hH
  refine z_aload_n C 2476 hl dL_law_2476 rfl 2 rfl ?_
  refine z_scr C hX hsc hH.2.2 2477 1 hl 0 4 rfl rfl (by omega) hL dL_law_2477 dL_law_2478 dL_law_2480 dL_law_2481 dL_law_2482 ?_
  have hM := m_X7_gap l s G H.size adm Fm Am n v (Am 3) t (sx xs j 1) (by first | assumption | omega) (by first | assumption | omega) (by first | assumption | omega) (by first | assumption | omega)
  simp only [va_up_id m2, va_up_id m5, va_up_id m6, va_up_id m7, va_up_id m8, va_up_id m12, va_up_id m13, va_up_id m29, va_up_id m30, va_up_id hA1, va_up_id (cI_self hA3), va_up_id (cI_self hA4), va_up_id (rfl : Am 9 = Am 9), va_up_id (rfl : Am 10 = Am 10), va_up_id (rfl : Am 11 = Am 11), va_up_id (rfl : Am 14 = Am 14), va_up_id (rfl : Am 15 = Am 15)] at hM
  refine z_fr (w1 := mW adm G Fm Am) (z_runV C hH.2.2 hl.1 (zH_l hH).1 (zH_l hH).2.1 1 (As := [.int (iZ (sx xs j 1))]) (rest := [.int (iZ r1)]) hM (lw_V q1924 q1925 q1926 q95 q1927) ⟨rfl, by decide, by decide, by decide +kernel⟩ (q0 := 0) (ci := 0) rfl rfl rfl rfl (Nat.le_of_ble_eq_true rfl) ⟨Nat.le_of_ble_eq_true rfl, Nat.le_of_ble_eq_true rfl⟩ ⟨by show _ + 0 ≤ 1200144; omega, by show _ + 0 ≤ 5497402; omega⟩ dL_law_2483) hH (fun u H locs hpost hH => ?_)
  obtain ⟨r7, F2m, A2m⟩ := u
  obtain ⟨hs7, hk7⟩ := hpost
  refine z_st (st' := [.int (iZ r7), .int (iZ r1)]) rfl ?_
  have hH := zH_rot hH
  refine z_same2 C 2486 2566 dL_law_2486 rfl (one_gap hs1 hs7) ?_
  exact W.widen (by omega) (by omega) (K ls _ _ hl ⟨tt, tp, ln, fa, fp, b, t, n, v, wt, un, hm, hvv, hww, fr, F2, A2, kp, L, pl, pr, pa, pm, pf, F2m, A2m, fo, hDK2, MDI_q hMD0 hk7, hH⟩)
