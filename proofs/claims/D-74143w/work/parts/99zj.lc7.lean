/-! the law: its case 3 -/
set_option maxRecDepth 100000
theorem Sp_place_th {n : Nat} {v wt : Nat → Nat} {b : Nat} {p q th z : Int} (h : Sp_place n v wt b p q th z) : 0 ≤ th ∧ th ≤ 2 := by
  unfold Sp_place at h
  split at h
  · split at h <;> omega
  · omega
set_option maxHeartbeats 8000000 in
theorem L_3 {pg : Program} {l : Launch} {ev : Env} {s : State} {m : MethodId} {ar : Array Value} {bl : List Frame} {me : Method} {c : Code} {Q : State → Prop} {G : zG} {sc LL : Nat} {xs : Nat → Int32} {nw : Nat} {wq wv : Nat → Nat} {lq lva : Nat} {ls : Array Slot} {H : Heap} {locs : List Loc} {ce sl : Nat} {ad adm : Nat → Nat} {o j : Nat} (CX : LCT pg l s m ar me c G sc LL xs nw wq wv lq lva) (hj : j + 6 ≤ LL) (hl : lv_has ls 7 [(4, .int (iZ (j : Int))), (3, .ref o), (2, .ref (adm 0)), (1, .ref (ad 99)), (0, .ref sc)]) (hS : LST s G nw ad adm o H locs) (hce : ce + 40000 ≤ 1200144) (hsl : sl + 200000 ≤ 5497402) (K : ∀ (ls1 : Array Slot) (H1 : Heap) (locs1 : List Loc), lv_has ls1 7 [(4, .int (iZ (j : Int))), (3, .ref o), (2, .ref (adm 0)), (1, .ref (ad 99)), (0, .ref sc)] → LST s G nw ad adm o H1 locs1 → W pg l ev room_1 s m ar bl me c H1 locs1 (ce + 40000) (sl + 200000) Q (F0 m 2566 ls1 [])) : W pg l ev room_1 s m ar bl me c H locs ce sl Q (F0 m 399 ls []) := by
  obtain ⟨C, ⟨hX, hsc, hL⟩, hlt, hnw, hBx, hcs, hsi, hth, hthq, hni, hRW, hlit⟩ := CX
  obtain ⟨tt, tp, ln, fa, fp, b, t, n, v, wt, un, hm, hvv, hww, fr, F, Ar, kp, L, pl, pr, pa, pm, pf, Fm, Am, fo, hDK, hMD, hH⟩ := hS
  have hDK0 := hDK
  have hMD0 := hMD
  obtain ⟨hD, ⟨hF1, hF2, hF3, hF6⟩, htt, htp, htb⟩ := hDK
  have hD0 := hD
  obtain ⟨⟨hn, hFn, hv, hAv, hwt, hAw⟩, ⟨hb, hFb, ht, hFt⟩, ⟨hun, hF14, hkt, hPD⟩, ⟨hPL, hpc⟩, hmo, hfr, h16⟩ := hD
  obtain ⟨⟨m2, m5, m6, m7, m8, m12, m13, m29, m30⟩, hA1, hA3, hA4, hPA⟩ := hMD
  have hpp := PLS_pool hPL
  have hpl := PLS_pl hPL
  have hx1 := sx_r (xs := xs) (j := j) (k := 1)
  have hx2 := sx_r (xs := xs) (j := j) (k := 2)
  have hx3 := sx_r (xs := xs) (j := j) (k := 3)
  have hx4 := sx_r (xs := xs) (j := j) (k := 4)
  have hx5 := sx_r (xs := xs) (j := j) (k := 5)
  have hnzr := nz_r (x := sx xs j 3)
  have hnzb := nz_b (x := sx xs j 3)
  refine z_aload_n C 399 hl dL_law_399 rfl 3 rfl ?_
  refine z_scr C hX hsc hH.2.2 400 1 hl 0 4 rfl rfl (by omega) hL dL_law_400 dL_law_401 dL_law_403 dL_law_404 dL_law_405 ?_
  refine z_scr C hX hsc hH.2.2 406 2 hl 0 4 rfl rfl (by omega) hL dL_law_406 dL_law_407 dL_law_409 dL_law_410 dL_law_411 ?_
  refine z_aload_n C 412 hl dL_law_412 rfl 1 rfl ?_
  have hH : zH s s G [] ((dW ad G F Ar kp pl (dPool G pr pa pm pf L) ++ [(o, .inl (G.2 3, 1, .inr (.inl fo)))]) ++ mW adm G Fm Am) H locs := zH_perm (by rw [List.append_assoc]; exact List.Perm.append_left _ List.perm_append_comm) hH
  have hM := m_X0_place l s G H.size hlt hthq ad F Ar kp pl (dPool G pr pa pm pf L) pr pa pm pf nw n v wt b (sx xs j 1) (sx xs j 2) hn hFn hv hAv hwt hAw hb hFb hpl hnw hpc hpp hx1 hx2 hni o fo
  refine z_fr (w1 := dW ad G F Ar kp pl (dPool G pr pa pm pf L) ++ [(o, .inl (G.2 3, 1, .inr (.inl fo)))]) (zh_runS C hH.2.2 hl.1 (zH_l hH).1 (zH_l hH).2.1 4 (As := [.ref (ad 99), .int (iZ (sx xs j 1)), .int (iZ (sx xs j 2)), .ref o]) (rest := []) hM (lw_SW q1362 q1363 q88 q1364) ⟨by decide, by decide, by decide +kernel⟩ rfl rfl (Nat.le_of_ble_eq_true rfl) ⟨Nat.le_of_ble_eq_true rfl, Nat.le_of_ble_eq_true rfl⟩ ⟨by show _ + 1 ≤ 1200144; omega, by show _ + 6 ≤ 5497402; omega⟩ dL_law_413) hH (fun u H locs hpost hH => ?_)
  obtain ⟨r1, z1, f2⟩ := u
  obtain ⟨hs1, hz1⟩ : Sp_place n v wt b (sx xs j 1) (sx xs j 2) r1 z1 ∧ (r1 = 0 → f2 0 = lZ z1 ∧ -2147483648 ≤ z1 ∧ z1 < 2147483648) := hpost
  refine z_st (st' := [.int (iZ r1)]) rfl ?_
  refine z_istore (lv' := [(5, .int (iZ r1)), (4, .int (iZ (j : Int))), (3, .ref o), (2, .ref (adm 0)), (1, .ref (ad 99)), (0, .ref sc)]) C 416 hl dL_law_416 (by decide) rfl (fun ls hl => ?_)
  have hH : zH s s G [] (mW adm G Fm Am ++ (dW ad G F Ar kp pl (dPool G pr pa pm pf L) ++ [(o, .inl (G.2 3, 1, .inr (.inl f2)))])) H locs := zH_perm List.perm_append_comm hH
  refine z_aload_n C 418 hl dL_law_418 rfl 3 rfl ?_
  refine z_scr C hX hsc hH.2.2 419 1 hl 1 5 rfl rfl (by omega) hL dL_law_419 dL_law_420 dL_law_422 dL_law_423 dL_law_424 ?_
  refine z_scr C hX hsc hH.2.2 425 2 hl 1 5 rfl rfl (by omega) hL dL_law_425 dL_law_426 dL_law_428 dL_law_429 dL_law_430 ?_
  have hM := m_X7_place l s G H.size adm Fm Am n v (Am 3) wt (Am 4) b (sx xs j 1) (sx xs j 2) (by first | assumption | omega) (by first | assumption | omega) (by first | assumption | omega) (by first | assumption | omega) (by first | assumption | omega) (by first | assumption | omega)
  simp only [va_up_id m2, va_up_id m5, va_up_id m6, va_up_id m7, va_up_id m8, va_up_id m12, va_up_id m13, va_up_id m29, va_up_id m30, va_up_id hA1, va_up_id (cI_self hA3), va_up_id (cI_self hA4), va_up_id (rfl : Am 9 = Am 9), va_up_id (rfl : Am 10 = Am 10), va_up_id (rfl : Am 11 = Am 11), va_up_id (rfl : Am 14 = Am 14), va_up_id (rfl : Am 15 = Am 15)] at hM
  refine z_fr (w1 := mW adm G Fm Am) (z_runV C hH.2.2 hl.1 (zH_l hH).1 (zH_l hH).2.1 2 (As := [.int (iZ (sx xs j 1)), .int (iZ (sx xs j 2))]) (rest := []) hM (lw_V q1637 q1638 q1639 q95 q1640) ⟨rfl, by decide, by decide, by decide +kernel⟩ (q0 := 0) (ci := 0) rfl rfl rfl rfl (Nat.le_of_ble_eq_true rfl) ⟨Nat.le_of_ble_eq_true rfl, Nat.le_of_ble_eq_true rfl⟩ ⟨by show _ + 0 ≤ 1200144; omega, by show _ + 0 ≤ 5497402; omega⟩ dL_law_431) hH (fun u H locs hpost hH => ?_)
  obtain ⟨r7, th⟩ := u
  have hs7 : Sp_place n v wt b (sx xs j 1) (sx xs j 2) th r7 := hpost
  refine z_st (st' := [.int (iZ r7)]) rfl ?_
  refine z_istore (lv' := [(6, .int (iZ r7)), (5, .int (iZ r1)), (4, .int (iZ (j : Int))), (3, .ref o), (2, .ref (adm 0)), (1, .ref (ad 99)), (0, .ref sc)]) C 434 hl dL_law_434 (by decide) rfl (fun ls hl => ?_)
  refine z_aload_n C 436 hl dL_law_436 rfl 4 rfl ?_
  have hA9 : (va_up (va_up Am 3 (cI n v (Am 3))) 4 (cI n wt (Am 4))) = Am := by rw [va_up_id (cI_self hA3), va_up_id (cI_self hA4)]
  have hH : zH s s G [] (mW adm G (va_up (va_up (va_up Fm 0 th) 5 (n : Int)) 6 (b : Int)) (va_up (va_up Am 3 (cI n v (Am 3))) 4 (cI n wt (Am 4))) ++ (dW ad G F Ar kp pl (dPool G pr pa pm pf L) ++ [(o, .inl (G.2 3, 1, .inr (.inl f2)))])) H locs := by first | exact hH | (rw [hA9]; exact hH)
  rw [hA9] at hH
  have hM := m_X7_thrown l s G H.size adm (va_up (va_up (va_up Fm 0 th) 5 (n : Int)) 6 (b : Int)) Am th
  rw [va_up_id (x := th) (show (va_up (va_up (va_up Fm 0 th) 5 (n : Int)) 6 (b : Int)) 0 = th from rfl)] at hM
  refine z_fr (w1 := mW adm G (va_up (va_up (va_up Fm 0 th) 5 (n : Int)) 6 (b : Int)) Am) (z_runV C hH.2.2 hl.1 (zH_l hH).1 (zH_l hH).2.1 0 (As := []) (rest := []) hM (lw_V q1547 q1548 q1549 q95 q1550) ⟨rfl, by decide, by decide, by decide +kernel⟩ (q0 := 0) (ci := 0) rfl rfl rfl rfl (Nat.le_of_ble_eq_true rfl) ⟨Nat.le_of_ble_eq_true rfl, Nat.le_of_ble_eq_true rfl⟩ ⟨by show _ + 0 ≤ 1200144; omega, by show _ + 0 ≤ 5497402; omega⟩ dL_law_437) hH (fun u H locs hpost hH => ?_)
  refine z_st (st' := [.int (iZ th)]) rfl ?_
  have hH := zH_rot hH
  obtain ⟨e1, e2⟩ := one_place hs1 hs7
  refine z_iload C 440 hl dL_law_440 1 rfl ?_
  refine z_same2 C 442 447 dL_law_442 rfl e1.symm ?_
  have hfin : LST s G nw ad adm o H locs := by
    refine ⟨tt, tp, ln, fa, fp, b, t, n, v, wt, un, hm, hvv, hww, fr, F, Ar, kp, L, pl, pr, pa, pm, pf, _, _, f2, hDK0, ?_, hH⟩
    exact ⟨⟨m2, rfl, rfl, m7, m8, m12, m13, m29, m30⟩, hA1, hA3, hA4, hPA⟩
  have hl2 : lv_has ls 7 [(4, .int (iZ (j : Int))), (3, .ref o), (2, .ref (adm 0)), (1, .ref (ad 99)), (0, .ref sc)] := lv_sub hl [2, 3, 4, 5, 6] rfl
  have hend : ∀ (ce2 sl2 : Nat), ce2 ≤ ce + 40000 → sl2 ≤ sl + 200000 → W pg l ev room_1 s m ar bl me c H locs ce2 sl2 Q (F0 m 464 ls []) := fun ce2 sl2 h1 h2 => by
    refine z_goto C 464 2566 dL_law_464 rfl ?_
    exact W.widen h1 h2 (K ls _ _ hl2 hfin)
  have hr3 := Sp_place_th hs1
  refine z_iload C 447 hl dL_law_447 1 rfl ?_
  by_cases h0 : r1 = 0
  · obtain ⟨hf2, hz2⟩ := hz1 h0
    refine z_if_ne_f C 449 464 dL_law_449 rfl (by omega) (by omega) ?_
    refine z_aload_n C 452 hl dL_law_452 rfl 3 rfl ?_
    refine z_iconst C 453 dL_law_453 ?_
    refine va_lald C.1.1 C.1.2.1 C.2.2.2.2.2 (va_P_r (va_P_r hH.1)) 0 3 rfl rfl (iZ_in (show 0 < 1 by decide) (by decide)) dL_law_454 ?_
    refine z_st (st' := [.long (lZ z1)]) (by rw [show (iZ 0).toNatClampNeg = 0 from by decide, hf2]) ?_
    refine z_iload C 455 hl dL_law_455 0 rfl ?_
    refine z_i2l C 457 dL_law_457 (by omega) ?_
    refine z_lcmpZ C 458 dL_law_458 (by omega) (by omega) ?_
    have hcz := cmpZ_spec z1 r7
    refine z_if_eq_t C 459 464 dL_law_459 rfl (by omega) (by omega) ?_
    exact hend _ _ (by omega) (by omega)
  · refine z_if_ne_t C 449 464 dL_law_449 rfl (by omega) (by omega) ?_
    exact hend _ _ (by omega) (by omega)
