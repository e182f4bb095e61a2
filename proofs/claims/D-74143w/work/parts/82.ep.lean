/-! methods of ModeDesk that write: 82.ep -/
set_option maxHeartbeats 16000000 in
set_option maxRecDepth 100000 in
theorem m_X1_set (lau : Launch) (s0 : State) (G : zG) (sz : Nat) (ad : Nat → Nat) (F : Nat → Int) (Ar : Nat → Nat → Int) (kp : Nat → Nat) (pl : Nat → Option Nat) (PW : va_W) (L : List Nat) (pr : Nat → Nat) (pa : Nat → Nat) (pm : Nat → Nat) (pf : Nat → Nat → Nat) (nw : Nat) (b : Nat) (t : Nat) (n : Nat) (v : Nat → Nat) (wt : Nat → Nat) (un : Nat) (hm : Nat → Nat) (hvv : Nat → Nat → Nat) (hww : Nat → Nat → Nat) (fr : Int) (p : Int) (x : Int) (hD : DST s0 G nw b t n v wt un hm hvv hww fr F Ar kp L pl pr pa pm pf) (hnw : zNwh s0 nw) (hr_p : -2147483648 ≤ p ∧ p < 2147483648) (hr_x : -2147483648 ≤ x ∧ x < 2147483648) : zMet (S := Int × Nat × (Nat → Nat) × (Nat → Nat) × Nat × (Nat → Nat) × (Nat → Nat → Nat) × (Nat → Nat → Nat) × Int × List Nat × (Nat → Option Nat) × (Nat → Nat) × (Nat → Nat) × (Nat → Nat) × (Nat → Nat → Nat) × (Nat → Nat) × (Nat → Int) × (Nat → Nat → Int)) lau yX1_set cX1_set 4 (some .int) 7 164 240 14640 s0 G sz [.ref (ad 99), .int (iZ (p)), .int (iZ (x))] (dW ad G F Ar kp pl (dPool G pr pa pm pf L)) (fun ((r_, n2, v2, w2, un2, hm2, hvv2, hww2, fr2, L2, pl2, pr2, pa2, pm2, pf2, kp2, F2, A2) : Int × Nat × (Nat → Nat) × (Nat → Nat) × Nat × (Nat → Nat) × (Nat → Nat → Nat) × (Nat → Nat → Nat) × Int × List Nat × (Nat → Option Nat) × (Nat → Nat) × (Nat → Nat) × (Nat → Nat) × (Nat → Nat → Nat) × (Nat → Nat) × (Nat → Int) × (Nat → Nat → Int)) => some (.int (iZ (r_)))) (fun ((r_, n2, v2, w2, un2, hm2, hvv2, hww2, fr2, L2, pl2, pr2, pa2, pm2, pf2, kp2, F2, A2) : Int × Nat × (Nat → Nat) × (Nat → Nat) × Nat × (Nat → Nat) × (Nat → Nat → Nat) × (Nat → Nat → Nat) × Int × List Nat × (Nat → Option Nat) × (Nat → Nat) × (Nat → Nat) × (Nat → Nat) × (Nat → Nat → Nat) × (Nat → Nat) × (Nat → Int) × (Nat → Nat → Int)) => (Sp_set n v wt p x r_ n2 v2 w2) ∧ (EDT b n v wt un hm hvv hww fr n2 v2 w2 un2 hm2 hvv2 hww2 fr2) ∧ (DST s0 G nw b t n2 v2 w2 un2 hm2 hvv2 hww2 fr2 F2 A2 kp2 L2 pl2 pr2 pa2 pm2 pf2) ∧ (EKQ F Ar F2 A2)) (fun ((r_, n2, v2, w2, un2, hm2, hvv2, hww2, fr2, L2, pl2, pr2, pa2, pm2, pf2, kp2, F2, A2) : Int × Nat × (Nat → Nat) × (Nat → Nat) × Nat × (Nat → Nat) × (Nat → Nat → Nat) × (Nat → Nat → Nat) × Int × List Nat × (Nat → Option Nat) × (Nat → Nat) × (Nat → Nat) × (Nat → Nat) × (Nat → Nat → Nat) × (Nat → Nat) × (Nat → Int) × (Nat → Nat → Int)) => (dW ad G F2 A2 kp2 pl2 (dPool G pr2 pa2 pm2 pf2 L2))) := by
  refine zMet.of (by decide) (Nat.le_of_ble_eq_true rfl) ?_
  intro pg ev s1 mi ar bl me cd ls Q as0 hC hH hl hQ hsz
  generalize s1.heap = H at hH ⊢
  generalize ([] : List Loc) = locs at hH ⊢
  have hl : lv_has ls 4 [(0, .ref (ad 99)), (1, .int (iZ (p))), (2, .int (iZ (x)))] := hl
  obtain ⟨⟨hn, hFn, hv, hAv, hwt, hAw⟩, ⟨hb, hFb, ht, hFt⟩, ⟨hun, hF14, hkt, hPD⟩, ⟨hS, hpc⟩, hmo, hfr, h16⟩ := id hD
  refine z_aload_n hC 0 hl dX1_set_0 rfl 0 rfl ?_
  refine z_iload_n hC 1 hl dX1_set_1 rfl 1 rfl ?_
  refine zp_back (zp_runV hC (hH.2.2) hl.1 (va_P_l hH.1) 1 (As := [.int (iZ (p))]) (rest := []) (u_X1_isPlace lau s0 G ad F Ar kp pl n p (by first | exact hn | assumption | omega) (by first | exact hFn | assumption | omega) (by first | assumption | omega)) (lw_V q799 q801 qs20 q89 q802) ⟨rfl, by decide, by decide, by decide +kernel⟩ (q0 := 0) (ci := 1) rfl rfl rfl rfl (Nat.le_of_ble_eq_true rfl) ⟨Nat.le_of_ble_eq_true rfl, Nat.le_of_ble_eq_true rfl⟩ ⟨by first | decide | omega, by first | decide | omega⟩ dX1_set_2) (fun r_2 hpost => ?_)
  have hb_2 : (r_2 = 1 ∧ (0 ≤ p ∧ p < (n : Int))) ∨ (r_2 = 0 ∧ ¬ (0 ≤ p ∧ p < (n : Int))) := hpost
  refine z_st (st' := [.int (iZ (r_2))]) rfl ?_
  rcases hb_2 with ⟨rfl, hb_2⟩ | ⟨rfl, hb_2⟩
  · -- 2=1
    refine z_if_eq_f hC 5 15 dX1_set_5 rfl (by omega) (by omega) ?_
    refine z_iload_n hC 8 hl dX1_set_8 rfl 2 rfl ?_
    refine zp_back (zp_runS hC (hH.2.2) hl.1 (zp_nil) 1 (As := [.int (iZ (x))]) (rest := []) (u_X1_isValue lau s0 G x (by first | assumption | omega)) (lw_S q803 q804 q89 q805) ⟨by decide, by decide, by decide +kernel⟩ rfl rfl (Nat.le_of_ble_eq_true rfl) ⟨Nat.le_of_ble_eq_true rfl, Nat.le_of_ble_eq_true rfl⟩ ⟨by first | decide | omega, by first | decide | omega⟩ dX1_set_9) (fun r_9 hpost => ?_)
    have hb_9 : (r_9 = 1 ∧ (0 ≤ x ∧ x < 1000)) ∨ (r_9 = 0 ∧ ¬ (0 ≤ x ∧ x < 1000)) := hpost
    refine z_st (st' := [.int (iZ (r_9))]) rfl ?_
    rcases hb_9 with ⟨rfl, hb_9⟩ | ⟨rfl, hb_9⟩
    · -- 9=1
      refine z_if_ne_t hC 12 17 dX1_set_12 rfl (by omega) (by omega) ?_
      refine z_aload_n hC 17 hl dX1_set_17 rfl 0 rfl ?_
      obtain ⟨p1, rfl⟩ := Int.eq_ofNat_of_zero_le (show 0 ≤ p by omega)
      obtain ⟨x1, rfl⟩ := Int.eq_ofNat_of_zero_le (show 0 ≤ x by omega)
      have hH : zH s0 s1 G as0 (dW ad G (va_up F 200 ((F 200))) Ar kp pl (dPool G pr pa pm pf L)) H locs := hH
      rw [show ((F 200) : Int) = (n : Int) from by omega] at hH
      have hH : zH s0 s1 G as0 (dW ad G (va_up F 200 ((n : Int))) Ar kp pl (dPool G pr pa pm pf L)) H locs := hH
      refine z_same (z_runV hC hH.2.2 hl.1 hH.1 hH.2.1 0 (As := []) (rest := []) (m_X1_begins lau s0 G _ ad (va_up F 200 ((n : Int))) Ar kp pl (dPool G pr pa pm pf L) (n : Int) (Ar 201) (Ar 202) ) (lw_V q807 q809 qs21 q89 q810) ⟨rfl, by decide, by decide, by decide +kernel⟩ (q0 := 0) (ci := 1) rfl rfl rfl rfl (Nat.le_of_ble_eq_true rfl) ⟨Nat.le_of_ble_eq_true rfl, Nat.le_of_ble_eq_true rfl⟩ ⟨Nat.le_of_ble_eq_true rfl, Nat.le_of_ble_eq_true rfl⟩ dX1_set_18) hH (fun _ H locs hpost hH => ?_)
      have hH : zH s0 s1 G as0 (dW ad G (va_up (va_up F 200 ((n : Int))) 203 ((n : Int))) (va_up (va_up Ar 204 (Ar 201)) 205 (Ar 202)) kp pl (dPool G pr pa pm pf L)) H locs := hH
      refine z_st (st' := []) rfl ?_
      refine z_aload_n hC 21 hl dX1_set_21 rfl 0 rfl ?_
      refine zp_get (v := .ref (ad 200)) hC (va_P_l hH.1) 22 in_X1 rfl 4 (by decide) q210 0 rfl (rfl) dX1_set_22 ?_
      refine zp_getN (v := .ref (ad 201)) hC (va_P_l hH.1) 25 in_X2 rfl 0 (by decide) q141 11 rfl (rfl) dX1_set_25 ?_
      refine z_iload_n hC 28 hl dX1_set_28 rfl 1 rfl ?_
      refine z_iload_n hC 29 hl dX1_set_29 rfl 2 rfl ?_
      refine sD_201 (f' := (va_up (Ar 201) (p1) ((x1 : Int)))) hC hH 30 (p1) (by omega) (by omega) rfl dX1_set_30 (fun H locs hH => ?_)
      have hH : zH s0 s1 G as0 (dW ad G (va_up (va_up F 200 ((n : Int))) 203 ((n : Int))) (va_up (va_up (va_up Ar 201 (va_up (Ar 201) (p1) ((x1 : Int)))) 204 (Ar 201)) 205 (Ar 202)) kp pl (dPool G pr pa pm pf L)) H locs := hH
      refine z_aload_n hC 31 hl dX1_set_31 rfl 0 rfl ?_
      refine z_same (z_runV hC hH.2.2 hl.1 hH.1 hH.2.1 0 (As := []) (rest := []) (m_X1_ends lau s0 G _ ad (va_up (va_up F 200 ((n : Int))) 203 ((n : Int))) (va_up (va_up (va_up Ar 201 (va_up (Ar 201) (p1) ((x1 : Int)))) 204 (Ar 201)) 205 (Ar 202)) kp pl (dPool G pr pa pm pf L) L pr pa pm pf nw n (va_up v p1 x1) wt n v wt b t fr un hm hvv hww (by first | exact hn | omega) (by first | exact hFn | rfl | omega) (by exact up_lt hv (by omega)) (by exact cv_upz hAv (by omega)) (by exact hwt) (by exact hAw) (by exact hn) (by first | rfl | exact hFn) (by exact hv) (by exact hAv) (by exact hwt) (by exact hAw) (by exact hb) (by exact hFb) (by exact ht) (by exact hFt) (by exact hun) (by exact hF14) (by first | exact hkt | assumption | omega) (by exact PASTD_cg hPD (fun k hk => by have := (kp_ge hkt (show k < 12 by omega)).1; (repeat rw [va_up_ne _ _ (by omega)]) <;> rfl) (fun k hk => by have := (kp_ge hkt (show k < 12 by omega)).1; constructor <;> ((repeat rw [va_up_ne _ _ (by omega)]) <;> rfl)) (fun k hk => ⟨rfl, rfl, rfl⟩)) (by first | exact hS | assumption | omega) (by first | exact hnw | assumption | omega) (by exact hmo) (by exact hpc) (by exact hfr) (by exact h16)) (lw_V q811 q813 qs22 q89 q814) ⟨rfl, by decide, by decide, by decide +kernel⟩ (q0 := 0) (ci := 1) rfl rfl rfl rfl (Nat.le_of_ble_eq_true rfl) ⟨Nat.le_of_ble_eq_true rfl, Nat.le_of_ble_eq_true rfl⟩ ⟨by first | decide | omega, by first | decide | omega⟩ dX1_set_32) hH (fun u_ H locs hpost hH => ?_)
      obtain ⟨r_32, un2_32, hm2_32, hvv2_32, hww2_32, fr2_32, L2_32, pl2_32, pr2_32, pa2_32, pm2_32, pf2_32, kp2_32, F2_32, A2_32⟩ := u_
      obtain ⟨pD_32, pE_32, pr_32, pK_32⟩ : (DST s0 G nw b t n (va_up v p1 x1) wt un2_32 hm2_32 hvv2_32 hww2_32 fr2_32 F2_32 A2_32 kp2_32 L2_32 pl2_32 pr2_32 pa2_32 pm2_32 pf2_32) ∧ (EDT b n v wt un hm hvv hww fr n (va_up v p1 x1) wt un2_32 hm2_32 hvv2_32 hww2_32 fr2_32) ∧ (n = n → r_32 = (oth n v (va_up v p1 x1) : Int)) ∧ (EKE (va_up (va_up F 200 ((n : Int))) 203 ((n : Int))) (va_up (va_up (va_up Ar 201 (va_up (Ar 201) (p1) ((x1 : Int)))) 204 (Ar 201)) 205 (Ar 202)) F2_32 A2_32) := hpost
      have hH : zH s0 s1 G as0 (dW ad G F2_32 A2_32 kp2_32 pl2_32 (dPool G pr2_32 pa2_32 pm2_32 pf2_32 L2_32)) H locs := hH
      refine z_st (st' := [.int (iZ (r_32))]) rfl ?_
      refine z_istore_n (lv' := [(3, .int (iZ (r_32))), (0, .ref (ad 99)), (1, .int (iZ ((p1 : Int)))), (2, .int (iZ ((x1 : Int))))]) hC 35 hl dX1_set_35 rfl (by decide) rfl (fun ls hl => ?_)
      refine z_aload_n hC 36 hl dX1_set_36 rfl 1 rfl ?_
      refine zp_get (v := .ref (ad 203)) hC (va_P_l hH.1) 37 in_X1 rfl 5 (by decide) q214 0 rfl (rfl) dX1_set_37 ?_
      refine zp_getN (v := .ref (ad 204)) hC (va_P_l hH.1) 40 in_X2 rfl 0 (by decide) q141 14 rfl (rfl) dX1_set_40 ?_
      refine z_iload_n hC 43 hl dX1_set_43 rfl 2 rfl ?_
      refine zp_iald (f := (A2_32 204)) (x := ((v p1 : Nat) : Int)) hC (va_P_l hH.1) 44 15 (p1) rfl (by decide) (by omega) (by omega) (((congrFun (pK_32.2 204 (by decide) (by decide)) p1).trans (hAv p1 (by omega)))) dX1_set_44 ?_
      -- R45.1
      exact z_iret hC hH hQ 45 ((((v p1 : Nat) : Int), n, (va_up v p1 x1), wt, un2_32, hm2_32, hvv2_32, hww2_32, fr2_32, L2_32, pl2_32, pr2_32, pa2_32, pm2_32, pf2_32, kp2_32, F2_32, A2_32)) dX1_set_45 rfl ⟨by (unfold Sp_set; rw [if_pos (by omega)]; first | exact ⟨rfl, rfl, rfl, rfl⟩ | exact ⟨by omega, rfl, rfl, rfl⟩ | exact ⟨pr_32 rfl, rfl, rfl, rfl⟩), by exact pE_32, by exact pD_32, by exact EKQ_of pK_32 ⟨rfl, rfl, rfl, rfl, rfl⟩⟩ rfl (by first | decide | omega) (by first | decide | omega)
    · -- 9=0
      refine z_if_ne_f hC 12 17 dX1_set_12 rfl (by omega) (by omega) ?_
      refine z_iconst hC 15 dX1_set_15 ?_
      -- R16.2
      exact z_iret hC hH hQ 16 (((-1), n, v, wt, un, hm, hvv, hww, fr, L, pl, pr, pa, pm, pf, kp, F, Ar)) dX1_set_16 rfl ⟨by (unfold Sp_set; rw [if_neg (by omega)]; exact ⟨rfl, rfl, rfl, rfl⟩), by exact EDT_none, by exact hD, by exact ⟨rfl, rfl, rfl, rfl, rfl⟩⟩ rfl (by first | decide | omega) (by first | decide | omega)
  · -- 2=0
    refine z_if_eq_t hC 5 15 dX1_set_5 rfl (by omega) (by omega) ?_
    refine z_iconst hC 15 dX1_set_15 ?_
    -- R16.3
    exact z_iret hC hH hQ 16 (((-1), n, v, wt, un, hm, hvv, hww, fr, L, pl, pr, pa, pm, pf, kp, F, Ar)) dX1_set_16 rfl ⟨by (unfold Sp_set; rw [if_neg (by omega)]; exact ⟨rfl, rfl, rfl, rfl⟩), by exact EDT_none, by exact hD, by exact ⟨rfl, rfl, rfl, rfl, rfl⟩⟩ rfl (by first | decide | omega) (by first | decide | omega)

set_option maxHeartbeats 16000000 in
set_option maxRecDepth 100000 in
theorem m_X1_weigh (lau : Launch) (s0 : State) (G : zG) (sz : Nat) (ad : Nat → Nat) (F : Nat → Int) (Ar : Nat → Nat → Int) (kp : Nat → Nat) (pl : Nat → Option Nat) (PW : va_W) (L : List Nat) (pr : Nat → Nat) (pa : Nat → Nat) (pm : Nat → Nat) (pf : Nat → Nat → Nat) (nw : Nat) (b : Nat) (t : Nat) (n : Nat) (v : Nat → Nat) (wt : Nat → Nat) (un : Nat) (hm : Nat → Nat) (hvv : Nat → Nat → Nat) (hww : Nat → Nat → Nat) (fr : Int) (p : Int) (x : Int) (hD : DST s0 G nw b t n v wt un hm hvv hww fr F Ar kp L pl pr pa pm pf) (hnw : zNwh s0 nw) (hr_p : -2147483648 ≤ p ∧ p < 2147483648) (hr_x : -2147483648 ≤ x ∧ x < 2147483648) : zMet (S := Int × Nat × (Nat → Nat) × (Nat → Nat) × Nat × (Nat → Nat) × (Nat → Nat → Nat) × (Nat → Nat → Nat) × Int × List Nat × (Nat → Option Nat) × (Nat → Nat) × (Nat → Nat) × (Nat → Nat) × (Nat → Nat → Nat) × (Nat → Nat) × (Nat → Int) × (Nat → Nat → Int)) lau yX1_weigh cX1_weigh 4 (some .int) 7 164 240 14640 s0 G sz [.ref (ad 99), .int (iZ (p)), .int (iZ (x))] (dW ad G F Ar kp pl (dPool G pr pa pm pf L)) (fun ((r_, n2, v2, w2, un2, hm2, hvv2, hww2, fr2, L2, pl2, pr2, pa2, pm2, pf2, kp2, F2, A2) : Int × Nat × (Nat → Nat) × (Nat → Nat) × Nat × (Nat → Nat) × (Nat → Nat → Nat) × (Nat → Nat → Nat) × Int × List Nat × (Nat → Option Nat) × (Nat → Nat) × (Nat → Nat) × (Nat → Nat) × (Nat → Nat → Nat) × (Nat → Nat) × (Nat → Int) × (Nat → Nat → Int)) => some (.int (iZ (r_)))) (fun ((r_, n2, v2, w2, un2, hm2, hvv2, hww2, fr2, L2, pl2, pr2, pa2, pm2, pf2, kp2, F2, A2) : Int × Nat × (Nat → Nat) × (Nat → Nat) × Nat × (Nat → Nat) × (Nat → Nat → Nat) × (Nat → Nat → Nat) × Int × List Nat × (Nat → Option Nat) × (Nat → Nat) × (Nat → Nat) × (Nat → Nat) × (Nat → Nat → Nat) × (Nat → Nat) × (Nat → Int) × (Nat → Nat → Int)) => (Sp_weigh n v wt p x r_ n2 v2 w2) ∧ (EDT b n v wt un hm hvv hww fr n2 v2 w2 un2 hm2 hvv2 hww2 fr2) ∧ (DST s0 G nw b t n2 v2 w2 un2 hm2 hvv2 hww2 fr2 F2 A2 kp2 L2 pl2 pr2 pa2 pm2 pf2) ∧ (EKQ F Ar F2 A2)) (fun ((r_, n2, v2, w2, un2, hm2, hvv2, hww2, fr2, L2, pl2, pr2, pa2, pm2, pf2, kp2, F2, A2) : Int × Nat × (Nat → Nat) × (Nat → Nat) × Nat × (Nat → Nat) × (Nat → Nat → Nat) × (Nat → Nat → Nat) × Int × List Nat × (Nat → Option Nat) × (Nat → Nat) × (Nat → Nat) × (Nat → Nat) × (Nat → Nat → Nat) × (Nat → Nat) × (Nat → Int) × (Nat → Nat → Int)) => (dW ad G F2 A2 kp2 pl2 (dPool G pr2 pa2 pm2 pf2 L2))) := by
  refine zMet.of (by decide) (Nat.le_of_ble_eq_true rfl) ?_
  intro pg ev s1 mi ar bl me cd ls Q as0 hC hH hl hQ hsz
  generalize s1.heap = H at hH ⊢
  generalize ([] : List Loc) = locs at hH ⊢
  have hl : lv_has ls 4 [(0, .ref (ad 99)), (1, .int (iZ (p))), (2, .int (iZ (x)))] := hl
  obtain ⟨⟨hn, hFn, hv, hAv, hwt, hAw⟩, ⟨hb, hFb, ht, hFt⟩, ⟨hun, hF14, hkt, hPD⟩, ⟨hS, hpc⟩, hmo, hfr, h16⟩ := id hD
  refine z_aload_n hC 0 hl dX1_weigh_0 rfl 0 rfl ?_
  refine z_iload_n hC 1 hl dX1_weigh_1 rfl 1 rfl ?_
  refine zp_back (zp_runV hC (hH.2.2) hl.1 (va_P_l hH.1) 1 (As := [.int (iZ (p))]) (rest := []) (u_X1_isPlace lau s0 G ad F Ar kp pl n p (by first | exact hn | assumption | omega) (by first | exact hFn | assumption | omega) (by first | assumption | omega)) (lw_V q799 q801 qs20 q89 q802) ⟨rfl, by decide, by decide, by decide +kernel⟩ (q0 := 0) (ci := 1) rfl rfl rfl rfl (Nat.le_of_ble_eq_true rfl) ⟨Nat.le_of_ble_eq_true rfl, Nat.le_of_ble_eq_true rfl⟩ ⟨by first | decide | omega, by first | decide | omega⟩ dX1_weigh_2) (fun r_2 hpost => ?_)
  have hb_2 : (r_2 = 1 ∧ (0 ≤ p ∧ p < (n : Int))) ∨ (r_2 = 0 ∧ ¬ (0 ≤ p ∧ p < (n : Int))) := hpost
  refine z_st (st' := [.int (iZ (r_2))]) rfl ?_
  rcases hb_2 with ⟨rfl, hb_2⟩ | ⟨rfl, hb_2⟩
  · -- 2=1
    refine z_if_eq_f hC 5 20 dX1_weigh_5 rfl (by omega) (by omega) ?_
    refine z_iload_n hC 8 hl dX1_weigh_8 rfl 2 rfl ?_
    refine z_i2l hC 9 dX1_weigh_9 (by omega) ?_
    refine z_lconst (a := 1) hC 10 dX1_weigh_10 rfl ?_
    refine z_ldc2 (a := 9) hC 11 q839 rfl dX1_weigh_11 ?_
    refine zp_back (zp_runS hC (hH.2.2) hl.1 (zp_nil) 3 (As := [.long (lZ (x)), .long (lZ (1)), .long (lZ (9))]) (rest := []) (u_X1_isIn lau s0 G x 1 9 (by first | assumption | omega) (by first | assumption | omega) (by first | assumption | omega)) (lw_S q303 q304 q89 q305) ⟨by decide, by decide, by decide +kernel⟩ rfl rfl (Nat.le_of_ble_eq_true rfl) ⟨Nat.le_of_ble_eq_true rfl, Nat.le_of_ble_eq_true rfl⟩ ⟨by first | decide | omega, by first | decide | omega⟩ dX1_weigh_14) (fun r_14 hpost => ?_)
    have hb_14 : (r_14 = 1 ∧ ((1 : Int) ≤ x ∧ x ≤ (9 : Int))) ∨ (r_14 = 0 ∧ ¬ ((1 : Int) ≤ x ∧ x ≤ (9 : Int))) := hpost
    refine z_st (st' := [.int (iZ (r_14))]) rfl ?_
    rcases hb_14 with ⟨rfl, hb_14⟩ | ⟨rfl, hb_14⟩
    · -- 14=1
      refine z_if_ne_t hC 17 22 dX1_weigh_17 rfl (by omega) (by omega) ?_
      obtain ⟨p1, rfl⟩ := Int.eq_ofNat_of_zero_le (show 0 ≤ p by omega)
      obtain ⟨x1, rfl⟩ := Int.eq_ofNat_of_zero_le (show 0 ≤ x by omega)
      refine z_aload_n hC 22 hl dX1_weigh_22 rfl 0 rfl ?_
      have hH : zH s0 s1 G as0 (dW ad G (va_up F 200 ((F 200))) Ar kp pl (dPool G pr pa pm pf L)) H locs := hH
      rw [show ((F 200) : Int) = (n : Int) from by omega] at hH
      have hH : zH s0 s1 G as0 (dW ad G (va_up F 200 ((n : Int))) Ar kp pl (dPool G pr pa pm pf L)) H locs := hH
      refine z_same (z_runV hC hH.2.2 hl.1 hH.1 hH.2.1 0 (As := []) (rest := []) (m_X1_begins lau s0 G _ ad (va_up F 200 ((n : Int))) Ar kp pl (dPool G pr pa pm pf L) (n : Int) (Ar 201) (Ar 202) ) (lw_V q807 q809 qs21 q89 q810) ⟨rfl, by decide, by decide, by decide +kernel⟩ (q0 := 0) (ci := 1) rfl rfl rfl rfl (Nat.le_of_ble_eq_true rfl) ⟨Nat.le_of_ble_eq_true rfl, Nat.le_of_ble_eq_true rfl⟩ ⟨Nat.le_of_ble_eq_true rfl, Nat.le_of_ble_eq_true rfl⟩ dX1_weigh_23) hH (fun _ H locs hpost hH => ?_)
      have hH : zH s0 s1 G as0 (dW ad G (va_up (va_up F 200 ((n : Int))) 203 ((n : Int))) (va_up (va_up Ar 204 (Ar 201)) 205 (Ar 202)) kp pl (dPool G pr pa pm pf L)) H locs := hH
      refine z_st (st' := []) rfl ?_
      refine z_aload_n hC 26 hl dX1_weigh_26 rfl 0 rfl ?_
      refine zp_get (v := .ref (ad 200)) hC (va_P_l hH.1) 27 in_X1 rfl 4 (by decide) q210 0 rfl (rfl) dX1_weigh_27 ?_
      refine zp_getN (v := .ref (ad 202)) hC (va_P_l hH.1) 30 in_X2 rfl 1 (by decide) q145 11 rfl (rfl) dX1_weigh_30 ?_
      refine z_iload_n hC 33 hl dX1_weigh_33 rfl 1 rfl ?_
      refine z_iload_n hC 34 hl dX1_weigh_34 rfl 2 rfl ?_
      refine sD_202 (f' := (va_up (Ar 202) (p1) ((x1 : Int)))) hC hH 35 (p1) (by omega) (by omega) rfl dX1_weigh_35 (fun H locs hH => ?_)
      have hH : zH s0 s1 G as0 (dW ad G (va_up (va_up F 200 ((n : Int))) 203 ((n : Int))) (va_up (va_up (va_up Ar 202 (va_up (Ar 202) (p1) ((x1 : Int)))) 204 (Ar 201)) 205 (Ar 202)) kp pl (dPool G pr pa pm pf L)) H locs := hH
      refine z_aload_n hC 36 hl dX1_weigh_36 rfl 0 rfl ?_
      refine z_same (z_runV hC hH.2.2 hl.1 hH.1 hH.2.1 0 (As := []) (rest := []) (m_X1_ends lau s0 G _ ad (va_up (va_up F 200 ((n : Int))) 203 ((n : Int))) (va_up (va_up (va_up Ar 202 (va_up (Ar 202) (p1) ((x1 : Int)))) 204 (Ar 201)) 205 (Ar 202)) kp pl (dPool G pr pa pm pf L) L pr pa pm pf nw n v (va_up wt p1 x1) n v wt b t fr un hm hvv hww (by first | exact hn | omega) (by first | exact hFn | rfl | omega) (by exact hv) (by exact hAv) (by exact up_19 hwt (by omega)) (by exact cv_upz hAw (by omega)) (by exact hn) (by first | rfl | exact hFn) (by exact hv) (by exact hAv) (by exact hwt) (by exact hAw) (by exact hb) (by exact hFb) (by exact ht) (by exact hFt) (by exact hun) (by exact hF14) (by first | exact hkt | assumption | omega) (by exact PASTD_cg hPD (fun k hk => by have := (kp_ge hkt (show k < 12 by omega)).1; (repeat rw [va_up_ne _ _ (by omega)]) <;> rfl) (fun k hk => by have := (kp_ge hkt (show k < 12 by omega)).1; constructor <;> ((repeat rw [va_up_ne _ _ (by omega)]) <;> rfl)) (fun k hk => ⟨rfl, rfl, rfl⟩)) (by first | exact hS | assumption | omega) (by first | exact hnw | assumption | omega) (by exact hmo) (by exact hpc) (by exact hfr) (by exact h16)) (lw_V q811 q813 qs22 q89 q814) ⟨rfl, by decide, by decide, by decide +kernel⟩ (q0 := 0) (ci := 1) rfl rfl rfl rfl (Nat.le_of_ble_eq_true rfl) ⟨Nat.le_of_ble_eq_true rfl, Nat.le_of_ble_eq_true rfl⟩ ⟨by first | decide | omega, by first | decide | omega⟩ dX1_weigh_37) hH (fun u_ H locs hpost hH => ?_)
      obtain ⟨r_37, un2_37, hm2_37, hvv2_37, hww2_37, fr2_37, L2_37, pl2_37, pr2_37, pa2_37, pm2_37, pf2_37, kp2_37, F2_37, A2_37⟩ := u_
      obtain ⟨pD_37, pE_37, pr_37, pK_37⟩ : (DST s0 G nw b t n v (va_up wt p1 x1) un2_37 hm2_37 hvv2_37 hww2_37 fr2_37 F2_37 A2_37 kp2_37 L2_37 pl2_37 pr2_37 pa2_37 pm2_37 pf2_37) ∧ (EDT b n v wt un hm hvv hww fr n v (va_up wt p1 x1) un2_37 hm2_37 hvv2_37 hww2_37 fr2_37) ∧ (n = n → r_37 = (oth n v v : Int)) ∧ (EKE (va_up (va_up F 200 ((n : Int))) 203 ((n : Int))) (va_up (va_up (va_up Ar 202 (va_up (Ar 202) (p1) ((x1 : Int)))) 204 (Ar 201)) 205 (Ar 202)) F2_37 A2_37) := hpost
      have hH : zH s0 s1 G as0 (dW ad G F2_37 A2_37 kp2_37 pl2_37 (dPool G pr2_37 pa2_37 pm2_37 pf2_37 L2_37)) H locs := hH
      refine z_st (st' := [.int (iZ (r_37))]) rfl ?_
      refine z_istore_n (lv' := [(3, .int (iZ (r_37))), (0, .ref (ad 99)), (1, .int (iZ ((p1 : Int)))), (2, .int (iZ ((x1 : Int))))]) hC 40 hl dX1_weigh_40 rfl (by decide) rfl (fun ls hl => ?_)
      refine z_aload_n hC 41 hl dX1_weigh_41 rfl 1 rfl ?_
      refine zp_get (v := .ref (ad 203)) hC (va_P_l hH.1) 42 in_X1 rfl 5 (by decide) q214 0 rfl (rfl) dX1_weigh_42 ?_
      refine zp_getN (v := .ref (ad 205)) hC (va_P_l hH.1) 45 in_X2 rfl 1 (by decide) q145 14 rfl (rfl) dX1_weigh_45 ?_
      refine z_iload_n hC 48 hl dX1_weigh_48 rfl 2 rfl ?_
      refine zp_iald (f := (A2_37 205)) (x := ((wt p1 : Nat) : Int)) hC (va_P_l hH.1) 49 16 (p1) rfl (by decide) (by omega) (by omega) (((congrFun (pK_37.2 205 (by decide) (by decide)) p1).trans (hAw p1 (by omega)))) dX1_weigh_49 ?_
      -- R50.1
      exact z_iret hC hH hQ 50 ((((wt p1 : Nat) : Int), n, v, (va_up wt p1 x1), un2_37, hm2_37, hvv2_37, hww2_37, fr2_37, L2_37, pl2_37, pr2_37, pa2_37, pm2_37, pf2_37, kp2_37, F2_37, A2_37)) dX1_weigh_50 rfl ⟨by (unfold Sp_weigh; rw [if_pos (by omega)]; first | exact ⟨rfl, rfl, rfl, rfl⟩ | exact ⟨by omega, rfl, rfl, rfl⟩ | exact ⟨pr_37 rfl, rfl, rfl, rfl⟩), by exact pE_37, by exact pD_37, by exact EKQ_of pK_37 ⟨rfl, rfl, rfl, rfl, rfl⟩⟩ rfl (by first | decide | omega) (by first | decide | omega)
    · -- 14=0
      refine z_if_ne_f hC 17 22 dX1_weigh_17 rfl (by omega) (by omega) ?_
      refine z_iconst hC 20 dX1_weigh_20 ?_
      -- R21.2
      exact z_iret hC hH hQ 21 (((-1), n, v, wt, un, hm, hvv, hww, fr, L, pl, pr, pa, pm, pf, kp, F, Ar)) dX1_weigh_21 rfl ⟨by (unfold Sp_weigh; rw [if_neg (by omega)]; exact ⟨rfl, rfl, rfl, rfl⟩), by exact EDT_none, by exact hD, by exact ⟨rfl, rfl, rfl, rfl, rfl⟩⟩ rfl (by first | decide | omega) (by first | decide | omega)
  · -- 2=0
    refine z_if_eq_t hC 5 20 dX1_weigh_5 rfl (by omega) (by omega) ?_
    refine z_iconst hC 20 dX1_weigh_20 ?_
    -- R21.3
    exact z_iret hC hH hQ 21 (((-1), n, v, wt, un, hm, hvv, hww, fr, L, pl, pr, pa, pm, pf, kp, F, Ar)) dX1_weigh_21 rfl ⟨by (unfold Sp_weigh; rw [if_neg (by omega)]; exact ⟨rfl, rfl, rfl, rfl⟩), by exact EDT_none, by exact hD, by exact ⟨rfl, rfl, rfl, rfl, rfl⟩⟩ rfl (by first | decide | omega) (by first | decide | omega)

set_option maxHeartbeats 16000000 in
set_option maxRecDepth 100000 in
theorem m_X1_insert (lau : Launch) (s0 : State) (G : zG) (sz : Nat) (ad : Nat → Nat) (F : Nat → Int) (Ar : Nat → Nat → Int) (kp : Nat → Nat) (pl : Nat → Option Nat) (PW : va_W) (L : List Nat) (pr : Nat → Nat) (pa : Nat → Nat) (pm : Nat → Nat) (pf : Nat → Nat → Nat) (nw : Nat) (b : Nat) (t : Nat) (n : Nat) (v : Nat → Nat) (wt : Nat → Nat) (un : Nat) (hm : Nat → Nat) (hvv : Nat → Nat → Nat) (hww : Nat → Nat → Nat) (fr : Int) (p : Int) (x : Int) (hD : DST s0 G nw b t n v wt un hm hvv hww fr F Ar kp L pl pr pa pm pf) (hnw : zNwh s0 nw) (hr_p : -2147483648 ≤ p ∧ p < 2147483648) (hr_x : -2147483648 ≤ x ∧ x < 2147483648) : zMet (S := Int × Nat × (Nat → Nat) × (Nat → Nat) × Nat × (Nat → Nat) × (Nat → Nat → Nat) × (Nat → Nat → Nat) × Int × List Nat × (Nat → Option Nat) × (Nat → Nat) × (Nat → Nat) × (Nat → Nat) × (Nat → Nat → Nat) × (Nat → Nat) × (Nat → Int) × (Nat → Nat → Int)) lau yX1_insert cX1_insert 4 (some .int) 7 164 240 14640 s0 G sz [.ref (ad 99), .int (iZ (p)), .int (iZ (x))] (dW ad G F Ar kp pl (dPool G pr pa pm pf L)) (fun ((r_, n2, v2, w2, un2, hm2, hvv2, hww2, fr2, L2, pl2, pr2, pa2, pm2, pf2, kp2, F2, A2) : Int × Nat × (Nat → Nat) × (Nat → Nat) × Nat × (Nat → Nat) × (Nat → Nat → Nat) × (Nat → Nat → Nat) × Int × List Nat × (Nat → Option Nat) × (Nat → Nat) × (Nat → Nat) × (Nat → Nat) × (Nat → Nat → Nat) × (Nat → Nat) × (Nat → Int) × (Nat → Nat → Int)) => some (.int (iZ (r_)))) (fun ((r_, n2, v2, w2, un2, hm2, hvv2, hww2, fr2, L2, pl2, pr2, pa2, pm2, pf2, kp2, F2, A2) : Int × Nat × (Nat → Nat) × (Nat → Nat) × Nat × (Nat → Nat) × (Nat → Nat → Nat) × (Nat → Nat → Nat) × Int × List Nat × (Nat → Option Nat) × (Nat → Nat) × (Nat → Nat) × (Nat → Nat) × (Nat → Nat → Nat) × (Nat → Nat) × (Nat → Int) × (Nat → Nat → Int)) => (Sp_insert n v wt p x r_ n2 v2 w2) ∧ (EDT b n v wt un hm hvv hww fr n2 v2 w2 un2 hm2 hvv2 hww2 fr2) ∧ (DST s0 G nw b t n2 v2 w2 un2 hm2 hvv2 hww2 fr2 F2 A2 kp2 L2 pl2 pr2 pa2 pm2 pf2) ∧ (EKQ F Ar F2 A2)) (fun ((r_, n2, v2, w2, un2, hm2, hvv2, hww2, fr2, L2, pl2, pr2, pa2, pm2, pf2, kp2, F2, A2) : Int × Nat × (Nat → Nat) × (Nat → Nat) × Nat × (Nat → Nat) × (Nat → Nat → Nat) × (Nat → Nat → Nat) × Int × List Nat × (Nat → Option Nat) × (Nat → Nat) × (Nat → Nat) × (Nat → Nat) × (Nat → Nat → Nat) × (Nat → Nat) × (Nat → Int) × (Nat → Nat → Int)) => (dW ad G F2 A2 kp2 pl2 (dPool G pr2 pa2 pm2 pf2 L2))) := by
  refine zMet.of (by decide) (Nat.le_of_ble_eq_true rfl) ?_
  intro pg ev s1 mi ar bl me cd ls Q as0 hC hH hl hQ hsz
  generalize s1.heap = H at hH ⊢
  generalize ([] : List Loc) = locs at hH ⊢
  have hl : lv_has ls 4 [(0, .ref (ad 99)), (1, .int (iZ (p))), (2, .int (iZ (x)))] := hl
  obtain ⟨⟨hn, hFn, hv, hAv, hwt, hAw⟩, ⟨hb, hFb, ht, hFt⟩, ⟨hun, hF14, hkt, hPD⟩, ⟨hS, hpc⟩, hmo, hfr, h16⟩ := id hD
  refine z_iload_n hC 0 hl dX1_insert_0 rfl 1 rfl ?_
  refine z_i2l hC 1 dX1_insert_1 (by omega) ?_
  refine z_lconst (a := 0) hC 2 dX1_insert_2 rfl ?_
  refine z_aload_n hC 3 hl dX1_insert_3 rfl 0 rfl ?_
  refine zp_get (v := .ref (ad 200)) hC (va_P_l hH.1) 4 in_X1 rfl 4 (by decide) q210 0 rfl (rfl) dX1_insert_4 ?_
  refine zp_getN (v := .int (iZ ((n : Int)))) hC (va_P_l hH.1) 7 in_X2 rfl 2 (by decide) q149 11 rfl (by rw [← hFn]; rfl) dX1_insert_7 ?_
  refine z_i2l hC 10 dX1_insert_10 (by omega) ?_
  refine zp_back (zp_runS hC (hH.2.2) hl.1 (zp_nil) 3 (As := [.long (lZ (p)), .long (lZ (0)), .long (lZ ((n : Int)))]) (rest := []) (u_X1_isIn lau s0 G p 0 (n : Int) (by first | assumption | omega) (by first | assumption | omega) (by first | assumption | omega)) (lw_S q303 q304 q89 q305) ⟨by decide, by decide, by decide +kernel⟩ rfl rfl (Nat.le_of_ble_eq_true rfl) ⟨Nat.le_of_ble_eq_true rfl, Nat.le_of_ble_eq_true rfl⟩ ⟨by first | decide | omega, by first | decide | omega⟩ dX1_insert_11) (fun r_11 hpost => ?_)
  have hb_11 : (r_11 = 1 ∧ ((0 : Int) ≤ p ∧ p ≤ (n : Int))) ∨ (r_11 = 0 ∧ ¬ ((0 : Int) ≤ p ∧ p ≤ (n : Int))) := hpost
  refine z_st (st' := [.int (iZ (r_11))]) rfl ?_
  rcases hb_11 with ⟨rfl, hb_11⟩ | ⟨rfl, hb_11⟩
  · -- 11=1
    refine z_if_eq_f hC 14 36 dX1_insert_14 rfl (by omega) (by omega) ?_
    refine z_iload_n hC 17 hl dX1_insert_17 rfl 2 rfl ?_
    refine zp_back (zp_runS hC (hH.2.2) hl.1 (zp_nil) 1 (As := [.int (iZ (x))]) (rest := []) (u_X1_isValue lau s0 G x (by first | assumption | omega)) (lw_S q803 q804 q89 q805) ⟨by decide, by decide, by decide +kernel⟩ rfl rfl (Nat.le_of_ble_eq_true rfl) ⟨Nat.le_of_ble_eq_true rfl, Nat.le_of_ble_eq_true rfl⟩ ⟨by first | decide | omega, by first | decide | omega⟩ dX1_insert_18) (fun r_18 hpost => ?_)
    have hb_18 : (r_18 = 1 ∧ (0 ≤ x ∧ x < 1000)) ∨ (r_18 = 0 ∧ ¬ (0 ≤ x ∧ x < 1000)) := hpost
    refine z_st (st' := [.int (iZ (r_18))]) rfl ?_
    rcases hb_18 with ⟨rfl, hb_18⟩ | ⟨rfl, hb_18⟩
    · -- 18=1
      refine z_if_eq_f hC 21 36 dX1_insert_21 rfl (by omega) (by omega) ?_
      refine z_aload_n hC 24 hl dX1_insert_24 rfl 0 rfl ?_
      refine zp_get (v := .ref (ad 200)) hC (va_P_l hH.1) 25 in_X1 rfl 4 (by decide) q210 0 rfl (rfl) dX1_insert_25 ?_
      refine zp_getN (v := .int (iZ ((n : Int)))) hC (va_P_l hH.1) 28 in_X2 rfl 2 (by decide) q149 11 rfl (by rw [← hFn]; rfl) dX1_insert_28 ?_
      refine z_bipush hC 31 dX1_insert_31 rfl ?_
      refine z_icmp_ne hC 33 38 dX1_insert_33 rfl (by omega) (by omega) (fun hb1 => ?_) (fun hb1 => ?_)
      · -- 33t
        obtain ⟨p1, rfl⟩ := Int.eq_ofNat_of_zero_le (show 0 ≤ p by omega)
        obtain ⟨x1, rfl⟩ := Int.eq_ofNat_of_zero_le (show 0 ≤ x by omega)
        refine z_aload_n hC 38 hl dX1_insert_38 rfl 0 rfl ?_
        have hH : zH s0 s1 G as0 (dW ad G (va_up F 200 ((F 200))) Ar kp pl (dPool G pr pa pm pf L)) H locs := hH
        rw [show ((F 200) : Int) = (n : Int) from by omega] at hH
        have hH : zH s0 s1 G as0 (dW ad G (va_up F 200 ((n : Int))) Ar kp pl (dPool G pr pa pm pf L)) H locs := hH
        refine z_same (z_runV hC hH.2.2 hl.1 hH.1 hH.2.1 0 (As := []) (rest := []) (m_X1_begins lau s0 G _ ad (va_up F 200 ((n : Int))) Ar kp pl (dPool G pr pa pm pf L) (n : Int) (Ar 201) (Ar 202) ) (lw_V q807 q809 qs21 q89 q810) ⟨rfl, by decide, by decide, by decide +kernel⟩ (q0 := 0) (ci := 1) rfl rfl rfl rfl (Nat.le_of_ble_eq_true rfl) ⟨Nat.le_of_ble_eq_true rfl, Nat.le_of_ble_eq_true rfl⟩ ⟨Nat.le_of_ble_eq_true rfl, Nat.le_of_ble_eq_true rfl⟩ dX1_insert_39) hH (fun _ H locs hpost hH => ?_)
        have hH : zH s0 s1 G as0 (dW ad G (va_up (va_up F 200 ((n : Int))) 203 ((n : Int))) (va_up (va_up Ar 204 (Ar 201)) 205 (Ar 202)) kp pl (dPool G pr pa pm pf L)) H locs := hH
        refine z_st (st' := []) rfl ?_
        refine z_aload_n hC 42 hl dX1_insert_42 rfl 0 rfl ?_
        refine zp_get (v := .ref (ad 200)) hC (va_P_l hH.1) 43 in_X1 rfl 4 (by decide) q210 0 rfl (rfl) dX1_insert_43 ?_
        refine z_iload_n hC 46 hl dX1_insert_46 rfl 1 rfl ?_
        refine z_iload_n hC 47 hl dX1_insert_47 rfl 2 rfl ?_
        refine z_st (st' := [.int (iZ ((x1 : Int))), .int (iZ (((p1 : Nat) : Int))), .ref (ad 200)]) (zcons rfl (zcons (zieq (by omega)) rfl)) ?_
        refine z_sub (z_runV (wc := (rW (fun i => ad (200 + i)) G (va_up (fun _ => 0) 2 ((n : Int))) (va_up (va_up (fun _ => fun _ => 0) 0 (Ar 201)) 1 (Ar 202)))) hC hH.2.2 hl.1 (z_subP hH.1 [11, 12, 13] rfl) (z_subD hH.2.1 [11, 12, 13] (by decide) rfl) 2 (As := [.int (iZ (((p1 : Nat) : Int))), .int (iZ ((x1 : Int)))]) (rest := []) (m_X2_opens lau s0 G _ (fun i => ad (200 + i))  (fun _ => 0) (fun _ => fun _ => 0) (((n : Int)).toNat) (p1) ((x1 : Int)) (Ar 201) (Ar 202) (by omega) (by omega)) (lw_V q844 q845 q846 q90 q847) ⟨rfl, by decide, by decide, by decide +kernel⟩ (q0 := 0) (ci := 2) rfl rfl rfl rfl (Nat.le_of_ble_eq_true rfl) ⟨Nat.le_of_ble_eq_true rfl, Nat.le_of_ble_eq_true rfl⟩ ⟨by first | decide | omega, by first | decide | omega⟩ dX1_insert_48) hH [11, 12, 13] rfl (by decide) (fun _ => rfl) (fun _ H locs hpost hH => ?_)
        have hH : zH s0 s1 G as0 (dW ad G (va_up (va_up F 200 ((n : Int) + 1)) 203 ((n : Int))) (va_up (va_up (va_up (va_up Ar 201 (va_up (opnF (Ar 201) (((n : Int)).toNat) (p1)) (p1) ((x1 : Int)))) 202 (va_up (opnF (Ar 202) (((n : Int)).toNat) (p1)) (p1) 1)) 204 (Ar 201)) 205 (Ar 202)) kp pl (dPool G pr pa pm pf L)) H locs := hH
        refine z_st (st' := []) rfl ?_
        refine z_aload_n hC 51 hl dX1_insert_51 rfl 0 rfl ?_
        refine z_same (z_runV hC hH.2.2 hl.1 hH.1 hH.2.1 0 (As := []) (rest := []) (m_X1_ends lau s0 G _ ad (va_up (va_up F 200 ((n : Int) + 1)) 203 ((n : Int))) (va_up (va_up (va_up (va_up Ar 201 (va_up (opnF (Ar 201) (((n : Int)).toNat) (p1)) (p1) ((x1 : Int)))) 202 (va_up (opnF (Ar 202) (((n : Int)).toNat) (p1)) (p1) 1)) 204 (Ar 201)) 205 (Ar 202)) kp pl (dPool G pr pa pm pf L) L pr pa pm pf nw (n + 1) (insF v p1 x1) (insF wt p1 1) n v wt b t fr un hm hvv hww (by first | exact hn | omega) (by first | exact hFn | rfl | omega) (by exact insF_old (P := fun x => x < 1000) hv (by omega) (by omega)) (by exact cv_op hAv (by omega) (by omega)) (by exact insF_old (P := fun x => 1 ≤ x ∧ x ≤ 9) hwt ⟨by omega, by omega⟩ (by omega)) (by exact cv_op hAw (by omega) (by omega)) (by exact hn) (by first | rfl | exact hFn) (by exact hv) (by exact hAv) (by exact hwt) (by exact hAw) (by exact hb) (by exact hFb) (by exact ht) (by exact hFt) (by exact hun) (by exact hF14) (by first | exact hkt | assumption | omega) (by exact PASTD_cg hPD (fun k hk => by have := (kp_ge hkt (show k < 12 by omega)).1; (repeat rw [va_up_ne _ _ (by omega)]) <;> rfl) (fun k hk => by have := (kp_ge hkt (show k < 12 by omega)).1; constructor <;> ((repeat rw [va_up_ne _ _ (by omega)]) <;> rfl)) (fun k hk => ⟨rfl, rfl, rfl⟩)) (by first | exact hS | assumption | omega) (by first | exact hnw | assumption | omega) (by exact hmo) (by exact hpc) (by exact hfr) (by exact h16)) (lw_V q811 q813 qs22 q89 q814) ⟨rfl, by decide, by decide, by decide +kernel⟩ (q0 := 0) (ci := 1) rfl rfl rfl rfl (Nat.le_of_ble_eq_true rfl) ⟨Nat.le_of_ble_eq_true rfl, Nat.le_of_ble_eq_true rfl⟩ ⟨by first | decide | omega, by first | decide | omega⟩ dX1_insert_52) hH (fun u_ H locs hpost hH => ?_)
        obtain ⟨r_52, un2_52, hm2_52, hvv2_52, hww2_52, fr2_52, L2_52, pl2_52, pr2_52, pa2_52, pm2_52, pf2_52, kp2_52, F2_52, A2_52⟩ := u_
        obtain ⟨pD_52, pE_52, pr_52, pK_52⟩ : (DST s0 G nw b t (n + 1) (insF v p1 x1) (insF wt p1 1) un2_52 hm2_52 hvv2_52 hww2_52 fr2_52 F2_52 A2_52 kp2_52 L2_52 pl2_52 pr2_52 pa2_52 pm2_52 pf2_52) ∧ (EDT b n v wt un hm hvv hww fr (n + 1) (insF v p1 x1) (insF wt p1 1) un2_52 hm2_52 hvv2_52 hww2_52 fr2_52) ∧ (n = (n + 1) → r_52 = (oth (n + 1) v (insF v p1 x1) : Int)) ∧ (EKE (va_up (va_up F 200 ((n : Int) + 1)) 203 ((n : Int))) (va_up (va_up (va_up (va_up Ar 201 (va_up (opnF (Ar 201) (((n : Int)).toNat) (p1)) (p1) ((x1 : Int)))) 202 (va_up (opnF (Ar 202) (((n : Int)).toNat) (p1)) (p1) 1)) 204 (Ar 201)) 205 (Ar 202)) F2_52 A2_52) := hpost
        have hH : zH s0 s1 G as0 (dW ad G F2_52 A2_52 kp2_52 pl2_52 (dPool G pr2_52 pa2_52 pm2_52 pf2_52 L2_52)) H locs := hH
        refine z_st (st' := [.int (iZ (r_52))]) rfl ?_
        refine z_istore_n (lv' := [(3, .int (iZ (r_52))), (0, .ref (ad 99)), (1, .int (iZ ((p1 : Int)))), (2, .int (iZ ((x1 : Int))))]) hC 55 hl dX1_insert_55 rfl (by decide) rfl (fun ls hl => ?_)
        have hF9 := (pK_52.1 200 (by decide) (by decide) (by decide)).trans (show _ = ((n : Int) + 1) from rfl)
        refine z_aload_n hC 56 hl dX1_insert_56 rfl 1 rfl ?_
        refine zp_get (v := .ref (ad 200)) hC (va_P_l hH.1) 57 in_X1 rfl 4 (by decide) q210 0 rfl (rfl) dX1_insert_57 ?_
        refine zp_getN (v := .int (iZ ((n : Int) + 1))) hC (va_P_l hH.1) 60 in_X2 rfl 2 (by decide) q149 11 rfl (by rw [← hF9]; rfl) dX1_insert_60 ?_
        -- R63.1
        refine z_st (st' := [.int (iZ (((n : Int) + 1)))]) (zcons (zieq (by first | assumption | omega)) rfl) ?_
        exact z_iret hC hH hQ 63 (((n : Int) + 1, n + 1, (insF v p1 x1), (insF wt p1 1), un2_52, hm2_52, hvv2_52, hww2_52, fr2_52, L2_52, pl2_52, pr2_52, pa2_52, pm2_52, pf2_52, kp2_52, F2_52, A2_52)) dX1_insert_63 rfl ⟨by (unfold Sp_insert; rw [if_pos (by omega)]; first | exact ⟨rfl, rfl, rfl, rfl⟩ | exact ⟨by omega, rfl, rfl, rfl⟩ | exact ⟨pr_52 rfl, rfl, rfl, rfl⟩), by exact pE_52, by exact pD_52, by exact EKQ_of pK_52 ⟨rfl, rfl, rfl, rfl, rfl⟩⟩ rfl (by first | decide | omega) (by first | decide | omega)
      · -- 33f
        refine z_iconst hC 36 dX1_insert_36 ?_
        -- R37.2
        exact z_iret hC hH hQ 37 (((-1), n, v, wt, un, hm, hvv, hww, fr, L, pl, pr, pa, pm, pf, kp, F, Ar)) dX1_insert_37 rfl ⟨by (unfold Sp_insert; rw [if_neg (by omega)]; exact ⟨rfl, rfl, rfl, rfl⟩), by exact EDT_none, by exact hD, by exact ⟨rfl, rfl, rfl, rfl, rfl⟩⟩ rfl (by first | decide | omega) (by first | decide | omega)
    · -- 18=0
      refine z_if_eq_t hC 21 36 dX1_insert_21 rfl (by omega) (by omega) ?_
      refine z_iconst hC 36 dX1_insert_36 ?_
      -- R37.3
      exact z_iret hC hH hQ 37 (((-1), n, v, wt, un, hm, hvv, hww, fr, L, pl, pr, pa, pm, pf, kp, F, Ar)) dX1_insert_37 rfl ⟨by (unfold Sp_insert; rw [if_neg (by omega)]; exact ⟨rfl, rfl, rfl, rfl⟩), by exact EDT_none, by exact hD, by exact ⟨rfl, rfl, rfl, rfl, rfl⟩⟩ rfl (by first | decide | omega) (by first | decide | omega)
  · -- 11=0
    refine z_if_eq_t hC 14 36 dX1_insert_14 rfl (by omega) (by omega) ?_
    refine z_iconst hC 36 dX1_insert_36 ?_
    -- R37.4
    exact z_iret hC hH hQ 37 (((-1), n, v, wt, un, hm, hvv, hww, fr, L, pl, pr, pa, pm, pf, kp, F, Ar)) dX1_insert_37 rfl ⟨by (unfold Sp_insert; rw [if_neg (by omega)]; exact ⟨rfl, rfl, rfl, rfl⟩), by exact EDT_none, by exact hD, by exact ⟨rfl, rfl, rfl, rfl, rfl⟩⟩ rfl (by first | decide | omega) (by first | decide | omega)

set_option maxHeartbeats 16000000 in
set_option maxRecDepth 100000 in
theorem m_X1_remove (lau : Launch) (s0 : State) (G : zG) (sz : Nat) (ad : Nat → Nat) (F : Nat → Int) (Ar : Nat → Nat → Int) (kp : Nat → Nat) (pl : Nat → Option Nat) (PW : va_W) (L : List Nat) (pr : Nat → Nat) (pa : Nat → Nat) (pm : Nat → Nat) (pf : Nat → Nat → Nat) (nw : Nat) (b : Nat) (t : Nat) (n : Nat) (v : Nat → Nat) (wt : Nat → Nat) (un : Nat) (hm : Nat → Nat) (hvv : Nat → Nat → Nat) (hww : Nat → Nat → Nat) (fr : Int) (p : Int) (hD : DST s0 G nw b t n v wt un hm hvv hww fr F Ar kp L pl pr pa pm pf) (hnw : zNwh s0 nw) (hr_p : -2147483648 ≤ p ∧ p < 2147483648) : zMet (S := Int × Nat × (Nat → Nat) × (Nat → Nat) × Nat × (Nat → Nat) × (Nat → Nat → Nat) × (Nat → Nat → Nat) × Int × List Nat × (Nat → Option Nat) × (Nat → Nat) × (Nat → Nat) × (Nat → Nat) × (Nat → Nat → Nat) × (Nat → Nat) × (Nat → Int) × (Nat → Nat → Int)) lau yX1_remove cX1_remove 3 (some .int) 7 164 240 14640 s0 G sz [.ref (ad 99), .int (iZ (p))] (dW ad G F Ar kp pl (dPool G pr pa pm pf L)) (fun ((r_, n2, v2, w2, un2, hm2, hvv2, hww2, fr2, L2, pl2, pr2, pa2, pm2, pf2, kp2, F2, A2) : Int × Nat × (Nat → Nat) × (Nat → Nat) × Nat × (Nat → Nat) × (Nat → Nat → Nat) × (Nat → Nat → Nat) × Int × List Nat × (Nat → Option Nat) × (Nat → Nat) × (Nat → Nat) × (Nat → Nat) × (Nat → Nat → Nat) × (Nat → Nat) × (Nat → Int) × (Nat → Nat → Int)) => some (.int (iZ (r_)))) (fun ((r_, n2, v2, w2, un2, hm2, hvv2, hww2, fr2, L2, pl2, pr2, pa2, pm2, pf2, kp2, F2, A2) : Int × Nat × (Nat → Nat) × (Nat → Nat) × Nat × (Nat → Nat) × (Nat → Nat → Nat) × (Nat → Nat → Nat) × Int × List Nat × (Nat → Option Nat) × (Nat → Nat) × (Nat → Nat) × (Nat → Nat) × (Nat → Nat → Nat) × (Nat → Nat) × (Nat → Int) × (Nat → Nat → Int)) => (Sp_remove n v wt p r_ n2 v2 w2) ∧ (EDT b n v wt un hm hvv hww fr n2 v2 w2 un2 hm2 hvv2 hww2 fr2) ∧ (DST s0 G nw b t n2 v2 w2 un2 hm2 hvv2 hww2 fr2 F2 A2 kp2 L2 pl2 pr2 pa2 pm2 pf2) ∧ (EKQ F Ar F2 A2)) (fun ((r_, n2, v2, w2, un2, hm2, hvv2, hww2, fr2, L2, pl2, pr2, pa2, pm2, pf2, kp2, F2, A2) : Int × Nat × (Nat → Nat) × (Nat → Nat) × Nat × (Nat → Nat) × (Nat → Nat → Nat) × (Nat → Nat → Nat) × Int × List Nat × (Nat → Option Nat) × (Nat → Nat) × (Nat → Nat) × (Nat → Nat) × (Nat → Nat → Nat) × (Nat → Nat) × (Nat → Int) × (Nat → Nat → Int)) => (dW ad G F2 A2 kp2 pl2 (dPool G pr2 pa2 pm2 pf2 L2))) := by
  refine zMet.of (by decide) (Nat.le_of_ble_eq_true rfl) ?_
  intro pg ev s1 mi ar bl me cd ls Q as0 hC hH hl hQ hsz
  generalize s1.heap = H at hH ⊢
  generalize ([] : List Loc) = locs at hH ⊢
  have hl : lv_has ls 3 [(0, .ref (ad 99)), (1, .int (iZ (p)))] := hl
  obtain ⟨⟨hn, hFn, hv, hAv, hwt, hAw⟩, ⟨hb, hFb, ht, hFt⟩, ⟨hun, hF14, hkt, hPD⟩, ⟨hS, hpc⟩, hmo, hfr, h16⟩ := id hD
  refine z_aload_n hC 0 hl dX1_remove_0 rfl 0 rfl ?_
  refine z_iload_n hC 1 hl dX1_remove_1 rfl 1 rfl ?_
  refine zp_back (zp_runV hC (hH.2.2) hl.1 (va_P_l hH.1) 1 (As := [.int (iZ (p))]) (rest := []) (u_X1_isPlace lau s0 G ad F Ar kp pl n p (by first | exact hn | assumption | omega) (by first | exact hFn | assumption | omega) (by first | assumption | omega)) (lw_V q799 q801 qs20 q89 q802) ⟨rfl, by decide, by decide, by decide +kernel⟩ (q0 := 0) (ci := 1) rfl rfl rfl rfl (Nat.le_of_ble_eq_true rfl) ⟨Nat.le_of_ble_eq_true rfl, Nat.le_of_ble_eq_true rfl⟩ ⟨by first | decide | omega, by first | decide | omega⟩ dX1_remove_2) (fun r_2 hpost => ?_)
  have hb_2 : (r_2 = 1 ∧ (0 ≤ p ∧ p < (n : Int))) ∨ (r_2 = 0 ∧ ¬ (0 ≤ p ∧ p < (n : Int))) := hpost
  refine z_st (st' := [.int (iZ (r_2))]) rfl ?_
  rcases hb_2 with ⟨rfl, hb_2⟩ | ⟨rfl, hb_2⟩
  · -- 2=1
    refine z_if_ne_t hC 5 10 dX1_remove_5 rfl (by omega) (by omega) ?_
    obtain ⟨p1, rfl⟩ := Int.eq_ofNat_of_zero_le (show 0 ≤ p by omega)
    refine z_aload_n hC 10 hl dX1_remove_10 rfl 0 rfl ?_
    have hH : zH s0 s1 G as0 (dW ad G (va_up F 200 ((F 200))) Ar kp pl (dPool G pr pa pm pf L)) H locs := hH
    rw [show ((F 200) : Int) = (n : Int) from by omega] at hH
    have hH : zH s0 s1 G as0 (dW ad G (va_up F 200 ((n : Int))) Ar kp pl (dPool G pr pa pm pf L)) H locs := hH
    refine z_same (z_runV hC hH.2.2 hl.1 hH.1 hH.2.1 0 (As := []) (rest := []) (m_X1_begins lau s0 G _ ad (va_up F 200 ((n : Int))) Ar kp pl (dPool G pr pa pm pf L) (n : Int) (Ar 201) (Ar 202) ) (lw_V q807 q809 qs21 q89 q810) ⟨rfl, by decide, by decide, by decide +kernel⟩ (q0 := 0) (ci := 1) rfl rfl rfl rfl (Nat.le_of_ble_eq_true rfl) ⟨Nat.le_of_ble_eq_true rfl, Nat.le_of_ble_eq_true rfl⟩ ⟨Nat.le_of_ble_eq_true rfl, Nat.le_of_ble_eq_true rfl⟩ dX1_remove_11) hH (fun _ H locs hpost hH => ?_)
    have hH : zH s0 s1 G as0 (dW ad G (va_up (va_up F 200 ((n : Int))) 203 ((n : Int))) (va_up (va_up Ar 204 (Ar 201)) 205 (Ar 202)) kp pl (dPool G pr pa pm pf L)) H locs := hH
    refine z_st (st' := []) rfl ?_
    refine z_aload_n hC 14 hl dX1_remove_14 rfl 0 rfl ?_
    refine zp_get (v := .ref (ad 200)) hC (va_P_l hH.1) 15 in_X1 rfl 4 (by decide) q210 0 rfl (rfl) dX1_remove_15 ?_
    refine z_iload_n hC 18 hl dX1_remove_18 rfl 1 rfl ?_
    refine z_st (st' := [.int (iZ (((p1 : Nat) : Int))), .ref (ad 200)]) (zcons (zieq (by omega)) rfl) ?_
    refine z_sub (z_runV (wc := (rW (fun i => ad (200 + i)) G (va_up (fun _ => 0) 2 ((n : Int))) (va_up (va_up (fun _ => fun _ => 0) 0 (Ar 201)) 1 (Ar 202)))) hC hH.2.2 hl.1 (z_subP hH.1 [11, 12, 13] rfl) (z_subD hH.2.1 [11, 12, 13] (by decide) rfl) 1 (As := [.int (iZ (((p1 : Nat) : Int)))]) (rest := []) (m_X2_closes lau s0 G _ (fun i => ad (200 + i))  (fun _ => 0) (fun _ => fun _ => 0) (((n : Int)).toNat) (p1) (Ar 201) (Ar 202) (by omega) (by omega)) (lw_V q856 q857 q858 q90 q859) ⟨rfl, by decide, by decide, by decide +kernel⟩ (q0 := 0) (ci := 2) rfl rfl rfl rfl (Nat.le_of_ble_eq_true rfl) ⟨Nat.le_of_ble_eq_true rfl, Nat.le_of_ble_eq_true rfl⟩ ⟨by first | decide | omega, by first | decide | omega⟩ dX1_remove_19) hH [11, 12, 13] rfl (by decide) (fun _ => rfl) (fun _ H locs hpost hH => ?_)
    have hH : zH s0 s1 G as0 (dW ad G (va_up (va_up F 200 ((n : Int) - 1)) 203 ((n : Int))) (va_up (va_up (va_up (va_up Ar 201 (clsF (Ar 201) (p1) (((n : Int)).toNat - 1))) 202 (clsF (Ar 202) (p1) (((n : Int)).toNat - 1))) 204 (Ar 201)) 205 (Ar 202)) kp pl (dPool G pr pa pm pf L)) H locs := hH
    refine z_st (st' := []) rfl ?_
    refine z_aload_n hC 22 hl dX1_remove_22 rfl 0 rfl ?_
    refine z_same (z_runV hC hH.2.2 hl.1 hH.1 hH.2.1 0 (As := []) (rest := []) (m_X1_ends lau s0 G _ ad (va_up (va_up F 200 ((n : Int) - 1)) 203 ((n : Int))) (va_up (va_up (va_up (va_up Ar 201 (clsF (Ar 201) (p1) (((n : Int)).toNat - 1))) 202 (clsF (Ar 202) (p1) (((n : Int)).toNat - 1))) 204 (Ar 201)) 205 (Ar 202)) kp pl (dPool G pr pa pm pf L) L pr pa pm pf nw (n - 1) (remF v p1) (remF wt p1) n v wt b t fr un hm hvv hww (by first | exact hn | omega) (by (show (n : Int) - 1 = ((n - 1 : Nat) : Int); omega)) (by exact remF_old (P := fun x => x < 1000) hv) (by exact cv_cl hAv) (by exact remF_old (P := fun x => 1 ≤ x ∧ x ≤ 9) hwt) (by exact cv_cl hAw) (by exact hn) (by first | rfl | exact hFn) (by exact hv) (by exact hAv) (by exact hwt) (by exact hAw) (by exact hb) (by exact hFb) (by exact ht) (by exact hFt) (by exact hun) (by exact hF14) (by first | exact hkt | assumption | omega) (by exact PASTD_cg hPD (fun k hk => by have := (kp_ge hkt (show k < 12 by omega)).1; (repeat rw [va_up_ne _ _ (by omega)]) <;> rfl) (fun k hk => by have := (kp_ge hkt (show k < 12 by omega)).1; constructor <;> ((repeat rw [va_up_ne _ _ (by omega)]) <;> rfl)) (fun k hk => ⟨rfl, rfl, rfl⟩)) (by first | exact hS | assumption | omega) (by first | exact hnw | assumption | omega) (by exact hmo) (by exact hpc) (by exact hfr) (by exact h16)) (lw_V q811 q813 qs22 q89 q814) ⟨rfl, by decide, by decide, by decide +kernel⟩ (q0 := 0) (ci := 1) rfl rfl rfl rfl (Nat.le_of_ble_eq_true rfl) ⟨Nat.le_of_ble_eq_true rfl, Nat.le_of_ble_eq_true rfl⟩ ⟨by first | decide | omega, by first | decide | omega⟩ dX1_remove_23) hH (fun u_ H locs hpost hH => ?_)
    obtain ⟨r_23, un2_23, hm2_23, hvv2_23, hww2_23, fr2_23, L2_23, pl2_23, pr2_23, pa2_23, pm2_23, pf2_23, kp2_23, F2_23, A2_23⟩ := u_
    obtain ⟨pD_23, pE_23, pr_23, pK_23⟩ : (DST s0 G nw b t (n - 1) (remF v p1) (remF wt p1) un2_23 hm2_23 hvv2_23 hww2_23 fr2_23 F2_23 A2_23 kp2_23 L2_23 pl2_23 pr2_23 pa2_23 pm2_23 pf2_23) ∧ (EDT b n v wt un hm hvv hww fr (n - 1) (remF v p1) (remF wt p1) un2_23 hm2_23 hvv2_23 hww2_23 fr2_23) ∧ (n = (n - 1) → r_23 = (oth (n - 1) v (remF v p1) : Int)) ∧ (EKE (va_up (va_up F 200 ((n : Int) - 1)) 203 ((n : Int))) (va_up (va_up (va_up (va_up Ar 201 (clsF (Ar 201) (p1) (((n : Int)).toNat - 1))) 202 (clsF (Ar 202) (p1) (((n : Int)).toNat - 1))) 204 (Ar 201)) 205 (Ar 202)) F2_23 A2_23) := hpost
    have hH : zH s0 s1 G as0 (dW ad G F2_23 A2_23 kp2_23 pl2_23 (dPool G pr2_23 pa2_23 pm2_23 pf2_23 L2_23)) H locs := hH
    refine z_st (st' := [.int (iZ (r_23))]) rfl ?_
    refine z_istore_n (lv' := [(2, .int (iZ (r_23))), (0, .ref (ad 99)), (1, .int (iZ ((p1 : Int))))]) hC 26 hl dX1_remove_26 rfl (by decide) rfl (fun ls hl => ?_)
    refine z_aload_n hC 27 hl dX1_remove_27 rfl 1 rfl ?_
    refine zp_get (v := .ref (ad 203)) hC (va_P_l hH.1) 28 in_X1 rfl 5 (by decide) q214 0 rfl (rfl) dX1_remove_28 ?_
    refine zp_getN (v := .ref (ad 204)) hC (va_P_l hH.1) 31 in_X2 rfl 0 (by decide) q141 14 rfl (rfl) dX1_remove_31 ?_
    refine z_iload_n hC 34 hl dX1_remove_34 rfl 2 rfl ?_
    refine zp_iald (f := (A2_23 204)) (x := ((v p1 : Nat) : Int)) hC (va_P_l hH.1) 35 15 (p1) rfl (by decide) (by omega) (by omega) (((congrFun (pK_23.2 204 (by decide) (by decide)) p1).trans (hAv p1 (by omega)))) dX1_remove_35 ?_
    -- R36.1
    exact z_iret hC hH hQ 36 ((((v p1 : Nat) : Int), n - 1, (remF v p1), (remF wt p1), un2_23, hm2_23, hvv2_23, hww2_23, fr2_23, L2_23, pl2_23, pr2_23, pa2_23, pm2_23, pf2_23, kp2_23, F2_23, A2_23)) dX1_remove_36 rfl ⟨by (unfold Sp_remove; rw [if_pos (by omega)]; first | exact ⟨rfl, rfl, rfl, rfl⟩ | exact ⟨by omega, rfl, rfl, rfl⟩ | exact ⟨pr_23 rfl, rfl, rfl, rfl⟩), by exact pE_23, by exact pD_23, by exact EKQ_of pK_23 ⟨rfl, rfl, rfl, rfl, rfl⟩⟩ rfl (by first | decide | omega) (by first | decide | omega)
  · -- 2=0
    refine z_if_ne_f hC 5 10 dX1_remove_5 rfl (by omega) (by omega) ?_
    refine z_iconst hC 8 dX1_remove_8 ?_
    -- R9.2
    exact z_iret hC hH hQ 9 (((-1), n, v, wt, un, hm, hvv, hww, fr, L, pl, pr, pa, pm, pf, kp, F, Ar)) dX1_remove_9 rfl ⟨by (unfold Sp_remove; rw [if_neg (by omega)]; exact ⟨rfl, rfl, rfl, rfl⟩), by exact EDT_none, by exact hD, by exact ⟨rfl, rfl, rfl, rfl, rfl⟩⟩ rfl (by first | decide | omega) (by first | decide | omega)

set_option maxHeartbeats 16000000 in
set_option maxRecDepth 100000 in
theorem m_X1_swap (lau : Launch) (s0 : State) (G : zG) (sz : Nat) (ad : Nat → Nat) (F : Nat → Int) (Ar : Nat → Nat → Int) (kp : Nat → Nat) (pl : Nat → Option Nat) (PW : va_W) (L : List Nat) (pr : Nat → Nat) (pa : Nat → Nat) (pm : Nat → Nat) (pf : Nat → Nat → Nat) (nw : Nat) (b : Nat) (t : Nat) (n : Nat) (v : Nat → Nat) (wt : Nat → Nat) (un : Nat) (hm : Nat → Nat) (hvv : Nat → Nat → Nat) (hww : Nat → Nat → Nat) (fr : Int) (p : Int) (q : Int) (hD : DST s0 G nw b t n v wt un hm hvv hww fr F Ar kp L pl pr pa pm pf) (hnw : zNwh s0 nw) (hr_p : -2147483648 ≤ p ∧ p < 2147483648) (hr_q : -2147483648 ≤ q ∧ q < 2147483648) : zMet (S := Int × Nat × (Nat → Nat) × (Nat → Nat) × Nat × (Nat → Nat) × (Nat → Nat → Nat) × (Nat → Nat → Nat) × Int × List Nat × (Nat → Option Nat) × (Nat → Nat) × (Nat → Nat) × (Nat → Nat) × (Nat → Nat → Nat) × (Nat → Nat) × (Nat → Int) × (Nat → Nat → Int)) lau yX1_swap cX1_swap 4 (some .boolean) 7 164 240 14640 s0 G sz [.ref (ad 99), .int (iZ (p)), .int (iZ (q))] (dW ad G F Ar kp pl (dPool G pr pa pm pf L)) (fun ((r_, n2, v2, w2, un2, hm2, hvv2, hww2, fr2, L2, pl2, pr2, pa2, pm2, pf2, kp2, F2, A2) : Int × Nat × (Nat → Nat) × (Nat → Nat) × Nat × (Nat → Nat) × (Nat → Nat → Nat) × (Nat → Nat → Nat) × Int × List Nat × (Nat → Option Nat) × (Nat → Nat) × (Nat → Nat) × (Nat → Nat) × (Nat → Nat → Nat) × (Nat → Nat) × (Nat → Int) × (Nat → Nat → Int)) => some (.int (iZ (r_)))) (fun ((r_, n2, v2, w2, un2, hm2, hvv2, hww2, fr2, L2, pl2, pr2, pa2, pm2, pf2, kp2, F2, A2) : Int × Nat × (Nat → Nat) × (Nat → Nat) × Nat × (Nat → Nat) × (Nat → Nat → Nat) × (Nat → Nat → Nat) × Int × List Nat × (Nat → Option Nat) × (Nat → Nat) × (Nat → Nat) × (Nat → Nat) × (Nat → Nat → Nat) × (Nat → Nat) × (Nat → Int) × (Nat → Nat → Int)) => (Sp_swap n v wt p q r_ n2 v2 w2) ∧ (EDT b n v wt un hm hvv hww fr n2 v2 w2 un2 hm2 hvv2 hww2 fr2) ∧ (DST s0 G nw b t n2 v2 w2 un2 hm2 hvv2 hww2 fr2 F2 A2 kp2 L2 pl2 pr2 pa2 pm2 pf2) ∧ (EKQ F Ar F2 A2)) (fun ((r_, n2, v2, w2, un2, hm2, hvv2, hww2, fr2, L2, pl2, pr2, pa2, pm2, pf2, kp2, F2, A2) : Int × Nat × (Nat → Nat) × (Nat → Nat) × Nat × (Nat → Nat) × (Nat → Nat → Nat) × (Nat → Nat → Nat) × Int × List Nat × (Nat → Option Nat) × (Nat → Nat) × (Nat → Nat) × (Nat → Nat) × (Nat → Nat → Nat) × (Nat → Nat) × (Nat → Int) × (Nat → Nat → Int)) => (dW ad G F2 A2 kp2 pl2 (dPool G pr2 pa2 pm2 pf2 L2))) := by
  refine zMet.of (by decide) (Nat.le_of_ble_eq_true rfl) ?_
  intro pg ev s1 mi ar bl me cd ls Q as0 hC hH hl hQ hsz
  generalize s1.heap = H at hH ⊢
  generalize ([] : List Loc) = locs at hH ⊢
  have hl : lv_has ls 4 [(0, .ref (ad 99)), (1, .int (iZ (p))), (2, .int (iZ (q)))] := hl
  obtain ⟨⟨hn, hFn, hv, hAv, hwt, hAw⟩, ⟨hb, hFb, ht, hFt⟩, ⟨hun, hF14, hkt, hPD⟩, ⟨hS, hpc⟩, hmo, hfr, h16⟩ := id hD
  refine z_aload_n hC 0 hl dX1_swap_0 rfl 0 rfl ?_
  refine z_iload_n hC 1 hl dX1_swap_1 rfl 1 rfl ?_
  refine zp_back (zp_runV hC (hH.2.2) hl.1 (va_P_l hH.1) 1 (As := [.int (iZ (p))]) (rest := []) (u_X1_isPlace lau s0 G ad F Ar kp pl n p (by first | exact hn | assumption | omega) (by first | exact hFn | assumption | omega) (by first | assumption | omega)) (lw_V q799 q801 qs20 q89 q802) ⟨rfl, by decide, by decide, by decide +kernel⟩ (q0 := 0) (ci := 1) rfl rfl rfl rfl (Nat.le_of_ble_eq_true rfl) ⟨Nat.le_of_ble_eq_true rfl, Nat.le_of_ble_eq_true rfl⟩ ⟨by first | decide | omega, by first | decide | omega⟩ dX1_swap_2) (fun r_2 hpost => ?_)
  have hb_2 : (r_2 = 1 ∧ (0 ≤ p ∧ p < (n : Int))) ∨ (r_2 = 0 ∧ ¬ (0 ≤ p ∧ p < (n : Int))) := hpost
  refine z_st (st' := [.int (iZ (r_2))]) rfl ?_
  rcases hb_2 with ⟨rfl, hb_2⟩ | ⟨rfl, hb_2⟩
  · -- 2=1
    refine z_if_eq_f hC 5 21 dX1_swap_5 rfl (by omega) (by omega) ?_
    refine z_aload_n hC 8 hl dX1_swap_8 rfl 0 rfl ?_
    refine z_iload_n hC 9 hl dX1_swap_9 rfl 2 rfl ?_
    refine zp_back (zp_runV hC (hH.2.2) hl.1 (va_P_l hH.1) 1 (As := [.int (iZ (q))]) (rest := []) (u_X1_isPlace lau s0 G ad F Ar kp pl n q (by first | exact hn | assumption | omega) (by first | exact hFn | assumption | omega) (by first | assumption | omega)) (lw_V q799 q801 qs20 q89 q802) ⟨rfl, by decide, by decide, by decide +kernel⟩ (q0 := 0) (ci := 1) rfl rfl rfl rfl (Nat.le_of_ble_eq_true rfl) ⟨Nat.le_of_ble_eq_true rfl, Nat.le_of_ble_eq_true rfl⟩ ⟨by first | decide | omega, by first | decide | omega⟩ dX1_swap_10) (fun r_10 hpost => ?_)
    have hb_10 : (r_10 = 1 ∧ (0 ≤ q ∧ q < (n : Int))) ∨ (r_10 = 0 ∧ ¬ (0 ≤ q ∧ q < (n : Int))) := hpost
    refine z_st (st' := [.int (iZ (r_10))]) rfl ?_
    rcases hb_10 with ⟨rfl, hb_10⟩ | ⟨rfl, hb_10⟩
    · -- 10=1
      refine z_if_eq_f hC 13 21 dX1_swap_13 rfl (by omega) (by omega) ?_
      refine z_iload_n hC 16 hl dX1_swap_16 rfl 1 rfl ?_
      refine z_iload_n hC 17 hl dX1_swap_17 rfl 2 rfl ?_
      refine z_icmp_ne hC 18 23 dX1_swap_18 rfl (by omega) (by omega) (fun hb1 => ?_) (fun hb1 => ?_)
      · -- 18t
        obtain ⟨p1, rfl⟩ := Int.eq_ofNat_of_zero_le (show 0 ≤ p by omega)
        obtain ⟨q1, rfl⟩ := Int.eq_ofNat_of_zero_le (show 0 ≤ q by omega)
        refine z_aload_n hC 23 hl dX1_swap_23 rfl 0 rfl ?_
        have hH : zH s0 s1 G as0 (dW ad G (va_up F 200 ((F 200))) Ar kp pl (dPool G pr pa pm pf L)) H locs := hH
        rw [show ((F 200) : Int) = (n : Int) from by omega] at hH
        have hH : zH s0 s1 G as0 (dW ad G (va_up F 200 ((n : Int))) Ar kp pl (dPool G pr pa pm pf L)) H locs := hH
        refine z_same (z_runV hC hH.2.2 hl.1 hH.1 hH.2.1 0 (As := []) (rest := []) (m_X1_begins lau s0 G _ ad (va_up F 200 ((n : Int))) Ar kp pl (dPool G pr pa pm pf L) (n : Int) (Ar 201) (Ar 202) ) (lw_V q807 q809 qs21 q89 q810) ⟨rfl, by decide, by decide, by decide +kernel⟩ (q0 := 0) (ci := 1) rfl rfl rfl rfl (Nat.le_of_ble_eq_true rfl) ⟨Nat.le_of_ble_eq_true rfl, Nat.le_of_ble_eq_true rfl⟩ ⟨Nat.le_of_ble_eq_true rfl, Nat.le_of_ble_eq_true rfl⟩ dX1_swap_24) hH (fun _ H locs hpost hH => ?_)
        have hH : zH s0 s1 G as0 (dW ad G (va_up (va_up F 200 ((n : Int))) 203 ((n : Int))) (va_up (va_up Ar 204 (Ar 201)) 205 (Ar 202)) kp pl (dPool G pr pa pm pf L)) H locs := hH
        refine z_st (st' := []) rfl ?_
        refine z_aload_n hC 27 hl dX1_swap_27 rfl 0 rfl ?_
        refine zp_get (v := .ref (ad 200)) hC (va_P_l hH.1) 28 in_X1 rfl 4 (by decide) q210 0 rfl (rfl) dX1_swap_28 ?_
        refine z_iload_n hC 31 hl dX1_swap_31 rfl 1 rfl ?_
        refine z_iload_n hC 32 hl dX1_swap_32 rfl 2 rfl ?_
        refine z_st (st' := [.int (iZ (((q1 : Nat) : Int))), .int (iZ (((p1 : Nat) : Int))), .ref (ad 200)]) (zcons (zieq (by omega)) (zcons (zieq (by omega)) rfl)) ?_
        refine z_sub (z_runV (wc := (rW (fun i => ad (200 + i)) G (va_up (fun _ => 0) 2 ((n : Int))) (va_up (va_up (fun _ => fun _ => 0) 0 (Ar 201)) 1 (Ar 202)))) hC hH.2.2 hl.1 (z_subP hH.1 [11, 12, 13] rfl) (z_subD hH.2.1 [11, 12, 13] (by decide) rfl) 2 (As := [.int (iZ (((p1 : Nat) : Int))), .int (iZ (((q1 : Nat) : Int)))]) (rest := []) (m_X2_swaps lau s0 G _ (fun i => ad (200 + i))  (va_up (fun _ => 0) 2 ((n : Int))) (fun _ => fun _ => 0) (p1) (q1) (Ar 201) (Ar 202) (by omega) (by omega)) (lw_V q872 q873 q874 q90 q875) ⟨rfl, by decide, by decide, by decide +kernel⟩ (q0 := 0) (ci := 2) rfl rfl rfl rfl (Nat.le_of_ble_eq_true rfl) ⟨Nat.le_of_ble_eq_true rfl, Nat.le_of_ble_eq_true rfl⟩ ⟨by first | decide | omega, by first | decide | omega⟩ dX1_swap_33) hH [11, 12, 13] rfl (by decide) (fun _ => rfl) (fun _ H locs hpost hH => ?_)
        have hH : zH s0 s1 G as0 (dW ad G (va_up (va_up F 200 ((n : Int))) 203 ((n : Int))) (va_up (va_up (va_up (va_up Ar 201 (va_up (va_up (Ar 201) (p1) ((Ar 201) (q1))) (q1) ((Ar 201) (p1)))) 202 (va_up (va_up (Ar 202) (p1) ((Ar 202) (q1))) (q1) ((Ar 202) (p1)))) 204 (Ar 201)) 205 (Ar 202)) kp pl (dPool G pr pa pm pf L)) H locs := hH
        refine z_st (st' := []) rfl ?_
        refine z_aload_n hC 36 hl dX1_swap_36 rfl 0 rfl ?_
        refine z_same (z_runV hC hH.2.2 hl.1 hH.1 hH.2.1 0 (As := []) (rest := []) (m_X1_ends lau s0 G _ ad (va_up (va_up F 200 ((n : Int))) 203 ((n : Int))) (va_up (va_up (va_up (va_up Ar 201 (va_up (va_up (Ar 201) (p1) ((Ar 201) (q1))) (q1) ((Ar 201) (p1)))) 202 (va_up (va_up (Ar 202) (p1) ((Ar 202) (q1))) (q1) ((Ar 202) (p1)))) 204 (Ar 201)) 205 (Ar 202)) kp pl (dPool G pr pa pm pf L) L pr pa pm pf nw n (swpF v p1 q1) (swpF wt p1 q1) n v wt b t fr un hm hvv hww (by first | exact hn | omega) (by first | exact hFn | rfl | omega) (by exact swpF_old (P := fun x => x < 1000) hv (by omega) (by omega)) (by exact cv_sw hAv (by omega) (by omega)) (by exact swpF_old (P := fun x => 1 ≤ x ∧ x ≤ 9) hwt (by omega) (by omega)) (by exact cv_sw hAw (by omega) (by omega)) (by exact hn) (by first | rfl | exact hFn) (by exact hv) (by exact hAv) (by exact hwt) (by exact hAw) (by exact hb) (by exact hFb) (by exact ht) (by exact hFt) (by exact hun) (by exact hF14) (by first | exact hkt | assumption | omega) (by exact PASTD_cg hPD (fun k hk => by have := (kp_ge hkt (show k < 12 by omega)).1; (repeat rw [va_up_ne _ _ (by omega)]) <;> rfl) (fun k hk => by have := (kp_ge hkt (show k < 12 by omega)).1; constructor <;> ((repeat rw [va_up_ne _ _ (by omega)]) <;> rfl)) (fun k hk => ⟨rfl, rfl, rfl⟩)) (by first | exact hS | assumption | omega) (by first | exact hnw | assumption | omega) (by exact hmo) (by exact hpc) (by exact hfr) (by exact h16)) (lw_V q811 q813 qs22 q89 q814) ⟨rfl, by decide, by decide, by decide +kernel⟩ (q0 := 0) (ci := 1) rfl rfl rfl rfl (Nat.le_of_ble_eq_true rfl) ⟨Nat.le_of_ble_eq_true rfl, Nat.le_of_ble_eq_true rfl⟩ ⟨by first | decide | omega, by first | decide | omega⟩ dX1_swap_37) hH (fun u_ H locs hpost hH => ?_)
        obtain ⟨r_37, un2_37, hm2_37, hvv2_37, hww2_37, fr2_37, L2_37, pl2_37, pr2_37, pa2_37, pm2_37, pf2_37, kp2_37, F2_37, A2_37⟩ := u_
        obtain ⟨pD_37, pE_37, pr_37, pK_37⟩ : (DST s0 G nw b t n (swpF v p1 q1) (swpF wt p1 q1) un2_37 hm2_37 hvv2_37 hww2_37 fr2_37 F2_37 A2_37 kp2_37 L2_37 pl2_37 pr2_37 pa2_37 pm2_37 pf2_37) ∧ (EDT b n v wt un hm hvv hww fr n (swpF v p1 q1) (swpF wt p1 q1) un2_37 hm2_37 hvv2_37 hww2_37 fr2_37) ∧ (n = n → r_37 = (oth n v (swpF v p1 q1) : Int)) ∧ (EKE (va_up (va_up F 200 ((n : Int))) 203 ((n : Int))) (va_up (va_up (va_up (va_up Ar 201 (va_up (va_up (Ar 201) (p1) ((Ar 201) (q1))) (q1) ((Ar 201) (p1)))) 202 (va_up (va_up (Ar 202) (p1) ((Ar 202) (q1))) (q1) ((Ar 202) (p1)))) 204 (Ar 201)) 205 (Ar 202)) F2_37 A2_37) := hpost
        have hH : zH s0 s1 G as0 (dW ad G F2_37 A2_37 kp2_37 pl2_37 (dPool G pr2_37 pa2_37 pm2_37 pf2_37 L2_37)) H locs := hH
        refine z_st (st' := [.int (iZ (r_37))]) rfl ?_
        refine z_istore_n (lv' := [(3, .int (iZ (r_37))), (0, .ref (ad 99)), (1, .int (iZ ((p1 : Int)))), (2, .int (iZ ((q1 : Int))))]) hC 40 hl dX1_swap_40 rfl (by decide) rfl (fun ls hl => ?_)
        refine z_iconst hC 41 dX1_swap_41 ?_
        -- R42.1
        exact z_zret hC hH hQ 42 ((1, n, (swpF v p1 q1), (swpF wt p1 q1), un2_37, hm2_37, hvv2_37, hww2_37, fr2_37, L2_37, pl2_37, pr2_37, pa2_37, pm2_37, pf2_37, kp2_37, F2_37, A2_37)) dX1_swap_42 (by rfl) rfl ⟨by (unfold Sp_swap; rw [if_pos (by omega)]; first | exact ⟨rfl, rfl, rfl, rfl⟩ | exact ⟨by omega, rfl, rfl, rfl⟩ | exact ⟨pr_37 rfl, rfl, rfl, rfl⟩), by exact pE_37, by exact pD_37, by exact EKQ_of pK_37 ⟨rfl, rfl, rfl, rfl, rfl⟩⟩ rfl (by first | decide | omega) (by first | decide | omega)
      · -- 18f
        refine z_iconst hC 21 dX1_swap_21 ?_
        -- R22.2
        exact z_zret hC hH hQ 22 ((0, n, v, wt, un, hm, hvv, hww, fr, L, pl, pr, pa, pm, pf, kp, F, Ar)) dX1_swap_22 (by rfl) rfl ⟨by (unfold Sp_swap; rw [if_neg (by omega)]; exact ⟨rfl, rfl, rfl, rfl⟩), by exact EDT_none, by exact hD, by exact ⟨rfl, rfl, rfl, rfl, rfl⟩⟩ rfl (by first | decide | omega) (by first | decide | omega)
    · -- 10=0
      refine z_if_eq_t hC 13 21 dX1_swap_13 rfl (by omega) (by omega) ?_
      refine z_iconst hC 21 dX1_swap_21 ?_
      -- R22.3
      exact z_zret hC hH hQ 22 ((0, n, v, wt, un, hm, hvv, hww, fr, L, pl, pr, pa, pm, pf, kp, F, Ar)) dX1_swap_22 (by rfl) rfl ⟨by (unfold Sp_swap; rw [if_neg (by omega)]; exact ⟨rfl, rfl, rfl, rfl⟩), by exact EDT_none, by exact hD, by exact ⟨rfl, rfl, rfl, rfl, rfl⟩⟩ rfl (by first | decide | omega) (by first | decide | omega)
  · -- 2=0
    refine z_if_eq_t hC 5 21 dX1_swap_5 rfl (by omega) (by omega) ?_
    refine z_iconst hC 21 dX1_swap_21 ?_
    -- R22.4
    exact z_zret hC hH hQ 22 ((0, n, v, wt, un, hm, hvv, hww, fr, L, pl, pr, pa, pm, pf, kp, F, Ar)) dX1_swap_22 (by rfl) rfl ⟨by (unfold Sp_swap; rw [if_neg (by omega)]; exact ⟨rfl, rfl, rfl, rfl⟩), by exact EDT_none, by exact hD, by exact ⟨rfl, rfl, rfl, rfl, rfl⟩⟩ rfl (by first | decide | omega) (by first | decide | omega)

set_option maxHeartbeats 16000000 in
set_option maxRecDepth 100000 in
theorem m_X1_fill (lau : Launch) (s0 : State) (G : zG) (sz : Nat) (ad : Nat → Nat) (F : Nat → Int) (Ar : Nat → Nat → Int) (kp : Nat → Nat) (pl : Nat → Option Nat) (PW : va_W) (L : List Nat) (pr : Nat → Nat) (pa : Nat → Nat) (pm : Nat → Nat) (pf : Nat → Nat → Nat) (nw : Nat) (b : Nat) (t : Nat) (n : Nat) (v : Nat → Nat) (wt : Nat → Nat) (un : Nat) (hm : Nat → Nat) (hvv : Nat → Nat → Nat) (hww : Nat → Nat → Nat) (fr : Int) (l : Int) (r : Int) (x : Int) (hD : DST s0 G nw b t n v wt un hm hvv hww fr F Ar kp L pl pr pa pm pf) (hnw : zNwh s0 nw) (hr_l : -2147483648 ≤ l ∧ l < 2147483648) (hr_r : -2147483648 ≤ r ∧ r < 2147483648) (hr_x : -2147483648 ≤ x ∧ x < 2147483648) : zMet (S := Int × Nat × (Nat → Nat) × (Nat → Nat) × Nat × (Nat → Nat) × (Nat → Nat → Nat) × (Nat → Nat → Nat) × Int × List Nat × (Nat → Option Nat) × (Nat → Nat) × (Nat → Nat) × (Nat → Nat) × (Nat → Nat → Nat) × (Nat → Nat) × (Nat → Int) × (Nat → Nat → Int)) lau yX1_fill cX1_fill 5 (some .int) 7 164 240 14640 s0 G sz [.ref (ad 99), .int (iZ (l)), .int (iZ (r)), .int (iZ (x))] (dW ad G F Ar kp pl (dPool G pr pa pm pf L)) (fun ((r_, n2, v2, w2, un2, hm2, hvv2, hww2, fr2, L2, pl2, pr2, pa2, pm2, pf2, kp2, F2, A2) : Int × Nat × (Nat → Nat) × (Nat → Nat) × Nat × (Nat → Nat) × (Nat → Nat → Nat) × (Nat → Nat → Nat) × Int × List Nat × (Nat → Option Nat) × (Nat → Nat) × (Nat → Nat) × (Nat → Nat) × (Nat → Nat → Nat) × (Nat → Nat) × (Nat → Int) × (Nat → Nat → Int)) => some (.int (iZ (r_)))) (fun ((r_, n2, v2, w2, un2, hm2, hvv2, hww2, fr2, L2, pl2, pr2, pa2, pm2, pf2, kp2, F2, A2) : Int × Nat × (Nat → Nat) × (Nat → Nat) × Nat × (Nat → Nat) × (Nat → Nat → Nat) × (Nat → Nat → Nat) × Int × List Nat × (Nat → Option Nat) × (Nat → Nat) × (Nat → Nat) × (Nat → Nat) × (Nat → Nat → Nat) × (Nat → Nat) × (Nat → Int) × (Nat → Nat → Int)) => (Sp_fill n v wt l r x r_ n2 v2 w2) ∧ (EDT b n v wt un hm hvv hww fr n2 v2 w2 un2 hm2 hvv2 hww2 fr2) ∧ (DST s0 G nw b t n2 v2 w2 un2 hm2 hvv2 hww2 fr2 F2 A2 kp2 L2 pl2 pr2 pa2 pm2 pf2) ∧ (EKQ F Ar F2 A2)) (fun ((r_, n2, v2, w2, un2, hm2, hvv2, hww2, fr2, L2, pl2, pr2, pa2, pm2, pf2, kp2, F2, A2) : Int × Nat × (Nat → Nat) × (Nat → Nat) × Nat × (Nat → Nat) × (Nat → Nat → Nat) × (Nat → Nat → Nat) × Int × List Nat × (Nat → Option Nat) × (Nat → Nat) × (Nat → Nat) × (Nat → Nat) × (Nat → Nat → Nat) × (Nat → Nat) × (Nat → Int) × (Nat → Nat → Int)) => (dW ad G F2 A2 kp2 pl2 (dPool G pr2 pa2 pm2 pf2 L2))) := by
  refine zMet.of (by decide) (Nat.le_of_ble_eq_true rfl) ?_
  intro pg ev s1 mi ar bl me cd ls Q as0 hC hH hl hQ hsz
  generalize s1.heap = H at hH ⊢
  generalize ([] : List Loc) = locs at hH ⊢
  have hl : lv_has ls 5 [(0, .ref (ad 99)), (1, .int (iZ (l))), (2, .int (iZ (r))), (3, .int (iZ (x)))] := hl
  obtain ⟨⟨hn, hFn, hv, hAv, hwt, hAw⟩, ⟨hb, hFb, ht, hFt⟩, ⟨hun, hF14, hkt, hPD⟩, ⟨hS, hpc⟩, hmo, hfr, h16⟩ := id hD
  refine z_aload_n hC 0 hl dX1_fill_0 rfl 0 rfl ?_
  refine z_iload_n hC 1 hl dX1_fill_1 rfl 1 rfl ?_
  refine z_iload_n hC 2 hl dX1_fill_2 rfl 2 rfl ?_
  refine zp_back (zp_runV hC (hH.2.2) hl.1 (va_P_l hH.1) 2 (As := [.int (iZ (l)), .int (iZ (r))]) (rest := []) (u_X1_isSpan lau s0 G ad F Ar kp pl n l r (by first | exact hn | assumption | omega) (by first | exact hFn | assumption | omega) (by first | assumption | omega) (by first | assumption | omega)) (lw_V q864 q866 qs26 q89 q867) ⟨rfl, by decide, by decide, by decide +kernel⟩ (q0 := 0) (ci := 1) rfl rfl rfl rfl (Nat.le_of_ble_eq_true rfl) ⟨Nat.le_of_ble_eq_true rfl, Nat.le_of_ble_eq_true rfl⟩ ⟨by first | decide | omega, by first | decide | omega⟩ dX1_fill_3) (fun r_3 hpost => ?_)
  have hb_3 : (r_3 = 1 ∧ (0 ≤ l ∧ l ≤ r ∧ r < (n : Int))) ∨ (r_3 = 0 ∧ ¬ (0 ≤ l ∧ l ≤ r ∧ r < (n : Int))) := hpost
  refine z_st (st' := [.int (iZ (r_3))]) rfl ?_
  rcases hb_3 with ⟨rfl, hb_3⟩ | ⟨rfl, hb_3⟩
  · -- 3=1
    refine z_if_eq_f hC 6 16 dX1_fill_6 rfl (by omega) (by omega) ?_
    refine z_iload_n hC 9 hl dX1_fill_9 rfl 3 rfl ?_
    refine zp_back (zp_runS hC (hH.2.2) hl.1 (zp_nil) 1 (As := [.int (iZ (x))]) (rest := []) (u_X1_isValue lau s0 G x (by first | assumption | omega)) (lw_S q803 q804 q89 q805) ⟨by decide, by decide, by decide +kernel⟩ rfl rfl (Nat.le_of_ble_eq_true rfl) ⟨Nat.le_of_ble_eq_true rfl, Nat.le_of_ble_eq_true rfl⟩ ⟨by first | decide | omega, by first | decide | omega⟩ dX1_fill_10) (fun r_10 hpost => ?_)
    have hb_10 : (r_10 = 1 ∧ (0 ≤ x ∧ x < 1000)) ∨ (r_10 = 0 ∧ ¬ (0 ≤ x ∧ x < 1000)) := hpost
    refine z_st (st' := [.int (iZ (r_10))]) rfl ?_
    rcases hb_10 with ⟨rfl, hb_10⟩ | ⟨rfl, hb_10⟩
    · -- 10=1
      refine z_if_ne_t hC 13 18 dX1_fill_13 rfl (by omega) (by omega) ?_
      obtain ⟨l1, rfl⟩ := Int.eq_ofNat_of_zero_le (show 0 ≤ l by omega)
      obtain ⟨r1, rfl⟩ := Int.eq_ofNat_of_zero_le (show 0 ≤ r by omega)
      obtain ⟨x1, rfl⟩ := Int.eq_ofNat_of_zero_le (show 0 ≤ x by omega)
      refine z_aload_n hC 18 hl dX1_fill_18 rfl 0 rfl ?_
      have hH : zH s0 s1 G as0 (dW ad G (va_up F 200 ((F 200))) Ar kp pl (dPool G pr pa pm pf L)) H locs := hH
      rw [show ((F 200) : Int) = (n : Int) from by omega] at hH
      have hH : zH s0 s1 G as0 (dW ad G (va_up F 200 ((n : Int))) Ar kp pl (dPool G pr pa pm pf L)) H locs := hH
      refine z_same (z_runV hC hH.2.2 hl.1 hH.1 hH.2.1 0 (As := []) (rest := []) (m_X1_begins lau s0 G _ ad (va_up F 200 ((n : Int))) Ar kp pl (dPool G pr pa pm pf L) (n : Int) (Ar 201) (Ar 202) ) (lw_V q807 q809 qs21 q89 q810) ⟨rfl, by decide, by decide, by decide +kernel⟩ (q0 := 0) (ci := 1) rfl rfl rfl rfl (Nat.le_of_ble_eq_true rfl) ⟨Nat.le_of_ble_eq_true rfl, Nat.le_of_ble_eq_true rfl⟩ ⟨Nat.le_of_ble_eq_true rfl, Nat.le_of_ble_eq_true rfl⟩ dX1_fill_19) hH (fun _ H locs hpost hH => ?_)
      have hH : zH s0 s1 G as0 (dW ad G (va_up (va_up F 200 ((n : Int))) 203 ((n : Int))) (va_up (va_up Ar 204 (Ar 201)) 205 (Ar 202)) kp pl (dPool G pr pa pm pf L)) H locs := hH
      refine z_st (st' := []) rfl ?_
      refine z_iload_n hC 22 hl dX1_fill_22 rfl 1 rfl ?_
      refine z_istore (lv' := [(4, .int (iZ ((l1 : Int)))), (0, .ref (ad 99)), (1, .int (iZ ((l1 : Int)))), (2, .int (iZ ((r1 : Int)))), (3, .int (iZ ((x1 : Int))))]) hC 23 hl dX1_fill_23 (by decide) rfl (fun ls hl => ?_)
      have L25 : ∀ (N_ : Nat) (p : Nat) (tv : Nat → Nat) (a : Nat → Int) (H : Heap) (locs : List Loc) (ls : Array Slot), r1 + 1 - p < N_ → (l1 ≤ p) → (p ≤ r1 + 1) → (FLL v tv l1 p x1) → (∀ i, i < n → a i = (tv i : Int)) → zH s0 s1 G as0 (dW ad G (va_up (va_up F 200 ((n : Int))) 203 ((n : Int))) (va_up (va_up (va_up Ar 201 a) 204 (Ar 201)) 205 (Ar 202)) kp pl (dPool G pr pa pm pf L)) H locs → lv_has ls 5 [(0, .ref (ad 99)), (1, .int (iZ ((l1 : Int)))), (2, .int (iZ ((r1 : Int)))), (3, .int (iZ ((x1 : Int)))), (4, .int (iZ ((p : Int))))] → W pg lau ev (zRm 7 240 14640 164) s1 mi ar bl me cd H locs 0 0 Q (F0 mi 25 ls []) := by
        intro N_
        induction N_ with
        | zero => intro p tv a H locs ls hd; exact absurd hd (Nat.not_lt_zero _)
        | succ N_ ih25 =>
          intro p tv a H locs ls hd25 i25_1 i25_2 it ia hH hl
          refine z_iload hC 25 hl dX1_fill_25 4 rfl ?_
          refine z_iload_n hC 27 hl dX1_fill_27 rfl 2 rfl ?_
          refine z_icmp_gt hC 28 48 dX1_fill_28 rfl (by omega) (by omega) (fun hb1 => ?_) (fun hb1 => ?_)
          · -- 28t
            refine z_aload_n hC 48 hl dX1_fill_48 rfl 0 rfl ?_
            refine z_same (z_runV hC hH.2.2 hl.1 hH.1 hH.2.1 0 (As := []) (rest := []) (m_X1_ends lau s0 G _ ad (va_up (va_up F 200 ((n : Int))) 203 ((n : Int))) (va_up (va_up (va_up Ar 201 a) 204 (Ar 201)) 205 (Ar 202)) kp pl (dPool G pr pa pm pf L) L pr pa pm pf nw n (fillF v l1 r1 x1) wt n v wt b t fr un hm hvv hww (by first | exact hn | omega) (by first | exact hFn | rfl | omega) (by exact fillF_old (P := fun x => x < 1000) hv (by omega)) (by (rw [← FLL_e (show FLL v tv l1 (r1 + 1) x1 from (show p = r1 + 1 by omega) ▸ it)]; exact ia)) (by exact hwt) (by exact hAw) (by exact hn) (by first | rfl | exact hFn) (by exact hv) (by exact hAv) (by exact hwt) (by exact hAw) (by exact hb) (by exact hFb) (by exact ht) (by exact hFt) (by exact hun) (by exact hF14) (by first | exact hkt | assumption | omega) (by exact PASTD_cg hPD (fun k hk => by have := (kp_ge hkt (show k < 12 by omega)).1; (repeat rw [va_up_ne _ _ (by omega)]) <;> rfl) (fun k hk => by have := (kp_ge hkt (show k < 12 by omega)).1; constructor <;> ((repeat rw [va_up_ne _ _ (by omega)]) <;> rfl)) (fun k hk => ⟨rfl, rfl, rfl⟩)) (by first | exact hS | assumption | omega) (by first | exact hnw | assumption | omega) (by exact hmo) (by exact hpc) (by exact hfr) (by exact h16)) (lw_V q811 q813 qs22 q89 q814) ⟨rfl, by decide, by decide, by decide +kernel⟩ (q0 := 0) (ci := 1) rfl rfl rfl rfl (Nat.le_of_ble_eq_true rfl) ⟨Nat.le_of_ble_eq_true rfl, Nat.le_of_ble_eq_true rfl⟩ ⟨by first | decide | omega, by first | decide | omega⟩ dX1_fill_49) hH (fun u_ H locs hpost hH => ?_)
            obtain ⟨r_49, un2_49, hm2_49, hvv2_49, hww2_49, fr2_49, L2_49, pl2_49, pr2_49, pa2_49, pm2_49, pf2_49, kp2_49, F2_49, A2_49⟩ := u_
            obtain ⟨pD_49, pE_49, pr_49, pK_49⟩ : (DST s0 G nw b t n (fillF v l1 r1 x1) wt un2_49 hm2_49 hvv2_49 hww2_49 fr2_49 F2_49 A2_49 kp2_49 L2_49 pl2_49 pr2_49 pa2_49 pm2_49 pf2_49) ∧ (EDT b n v wt un hm hvv hww fr n (fillF v l1 r1 x1) wt un2_49 hm2_49 hvv2_49 hww2_49 fr2_49) ∧ (n = n → r_49 = (oth n v (fillF v l1 r1 x1) : Int)) ∧ (EKE (va_up (va_up F 200 ((n : Int))) 203 ((n : Int))) (va_up (va_up (va_up Ar 201 a) 204 (Ar 201)) 205 (Ar 202)) F2_49 A2_49) := hpost
            have hH : zH s0 s1 G as0 (dW ad G F2_49 A2_49 kp2_49 pl2_49 (dPool G pr2_49 pa2_49 pm2_49 pf2_49 L2_49)) H locs := hH
            refine z_st (st' := [.int (iZ (r_49))]) rfl ?_
            -- R52.1
            exact z_iret hC hH hQ 52 ((r_49, n, (fillF v l1 r1 x1), wt, un2_49, hm2_49, hvv2_49, hww2_49, fr2_49, L2_49, pl2_49, pr2_49, pa2_49, pm2_49, pf2_49, kp2_49, F2_49, A2_49)) dX1_fill_52 rfl ⟨by (unfold Sp_fill; rw [if_pos (by omega)]; first | exact ⟨rfl, rfl, rfl, rfl⟩ | exact ⟨by omega, rfl, rfl, rfl⟩ | exact ⟨pr_49 rfl, rfl, rfl, rfl⟩), by exact pE_49, by exact pD_49, by exact EKQ_of pK_49 ⟨rfl, rfl, rfl, rfl, rfl⟩⟩ rfl (by first | decide | omega) (by first | decide | omega)
          · -- 28f
            refine z_aload_n hC 31 hl dX1_fill_31 rfl 0 rfl ?_
            refine zp_get (v := .ref (ad 200)) hC (va_P_l hH.1) 32 in_X1 rfl 4 (by decide) q210 0 rfl (rfl) dX1_fill_32 ?_
            refine zp_getN (v := .ref (ad 201)) hC (va_P_l hH.1) 35 in_X2 rfl 0 (by decide) q141 11 rfl (rfl) dX1_fill_35 ?_
            refine z_iload hC 38 hl dX1_fill_38 4 rfl ?_
            refine z_iload_n hC 40 hl dX1_fill_40 rfl 3 rfl ?_
            refine sD_201 (f' := (va_up a (p) ((x1 : Int)))) hC hH 41 (p) (by omega) (by omega) rfl dX1_fill_41 (fun H locs hH => ?_)
            have hH : zH s0 s1 G as0 (dW ad G (va_up (va_up F 200 ((n : Int))) 203 ((n : Int))) (va_up (va_up (va_up Ar 201 (va_up a (p) ((x1 : Int)))) 204 (Ar 201)) 205 (Ar 202)) kp pl (dPool G pr pa pm pf L)) H locs := hH
            refine z_iinc (lv' := [(4, .int (iZ ((p : Int) + 1))), (0, .ref (ad 99)), (1, .int (iZ ((l1 : Int)))), (2, .int (iZ ((r1 : Int)))), (3, .int (iZ ((x1 : Int))))]) hC 42 hl dX1_fill_42 4 rfl (by omega) (by decide) rfl (fun ls hl => ?_)
            refine z_goto hC 45 25 dX1_fill_45 rfl ?_
            -- J25.2
            exact ih25 (p + 1) (va_up tv p x1) (va_up a (p) ((x1 : Int))) _ _ _ (by omega) (by first | assumption | omega) (by first | assumption | omega) (by first | exact FLL_0 | exact FLL_s it (by omega)) (by first | exact hAv | exact cv_upz ia (by omega)) hH (z_lv (lv_sub hl [1, 2, 3, 4, 0] rfl) (zcons rfl (zcons rfl (zcons rfl (zcons rfl (zcons (zpeq (by omega)) rfl))))))
      -- J25.3
      exact L25 _ l1 v (Ar 201) _ _ _ (Nat.lt_succ_self _) (by first | assumption | omega) (by first | assumption | omega) (by first | exact FLL_0 | exact FLL_s it (by omega)) (by first | exact hAv | exact cv_upz ia (by omega)) hH (lv_sub hl [1, 2, 3, 4, 0] rfl)
    · -- 10=0
      refine z_if_ne_f hC 13 18 dX1_fill_13 rfl (by omega) (by omega) ?_
      refine z_iconst hC 16 dX1_fill_16 ?_
      -- R17.4
      exact z_iret hC hH hQ 17 (((-1), n, v, wt, un, hm, hvv, hww, fr, L, pl, pr, pa, pm, pf, kp, F, Ar)) dX1_fill_17 rfl ⟨by (unfold Sp_fill; rw [if_neg (by omega)]; exact ⟨rfl, rfl, rfl, rfl⟩), by exact EDT_none, by exact hD, by exact ⟨rfl, rfl, rfl, rfl, rfl⟩⟩ rfl (by first | decide | omega) (by first | decide | omega)
  · -- 3=0
    refine z_if_eq_t hC 6 16 dX1_fill_6 rfl (by omega) (by omega) ?_
    refine z_iconst hC 16 dX1_fill_16 ?_
    -- R17.5
    exact z_iret hC hH hQ 17 (((-1), n, v, wt, un, hm, hvv, hww, fr, L, pl, pr, pa, pm, pf, kp, F, Ar)) dX1_fill_17 rfl ⟨by (unfold Sp_fill; rw [if_neg (by omega)]; exact ⟨rfl, rfl, rfl, rfl⟩), by exact EDT_none, by exact hD, by exact ⟨rfl, rfl, rfl, rfl, rfl⟩⟩ rfl (by first | decide | omega) (by first | decide | omega)

set_option maxHeartbeats 16000000 in
set_option maxRecDepth 100000 in
theorem m_X1_flip (lau : Launch) (s0 : State) (G : zG) (sz : Nat) (ad : Nat → Nat) (F : Nat → Int) (Ar : Nat → Nat → Int) (kp : Nat → Nat) (pl : Nat → Option Nat) (PW : va_W) (L : List Nat) (pr : Nat → Nat) (pa : Nat → Nat) (pm : Nat → Nat) (pf : Nat → Nat → Nat) (nw : Nat) (b : Nat) (t : Nat) (n : Nat) (v : Nat → Nat) (wt : Nat → Nat) (un : Nat) (hm : Nat → Nat) (hvv : Nat → Nat → Nat) (hww : Nat → Nat → Nat) (fr : Int) (l : Int) (r : Int) (hD : DST s0 G nw b t n v wt un hm hvv hww fr F Ar kp L pl pr pa pm pf) (hnw : zNwh s0 nw) (hr_l : -2147483648 ≤ l ∧ l < 2147483648) (hr_r : -2147483648 ≤ r ∧ r < 2147483648) : zMet (S := Int × Nat × (Nat → Nat) × (Nat → Nat) × Nat × (Nat → Nat) × (Nat → Nat → Nat) × (Nat → Nat → Nat) × Int × List Nat × (Nat → Option Nat) × (Nat → Nat) × (Nat → Nat) × (Nat → Nat) × (Nat → Nat → Nat) × (Nat → Nat) × (Nat → Int) × (Nat → Nat → Int)) lau yX1_flip cX1_flip 4 (some .int) 7 164 240 14640 s0 G sz [.ref (ad 99), .int (iZ (l)), .int (iZ (r))] (dW ad G F Ar kp pl (dPool G pr pa pm pf L)) (fun ((r_, n2, v2, w2, un2, hm2, hvv2, hww2, fr2, L2, pl2, pr2, pa2, pm2, pf2, kp2, F2, A2) : Int × Nat × (Nat → Nat) × (Nat → Nat) × Nat × (Nat → Nat) × (Nat → Nat → Nat) × (Nat → Nat → Nat) × Int × List Nat × (Nat → Option Nat) × (Nat → Nat) × (Nat → Nat) × (Nat → Nat) × (Nat → Nat → Nat) × (Nat → Nat) × (Nat → Int) × (Nat → Nat → Int)) => some (.int (iZ (r_)))) (fun ((r_, n2, v2, w2, un2, hm2, hvv2, hww2, fr2, L2, pl2, pr2, pa2, pm2, pf2, kp2, F2, A2) : Int × Nat × (Nat → Nat) × (Nat → Nat) × Nat × (Nat → Nat) × (Nat → Nat → Nat) × (Nat → Nat → Nat) × Int × List Nat × (Nat → Option Nat) × (Nat → Nat) × (Nat → Nat) × (Nat → Nat) × (Nat → Nat → Nat) × (Nat → Nat) × (Nat → Int) × (Nat → Nat → Int)) => (Sp_flip n v wt l r r_ n2 v2 w2) ∧ (EDT b n v wt un hm hvv hww fr n2 v2 w2 un2 hm2 hvv2 hww2 fr2) ∧ (DST s0 G nw b t n2 v2 w2 un2 hm2 hvv2 hww2 fr2 F2 A2 kp2 L2 pl2 pr2 pa2 pm2 pf2) ∧ (EKQ F Ar F2 A2)) (fun ((r_, n2, v2, w2, un2, hm2, hvv2, hww2, fr2, L2, pl2, pr2, pa2, pm2, pf2, kp2, F2, A2) : Int × Nat × (Nat → Nat) × (Nat → Nat) × Nat × (Nat → Nat) × (Nat → Nat → Nat) × (Nat → Nat → Nat) × Int × List Nat × (Nat → Option Nat) × (Nat → Nat) × (Nat → Nat) × (Nat → Nat) × (Nat → Nat → Nat) × (Nat → Nat) × (Nat → Int) × (Nat → Nat → Int)) => (dW ad G F2 A2 kp2 pl2 (dPool G pr2 pa2 pm2 pf2 L2))) := by
  refine zMet.of (by decide) (Nat.le_of_ble_eq_true rfl) ?_
  intro pg ev s1 mi ar bl me cd ls Q as0 hC hH hl hQ hsz
  generalize s1.heap = H at hH ⊢
  generalize ([] : List Loc) = locs at hH ⊢
  have hl : lv_has ls 4 [(0, .ref (ad 99)), (1, .int (iZ (l))), (2, .int (iZ (r)))] := hl
  obtain ⟨⟨hn, hFn, hv, hAv, hwt, hAw⟩, ⟨hb, hFb, ht, hFt⟩, ⟨hun, hF14, hkt, hPD⟩, ⟨hS, hpc⟩, hmo, hfr, h16⟩ := id hD
  refine z_aload_n hC 0 hl dX1_flip_0 rfl 0 rfl ?_
  refine z_iload_n hC 1 hl dX1_flip_1 rfl 1 rfl ?_
  refine z_iload_n hC 2 hl dX1_flip_2 rfl 2 rfl ?_
  refine zp_back (zp_runV hC (hH.2.2) hl.1 (va_P_l hH.1) 2 (As := [.int (iZ (l)), .int (iZ (r))]) (rest := []) (u_X1_isSpan lau s0 G ad F Ar kp pl n l r (by first | exact hn | assumption | omega) (by first | exact hFn | assumption | omega) (by first | assumption | omega) (by first | assumption | omega)) (lw_V q864 q866 qs26 q89 q867) ⟨rfl, by decide, by decide, by decide +kernel⟩ (q0 := 0) (ci := 1) rfl rfl rfl rfl (Nat.le_of_ble_eq_true rfl) ⟨Nat.le_of_ble_eq_true rfl, Nat.le_of_ble_eq_true rfl⟩ ⟨by first | decide | omega, by first | decide | omega⟩ dX1_flip_3) (fun r_3 hpost => ?_)
  have hb_3 : (r_3 = 1 ∧ (0 ≤ l ∧ l ≤ r ∧ r < (n : Int))) ∨ (r_3 = 0 ∧ ¬ (0 ≤ l ∧ l ≤ r ∧ r < (n : Int))) := hpost
  refine z_st (st' := [.int (iZ (r_3))]) rfl ?_
  rcases hb_3 with ⟨rfl, hb_3⟩ | ⟨rfl, hb_3⟩
  · -- 3=1
    refine z_if_ne_t hC 6 11 dX1_flip_6 rfl (by omega) (by omega) ?_
    obtain ⟨l1, rfl⟩ := Int.eq_ofNat_of_zero_le (show 0 ≤ l by omega)
    obtain ⟨r1, rfl⟩ := Int.eq_ofNat_of_zero_le (show 0 ≤ r by omega)
    refine z_aload_n hC 11 hl dX1_flip_11 rfl 0 rfl ?_
    have hH : zH s0 s1 G as0 (dW ad G (va_up F 200 ((F 200))) Ar kp pl (dPool G pr pa pm pf L)) H locs := hH
    rw [show ((F 200) : Int) = (n : Int) from by omega] at hH
    have hH : zH s0 s1 G as0 (dW ad G (va_up F 200 ((n : Int))) Ar kp pl (dPool G pr pa pm pf L)) H locs := hH
    refine z_same (z_runV hC hH.2.2 hl.1 hH.1 hH.2.1 0 (As := []) (rest := []) (m_X1_begins lau s0 G _ ad (va_up F 200 ((n : Int))) Ar kp pl (dPool G pr pa pm pf L) (n : Int) (Ar 201) (Ar 202) ) (lw_V q807 q809 qs21 q89 q810) ⟨rfl, by decide, by decide, by decide +kernel⟩ (q0 := 0) (ci := 1) rfl rfl rfl rfl (Nat.le_of_ble_eq_true rfl) ⟨Nat.le_of_ble_eq_true rfl, Nat.le_of_ble_eq_true rfl⟩ ⟨Nat.le_of_ble_eq_true rfl, Nat.le_of_ble_eq_true rfl⟩ dX1_flip_12) hH (fun _ H locs hpost hH => ?_)
    have hH : zH s0 s1 G as0 (dW ad G (va_up (va_up F 200 ((n : Int))) 203 ((n : Int))) (va_up (va_up Ar 204 (Ar 201)) 205 (Ar 202)) kp pl (dPool G pr pa pm pf L)) H locs := hH
    refine z_st (st' := []) rfl ?_
    refine z_iconst hC 15 dX1_flip_15 ?_
    refine z_istore_n (lv' := [(3, .int (iZ (0))), (0, .ref (ad 99)), (1, .int (iZ ((l1 : Int)))), (2, .int (iZ ((r1 : Int))))]) hC 16 hl dX1_flip_16 rfl (by decide) rfl (fun ls hl => ?_)
    have L17 : ∀ (N_ : Nat) (k : Nat) (tv : Nat → Nat) (tw : Nat → Nat) (a : Nat → Int) (b_ : Nat → Int) (H : Heap) (locs : List Loc) (ls : Array Slot), r1 + 1 - k < N_ → (l1 + k + k ≤ r1 + 1) → (FLP v tv l1 r1 k) → (FLP wt tw l1 r1 k) → (∀ i, i < n → a i = (tv i : Int)) → (∀ i, i < n → b_ i = (tw i : Int)) → zH s0 s1 G as0 (dW ad G (va_up (va_up F 200 ((n : Int))) 203 ((n : Int))) (va_up (va_up (va_up (va_up Ar 201 a) 202 b_) 204 (Ar 201)) 205 (Ar 202)) kp pl (dPool G pr pa pm pf L)) H locs → lv_has ls 4 [(0, .ref (ad 99)), (1, .int (iZ ((l1 : Int)))), (2, .int (iZ ((r1 : Int)))), (3, .int (iZ ((k : Int))))] → W pg lau ev (zRm 7 240 14640 164) s1 mi ar bl me cd H locs 0 0 Q (F0 mi 17 ls []) := by
      intro N_
      induction N_ with
      | zero => intro k tv tw a b_ H locs ls hd; exact absurd hd (Nat.not_lt_zero _)
      | succ N_ ih17 =>
        intro k tv tw a b_ H locs ls hd17 i17_1 it iw ia ib hH hl
        refine z_iload_n hC 17 hl dX1_flip_17 rfl 1 rfl ?_
        refine z_iload_n hC 18 hl dX1_flip_18 rfl 3 rfl ?_
        refine z_iadd (e := (l1 : Int) + (k : Int)) hC 19 dX1_flip_19 rfl ?_
        refine z_iload_n hC 20 hl dX1_flip_20 rfl 2 rfl ?_
        refine z_iload_n hC 21 hl dX1_flip_21 rfl 3 rfl ?_
        refine z_isub (e := (r1 : Int) - (k : Int)) hC 22 dX1_flip_22 rfl ?_
        refine z_icmp_ge hC 23 45 dX1_flip_23 rfl (by omega) (by omega) (fun hb1 => ?_) (fun hb1 => ?_)
        · -- 23t
          refine z_aload_n hC 45 hl dX1_flip_45 rfl 0 rfl ?_
          refine z_same (z_runV hC hH.2.2 hl.1 hH.1 hH.2.1 0 (As := []) (rest := []) (m_X1_ends lau s0 G _ ad (va_up (va_up F 200 ((n : Int))) 203 ((n : Int))) (va_up (va_up (va_up (va_up Ar 201 a) 202 b_) 204 (Ar 201)) 205 (Ar 202)) kp pl (dPool G pr pa pm pf L) L pr pa pm pf nw n (flpF v l1 r1) (flpF wt l1 r1) n v wt b t fr un hm hvv hww (by first | exact hn | omega) (by first | exact hFn | rfl | omega) (by exact flpF_old (P := fun x => x < 1000) hv (by omega)) (by (rw [← FLP_e it (by omega)]; exact ia)) (by exact flpF_old (P := fun x => 1 ≤ x ∧ x ≤ 9) hwt (by omega)) (by (rw [← FLP_e iw (by omega)]; exact ib)) (by exact hn) (by first | rfl | exact hFn) (by exact hv) (by exact hAv) (by exact hwt) (by exact hAw) (by exact hb) (by exact hFb) (by exact ht) (by exact hFt) (by exact hun) (by exact hF14) (by first | exact hkt | assumption | omega) (by exact PASTD_cg hPD (fun k hk => by have := (kp_ge hkt (show k < 12 by omega)).1; (repeat rw [va_up_ne _ _ (by omega)]) <;> rfl) (fun k hk => by have := (kp_ge hkt (show k < 12 by omega)).1; constructor <;> ((repeat rw [va_up_ne _ _ (by omega)]) <;> rfl)) (fun k hk => ⟨rfl, rfl, rfl⟩)) (by first | exact hS | assumption | omega) (by first | exact hnw | assumption | omega) (by exact hmo) (by exact hpc) (by exact hfr) (by exact h16)) (lw_V q811 q813 qs22 q89 q814) ⟨rfl, by decide, by decide, by decide +kernel⟩ (q0 := 0) (ci := 1) rfl rfl rfl rfl (Nat.le_of_ble_eq_true rfl) ⟨Nat.le_of_ble_eq_true rfl, Nat.le_of_ble_eq_true rfl⟩ ⟨by first | decide | omega, by first | decide | omega⟩ dX1_flip_46) hH (fun u_ H locs hpost hH => ?_)
          obtain ⟨r_46, un2_46, hm2_46, hvv2_46, hww2_46, fr2_46, L2_46, pl2_46, pr2_46, pa2_46, pm2_46, pf2_46, kp2_46, F2_46, A2_46⟩ := u_
          obtain ⟨pD_46, pE_46, pr_46, pK_46⟩ : (DST s0 G nw b t n (flpF v l1 r1) (flpF wt l1 r1) un2_46 hm2_46 hvv2_46 hww2_46 fr2_46 F2_46 A2_46 kp2_46 L2_46 pl2_46 pr2_46 pa2_46 pm2_46 pf2_46) ∧ (EDT b n v wt un hm hvv hww fr n (flpF v l1 r1) (flpF wt l1 r1) un2_46 hm2_46 hvv2_46 hww2_46 fr2_46) ∧ (n = n → r_46 = (oth n v (flpF v l1 r1) : Int)) ∧ (EKE (va_up (va_up F 200 ((n : Int))) 203 ((n : Int))) (va_up (va_up (va_up (va_up Ar 201 a) 202 b_) 204 (Ar 201)) 205 (Ar 202)) F2_46 A2_46) := hpost
          have hH : zH s0 s1 G as0 (dW ad G F2_46 A2_46 kp2_46 pl2_46 (dPool G pr2_46 pa2_46 pm2_46 pf2_46 L2_46)) H locs := hH
          refine z_st (st' := [.int (iZ (r_46))]) rfl ?_
          -- R49.1
          exact z_iret hC hH hQ 49 ((r_46, n, (flpF v l1 r1), (flpF wt l1 r1), un2_46, hm2_46, hvv2_46, hww2_46, fr2_46, L2_46, pl2_46, pr2_46, pa2_46, pm2_46, pf2_46, kp2_46, F2_46, A2_46)) dX1_flip_49 rfl ⟨by (unfold Sp_flip; rw [if_pos (by omega)]; first | exact ⟨rfl, rfl, rfl, rfl⟩ | exact ⟨by omega, rfl, rfl, rfl⟩ | exact ⟨pr_46 rfl, rfl, rfl, rfl⟩), by exact pE_46, by exact pD_46, by exact EKQ_of pK_46 ⟨rfl, rfl, rfl, rfl, rfl⟩⟩ rfl (by first | decide | omega) (by first | decide | omega)
        · -- 23f
          refine z_aload_n hC 26 hl dX1_flip_26 rfl 0 rfl ?_
          refine zp_get (v := .ref (ad 200)) hC (va_P_l hH.1) 27 in_X1 rfl 4 (by decide) q210 0 rfl (rfl) dX1_flip_27 ?_
          refine z_iload_n hC 30 hl dX1_flip_30 rfl 1 rfl ?_
          refine z_iload_n hC 31 hl dX1_flip_31 rfl 3 rfl ?_
          refine z_iadd (e := (l1 : Int) + (k : Int)) hC 32 dX1_flip_32 rfl ?_
          refine z_iload_n hC 33 hl dX1_flip_33 rfl 2 rfl ?_
          refine z_iload_n hC 34 hl dX1_flip_34 rfl 3 rfl ?_
          refine z_isub (e := (r1 : Int) - (k : Int)) hC 35 dX1_flip_35 rfl ?_
          refine z_st (st' := [.int (iZ (((r1 - k : Nat) : Int))), .int (iZ (((l1 + k : Nat) : Int))), .ref (ad 200)]) (zcons (zieq (by omega)) (zcons (zieq (by omega)) rfl)) ?_
          refine z_sub (z_runV (wc := (rW (fun i => ad (200 + i)) G (va_up (fun _ => 0) 2 ((n : Int))) (va_up (va_up (fun _ => fun _ => 0) 0 a) 1 b_))) hC hH.2.2 hl.1 (z_subP hH.1 [11, 12, 13] rfl) (z_subD hH.2.1 [11, 12, 13] (by decide) rfl) 2 (As := [.int (iZ (((l1 + k : Nat) : Int))), .int (iZ (((r1 - k : Nat) : Int)))]) (rest := []) (m_X2_swaps lau s0 G _ (fun i => ad (200 + i))  (va_up (fun _ => 0) 2 ((n : Int))) (fun _ => fun _ => 0) (l1 + k) (r1 - k) a b_ (by omega) (by omega)) (lw_V q872 q873 q874 q90 q875) ⟨rfl, by decide, by decide, by decide +kernel⟩ (q0 := 0) (ci := 2) rfl rfl rfl rfl (Nat.le_of_ble_eq_true rfl) ⟨Nat.le_of_ble_eq_true rfl, Nat.le_of_ble_eq_true rfl⟩ ⟨by first | decide | omega, by first | decide | omega⟩ dX1_flip_36) hH [11, 12, 13] rfl (by decide) (fun _ => rfl) (fun _ H locs hpost hH => ?_)
          have hH : zH s0 s1 G as0 (dW ad G (va_up (va_up F 200 ((n : Int))) 203 ((n : Int))) (va_up (va_up (va_up (va_up Ar 201 (va_up (va_up a (l1 + k) (a (r1 - k))) (r1 - k) (a (l1 + k)))) 202 (va_up (va_up b_ (l1 + k) (b_ (r1 - k))) (r1 - k) (b_ (l1 + k)))) 204 (Ar 201)) 205 (Ar 202)) kp pl (dPool G pr pa pm pf L)) H locs := hH
          refine z_st (st' := []) rfl ?_
          refine z_iinc (lv' := [(3, .int (iZ ((k : Int) + 1))), (0, .ref (ad 99)), (1, .int (iZ ((l1 : Int)))), (2, .int (iZ ((r1 : Int))))]) hC 39 hl dX1_flip_39 3 rfl (by omega) (by decide) rfl (fun ls hl => ?_)
          refine z_goto hC 42 17 dX1_flip_42 rfl ?_
          -- J17.2
          exact ih17 (k + 1) (swpF tv (l1 + k) (r1 - k)) (swpF tw (l1 + k) (r1 - k)) (va_up (va_up a (l1 + k) (a (r1 - k))) (r1 - k) (a (l1 + k))) (va_up (va_up b_ (l1 + k) (b_ (r1 - k))) (r1 - k) (b_ (l1 + k))) _ _ _ (by omega) (by first | assumption | omega) (by first | exact FLP_0 | exact FLP_s it (by omega)) (by first | exact FLP_0 | exact FLP_s iw (by omega)) (by first | exact hAv | exact cv_sw ia (by omega) (by omega)) (by first | exact hAw | exact cv_sw ib (by omega) (by omega)) hH (z_lv (lv_sub hl [1, 2, 3, 0] rfl) (zcons rfl (zcons rfl (zcons rfl (zcons (zpeq (by omega)) rfl)))))
    -- J17.3
    exact L17 _ 0 v wt (Ar 201) (Ar 202) _ _ _ (Nat.lt_succ_self _) (by first | assumption | omega) (by first | exact FLP_0 | exact FLP_s it (by omega)) (by first | exact FLP_0 | exact FLP_s iw (by omega)) (by first | exact hAv | exact cv_sw ia (by omega) (by omega)) (by first | exact hAw | exact cv_sw ib (by omega) (by omega)) hH (z_lv (lv_sub hl [1, 2, 3, 0] rfl) (zcons rfl (zcons rfl (zcons rfl (zcons (zpeq (by omega)) rfl)))))
  · -- 3=0
    refine z_if_ne_f hC 6 11 dX1_flip_6 rfl (by omega) (by omega) ?_
    refine z_iconst hC 9 dX1_flip_9 ?_
    -- R10.4
    exact z_iret hC hH hQ 10 (((-1), n, v, wt, un, hm, hvv, hww, fr, L, pl, pr, pa, pm, pf, kp, F, Ar)) dX1_flip_10 rfl ⟨by (unfold Sp_flip; rw [if_neg (by omega)]; exact ⟨rfl, rfl, rfl, rfl⟩), by exact EDT_none, by exact hD, by exact ⟨rfl, rfl, rfl, rfl, rfl⟩⟩ rfl (by first | decide | omega) (by first | decide | omega)

set_option maxHeartbeats 16000000 in
set_option maxRecDepth 100000 in
theorem m_X1_shift (lau : Launch) (s0 : State) (G : zG) (sz : Nat) (ad : Nat → Nat) (F : Nat → Int) (Ar : Nat → Nat → Int) (kp : Nat → Nat) (pl : Nat → Option Nat) (PW : va_W) (L : List Nat) (pr : Nat → Nat) (pa : Nat → Nat) (pm : Nat → Nat) (pf : Nat → Nat → Nat) (nw : Nat) (b : Nat) (t : Nat) (n : Nat) (v : Nat → Nat) (wt : Nat → Nat) (un : Nat) (hm : Nat → Nat) (hvv : Nat → Nat → Nat) (hww : Nat → Nat → Nat) (fr : Int) (l : Int) (r : Int) (k : Int) (hD : DST s0 G nw b t n v wt un hm hvv hww fr F Ar kp L pl pr pa pm pf) (hnw : zNwh s0 nw) (hr_l : -2147483648 ≤ l ∧ l < 2147483648) (hr_r : -2147483648 ≤ r ∧ r < 2147483648) (hr_k : -2147483648 ≤ k ∧ k < 2147483648) : zMet (S := Int × Nat × (Nat → Nat) × (Nat → Nat) × Nat × (Nat → Nat) × (Nat → Nat → Nat) × (Nat → Nat → Nat) × Int × List Nat × (Nat → Option Nat) × (Nat → Nat) × (Nat → Nat) × (Nat → Nat) × (Nat → Nat → Nat) × (Nat → Nat) × (Nat → Int) × (Nat → Nat → Int)) lau yX1_shift cX1_shift 6 (some .int) 7 164 240 14640 s0 G sz [.ref (ad 99), .int (iZ (l)), .int (iZ (r)), .int (iZ (k))] (dW ad G F Ar kp pl (dPool G pr pa pm pf L)) (fun ((r_, n2, v2, w2, un2, hm2, hvv2, hww2, fr2, L2, pl2, pr2, pa2, pm2, pf2, kp2, F2, A2) : Int × Nat × (Nat → Nat) × (Nat → Nat) × Nat × (Nat → Nat) × (Nat → Nat → Nat) × (Nat → Nat → Nat) × Int × List Nat × (Nat → Option Nat) × (Nat → Nat) × (Nat → Nat) × (Nat → Nat) × (Nat → Nat → Nat) × (Nat → Nat) × (Nat → Int) × (Nat → Nat → Int)) => some (.int (iZ (r_)))) (fun ((r_, n2, v2, w2, un2, hm2, hvv2, hww2, fr2, L2, pl2, pr2, pa2, pm2, pf2, kp2, F2, A2) : Int × Nat × (Nat → Nat) × (Nat → Nat) × Nat × (Nat → Nat) × (Nat → Nat → Nat) × (Nat → Nat → Nat) × Int × List Nat × (Nat → Option Nat) × (Nat → Nat) × (Nat → Nat) × (Nat → Nat) × (Nat → Nat → Nat) × (Nat → Nat) × (Nat → Int) × (Nat → Nat → Int)) => (Sp_shift n v wt l r k r_ n2 v2 w2) ∧ (EDT b n v wt un hm hvv hww fr n2 v2 w2 un2 hm2 hvv2 hww2 fr2) ∧ (DST s0 G nw b t n2 v2 w2 un2 hm2 hvv2 hww2 fr2 F2 A2 kp2 L2 pl2 pr2 pa2 pm2 pf2) ∧ (EKQ F Ar F2 A2)) (fun ((r_, n2, v2, w2, un2, hm2, hvv2, hww2, fr2, L2, pl2, pr2, pa2, pm2, pf2, kp2, F2, A2) : Int × Nat × (Nat → Nat) × (Nat → Nat) × Nat × (Nat → Nat) × (Nat → Nat → Nat) × (Nat → Nat → Nat) × Int × List Nat × (Nat → Option Nat) × (Nat → Nat) × (Nat → Nat) × (Nat → Nat) × (Nat → Nat → Nat) × (Nat → Nat) × (Nat → Int) × (Nat → Nat → Int)) => (dW ad G F2 A2 kp2 pl2 (dPool G pr2 pa2 pm2 pf2 L2))) := by
  refine zMet.of (by decide) (Nat.le_of_ble_eq_true rfl) ?_
  intro pg ev s1 mi ar bl me cd ls Q as0 hC hH hl hQ hsz
  generalize s1.heap = H at hH ⊢
  generalize ([] : List Loc) = locs at hH ⊢
  have hl : lv_has ls 6 [(0, .ref (ad 99)), (1, .int (iZ (l))), (2, .int (iZ (r))), (3, .int (iZ (k)))] := hl
  obtain ⟨⟨hn, hFn, hv, hAv, hwt, hAw⟩, ⟨hb, hFb, ht, hFt⟩, ⟨hun, hF14, hkt, hPD⟩, ⟨hS, hpc⟩, hmo, hfr, h16⟩ := id hD
  refine z_aload_n hC 0 hl dX1_shift_0 rfl 0 rfl ?_
  refine z_iload_n hC 1 hl dX1_shift_1 rfl 1 rfl ?_
  refine z_iload_n hC 2 hl dX1_shift_2 rfl 2 rfl ?_
  refine zp_back (zp_runV hC (hH.2.2) hl.1 (va_P_l hH.1) 2 (As := [.int (iZ (l)), .int (iZ (r))]) (rest := []) (u_X1_isSpan lau s0 G ad F Ar kp pl n l r (by first | exact hn | assumption | omega) (by first | exact hFn | assumption | omega) (by first | assumption | omega) (by first | assumption | omega)) (lw_V q864 q866 qs26 q89 q867) ⟨rfl, by decide, by decide, by decide +kernel⟩ (q0 := 0) (ci := 1) rfl rfl rfl rfl (Nat.le_of_ble_eq_true rfl) ⟨Nat.le_of_ble_eq_true rfl, Nat.le_of_ble_eq_true rfl⟩ ⟨by first | decide | omega, by first | decide | omega⟩ dX1_shift_3) (fun r_3 hpost => ?_)
  have hb_3 : (r_3 = 1 ∧ (0 ≤ l ∧ l ≤ r ∧ r < (n : Int))) ∨ (r_3 = 0 ∧ ¬ (0 ≤ l ∧ l ≤ r ∧ r < (n : Int))) := hpost
  refine z_st (st' := [.int (iZ (r_3))]) rfl ?_
  rcases hb_3 with ⟨rfl, hb_3⟩ | ⟨rfl, hb_3⟩
  · -- 3=1
    refine z_if_eq_f hC 6 24 dX1_shift_6 rfl (by omega) (by omega) ?_
    refine z_iload_n hC 9 hl dX1_shift_9 rfl 3 rfl ?_
    refine z_i2l hC 10 dX1_shift_10 (by omega) ?_
    refine z_lconst (a := 0) hC 11 dX1_shift_11 rfl ?_
    refine z_iload_n hC 12 hl dX1_shift_12 rfl 2 rfl ?_
    refine z_iload_n hC 13 hl dX1_shift_13 rfl 1 rfl ?_
    refine z_isub (e := r - l) hC 14 dX1_shift_14 rfl ?_
    refine z_iconst hC 15 dX1_shift_15 ?_
    refine z_iadd (e := r - l + 1) hC 16 dX1_shift_16 rfl ?_
    refine z_i2l hC 17 dX1_shift_17 (by omega) ?_
    refine z_st (st' := [.long (lZ ((r - l + 1))), .long (lZ (0)), .long (lZ (k))]) (zcons (zleq (by omega)) (zcons rfl (zcons rfl rfl))) ?_
    refine zp_back (zp_runS hC (hH.2.2) hl.1 (zp_nil) 3 (As := [.long (lZ (k)), .long (lZ (0)), .long (lZ ((r - l + 1)))]) (rest := []) (u_X1_isIn lau s0 G k 0 (r - l + 1) (by first | assumption | omega) (by first | assumption | omega) (by first | assumption | omega)) (lw_S q303 q304 q89 q305) ⟨by decide, by decide, by decide +kernel⟩ rfl rfl (Nat.le_of_ble_eq_true rfl) ⟨Nat.le_of_ble_eq_true rfl, Nat.le_of_ble_eq_true rfl⟩ ⟨by first | decide | omega, by first | decide | omega⟩ dX1_shift_18) (fun r_18 hpost => ?_)
    have hb_18 : (r_18 = 1 ∧ ((0 : Int) ≤ k ∧ k ≤ (r - l + 1))) ∨ (r_18 = 0 ∧ ¬ ((0 : Int) ≤ k ∧ k ≤ (r - l + 1))) := hpost
    refine z_st (st' := [.int (iZ (r_18))]) rfl ?_
    rcases hb_18 with ⟨rfl, hb_18⟩ | ⟨rfl, hb_18⟩
    · -- 18=1
      refine z_if_ne_t hC 21 26 dX1_shift_21 rfl (by omega) (by omega) ?_
      obtain ⟨l1, rfl⟩ := Int.eq_ofNat_of_zero_le (show 0 ≤ l by omega)
      obtain ⟨r1, rfl⟩ := Int.eq_ofNat_of_zero_le (show 0 ≤ r by omega)
      obtain ⟨k1, rfl⟩ := Int.eq_ofNat_of_zero_le (show 0 ≤ k by omega)
      refine z_aload_n hC 26 hl dX1_shift_26 rfl 0 rfl ?_
      have hH : zH s0 s1 G as0 (dW ad G (va_up F 200 ((F 200))) Ar kp pl (dPool G pr pa pm pf L)) H locs := hH
      rw [show ((F 200) : Int) = (n : Int) from by omega] at hH
      have hH : zH s0 s1 G as0 (dW ad G (va_up F 200 ((n : Int))) Ar kp pl (dPool G pr pa pm pf L)) H locs := hH
      refine z_same (z_runV hC hH.2.2 hl.1 hH.1 hH.2.1 0 (As := []) (rest := []) (m_X1_begins lau s0 G _ ad (va_up F 200 ((n : Int))) Ar kp pl (dPool G pr pa pm pf L) (n : Int) (Ar 201) (Ar 202) ) (lw_V q807 q809 qs21 q89 q810) ⟨rfl, by decide, by decide, by decide +kernel⟩ (q0 := 0) (ci := 1) rfl rfl rfl rfl (Nat.le_of_ble_eq_true rfl) ⟨Nat.le_of_ble_eq_true rfl, Nat.le_of_ble_eq_true rfl⟩ ⟨Nat.le_of_ble_eq_true rfl, Nat.le_of_ble_eq_true rfl⟩ dX1_shift_27) hH (fun _ H locs hpost hH => ?_)
      have hH : zH s0 s1 G as0 (dW ad G (va_up (va_up F 200 ((n : Int))) 203 ((n : Int))) (va_up (va_up Ar 204 (Ar 201)) 205 (Ar 202)) kp pl (dPool G pr pa pm pf L)) H locs := hH
      refine z_st (st' := []) rfl ?_
      refine z_iload_n hC 30 hl dX1_shift_30 rfl 2 rfl ?_
      refine z_iload_n hC 31 hl dX1_shift_31 rfl 1 rfl ?_
      refine z_isub (e := (r1 : Int) - (l1 : Int)) hC 32 dX1_shift_32 rfl ?_
      refine z_iconst hC 33 dX1_shift_33 ?_
      refine z_iadd (e := (r1 : Int) - (l1 : Int) + 1) hC 34 dX1_shift_34 rfl ?_
      refine z_istore (lv' := [(4, .int (iZ ((r1 : Int) - (l1 : Int) + 1))), (0, .ref (ad 99)), (1, .int (iZ ((l1 : Int)))), (2, .int (iZ ((r1 : Int)))), (3, .int (iZ ((k1 : Int))))]) hC 35 hl dX1_shift_35 (by decide) rfl (fun ls hl => ?_)
      refine z_iconst hC 37 dX1_shift_37 ?_
      refine z_istore (lv' := [(5, .int (iZ (0))), (4, .int (iZ ((r1 : Int) - (l1 : Int) + 1))), (0, .ref (ad 99)), (1, .int (iZ ((l1 : Int)))), (2, .int (iZ ((r1 : Int)))), (3, .int (iZ ((k1 : Int))))]) hC 38 hl dX1_shift_38 (by decide) rfl (fun ls hl => ?_)
      have L40 : ∀ (N_ : Nat) (p : Nat) (tv : Nat → Nat) (tw : Nat → Nat) (a : Nat → Int) (b_ : Nat → Int) (H : Heap) (locs : List Loc) (ls : Array Slot), r1 - l1 + 1 - p < N_ → (p ≤ r1 - l1 + 1) → (SHI v tv l1 r1 k1 (l1 + p)) → (SHI wt tw l1 r1 k1 (l1 + p)) → (∀ i, i < n → a i = (tv i : Int)) → (∀ i, i < n → b_ i = (tw i : Int)) → zH s0 s1 G as0 (dW ad G (va_up (va_up F 200 ((n : Int))) 203 ((n : Int))) (va_up (va_up (va_up (va_up Ar 201 a) 202 b_) 204 (Ar 201)) 205 (Ar 202)) kp pl (dPool G pr pa pm pf L)) H locs → lv_has ls 6 [(0, .ref (ad 99)), (1, .int (iZ ((l1 : Int)))), (2, .int (iZ ((r1 : Int)))), (3, .int (iZ ((k1 : Int)))), (4, .int (iZ ((r1 : Int) - (l1 : Int) + 1))), (5, .int (iZ ((p : Int))))] → W pg lau ev (zRm 7 240 14640 164) s1 mi ar bl me cd H locs 0 0 Q (F0 mi 40 ls []) := by
        intro N_
        induction N_ with
        | zero => intro p tv tw a b_ H locs ls hd; exact absurd hd (Nat.not_lt_zero _)
        | succ N_ ih40 =>
          intro p tv tw a b_ H locs ls hd40 i40_1 it iw ia ib hH hl
          refine z_iload hC 40 hl dX1_shift_40 5 rfl ?_
          refine z_iload hC 42 hl dX1_shift_42 4 rfl ?_
          refine z_icmp_ge hC 44 111 dX1_shift_44 rfl (by omega) (by omega) (fun hb1 => ?_) (fun hb1 => ?_)
          · -- 44t
            refine z_aload_n hC 111 hl dX1_shift_111 rfl 0 rfl ?_
            refine z_same (z_runV hC hH.2.2 hl.1 hH.1 hH.2.1 0 (As := []) (rest := []) (m_X1_ends lau s0 G _ ad (va_up (va_up F 200 ((n : Int))) 203 ((n : Int))) (va_up (va_up (va_up (va_up Ar 201 a) 202 b_) 204 (Ar 201)) 205 (Ar 202)) kp pl (dPool G pr pa pm pf L) L pr pa pm pf nw n (shfF v l1 r1 k1) (shfF wt l1 r1 k1) n v wt b t fr un hm hvv hww (by first | exact hn | omega) (by first | exact hFn | rfl | omega) (by exact shfF_old (P := fun x => x < 1000) hv (by omega) (by omega)) (by (rw [← SHI_f it (by omega) (by omega) (by omega)]; exact ia)) (by exact shfF_old (P := fun x => 1 ≤ x ∧ x ≤ 9) hwt (by omega) (by omega)) (by (rw [← SHI_f iw (by omega) (by omega) (by omega)]; exact ib)) (by exact hn) (by first | rfl | exact hFn) (by exact hv) (by exact hAv) (by exact hwt) (by exact hAw) (by exact hb) (by exact hFb) (by exact ht) (by exact hFt) (by exact hun) (by exact hF14) (by first | exact hkt | assumption | omega) (by exact PASTD_cg hPD (fun k hk => by have := (kp_ge hkt (show k < 12 by omega)).1; (repeat rw [va_up_ne _ _ (by omega)]) <;> rfl) (fun k hk => by have := (kp_ge hkt (show k < 12 by omega)).1; constructor <;> ((repeat rw [va_up_ne _ _ (by omega)]) <;> rfl)) (fun k hk => ⟨rfl, rfl, rfl⟩)) (by first | exact hS | assumption | omega) (by first | exact hnw | assumption | omega) (by exact hmo) (by exact hpc) (by exact hfr) (by exact h16)) (lw_V q811 q813 qs22 q89 q814) ⟨rfl, by decide, by decide, by decide +kernel⟩ (q0 := 0) (ci := 1) rfl rfl rfl rfl (Nat.le_of_ble_eq_true rfl) ⟨Nat.le_of_ble_eq_true rfl, Nat.le_of_ble_eq_true rfl⟩ ⟨by first | decide | omega, by first | decide | omega⟩ dX1_shift_112) hH (fun u_ H locs hpost hH => ?_)
            obtain ⟨r_112, un2_112, hm2_112, hvv2_112, hww2_112, fr2_112, L2_112, pl2_112, pr2_112, pa2_112, pm2_112, pf2_112, kp2_112, F2_112, A2_112⟩ := u_
            obtain ⟨pD_112, pE_112, pr_112, pK_112⟩ : (DST s0 G nw b t n (shfF v l1 r1 k1) (shfF wt l1 r1 k1) un2_112 hm2_112 hvv2_112 hww2_112 fr2_112 F2_112 A2_112 kp2_112 L2_112 pl2_112 pr2_112 pa2_112 pm2_112 pf2_112) ∧ (EDT b n v wt un hm hvv hww fr n (shfF v l1 r1 k1) (shfF wt l1 r1 k1) un2_112 hm2_112 hvv2_112 hww2_112 fr2_112) ∧ (n = n → r_112 = (oth n v (shfF v l1 r1 k1) : Int)) ∧ (EKE (va_up (va_up F 200 ((n : Int))) 203 ((n : Int))) (va_up (va_up (va_up (va_up Ar 201 a) 202 b_) 204 (Ar 201)) 205 (Ar 202)) F2_112 A2_112) := hpost
            have hH : zH s0 s1 G as0 (dW ad G F2_112 A2_112 kp2_112 pl2_112 (dPool G pr2_112 pa2_112 pm2_112 pf2_112 L2_112)) H locs := hH
            refine z_st (st' := [.int (iZ (r_112))]) rfl ?_
            -- R115.1
            exact z_iret hC hH hQ 115 ((r_112, n, (shfF v l1 r1 k1), (shfF wt l1 r1 k1), un2_112, hm2_112, hvv2_112, hww2_112, fr2_112, L2_112, pl2_112, pr2_112, pa2_112, pm2_112, pf2_112, kp2_112, F2_112, A2_112)) dX1_shift_115 rfl ⟨by (unfold Sp_shift; rw [if_pos (by omega)]; first | exact ⟨rfl, rfl, rfl, rfl⟩ | exact ⟨by omega, rfl, rfl, rfl⟩ | exact ⟨pr_112 rfl, rfl, rfl, rfl⟩), by exact pE_112, by exact pD_112, by exact EKQ_of pK_112 ⟨rfl, rfl, rfl, rfl, rfl⟩⟩ rfl (by first | decide | omega) (by first | decide | omega)
          · -- 44f
            have hmd : zmod (p + k1) (r1 + 1 - l1) < r1 + 1 - l1 := Nat.mod_lt _ (by omega)
            refine z_aload_n hC 47 hl dX1_shift_47 rfl 0 rfl ?_
            refine zp_get (v := .ref (ad 200)) hC (va_P_l hH.1) 48 in_X1 rfl 4 (by decide) q210 0 rfl (rfl) dX1_shift_48 ?_
            refine zp_getN (v := .ref (ad 201)) hC (va_P_l hH.1) 51 in_X2 rfl 0 (by decide) q141 11 rfl (rfl) dX1_shift_51 ?_
            refine z_iload_n hC 54 hl dX1_shift_54 rfl 1 rfl ?_
            refine z_iload hC 55 hl dX1_shift_55 5 rfl ?_
            refine z_iload_n hC 57 hl dX1_shift_57 rfl 3 rfl ?_
            refine z_iadd (e := (p : Int) + (k1 : Int)) hC 58 dX1_shift_58 rfl ?_
            refine z_iload hC 59 hl dX1_shift_59 4 rfl ?_
            refine z_irem hC 61 (p + k1) (r1 + 1 - l1) dX1_shift_61 (by omega) (by omega) (by omega) (by omega) ((zmod (p + k1) (r1 + 1 - l1))) rfl ?_
            refine z_iadd (e := (l1 : Int) + ((zmod (p + k1) (r1 + 1 - l1) : Nat) : Int)) hC 62 dX1_shift_62 rfl ?_
            refine z_aload_n hC 63 hl dX1_shift_63 rfl 0 rfl ?_
            refine zp_get (v := .ref (ad 203)) hC (va_P_l hH.1) 64 in_X1 rfl 5 (by decide) q214 0 rfl (rfl) dX1_shift_64 ?_
            refine zp_getN (v := .ref (ad 204)) hC (va_P_l hH.1) 67 in_X2 rfl 0 (by decide) q141 14 rfl (rfl) dX1_shift_67 ?_
            refine z_iload_n hC 70 hl dX1_shift_70 rfl 1 rfl ?_
            refine z_iload hC 71 hl dX1_shift_71 5 rfl ?_
            refine z_iadd (e := (l1 : Int) + (p : Int)) hC 73 dX1_shift_73 rfl ?_
            refine zp_iald (f := (Ar 201)) (x := ((v (l1 + p) : Nat) : Int)) hC (va_P_l hH.1) 74 15 (l1 + p) rfl (by decide) (by omega) (by omega) ((hAv (l1 + p) (by omega))) dX1_shift_74 ?_
            refine sD_201 (f' := (va_up a (l1 + (zmod (p + k1) (r1 + 1 - l1))) (((v (l1 + p) : Nat) : Int)))) hC hH 75 (l1 + (zmod (p + k1) (r1 + 1 - l1))) (by omega) (by omega) rfl dX1_shift_75 (fun H locs hH => ?_)
            have hH : zH s0 s1 G as0 (dW ad G (va_up (va_up F 200 ((n : Int))) 203 ((n : Int))) (va_up (va_up (va_up (va_up Ar 201 (va_up a (l1 + (zmod (p + k1) (r1 + 1 - l1))) (((v (l1 + p) : Nat) : Int)))) 202 b_) 204 (Ar 201)) 205 (Ar 202)) kp pl (dPool G pr pa pm pf L)) H locs := hH
            refine z_aload_n hC 76 hl dX1_shift_76 rfl 0 rfl ?_
            refine zp_get (v := .ref (ad 200)) hC (va_P_l hH.1) 77 in_X1 rfl 4 (by decide) q210 0 rfl (rfl) dX1_shift_77 ?_
            refine zp_getN (v := .ref (ad 202)) hC (va_P_l hH.1) 80 in_X2 rfl 1 (by decide) q145 11 rfl (rfl) dX1_shift_80 ?_
            refine z_iload_n hC 83 hl dX1_shift_83 rfl 1 rfl ?_
            refine z_iload hC 84 hl dX1_shift_84 5 rfl ?_
            refine z_iload_n hC 86 hl dX1_shift_86 rfl 3 rfl ?_
            refine z_iadd (e := (p : Int) + (k1 : Int)) hC 87 dX1_shift_87 rfl ?_
            refine z_iload hC 88 hl dX1_shift_88 4 rfl ?_
            refine z_irem hC 90 (p + k1) (r1 + 1 - l1) dX1_shift_90 (by omega) (by omega) (by omega) (by omega) ((zmod (p + k1) (r1 + 1 - l1))) rfl ?_
            refine z_iadd (e := (l1 : Int) + ((zmod (p + k1) (r1 + 1 - l1) : Nat) : Int)) hC 91 dX1_shift_91 rfl ?_
            refine z_aload_n hC 92 hl dX1_shift_92 rfl 0 rfl ?_
            refine zp_get (v := .ref (ad 203)) hC (va_P_l hH.1) 93 in_X1 rfl 5 (by decide) q214 0 rfl (rfl) dX1_shift_93 ?_
            refine zp_getN (v := .ref (ad 205)) hC (va_P_l hH.1) 96 in_X2 rfl 1 (by decide) q145 14 rfl (rfl) dX1_shift_96 ?_
            refine z_iload_n hC 99 hl dX1_shift_99 rfl 1 rfl ?_
            refine z_iload hC 100 hl dX1_shift_100 5 rfl ?_
            refine z_iadd (e := (l1 : Int) + (p : Int)) hC 102 dX1_shift_102 rfl ?_
            refine zp_iald (f := (Ar 202)) (x := ((wt (l1 + p) : Nat) : Int)) hC (va_P_l hH.1) 103 16 (l1 + p) rfl (by decide) (by omega) (by omega) ((hAw (l1 + p) (by omega))) dX1_shift_103 ?_
            refine sD_202 (f' := (va_up b_ (l1 + (zmod (p + k1) (r1 + 1 - l1))) (((wt (l1 + p) : Nat) : Int)))) hC hH 104 (l1 + (zmod (p + k1) (r1 + 1 - l1))) (by omega) (by omega) rfl dX1_shift_104 (fun H locs hH => ?_)
            have hH : zH s0 s1 G as0 (dW ad G (va_up (va_up F 200 ((n : Int))) 203 ((n : Int))) (va_up (va_up (va_up (va_up Ar 201 (va_up a (l1 + (zmod (p + k1) (r1 + 1 - l1))) (((v (l1 + p) : Nat) : Int)))) 202 (va_up b_ (l1 + (zmod (p + k1) (r1 + 1 - l1))) (((wt (l1 + p) : Nat) : Int)))) 204 (Ar 201)) 205 (Ar 202)) kp pl (dPool G pr pa pm pf L)) H locs := hH
            refine z_iinc (lv' := [(5, .int (iZ ((p : Int) + 1))), (0, .ref (ad 99)), (1, .int (iZ ((l1 : Int)))), (2, .int (iZ ((r1 : Int)))), (3, .int (iZ ((k1 : Int)))), (4, .int (iZ ((r1 : Int) - (l1 : Int) + 1)))]) hC 105 hl dX1_shift_105 5 rfl (by omega) (by decide) rfl (fun ls hl => ?_)
            refine z_goto hC 108 40 dX1_shift_108 rfl ?_
            -- J40.2
            exact ih40 (p + 1) (va_up tv (l1 + zmod (p + k1) (r1 + 1 - l1)) (v (l1 + p))) (va_up tw (l1 + zmod (p + k1) (r1 + 1 - l1)) (wt (l1 + p))) (va_up a (l1 + (zmod (p + k1) (r1 + 1 - l1))) (((v (l1 + p) : Nat) : Int))) (va_up b_ (l1 + (zmod (p + k1) (r1 + 1 - l1))) (((wt (l1 + p) : Nat) : Int))) _ _ _ (by omega) (by first | assumption | omega) (by first | exact SHI_0 | exact SHI_z it (by omega) (by omega)) (by first | exact SHI_0 | exact SHI_z iw (by omega) (by omega)) (by first | exact hAv | exact cv_up ia) (by first | exact hAw | exact cv_up ib) hH (z_lv (lv_sub hl [1, 2, 3, 4, 5, 0] rfl) (zcons rfl (zcons rfl (zcons rfl (zcons rfl (zcons rfl (zcons (zpeq (by omega)) rfl)))))))
      -- J40.3
      exact L40 _ 0 v wt (Ar 201) (Ar 202) _ _ _ (Nat.lt_succ_self _) (by first | assumption | omega) (by first | exact SHI_0 | exact SHI_z it (by omega) (by omega)) (by first | exact SHI_0 | exact SHI_z iw (by omega) (by omega)) (by first | exact hAv | exact cv_up ia) (by first | exact hAw | exact cv_up ib) hH (z_lv (lv_sub hl [2, 3, 4, 5, 1, 0] rfl) (zcons rfl (zcons rfl (zcons rfl (zcons rfl (zcons rfl (zcons (zpeq (by omega)) rfl)))))))
    · -- 18=0
      refine z_if_ne_f hC 21 26 dX1_shift_21 rfl (by omega) (by omega) ?_
      refine z_iconst hC 24 dX1_shift_24 ?_
      -- R25.4
      exact z_iret hC hH hQ 25 (((-1), n, v, wt, un, hm, hvv, hww, fr, L, pl, pr, pa, pm, pf, kp, F, Ar)) dX1_shift_25 rfl ⟨by (unfold Sp_shift; rw [if_neg (by omega)]; exact ⟨rfl, rfl, rfl, rfl⟩), by exact EDT_none, by exact hD, by exact ⟨rfl, rfl, rfl, rfl, rfl⟩⟩ rfl (by first | decide | omega) (by first | decide | omega)
  · -- 3=0
    refine z_if_eq_t hC 6 24 dX1_shift_6 rfl (by omega) (by omega) ?_
    refine z_iconst hC 24 dX1_shift_24 ?_
    -- R25.5
    exact z_iret hC hH hQ 25 (((-1), n, v, wt, un, hm, hvv, hww, fr, L, pl, pr, pa, pm, pf, kp, F, Ar)) dX1_shift_25 rfl ⟨by (unfold Sp_shift; rw [if_neg (by omega)]; exact ⟨rfl, rfl, rfl, rfl⟩), by exact EDT_none, by exact hD, by exact ⟨rfl, rfl, rfl, rfl, rfl⟩⟩ rfl (by first | decide | omega) (by first | decide | omega)

set_option maxHeartbeats 16000000 in
set_option maxRecDepth 100000 in
theorem m_X1_sort (lau : Launch) (s0 : State) (G : zG) (sz : Nat) (ad : Nat → Nat) (F : Nat → Int) (Ar : Nat → Nat → Int) (kp : Nat → Nat) (pl : Nat → Option Nat) (PW : va_W) (L : List Nat) (pr : Nat → Nat) (pa : Nat → Nat) (pm : Nat → Nat) (pf : Nat → Nat → Nat) (nw : Nat) (b : Nat) (t : Nat) (n : Nat) (v : Nat → Nat) (wt : Nat → Nat) (un : Nat) (hm : Nat → Nat) (hvv : Nat → Nat → Nat) (hww : Nat → Nat → Nat) (fr : Int) (l : Int) (r : Int) (up : Int) (hD : DST s0 G nw b t n v wt un hm hvv hww fr F Ar kp L pl pr pa pm pf) (hnw : zNwh s0 nw) (hr_l : -2147483648 ≤ l ∧ l < 2147483648) (hr_r : -2147483648 ≤ r ∧ r < 2147483648) (hr_up : -2147483648 ≤ up ∧ up < 2147483648) : zMet (S := Int × Nat × (Nat → Nat) × (Nat → Nat) × Nat × (Nat → Nat) × (Nat → Nat → Nat) × (Nat → Nat → Nat) × Int × List Nat × (Nat → Option Nat) × (Nat → Nat) × (Nat → Nat) × (Nat → Nat) × (Nat → Nat → Nat) × (Nat → Nat) × (Nat → Int) × (Nat → Nat → Int)) lau yX1_sort cX1_sort 6 (some .int) 7 164 240 14640 s0 G sz [.ref (ad 99), .int (iZ (l)), .int (iZ (r)), .int (iZ (up))] (dW ad G F Ar kp pl (dPool G pr pa pm pf L)) (fun ((r_, n2, v2, w2, un2, hm2, hvv2, hww2, fr2, L2, pl2, pr2, pa2, pm2, pf2, kp2, F2, A2) : Int × Nat × (Nat → Nat) × (Nat → Nat) × Nat × (Nat → Nat) × (Nat → Nat → Nat) × (Nat → Nat → Nat) × Int × List Nat × (Nat → Option Nat) × (Nat → Nat) × (Nat → Nat) × (Nat → Nat) × (Nat → Nat → Nat) × (Nat → Nat) × (Nat → Int) × (Nat → Nat → Int)) => some (.int (iZ (r_)))) (fun ((r_, n2, v2, w2, un2, hm2, hvv2, hww2, fr2, L2, pl2, pr2, pa2, pm2, pf2, kp2, F2, A2) : Int × Nat × (Nat → Nat) × (Nat → Nat) × Nat × (Nat → Nat) × (Nat → Nat → Nat) × (Nat → Nat → Nat) × Int × List Nat × (Nat → Option Nat) × (Nat → Nat) × (Nat → Nat) × (Nat → Nat) × (Nat → Nat → Nat) × (Nat → Nat) × (Nat → Int) × (Nat → Nat → Int)) => (Sp_sort n v wt l r up r_ n2 v2 w2) ∧ (EDT b n v wt un hm hvv hww fr n2 v2 w2 un2 hm2 hvv2 hww2 fr2) ∧ (DST s0 G nw b t n2 v2 w2 un2 hm2 hvv2 hww2 fr2 F2 A2 kp2 L2 pl2 pr2 pa2 pm2 pf2) ∧ (EKQ F Ar F2 A2)) (fun ((r_, n2, v2, w2, un2, hm2, hvv2, hww2, fr2, L2, pl2, pr2, pa2, pm2, pf2, kp2, F2, A2) : Int × Nat × (Nat → Nat) × (Nat → Nat) × Nat × (Nat → Nat) × (Nat → Nat → Nat) × (Nat → Nat → Nat) × Int × List Nat × (Nat → Option Nat) × (Nat → Nat) × (Nat → Nat) × (Nat → Nat) × (Nat → Nat → Nat) × (Nat → Nat) × (Nat → Int) × (Nat → Nat → Int)) => (dW ad G F2 A2 kp2 pl2 (dPool G pr2 pa2 pm2 pf2 L2))) := by
  refine zMet.of (by decide) (Nat.le_of_ble_eq_true rfl) ?_
  intro pg ev s1 mi ar bl me cd ls Q as0 hC hH hl hQ hsz
  generalize s1.heap = H at hH ⊢
  generalize ([] : List Loc) = locs at hH ⊢
  have hl : lv_has ls 6 [(0, .ref (ad 99)), (1, .int (iZ (l))), (2, .int (iZ (r))), (3, .int (iZ (up)))] := hl
  obtain ⟨⟨hn, hFn, hv, hAv, hwt, hAw⟩, ⟨hb, hFb, ht, hFt⟩, ⟨hun, hF14, hkt, hPD⟩, ⟨hS, hpc⟩, hmo, hfr, h16⟩ := id hD
  refine z_aload_n hC 0 hl dX1_sort_0 rfl 0 rfl ?_
  refine z_iload_n hC 1 hl dX1_sort_1 rfl 1 rfl ?_
  refine z_iload_n hC 2 hl dX1_sort_2 rfl 2 rfl ?_
  refine zp_back (zp_runV hC (hH.2.2) hl.1 (va_P_l hH.1) 2 (As := [.int (iZ (l)), .int (iZ (r))]) (rest := []) (u_X1_isSpan lau s0 G ad F Ar kp pl n l r (by first | exact hn | assumption | omega) (by first | exact hFn | assumption | omega) (by first | assumption | omega) (by first | assumption | omega)) (lw_V q864 q866 qs26 q89 q867) ⟨rfl, by decide, by decide, by decide +kernel⟩ (q0 := 0) (ci := 1) rfl rfl rfl rfl (Nat.le_of_ble_eq_true rfl) ⟨Nat.le_of_ble_eq_true rfl, Nat.le_of_ble_eq_true rfl⟩ ⟨by first | decide | omega, by first | decide | omega⟩ dX1_sort_3) (fun r_3 hpost => ?_)
  have hb_3 : (r_3 = 1 ∧ (0 ≤ l ∧ l ≤ r ∧ r < (n : Int))) ∨ (r_3 = 0 ∧ ¬ (0 ≤ l ∧ l ≤ r ∧ r < (n : Int))) := hpost
  refine z_st (st' := [.int (iZ (r_3))]) rfl ?_
  rcases hb_3 with ⟨rfl, hb_3⟩ | ⟨rfl, hb_3⟩
  · -- 3=1
    refine z_if_ne_t hC 6 11 dX1_sort_6 rfl (by omega) (by omega) ?_
    obtain ⟨l1, rfl⟩ := Int.eq_ofNat_of_zero_le (show 0 ≤ l by omega)
    obtain ⟨r1, rfl⟩ := Int.eq_ofNat_of_zero_le (show 0 ≤ r by omega)
    refine z_aload_n hC 11 hl dX1_sort_11 rfl 0 rfl ?_
    have hH : zH s0 s1 G as0 (dW ad G (va_up F 200 ((F 200))) Ar kp pl (dPool G pr pa pm pf L)) H locs := hH
    rw [show ((F 200) : Int) = (n : Int) from by omega] at hH
    have hH : zH s0 s1 G as0 (dW ad G (va_up F 200 ((n : Int))) Ar kp pl (dPool G pr pa pm pf L)) H locs := hH
    refine z_same (z_runV hC hH.2.2 hl.1 hH.1 hH.2.1 0 (As := []) (rest := []) (m_X1_begins lau s0 G _ ad (va_up F 200 ((n : Int))) Ar kp pl (dPool G pr pa pm pf L) (n : Int) (Ar 201) (Ar 202) ) (lw_V q807 q809 qs21 q89 q810) ⟨rfl, by decide, by decide, by decide +kernel⟩ (q0 := 0) (ci := 1) rfl rfl rfl rfl (Nat.le_of_ble_eq_true rfl) ⟨Nat.le_of_ble_eq_true rfl, Nat.le_of_ble_eq_true rfl⟩ ⟨Nat.le_of_ble_eq_true rfl, Nat.le_of_ble_eq_true rfl⟩ dX1_sort_12) hH (fun _ H locs hpost hH => ?_)
    have hH : zH s0 s1 G as0 (dW ad G (va_up (va_up F 200 ((n : Int))) 203 ((n : Int))) (va_up (va_up Ar 204 (Ar 201)) 205 (Ar 202)) kp pl (dPool G pr pa pm pf L)) H locs := hH
    refine z_st (st' := []) rfl ?_
    refine z_iload_n hC 15 hl dX1_sort_15 rfl 1 rfl ?_
    refine z_iconst hC 16 dX1_sort_16 ?_
    refine z_iadd (e := (l1 : Int) + 1) hC 17 dX1_sort_17 rfl ?_
    refine z_istore (lv' := [(4, .int (iZ ((l1 : Int) + 1))), (0, .ref (ad 99)), (1, .int (iZ ((l1 : Int)))), (2, .int (iZ ((r1 : Int)))), (3, .int (iZ (up)))]) hC 18 hl dX1_sort_18 (by decide) rfl (fun ls hl => ?_)
    have L20 : ∀ (N_ : Nat) (p : Nat) (g : Nat → Nat) (a : Nat → Int) (b_ : Nat → Int) (H : Heap) (locs : List Loc) (ls : Array Slot), r1 + 1 - p < N_ → (l1 + 1 ≤ p) → (p ≤ r1 + 1) → (sgn v up l1 p g) → (∀ i, i < n → a i = (v (g i) : Int)) → (∀ i, i < n → b_ i = (wt (g i) : Int)) → zH s0 s1 G as0 (dW ad G (va_up (va_up F 200 ((n : Int))) 203 ((n : Int))) (va_up (va_up (va_up (va_up Ar 201 a) 202 b_) 204 (Ar 201)) 205 (Ar 202)) kp pl (dPool G pr pa pm pf L)) H locs → lv_has ls 6 [(0, .ref (ad 99)), (1, .int (iZ ((l1 : Int)))), (2, .int (iZ ((r1 : Int)))), (3, .int (iZ (up))), (4, .int (iZ ((p : Int))))] → W pg lau ev (zRm 7 240 14640 164) s1 mi ar bl me cd H locs 0 0 Q (F0 mi 20 ls []) := by
      intro N_
      induction N_ with
      | zero => intro p g a b_ H locs ls hd; exact absurd hd (Nat.not_lt_zero _)
      | succ N_ ih20 =>
        intro p g a b_ H locs ls hd20 i20_1 i20_2 ig ia ib hH hl
        refine z_iload hC 20 hl dX1_sort_20 4 rfl ?_
        refine z_iload_n hC 22 hl dX1_sort_22 rfl 2 rfl ?_
        refine z_icmp_gt hC 23 118 dX1_sort_23 rfl (by omega) (by omega) (fun hb1 => ?_) (fun hb1 => ?_)
        · -- 23t
          refine z_aload_n hC 118 hl dX1_sort_118 rfl 0 rfl ?_
          refine z_same (z_runV hC hH.2.2 hl.1 hH.1 hH.2.1 0 (As := []) (rest := []) (m_X1_ends lau s0 G _ ad (va_up (va_up F 200 ((n : Int))) 203 ((n : Int))) (va_up (va_up (va_up (va_up Ar 201 a) 202 b_) 204 (Ar 201)) 205 (Ar 202)) kp pl (dPool G pr pa pm pf L) L pr pa pm pf nw n (srtF v up l1 r1 v) (srtF v up l1 r1 wt) n v wt b t fr un hm hvv hww (by first | exact hn | omega) (by first | exact hFn | rfl | omega) (by exact srtF_old (P := fun x => x < 1000) hv (by omega)) (by (rw [← sgn_e (u := v) (show sgn v up l1 (r1 + 1) g from (show p = r1 + 1 by omega) ▸ ig) (by omega)]; exact ia)) (by exact srtF_old (P := fun x => 1 ≤ x ∧ x ≤ 9) hwt (by omega)) (by (rw [← sgn_e (u := wt) (show sgn v up l1 (r1 + 1) g from (show p = r1 + 1 by omega) ▸ ig) (by omega)]; exact ib)) (by exact hn) (by first | rfl | exact hFn) (by exact hv) (by exact hAv) (by exact hwt) (by exact hAw) (by exact hb) (by exact hFb) (by exact ht) (by exact hFt) (by exact hun) (by exact hF14) (by first | exact hkt | assumption | omega) (by exact PASTD_cg hPD (fun k hk => by have := (kp_ge hkt (show k < 12 by omega)).1; (repeat rw [va_up_ne _ _ (by omega)]) <;> rfl) (fun k hk => by have := (kp_ge hkt (show k < 12 by omega)).1; constructor <;> ((repeat rw [va_up_ne _ _ (by omega)]) <;> rfl)) (fun k hk => ⟨rfl, rfl, rfl⟩)) (by first | exact hS | assumption | omega) (by first | exact hnw | assumption | omega) (by exact hmo) (by exact hpc) (by exact hfr) (by exact h16)) (lw_V q811 q813 qs22 q89 q814) ⟨rfl, by decide, by decide, by decide +kernel⟩ (q0 := 0) (ci := 1) rfl rfl rfl rfl (Nat.le_of_ble_eq_true rfl) ⟨Nat.le_of_ble_eq_true rfl, Nat.le_of_ble_eq_true rfl⟩ ⟨by first | decide | omega, by first | decide | omega⟩ dX1_sort_119) hH (fun u_ H locs hpost hH => ?_)
          obtain ⟨r_119, un2_119, hm2_119, hvv2_119, hww2_119, fr2_119, L2_119, pl2_119, pr2_119, pa2_119, pm2_119, pf2_119, kp2_119, F2_119, A2_119⟩ := u_
          obtain ⟨pD_119, pE_119, pr_119, pK_119⟩ : (DST s0 G nw b t n (srtF v up l1 r1 v) (srtF v up l1 r1 wt) un2_119 hm2_119 hvv2_119 hww2_119 fr2_119 F2_119 A2_119 kp2_119 L2_119 pl2_119 pr2_119 pa2_119 pm2_119 pf2_119) ∧ (EDT b n v wt un hm hvv hww fr n (srtF v up l1 r1 v) (srtF v up l1 r1 wt) un2_119 hm2_119 hvv2_119 hww2_119 fr2_119) ∧ (n = n → r_119 = (oth n v (srtF v up l1 r1 v) : Int)) ∧ (EKE (va_up (va_up F 200 ((n : Int))) 203 ((n : Int))) (va_up (va_up (va_up (va_up Ar 201 a) 202 b_) 204 (Ar 201)) 205 (Ar 202)) F2_119 A2_119) := hpost
          have hH : zH s0 s1 G as0 (dW ad G F2_119 A2_119 kp2_119 pl2_119 (dPool G pr2_119 pa2_119 pm2_119 pf2_119 L2_119)) H locs := hH
          refine z_st (st' := [.int (iZ (r_119))]) rfl ?_
          -- R122.1
          exact z_iret hC hH hQ 122 ((r_119, n, (srtF v up l1 r1 v), (srtF v up l1 r1 wt), un2_119, hm2_119, hvv2_119, hww2_119, fr2_119, L2_119, pl2_119, pr2_119, pa2_119, pm2_119, pf2_119, kp2_119, F2_119, A2_119)) dX1_sort_122 rfl ⟨by (unfold Sp_sort; rw [if_pos (by omega)]; first | exact ⟨rfl, rfl, rfl, rfl⟩ | exact ⟨by omega, rfl, rfl, rfl⟩ | exact ⟨pr_119 rfl, rfl, rfl, rfl⟩), by exact pE_119, by exact pD_119, by exact EKQ_of pK_119 ⟨rfl, rfl, rfl, rfl, rfl⟩⟩ rfl (by first | decide | omega) (by first | decide | omega)
        · -- 23f
          refine z_iload hC 26 hl dX1_sort_26 4 rfl ?_
          refine z_istore (lv' := [(5, .int (iZ ((p : Int)))), (0, .ref (ad 99)), (1, .int (iZ ((l1 : Int)))), (2, .int (iZ ((r1 : Int)))), (3, .int (iZ (up))), (4, .int (iZ ((p : Int))))]) hC 28 hl dX1_sort_28 (by decide) rfl (fun ls hl => ?_)
          have L30 : ∀ (N_ : Nat) (k : Nat) (g9 : Nat → Nat) (a9 : Nat → Int) (c9 : Nat → Int) (H : Heap) (locs : List Loc) (ls : Array Slot), k < N_ → (l1 ≤ k) → (k ≤ p) → (sgk v up l1 p k g9) → (∀ i, i < n → a9 i = (v (g9 i) : Int)) → (∀ i, i < n → c9 i = (wt (g9 i) : Int)) → zH s0 s1 G as0 (dW ad G (va_up (va_up F 200 ((n : Int))) 203 ((n : Int))) (va_up (va_up (va_up (va_up Ar 201 a9) 202 c9) 204 (Ar 201)) 205 (Ar 202)) kp pl (dPool G pr pa pm pf L)) H locs → lv_has ls 6 [(0, .ref (ad 99)), (1, .int (iZ ((l1 : Int)))), (2, .int (iZ ((r1 : Int)))), (3, .int (iZ (up))), (4, .int (iZ ((p : Int)))), (5, .int (iZ ((k : Int))))] → W pg lau ev (zRm 7 240 14640 164) s1 mi ar bl me cd H locs 0 0 Q (F0 mi 30 ls []) := by
            intro N_
            induction N_ with
            | zero => intro k g9 a9 c9 H locs ls hd; exact absurd hd (Nat.not_lt_zero _)
            | succ N_ ih30 =>
              intro k g9 a9 c9 H locs ls hd30 i30_1 i30_2 ik ja jb hH hl
              refine z_iload hC 30 hl dX1_sort_30 5 rfl ?_
              refine z_iload_n hC 32 hl dX1_sort_32 rfl 1 rfl ?_
              refine z_icmp_le hC 33 112 dX1_sort_33 rfl (by omega) (by omega) (fun hb2 => ?_) (fun hb2 => ?_)
              · -- 33t
                refine z_iinc (lv' := [(4, .int (iZ ((p : Int) + 1))), (0, .ref (ad 99)), (1, .int (iZ ((l1 : Int)))), (2, .int (iZ ((r1 : Int)))), (3, .int (iZ (up))), (5, .int (iZ ((k : Int))))]) hC 112 hl dX1_sort_112 4 rfl (by omega) (by decide) rfl (fun ls hl => ?_)
                refine z_goto hC 115 20 dX1_sort_115 rfl ?_
                -- J20.2
                exact ih20 (p + 1) g9 a9 c9 _ _ _ (by omega) (by first | assumption | omega) (by first | assumption | omega) (by first | exact sgn_0 | exact sgk_e ik (by omega) (by omega) (by intro q; unfold bef; first | (rw [if_pos (by omega)]; omega) | (rw [if_neg (by omega)]; omega))) (by first | exact hAv | exact ja) (by first | exact hAw | exact jb) hH (z_lv (lv_sub hl [1, 2, 3, 4, 0] rfl) (zcons rfl (zcons rfl (zcons rfl (zcons rfl (zcons (zpeq (by omega)) rfl))))))
              · -- 33f
                have hg1 := ik.2.1
                have hg2 := ik.2.2.1 (k - 1) (by omega) (by omega) (by omega)
                have hv8 := hv (g9 (k - 1)) (by omega)
                have hv9 := hv p (by omega)
                have ha8 : a9 (k - 1) = (v (g9 (k - 1)) : Int) := ja (k - 1) (by omega)
                have ha9 : a9 k = (v p : Int) := (ja k (by omega)).trans (by rw [hg1])
                refine z_iload_n hC 36 hl dX1_sort_36 rfl 3 rfl ?_
                refine z_if_eq hC 37 68 dX1_sort_37 rfl (by omega) (fun hb3 => ?_) (fun hb3 => ?_)
                · -- 37t
                  refine z_aload_n hC 68 hl dX1_sort_68 rfl 0 rfl ?_
                  refine zp_get (v := .ref (ad 200)) hC (va_P_l hH.1) 69 in_X1 rfl 4 (by decide) q210 0 rfl (rfl) dX1_sort_69 ?_
                  refine zp_getN (v := .ref (ad 201)) hC (va_P_l hH.1) 72 in_X2 rfl 0 (by decide) q141 11 rfl (rfl) dX1_sort_72 ?_
                  refine z_iload hC 75 hl dX1_sort_75 5 rfl ?_
                  refine z_iconst hC 77 dX1_sort_77 ?_
                  refine z_isub (e := (k : Int) - 1) hC 78 dX1_sort_78 rfl ?_
                  refine zp_iald (f := a9) (x := (a9 (k - 1))) hC (va_P_l hH.1) 79 12 (k - 1) rfl (by decide) (by omega) (by omega) (rfl) dX1_sort_79 ?_
                  refine z_aload_n hC 80 hl dX1_sort_80 rfl 0 rfl ?_
                  refine zp_get (v := .ref (ad 200)) hC (va_P_l hH.1) 81 in_X1 rfl 4 (by decide) q210 0 rfl (rfl) dX1_sort_81 ?_
                  refine zp_getN (v := .ref (ad 201)) hC (va_P_l hH.1) 84 in_X2 rfl 0 (by decide) q141 11 rfl (rfl) dX1_sort_84 ?_
                  refine z_iload hC 87 hl dX1_sort_87 5 rfl ?_
                  refine zp_iald (f := a9) (x := (a9 k)) hC (va_P_l hH.1) 89 12 (k) rfl (by decide) (by omega) (by omega) (rfl) dX1_sort_89 ?_
                  refine z_icmp_ge hC 90 112 dX1_sort_90 rfl (by omega) (by omega) (fun hb4 => ?_) (fun hb4 => ?_)
                  · -- 90t
                    refine z_iinc (lv' := [(4, .int (iZ ((p : Int) + 1))), (0, .ref (ad 99)), (1, .int (iZ ((l1 : Int)))), (2, .int (iZ ((r1 : Int)))), (3, .int (iZ (up))), (5, .int (iZ ((k : Int))))]) hC 112 hl dX1_sort_112 4 rfl (by omega) (by decide) rfl (fun ls hl => ?_)
                    refine z_goto hC 115 20 dX1_sort_115 rfl ?_
                    -- J20.3
                    exact ih20 (p + 1) g9 a9 c9 _ _ _ (by omega) (by first | assumption | omega) (by first | assumption | omega) (by first | exact sgn_0 | exact sgk_e ik (by omega) (by omega) (by intro q; unfold bef; first | (rw [if_pos (by omega)]; omega) | (rw [if_neg (by omega)]; omega))) (by first | exact hAv | exact ja) (by first | exact hAw | exact jb) hH (z_lv (lv_sub hl [1, 2, 3, 4, 0] rfl) (zcons rfl (zcons rfl (zcons rfl (zcons rfl (zcons (zpeq (by omega)) rfl))))))
                  · -- 90f
                    refine z_aload_n hC 93 hl dX1_sort_93 rfl 0 rfl ?_
                    refine zp_get (v := .ref (ad 200)) hC (va_P_l hH.1) 94 in_X1 rfl 4 (by decide) q210 0 rfl (rfl) dX1_sort_94 ?_
                    refine z_iload hC 97 hl dX1_sort_97 5 rfl ?_
                    refine z_iconst hC 99 dX1_sort_99 ?_
                    refine z_isub (e := (k : Int) - 1) hC 100 dX1_sort_100 rfl ?_
                    refine z_iload hC 101 hl dX1_sort_101 5 rfl ?_
                    refine z_st (st' := [.int (iZ (((k : Nat) : Int))), .int (iZ (((k - 1 : Nat) : Int))), .ref (ad 200)]) (zcons (zieq (by omega)) (zcons (zieq (by omega)) rfl)) ?_
                    refine z_sub (z_runV (wc := (rW (fun i => ad (200 + i)) G (va_up (fun _ => 0) 2 ((n : Int))) (va_up (va_up (fun _ => fun _ => 0) 0 a9) 1 c9))) hC hH.2.2 hl.1 (z_subP hH.1 [11, 12, 13] rfl) (z_subD hH.2.1 [11, 12, 13] (by decide) rfl) 2 (As := [.int (iZ (((k - 1 : Nat) : Int))), .int (iZ (((k : Nat) : Int)))]) (rest := []) (m_X2_swaps lau s0 G _ (fun i => ad (200 + i))  (va_up (fun _ => 0) 2 ((n : Int))) (fun _ => fun _ => 0) (k - 1) (k) a9 c9 (by omega) (by omega)) (lw_V q872 q873 q874 q90 q875) ⟨rfl, by decide, by decide, by decide +kernel⟩ (q0 := 0) (ci := 2) rfl rfl rfl rfl (Nat.le_of_ble_eq_true rfl) ⟨Nat.le_of_ble_eq_true rfl, Nat.le_of_ble_eq_true rfl⟩ ⟨by first | decide | omega, by first | decide | omega⟩ dX1_sort_103) hH [11, 12, 13] rfl (by decide) (fun _ => rfl) (fun _ H locs hpost hH => ?_)
                    have hH : zH s0 s1 G as0 (dW ad G (va_up (va_up F 200 ((n : Int))) 203 ((n : Int))) (va_up (va_up (va_up (va_up Ar 201 (va_up (va_up a9 (k - 1) (a9 (k))) (k) (a9 (k - 1)))) 202 (va_up (va_up c9 (k - 1) (c9 (k))) (k) (c9 (k - 1)))) 204 (Ar 201)) 205 (Ar 202)) kp pl (dPool G pr pa pm pf L)) H locs := hH
                    refine z_st (st' := []) rfl ?_
                    refine z_iinc (lv' := [(5, .int (iZ ((k : Int) - 1))), (0, .ref (ad 99)), (1, .int (iZ ((l1 : Int)))), (2, .int (iZ ((r1 : Int)))), (3, .int (iZ (up))), (4, .int (iZ ((p : Int))))]) hC 106 hl dX1_sort_106 5 rfl (by omega) (by decide) rfl (fun ls hl => ?_)
                    refine z_goto hC 109 30 dX1_sort_109 rfl ?_
                    -- J30.4
                    exact ih30 (k - 1) (swpF g9 (k - 1) k) (va_up (va_up a9 (k - 1) (a9 (k))) (k) (a9 (k - 1))) (va_up (va_up c9 (k - 1) (c9 (k))) (k) (c9 (k - 1))) _ _ _ (by omega) (by first | assumption | omega) (by first | assumption | omega) (by first | exact sgk_0 ig (by omega) | exact sgk_s ik (by omega) (by omega) (by unfold bef; first | (rw [if_pos (by omega)]; omega) | (rw [if_neg (by omega)]; omega))) (by first | exact ia | (have q9 := cv_sw (p := k - 1) (q := k) ja (by omega) (by omega); rw [sw_cg] at q9; exact q9)) (by first | exact ib | (have q9 := cv_sw (p := k - 1) (q := k) jb (by omega) (by omega); rw [sw_cg] at q9; exact q9)) hH (z_lv (lv_sub hl [1, 2, 3, 4, 5, 0] rfl) (zcons rfl (zcons rfl (zcons rfl (zcons rfl (zcons rfl (zcons (zpeq (by omega)) rfl)))))))
                · -- 37f
                  refine z_aload_n hC 40 hl dX1_sort_40 rfl 0 rfl ?_
                  refine zp_get (v := .ref (ad 200)) hC (va_P_l hH.1) 41 in_X1 rfl 4 (by decide) q210 0 rfl (rfl) dX1_sort_41 ?_
                  refine zp_getN (v := .ref (ad 201)) hC (va_P_l hH.1) 44 in_X2 rfl 0 (by decide) q141 11 rfl (rfl) dX1_sort_44 ?_
                  refine z_iload hC 47 hl dX1_sort_47 5 rfl ?_
                  refine z_iconst hC 49 dX1_sort_49 ?_
                  refine z_isub (e := (k : Int) - 1) hC 50 dX1_sort_50 rfl ?_
                  refine zp_iald (f := a9) (x := (a9 (k - 1))) hC (va_P_l hH.1) 51 12 (k - 1) rfl (by decide) (by omega) (by omega) (rfl) dX1_sort_51 ?_
                  refine z_aload_n hC 52 hl dX1_sort_52 rfl 0 rfl ?_
                  refine zp_get (v := .ref (ad 200)) hC (va_P_l hH.1) 53 in_X1 rfl 4 (by decide) q210 0 rfl (rfl) dX1_sort_53 ?_
                  refine zp_getN (v := .ref (ad 201)) hC (va_P_l hH.1) 56 in_X2 rfl 0 (by decide) q141 11 rfl (rfl) dX1_sort_56 ?_
                  refine z_iload hC 59 hl dX1_sort_59 5 rfl ?_
                  refine zp_iald (f := a9) (x := (a9 k)) hC (va_P_l hH.1) 61 12 (k) rfl (by decide) (by omega) (by omega) (rfl) dX1_sort_61 ?_
                  refine z_icmp_le hC 62 112 dX1_sort_62 rfl (by omega) (by omega) (fun hb5 => ?_) (fun hb5 => ?_)
                  · -- 62t
                    refine z_iinc (lv' := [(4, .int (iZ ((p : Int) + 1))), (0, .ref (ad 99)), (1, .int (iZ ((l1 : Int)))), (2, .int (iZ ((r1 : Int)))), (3, .int (iZ (up))), (5, .int (iZ ((k : Int))))]) hC 112 hl dX1_sort_112 4 rfl (by omega) (by decide) rfl (fun ls hl => ?_)
                    refine z_goto hC 115 20 dX1_sort_115 rfl ?_
                    -- J20.5
                    exact ih20 (p + 1) g9 a9 c9 _ _ _ (by omega) (by first | assumption | omega) (by first | assumption | omega) (by first | exact sgn_0 | exact sgk_e ik (by omega) (by omega) (by intro q; unfold bef; first | (rw [if_pos (by omega)]; omega) | (rw [if_neg (by omega)]; omega))) (by first | exact hAv | exact ja) (by first | exact hAw | exact jb) hH (z_lv (lv_sub hl [1, 2, 3, 4, 0] rfl) (zcons rfl (zcons rfl (zcons rfl (zcons rfl (zcons (zpeq (by omega)) rfl))))))
                  · -- 62f
                    refine z_goto hC 65 93 dX1_sort_65 rfl ?_
                    refine z_aload_n hC 93 hl dX1_sort_93 rfl 0 rfl ?_
                    refine zp_get (v := .ref (ad 200)) hC (va_P_l hH.1) 94 in_X1 rfl 4 (by decide) q210 0 rfl (rfl) dX1_sort_94 ?_
                    refine z_iload hC 97 hl dX1_sort_97 5 rfl ?_
                    refine z_iconst hC 99 dX1_sort_99 ?_
                    refine z_isub (e := (k : Int) - 1) hC 100 dX1_sort_100 rfl ?_
                    refine z_iload hC 101 hl dX1_sort_101 5 rfl ?_
                    refine z_st (st' := [.int (iZ (((k : Nat) : Int))), .int (iZ (((k - 1 : Nat) : Int))), .ref (ad 200)]) (zcons (zieq (by omega)) (zcons (zieq (by omega)) rfl)) ?_
                    refine z_sub (z_runV (wc := (rW (fun i => ad (200 + i)) G (va_up (fun _ => 0) 2 ((n : Int))) (va_up (va_up (fun _ => fun _ => 0) 0 a9) 1 c9))) hC hH.2.2 hl.1 (z_subP hH.1 [11, 12, 13] rfl) (z_subD hH.2.1 [11, 12, 13] (by decide) rfl) 2 (As := [.int (iZ (((k - 1 : Nat) : Int))), .int (iZ (((k : Nat) : Int)))]) (rest := []) (m_X2_swaps lau s0 G _ (fun i => ad (200 + i))  (va_up (fun _ => 0) 2 ((n : Int))) (fun _ => fun _ => 0) (k - 1) (k) a9 c9 (by omega) (by omega)) (lw_V q872 q873 q874 q90 q875) ⟨rfl, by decide, by decide, by decide +kernel⟩ (q0 := 0) (ci := 2) rfl rfl rfl rfl (Nat.le_of_ble_eq_true rfl) ⟨Nat.le_of_ble_eq_true rfl, Nat.le_of_ble_eq_true rfl⟩ ⟨by first | decide | omega, by first | decide | omega⟩ dX1_sort_103) hH [11, 12, 13] rfl (by decide) (fun _ => rfl) (fun _ H locs hpost hH => ?_)
                    have hH : zH s0 s1 G as0 (dW ad G (va_up (va_up F 200 ((n : Int))) 203 ((n : Int))) (va_up (va_up (va_up (va_up Ar 201 (va_up (va_up a9 (k - 1) (a9 (k))) (k) (a9 (k - 1)))) 202 (va_up (va_up c9 (k - 1) (c9 (k))) (k) (c9 (k - 1)))) 204 (Ar 201)) 205 (Ar 202)) kp pl (dPool G pr pa pm pf L)) H locs := hH
                    refine z_st (st' := []) rfl ?_
                    refine z_iinc (lv' := [(5, .int (iZ ((k : Int) - 1))), (0, .ref (ad 99)), (1, .int (iZ ((l1 : Int)))), (2, .int (iZ ((r1 : Int)))), (3, .int (iZ (up))), (4, .int (iZ ((p : Int))))]) hC 106 hl dX1_sort_106 5 rfl (by omega) (by decide) rfl (fun ls hl => ?_)
                    refine z_goto hC 109 30 dX1_sort_109 rfl ?_
                    -- J30.6
                    exact ih30 (k - 1) (swpF g9 (k - 1) k) (va_up (va_up a9 (k - 1) (a9 (k))) (k) (a9 (k - 1))) (va_up (va_up c9 (k - 1) (c9 (k))) (k) (c9 (k - 1))) _ _ _ (by omega) (by first | assumption | omega) (by first | assumption | omega) (by first | exact sgk_0 ig (by omega) | exact sgk_s ik (by omega) (by omega) (by unfold bef; first | (rw [if_pos (by omega)]; omega) | (rw [if_neg (by omega)]; omega))) (by first | exact ia | (have q9 := cv_sw (p := k - 1) (q := k) ja (by omega) (by omega); rw [sw_cg] at q9; exact q9)) (by first | exact ib | (have q9 := cv_sw (p := k - 1) (q := k) jb (by omega) (by omega); rw [sw_cg] at q9; exact q9)) hH (z_lv (lv_sub hl [1, 2, 3, 4, 5, 0] rfl) (zcons rfl (zcons rfl (zcons rfl (zcons rfl (zcons rfl (zcons (zpeq (by omega)) rfl)))))))
          -- J30.7
          exact L30 _ p g a b_ _ _ _ (Nat.lt_succ_self _) (by first | assumption | omega) (by first | assumption | omega) (by first | exact sgk_0 ig (by omega) | exact sgk_s ik (by omega) (by omega) (by unfold bef; first | (rw [if_pos (by omega)]; omega) | (rw [if_neg (by omega)]; omega))) (by first | exact ia | (have q9 := cv_sw (p := k - 1) (q := k) ja (by omega) (by omega); rw [sw_cg] at q9; exact q9)) (by first | exact ib | (have q9 := cv_sw (p := k - 1) (q := k) jb (by omega) (by omega); rw [sw_cg] at q9; exact q9)) hH (lv_sub hl [1, 2, 3, 4, 5, 0] rfl)
    -- J20.8
    exact L20 _ (l1 + 1) (fun j => j) (Ar 201) (Ar 202) _ _ _ (Nat.lt_succ_self _) (by first | assumption | omega) (by first | assumption | omega) (by first | exact sgn_0 | exact sgk_e ik (by omega) (by omega) (by intro q; unfold bef; first | (rw [if_pos (by omega)]; omega) | (rw [if_neg (by omega)]; omega))) (by first | exact hAv | exact ja) (by first | exact hAw | exact jb) hH (z_lv (lv_sub hl [1, 2, 3, 4, 0] rfl) (zcons rfl (zcons rfl (zcons rfl (zcons rfl (zcons (zpeq (by omega)) rfl))))))
  · -- 3=0
    refine z_if_ne_f hC 6 11 dX1_sort_6 rfl (by omega) (by omega) ?_
    refine z_iconst hC 9 dX1_sort_9 ?_
    -- R10.9
    exact z_iret hC hH hQ 10 (((-1), n, v, wt, un, hm, hvv, hww, fr, L, pl, pr, pa, pm, pf, kp, F, Ar)) dX1_sort_10 rfl ⟨by (unfold Sp_sort; rw [if_neg (by omega)]; exact ⟨rfl, rfl, rfl, rfl⟩), by exact EDT_none, by exact hD, by exact ⟨rfl, rfl, rfl, rfl, rfl⟩⟩ rfl (by first | decide | omega) (by first | decide | omega)
