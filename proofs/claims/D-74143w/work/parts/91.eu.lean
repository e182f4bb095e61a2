/-! methods of ModeDesk that write: 91.eu -/
set_option maxHeartbeats 16000000 in
set_option maxRecDepth 100000 in
theorem m_X1_replace (lau : Launch) (s0 : State) (G : zG) (sz : Nat) (ad : Nat → Nat) (F : Nat → Int) (Ar : Nat → Nat → Int) (kp : Nat → Nat) (pl : Nat → Option Nat) (PW : va_W) (L : List Nat) (pr : Nat → Nat) (pa : Nat → Nat) (pm : Nat → Nat) (pf : Nat → Nat → Nat) (nw : Nat) (b : Nat) (t : Nat) (n : Nat) (v : Nat → Nat) (wt : Nat → Nat) (un : Nat) (hm : Nat → Nat) (hvv : Nat → Nat → Nat) (hww : Nat → Nat → Nat) (fr : Int) (x : Int) (y : Int) (hD : DST s0 G nw b t n v wt un hm hvv hww fr F Ar kp L pl pr pa pm pf) (hnw : zNwh s0 nw) (hr_x : -2147483648 ≤ x ∧ x < 2147483648) (hr_y : -2147483648 ≤ y ∧ y < 2147483648) (hB : zBxs s0) : zMet (S := Int × Nat × (Nat → Nat) × (Nat → Nat) × Nat × (Nat → Nat) × (Nat → Nat → Nat) × (Nat → Nat → Nat) × Int × List Nat × (Nat → Option Nat) × (Nat → Nat) × (Nat → Nat) × (Nat → Nat) × (Nat → Nat → Nat) × (Nat → Nat) × (Nat → Int) × (Nat → Nat → Int)) lau yX1_replace cX1_replace 5 (some .int) 7 164 241 14642 s0 G sz [.ref (ad 99), .int (iZ (x)), .int (iZ (y))] (dW ad G F Ar kp pl (dPool G pr pa pm pf L)) (fun ((r_, n2, v2, w2, un2, hm2, hvv2, hww2, fr2, L2, pl2, pr2, pa2, pm2, pf2, kp2, F2, A2) : Int × Nat × (Nat → Nat) × (Nat → Nat) × Nat × (Nat → Nat) × (Nat → Nat → Nat) × (Nat → Nat → Nat) × Int × List Nat × (Nat → Option Nat) × (Nat → Nat) × (Nat → Nat) × (Nat → Nat) × (Nat → Nat → Nat) × (Nat → Nat) × (Nat → Int) × (Nat → Nat → Int)) => some (.int (iZ (r_)))) (fun ((r_, n2, v2, w2, un2, hm2, hvv2, hww2, fr2, L2, pl2, pr2, pa2, pm2, pf2, kp2, F2, A2) : Int × Nat × (Nat → Nat) × (Nat → Nat) × Nat × (Nat → Nat) × (Nat → Nat → Nat) × (Nat → Nat → Nat) × Int × List Nat × (Nat → Option Nat) × (Nat → Nat) × (Nat → Nat) × (Nat → Nat) × (Nat → Nat → Nat) × (Nat → Nat) × (Nat → Int) × (Nat → Nat → Int)) => (Sp_replace n v wt x y r_ n2 v2 w2) ∧ (EDT b n v wt un hm hvv hww fr n2 v2 w2 un2 hm2 hvv2 hww2 fr2) ∧ (DST s0 G nw b t n2 v2 w2 un2 hm2 hvv2 hww2 fr2 F2 A2 kp2 L2 pl2 pr2 pa2 pm2 pf2) ∧ (EKQ F Ar F2 A2)) (fun ((r_, n2, v2, w2, un2, hm2, hvv2, hww2, fr2, L2, pl2, pr2, pa2, pm2, pf2, kp2, F2, A2) : Int × Nat × (Nat → Nat) × (Nat → Nat) × Nat × (Nat → Nat) × (Nat → Nat → Nat) × (Nat → Nat → Nat) × Int × List Nat × (Nat → Option Nat) × (Nat → Nat) × (Nat → Nat) × (Nat → Nat) × (Nat → Nat → Nat) × (Nat → Nat) × (Nat → Int) × (Nat → Nat → Int)) => (dW ad G F2 A2 kp2 pl2 (dPool G pr2 pa2 pm2 pf2 L2))) := by
  refine zMet.of (by decide) (Nat.le_of_ble_eq_true rfl) ?_
  intro pg ev s1 mi ar bl me cd ls Q as0 hC hH hl hQ hsz
  generalize s1.heap = H at hH ⊢
  generalize ([] : List Loc) = locs at hH ⊢
  have hl : lv_has ls 5 [(0, .ref (ad 99)), (1, .int (iZ (x))), (2, .int (iZ (y)))] := hl
  obtain ⟨⟨hn, hFn, hv, hAv, hwt, hAw⟩, ⟨hb, hFb, ht, hFt⟩, ⟨hun, hF14, hkt, hPD⟩, ⟨hS, hpc⟩, hmo, hfr, h16⟩ := id hD
  have hpl := PLS_pl hS
  have hpp := PLS_pool hS
  refine z_iload_n hC 0 hl dX1_replace_0 rfl 1 rfl ?_
  refine zp_back (zp_runS hC (hH.2.2) hl.1 (zp_nil) 1 (As := [.int (iZ (x))]) (rest := []) (u_X1_isValue lau s0 G x (by first | assumption | omega)) (lw_S q803 q804 q89 q805) ⟨by decide, by decide, by decide +kernel⟩ rfl rfl (Nat.le_of_ble_eq_true rfl) ⟨Nat.le_of_ble_eq_true rfl, Nat.le_of_ble_eq_true rfl⟩ ⟨by first | decide | omega, by first | decide | omega⟩ dX1_replace_1) (fun r_1 hpost => ?_)
  have hb_1 : (r_1 = 1 ∧ (0 ≤ x ∧ x < 1000)) ∨ (r_1 = 0 ∧ ¬ (0 ≤ x ∧ x < 1000)) := hpost
  refine z_st (st' := [.int (iZ (r_1))]) rfl ?_
  rcases hb_1 with ⟨rfl, hb_1⟩ | ⟨rfl, hb_1⟩
  · -- 1=1
    refine z_if_eq_f hC 4 14 dX1_replace_4 rfl (by omega) (by omega) ?_
    refine z_iload_n hC 7 hl dX1_replace_7 rfl 2 rfl ?_
    refine zp_back (zp_runS hC (hH.2.2) hl.1 (zp_nil) 1 (As := [.int (iZ (y))]) (rest := []) (u_X1_isValue lau s0 G y (by first | assumption | omega)) (lw_S q803 q804 q89 q805) ⟨by decide, by decide, by decide +kernel⟩ rfl rfl (Nat.le_of_ble_eq_true rfl) ⟨Nat.le_of_ble_eq_true rfl, Nat.le_of_ble_eq_true rfl⟩ ⟨by first | decide | omega, by first | decide | omega⟩ dX1_replace_8) (fun r_8 hpost => ?_)
    have hb_8 : (r_8 = 1 ∧ (0 ≤ y ∧ y < 1000)) ∨ (r_8 = 0 ∧ ¬ (0 ≤ y ∧ y < 1000)) := hpost
    refine z_st (st' := [.int (iZ (r_8))]) rfl ?_
    rcases hb_8 with ⟨rfl, hb_8⟩ | ⟨rfl, hb_8⟩
    · -- 8=1
      refine z_if_ne_t hC 11 16 dX1_replace_11 rfl (by omega) (by omega) ?_
      obtain ⟨x1, rfl⟩ := Int.eq_ofNat_of_zero_le (show 0 ≤ x by omega)
      obtain ⟨y1, rfl⟩ := Int.eq_ofNat_of_zero_le (show 0 ≤ y by omega)
      refine z_aload_n hC 16 hl dX1_replace_16 rfl 0 rfl ?_
      have hH : zH s0 s1 G as0 (dW ad G (va_up F 200 ((F 200))) Ar kp pl (dPool G pr pa pm pf L)) H locs := hH
      rw [show ((F 200) : Int) = (n : Int) from by omega] at hH
      have hH : zH s0 s1 G as0 (dW ad G (va_up F 200 ((n : Int))) Ar kp pl (dPool G pr pa pm pf L)) H locs := hH
      refine z_same (z_runV hC hH.2.2 hl.1 hH.1 hH.2.1 0 (As := []) (rest := []) (m_X1_begins lau s0 G _ ad (va_up F 200 ((n : Int))) Ar kp pl (dPool G pr pa pm pf L) (n : Int) (Ar 201) (Ar 202) ) (lw_V q807 q809 qs21 q89 q810) ⟨rfl, by decide, by decide, by decide +kernel⟩ (q0 := 0) (ci := 1) rfl rfl rfl rfl (Nat.le_of_ble_eq_true rfl) ⟨Nat.le_of_ble_eq_true rfl, Nat.le_of_ble_eq_true rfl⟩ ⟨Nat.le_of_ble_eq_true rfl, Nat.le_of_ble_eq_true rfl⟩ dX1_replace_17) hH (fun _ H locs hpost hH => ?_)
      have hH : zH s0 s1 G as0 (dW ad G (va_up (va_up F 200 ((n : Int))) 203 ((n : Int))) (va_up (va_up Ar 204 (Ar 201)) 205 (Ar 202)) kp pl (dPool G pr pa pm pf L)) H locs := hH
      refine z_st (st' := []) rfl ?_
      refine z_aload_n hC 20 hl dX1_replace_20 rfl 0 rfl ?_
      refine z_iload_n hC 21 hl dX1_replace_21 rfl 1 rfl ?_
      refine zp_back (zp_runV hC (hH.2.2) hl.1 (va_P_l hH.1) 1 (As := [.int (iZ ((x1 : Int)))]) (rest := []) (u_X1_of lau s0 G ad (va_up (va_up F 200 ((n : Int))) 203 ((n : Int))) (va_up (va_up Ar 204 (Ar 201)) 205 (Ar 202)) kp pl x1 (pr x1) nw (by first | assumption | omega) (by first | exact hpl | (first | assumption | exact hpl _ (by omega)) | assumption | omega) (by first | exact hnw | assumption | omega)) (lw_V q736 q738 qs17 q89 q739) ⟨rfl, by decide, by decide, by decide +kernel⟩ (q0 := 0) (ci := 1) rfl rfl rfl rfl (Nat.le_of_ble_eq_true rfl) ⟨Nat.le_of_ble_eq_true rfl, Nat.le_of_ble_eq_true rfl⟩ ⟨by first | decide | omega, by first | decide | omega⟩ dX1_replace_22) (fun _ hpost => ?_)
      refine z_st (st' := [.ref ((pr x1))]) rfl ?_
      have hpy := hpc x1 (by omega)
      have hmx := PlC_120 hpy hn
      refine z_iter hC hH hl.1 (dWp hH hpp (y := x1) (by omega)) 25 q888 (rest := []) (Nat.le_of_ble_eq_true rfl) ⟨Nat.le_of_ble_eq_true rfl, Nat.le_of_ble_eq_true rfl⟩ ⟨by first | decide | omega, by first | decide | omega⟩ dX1_replace_25 (fun w25 H locs hH => ?_)
      rw [dW_app] at hH
      have hH : zH s0 s1 G as0 (dW ad G (va_up (va_up F 200 ((n : Int))) 203 ((n : Int))) (va_up (va_up Ar 204 (Ar 201)) 205 (Ar 202)) kp pl ((dPool G pr pa pm pf L) ++ [(w25, .inr (10, [.int (iZ ((0 : Nat) : Int)), .ref (pr x1)]))])) H locs := hH
      refine z_astore_n (lv' := [(3, .ref (w25)), (0, .ref (ad 99)), (1, .int (iZ ((x1 : Int)))), (2, .int (iZ ((y1 : Int))))]) hC 28 hl dX1_replace_28 rfl (by decide) rfl (fun ls hl => ?_)
      have L29 : ∀ (N_ : Nat) (k : Nat) (tv : Nat → Nat) (a : Nat → Int) (H : Heap) (locs : List Loc) (ls : Array Slot), pm x1 - k < N_ → (k ≤ pm x1) → (∀ j, j < n → tv j = if v j = x1 ∧ j < pK (pf x1) k then y1 else v j) → (∀ i, i < n → a i = (tv i : Int)) → zH s0 s1 G as0 (dW ad G (va_up (va_up F 200 ((n : Int))) 203 ((n : Int))) (va_up (va_up (va_up Ar 201 a) 204 (Ar 201)) 205 (Ar 202)) kp pl ((dPool G pr pa pm pf L) ++ [(w25, .inr (10, [.int (iZ ((k : Nat) : Int)), .ref (pr x1)]))])) H locs → lv_has ls 5 [(0, .ref (ad 99)), (1, .int (iZ ((x1 : Int)))), (2, .int (iZ ((y1 : Int)))), (3, .ref (w25))] → W pg lau ev (zRm 7 241 14642 164) s1 mi ar bl me cd H locs (0 + 1) (0 + 2) Q (F0 mi 29 ls []) := by
        intro N_
        induction N_ with
        | zero => intro k tv a H locs ls hd; exact absurd hd (Nat.not_lt_zero _)
        | succ N_ ih29 =>
          intro k tv a H locs ls hd29 i29_1 it ia hH hl
          refine z_aload_n hC 29 hl dX1_replace_29 rfl 3 rfl ?_
          refine z_hasN (k := k) (y := x1) hC hH hl.1 hpp (by omega) hmx (by omega) 30 q906 (rest := []) (Nat.le_of_ble_eq_true rfl) ⟨Nat.le_of_ble_eq_true rfl, Nat.le_of_ble_eq_true rfl⟩ ⟨by first | decide | omega, by first | decide | omega⟩ dX1_replace_30 (fun r_ hb_30 => ?_)
          rcases hb_30 with ⟨rfl, hb_30⟩ | ⟨rfl, hb_30⟩
          · -- 30=1
            refine z_if_eq_f hC 35 66 dX1_replace_35 rfl (by omega) (by omega) ?_
            refine z_aload_n hC 38 hl dX1_replace_38 rfl 3 rfl ?_
            have hfk := hpy.2 (k) (by omega)
            refine z_nextN (k := k) (y := x1) hC hH hl.1 hpp (by omega) hmx (by omega) (by omega) hB 39 q922 (rest := []) (Nat.le_of_ble_eq_true rfl) ⟨Nat.le_of_ble_eq_true rfl, Nat.le_of_ble_eq_true rfl⟩ ⟨by first | decide | omega, by first | decide | omega⟩ dX1_replace_39 (fun b_39 H locs hbx hH => ?_)
            have hH : zH s0 s1 G as0 (dW ad G (va_up (va_up F 200 ((n : Int))) 203 ((n : Int))) (va_up (va_up (va_up Ar 201 a) 204 (Ar 201)) 205 (Ar 202)) kp pl ((dPool G pr pa pm pf L) ++ [(w25, .inr (10, [.int (iZ ((k + 1 : Nat) : Int)), .ref (pr x1)]))])) H locs := hH
            refine z_castB hC hH.2.2 44 hbx q1018 dX1_replace_44 ?_
            refine z_intV hC hH.2.2 hl.1 hbx 47 q1019 (rest := []) (Nat.le_of_ble_eq_true rfl) ⟨Nat.le_of_ble_eq_true rfl, Nat.le_of_ble_eq_true rfl⟩ ⟨by first | decide | omega, by first | decide | omega⟩ dX1_replace_47 ?_
            refine z_istore (lv' := [(4, .int (iZ (((pf x1 (k) : Nat) : Int)))), (0, .ref (ad 99)), (1, .int (iZ ((x1 : Int)))), (2, .int (iZ ((y1 : Int)))), (3, .ref (w25))]) hC 50 hl dX1_replace_50 (by decide) rfl (fun ls hl => ?_)
            refine z_aload_n hC 52 hl dX1_replace_52 rfl 1 rfl ?_
            refine zp_get (v := .ref (ad 200)) hC (va_P_l hH.1) 53 in_X1 rfl 4 (by decide) q210 0 rfl (rfl) dX1_replace_53 ?_
            refine zp_getN (v := .ref (ad 201)) hC (va_P_l hH.1) 56 in_X2 rfl 0 (by decide) q141 11 rfl (rfl) dX1_replace_56 ?_
            refine z_iload hC 59 hl dX1_replace_59 0 rfl ?_
            refine z_iload_n hC 61 hl dX1_replace_61 rfl 3 rfl ?_
            refine sD_201 (f' := (va_up a ((pf x1 (k))) ((y1 : Int)))) hC hH 62 ((pf x1 (k))) (by omega) (by omega) rfl dX1_replace_62 (fun H locs hH => ?_)
            have hH : zH s0 s1 G as0 (dW ad G (va_up (va_up F 200 ((n : Int))) 203 ((n : Int))) (va_up (va_up (va_up Ar 201 (va_up a ((pf x1 (k))) ((y1 : Int)))) 204 (Ar 201)) 205 (Ar 202)) kp pl ((dPool G pr pa pm pf L) ++ [(w25, .inr (10, [.int (iZ ((k + 1 : Nat) : Int)), .ref (pr x1)]))])) H locs := hH
            refine z_goto hC 63 29 dX1_replace_63 rfl ?_
            -- J29.1
            exact ih29 (k + 1) (va_up tv (pf x1 k) y1) (va_up a ((pf x1 (k))) ((y1 : Int))) _ _ _ (by omega) (by first | assumption | omega) (by first | (intro j hj; rw [pK_0, if_neg (by omega)]) | exact rp_s hpy (by omega) it) (by first | exact hAv | exact cv_upz ia (by omega)) hH (lv_sub hl [1, 2, 3, 4] rfl)
          · -- 30=0
            refine z_if_eq_t hC 35 66 dX1_replace_35 rfl (by omega) (by omega) ?_
            refine z_aload_n hC 66 hl dX1_replace_66 rfl 0 rfl ?_
            rw [← dW_app] at hH
            have hH := zH_l hH
            have hH : zH s0 s1 G as0 (dW ad G (va_up (va_up F 200 ((n : Int))) 203 ((n : Int))) (va_up (va_up (va_up Ar 201 a) 204 (Ar 201)) 205 (Ar 202)) kp pl (dPool G pr pa pm pf L)) H locs := hH
            refine z_same (z_runV hC hH.2.2 hl.1 hH.1 hH.2.1 0 (As := []) (rest := []) (m_X1_ends lau s0 G _ ad (va_up (va_up F 200 ((n : Int))) 203 ((n : Int))) (va_up (va_up (va_up Ar 201 a) 204 (Ar 201)) 205 (Ar 202)) kp pl (dPool G pr pa pm pf L) L pr pa pm pf nw n (repF v x1 y1) wt n v wt b t fr un hm hvv hww (by first | exact hn | omega) (by first | exact hFn | rfl | omega) (by exact repF_old (P := fun x => x < 1000) hv (by omega)) (by exact fun i hi => (ia i hi).trans (by rw [rp_e hpy (by omega) it i hi])) (by exact hwt) (by exact hAw) (by exact hn) (by first | rfl | exact hFn) (by exact hv) (by exact hAv) (by exact hwt) (by exact hAw) (by exact hb) (by exact hFb) (by exact ht) (by exact hFt) (by exact hun) (by exact hF14) (by first | exact hkt | assumption | omega) (by exact PASTD_cg hPD (fun k hk => by have := (kp_ge hkt (show k < 12 by omega)).1; (repeat rw [va_up_ne _ _ (by omega)]) <;> rfl) (fun k hk => by have := (kp_ge hkt (show k < 12 by omega)).1; constructor <;> ((repeat rw [va_up_ne _ _ (by omega)]) <;> rfl)) (fun k hk => ⟨rfl, rfl, rfl⟩)) (by first | exact hS | assumption | omega) (by first | exact hnw | assumption | omega) (by exact hmo) (by exact hpc) (by exact hfr) (by exact h16)) (lw_V q811 q813 qs22 q89 q814) ⟨rfl, by decide, by decide, by decide +kernel⟩ (q0 := 0) (ci := 1) rfl rfl rfl rfl (Nat.le_of_ble_eq_true rfl) ⟨Nat.le_of_ble_eq_true rfl, Nat.le_of_ble_eq_true rfl⟩ ⟨by first | decide | omega, by first | decide | omega⟩ dX1_replace_67) hH (fun u_ H locs hpost hH => ?_)
            obtain ⟨r_67, un2_67, hm2_67, hvv2_67, hww2_67, fr2_67, L2_67, pl2_67, pr2_67, pa2_67, pm2_67, pf2_67, kp2_67, F2_67, A2_67⟩ := u_
            obtain ⟨pD_67, pE_67, pr_67, pK_67⟩ : (DST s0 G nw b t n (repF v x1 y1) wt un2_67 hm2_67 hvv2_67 hww2_67 fr2_67 F2_67 A2_67 kp2_67 L2_67 pl2_67 pr2_67 pa2_67 pm2_67 pf2_67) ∧ (EDT b n v wt un hm hvv hww fr n (repF v x1 y1) wt un2_67 hm2_67 hvv2_67 hww2_67 fr2_67) ∧ (n = n → r_67 = (oth n v (repF v x1 y1) : Int)) ∧ (EKE (va_up (va_up F 200 ((n : Int))) 203 ((n : Int))) (va_up (va_up (va_up Ar 201 a) 204 (Ar 201)) 205 (Ar 202)) F2_67 A2_67) := hpost
            have hH : zH s0 s1 G as0 (dW ad G F2_67 A2_67 kp2_67 pl2_67 (dPool G pr2_67 pa2_67 pm2_67 pf2_67 L2_67)) H locs := hH
            refine z_st (st' := [.int (iZ (r_67))]) rfl ?_
            -- R70.2
            exact z_iret hC hH hQ 70 ((r_67, n, (repF v x1 y1), wt, un2_67, hm2_67, hvv2_67, hww2_67, fr2_67, L2_67, pl2_67, pr2_67, pa2_67, pm2_67, pf2_67, kp2_67, F2_67, A2_67)) dX1_replace_70 rfl ⟨by (unfold Sp_replace; rw [if_pos (by omega)]; first | exact ⟨rfl, rfl, rfl, rfl⟩ | exact ⟨by omega, rfl, rfl, rfl⟩ | exact ⟨pr_67 rfl, rfl, rfl, rfl⟩), by exact pE_67, by exact pD_67, by exact EKQ_of pK_67 ⟨rfl, rfl, rfl, rfl, rfl⟩⟩ rfl (by first | decide | omega) (by first | decide | omega)
      -- J29.3
      exact L29 _ 0 v (Ar 201) _ _ _ (Nat.lt_succ_self _) (by first | assumption | omega) (by first | (intro j hj; rw [pK_0, if_neg (by omega)]) | exact rp_s hpy (by omega) it) (by first | exact hAv | exact cv_upz ia (by omega)) hH (lv_sub hl [1, 2, 3, 0] rfl)
    · -- 8=0
      refine z_if_ne_f hC 11 16 dX1_replace_11 rfl (by omega) (by omega) ?_
      refine z_iconst hC 14 dX1_replace_14 ?_
      -- R15.4
      exact z_iret hC hH hQ 15 (((-1), n, v, wt, un, hm, hvv, hww, fr, L, pl, pr, pa, pm, pf, kp, F, Ar)) dX1_replace_15 rfl ⟨by (unfold Sp_replace; rw [if_neg (by omega)]; exact ⟨rfl, rfl, rfl, rfl⟩), by exact EDT_none, by exact hD, by exact ⟨rfl, rfl, rfl, rfl, rfl⟩⟩ rfl (by first | decide | omega) (by first | decide | omega)
  · -- 1=0
    refine z_if_eq_t hC 4 14 dX1_replace_4 rfl (by omega) (by omega) ?_
    refine z_iconst hC 14 dX1_replace_14 ?_
    -- R15.5
    exact z_iret hC hH hQ 15 (((-1), n, v, wt, un, hm, hvv, hww, fr, L, pl, pr, pa, pm, pf, kp, F, Ar)) dX1_replace_15 rfl ⟨by (unfold Sp_replace; rw [if_neg (by omega)]; exact ⟨rfl, rfl, rfl, rfl⟩), by exact EDT_none, by exact hD, by exact ⟨rfl, rfl, rfl, rfl, rfl⟩⟩ rfl (by first | decide | omega) (by first | decide | omega)
