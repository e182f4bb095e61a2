/-! methods of ModeDesk that write: 93.ew -/
set_option maxHeartbeats 4000000 in
set_option maxRecDepth 100000 in
theorem m_X1_heaviest (lau : Launch) (s0 : State) (G : zG) (sz : Nat) (ad : Nat → Nat) (F : Nat → Int) (Ar : Nat → Nat → Int) (kp : Nat → Nat) (pl : Nat → Option Nat) (PW : va_W) (n : Nat) (v : Nat → Nat) (pr : Nat → Nat) (pa : Nat → Nat) (pm : Nat → Nat) (pf : Nat → Nat → Nat) (nw : Nat) (b : Nat) (t : Nat) (wt : Nat → Nat) (l : Int) (r : Int) (q : Int) (hn : n ≤ 120) (hFn : F 200 = (n : Int)) (hv : ∀ i, i < n → v i < 1000) (hAv : ∀ i, i < n → Ar 201 i = (v i : Int)) (hb : 2 ≤ b ∧ b ≤ 20) (hFb : F 7 = (b : Int)) (ht : t < 4) (hFt : F 8 = (t : Int)) (hpl : ∀ y, y < 1000 → (pl y = some (pr y) ∨ (pl y = none ∧ pr y = nw))) (hnw : zNwh s0 nw) (hpc : ∀ y, y < 1000 → PlC n v y (pm y) (pf y)) (hpp : zPool s0 G PW pr pa pm pf) (hmo : ∀ i j, i ≤ j → b * j < n → Ar 12 (60 * i + j) = (md v (b * i) (bEnd b j n) t : Int)) (hr_l : -2147483648 ≤ l ∧ l < 2147483648) (hr_r : -2147483648 ≤ r ∧ r < 2147483648) (hr_q : -2147483648 ≤ q ∧ q < 2147483648) (hwt : ∀ i, i < n → 1 ≤ wt i ∧ wt i ≤ 9) (hAw : ∀ i, i < n → Ar 202 i = (wt i : Int)) (hB : zBxs s0) : zMet (S := Int × (Nat → Int) × (Nat → Nat → Int)) lau yX1_heaviest cX1_heaviest 7 (some .int) 5 121 242 486 s0 G sz [.ref (ad 99), .int (iZ (l)), .int (iZ (r)), .int (iZ (q))] (dW ad G F (va_up Ar 16 zZ) kp pl PW) (fun ((r_, F2, A2) : Int × (Nat → Int) × (Nat → Nat → Int)) => some (.int (iZ (r_)))) (fun ((r_, F2, A2) : Int × (Nat → Int) × (Nat → Nat → Int)) => (Sp_heaviest n v wt t l r q r_) ∧ (DK F (va_up Ar 16 zZ) F2 A2)) (fun ((r_, F2, A2) : Int × (Nat → Int) × (Nat → Nat → Int)) => (dW ad G F2 A2 kp pl PW)) := by
  refine zMet.of (by decide) (Nat.le_of_ble_eq_true rfl) ?_
  intro pg ev s1 mi ar bl me cd ls Q as0 hC hH hl hQ hsz
  generalize s1.heap = H at hH ⊢
  generalize ([] : List Loc) = locs at hH ⊢
  have hl : lv_has ls 7 [(0, .ref (ad 99)), (1, .int (iZ (l))), (2, .int (iZ (r))), (3, .int (iZ (q)))] := hl
  refine z_aload_n hC 0 hl dX1_heaviest_0 rfl 0 rfl ?_
  refine z_iload_n hC 1 hl dX1_heaviest_1 rfl 1 rfl ?_
  refine z_iload_n hC 2 hl dX1_heaviest_2 rfl 2 rfl ?_
  refine zp_back (zp_runV hC (hH.2.2) hl.1 (va_P_l hH.1) 2 (As := [.int (iZ (l)), .int (iZ (r))]) (rest := []) (u_X1_isSpan lau s0 G ad F (va_up Ar 16 zZ) kp pl n l r (by first | exact hn | assumption | omega) (by first | exact hFn | assumption | omega) (by first | assumption | omega) (by first | assumption | omega)) (lw_V q864 q866 qs26 q89 q867) ⟨rfl, by decide, by decide, by decide +kernel⟩ (q0 := 0) (ci := 1) rfl rfl rfl rfl (Nat.le_of_ble_eq_true rfl) ⟨Nat.le_of_ble_eq_true rfl, Nat.le_of_ble_eq_true rfl⟩ ⟨by first | decide | omega, by first | decide | omega⟩ dX1_heaviest_3) (fun r_3 hpost => ?_)
  have hb_3 : (r_3 = 1 ∧ (0 ≤ l ∧ l ≤ r ∧ r < (n : Int))) ∨ (r_3 = 0 ∧ ¬ (0 ≤ l ∧ l ≤ r ∧ r < (n : Int))) := hpost
  refine z_st (st' := [.int (iZ (r_3))]) rfl ?_
  rcases hb_3 with ⟨rfl, hb_3⟩ | ⟨rfl, hb_3⟩
  · -- 3=1
    refine z_if_eq_f hC 6 19 dX1_heaviest_6 rfl (by omega) (by omega) ?_
    refine z_iload_n hC 9 hl dX1_heaviest_9 rfl 3 rfl ?_
    refine z_i2l hC 10 dX1_heaviest_10 (by omega) ?_
    refine z_lconst (a := 0) hC 11 dX1_heaviest_11 rfl ?_
    refine z_lconst (a := 1) hC 12 dX1_heaviest_12 rfl ?_
    refine zp_back (zp_runS hC (hH.2.2) hl.1 (zp_nil) 3 (As := [.long (lZ (q)), .long (lZ (0)), .long (lZ (1))]) (rest := []) (u_X1_isIn lau s0 G q 0 1 (by first | assumption | omega) (by first | assumption | omega) (by first | assumption | omega)) (lw_S q303 q304 q89 q305) ⟨by decide, by decide, by decide +kernel⟩ rfl rfl (Nat.le_of_ble_eq_true rfl) ⟨Nat.le_of_ble_eq_true rfl, Nat.le_of_ble_eq_true rfl⟩ ⟨by first | decide | omega, by first | decide | omega⟩ dX1_heaviest_13) (fun r_13 hpost => ?_)
    have hb_13 : (r_13 = 1 ∧ ((0 : Int) ≤ q ∧ q ≤ (1 : Int))) ∨ (r_13 = 0 ∧ ¬ ((0 : Int) ≤ q ∧ q ≤ (1 : Int))) := hpost
    refine z_st (st' := [.int (iZ (r_13))]) rfl ?_
    rcases hb_13 with ⟨rfl, hb_13⟩ | ⟨rfl, hb_13⟩
    · -- 13=1
      refine z_if_ne_t hC 16 21 dX1_heaviest_16 rfl (by omega) (by omega) ?_
      obtain ⟨l1, rfl⟩ := Int.eq_ofNat_of_zero_le (show 0 ≤ l by omega)
      obtain ⟨r1, rfl⟩ := Int.eq_ofNat_of_zero_le (show 0 ≤ r by omega)
      refine z_new (ci := 11) (N := 3) hC hH 21 [.int (0), .int (0), .null] tyX12 in_X12 tyX12_ok rfl q1091 q1092 q119 (fun j hj => by rcases (show j = 0 ∨ j = 1 ∨ j = 2 from by omega) with rfl | rfl | rfl <;> rfl) ⟨by first | decide | omega, by first | decide | omega⟩ dX1_heaviest_21 (fun w21 H hH => ?_)
      rw [dW_app] at hH
      have hH : zH s0 s1 G as0 (dW ad G F (va_up Ar 16 zZ) kp pl (PW ++ [(w21, .inr (11, [.int (0), .int (0), .null]))])) H locs := hH
      refine z_dup hC 24 dX1_heaviest_24 rfl ?_
      refine z_aload_n hC 25 hl dX1_heaviest_25 rfl 0 rfl ?_
      refine z_iload_n hC 26 hl dX1_heaviest_26 rfl 1 rfl ?_
      refine z_iload_n hC 27 hl dX1_heaviest_27 rfl 2 rfl ?_
      refine z_subN (z_runI hC hH.2.2 hl.1 (dW_xP hH.1) (z_subD hH.2.1 [60 + PW.length] (by simp) dW_xk) 3 (As := [.ref (ad 99), .int (iZ ((l1 : Int))), .int (iZ ((r1 : Int)))]) (rest := [.ref (w21)]) (m_X12_init lau s0 G _ w21 (ad 99) ((l1 : Int)) ((r1 : Int))) (lw_meth q1095) q1093 ⟨q119, q1094⟩ rfl ⟨by decide, by decide, by decide +kernel⟩ rfl rfl (Nat.le_of_ble_eq_true rfl) ⟨Nat.le_of_ble_eq_true rfl, Nat.le_of_ble_eq_true rfl⟩ ⟨by first | decide | omega, by first | decide | omega⟩ dX1_heaviest_28) hH [60 + PW.length] dW_xk (by simp) (fun _ => rfl) (fun _ H locs hpost hH => ?_)
      rw [setL_x] at hH
      have hH : zH s0 s1 G as0 (dW ad G F (va_up Ar 16 zZ) kp pl (PW ++ [(w21, .inr (11, [.int (iZ ((l1 : Int))), .int (iZ ((r1 : Int))), .ref (ad 99)]))])) H locs := hH
      refine z_st (st' := [.ref (w21)]) rfl ?_
      refine z_astore (lv' := [(4, .ref (w21)), (0, .ref (ad 99)), (1, .int (iZ ((l1 : Int)))), (2, .int (iZ ((r1 : Int)))), (3, .int (iZ (q)))]) hC 31 hl dX1_heaviest_31 (by decide) rfl (fun ls hl => ?_)
      have hpp0 := hpp
      obtain ⟨PX, hPX⟩ : ∃ PX : va_W, PX = (PW ++ [(w21, .inr (11, [.int (iZ (l1 : Int)), .int (iZ (r1 : Int)), .ref (ad 99)]))]) := ⟨_, rfl⟩
      have hpp : zPool s0 G PX pr pa pm pf := by rw [hPX]; exact zPool_app hpp
      have hwx : (PW ++ [(w21, .inr (11, [.int (iZ ((l1 : Int))), .int (iZ ((r1 : Int))), .ref (ad 99)]))]) = PX := by exact hPX.symm
      rw [hwx] at hH
      have hH : zH s0 s1 G as0 (dW ad G F (va_up Ar 16 zZ) kp pl PX) H locs := hH
      refine z_aload_n hC 33 hl dX1_heaviest_33 rfl 1 rfl ?_
      refine z_iload_n hC 34 hl dX1_heaviest_34 rfl 2 rfl ?_
      refine z_iload_n hC 35 hl dX1_heaviest_35 rfl 3 rfl ?_
      refine z_st (st' := [.int (iZ (((r1 + 1 : Nat) : Int) - 1)), .int (iZ ((l1 : Int))), .ref (ad 99)]) (zcons (zieq (by omega)) (zcons rfl rfl)) ?_
      refine z_same (z_runV hC hH.2.2 hl.1 hH.1 hH.2.1 2 (As := [.int (iZ ((l1 : Int))), .int (iZ (((r1 + 1 : Nat) : Int) - 1))]) (rest := []) (m_X1_laysAll lau s0 G _ ad F (va_up Ar 16 zZ) kp pl PX n v l1 (r1 + 1) (by first | exact hn | assumption | omega) (by first | exact hFn | assumption | omega) (by first | exact hv | assumption | omega) (by first | exact hAv | assumption | omega) (by first | exact hlr | assumption | omega) (by first | exact hrn | assumption | omega)) (lw_V q1051 q1053 qs35 q89 q1054) ⟨rfl, by decide, by decide, by decide +kernel⟩ (q0 := 0) (ci := 1) rfl rfl rfl rfl (Nat.le_of_ble_eq_true rfl) ⟨Nat.le_of_ble_eq_true rfl, Nat.le_of_ble_eq_true rfl⟩ ⟨by first | decide | omega | (show _ ≤ 242; omega), by first | decide | omega | (show _ ≤ 486; omega)⟩ dX1_heaviest_36) hH (fun u_ H locs hpost hH => ?_)
      obtain ⟨k_36, u_36, gu_36⟩ := u_
      have pE_36 : EN v l1 (r1 + 1) k_36 u_36 := hpost
      have hH : zH s0 s1 G as0 (dW ad G (va_up F 17 ((k_36 : Int))) (va_up (va_up Ar 15 (cI (k_36) u_36 gu_36)) 16 zZ) kp pl PX) H locs := hH
      refine z_st (st' := []) rfl ?_
      have hkk := pE_36.1
      refine z_aload_n hC 39 hl dX1_heaviest_39 rfl 1 rfl ?_
      refine z_iload_n hC 40 hl dX1_heaviest_40 rfl 2 rfl ?_
      refine z_iload_n hC 41 hl dX1_heaviest_41 rfl 3 rfl ?_
      refine z_st (st' := [.int (iZ (((r1 + 1 : Nat) : Int) - 1)), .int (iZ ((l1 : Int))), .ref (ad 99)]) (zcons (zieq (by omega)) (zcons rfl rfl)) ?_
      refine z_same (z_runV hC hH.2.2 hl.1 hH.1 hH.2.1 2 (As := [.int (iZ ((l1 : Int))), .int (iZ (((r1 + 1 : Nat) : Int) - 1))]) (rest := []) (m_X1_ranks lau s0 G _ ad (va_up F 17 ((k_36 : Int))) (va_up (va_up Ar 15 (cI (k_36) u_36 gu_36)) 16 zZ) kp pl PX n v pr pa pm pf nw k_36 u_36 gu_36 l1 (r1 + 1) t (by first | exact hn | assumption | omega) (by first | exact hFn | assumption | omega) (by first | exact hpl | assumption | omega) (by first | exact hnw | assumption | omega) (by first | exact hpc | assumption | omega) (by first | exact hpp | assumption | omega) (by first | exact hv | assumption | omega) (by first | exact hlr | assumption | omega) (by first | exact hrn | assumption | omega) (by first | exact ht | assumption | omega) (by first | exact hFt | assumption | omega) (by have := pE_36.1; omega) (by exact fun j hj => pE_36.2.1 j hj) (by exact pE_36.2.2.1) (by exact CAN_pos (t := t) (EN_CAN pE_36 (fun i hi => hv i (by omega)) (by omega)))) (lw_V q1055 q1057 qs36 q89 q1058) ⟨rfl, by decide, by decide, by decide +kernel⟩ (q0 := 0) (ci := 1) rfl rfl rfl rfl (Nat.le_of_ble_eq_true rfl) ⟨Nat.le_of_ble_eq_true rfl, Nat.le_of_ble_eq_true rfl⟩ ⟨by first | decide | omega | (show _ ≤ 242; omega), by first | decide | omega | (show _ ≤ 486; omega)⟩ dX1_heaviest_42) hH (fun w_42 H locs hpost hH => ?_)
      have pR_42 : RKS v l1 (r1 + 1) t k_36 u_36 w_42 := hpost
      have hH : zH s0 s1 G as0 (dW ad G (va_up F 17 ((k_36 : Int))) (va_up (va_up Ar 15 (cI (k_36) w_42 gu_36)) 16 zZ) kp pl PX) H locs := hH
      refine z_st (st' := []) rfl ?_
      have hk90 : 0 < k_36 := CAN_pos (t := t) (EN_CAN pE_36 (fun i hi => hv i (by omega)) (by omega))
      have hw0 := RKS_in pE_36 pR_42 hk90
      have hwx : PX = (PW ++ [(w21, .inr (11, [.int (iZ (l1 : Int)), .int (iZ (r1 : Int)), .ref (ad 99)]))]) := by exact hPX
      rw [hwx] at hH
      have hH : zH s0 s1 G as0 (dW ad G (va_up F 17 ((k_36 : Int))) (va_up (va_up Ar 15 (cI (k_36) w_42 gu_36)) 16 zZ) kp pl (PW ++ [(w21, .inr (11, [.int (iZ (l1 : Int)), .int (iZ (r1 : Int)), .ref (ad 99)]))])) H locs := hH
      refine z_aload_n hC 45 hl dX1_heaviest_45 rfl 1 rfl ?_
      refine zp_get (v := .ref (ad 15)) hC (va_P_l hH.1) 46 in_X1 rfl 15 (by decide) q225 0 rfl (rfl) dX1_heaviest_46 ?_
      refine z_iconst hC 49 dX1_heaviest_49 ?_
      refine zp_iald (f := (cI (k_36) w_42 gu_36)) (x := ((w_42 0 : Nat) : Int)) hC (va_P_l hH.1) 50 6 (0) rfl (by decide) (by omega) (by omega) ((cI_lt (by omega))) dX1_heaviest_50 ?_
      refine z_istore (lv' := [(5, .int (iZ (((w_42 0 : Nat) : Int)))), (4, .ref (w21)), (0, .ref (ad 99)), (1, .int (iZ ((l1 : Int)))), (2, .int (iZ ((r1 : Int)))), (3, .int (iZ (q)))]) hC 51 hl dX1_heaviest_51 (by decide) rfl (fun ls hl => ?_)
      refine z_iconst hC 53 dX1_heaviest_53 ?_
      refine z_istore (lv' := [(6, .int (iZ (1))), (5, .int (iZ (((w_42 0 : Nat) : Int)))), (4, .ref (w21)), (0, .ref (ad 99)), (1, .int (iZ ((l1 : Int)))), (2, .int (iZ ((r1 : Int)))), (3, .int (iZ (q)))]) hC 54 hl dX1_heaviest_54 (by decide) rfl (fun ls hl => ?_)
      have L56 : ∀ (N_ : Nat) (i : Nat) (jb : Nat) (ce9 : Nat) (sl9 : Nat) (H : Heap) (locs : List Loc) (ls : Array Slot), k_36 - i < N_ → (1 ≤ i) → (i ≤ k_36) → (HVI v wt l1 (r1 + 1) t w_42 i jb) → (ce9 ≤ 2 * i) → (sl9 ≤ 4 * i) → zH s0 s1 G as0 (dW ad G (va_up F 17 ((k_36 : Int))) (va_up (va_up Ar 15 (cI (k_36) w_42 gu_36)) 16 zZ) kp pl (PW ++ [(w21, .inr (11, [.int (iZ (l1 : Int)), .int (iZ (r1 : Int)), .ref (ad 99)]))])) H locs → lv_has ls 7 [(0, .ref (ad 99)), (1, .int (iZ ((l1 : Int)))), (2, .int (iZ ((r1 : Int)))), (3, .int (iZ (q))), (4, .ref (w21)), (5, .int (iZ (((w_42 jb : Nat) : Int)))), (6, .int (iZ ((i : Int))))] → W pg lau ev (zRm 5 242 486 121) s1 mi ar bl me cd H locs ce9 sl9 Q (F0 mi 56 ls []) := by
        intro N_
        induction N_ with
        | zero => intro i jb ce9 sl9 H locs ls hd; exact absurd hd (Nat.not_lt_zero _)
        | succ N_ ih56 =>
          intro i jb ce9 sl9 H locs ls hd56 i56_1 i56_2 ih i56_4 i56_5 hH hl
          refine z_iload hC 56 hl dX1_heaviest_56 6 rfl ?_
          refine z_aload_n hC 58 hl dX1_heaviest_58 rfl 0 rfl ?_
          refine zp_get (v := .int (iZ ((k_36 : Int)))) hC (va_P_l hH.1) 59 in_X1 rfl 17 (by decide) q227 0 rfl (rfl) dX1_heaviest_59 ?_
          refine z_icmp_ge hC 62 102 dX1_heaviest_62 rfl (by omega) (by omega) (fun hb1 => ?_) (fun hb1 => ?_)
          · -- 62t
            have hub := RKS_in pE_36 pR_42 (show jb < k_36 by have := ih.1; omega)
            have hhv := HVI_e ih pE_36 pR_42 (by omega)
            refine z_iload_n hC 102 hl dX1_heaviest_102 rfl 3 rfl ?_
            refine z_if_ne hC 103 111 dX1_heaviest_103 rfl (by omega) (fun hb2 => ?_) (fun hb2 => ?_)
            · -- 103t
              refine z_aload hC 111 hl dX1_heaviest_111 4 rfl ?_
              refine z_iload hC 113 hl dX1_heaviest_113 5 rfl ?_
              refine z_same (z_runV hC hH.2.2 hl.1 hH.1 hH.2.1 1 (As := [.int (iZ (((w_42 jb : Nat) : Int)))]) (rest := []) (m_X12_of lau s0 G _ ad (va_up F 17 ((k_36 : Int))) (va_up (va_up Ar 15 (cI (k_36) w_42 gu_36)) 16 zZ) kp pl PW n v pr pa pm pf nw wt (w_42 jb) w21 l1 r1 (by first | exact hn | assumption | omega) (by first | exact hFn | assumption | omega) (by first | exact hv | assumption | omega) (by first | exact hAv | assumption | omega) (by first | exact hwt | assumption | omega) (by first | exact hAw | assumption | omega) (by first | exact hpl | assumption | omega) (by first | exact hnw | assumption | omega) (by first | exact hpc | assumption | omega) (by exact hpp0) (by first | assumption | omega) (by first | exact hui.1 | exact hub.1) (by first | exact hlr | assumption | omega) (by first | exact hrn | assumption | omega)) (lw_V q1107 q1108 q1109 q119 q1110) ⟨rfl, by decide, by decide, by decide +kernel⟩ (q0 := 60 + PW.length) (ci := 11) dW_x rfl rfl rfl (Nat.le_of_ble_eq_true rfl) ⟨Nat.le_of_ble_eq_true rfl, Nat.le_of_ble_eq_true rfl⟩ ⟨by first | decide | omega | (show _ ≤ 242; omega), by first | decide | omega | (show _ ≤ 486; omega)⟩ dX1_heaviest_115) hH (fun _ H locs hpost hH => ?_)
              have pb_115 : wsum v wt l1 (w_42 jb) (r1 + 1) ≤ 1080 := hpost
              have hH : zH s0 s1 G as0 (dW ad G (va_up F 17 ((k_36 : Int))) (va_up (va_up Ar 15 (cI (k_36) w_42 gu_36)) 16 zZ) kp pl (PW ++ [(w21, .inr (11, [.int (iZ (l1 : Int)), .int (iZ (r1 : Int)), .ref (ad 99)]))])) H locs := hH
              refine z_st (st' := [.int (iZ (((wsum v wt l1 (w_42 jb) (r1 + 1) : Nat) : Int)))]) rfl ?_
              rw [← dW_app] at hH
              have hH := zH_l hH
              -- R118.1
              exact z_iret hC hH hQ 118 ((((wsum v wt l1 (w_42 jb) (r1 + 1) : Nat) : Int), (va_up F 17 ((k_36 : Int))), (va_up (va_up Ar 15 (cI (k_36) w_42 gu_36)) 16 zZ))) dX1_heaviest_118 rfl ⟨by (unfold Sp_heaviest; rw [if_pos (by omega)]; simp only [Int.toNat_natCast, zt1]; exact ⟨w_42 jb, hhv, by first | (rw [if_pos (by omega)]; done) | (rw [if_neg (by omega)]; done)⟩), by first | assumption | exact ⟨fun k h1 h2 h3 h4 h5 => by first | rfl | (simp [va_up, h1, h2, h3, h4, h5]; done) | (simp [va_up, h1, h2, h3, h4, h5]; intro e9; rw [e9, hFn]), fun k h1 h2 h3 h4 h5 h6 => by first | rfl | simp [va_up, h1, h2, h3, h4, h5, h6]⟩⟩ rfl (by first | decide | omega) (by first | decide | omega)
            · -- 103f
              refine z_iload hC 106 hl dX1_heaviest_106 5 rfl ?_
              refine z_goto hC 108 118 dX1_heaviest_108 rfl ?_
              rw [← dW_app] at hH
              have hH := zH_l hH
              -- R118.2
              exact z_iret hC hH hQ 118 ((((w_42 jb : Nat) : Int), (va_up F 17 ((k_36 : Int))), (va_up (va_up Ar 15 (cI (k_36) w_42 gu_36)) 16 zZ))) dX1_heaviest_118 rfl ⟨by (unfold Sp_heaviest; rw [if_pos (by omega)]; simp only [Int.toNat_natCast, zt1]; exact ⟨w_42 jb, hhv, by first | (rw [if_pos (by omega)]; done) | (rw [if_neg (by omega)]; done)⟩), by first | assumption | exact ⟨fun k h1 h2 h3 h4 h5 => by first | rfl | (simp [va_up, h1, h2, h3, h4, h5]; done) | (simp [va_up, h1, h2, h3, h4, h5]; intro e9; rw [e9, hFn]), fun k h1 h2 h3 h4 h5 h6 => by first | rfl | simp [va_up, h1, h2, h3, h4, h5, h6]⟩⟩ rfl (by first | decide | omega) (by first | decide | omega)
          · -- 62f
            have hui := RKS_in pE_36 pR_42 (show (i) < k_36 by omega)
            have hub := RKS_in pE_36 pR_42 (show jb < k_36 by have := ih.1; omega)
            refine z_aload hC 65 hl dX1_heaviest_65 4 rfl ?_
            refine z_aload_n hC 67 hl dX1_heaviest_67 rfl 0 rfl ?_
            refine zp_get (v := .ref (ad 15)) hC (va_P_l hH.1) 68 in_X1 rfl 15 (by decide) q225 0 rfl (rfl) dX1_heaviest_68 ?_
            refine z_iload hC 71 hl dX1_heaviest_71 6 rfl ?_
            refine zp_iald (f := (cI (k_36) w_42 gu_36)) (x := ((w_42 i : Nat) : Int)) hC (va_P_l hH.1) 73 6 (i) rfl (by decide) (by omega) (by omega) ((cI_lt (by omega))) dX1_heaviest_73 ?_
            refine z_same (z_runV hC hH.2.2 hl.1 hH.1 hH.2.1 1 (As := [.int (iZ (((w_42 i : Nat) : Int)))]) (rest := []) (m_X12_of lau s0 G _ ad (va_up F 17 ((k_36 : Int))) (va_up (va_up Ar 15 (cI (k_36) w_42 gu_36)) 16 zZ) kp pl PW n v pr pa pm pf nw wt (w_42 i) w21 l1 r1 (by first | exact hn | assumption | omega) (by first | exact hFn | assumption | omega) (by first | exact hv | assumption | omega) (by first | exact hAv | assumption | omega) (by first | exact hwt | assumption | omega) (by first | exact hAw | assumption | omega) (by first | exact hpl | assumption | omega) (by first | exact hnw | assumption | omega) (by first | exact hpc | assumption | omega) (by exact hpp0) (by first | assumption | omega) (by first | exact hui.1 | exact hub.1) (by first | exact hlr | assumption | omega) (by first | exact hrn | assumption | omega)) (lw_V q1107 q1108 q1109 q119 q1110) ⟨rfl, by decide, by decide, by decide +kernel⟩ (q0 := 60 + PW.length) (ci := 11) dW_x rfl rfl rfl (Nat.le_of_ble_eq_true rfl) ⟨Nat.le_of_ble_eq_true rfl, Nat.le_of_ble_eq_true rfl⟩ ⟨by first | decide | omega | (show _ ≤ 242; omega), by first | decide | omega | (show _ ≤ 486; omega)⟩ dX1_heaviest_74) hH (fun _ H locs hpost hH => ?_)
            have pb_74 : wsum v wt l1 (w_42 i) (r1 + 1) ≤ 1080 := hpost
            have hH : zH s0 s1 G as0 (dW ad G (va_up F 17 ((k_36 : Int))) (va_up (va_up Ar 15 (cI (k_36) w_42 gu_36)) 16 zZ) kp pl (PW ++ [(w21, .inr (11, [.int (iZ (l1 : Int)), .int (iZ (r1 : Int)), .ref (ad 99)]))])) H locs := hH
            refine z_st (st' := [.int (iZ (((wsum v wt l1 (w_42 i) (r1 + 1) : Nat) : Int)))]) rfl ?_
            refine z_aload hC 77 hl dX1_heaviest_77 4 rfl ?_
            refine z_iload hC 79 hl dX1_heaviest_79 5 rfl ?_
            refine z_same (z_runV hC hH.2.2 hl.1 hH.1 hH.2.1 1 (As := [.int (iZ (((w_42 jb : Nat) : Int)))]) (rest := [.int (iZ (((wsum v wt l1 (w_42 i) (r1 + 1) : Nat) : Int)))]) (m_X12_of lau s0 G _ ad (va_up F 17 ((k_36 : Int))) (va_up (va_up Ar 15 (cI (k_36) w_42 gu_36)) 16 zZ) kp pl PW n v pr pa pm pf nw wt (w_42 jb) w21 l1 r1 (by first | exact hn | assumption | omega) (by first | exact hFn | assumption | omega) (by first | exact hv | assumption | omega) (by first | exact hAv | assumption | omega) (by first | exact hwt | assumption | omega) (by first | exact hAw | assumption | omega) (by first | exact hpl | assumption | omega) (by first | exact hnw | assumption | omega) (by first | exact hpc | assumption | omega) (by exact hpp0) (by first | assumption | omega) (by first | exact hui.1 | exact hub.1) (by first | exact hlr | assumption | omega) (by first | exact hrn | assumption | omega)) (lw_V q1107 q1108 q1109 q119 q1110) ⟨rfl, by decide, by decide, by decide +kernel⟩ (q0 := 60 + PW.length) (ci := 11) dW_x rfl rfl rfl (Nat.le_of_ble_eq_true rfl) ⟨Nat.le_of_ble_eq_true rfl, Nat.le_of_ble_eq_true rfl⟩ ⟨by first | decide | omega | (show _ ≤ 242; omega), by first | decide | omega | (show _ ≤ 486; omega)⟩ dX1_heaviest_81) hH (fun _ H locs hpost hH => ?_)
            have pb_81 : wsum v wt l1 (w_42 jb) (r1 + 1) ≤ 1080 := hpost
            have hH : zH s0 s1 G as0 (dW ad G (va_up F 17 ((k_36 : Int))) (va_up (va_up Ar 15 (cI (k_36) w_42 gu_36)) 16 zZ) kp pl (PW ++ [(w21, .inr (11, [.int (iZ (l1 : Int)), .int (iZ (r1 : Int)), .ref (ad 99)]))])) H locs := hH
            refine z_st (st' := [.int (iZ (((wsum v wt l1 (w_42 jb) (r1 + 1) : Nat) : Int))), .int (iZ (((wsum v wt l1 (w_42 i) (r1 + 1) : Nat) : Int)))]) rfl ?_
            refine z_icmp_le hC 84 96 dX1_heaviest_84 rfl (by omega) (by omega) (fun hb3 => ?_) (fun hb3 => ?_)
            · -- 84t
              refine z_iinc (lv' := [(6, .int (iZ ((i : Int) + 1))), (0, .ref (ad 99)), (1, .int (iZ ((l1 : Int)))), (2, .int (iZ ((r1 : Int)))), (3, .int (iZ (q))), (4, .ref (w21)), (5, .int (iZ (((w_42 jb : Nat) : Int))))]) hC 96 hl dX1_heaviest_96 6 rfl (by omega) (by decide) rfl (fun ls hl => ?_)
              refine z_goto hC 99 56 dX1_heaviest_99 rfl ?_
              -- J56.3
              exact ih56 (i + 1) jb (ce9 + 1 + 1) (sl9 + 2 + 2) _ _ _ (by omega) (by first | assumption | omega) (by first | assumption | omega) (by first | exact HVI_1 | exact HVI_t ih (by omega) | exact HVI_f ih pR_42 (by omega) (by omega)) (by first | assumption | omega) (by first | assumption | omega) hH (z_lv (lv_sub hl [1, 2, 3, 4, 5, 6, 0] rfl) (zcons rfl (zcons rfl (zcons rfl (zcons rfl (zcons rfl (zcons rfl (zcons (zpeq (by omega)) rfl))))))))
            · -- 84f
              refine z_aload_n hC 87 hl dX1_heaviest_87 rfl 0 rfl ?_
              refine zp_get (v := .ref (ad 15)) hC (va_P_l hH.1) 88 in_X1 rfl 15 (by decide) q225 0 rfl (rfl) dX1_heaviest_88 ?_
              refine z_iload hC 91 hl dX1_heaviest_91 6 rfl ?_
              refine zp_iald (f := (cI (k_36) w_42 gu_36)) (x := ((w_42 i : Nat) : Int)) hC (va_P_l hH.1) 93 6 (i) rfl (by decide) (by omega) (by omega) ((cI_lt (by omega))) dX1_heaviest_93 ?_
              refine z_istore (lv' := [(5, .int (iZ (((w_42 i : Nat) : Int)))), (0, .ref (ad 99)), (1, .int (iZ ((l1 : Int)))), (2, .int (iZ ((r1 : Int)))), (3, .int (iZ (q))), (4, .ref (w21)), (6, .int (iZ ((i : Int))))]) hC 94 hl dX1_heaviest_94 (by decide) rfl (fun ls hl => ?_)
              refine z_iinc (lv' := [(6, .int (iZ ((i : Int) + 1))), (5, .int (iZ (((w_42 i : Nat) : Int)))), (0, .ref (ad 99)), (1, .int (iZ ((l1 : Int)))), (2, .int (iZ ((r1 : Int)))), (3, .int (iZ (q))), (4, .ref (w21))]) hC 96 hl dX1_heaviest_96 6 rfl (by omega) (by decide) rfl (fun ls hl => ?_)
              refine z_goto hC 99 56 dX1_heaviest_99 rfl ?_
              -- J56.4
              exact ih56 (i + 1) i (ce9 + 1 + 1) (sl9 + 2 + 2) _ _ _ (by omega) (by first | assumption | omega) (by first | assumption | omega) (by first | exact HVI_1 | exact HVI_t ih (by omega) | exact HVI_f ih pR_42 (by omega) (by omega)) (by first | assumption | omega) (by first | assumption | omega) hH (z_lv (lv_sub hl [2, 3, 4, 5, 6, 1, 0] rfl) (zcons rfl (zcons rfl (zcons rfl (zcons rfl (zcons rfl (zcons rfl (zcons (zpeq (by omega)) rfl))))))))
      -- J56.5
      exact L56 _ 1 0 (0 + 1 + 0) (0 + 3 + 0) _ _ _ (Nat.lt_succ_self _) (by first | assumption | omega) (by first | assumption | omega) (by first | exact HVI_1 | exact HVI_t ih (by omega) | exact HVI_f ih pR_42 (by omega) (by omega)) (by first | assumption | omega) (by first | assumption | omega) hH (z_lv (lv_sub hl [3, 4, 5, 6, 2, 1, 0] rfl) (zcons rfl (zcons rfl (zcons rfl (zcons rfl (zcons rfl (zcons rfl (zcons (zpeq (by omega)) rfl))))))))
    · -- 13=0
      refine z_if_ne_f hC 16 21 dX1_heaviest_16 rfl (by omega) (by omega) ?_
      refine z_iconst hC 19 dX1_heaviest_19 ?_
      -- R20.6
      exact z_iret hC hH hQ 20 (((-1), F, (va_up Ar 16 zZ))) dX1_heaviest_20 rfl ⟨by first | (unfold Sp_heaviest; rw [if_neg (by omega)]) | (unfold Sp_heaviest; rw [if_pos (by omega)]; (try simp only [Int.toNat_natCast, zt1]); first | done | trivial | rfl | omega | (rw [if_pos (by omega)]; first | done | trivial | rfl | omega) | (rw [if_neg (by omega)]; first | done | trivial | rfl | omega)), by first | assumption | exact ⟨fun k h1 h2 h3 h4 h5 => by first | rfl | (simp [va_up, h1, h2, h3, h4, h5]; done) | (simp [va_up, h1, h2, h3, h4, h5]; intro e9; rw [e9, hFn]), fun k h1 h2 h3 h4 h5 h6 => by first | rfl | simp [va_up, h1, h2, h3, h4, h5, h6]⟩⟩ rfl (by first | decide | omega) (by first | decide | omega)
  · -- 3=0
    refine z_if_eq_t hC 6 19 dX1_heaviest_6 rfl (by omega) (by omega) ?_
    refine z_iconst hC 19 dX1_heaviest_19 ?_
    -- R20.7
    exact z_iret hC hH hQ 20 (((-1), F, (va_up Ar 16 zZ))) dX1_heaviest_20 rfl ⟨by first | (unfold Sp_heaviest; rw [if_neg (by omega)]) | (unfold Sp_heaviest; rw [if_pos (by omega)]; (try simp only [Int.toNat_natCast, zt1]); first | done | trivial | rfl | omega | (rw [if_pos (by omega)]; first | done | trivial | rfl | omega) | (rw [if_neg (by omega)]; first | done | trivial | rfl | omega)), by first | assumption | exact ⟨fun k h1 h2 h3 h4 h5 => by first | rfl | (simp [va_up, h1, h2, h3, h4, h5]; done) | (simp [va_up, h1, h2, h3, h4, h5]; intro e9; rw [e9, hFn]), fun k h1 h2 h3 h4 h5 h6 => by first | rfl | simp [va_up, h1, h2, h3, h4, h5, h6]⟩⟩ rfl (by first | decide | omega) (by first | decide | omega)
