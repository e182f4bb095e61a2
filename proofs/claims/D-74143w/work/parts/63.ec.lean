/-! methods of ModeDesk that write: 63.ec -/
set_option maxHeartbeats 4000000 in
set_option maxRecDepth 100000 in
theorem m_X1_mode (lau : Launch) (s0 : State) (G : zG) (sz : Nat) (ad : Nat → Nat) (F : Nat → Int) (Ar : Nat → Nat → Int) (kp : Nat → Nat) (pl : Nat → Option Nat) (PW : va_W) (n : Nat) (v : Nat → Nat) (pr : Nat → Nat) (pa : Nat → Nat) (pm : Nat → Nat) (pf : Nat → Nat → Nat) (nw : Nat) (b : Nat) (t : Nat) (l : Int) (r : Int) (q : Int) (hn : n ≤ 120) (hFn : F 200 = (n : Int)) (hv : ∀ i, i < n → v i < 1000) (hAv : ∀ i, i < n → Ar 201 i = (v i : Int)) (hb : 2 ≤ b ∧ b ≤ 20) (hFb : F 7 = (b : Int)) (ht : t < 4) (hFt : F 8 = (t : Int)) (hpl : ∀ y, y < 1000 → (pl y = some (pr y) ∨ (pl y = none ∧ pr y = nw))) (hnw : zNwh s0 nw) (hpc : ∀ y, y < 1000 → PlC n v y (pm y) (pf y)) (hpp : zPool s0 G PW pr pa pm pf) (hmo : ∀ i j, i ≤ j → b * j < n → Ar 12 (60 * i + j) = (md v (b * i) (bEnd b j n) t : Int)) (hr_l : -2147483648 ≤ l ∧ l < 2147483648) (hr_r : -2147483648 ≤ r ∧ r < 2147483648) (hr_q : -2147483648 ≤ q ∧ q < 2147483648) : zMet (S := Int × (Nat → Int) × (Nat → Nat → Int)) lau yX1_mode cX1_mode 4 (some .int) 6 143 0 0 s0 G sz [.ref (ad 99), .int (iZ (l)), .int (iZ (r)), .int (iZ (q))] (dW ad G F (va_up Ar 16 zZ) kp pl PW) (fun ((r_, F2, A2) : Int × (Nat → Int) × (Nat → Nat → Int)) => some (.int (iZ (r_)))) (fun ((r_, F2, A2) : Int × (Nat → Int) × (Nat → Nat → Int)) => (Sp_mode n v t l r q r_) ∧ (DK F (va_up Ar 16 zZ) F2 A2)) (fun ((r_, F2, A2) : Int × (Nat → Int) × (Nat → Nat → Int)) => (dW ad G F2 A2 kp pl PW)) := by
  refine zMet.of (by decide) (Nat.le_of_ble_eq_true rfl) ?_
  intro pg ev s1 mi ar bl me cd ls Q as0 hC hH hl hQ hsz
  generalize s1.heap = H at hH ⊢
  generalize ([] : List Loc) = locs at hH ⊢
  have hl : lv_has ls 4 [(0, .ref (ad 99)), (1, .int (iZ (l))), (2, .int (iZ (r))), (3, .int (iZ (q)))] := hl
  refine z_aload_n hC 0 hl dX1_mode_0 rfl 0 rfl ?_
  refine z_iload_n hC 1 hl dX1_mode_1 rfl 1 rfl ?_
  refine z_iload_n hC 2 hl dX1_mode_2 rfl 2 rfl ?_
  refine zp_back (zp_runV hC (hH.2.2) hl.1 (va_P_l hH.1) 2 (As := [.int (iZ (l)), .int (iZ (r))]) (rest := []) (u_X1_isSpan lau s0 G ad F (va_up Ar 16 zZ) kp pl n l r (by first | exact hn | assumption | omega) (by first | exact hFn | assumption | omega) (by first | assumption | omega) (by first | assumption | omega)) (lw_V q864 q866 qs26 q89 q867) ⟨rfl, by decide, by decide, by decide +kernel⟩ (q0 := 0) (ci := 1) rfl rfl rfl rfl (Nat.le_of_ble_eq_true rfl) ⟨Nat.le_of_ble_eq_true rfl, Nat.le_of_ble_eq_true rfl⟩ ⟨by first | decide | omega, by first | decide | omega⟩ dX1_mode_3) (fun r_3 hpost => ?_)
  have hb_3 : (r_3 = 1 ∧ (0 ≤ l ∧ l ≤ r ∧ r < (n : Int))) ∨ (r_3 = 0 ∧ ¬ (0 ≤ l ∧ l ≤ r ∧ r < (n : Int))) := hpost
  refine z_st (st' := [.int (iZ (r_3))]) rfl ?_
  rcases hb_3 with ⟨rfl, hb_3⟩ | ⟨rfl, hb_3⟩
  · -- 3=1
    refine z_if_eq_f hC 6 37 dX1_mode_6 rfl (by omega) (by omega) ?_
    refine z_iload_n hC 9 hl dX1_mode_9 rfl 3 rfl ?_
    refine z_i2l hC 10 dX1_mode_10 (by omega) ?_
    refine z_lconst (a := 0) hC 11 dX1_mode_11 rfl ?_
    refine z_ldc2 (a := 3) hC 12 q1039 rfl dX1_mode_12 ?_
    refine zp_back (zp_runS hC (hH.2.2) hl.1 (zp_nil) 3 (As := [.long (lZ (q)), .long (lZ (0)), .long (lZ (3))]) (rest := []) (u_X1_isIn lau s0 G q 0 3 (by first | assumption | omega) (by first | assumption | omega) (by first | assumption | omega)) (lw_S q303 q304 q89 q305) ⟨by decide, by decide, by decide +kernel⟩ rfl rfl (Nat.le_of_ble_eq_true rfl) ⟨Nat.le_of_ble_eq_true rfl, Nat.le_of_ble_eq_true rfl⟩ ⟨by first | decide | omega, by first | decide | omega⟩ dX1_mode_15) (fun r_15 hpost => ?_)
    have hb_15 : (r_15 = 1 ∧ ((0 : Int) ≤ q ∧ q ≤ (3 : Int))) ∨ (r_15 = 0 ∧ ¬ ((0 : Int) ≤ q ∧ q ≤ (3 : Int))) := hpost
    refine z_st (st' := [.int (iZ (r_15))]) rfl ?_
    rcases hb_15 with ⟨rfl, hb_15⟩ | ⟨rfl, hb_15⟩
    · -- 15=1
      refine z_if_eq_f hC 18 37 dX1_mode_18 rfl (by omega) (by omega) ?_
      obtain ⟨l1, rfl⟩ := Int.eq_ofNat_of_zero_le (show 0 ≤ l by omega)
      obtain ⟨r1, rfl⟩ := Int.eq_ofNat_of_zero_le (show 0 ≤ r by omega)
      refine z_aload_n hC 21 hl dX1_mode_21 rfl 0 rfl ?_
      have hsp := md_spec2 (t := t) (show ∀ i, i < r1 + 1 → v i < 1000 from fun i hi => hv i (by omega)) (show l1 < r1 + 1 by omega)
      refine z_aload_n hC 22 hl dX1_mode_22 rfl 0 rfl ?_
      refine z_iload_n hC 23 hl dX1_mode_23 rfl 1 rfl ?_
      refine z_iload_n hC 24 hl dX1_mode_24 rfl 2 rfl ?_
      refine z_st (st' := [.int (iZ (((r1 + 1 : Nat) : Int) - 1)), .int (iZ ((l1 : Int))), .ref (ad 99), .ref (ad 99)]) (zcons (zieq (by omega)) (zcons rfl rfl)) ?_
      refine z_same (z_runV hC hH.2.2 hl.1 hH.1 hH.2.1 2 (As := [.int (iZ ((l1 : Int))), .int (iZ (((r1 + 1 : Nat) : Int) - 1))]) (rest := [.ref (ad 99)]) (m_X1_modeOf lau s0 G _ ad F (va_up Ar 16 zZ) kp pl PW n v pr pa pm pf nw b t l1 (r1 + 1) (by first | exact hn | assumption | omega) (by first | exact hFn | assumption | omega) (by first | exact hv | assumption | omega) (by first | exact hAv | assumption | omega) (by first | exact hb | assumption | omega) (by first | exact hFb | assumption | omega) (by first | exact ht | assumption | omega) (by first | exact hFt | assumption | omega) (by first | exact hpl | assumption | omega) (by first | exact hnw | assumption | omega) (by first | exact hpc | assumption | omega) (by first | exact hpp | assumption | omega) (by first | exact hmo | assumption | omega) (by first | exact hlr | assumption | omega) (by first | exact hrn | assumption | omega)) (lw_V q1040 q991 qs27 q89 q992) ⟨rfl, by decide, by decide, by decide +kernel⟩ (q0 := 0) (ci := 1) rfl rfl rfl rfl (Nat.le_of_ble_eq_true rfl) ⟨Nat.le_of_ble_eq_true rfl, Nat.le_of_ble_eq_true rfl⟩ ⟨Nat.le_of_ble_eq_true rfl, Nat.le_of_ble_eq_true rfl⟩ dX1_mode_25) hH (fun u_ H locs hpost hH => ?_)
      obtain ⟨k_25, u_25, gu_25⟩ := u_
      have hH : zH s0 s1 G as0 (dW ad G (va_up F 17 ((k_25 : Int))) (va_up (va_up Ar 15 (cI (k_25) u_25 gu_25)) 16 zZ) kp pl PW) H locs := hH
      refine z_st (st' := [.int (iZ (((md v l1 (r1 + 1) t : Nat) : Int))), .ref (ad 99)]) rfl ?_
      refine z_iload_n hC 28 hl dX1_mode_28 rfl 1 rfl ?_
      refine z_iload_n hC 29 hl dX1_mode_29 rfl 2 rfl ?_
      refine z_iload_n hC 30 hl dX1_mode_30 rfl 3 rfl ?_
      refine z_st (st' := [.int (iZ (q)), .int (iZ (((r1 + 1 : Nat) : Int) - 1)), .int (iZ ((l1 : Int))), .int (iZ (((md v l1 (r1 + 1) t : Nat) : Int))), .ref (ad 99)]) (zcons rfl (zcons (zieq (by omega)) (zcons rfl (zcons rfl rfl)))) ?_
      refine zp_back (zp_runV hC (hH.2.2) hl.1 (dP_of hH hpp) 4 (As := [.int (iZ (((md v l1 (r1 + 1) t : Nat) : Int))), .int (iZ ((l1 : Int))), .int (iZ (((r1 + 1 : Nat) : Int) - 1)), .int (iZ (q))]) (rest := []) (u_X1_told lau s0 G ad (va_up F 17 ((k_25 : Int))) (va_up (va_up Ar 15 (cI (k_25) u_25 gu_25)) 16 zZ) kp pl pr pa pm pf n v (md v l1 (r1 + 1) t) l1 (r1 + 1) nw q (by first | exact hn | assumption | omega) (by first | exact hv | assumption | omega) (by first | exact hpl | assumption | omega) (by first | exact hnw | assumption | omega) (by first | exact hpc | assumption | omega) (by first | exact hlr | assumption | omega) (by first | exact hrn | assumption | omega) (by first | assumption | omega) (by exact hsp.1) (by exact hsp.2.1)) (lw_V q1041 q1043 qs34 q89 q1044) ⟨rfl, by decide, by decide, by decide +kernel⟩ (q0 := 0) (ci := 1) rfl rfl rfl rfl (Nat.le_of_ble_eq_true rfl) ⟨Nat.le_of_ble_eq_true rfl, Nat.le_of_ble_eq_true rfl⟩ ⟨by first | decide | omega, by first | decide | omega⟩ dX1_mode_31) (fun _ hpost => ?_)
      refine z_st (st' := [.int (iZ ((toldZ v l1 (r1 + 1) (md v l1 (r1 + 1) t) q)))]) rfl ?_
      refine z_goto hC 34 38 dX1_mode_34 rfl ?_
      -- R38.1
      exact z_iret hC hH hQ 38 (((toldZ v l1 (r1 + 1) (md v l1 (r1 + 1) t) q), (va_up F 17 ((k_25 : Int))), (va_up (va_up Ar 15 (cI (k_25) u_25 gu_25)) 16 zZ))) dX1_mode_38 rfl ⟨by first | (unfold Sp_mode; rw [if_neg (by omega)]) | (unfold Sp_mode; rw [if_pos (by omega)]; (try simp only [Int.toNat_natCast, zt1]); first | done | trivial | rfl | omega | (rw [if_pos (by omega)]; first | done | trivial | rfl | omega) | (rw [if_neg (by omega)]; first | done | trivial | rfl | omega)), by first | assumption | exact ⟨fun k h1 h2 h3 h4 h5 => by first | rfl | (simp [va_up, h1, h2, h3, h4, h5]; done) | (simp [va_up, h1, h2, h3, h4, h5]; intro e9; rw [e9, hFn]), fun k h1 h2 h3 h4 h5 h6 => by first | rfl | simp [va_up, h1, h2, h3, h4, h5, h6]⟩⟩ rfl (Nat.le_refl _) (Nat.le_refl _)
    · -- 15=0
      refine z_if_eq_t hC 18 37 dX1_mode_18 rfl (by omega) (by omega) ?_
      refine z_iconst hC 37 dX1_mode_37 ?_
      -- R38.2
      exact z_iret hC hH hQ 38 (((-1), F, (va_up Ar 16 zZ))) dX1_mode_38 rfl ⟨by first | (unfold Sp_mode; rw [if_neg (by omega)]) | (unfold Sp_mode; rw [if_pos (by omega)]; (try simp only [Int.toNat_natCast, zt1]); first | done | trivial | rfl | omega | (rw [if_pos (by omega)]; first | done | trivial | rfl | omega) | (rw [if_neg (by omega)]; first | done | trivial | rfl | omega)), by first | assumption | exact ⟨fun k h1 h2 h3 h4 h5 => by first | rfl | (simp [va_up, h1, h2, h3, h4, h5]; done) | (simp [va_up, h1, h2, h3, h4, h5]; intro e9; rw [e9, hFn]), fun k h1 h2 h3 h4 h5 h6 => by first | rfl | simp [va_up, h1, h2, h3, h4, h5, h6]⟩⟩ rfl (Nat.le_refl _) (Nat.le_refl _)
  · -- 3=0
    refine z_if_eq_t hC 6 37 dX1_mode_6 rfl (by omega) (by omega) ?_
    refine z_iconst hC 37 dX1_mode_37 ?_
    -- R38.3
    exact z_iret hC hH hQ 38 (((-1), F, (va_up Ar 16 zZ))) dX1_mode_38 rfl ⟨by first | (unfold Sp_mode; rw [if_neg (by omega)]) | (unfold Sp_mode; rw [if_pos (by omega)]; (try simp only [Int.toNat_natCast, zt1]); first | done | trivial | rfl | omega | (rw [if_pos (by omega)]; first | done | trivial | rfl | omega) | (rw [if_neg (by omega)]; first | done | trivial | rfl | omega)), by first | assumption | exact ⟨fun k h1 h2 h3 h4 h5 => by first | rfl | (simp [va_up, h1, h2, h3, h4, h5]; done) | (simp [va_up, h1, h2, h3, h4, h5]; intro e9; rw [e9, hFn]), fun k h1 h2 h3 h4 h5 h6 => by first | rfl | simp [va_up, h1, h2, h3, h4, h5, h6]⟩⟩ rfl (Nat.le_refl _) (Nat.le_refl _)

set_option maxHeartbeats 4000000 in
set_option maxRecDepth 100000 in
theorem m_X1_often (lau : Launch) (s0 : State) (G : zG) (sz : Nat) (ad : Nat → Nat) (F : Nat → Int) (Ar : Nat → Nat → Int) (kp : Nat → Nat) (pl : Nat → Option Nat) (PW : va_W) (n : Nat) (v : Nat → Nat) (pr : Nat → Nat) (pa : Nat → Nat) (pm : Nat → Nat) (pf : Nat → Nat → Nat) (nw : Nat) (b : Nat) (t : Nat) (l : Int) (r : Int) (x : Int) (hn : n ≤ 120) (hFn : F 200 = (n : Int)) (hv : ∀ i, i < n → v i < 1000) (hAv : ∀ i, i < n → Ar 201 i = (v i : Int)) (hb : 2 ≤ b ∧ b ≤ 20) (hFb : F 7 = (b : Int)) (ht : t < 4) (hFt : F 8 = (t : Int)) (hpl : ∀ y, y < 1000 → (pl y = some (pr y) ∨ (pl y = none ∧ pr y = nw))) (hnw : zNwh s0 nw) (hpc : ∀ y, y < 1000 → PlC n v y (pm y) (pf y)) (hpp : zPool s0 G PW pr pa pm pf) (hmo : ∀ i j, i ≤ j → b * j < n → Ar 12 (60 * i + j) = (md v (b * i) (bEnd b j n) t : Int)) (hr_l : -2147483648 ≤ l ∧ l < 2147483648) (hr_r : -2147483648 ≤ r ∧ r < 2147483648) (hr_x : -2147483648 ≤ x ∧ x < 2147483648) : zMet (S := Int × (Nat → Int) × (Nat → Nat → Int)) lau yX1_often cX1_often 4 (some .int) 2 46 0 0 s0 G sz [.ref (ad 99), .int (iZ (l)), .int (iZ (r)), .int (iZ (x))] (dW ad G F (va_up Ar 16 zZ) kp pl PW) (fun ((r_, F2, A2) : Int × (Nat → Int) × (Nat → Nat → Int)) => some (.int (iZ (r_)))) (fun ((r_, F2, A2) : Int × (Nat → Int) × (Nat → Nat → Int)) => (Sp_often n v l r x r_) ∧ (DK F (va_up Ar 16 zZ) F2 A2)) (fun ((r_, F2, A2) : Int × (Nat → Int) × (Nat → Nat → Int)) => (dW ad G F2 A2 kp pl PW)) := by
  refine zMet.of (by decide) (Nat.le_of_ble_eq_true rfl) ?_
  intro pg ev s1 mi ar bl me cd ls Q as0 hC hH hl hQ hsz
  generalize s1.heap = H at hH ⊢
  generalize ([] : List Loc) = locs at hH ⊢
  have hl : lv_has ls 4 [(0, .ref (ad 99)), (1, .int (iZ (l))), (2, .int (iZ (r))), (3, .int (iZ (x)))] := hl
  refine z_aload_n hC 0 hl dX1_often_0 rfl 0 rfl ?_
  refine z_iload_n hC 1 hl dX1_often_1 rfl 1 rfl ?_
  refine z_iload_n hC 2 hl dX1_often_2 rfl 2 rfl ?_
  refine zp_back (zp_runV hC (hH.2.2) hl.1 (va_P_l hH.1) 2 (As := [.int (iZ (l)), .int (iZ (r))]) (rest := []) (u_X1_isSpan lau s0 G ad F (va_up Ar 16 zZ) kp pl n l r (by first | exact hn | assumption | omega) (by first | exact hFn | assumption | omega) (by first | assumption | omega) (by first | assumption | omega)) (lw_V q864 q866 qs26 q89 q867) ⟨rfl, by decide, by decide, by decide +kernel⟩ (q0 := 0) (ci := 1) rfl rfl rfl rfl (Nat.le_of_ble_eq_true rfl) ⟨Nat.le_of_ble_eq_true rfl, Nat.le_of_ble_eq_true rfl⟩ ⟨by first | decide | omega, by first | decide | omega⟩ dX1_often_3) (fun r_3 hpost => ?_)
  have hb_3 : (r_3 = 1 ∧ (0 ≤ l ∧ l ≤ r ∧ r < (n : Int))) ∨ (r_3 = 0 ∧ ¬ (0 ≤ l ∧ l ≤ r ∧ r < (n : Int))) := hpost
  refine z_st (st' := [.int (iZ (r_3))]) rfl ?_
  rcases hb_3 with ⟨rfl, hb_3⟩ | ⟨rfl, hb_3⟩
  · -- 3=1
    refine z_if_eq_f hC 6 29 dX1_often_6 rfl (by omega) (by omega) ?_
    refine z_iload_n hC 9 hl dX1_often_9 rfl 3 rfl ?_
    refine zp_back (zp_runS hC (hH.2.2) hl.1 (zp_nil) 1 (As := [.int (iZ (x))]) (rest := []) (u_X1_isValue lau s0 G x (by first | assumption | omega)) (lw_S q803 q804 q89 q805) ⟨by decide, by decide, by decide +kernel⟩ rfl rfl (Nat.le_of_ble_eq_true rfl) ⟨Nat.le_of_ble_eq_true rfl, Nat.le_of_ble_eq_true rfl⟩ ⟨by first | decide | omega, by first | decide | omega⟩ dX1_often_10) (fun r_10 hpost => ?_)
    have hb_10 : (r_10 = 1 ∧ (0 ≤ x ∧ x < 1000)) ∨ (r_10 = 0 ∧ ¬ (0 ≤ x ∧ x < 1000)) := hpost
    refine z_st (st' := [.int (iZ (r_10))]) rfl ?_
    rcases hb_10 with ⟨rfl, hb_10⟩ | ⟨rfl, hb_10⟩
    · -- 10=1
      refine z_if_eq_f hC 13 29 dX1_often_13 rfl (by omega) (by omega) ?_
      obtain ⟨l1, rfl⟩ := Int.eq_ofNat_of_zero_le (show 0 ≤ l by omega)
      obtain ⟨r1, rfl⟩ := Int.eq_ofNat_of_zero_le (show 0 ≤ r by omega)
      obtain ⟨x1, rfl⟩ := Int.eq_ofNat_of_zero_le (show 0 ≤ x by omega)
      refine z_aload_n hC 16 hl dX1_often_16 rfl 0 rfl ?_
      refine z_iload_n hC 17 hl dX1_often_17 rfl 3 rfl ?_
      refine zp_back (zp_runV hC (hH.2.2) hl.1 (va_P_l hH.1) 1 (As := [.int (iZ ((x1 : Int)))]) (rest := []) (u_X1_of lau s0 G ad F (va_up Ar 16 zZ) kp pl x1 (pr x1) nw (by first | assumption | omega) (by first | exact hpl | (first | assumption | exact hpl _ (by omega)) | assumption | omega) (by first | exact hnw | assumption | omega)) (lw_V q736 q738 qs17 q89 q739) ⟨rfl, by decide, by decide, by decide +kernel⟩ (q0 := 0) (ci := 1) rfl rfl rfl rfl (Nat.le_of_ble_eq_true rfl) ⟨Nat.le_of_ble_eq_true rfl, Nat.le_of_ble_eq_true rfl⟩ ⟨by first | decide | omega, by first | decide | omega⟩ dX1_often_18) (fun _ hpost => ?_)
      refine z_st (st' := [.ref ((pr x1))]) rfl ?_
      refine z_iload_n hC 21 hl dX1_often_21 rfl 1 rfl ?_
      refine z_iload_n hC 22 hl dX1_often_22 rfl 2 rfl ?_
      refine z_st (st' := [.int (iZ (((r1 + 1 : Nat) : Int) - 1)), .int (iZ ((l1 : Int))), .ref ((pr x1))]) (zcons (zieq (by omega)) (zcons rfl rfl)) ?_
      refine zp_back (zw_run hC (hH.2.2) hl.1 ((dWp hH hpp (y := x1) (by omega))) 2 (As := [.int (iZ ((l1 : Int))), .int (iZ (((r1 + 1 : Nat) : Int) - 1))]) (rest := []) (u_X10_within lau s0 G (pr x1) (pa (x1)) (pm (x1)) (pf (x1)) n v (x1) l1 (r1 + 1) (by first | exact hn | assumption | omega) (by exact hpc _ (by omega)) (by first | exact hlr | assumption | omega) (by first | exact hrn | assumption | omega)) (fun hx0 hO0 => u_X10_within_nw lau s0 G (pr x1) (pa (x1)) (pm (x1)) (pf (x1)) n v (x1) l1 (r1 + 1) (by first | exact hn | assumption | omega) (by exact hpc _ (by omega)) (by first | exact hlr | assumption | omega) (by first | exact hrn | assumption | omega) hx0 hO0) (lw_V q742 q743 q744 q110 q745) ⟨rfl, by decide, by decide, by decide +kernel⟩ rfl rfl (Nat.le_of_ble_eq_true rfl) ⟨Nat.le_of_ble_eq_true rfl, Nat.le_of_ble_eq_true rfl⟩ ⟨by first | decide | omega, by first | decide | omega⟩ dX1_often_23) (fun _ hpost => ?_)
      refine z_st (st' := [.int (iZ (((cnt v l1 (r1 + 1) (x1) : Nat) : Int)))]) rfl ?_
      refine z_goto hC 26 30 dX1_often_26 rfl ?_
      -- R30.1
      exact z_iret hC hH hQ 30 ((((cnt v l1 (r1 + 1) (x1) : Nat) : Int), F, (va_up Ar 16 zZ))) dX1_often_30 rfl ⟨by first | (unfold Sp_often; rw [if_neg (by omega)]) | (unfold Sp_often; rw [if_pos (by omega)]; (try simp only [Int.toNat_natCast, zt1]); first | done | trivial | rfl | omega | (rw [if_pos (by omega)]; first | done | trivial | rfl | omega) | (rw [if_neg (by omega)]; first | done | trivial | rfl | omega)), by first | assumption | exact ⟨fun k h1 h2 h3 h4 h5 => by first | rfl | (simp [va_up, h1, h2, h3, h4, h5]; done) | (simp [va_up, h1, h2, h3, h4, h5]; intro e9; rw [e9, hFn]), fun k h1 h2 h3 h4 h5 h6 => by first | rfl | simp [va_up, h1, h2, h3, h4, h5, h6]⟩⟩ rfl (Nat.le_refl _) (Nat.le_refl _)
    · -- 10=0
      refine z_if_eq_t hC 13 29 dX1_often_13 rfl (by omega) (by omega) ?_
      refine z_iconst hC 29 dX1_often_29 ?_
      -- R30.2
      exact z_iret hC hH hQ 30 (((-1), F, (va_up Ar 16 zZ))) dX1_often_30 rfl ⟨by first | (unfold Sp_often; rw [if_neg (by omega)]) | (unfold Sp_often; rw [if_pos (by omega)]; (try simp only [Int.toNat_natCast, zt1]); first | done | trivial | rfl | omega | (rw [if_pos (by omega)]; first | done | trivial | rfl | omega) | (rw [if_neg (by omega)]; first | done | trivial | rfl | omega)), by first | assumption | exact ⟨fun k h1 h2 h3 h4 h5 => by first | rfl | (simp [va_up, h1, h2, h3, h4, h5]; done) | (simp [va_up, h1, h2, h3, h4, h5]; intro e9; rw [e9, hFn]), fun k h1 h2 h3 h4 h5 h6 => by first | rfl | simp [va_up, h1, h2, h3, h4, h5, h6]⟩⟩ rfl (Nat.le_refl _) (Nat.le_refl _)
  · -- 3=0
    refine z_if_eq_t hC 6 29 dX1_often_6 rfl (by omega) (by omega) ?_
    refine z_iconst hC 29 dX1_often_29 ?_
    -- R30.3
    exact z_iret hC hH hQ 30 (((-1), F, (va_up Ar 16 zZ))) dX1_often_30 rfl ⟨by first | (unfold Sp_often; rw [if_neg (by omega)]) | (unfold Sp_often; rw [if_pos (by omega)]; (try simp only [Int.toNat_natCast, zt1]); first | done | trivial | rfl | omega | (rw [if_pos (by omega)]; first | done | trivial | rfl | omega) | (rw [if_neg (by omega)]; first | done | trivial | rfl | omega)), by first | assumption | exact ⟨fun k h1 h2 h3 h4 h5 => by first | rfl | (simp [va_up, h1, h2, h3, h4, h5]; done) | (simp [va_up, h1, h2, h3, h4, h5]; intro e9; rw [e9, hFn]), fun k h1 h2 h3 h4 h5 h6 => by first | rfl | simp [va_up, h1, h2, h3, h4, h5, h6]⟩⟩ rfl (Nat.le_refl _) (Nat.le_refl _)

set_option maxHeartbeats 4000000 in
set_option maxRecDepth 100000 in
theorem m_X1_unlike (lau : Launch) (s0 : State) (G : zG) (sz : Nat) (ad : Nat → Nat) (F : Nat → Int) (Ar : Nat → Nat → Int) (kp : Nat → Nat) (pl : Nat → Option Nat) (PW : va_W) (n : Nat) (v : Nat → Nat) (pr : Nat → Nat) (pa : Nat → Nat) (pm : Nat → Nat) (pf : Nat → Nat → Nat) (nw : Nat) (b : Nat) (t : Nat) (l : Int) (r : Int) (hn : n ≤ 120) (hFn : F 200 = (n : Int)) (hv : ∀ i, i < n → v i < 1000) (hAv : ∀ i, i < n → Ar 201 i = (v i : Int)) (hb : 2 ≤ b ∧ b ≤ 20) (hFb : F 7 = (b : Int)) (ht : t < 4) (hFt : F 8 = (t : Int)) (hpl : ∀ y, y < 1000 → (pl y = some (pr y) ∨ (pl y = none ∧ pr y = nw))) (hnw : zNwh s0 nw) (hpc : ∀ y, y < 1000 → PlC n v y (pm y) (pf y)) (hpp : zPool s0 G PW pr pa pm pf) (hmo : ∀ i j, i ≤ j → b * j < n → Ar 12 (60 * i + j) = (md v (b * i) (bEnd b j n) t : Int)) (hr_l : -2147483648 ≤ l ∧ l < 2147483648) (hr_r : -2147483648 ≤ r ∧ r < 2147483648) : zMet (S := Int × (Nat → Int) × (Nat → Nat → Int)) lau yX1_unlike cX1_unlike 3 (some .int) 2 44 0 0 s0 G sz [.ref (ad 99), .int (iZ (l)), .int (iZ (r))] (dW ad G F (va_up Ar 16 zZ) kp pl PW) (fun ((r_, F2, A2) : Int × (Nat → Int) × (Nat → Nat → Int)) => some (.int (iZ (r_)))) (fun ((r_, F2, A2) : Int × (Nat → Int) × (Nat → Nat → Int)) => (Sp_unlike n v l r r_) ∧ (DK F (va_up Ar 16 zZ) F2 A2)) (fun ((r_, F2, A2) : Int × (Nat → Int) × (Nat → Nat → Int)) => (dW ad G F2 A2 kp pl PW)) := by
  refine zMet.of (by decide) (Nat.le_of_ble_eq_true rfl) ?_
  intro pg ev s1 mi ar bl me cd ls Q as0 hC hH hl hQ hsz
  generalize s1.heap = H at hH ⊢
  generalize ([] : List Loc) = locs at hH ⊢
  have hl : lv_has ls 3 [(0, .ref (ad 99)), (1, .int (iZ (l))), (2, .int (iZ (r)))] := hl
  refine z_aload_n hC 0 hl dX1_unlike_0 rfl 0 rfl ?_
  refine z_iload_n hC 1 hl dX1_unlike_1 rfl 1 rfl ?_
  refine z_iload_n hC 2 hl dX1_unlike_2 rfl 2 rfl ?_
  refine zp_back (zp_runV hC (hH.2.2) hl.1 (va_P_l hH.1) 2 (As := [.int (iZ (l)), .int (iZ (r))]) (rest := []) (u_X1_isSpan lau s0 G ad F (va_up Ar 16 zZ) kp pl n l r (by first | exact hn | assumption | omega) (by first | exact hFn | assumption | omega) (by first | assumption | omega) (by first | assumption | omega)) (lw_V q864 q866 qs26 q89 q867) ⟨rfl, by decide, by decide, by decide +kernel⟩ (q0 := 0) (ci := 1) rfl rfl rfl rfl (Nat.le_of_ble_eq_true rfl) ⟨Nat.le_of_ble_eq_true rfl, Nat.le_of_ble_eq_true rfl⟩ ⟨by first | decide | omega, by first | decide | omega⟩ dX1_unlike_3) (fun r_3 hpost => ?_)
  have hb_3 : (r_3 = 1 ∧ (0 ≤ l ∧ l ≤ r ∧ r < (n : Int))) ∨ (r_3 = 0 ∧ ¬ (0 ≤ l ∧ l ≤ r ∧ r < (n : Int))) := hpost
  refine z_st (st' := [.int (iZ (r_3))]) rfl ?_
  rcases hb_3 with ⟨rfl, hb_3⟩ | ⟨rfl, hb_3⟩
  · -- 3=1
    refine z_if_ne_t hC 6 11 dX1_unlike_6 rfl (by omega) (by omega) ?_
    obtain ⟨l1, rfl⟩ := Int.eq_ofNat_of_zero_le (show 0 ≤ l by omega)
    obtain ⟨r1, rfl⟩ := Int.eq_ofNat_of_zero_le (show 0 ≤ r by omega)
    refine z_aload_n hC 11 hl dX1_unlike_11 rfl 0 rfl ?_
    refine z_iload_n hC 12 hl dX1_unlike_12 rfl 1 rfl ?_
    refine z_iload_n hC 13 hl dX1_unlike_13 rfl 2 rfl ?_
    refine z_st (st' := [.int (iZ (((r1 + 1 : Nat) : Int) - 1)), .int (iZ ((l1 : Int))), .ref (ad 99)]) (zcons (zieq (by omega)) (zcons rfl rfl)) ?_
    refine z_same (z_runV hC hH.2.2 hl.1 hH.1 hH.2.1 2 (As := [.int (iZ ((l1 : Int))), .int (iZ (((r1 + 1 : Nat) : Int) - 1))]) (rest := []) (m_X1_laysAll lau s0 G _ ad F (va_up Ar 16 zZ) kp pl PW n v l1 (r1 + 1) (by first | exact hn | assumption | omega) (by first | exact hFn | assumption | omega) (by first | exact hv | assumption | omega) (by first | exact hAv | assumption | omega) (by first | exact hlr | assumption | omega) (by first | exact hrn | assumption | omega)) (lw_V q1051 q1053 qs35 q89 q1054) ⟨rfl, by decide, by decide, by decide +kernel⟩ (q0 := 0) (ci := 1) rfl rfl rfl rfl (Nat.le_of_ble_eq_true rfl) ⟨Nat.le_of_ble_eq_true rfl, Nat.le_of_ble_eq_true rfl⟩ ⟨Nat.le_of_ble_eq_true rfl, Nat.le_of_ble_eq_true rfl⟩ dX1_unlike_14) hH (fun u_ H locs hpost hH => ?_)
    obtain ⟨k_14, u_14, gu_14⟩ := u_
    have pE_14 : EN v l1 (r1 + 1) k_14 u_14 := hpost
    have hH : zH s0 s1 G as0 (dW ad G (va_up F 17 ((k_14 : Int))) (va_up (va_up Ar 15 (cI (k_14) u_14 gu_14)) 16 zZ) kp pl PW) H locs := hH
    refine z_st (st' := []) rfl ?_
    refine z_aload_n hC 17 hl dX1_unlike_17 rfl 0 rfl ?_
    refine zp_get (v := .int (iZ ((k_14 : Int)))) hC (va_P_l hH.1) 18 in_X1 rfl 17 (by decide) q227 0 rfl (rfl) dX1_unlike_18 ?_
    -- R21.1
    exact z_iret hC hH hQ 21 (((k_14 : Int), (va_up F 17 ((k_14 : Int))), (va_up (va_up Ar 15 (cI (k_14) u_14 gu_14)) 16 zZ))) dX1_unlike_21 rfl ⟨by (unfold Sp_unlike; rw [if_pos (by omega)]; try simp only [Int.toNat_natCast, zt1]; rw [EN_dst pE_14]), by first | assumption | exact ⟨fun k h1 h2 h3 h4 h5 => by first | rfl | (simp [va_up, h1, h2, h3, h4, h5]; done) | (simp [va_up, h1, h2, h3, h4, h5]; intro e9; rw [e9, hFn]), fun k h1 h2 h3 h4 h5 h6 => by first | rfl | simp [va_up, h1, h2, h3, h4, h5, h6]⟩⟩ rfl (Nat.le_refl _) (Nat.le_refl _)
  · -- 3=0
    refine z_if_ne_f hC 6 11 dX1_unlike_6 rfl (by omega) (by omega) ?_
    refine z_iconst hC 9 dX1_unlike_9 ?_
    -- R10.2
    exact z_iret hC hH hQ 10 (((-1), F, (va_up Ar 16 zZ))) dX1_unlike_10 rfl ⟨by first | (unfold Sp_unlike; rw [if_neg (by omega)]) | (unfold Sp_unlike; rw [if_pos (by omega)]; (try simp only [Int.toNat_natCast, zt1]); first | done | trivial | rfl | omega | (rw [if_pos (by omega)]; first | done | trivial | rfl | omega) | (rw [if_neg (by omega)]; first | done | trivial | rfl | omega)), by first | assumption | exact ⟨fun k h1 h2 h3 h4 h5 => by first | rfl | (simp [va_up, h1, h2, h3, h4, h5]; done) | (simp [va_up, h1, h2, h3, h4, h5]; intro e9; rw [e9, hFn]), fun k h1 h2 h3 h4 h5 h6 => by first | rfl | simp [va_up, h1, h2, h3, h4, h5, h6]⟩⟩ rfl (Nat.le_refl _) (Nat.le_refl _)

set_option maxHeartbeats 4000000 in
set_option maxRecDepth 100000 in
theorem m_X1_ranked (lau : Launch) (s0 : State) (G : zG) (sz : Nat) (ad : Nat → Nat) (F : Nat → Int) (Ar : Nat → Nat → Int) (kp : Nat → Nat) (pl : Nat → Option Nat) (PW : va_W) (n : Nat) (v : Nat → Nat) (pr : Nat → Nat) (pa : Nat → Nat) (pm : Nat → Nat) (pf : Nat → Nat → Nat) (nw : Nat) (b : Nat) (t : Nat) (l : Int) (r : Int) (k0 : Int) (q : Int) (hn : n ≤ 120) (hFn : F 200 = (n : Int)) (hv : ∀ i, i < n → v i < 1000) (hAv : ∀ i, i < n → Ar 201 i = (v i : Int)) (hb : 2 ≤ b ∧ b ≤ 20) (hFb : F 7 = (b : Int)) (ht : t < 4) (hFt : F 8 = (t : Int)) (hpl : ∀ y, y < 1000 → (pl y = some (pr y) ∨ (pl y = none ∧ pr y = nw))) (hnw : zNwh s0 nw) (hpc : ∀ y, y < 1000 → PlC n v y (pm y) (pf y)) (hpp : zPool s0 G PW pr pa pm pf) (hmo : ∀ i j, i ≤ j → b * j < n → Ar 12 (60 * i + j) = (md v (b * i) (bEnd b j n) t : Int)) (hr_l : -2147483648 ≤ l ∧ l < 2147483648) (hr_r : -2147483648 ≤ r ∧ r < 2147483648) (hr_k0 : -2147483648 ≤ k0 ∧ k0 < 2147483648) (hr_q : -2147483648 ≤ q ∧ q < 2147483648) : zMet (S := Int × (Nat → Int) × (Nat → Nat → Int)) lau yX1_ranked cX1_ranked 5 (some .int) 5 121 0 0 s0 G sz [.ref (ad 99), .int (iZ (l)), .int (iZ (r)), .int (iZ (k0)), .int (iZ (q))] (dW ad G F (va_up Ar 16 zZ) kp pl PW) (fun ((r_, F2, A2) : Int × (Nat → Int) × (Nat → Nat → Int)) => some (.int (iZ (r_)))) (fun ((r_, F2, A2) : Int × (Nat → Int) × (Nat → Nat → Int)) => (Sp_ranked n v t l r k0 q r_) ∧ (DK F (va_up Ar 16 zZ) F2 A2)) (fun ((r_, F2, A2) : Int × (Nat → Int) × (Nat → Nat → Int)) => (dW ad G F2 A2 kp pl PW)) := by
  refine zMet.of (by decide) (Nat.le_of_ble_eq_true rfl) ?_
  intro pg ev s1 mi ar bl me cd ls Q as0 hC hH hl hQ hsz
  generalize s1.heap = H at hH ⊢
  generalize ([] : List Loc) = locs at hH ⊢
  have hl : lv_has ls 5 [(0, .ref (ad 99)), (1, .int (iZ (l))), (2, .int (iZ (r))), (3, .int (iZ (k0))), (4, .int (iZ (q)))] := hl
  refine z_aload_n hC 0 hl dX1_ranked_0 rfl 0 rfl ?_
  refine z_iload_n hC 1 hl dX1_ranked_1 rfl 1 rfl ?_
  refine z_iload_n hC 2 hl dX1_ranked_2 rfl 2 rfl ?_
  refine zp_back (zp_runV hC (hH.2.2) hl.1 (va_P_l hH.1) 2 (As := [.int (iZ (l)), .int (iZ (r))]) (rest := []) (u_X1_isSpan lau s0 G ad F (va_up Ar 16 zZ) kp pl n l r (by first | exact hn | assumption | omega) (by first | exact hFn | assumption | omega) (by first | assumption | omega) (by first | assumption | omega)) (lw_V q864 q866 qs26 q89 q867) ⟨rfl, by decide, by decide, by decide +kernel⟩ (q0 := 0) (ci := 1) rfl rfl rfl rfl (Nat.le_of_ble_eq_true rfl) ⟨Nat.le_of_ble_eq_true rfl, Nat.le_of_ble_eq_true rfl⟩ ⟨by first | decide | omega, by first | decide | omega⟩ dX1_ranked_3) (fun r_3 hpost => ?_)
  have hb_3 : (r_3 = 1 ∧ (0 ≤ l ∧ l ≤ r ∧ r < (n : Int))) ∨ (r_3 = 0 ∧ ¬ (0 ≤ l ∧ l ≤ r ∧ r < (n : Int))) := hpost
  refine z_st (st' := [.int (iZ (r_3))]) rfl ?_
  rcases hb_3 with ⟨rfl, hb_3⟩ | ⟨rfl, hb_3⟩
  · -- 3=1
    refine z_if_eq_f hC 6 26 dX1_ranked_6 rfl (by omega) (by omega) ?_
    refine z_iload_n hC 9 hl dX1_ranked_9 rfl 3 rfl ?_
    refine z_if_lt hC 10 26 dX1_ranked_10 rfl (by omega) (fun hb1 => ?_) (fun hb1 => ?_)
    · -- 10t
      refine z_iconst hC 26 dX1_ranked_26 ?_
      -- R27.1
      exact z_iret hC hH hQ 27 (((-1), F, (va_up Ar 16 zZ))) dX1_ranked_27 rfl ⟨by first | (unfold Sp_ranked; rw [if_neg (by omega)]) | (unfold Sp_ranked; rw [if_pos (by omega)]; (try simp only [Int.toNat_natCast, zt1]); first | done | trivial | rfl | omega | (rw [if_pos (by omega)]; first | done | trivial | rfl | omega) | (rw [if_neg (by omega)]; first | done | trivial | rfl | omega)), by first | assumption | exact ⟨fun k h1 h2 h3 h4 h5 => by first | rfl | (simp [va_up, h1, h2, h3, h4, h5]; done) | (simp [va_up, h1, h2, h3, h4, h5]; intro e9; rw [e9, hFn]), fun k h1 h2 h3 h4 h5 h6 => by first | rfl | simp [va_up, h1, h2, h3, h4, h5, h6]⟩⟩ rfl (Nat.le_refl _) (Nat.le_refl _)
    · -- 10f
      refine z_iload hC 13 hl dX1_ranked_13 4 rfl ?_
      refine z_i2l hC 15 dX1_ranked_15 (by omega) ?_
      refine z_lconst (a := 0) hC 16 dX1_ranked_16 rfl ?_
      refine z_ldc2 (a := 3) hC 17 q1039 rfl dX1_ranked_17 ?_
      refine zp_back (zp_runS hC (hH.2.2) hl.1 (zp_nil) 3 (As := [.long (lZ (q)), .long (lZ (0)), .long (lZ (3))]) (rest := []) (u_X1_isIn lau s0 G q 0 3 (by first | assumption | omega) (by first | assumption | omega) (by first | assumption | omega)) (lw_S q303 q304 q89 q305) ⟨by decide, by decide, by decide +kernel⟩ rfl rfl (Nat.le_of_ble_eq_true rfl) ⟨Nat.le_of_ble_eq_true rfl, Nat.le_of_ble_eq_true rfl⟩ ⟨by first | decide | omega, by first | decide | omega⟩ dX1_ranked_20) (fun r_20 hpost => ?_)
      have hb_20 : (r_20 = 1 ∧ ((0 : Int) ≤ q ∧ q ≤ (3 : Int))) ∨ (r_20 = 0 ∧ ¬ ((0 : Int) ≤ q ∧ q ≤ (3 : Int))) := hpost
      refine z_st (st' := [.int (iZ (r_20))]) rfl ?_
      rcases hb_20 with ⟨rfl, hb_20⟩ | ⟨rfl, hb_20⟩
      · -- 20=1
        refine z_if_ne_t hC 23 28 dX1_ranked_23 rfl (by omega) (by omega) ?_
        obtain ⟨l1, rfl⟩ := Int.eq_ofNat_of_zero_le (show 0 ≤ l by omega)
        obtain ⟨r1, rfl⟩ := Int.eq_ofNat_of_zero_le (show 0 ≤ r by omega)
        refine z_aload_n hC 28 hl dX1_ranked_28 rfl 0 rfl ?_
        refine z_iload_n hC 29 hl dX1_ranked_29 rfl 1 rfl ?_
        refine z_iload_n hC 30 hl dX1_ranked_30 rfl 2 rfl ?_
        refine z_st (st' := [.int (iZ (((r1 + 1 : Nat) : Int) - 1)), .int (iZ ((l1 : Int))), .ref (ad 99)]) (zcons (zieq (by omega)) (zcons rfl rfl)) ?_
        refine z_same (z_runV hC hH.2.2 hl.1 hH.1 hH.2.1 2 (As := [.int (iZ ((l1 : Int))), .int (iZ (((r1 + 1 : Nat) : Int) - 1))]) (rest := []) (m_X1_laysAll lau s0 G _ ad F (va_up Ar 16 zZ) kp pl PW n v l1 (r1 + 1) (by first | exact hn | assumption | omega) (by first | exact hFn | assumption | omega) (by first | exact hv | assumption | omega) (by first | exact hAv | assumption | omega) (by first | exact hlr | assumption | omega) (by first | exact hrn | assumption | omega)) (lw_V q1051 q1053 qs35 q89 q1054) ⟨rfl, by decide, by decide, by decide +kernel⟩ (q0 := 0) (ci := 1) rfl rfl rfl rfl (Nat.le_of_ble_eq_true rfl) ⟨Nat.le_of_ble_eq_true rfl, Nat.le_of_ble_eq_true rfl⟩ ⟨Nat.le_of_ble_eq_true rfl, Nat.le_of_ble_eq_true rfl⟩ dX1_ranked_31) hH (fun u_ H locs hpost hH => ?_)
        obtain ⟨k_31, u_31, gu_31⟩ := u_
        have pE_31 : EN v l1 (r1 + 1) k_31 u_31 := hpost
        have hH : zH s0 s1 G as0 (dW ad G (va_up F 17 ((k_31 : Int))) (va_up (va_up Ar 15 (cI (k_31) u_31 gu_31)) 16 zZ) kp pl PW) H locs := hH
        refine z_st (st' := []) rfl ?_
        have hds := EN_dst pE_31
        have hkk := pE_31.1
        refine z_aload_n hC 34 hl dX1_ranked_34 rfl 0 rfl ?_
        refine z_iload_n hC 35 hl dX1_ranked_35 rfl 1 rfl ?_
        refine z_iload_n hC 36 hl dX1_ranked_36 rfl 2 rfl ?_
        refine z_st (st' := [.int (iZ (((r1 + 1 : Nat) : Int) - 1)), .int (iZ ((l1 : Int))), .ref (ad 99)]) (zcons (zieq (by omega)) (zcons rfl rfl)) ?_
        refine z_same (z_runV hC hH.2.2 hl.1 hH.1 hH.2.1 2 (As := [.int (iZ ((l1 : Int))), .int (iZ (((r1 + 1 : Nat) : Int) - 1))]) (rest := []) (m_X1_ranks lau s0 G _ ad (va_up F 17 ((k_31 : Int))) (va_up (va_up Ar 15 (cI (k_31) u_31 gu_31)) 16 zZ) kp pl PW n v pr pa pm pf nw k_31 u_31 gu_31 l1 (r1 + 1) t (by first | exact hn | assumption | omega) (by first | exact hFn | assumption | omega) (by first | exact hpl | assumption | omega) (by first | exact hnw | assumption | omega) (by first | exact hpc | assumption | omega) (by first | exact hpp | assumption | omega) (by first | exact hv | assumption | omega) (by first | exact hlr | assumption | omega) (by first | exact hrn | assumption | omega) (by first | exact ht | assumption | omega) (by first | exact hFt | assumption | omega) (by have := pE_31.1; omega) (by exact fun j hj => pE_31.2.1 j hj) (by exact pE_31.2.2.1) (by exact CAN_pos (t := t) (EN_CAN pE_31 (fun i hi => hv i (by omega)) (by omega)))) (lw_V q1055 q1057 qs36 q89 q1058) ⟨rfl, by decide, by decide, by decide +kernel⟩ (q0 := 0) (ci := 1) rfl rfl rfl rfl (Nat.le_of_ble_eq_true rfl) ⟨Nat.le_of_ble_eq_true rfl, Nat.le_of_ble_eq_true rfl⟩ ⟨Nat.le_of_ble_eq_true rfl, Nat.le_of_ble_eq_true rfl⟩ dX1_ranked_37) hH (fun w_37 H locs hpost hH => ?_)
        have pR_37 : RKS v l1 (r1 + 1) t k_31 u_31 w_37 := hpost
        have hH : zH s0 s1 G as0 (dW ad G (va_up F 17 ((k_31 : Int))) (va_up (va_up Ar 15 (cI (k_31) w_37 gu_31)) 16 zZ) kp pl PW) H locs := hH
        refine z_st (st' := []) rfl ?_
        refine z_iload_n hC 40 hl dX1_ranked_40 rfl 3 rfl ?_
        refine z_aload_n hC 41 hl dX1_ranked_41 rfl 0 rfl ?_
        refine zp_get (v := .int (iZ ((k_31 : Int)))) hC (va_P_l hH.1) 42 in_X1 rfl 17 (by decide) q227 0 rfl (rfl) dX1_ranked_42 ?_
        refine z_icmp_ge hC 45 65 dX1_ranked_45 rfl (by omega) (by omega) (fun hb2 => ?_) (fun hb2 => ?_)
        · -- 45t
          refine z_bipush hC 65 dX1_ranked_65 rfl ?_
          -- R67.2
          exact z_iret hC hH hQ 67 (((-2), (va_up F 17 ((k_31 : Int))), (va_up (va_up Ar 15 (cI (k_31) w_37 gu_31)) 16 zZ))) dX1_ranked_67 rfl ⟨by (unfold Sp_ranked; rw [if_pos (by omega)]; simp only [Int.toNat_natCast, zt1]; first | (rw [if_pos (by omega), hwk]; done) | (rw [if_neg (by omega)]; done) | (rw [if_neg (by omega)]; trivial)), by first | assumption | exact ⟨fun k h1 h2 h3 h4 h5 => by first | rfl | (simp [va_up, h1, h2, h3, h4, h5]; done) | (simp [va_up, h1, h2, h3, h4, h5]; intro e9; rw [e9, hFn]), fun k h1 h2 h3 h4 h5 h6 => by first | rfl | simp [va_up, h1, h2, h3, h4, h5, h6]⟩⟩ rfl (Nat.le_refl _) (Nat.le_refl _)
        · -- 45f
          obtain ⟨k1, rfl⟩ := Int.eq_ofNat_of_zero_le (show 0 ≤ k0 by omega)
          have hof := ofR_spec (t := t) pE_31 (i := k1) (by omega)
          have hwk := RKS_ofR pE_31 pR_37 (show k1 < k_31 by omega)
          refine z_aload_n hC 48 hl dX1_ranked_48 rfl 0 rfl ?_
          refine z_aload_n hC 49 hl dX1_ranked_49 rfl 0 rfl ?_
          refine zp_get (v := .ref (ad 15)) hC (va_P_l hH.1) 50 in_X1 rfl 15 (by decide) q225 0 rfl (rfl) dX1_ranked_50 ?_
          refine z_iload_n hC 53 hl dX1_ranked_53 rfl 3 rfl ?_
          refine zp_iald (f := (cI (k_31) w_37 gu_31)) (x := ((w_37 k1 : Nat) : Int)) hC (va_P_l hH.1) 54 6 (k1) rfl (by decide) (by omega) (by omega) ((cI_lt (by omega))) dX1_ranked_54 ?_
          refine z_iload_n hC 55 hl dX1_ranked_55 rfl 1 rfl ?_
          refine z_iload_n hC 56 hl dX1_ranked_56 rfl 2 rfl ?_
          refine z_iload hC 57 hl dX1_ranked_57 4 rfl ?_
          refine z_st (st' := [.int (iZ (q)), .int (iZ (((r1 + 1 : Nat) : Int) - 1)), .int (iZ ((l1 : Int))), .int (iZ (((w_37 k1 : Nat) : Int))), .ref (ad 99)]) (zcons rfl (zcons (zieq (by omega)) (zcons rfl (zcons rfl rfl)))) ?_
          refine zp_back (zp_runV hC (hH.2.2) hl.1 (dP_of hH hpp) 4 (As := [.int (iZ (((w_37 k1 : Nat) : Int))), .int (iZ ((l1 : Int))), .int (iZ (((r1 + 1 : Nat) : Int) - 1)), .int (iZ (q))]) (rest := []) (u_X1_told lau s0 G ad (va_up F 17 ((k_31 : Int))) (va_up (va_up Ar 15 (cI (k_31) w_37 gu_31)) 16 zZ) kp pl pr pa pm pf n v (w_37 k1) l1 (r1 + 1) nw q (by first | exact hn | assumption | omega) (by first | exact hv | assumption | omega) (by first | exact hpl | assumption | omega) (by first | exact hnw | assumption | omega) (by first | exact hpc | assumption | omega) (by first | exact hlr | assumption | omega) (by first | exact hrn | assumption | omega) (by first | assumption | omega) (by rw [hwk]; exact hof.1) (by rw [hwk]; exact hof.2.1)) (lw_V q1041 q1043 qs34 q89 q1044) ⟨rfl, by decide, by decide, by decide +kernel⟩ (q0 := 0) (ci := 1) rfl rfl rfl rfl (Nat.le_of_ble_eq_true rfl) ⟨Nat.le_of_ble_eq_true rfl, Nat.le_of_ble_eq_true rfl⟩ ⟨by first | decide | omega, by first | decide | omega⟩ dX1_ranked_59) (fun _ hpost => ?_)
          refine z_st (st' := [.int (iZ ((toldZ v l1 (r1 + 1) (w_37 k1) q)))]) rfl ?_
          refine z_goto hC 62 67 dX1_ranked_62 rfl ?_
          -- R67.3
          exact z_iret hC hH hQ 67 (((toldZ v l1 (r1 + 1) (w_37 k1) q), (va_up F 17 ((k_31 : Int))), (va_up (va_up Ar 15 (cI (k_31) w_37 gu_31)) 16 zZ))) dX1_ranked_67 rfl ⟨by (unfold Sp_ranked; rw [if_pos (by omega)]; simp only [Int.toNat_natCast, zt1]; first | (rw [if_pos (by omega), hwk]; done) | (rw [if_neg (by omega)]; done) | (rw [if_neg (by omega)]; trivial)), by first | assumption | exact ⟨fun k h1 h2 h3 h4 h5 => by first | rfl | (simp [va_up, h1, h2, h3, h4, h5]; done) | (simp [va_up, h1, h2, h3, h4, h5]; intro e9; rw [e9, hFn]), fun k h1 h2 h3 h4 h5 h6 => by first | rfl | simp [va_up, h1, h2, h3, h4, h5, h6]⟩⟩ rfl (Nat.le_refl _) (Nat.le_refl _)
      · -- 20=0
        refine z_if_ne_f hC 23 28 dX1_ranked_23 rfl (by omega) (by omega) ?_
        refine z_iconst hC 26 dX1_ranked_26 ?_
        -- R27.4
        exact z_iret hC hH hQ 27 (((-1), F, (va_up Ar 16 zZ))) dX1_ranked_27 rfl ⟨by first | (unfold Sp_ranked; rw [if_neg (by omega)]) | (unfold Sp_ranked; rw [if_pos (by omega)]; (try simp only [Int.toNat_natCast, zt1]); first | done | trivial | rfl | omega | (rw [if_pos (by omega)]; first | done | trivial | rfl | omega) | (rw [if_neg (by omega)]; first | done | trivial | rfl | omega)), by first | assumption | exact ⟨fun k h1 h2 h3 h4 h5 => by first | rfl | (simp [va_up, h1, h2, h3, h4, h5]; done) | (simp [va_up, h1, h2, h3, h4, h5]; intro e9; rw [e9, hFn]), fun k h1 h2 h3 h4 h5 h6 => by first | rfl | simp [va_up, h1, h2, h3, h4, h5, h6]⟩⟩ rfl (Nat.le_refl _) (Nat.le_refl _)
  · -- 3=0
    refine z_if_eq_t hC 6 26 dX1_ranked_6 rfl (by omega) (by omega) ?_
    refine z_iconst hC 26 dX1_ranked_26 ?_
    -- R27.5
    exact z_iret hC hH hQ 27 (((-1), F, (va_up Ar 16 zZ))) dX1_ranked_27 rfl ⟨by first | (unfold Sp_ranked; rw [if_neg (by omega)]) | (unfold Sp_ranked; rw [if_pos (by omega)]; (try simp only [Int.toNat_natCast, zt1]); first | done | trivial | rfl | omega | (rw [if_pos (by omega)]; first | done | trivial | rfl | omega) | (rw [if_neg (by omega)]; first | done | trivial | rfl | omega)), by first | assumption | exact ⟨fun k h1 h2 h3 h4 h5 => by first | rfl | (simp [va_up, h1, h2, h3, h4, h5]; done) | (simp [va_up, h1, h2, h3, h4, h5]; intro e9; rw [e9, hFn]), fun k h1 h2 h3 h4 h5 h6 => by first | rfl | simp [va_up, h1, h2, h3, h4, h5, h6]⟩⟩ rfl (Nat.le_refl _) (Nat.le_refl _)

set_option maxHeartbeats 4000000 in
set_option maxRecDepth 100000 in
theorem m_X1_rank (lau : Launch) (s0 : State) (G : zG) (sz : Nat) (ad : Nat → Nat) (F : Nat → Int) (Ar : Nat → Nat → Int) (kp : Nat → Nat) (pl : Nat → Option Nat) (PW : va_W) (n : Nat) (v : Nat → Nat) (pr : Nat → Nat) (pa : Nat → Nat) (pm : Nat → Nat) (pf : Nat → Nat → Nat) (nw : Nat) (b : Nat) (t : Nat) (l : Int) (r : Int) (x : Int) (hn : n ≤ 120) (hFn : F 200 = (n : Int)) (hv : ∀ i, i < n → v i < 1000) (hAv : ∀ i, i < n → Ar 201 i = (v i : Int)) (hb : 2 ≤ b ∧ b ≤ 20) (hFb : F 7 = (b : Int)) (ht : t < 4) (hFt : F 8 = (t : Int)) (hpl : ∀ y, y < 1000 → (pl y = some (pr y) ∨ (pl y = none ∧ pr y = nw))) (hnw : zNwh s0 nw) (hpc : ∀ y, y < 1000 → PlC n v y (pm y) (pf y)) (hpp : zPool s0 G PW pr pa pm pf) (hmo : ∀ i j, i ≤ j → b * j < n → Ar 12 (60 * i + j) = (md v (b * i) (bEnd b j n) t : Int)) (hr_l : -2147483648 ≤ l ∧ l < 2147483648) (hr_r : -2147483648 ≤ r ∧ r < 2147483648) (hr_x : -2147483648 ≤ x ∧ x < 2147483648) : zMet (S := Int × (Nat → Int) × (Nat → Nat → Int)) lau yX1_rank cX1_rank 6 (some .int) 4 96 0 0 s0 G sz [.ref (ad 99), .int (iZ (l)), .int (iZ (r)), .int (iZ (x))] (dW ad G F (va_up Ar 16 zZ) kp pl PW) (fun ((r_, F2, A2) : Int × (Nat → Int) × (Nat → Nat → Int)) => some (.int (iZ (r_)))) (fun ((r_, F2, A2) : Int × (Nat → Int) × (Nat → Nat → Int)) => (Sp_rank n v t l r x r_) ∧ (DK F (va_up Ar 16 zZ) F2 A2)) (fun ((r_, F2, A2) : Int × (Nat → Int) × (Nat → Nat → Int)) => (dW ad G F2 A2 kp pl PW)) := by
  refine zMet.of (by decide) (Nat.le_of_ble_eq_true rfl) ?_
  intro pg ev s1 mi ar bl me cd ls Q as0 hC hH hl hQ hsz
  generalize s1.heap = H at hH ⊢
  generalize ([] : List Loc) = locs at hH ⊢
  have hl : lv_has ls 6 [(0, .ref (ad 99)), (1, .int (iZ (l))), (2, .int (iZ (r))), (3, .int (iZ (x)))] := hl
  refine z_aload_n hC 0 hl dX1_rank_0 rfl 0 rfl ?_
  refine z_iload_n hC 1 hl dX1_rank_1 rfl 1 rfl ?_
  refine z_iload_n hC 2 hl dX1_rank_2 rfl 2 rfl ?_
  refine zp_back (zp_runV hC (hH.2.2) hl.1 (va_P_l hH.1) 2 (As := [.int (iZ (l)), .int (iZ (r))]) (rest := []) (u_X1_isSpan lau s0 G ad F (va_up Ar 16 zZ) kp pl n l r (by first | exact hn | assumption | omega) (by first | exact hFn | assumption | omega) (by first | assumption | omega) (by first | assumption | omega)) (lw_V q864 q866 qs26 q89 q867) ⟨rfl, by decide, by decide, by decide +kernel⟩ (q0 := 0) (ci := 1) rfl rfl rfl rfl (Nat.le_of_ble_eq_true rfl) ⟨Nat.le_of_ble_eq_true rfl, Nat.le_of_ble_eq_true rfl⟩ ⟨by first | decide | omega, by first | decide | omega⟩ dX1_rank_3) (fun r_3 hpost => ?_)
  have hb_3 : (r_3 = 1 ∧ (0 ≤ l ∧ l ≤ r ∧ r < (n : Int))) ∨ (r_3 = 0 ∧ ¬ (0 ≤ l ∧ l ≤ r ∧ r < (n : Int))) := hpost
  refine z_st (st' := [.int (iZ (r_3))]) rfl ?_
  rcases hb_3 with ⟨rfl, hb_3⟩ | ⟨rfl, hb_3⟩
  · -- 3=1
    refine z_if_eq_f hC 6 16 dX1_rank_6 rfl (by omega) (by omega) ?_
    refine z_iload_n hC 9 hl dX1_rank_9 rfl 3 rfl ?_
    refine zp_back (zp_runS hC (hH.2.2) hl.1 (zp_nil) 1 (As := [.int (iZ (x))]) (rest := []) (u_X1_isValue lau s0 G x (by first | assumption | omega)) (lw_S q803 q804 q89 q805) ⟨by decide, by decide, by decide +kernel⟩ rfl rfl (Nat.le_of_ble_eq_true rfl) ⟨Nat.le_of_ble_eq_true rfl, Nat.le_of_ble_eq_true rfl⟩ ⟨by first | decide | omega, by first | decide | omega⟩ dX1_rank_10) (fun r_10 hpost => ?_)
    have hb_10 : (r_10 = 1 ∧ (0 ≤ x ∧ x < 1000)) ∨ (r_10 = 0 ∧ ¬ (0 ≤ x ∧ x < 1000)) := hpost
    refine z_st (st' := [.int (iZ (r_10))]) rfl ?_
    rcases hb_10 with ⟨rfl, hb_10⟩ | ⟨rfl, hb_10⟩
    · -- 10=1
      refine z_if_ne_t hC 13 18 dX1_rank_13 rfl (by omega) (by omega) ?_
      obtain ⟨l1, rfl⟩ := Int.eq_ofNat_of_zero_le (show 0 ≤ l by omega)
      obtain ⟨r1, rfl⟩ := Int.eq_ofNat_of_zero_le (show 0 ≤ r by omega)
      obtain ⟨x1, rfl⟩ := Int.eq_ofNat_of_zero_le (show 0 ≤ x by omega)
      have hcx := cnt_le v l1 (r1 + 1) x1
      refine z_aload_n hC 18 hl dX1_rank_18 rfl 0 rfl ?_
      refine z_iload_n hC 19 hl dX1_rank_19 rfl 3 rfl ?_
      refine zp_back (zp_runV hC (hH.2.2) hl.1 (va_P_l hH.1) 1 (As := [.int (iZ ((x1 : Int)))]) (rest := []) (u_X1_of lau s0 G ad F (va_up Ar 16 zZ) kp pl x1 (pr x1) nw (by first | assumption | omega) (by first | exact hpl | (first | assumption | exact hpl _ (by omega)) | assumption | omega) (by first | exact hnw | assumption | omega)) (lw_V q736 q738 qs17 q89 q739) ⟨rfl, by decide, by decide, by decide +kernel⟩ (q0 := 0) (ci := 1) rfl rfl rfl rfl (Nat.le_of_ble_eq_true rfl) ⟨Nat.le_of_ble_eq_true rfl, Nat.le_of_ble_eq_true rfl⟩ ⟨by first | decide | omega, by first | decide | omega⟩ dX1_rank_20) (fun _ hpost => ?_)
      refine z_st (st' := [.ref ((pr x1))]) rfl ?_
      refine z_iload_n hC 23 hl dX1_rank_23 rfl 1 rfl ?_
      refine z_iload_n hC 24 hl dX1_rank_24 rfl 2 rfl ?_
      refine z_st (st' := [.int (iZ (((r1 + 1 : Nat) : Int) - 1)), .int (iZ ((l1 : Int))), .ref ((pr x1))]) (zcons (zieq (by omega)) (zcons rfl rfl)) ?_
      refine zp_back (zw_run hC (hH.2.2) hl.1 ((dWp hH hpp (y := x1) (by omega))) 2 (As := [.int (iZ ((l1 : Int))), .int (iZ (((r1 + 1 : Nat) : Int) - 1))]) (rest := []) (u_X10_within lau s0 G (pr x1) (pa (x1)) (pm (x1)) (pf (x1)) n v (x1) l1 (r1 + 1) (by first | exact hn | assumption | omega) (by exact hpc _ (by omega)) (by first | exact hlr | assumption | omega) (by first | exact hrn | assumption | omega)) (fun hx0 hO0 => u_X10_within_nw lau s0 G (pr x1) (pa (x1)) (pm (x1)) (pf (x1)) n v (x1) l1 (r1 + 1) (by first | exact hn | assumption | omega) (by exact hpc _ (by omega)) (by first | exact hlr | assumption | omega) (by first | exact hrn | assumption | omega) hx0 hO0) (lw_V q742 q743 q744 q110 q745) ⟨rfl, by decide, by decide, by decide +kernel⟩ rfl rfl (Nat.le_of_ble_eq_true rfl) ⟨Nat.le_of_ble_eq_true rfl, Nat.le_of_ble_eq_true rfl⟩ ⟨by first | decide | omega, by first | decide | omega⟩ dX1_rank_25) (fun _ hpost => ?_)
      refine z_st (st' := [.int (iZ (((cnt v l1 (r1 + 1) (x1) : Nat) : Int)))]) rfl ?_
      refine z_if_ne hC 28 34 dX1_rank_28 rfl (by omega) (fun hb1 => ?_) (fun hb1 => ?_)
      · -- 28t
        refine z_aload_n hC 34 hl dX1_rank_34 rfl 0 rfl ?_
        refine z_iload_n hC 35 hl dX1_rank_35 rfl 1 rfl ?_
        refine z_iload_n hC 36 hl dX1_rank_36 rfl 2 rfl ?_
        refine z_st (st' := [.int (iZ (((r1 + 1 : Nat) : Int) - 1)), .int (iZ ((l1 : Int))), .ref (ad 99)]) (zcons (zieq (by omega)) (zcons rfl rfl)) ?_
        refine z_same (z_runV hC hH.2.2 hl.1 hH.1 hH.2.1 2 (As := [.int (iZ ((l1 : Int))), .int (iZ (((r1 + 1 : Nat) : Int) - 1))]) (rest := []) (m_X1_laysAll lau s0 G _ ad F (va_up Ar 16 zZ) kp pl PW n v l1 (r1 + 1) (by first | exact hn | assumption | omega) (by first | exact hFn | assumption | omega) (by first | exact hv | assumption | omega) (by first | exact hAv | assumption | omega) (by first | exact hlr | assumption | omega) (by first | exact hrn | assumption | omega)) (lw_V q1051 q1053 qs35 q89 q1054) ⟨rfl, by decide, by decide, by decide +kernel⟩ (q0 := 0) (ci := 1) rfl rfl rfl rfl (Nat.le_of_ble_eq_true rfl) ⟨Nat.le_of_ble_eq_true rfl, Nat.le_of_ble_eq_true rfl⟩ ⟨Nat.le_of_ble_eq_true rfl, Nat.le_of_ble_eq_true rfl⟩ dX1_rank_37) hH (fun u_ H locs hpost hH => ?_)
        obtain ⟨k_37, u_37, gu_37⟩ := u_
        have pE_37 : EN v l1 (r1 + 1) k_37 u_37 := hpost
        have hH : zH s0 s1 G as0 (dW ad G (va_up F 17 ((k_37 : Int))) (va_up (va_up Ar 15 (cI (k_37) u_37 gu_37)) 16 zZ) kp pl PW) H locs := hH
        refine z_st (st' := []) rfl ?_
        have hkk := pE_37.1
        refine z_iconst hC 40 dX1_rank_40 ?_
        refine z_istore (lv' := [(4, .int (iZ (0))), (0, .ref (ad 99)), (1, .int (iZ ((l1 : Int)))), (2, .int (iZ ((r1 : Int)))), (3, .int (iZ ((x1 : Int))))]) hC 41 hl dX1_rank_41 (by decide) rfl (fun ls hl => ?_)
        refine z_iconst hC 43 dX1_rank_43 ?_
        refine z_istore (lv' := [(5, .int (iZ (0))), (4, .int (iZ (0))), (0, .ref (ad 99)), (1, .int (iZ ((l1 : Int)))), (2, .int (iZ ((r1 : Int)))), (3, .int (iZ ((x1 : Int))))]) hC 44 hl dX1_rank_44 (by decide) rfl (fun ls hl => ?_)
        have L46 : ∀ (N_ : Nat) (i : Nat) (c : Nat) (H : Heap) (locs : List Loc) (ls : Array Slot), k_37 - i < N_ → (i ≤ k_37) → (c ≤ i) → (c = cB (fun j => ahd v l1 (r1 + 1) t (u_37 j) x1) i) → zH s0 s1 G as0 (dW ad G (va_up F 17 ((k_37 : Int))) (va_up (va_up Ar 15 (cI (k_37) u_37 gu_37)) 16 zZ) kp pl PW) H locs → lv_has ls 6 [(0, .ref (ad 99)), (1, .int (iZ ((l1 : Int)))), (2, .int (iZ ((r1 : Int)))), (3, .int (iZ ((x1 : Int)))), (4, .int (iZ ((c : Int)))), (5, .int (iZ ((i : Int))))] → W pg lau ev (zRm 4 0 0 96) s1 mi ar bl me cd H locs 0 0 Q (F0 mi 46 ls []) := by
          intro N_
          induction N_ with
          | zero => intro i c H locs ls hd; exact absurd hd (Nat.not_lt_zero _)
          | succ N_ ih46 =>
            intro i c H locs ls hd46 i46_1 i46_2 ic hH hl
            refine z_iload hC 46 hl dX1_rank_46 5 rfl ?_
            refine z_aload_n hC 48 hl dX1_rank_48 rfl 0 rfl ?_
            refine zp_get (v := .int (iZ ((k_37 : Int)))) hC (va_P_l hH.1) 49 in_X1 rfl 17 (by decide) q227 0 rfl (rfl) dX1_rank_49 ?_
            refine z_icmp_ge hC 52 92 dX1_rank_52 rfl (by omega) (by omega) (fun hb2 => ?_) (fun hb2 => ?_)
            · -- 52t
              have ei : (i) = k_37 := by omega
              rw [ei] at ic
              have hrk := EN_rk (t := t) (x := x1) pE_37
              refine z_iload hC 92 hl dX1_rank_92 4 rfl ?_
              -- R94.1
              exact z_iret hC hH hQ 94 (((c : Int), (va_up F 17 ((k_37 : Int))), (va_up (va_up Ar 15 (cI (k_37) u_37 gu_37)) 16 zZ))) dX1_rank_94 rfl ⟨by (unfold Sp_rank; rw [if_pos (by omega), if_neg (by simp only [Int.toNat_natCast, zt1]; omega)]; simp only [Int.toNat_natCast, zt1]; rw [ic, hrk]), by first | assumption | exact ⟨fun k h1 h2 h3 h4 h5 => by first | rfl | (simp [va_up, h1, h2, h3, h4, h5]; done) | (simp [va_up, h1, h2, h3, h4, h5]; intro e9; rw [e9, hFn]), fun k h1 h2 h3 h4 h5 h6 => by first | rfl | simp [va_up, h1, h2, h3, h4, h5, h6]⟩⟩ rfl (Nat.le_refl _) (Nat.le_refl _)
            · -- 52f
              have hui := pE_37.2.1 (i) (by omega)
              refine z_iload hC 55 hl dX1_rank_55 4 rfl ?_
              refine z_aload_n hC 57 hl dX1_rank_57 rfl 0 rfl ?_
              refine z_aload_n hC 58 hl dX1_rank_58 rfl 0 rfl ?_
              refine zp_get (v := .ref (ad 15)) hC (va_P_l hH.1) 59 in_X1 rfl 15 (by decide) q225 0 rfl (rfl) dX1_rank_59 ?_
              refine z_iload hC 62 hl dX1_rank_62 5 rfl ?_
              refine zp_iald (f := (cI (k_37) u_37 gu_37)) (x := ((u_37 i : Nat) : Int)) hC (va_P_l hH.1) 64 6 (i) rfl (by decide) (by omega) (by omega) ((cI_lt (by omega))) dX1_rank_64 ?_
              refine z_iload_n hC 65 hl dX1_rank_65 rfl 3 rfl ?_
              refine z_iload_n hC 66 hl dX1_rank_66 rfl 1 rfl ?_
              refine z_iload_n hC 67 hl dX1_rank_67 rfl 2 rfl ?_
              refine z_aload_n hC 68 hl dX1_rank_68 rfl 0 rfl ?_
              refine zp_get (v := .int (iZ ((t : Int)))) hC (va_P_l hH.1) 69 in_X1 rfl 8 (by decide) q218 0 rfl (by rw [← hFt]; rfl) dX1_rank_69 ?_
              refine z_st (st' := [.int (iZ ((t : Int))), .int (iZ (((r1 + 1 : Nat) : Int) - 1)), .int (iZ ((l1 : Int))), .int (iZ ((x1 : Int))), .int (iZ (((u_37 i : Nat) : Int))), .ref (ad 99), .int (iZ ((c : Int)))]) (zcons rfl (zcons (zieq (by omega)) (zcons rfl (zcons rfl (zcons rfl rfl))))) ?_
              refine zp_back (zp_runV hC (hH.2.2) hl.1 (dP_of hH hpp) 5 (As := [.int (iZ (((u_37 i : Nat) : Int))), .int (iZ ((x1 : Int))), .int (iZ ((l1 : Int))), .int (iZ (((r1 + 1 : Nat) : Int) - 1)), .int (iZ ((t : Int)))]) (rest := [.int (iZ ((c : Int)))]) (u_X1_isAhead lau s0 G ad (va_up F 17 ((k_37 : Int))) (va_up (va_up Ar 15 (cI (k_37) u_37 gu_37)) 16 zZ) kp pl pr pa pm pf n v (u_37 i) x1 l1 (r1 + 1) t nw (by first | exact hn | assumption | omega) (by first | exact hv | assumption | omega) (by first | exact hpl | assumption | omega) (by first | exact hnw | assumption | omega) (by first | exact hpc | assumption | omega) (by first | exact hlr | assumption | omega) (by first | exact hrn | assumption | omega) (by exact hui.1) (by first | assumption | omega) (by exact hui.2) (by first | assumption | omega) (by first | exact ht | assumption | omega)) (lw_V q732 q734 qs16 q89 q735) ⟨rfl, by decide, by decide, by decide +kernel⟩ (q0 := 0) (ci := 1) rfl rfl rfl rfl (Nat.le_of_ble_eq_true rfl) ⟨Nat.le_of_ble_eq_true rfl, Nat.le_of_ble_eq_true rfl⟩ ⟨by first | decide | omega, by first | decide | omega⟩ dX1_rank_72) (fun r_72 hpost => ?_)
              have hb_72 : (r_72 = 1 ∧ (ahd v l1 (r1 + 1) t (u_37 i) x1)) ∨ (r_72 = 0 ∧ ¬ (ahd v l1 (r1 + 1) t (u_37 i) x1)) := hpost
              refine z_st (st' := [.int (iZ (r_72)), .int (iZ ((c : Int)))]) rfl ?_
              rcases hb_72 with ⟨rfl, hb_72⟩ | ⟨rfl, hb_72⟩
              · -- 72=1
                refine z_if_eq_f hC 75 82 dX1_rank_75 rfl (by omega) (by omega) ?_
                refine z_iconst hC 78 dX1_rank_78 ?_
                refine z_goto hC 79 83 dX1_rank_79 rfl ?_
                refine z_iadd (e := (c : Int) + 1) hC 83 dX1_rank_83 rfl ?_
                refine z_istore (lv' := [(4, .int (iZ ((c : Int) + 1))), (0, .ref (ad 99)), (1, .int (iZ ((l1 : Int)))), (2, .int (iZ ((r1 : Int)))), (3, .int (iZ ((x1 : Int)))), (5, .int (iZ ((i : Int))))]) hC 84 hl dX1_rank_84 (by decide) rfl (fun ls hl => ?_)
                refine z_iinc (lv' := [(5, .int (iZ ((i : Int) + 1))), (4, .int (iZ ((c : Int) + 1))), (0, .ref (ad 99)), (1, .int (iZ ((l1 : Int)))), (2, .int (iZ ((r1 : Int)))), (3, .int (iZ ((x1 : Int))))]) hC 86 hl dX1_rank_86 5 rfl (by omega) (by decide) rfl (fun ls hl => ?_)
                refine z_goto hC 89 46 dX1_rank_89 rfl ?_
                -- J46.2
                exact ih46 (i + 1) (c + 1) _ _ _ (by omega) (by first | assumption | omega) (by first | assumption | omega) (by first | rfl | exact cB_it hb_72 ic | exact cB_if hb_72 ic) hH (z_lv (lv_sub hl [2, 3, 4, 5, 1, 0] rfl) (zcons rfl (zcons rfl (zcons rfl (zcons rfl (zcons (zpeq (by omega)) (zcons (zpeq (by omega)) rfl)))))))
              · -- 72=0
                refine z_if_eq_t hC 75 82 dX1_rank_75 rfl (by omega) (by omega) ?_
                refine z_iconst hC 82 dX1_rank_82 ?_
                refine z_iadd (e := (c : Int)) hC 83 dX1_rank_83 (by omega) ?_
                refine z_istore (lv' := [(4, .int (iZ ((c : Int)))), (0, .ref (ad 99)), (1, .int (iZ ((l1 : Int)))), (2, .int (iZ ((r1 : Int)))), (3, .int (iZ ((x1 : Int)))), (5, .int (iZ ((i : Int))))]) hC 84 hl dX1_rank_84 (by decide) rfl (fun ls hl => ?_)
                refine z_iinc (lv' := [(5, .int (iZ ((i : Int) + 1))), (4, .int (iZ ((c : Int)))), (0, .ref (ad 99)), (1, .int (iZ ((l1 : Int)))), (2, .int (iZ ((r1 : Int)))), (3, .int (iZ ((x1 : Int))))]) hC 86 hl dX1_rank_86 5 rfl (by omega) (by decide) rfl (fun ls hl => ?_)
                refine z_goto hC 89 46 dX1_rank_89 rfl ?_
                -- J46.3
                exact ih46 (i + 1) c _ _ _ (by omega) (by first | assumption | omega) (by first | assumption | omega) (by first | rfl | exact cB_it hb_72 ic | exact cB_if hb_72 ic) hH (z_lv (lv_sub hl [2, 3, 4, 5, 1, 0] rfl) (zcons rfl (zcons rfl (zcons rfl (zcons rfl (zcons rfl (zcons (zpeq (by omega)) rfl)))))))
        -- J46.4
        exact L46 _ 0 0 _ _ _ (Nat.lt_succ_self _) (by first | assumption | omega) (by first | assumption | omega) (by first | rfl | exact cB_it hb_72 ic | exact cB_if hb_72 ic) hH (z_lv (lv_sub hl [2, 3, 4, 5, 1, 0] rfl) (zcons rfl (zcons rfl (zcons rfl (zcons rfl (zcons (zpeq (by omega)) (zcons (zpeq (by omega)) rfl)))))))
      · -- 28f
        refine z_bipush hC 31 dX1_rank_31 rfl ?_
        -- R33.5
        exact z_iret hC hH hQ 33 (((-2), F, (va_up Ar 16 zZ))) dX1_rank_33 rfl ⟨by (unfold Sp_rank; rw [if_pos (by omega), if_pos (by simp only [Int.toNat_natCast, zt1]; omega)]), by first | assumption | exact ⟨fun k h1 h2 h3 h4 h5 => by first | rfl | (simp [va_up, h1, h2, h3, h4, h5]; done) | (simp [va_up, h1, h2, h3, h4, h5]; intro e9; rw [e9, hFn]), fun k h1 h2 h3 h4 h5 h6 => by first | rfl | simp [va_up, h1, h2, h3, h4, h5, h6]⟩⟩ rfl (Nat.le_refl _) (Nat.le_refl _)
    · -- 10=0
      refine z_if_ne_f hC 13 18 dX1_rank_13 rfl (by omega) (by omega) ?_
      refine z_iconst hC 16 dX1_rank_16 ?_
      -- R17.6
      exact z_iret hC hH hQ 17 (((-1), F, (va_up Ar 16 zZ))) dX1_rank_17 rfl ⟨by first | (unfold Sp_rank; rw [if_neg (by omega)]) | (unfold Sp_rank; rw [if_pos (by omega)]; (try simp only [Int.toNat_natCast, zt1]); first | done | trivial | rfl | omega | (rw [if_pos (by omega)]; first | done | trivial | rfl | omega) | (rw [if_neg (by omega)]; first | done | trivial | rfl | omega)), by first | assumption | exact ⟨fun k h1 h2 h3 h4 h5 => by first | rfl | (simp [va_up, h1, h2, h3, h4, h5]; done) | (simp [va_up, h1, h2, h3, h4, h5]; intro e9; rw [e9, hFn]), fun k h1 h2 h3 h4 h5 h6 => by first | rfl | simp [va_up, h1, h2, h3, h4, h5, h6]⟩⟩ rfl (Nat.le_refl _) (Nat.le_refl _)
  · -- 3=0
    refine z_if_eq_t hC 6 16 dX1_rank_6 rfl (by omega) (by omega) ?_
    refine z_iconst hC 16 dX1_rank_16 ?_
    -- R17.7
    exact z_iret hC hH hQ 17 (((-1), F, (va_up Ar 16 zZ))) dX1_rank_17 rfl ⟨by first | (unfold Sp_rank; rw [if_neg (by omega)]) | (unfold Sp_rank; rw [if_pos (by omega)]; (try simp only [Int.toNat_natCast, zt1]); first | done | trivial | rfl | omega | (rw [if_pos (by omega)]; first | done | trivial | rfl | omega) | (rw [if_neg (by omega)]; first | done | trivial | rfl | omega)), by first | assumption | exact ⟨fun k h1 h2 h3 h4 h5 => by first | rfl | (simp [va_up, h1, h2, h3, h4, h5]; done) | (simp [va_up, h1, h2, h3, h4, h5]; intro e9; rw [e9, hFn]), fun k h1 h2 h3 h4 h5 h6 => by first | rfl | simp [va_up, h1, h2, h3, h4, h5, h6]⟩⟩ rfl (Nat.le_refl _) (Nat.le_refl _)

set_option maxHeartbeats 4000000 in
set_option maxRecDepth 100000 in
theorem m_X1_times (lau : Launch) (s0 : State) (G : zG) (sz : Nat) (ad : Nat → Nat) (F : Nat → Int) (Ar : Nat → Nat → Int) (kp : Nat → Nat) (pl : Nat → Option Nat) (PW : va_W) (n : Nat) (v : Nat → Nat) (pr : Nat → Nat) (pa : Nat → Nat) (pm : Nat → Nat) (pf : Nat → Nat → Nat) (nw : Nat) (b : Nat) (t : Nat) (l : Int) (r : Int) (m : Int) (hn : n ≤ 120) (hFn : F 200 = (n : Int)) (hv : ∀ i, i < n → v i < 1000) (hAv : ∀ i, i < n → Ar 201 i = (v i : Int)) (hb : 2 ≤ b ∧ b ≤ 20) (hFb : F 7 = (b : Int)) (ht : t < 4) (hFt : F 8 = (t : Int)) (hpl : ∀ y, y < 1000 → (pl y = some (pr y) ∨ (pl y = none ∧ pr y = nw))) (hnw : zNwh s0 nw) (hpc : ∀ y, y < 1000 → PlC n v y (pm y) (pf y)) (hpp : zPool s0 G PW pr pa pm pf) (hmo : ∀ i j, i ≤ j → b * j < n → Ar 12 (60 * i + j) = (md v (b * i) (bEnd b j n) t : Int)) (hr_l : -2147483648 ≤ l ∧ l < 2147483648) (hr_r : -2147483648 ≤ r ∧ r < 2147483648) (hr_m : -2147483648 ≤ m ∧ m < 2147483648) : zMet (S := Int × (Nat → Int) × (Nat → Nat → Int)) lau yX1_times cX1_times 6 (some .int) 2 46 0 0 s0 G sz [.ref (ad 99), .int (iZ (l)), .int (iZ (r)), .int (iZ (m))] (dW ad G F (va_up Ar 16 zZ) kp pl PW) (fun ((r_, F2, A2) : Int × (Nat → Int) × (Nat → Nat → Int)) => some (.int (iZ (r_)))) (fun ((r_, F2, A2) : Int × (Nat → Int) × (Nat → Nat → Int)) => (Sp_times n v l r m r_) ∧ (DK F (va_up Ar 16 zZ) F2 A2)) (fun ((r_, F2, A2) : Int × (Nat → Int) × (Nat → Nat → Int)) => (dW ad G F2 A2 kp pl PW)) := by
  refine zMet.of (by decide) (Nat.le_of_ble_eq_true rfl) ?_
  intro pg ev s1 mi ar bl me cd ls Q as0 hC hH hl hQ hsz
  generalize s1.heap = H at hH ⊢
  generalize ([] : List Loc) = locs at hH ⊢
  have hl : lv_has ls 6 [(0, .ref (ad 99)), (1, .int (iZ (l))), (2, .int (iZ (r))), (3, .int (iZ (m)))] := hl
  refine z_aload_n hC 0 hl dX1_times_0 rfl 0 rfl ?_
  refine z_iload_n hC 1 hl dX1_times_1 rfl 1 rfl ?_
  refine z_iload_n hC 2 hl dX1_times_2 rfl 2 rfl ?_
  refine zp_back (zp_runV hC (hH.2.2) hl.1 (va_P_l hH.1) 2 (As := [.int (iZ (l)), .int (iZ (r))]) (rest := []) (u_X1_isSpan lau s0 G ad F (va_up Ar 16 zZ) kp pl n l r (by first | exact hn | assumption | omega) (by first | exact hFn | assumption | omega) (by first | assumption | omega) (by first | assumption | omega)) (lw_V q864 q866 qs26 q89 q867) ⟨rfl, by decide, by decide, by decide +kernel⟩ (q0 := 0) (ci := 1) rfl rfl rfl rfl (Nat.le_of_ble_eq_true rfl) ⟨Nat.le_of_ble_eq_true rfl, Nat.le_of_ble_eq_true rfl⟩ ⟨by first | decide | omega, by first | decide | omega⟩ dX1_times_3) (fun r_3 hpost => ?_)
  have hb_3 : (r_3 = 1 ∧ (0 ≤ l ∧ l ≤ r ∧ r < (n : Int))) ∨ (r_3 = 0 ∧ ¬ (0 ≤ l ∧ l ≤ r ∧ r < (n : Int))) := hpost
  refine z_st (st' := [.int (iZ (r_3))]) rfl ?_
  rcases hb_3 with ⟨rfl, hb_3⟩ | ⟨rfl, hb_3⟩
  · -- 3=1
    refine z_if_eq_f hC 6 14 dX1_times_6 rfl (by omega) (by omega) ?_
    refine z_iload_n hC 9 hl dX1_times_9 rfl 3 rfl ?_
    refine z_iconst hC 10 dX1_times_10 ?_
    refine z_icmp_ge hC 11 16 dX1_times_11 rfl (by omega) (by omega) (fun hb1 => ?_) (fun hb1 => ?_)
    · -- 11t
      obtain ⟨l1, rfl⟩ := Int.eq_ofNat_of_zero_le (show 0 ≤ l by omega)
      obtain ⟨r1, rfl⟩ := Int.eq_ofNat_of_zero_le (show 0 ≤ r by omega)
      refine z_aload_n hC 16 hl dX1_times_16 rfl 0 rfl ?_
      refine z_iload_n hC 17 hl dX1_times_17 rfl 1 rfl ?_
      refine z_iload_n hC 18 hl dX1_times_18 rfl 2 rfl ?_
      refine z_st (st' := [.int (iZ (((r1 + 1 : Nat) : Int) - 1)), .int (iZ ((l1 : Int))), .ref (ad 99)]) (zcons (zieq (by omega)) (zcons rfl rfl)) ?_
      refine z_same (z_runV hC hH.2.2 hl.1 hH.1 hH.2.1 2 (As := [.int (iZ ((l1 : Int))), .int (iZ (((r1 + 1 : Nat) : Int) - 1))]) (rest := []) (m_X1_laysAll lau s0 G _ ad F (va_up Ar 16 zZ) kp pl PW n v l1 (r1 + 1) (by first | exact hn | assumption | omega) (by first | exact hFn | assumption | omega) (by first | exact hv | assumption | omega) (by first | exact hAv | assumption | omega) (by first | exact hlr | assumption | omega) (by first | exact hrn | assumption | omega)) (lw_V q1051 q1053 qs35 q89 q1054) ⟨rfl, by decide, by decide, by decide +kernel⟩ (q0 := 0) (ci := 1) rfl rfl rfl rfl (Nat.le_of_ble_eq_true rfl) ⟨Nat.le_of_ble_eq_true rfl, Nat.le_of_ble_eq_true rfl⟩ ⟨Nat.le_of_ble_eq_true rfl, Nat.le_of_ble_eq_true rfl⟩ dX1_times_19) hH (fun u_ H locs hpost hH => ?_)
      obtain ⟨k_19, u_19, gu_19⟩ := u_
      have pE_19 : EN v l1 (r1 + 1) k_19 u_19 := hpost
      have hH : zH s0 s1 G as0 (dW ad G (va_up F 17 ((k_19 : Int))) (va_up (va_up Ar 15 (cI (k_19) u_19 gu_19)) 16 zZ) kp pl PW) H locs := hH
      refine z_st (st' := []) rfl ?_
      have hkk := pE_19.1
      refine z_iconst hC 22 dX1_times_22 ?_
      refine z_istore (lv' := [(4, .int (iZ (0))), (0, .ref (ad 99)), (1, .int (iZ ((l1 : Int)))), (2, .int (iZ ((r1 : Int)))), (3, .int (iZ (m)))]) hC 23 hl dX1_times_23 (by decide) rfl (fun ls hl => ?_)
      refine z_iconst hC 25 dX1_times_25 ?_
      refine z_istore (lv' := [(5, .int (iZ (0))), (4, .int (iZ (0))), (0, .ref (ad 99)), (1, .int (iZ ((l1 : Int)))), (2, .int (iZ ((r1 : Int)))), (3, .int (iZ (m)))]) hC 26 hl dX1_times_26 (by decide) rfl (fun ls hl => ?_)
      have L28 : ∀ (N_ : Nat) (i : Nat) (c : Nat) (H : Heap) (locs : List Loc) (ls : Array Slot), k_19 - i < N_ → (i ≤ k_19) → (c = cB (fun j => (cnt v l1 (r1 + 1) (u_19 j) : Int) = m) i) → (c ≤ i) → zH s0 s1 G as0 (dW ad G (va_up F 17 ((k_19 : Int))) (va_up (va_up Ar 15 (cI (k_19) u_19 gu_19)) 16 zZ) kp pl PW) H locs → lv_has ls 6 [(0, .ref (ad 99)), (1, .int (iZ ((l1 : Int)))), (2, .int (iZ ((r1 : Int)))), (3, .int (iZ (m))), (4, .int (iZ ((c : Int)))), (5, .int (iZ ((i : Int))))] → W pg lau ev (zRm 2 0 0 46) s1 mi ar bl me cd H locs 0 0 Q (F0 mi 28 ls []) := by
        intro N_
        induction N_ with
        | zero => intro i c H locs ls hd; exact absurd hd (Nat.not_lt_zero _)
        | succ N_ ih28 =>
          intro i c H locs ls hd28 i28_1 ic i28_3 hH hl
          refine z_iload hC 28 hl dX1_times_28 5 rfl ?_
          refine z_aload_n hC 30 hl dX1_times_30 rfl 0 rfl ?_
          refine zp_get (v := .int (iZ ((k_19 : Int)))) hC (va_P_l hH.1) 31 in_X1 rfl 17 (by decide) q227 0 rfl (rfl) dX1_times_31 ?_
          refine z_icmp_ge hC 34 73 dX1_times_34 rfl (by omega) (by omega) (fun hb2 => ?_) (fun hb2 => ?_)
          · -- 34t
            have ei : (i) = k_19 := by omega
            rw [ei] at ic
            have hen := cB_enum (P := fun x => (cnt v l1 (r1 + 1) x : Int) = m) (M := 1000) u_19 k_19 (fun x => 0 < cnt v l1 (r1 + 1) x) pE_19.2.1 pE_19.2.2.1 pE_19.2.2.2
            refine z_iload hC 73 hl dX1_times_73 4 rfl ?_
            -- R75.1
            exact z_iret hC hH hQ 75 (((c : Int), (va_up F 17 ((k_19 : Int))), (va_up (va_up Ar 15 (cI (k_19) u_19 gu_19)) 16 zZ))) dX1_times_75 rfl ⟨by (unfold Sp_times; rw [if_pos (by omega)]; try simp only [Int.toNat_natCast, zt1]; rw [ic, hen]), by first | assumption | exact ⟨fun k h1 h2 h3 h4 h5 => by first | rfl | (simp [va_up, h1, h2, h3, h4, h5]; done) | (simp [va_up, h1, h2, h3, h4, h5]; intro e9; rw [e9, hFn]), fun k h1 h2 h3 h4 h5 h6 => by first | rfl | simp [va_up, h1, h2, h3, h4, h5, h6]⟩⟩ rfl (Nat.le_refl _) (Nat.le_refl _)
          · -- 34f
            have hui := pE_19.2.1 (i) (by omega)
            have hc1 := cnt_le v l1 (r1 + 1) (u_19 (i))
            refine z_iload hC 37 hl dX1_times_37 4 rfl ?_
            refine z_aload_n hC 39 hl dX1_times_39 rfl 0 rfl ?_
            refine z_aload_n hC 40 hl dX1_times_40 rfl 0 rfl ?_
            refine zp_get (v := .ref (ad 15)) hC (va_P_l hH.1) 41 in_X1 rfl 15 (by decide) q225 0 rfl (rfl) dX1_times_41 ?_
            refine z_iload hC 44 hl dX1_times_44 5 rfl ?_
            refine zp_iald (f := (cI (k_19) u_19 gu_19)) (x := ((u_19 i : Nat) : Int)) hC (va_P_l hH.1) 46 6 (i) rfl (by decide) (by omega) (by omega) ((cI_lt (by omega))) dX1_times_46 ?_
            refine zp_back (zp_runV hC (hH.2.2) hl.1 (va_P_l hH.1) 1 (As := [.int (iZ (((u_19 i : Nat) : Int)))]) (rest := [.int (iZ ((c : Int)))]) (u_X1_of lau s0 G ad (va_up F 17 ((k_19 : Int))) (va_up (va_up Ar 15 (cI (k_19) u_19 gu_19)) 16 zZ) kp pl (u_19 i) (pr (u_19 i)) nw (by first | assumption | omega) (by first | exact hpl | (first | assumption | exact hpl _ (by omega)) | assumption | omega) (by first | exact hnw | assumption | omega)) (lw_V q736 q738 qs17 q89 q739) ⟨rfl, by decide, by decide, by decide +kernel⟩ (q0 := 0) (ci := 1) rfl rfl rfl rfl (Nat.le_of_ble_eq_true rfl) ⟨Nat.le_of_ble_eq_true rfl, Nat.le_of_ble_eq_true rfl⟩ ⟨by first | decide | omega, by first | decide | omega⟩ dX1_times_47) (fun _ hpost => ?_)
            refine z_st (st' := [.ref ((pr (u_19 i))), .int (iZ ((c : Int)))]) rfl ?_
            refine z_iload_n hC 50 hl dX1_times_50 rfl 1 rfl ?_
            refine z_iload_n hC 51 hl dX1_times_51 rfl 2 rfl ?_
            refine z_st (st' := [.int (iZ (((r1 + 1 : Nat) : Int) - 1)), .int (iZ ((l1 : Int))), .ref ((pr (u_19 i))), .int (iZ ((c : Int)))]) (zcons (zieq (by omega)) (zcons rfl rfl)) ?_
            refine zp_back (zw_run hC (hH.2.2) hl.1 ((dWp hH hpp (y := (u_19 i)) (by omega))) 2 (As := [.int (iZ ((l1 : Int))), .int (iZ (((r1 + 1 : Nat) : Int) - 1))]) (rest := [.int (iZ ((c : Int)))]) (u_X10_within lau s0 G (pr (u_19 i)) (pa ((u_19 i))) (pm ((u_19 i))) (pf ((u_19 i))) n v ((u_19 i)) l1 (r1 + 1) (by first | exact hn | assumption | omega) (by exact hpc _ (by omega)) (by first | exact hlr | assumption | omega) (by first | exact hrn | assumption | omega)) (fun hx0 hO0 => u_X10_within_nw lau s0 G (pr (u_19 i)) (pa ((u_19 i))) (pm ((u_19 i))) (pf ((u_19 i))) n v ((u_19 i)) l1 (r1 + 1) (by first | exact hn | assumption | omega) (by exact hpc _ (by omega)) (by first | exact hlr | assumption | omega) (by first | exact hrn | assumption | omega) hx0 hO0) (lw_V q742 q743 q744 q110 q745) ⟨rfl, by decide, by decide, by decide +kernel⟩ rfl rfl (Nat.le_of_ble_eq_true rfl) ⟨Nat.le_of_ble_eq_true rfl, Nat.le_of_ble_eq_true rfl⟩ ⟨by first | decide | omega, by first | decide | omega⟩ dX1_times_52) (fun _ hpost => ?_)
            refine z_st (st' := [.int (iZ (((cnt v l1 (r1 + 1) ((u_19 i)) : Nat) : Int))), .int (iZ ((c : Int)))]) rfl ?_
            refine z_iload_n hC 55 hl dX1_times_55 rfl 3 rfl ?_
            refine z_icmp_ne hC 56 63 dX1_times_56 rfl (by omega) (by omega) (fun hb3 => ?_) (fun hb3 => ?_)
            · -- 56t
              refine z_iconst hC 63 dX1_times_63 ?_
              refine z_iadd (e := (c : Int)) hC 64 dX1_times_64 (by omega) ?_
              refine z_istore (lv' := [(4, .int (iZ ((c : Int)))), (0, .ref (ad 99)), (1, .int (iZ ((l1 : Int)))), (2, .int (iZ ((r1 : Int)))), (3, .int (iZ (m))), (5, .int (iZ ((i : Int))))]) hC 65 hl dX1_times_65 (by decide) rfl (fun ls hl => ?_)
              refine z_iinc (lv' := [(5, .int (iZ ((i : Int) + 1))), (4, .int (iZ ((c : Int)))), (0, .ref (ad 99)), (1, .int (iZ ((l1 : Int)))), (2, .int (iZ ((r1 : Int)))), (3, .int (iZ (m)))]) hC 67 hl dX1_times_67 5 rfl (by omega) (by decide) rfl (fun ls hl => ?_)
              refine z_goto hC 70 28 dX1_times_70 rfl ?_
              -- J28.2
              exact ih28 (i + 1) c _ _ _ (by omega) (by first | assumption | omega) (by first | rfl | exact cB_it (by omega) ic | exact cB_if (by omega) ic) (by first | assumption | omega) hH (z_lv (lv_sub hl [2, 3, 4, 5, 1, 0] rfl) (zcons rfl (zcons rfl (zcons rfl (zcons rfl (zcons rfl (zcons (zpeq (by omega)) rfl)))))))
            · -- 56f
              refine z_iconst hC 59 dX1_times_59 ?_
              refine z_goto hC 60 64 dX1_times_60 rfl ?_
              refine z_iadd (e := (c : Int) + 1) hC 64 dX1_times_64 rfl ?_
              refine z_istore (lv' := [(4, .int (iZ ((c : Int) + 1))), (0, .ref (ad 99)), (1, .int (iZ ((l1 : Int)))), (2, .int (iZ ((r1 : Int)))), (3, .int (iZ (m))), (5, .int (iZ ((i : Int))))]) hC 65 hl dX1_times_65 (by decide) rfl (fun ls hl => ?_)
              refine z_iinc (lv' := [(5, .int (iZ ((i : Int) + 1))), (4, .int (iZ ((c : Int) + 1))), (0, .ref (ad 99)), (1, .int (iZ ((l1 : Int)))), (2, .int (iZ ((r1 : Int)))), (3, .int (iZ (m)))]) hC 67 hl dX1_times_67 5 rfl (by omega) (by decide) rfl (fun ls hl => ?_)
              refine z_goto hC 70 28 dX1_times_70 rfl ?_
              -- J28.3
              exact ih28 (i + 1) (c + 1) _ _ _ (by omega) (by first | assumption | omega) (by first | rfl | exact cB_it (by omega) ic | exact cB_if (by omega) ic) (by first | assumption | omega) hH (z_lv (lv_sub hl [2, 3, 4, 5, 1, 0] rfl) (zcons rfl (zcons rfl (zcons rfl (zcons rfl (zcons (zpeq (by omega)) (zcons (zpeq (by omega)) rfl)))))))
      -- J28.4
      exact L28 _ 0 0 _ _ _ (Nat.lt_succ_self _) (by first | assumption | omega) (by first | rfl | exact cB_it (by omega) ic | exact cB_if (by omega) ic) (by first | assumption | omega) hH (z_lv (lv_sub hl [2, 3, 4, 5, 1, 0] rfl) (zcons rfl (zcons rfl (zcons rfl (zcons rfl (zcons (zpeq (by omega)) (zcons (zpeq (by omega)) rfl)))))))
    · -- 11f
      refine z_iconst hC 14 dX1_times_14 ?_
      -- R15.5
      exact z_iret hC hH hQ 15 (((-1), F, (va_up Ar 16 zZ))) dX1_times_15 rfl ⟨by first | (unfold Sp_times; rw [if_neg (by omega)]) | (unfold Sp_times; rw [if_pos (by omega)]; (try simp only [Int.toNat_natCast, zt1]); first | done | trivial | rfl | omega | (rw [if_pos (by omega)]; first | done | trivial | rfl | omega) | (rw [if_neg (by omega)]; first | done | trivial | rfl | omega)), by first | assumption | exact ⟨fun k h1 h2 h3 h4 h5 => by first | rfl | (simp [va_up, h1, h2, h3, h4, h5]; done) | (simp [va_up, h1, h2, h3, h4, h5]; intro e9; rw [e9, hFn]), fun k h1 h2 h3 h4 h5 h6 => by first | rfl | simp [va_up, h1, h2, h3, h4, h5, h6]⟩⟩ rfl (Nat.le_refl _) (Nat.le_refl _)
  · -- 3=0
    refine z_if_eq_t hC 6 14 dX1_times_6 rfl (by omega) (by omega) ?_
    refine z_iconst hC 14 dX1_times_14 ?_
    -- R15.6
    exact z_iret hC hH hQ 15 (((-1), F, (va_up Ar 16 zZ))) dX1_times_15 rfl ⟨by first | (unfold Sp_times; rw [if_neg (by omega)]) | (unfold Sp_times; rw [if_pos (by omega)]; (try simp only [Int.toNat_natCast, zt1]); first | done | trivial | rfl | omega | (rw [if_pos (by omega)]; first | done | trivial | rfl | omega) | (rw [if_neg (by omega)]; first | done | trivial | rfl | omega)), by first | assumption | exact ⟨fun k h1 h2 h3 h4 h5 => by first | rfl | (simp [va_up, h1, h2, h3, h4, h5]; done) | (simp [va_up, h1, h2, h3, h4, h5]; intro e9; rw [e9, hFn]), fun k h1 h2 h3 h4 h5 h6 => by first | rfl | simp [va_up, h1, h2, h3, h4, h5, h6]⟩⟩ rfl (Nat.le_refl _) (Nat.le_refl _)

set_option maxHeartbeats 4000000 in
set_option maxRecDepth 100000 in
theorem m_X1_majority (lau : Launch) (s0 : State) (G : zG) (sz : Nat) (ad : Nat → Nat) (F : Nat → Int) (Ar : Nat → Nat → Int) (kp : Nat → Nat) (pl : Nat → Option Nat) (PW : va_W) (n : Nat) (v : Nat → Nat) (pr : Nat → Nat) (pa : Nat → Nat) (pm : Nat → Nat) (pf : Nat → Nat → Nat) (nw : Nat) (b : Nat) (t : Nat) (l : Int) (r : Int) (hn : n ≤ 120) (hFn : F 200 = (n : Int)) (hv : ∀ i, i < n → v i < 1000) (hAv : ∀ i, i < n → Ar 201 i = (v i : Int)) (hb : 2 ≤ b ∧ b ≤ 20) (hFb : F 7 = (b : Int)) (ht : t < 4) (hFt : F 8 = (t : Int)) (hpl : ∀ y, y < 1000 → (pl y = some (pr y) ∨ (pl y = none ∧ pr y = nw))) (hnw : zNwh s0 nw) (hpc : ∀ y, y < 1000 → PlC n v y (pm y) (pf y)) (hpp : zPool s0 G PW pr pa pm pf) (hmo : ∀ i j, i ≤ j → b * j < n → Ar 12 (60 * i + j) = (md v (b * i) (bEnd b j n) t : Int)) (hr_l : -2147483648 ≤ l ∧ l < 2147483648) (hr_r : -2147483648 ≤ r ∧ r < 2147483648) : zMet (S := Int × (Nat → Int) × (Nat → Nat → Int)) lau yX1_majority cX1_majority 3 (some .int) 7 166 0 0 s0 G sz [.ref (ad 99), .int (iZ (l)), .int (iZ (r))] (dW ad G F (va_up Ar 16 zZ) kp pl PW) (fun ((r_, F2, A2) : Int × (Nat → Int) × (Nat → Nat → Int)) => some (.int (iZ (r_)))) (fun ((r_, F2, A2) : Int × (Nat → Int) × (Nat → Nat → Int)) => (Sp_majority n v t l r r_) ∧ (DK F (va_up Ar 16 zZ) F2 A2)) (fun ((r_, F2, A2) : Int × (Nat → Int) × (Nat → Nat → Int)) => (dW ad G F2 A2 kp pl PW)) := by
  refine zMet.of (by decide) (Nat.le_of_ble_eq_true rfl) ?_
  intro pg ev s1 mi ar bl me cd ls Q as0 hC hH hl hQ hsz
  generalize s1.heap = H at hH ⊢
  generalize ([] : List Loc) = locs at hH ⊢
  have hl : lv_has ls 3 [(0, .ref (ad 99)), (1, .int (iZ (l))), (2, .int (iZ (r)))] := hl
  refine z_aload_n hC 0 hl dX1_majority_0 rfl 0 rfl ?_
  refine z_iload_n hC 1 hl dX1_majority_1 rfl 1 rfl ?_
  refine z_iload_n hC 2 hl dX1_majority_2 rfl 2 rfl ?_
  refine zp_back (zp_runV hC (hH.2.2) hl.1 (va_P_l hH.1) 2 (As := [.int (iZ (l)), .int (iZ (r))]) (rest := []) (u_X1_isSpan lau s0 G ad F (va_up Ar 16 zZ) kp pl n l r (by first | exact hn | assumption | omega) (by first | exact hFn | assumption | omega) (by first | assumption | omega) (by first | assumption | omega)) (lw_V q864 q866 qs26 q89 q867) ⟨rfl, by decide, by decide, by decide +kernel⟩ (q0 := 0) (ci := 1) rfl rfl rfl rfl (Nat.le_of_ble_eq_true rfl) ⟨Nat.le_of_ble_eq_true rfl, Nat.le_of_ble_eq_true rfl⟩ ⟨by first | decide | omega, by first | decide | omega⟩ dX1_majority_3) (fun r_3 hpost => ?_)
  have hb_3 : (r_3 = 1 ∧ (0 ≤ l ∧ l ≤ r ∧ r < (n : Int))) ∨ (r_3 = 0 ∧ ¬ (0 ≤ l ∧ l ≤ r ∧ r < (n : Int))) := hpost
  refine z_st (st' := [.int (iZ (r_3))]) rfl ?_
  rcases hb_3 with ⟨rfl, hb_3⟩ | ⟨rfl, hb_3⟩
  · -- 3=1
    refine z_if_eq_f hC 6 18 dX1_majority_6 rfl (by omega) (by omega) ?_
    obtain ⟨l1, rfl⟩ := Int.eq_ofNat_of_zero_le (show 0 ≤ l by omega)
    obtain ⟨r1, rfl⟩ := Int.eq_ofNat_of_zero_le (show 0 ≤ r by omega)
    refine z_aload_n hC 9 hl dX1_majority_9 rfl 0 rfl ?_
    refine z_iload_n hC 10 hl dX1_majority_10 rfl 1 rfl ?_
    refine z_iload_n hC 11 hl dX1_majority_11 rfl 2 rfl ?_
    refine z_st (st' := [.int (iZ (((r1 + 1 : Nat) : Int) - 1)), .int (iZ ((l1 : Int))), .ref (ad 99)]) (zcons (zieq (by omega)) (zcons rfl rfl)) ?_
    refine z_same (z_runV hC hH.2.2 hl.1 hH.1 hH.2.1 2 (As := [.int (iZ ((l1 : Int))), .int (iZ (((r1 + 1 : Nat) : Int) - 1))]) (rest := []) (m_X1_majorityOf lau s0 G _ ad F (va_up Ar 16 zZ) kp pl PW n v pr pa pm pf nw b t l1 (r1 + 1) (by first | exact hn | assumption | omega) (by first | exact hFn | assumption | omega) (by first | exact hv | assumption | omega) (by first | exact hAv | assumption | omega) (by first | exact hb | assumption | omega) (by first | exact hFb | assumption | omega) (by first | exact ht | assumption | omega) (by first | exact hFt | assumption | omega) (by first | exact hpl | assumption | omega) (by first | exact hnw | assumption | omega) (by first | exact hpc | assumption | omega) (by first | exact hpp | assumption | omega) (by first | exact hmo | assumption | omega) (by first | exact hlr | assumption | omega) (by first | exact hrn | assumption | omega)) (lw_V q1083 q1085 qs37 q89 q1086) ⟨rfl, by decide, by decide, by decide +kernel⟩ (q0 := 0) (ci := 1) rfl rfl rfl rfl (Nat.le_of_ble_eq_true rfl) ⟨Nat.le_of_ble_eq_true rfl, Nat.le_of_ble_eq_true rfl⟩ ⟨Nat.le_of_ble_eq_true rfl, Nat.le_of_ble_eq_true rfl⟩ dX1_majority_12) hH (fun u_ H locs hpost hH => ?_)
    obtain ⟨z_12, k_12, u_12, gu_12⟩ := u_
    have pz_12 : z_12 = if (r1 + 1) - l1 < 2 * cnt v l1 (r1 + 1) (md v l1 (r1 + 1) t) then (md v l1 (r1 + 1) t : Int) else -2 := hpost
    have hH : zH s0 s1 G as0 (dW ad G (va_up F 17 ((k_12 : Int))) (va_up (va_up Ar 15 (cI (k_12) u_12 gu_12)) 16 zZ) kp pl PW) H locs := hH
    refine z_st (st' := [.int (iZ (z_12))]) rfl ?_
    refine z_goto hC 15 19 dX1_majority_15 rfl ?_
    -- R19.1
    exact z_iret hC hH hQ 19 ((z_12, (va_up F 17 ((k_12 : Int))), (va_up (va_up Ar 15 (cI (k_12) u_12 gu_12)) 16 zZ))) dX1_majority_19 rfl ⟨by first | (unfold Sp_majority; rw [if_neg (by omega)]; done) | (unfold Sp_majority; rw [if_pos (by omega)]; simp only [Int.toNat_natCast, zt1]; split at pz_12 <;> rename_i hq; (· rw [if_pos hq]; first | done | trivial | omega); (· rw [if_neg hq]; first | done | trivial | omega)), by first | assumption | exact ⟨fun k h1 h2 h3 h4 h5 => by first | rfl | (simp [va_up, h1, h2, h3, h4, h5]; done) | (simp [va_up, h1, h2, h3, h4, h5]; intro e9; rw [e9, hFn]), fun k h1 h2 h3 h4 h5 h6 => by first | rfl | simp [va_up, h1, h2, h3, h4, h5, h6]⟩⟩ rfl (Nat.le_refl _) (Nat.le_refl _)
  · -- 3=0
    refine z_if_eq_t hC 6 18 dX1_majority_6 rfl (by omega) (by omega) ?_
    refine z_iconst hC 18 dX1_majority_18 ?_
    -- R19.2
    exact z_iret hC hH hQ 19 (((-1), F, (va_up Ar 16 zZ))) dX1_majority_19 rfl ⟨by first | (unfold Sp_majority; rw [if_neg (by omega)]; done) | (unfold Sp_majority; rw [if_pos (by omega)]; simp only [Int.toNat_natCast, zt1]; split at pz_12 <;> rename_i hq; (· rw [if_pos hq]; first | done | trivial | omega); (· rw [if_neg hq]; first | done | trivial | omega)), by first | assumption | exact ⟨fun k h1 h2 h3 h4 h5 => by first | rfl | (simp [va_up, h1, h2, h3, h4, h5]; done) | (simp [va_up, h1, h2, h3, h4, h5]; intro e9; rw [e9, hFn]), fun k h1 h2 h3 h4 h5 h6 => by first | rfl | simp [va_up, h1, h2, h3, h4, h5, h6]⟩⟩ rfl (Nat.le_refl _) (Nat.le_refl _)

set_option maxHeartbeats 4000000 in
set_option maxRecDepth 100000 in
theorem m_X1_window (lau : Launch) (s0 : State) (G : zG) (sz : Nat) (ad : Nat → Nat) (F : Nat → Int) (Ar : Nat → Nat → Int) (kp : Nat → Nat) (pl : Nat → Option Nat) (PW : va_W) (n : Nat) (v : Nat → Nat) (pr : Nat → Nat) (pa : Nat → Nat) (pm : Nat → Nat) (pf : Nat → Nat → Nat) (nw : Nat) (b : Nat) (t : Nat) (wd : Int) (k0 : Int) (hn : n ≤ 120) (hFn : F 200 = (n : Int)) (hv : ∀ i, i < n → v i < 1000) (hAv : ∀ i, i < n → Ar 201 i = (v i : Int)) (hb : 2 ≤ b ∧ b ≤ 20) (hFb : F 7 = (b : Int)) (ht : t < 4) (hFt : F 8 = (t : Int)) (hpl : ∀ y, y < 1000 → (pl y = some (pr y) ∨ (pl y = none ∧ pr y = nw))) (hnw : zNwh s0 nw) (hpc : ∀ y, y < 1000 → PlC n v y (pm y) (pf y)) (hpp : zPool s0 G PW pr pa pm pf) (hmo : ∀ i j, i ≤ j → b * j < n → Ar 12 (60 * i + j) = (md v (b * i) (bEnd b j n) t : Int)) (hr_wd : -2147483648 ≤ wd ∧ wd < 2147483648) (hr_k0 : -2147483648 ≤ k0 ∧ k0 < 2147483648) : zMet (S := Int × (Nat → Int) × (Nat → Nat → Int)) lau yX1_window cX1_window 3 (some .int) 6 143 0 0 s0 G sz [.ref (ad 99), .int (iZ (wd)), .int (iZ (k0))] (dW ad G F (va_up Ar 16 zZ) kp pl PW) (fun ((r_, F2, A2) : Int × (Nat → Int) × (Nat → Nat → Int)) => some (.int (iZ (r_)))) (fun ((r_, F2, A2) : Int × (Nat → Int) × (Nat → Nat → Int)) => (Sp_window n v t wd k0 r_) ∧ (DK F (va_up Ar 16 zZ) F2 A2)) (fun ((r_, F2, A2) : Int × (Nat → Int) × (Nat → Nat → Int)) => (dW ad G F2 A2 kp pl PW)) := by
  refine zMet.of (by decide) (Nat.le_of_ble_eq_true rfl) ?_
  intro pg ev s1 mi ar bl me cd ls Q as0 hC hH hl hQ hsz
  generalize s1.heap = H at hH ⊢
  generalize ([] : List Loc) = locs at hH ⊢
  have hl : lv_has ls 3 [(0, .ref (ad 99)), (1, .int (iZ (wd))), (2, .int (iZ (k0)))] := hl
  refine z_iload_n hC 0 hl dX1_window_0 rfl 1 rfl ?_
  refine z_i2l hC 1 dX1_window_1 (by omega) ?_
  refine z_lconst (a := 1) hC 2 dX1_window_2 rfl ?_
  refine z_aload_n hC 3 hl dX1_window_3 rfl 0 rfl ?_
  refine zp_get (v := .ref (ad 200)) hC (va_P_l hH.1) 4 in_X1 rfl 4 (by decide) q210 0 rfl (rfl) dX1_window_4 ?_
  refine zp_getN (v := .int (iZ ((n : Int)))) hC (va_P_l hH.1) 7 in_X2 rfl 2 (by decide) q149 11 rfl (by rw [← hFn]; rfl) dX1_window_7 ?_
  refine z_i2l hC 10 dX1_window_10 (by omega) ?_
  refine zp_back (zp_runS hC (hH.2.2) hl.1 (zp_nil) 3 (As := [.long (lZ (wd)), .long (lZ (1)), .long (lZ ((n : Int)))]) (rest := []) (u_X1_isIn lau s0 G wd 1 (n : Int) (by first | assumption | omega) (by first | assumption | omega) (by first | assumption | omega)) (lw_S q303 q304 q89 q305) ⟨by decide, by decide, by decide +kernel⟩ rfl rfl (Nat.le_of_ble_eq_true rfl) ⟨Nat.le_of_ble_eq_true rfl, Nat.le_of_ble_eq_true rfl⟩ ⟨by first | decide | omega, by first | decide | omega⟩ dX1_window_11) (fun r_11 hpost => ?_)
  have hb_11 : (r_11 = 1 ∧ ((1 : Int) ≤ wd ∧ wd ≤ (n : Int))) ∨ (r_11 = 0 ∧ ¬ ((1 : Int) ≤ wd ∧ wd ≤ (n : Int))) := hpost
  refine z_st (st' := [.int (iZ (r_11))]) rfl ?_
  rcases hb_11 with ⟨rfl, hb_11⟩ | ⟨rfl, hb_11⟩
  · -- 11=1
    refine z_if_eq_f hC 14 21 dX1_window_14 rfl (by omega) (by omega) ?_
    refine z_iload_n hC 17 hl dX1_window_17 rfl 2 rfl ?_
    refine z_if_ge hC 18 23 dX1_window_18 rfl (by omega) (fun hb1 => ?_) (fun hb1 => ?_)
    · -- 18t
      obtain ⟨w1, rfl⟩ := Int.eq_ofNat_of_zero_le (show 0 ≤ wd by omega)
      obtain ⟨k1, rfl⟩ := Int.eq_ofNat_of_zero_le (show 0 ≤ k0 by omega)
      refine z_iload_n hC 23 hl dX1_window_23 rfl 2 rfl ?_
      refine z_aload_n hC 24 hl dX1_window_24 rfl 0 rfl ?_
      refine zp_get (v := .ref (ad 200)) hC (va_P_l hH.1) 25 in_X1 rfl 4 (by decide) q210 0 rfl (rfl) dX1_window_25 ?_
      refine zp_getN (v := .int (iZ ((n : Int)))) hC (va_P_l hH.1) 28 in_X2 rfl 2 (by decide) q149 11 rfl (by rw [← hFn]; rfl) dX1_window_28 ?_
      refine z_iload_n hC 31 hl dX1_window_31 rfl 1 rfl ?_
      refine z_isub (e := (n : Int) - (w1 : Int)) hC 32 dX1_window_32 rfl ?_
      refine z_icmp_le hC 33 41 dX1_window_33 rfl (by omega) (by omega) (fun hb2 => ?_) (fun hb2 => ?_)
      · -- 33t
        refine z_aload_n hC 41 hl dX1_window_41 rfl 0 rfl ?_
        refine z_iload_n hC 42 hl dX1_window_42 rfl 2 rfl ?_
        refine z_iload_n hC 43 hl dX1_window_43 rfl 2 rfl ?_
        refine z_iload_n hC 44 hl dX1_window_44 rfl 1 rfl ?_
        refine z_iadd (e := (k1 : Int) + (w1 : Int)) hC 45 dX1_window_45 rfl ?_
        refine z_iconst hC 46 dX1_window_46 ?_
        refine z_isub (e := (k1 : Int) + (w1 : Int) - 1) hC 47 dX1_window_47 rfl ?_
        refine z_st (st' := [.int (iZ (((k1 + w1 : Nat) : Int) - 1)), .int (iZ ((k1 : Int))), .ref (ad 99)]) (zcons (zieq (by omega)) (zcons rfl rfl)) ?_
        refine z_same (z_runV hC hH.2.2 hl.1 hH.1 hH.2.1 2 (As := [.int (iZ ((k1 : Int))), .int (iZ (((k1 + w1 : Nat) : Int) - 1))]) (rest := []) (m_X1_modeOf lau s0 G _ ad F (va_up Ar 16 zZ) kp pl PW n v pr pa pm pf nw b t k1 (k1 + w1) (by first | exact hn | assumption | omega) (by first | exact hFn | assumption | omega) (by first | exact hv | assumption | omega) (by first | exact hAv | assumption | omega) (by first | exact hb | assumption | omega) (by first | exact hFb | assumption | omega) (by first | exact ht | assumption | omega) (by first | exact hFt | assumption | omega) (by first | exact hpl | assumption | omega) (by first | exact hnw | assumption | omega) (by first | exact hpc | assumption | omega) (by first | exact hpp | assumption | omega) (by first | exact hmo | assumption | omega) (by first | exact hlr | assumption | omega) (by first | exact hrn | assumption | omega)) (lw_V q1040 q991 qs27 q89 q992) ⟨rfl, by decide, by decide, by decide +kernel⟩ (q0 := 0) (ci := 1) rfl rfl rfl rfl (Nat.le_of_ble_eq_true rfl) ⟨Nat.le_of_ble_eq_true rfl, Nat.le_of_ble_eq_true rfl⟩ ⟨Nat.le_of_ble_eq_true rfl, Nat.le_of_ble_eq_true rfl⟩ dX1_window_48) hH (fun u_ H locs hpost hH => ?_)
        obtain ⟨k_48, u_48, gu_48⟩ := u_
        have hH : zH s0 s1 G as0 (dW ad G (va_up F 17 ((k_48 : Int))) (va_up (va_up Ar 15 (cI (k_48) u_48 gu_48)) 16 zZ) kp pl PW) H locs := hH
        refine z_st (st' := [.int (iZ (((md v k1 (k1 + w1) t : Nat) : Int)))]) rfl ?_
        -- R51.1
        exact z_iret hC hH hQ 51 ((((md v k1 (k1 + w1) t : Nat) : Int), (va_up F 17 ((k_48 : Int))), (va_up (va_up Ar 15 (cI (k_48) u_48 gu_48)) 16 zZ))) dX1_window_51 rfl ⟨by first | (unfold Sp_window; rw [if_neg (by omega)]) | (unfold Sp_window; rw [if_pos (by omega)]; (try simp only [Int.toNat_natCast, zt1]); first | done | trivial | rfl | omega | (rw [if_pos (by omega)]; first | done | trivial | rfl | omega) | (rw [if_neg (by omega)]; first | done | trivial | rfl | omega)), by first | assumption | exact ⟨fun k h1 h2 h3 h4 h5 => by first | rfl | (simp [va_up, h1, h2, h3, h4, h5]; done) | (simp [va_up, h1, h2, h3, h4, h5]; intro e9; rw [e9, hFn]), fun k h1 h2 h3 h4 h5 h6 => by first | rfl | simp [va_up, h1, h2, h3, h4, h5, h6]⟩⟩ rfl (Nat.le_refl _) (Nat.le_refl _)
      · -- 33f
        refine z_bipush hC 36 dX1_window_36 rfl ?_
        refine z_goto hC 38 51 dX1_window_38 rfl ?_
        -- R51.2
        exact z_iret hC hH hQ 51 (((-2), F, (va_up Ar 16 zZ))) dX1_window_51 rfl ⟨by first | (unfold Sp_window; rw [if_neg (by omega)]) | (unfold Sp_window; rw [if_pos (by omega)]; (try simp only [Int.toNat_natCast, zt1]); first | done | trivial | rfl | omega | (rw [if_pos (by omega)]; first | done | trivial | rfl | omega) | (rw [if_neg (by omega)]; first | done | trivial | rfl | omega)), by first | assumption | exact ⟨fun k h1 h2 h3 h4 h5 => by first | rfl | (simp [va_up, h1, h2, h3, h4, h5]; done) | (simp [va_up, h1, h2, h3, h4, h5]; intro e9; rw [e9, hFn]), fun k h1 h2 h3 h4 h5 h6 => by first | rfl | simp [va_up, h1, h2, h3, h4, h5, h6]⟩⟩ rfl (Nat.le_refl _) (Nat.le_refl _)
    · -- 18f
      refine z_iconst hC 21 dX1_window_21 ?_
      -- R22.3
      exact z_iret hC hH hQ 22 (((-1), F, (va_up Ar 16 zZ))) dX1_window_22 rfl ⟨by first | (unfold Sp_window; rw [if_neg (by omega)]) | (unfold Sp_window; rw [if_pos (by omega)]; (try simp only [Int.toNat_natCast, zt1]); first | done | trivial | rfl | omega | (rw [if_pos (by omega)]; first | done | trivial | rfl | omega) | (rw [if_neg (by omega)]; first | done | trivial | rfl | omega)), by first | assumption | exact ⟨fun k h1 h2 h3 h4 h5 => by first | rfl | (simp [va_up, h1, h2, h3, h4, h5]; done) | (simp [va_up, h1, h2, h3, h4, h5]; intro e9; rw [e9, hFn]), fun k h1 h2 h3 h4 h5 h6 => by first | rfl | simp [va_up, h1, h2, h3, h4, h5, h6]⟩⟩ rfl (Nat.le_refl _) (Nat.le_refl _)
  · -- 11=0
    refine z_if_eq_t hC 14 21 dX1_window_14 rfl (by omega) (by omega) ?_
    refine z_iconst hC 21 dX1_window_21 ?_
    -- R22.4
    exact z_iret hC hH hQ 22 (((-1), F, (va_up Ar 16 zZ))) dX1_window_22 rfl ⟨by first | (unfold Sp_window; rw [if_neg (by omega)]) | (unfold Sp_window; rw [if_pos (by omega)]; (try simp only [Int.toNat_natCast, zt1]); first | done | trivial | rfl | omega | (rw [if_pos (by omega)]; first | done | trivial | rfl | omega) | (rw [if_neg (by omega)]; first | done | trivial | rfl | omega)), by first | assumption | exact ⟨fun k h1 h2 h3 h4 h5 => by first | rfl | (simp [va_up, h1, h2, h3, h4, h5]; done) | (simp [va_up, h1, h2, h3, h4, h5]; intro e9; rw [e9, hFn]), fun k h1 h2 h3 h4 h5 h6 => by first | rfl | simp [va_up, h1, h2, h3, h4, h5, h6]⟩⟩ rfl (Nat.le_refl _) (Nat.le_refl _)
