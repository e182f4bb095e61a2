/-! methods of ModeDesk that write: 86.es -/
set_option maxHeartbeats 4000000 in
set_option maxRecDepth 100000 in
theorem m_X1_spans (lau : Launch) (s0 : State) (G : zG) (sz : Nat) (ad : Nat → Nat) (F : Nat → Int) (Ar : Nat → Nat → Int) (kp : Nat → Nat) (pl : Nat → Option Nat) (PW : va_W) (n : Nat) (v : Nat → Nat) (pr : Nat → Nat) (pa : Nat → Nat) (pm : Nat → Nat) (pf : Nat → Nat → Nat) (nw : Nat) (b : Nat) (t : Nat) (x : Int) (hn : n ≤ 120) (hFn : F 200 = (n : Int)) (hv : ∀ i, i < n → v i < 1000) (hAv : ∀ i, i < n → Ar 201 i = (v i : Int)) (hb : 2 ≤ b ∧ b ≤ 20) (hFb : F 7 = (b : Int)) (ht : t < 4) (hFt : F 8 = (t : Int)) (hpl : ∀ y, y < 1000 → (pl y = some (pr y) ∨ (pl y = none ∧ pr y = nw))) (hnw : zNwh s0 nw) (hpc : ∀ y, y < 1000 → PlC n v y (pm y) (pf y)) (hpp : zPool s0 G PW pr pa pm pf) (hmo : ∀ i j, i ≤ j → b * j < n → Ar 12 (60 * i + j) = (md v (b * i) (bEnd b j n) t : Int)) (hr_x : -2147483648 ≤ x ∧ x < 2147483648) : zMet (S := Int × (Nat → Int) × (Nat → Nat → Int)) lau yX1_spans cX1_spans 3 (some .int) 5 119 1 3 s0 G sz [.ref (ad 99), .int (iZ (x))] (dW ad G F (va_up Ar 16 zZ) kp pl PW) (fun ((r_, F2, A2) : Int × (Nat → Int) × (Nat → Nat → Int)) => some (.int (iZ (r_)))) (fun ((r_, F2, A2) : Int × (Nat → Int) × (Nat → Nat → Int)) => (Sp_spans n v t x r_) ∧ (DK F (va_up Ar 16 zZ) F2 A2)) (fun ((r_, F2, A2) : Int × (Nat → Int) × (Nat → Nat → Int)) => (dW ad G F2 A2 kp pl PW)) := by
  refine zMet.of (by decide) (Nat.le_of_ble_eq_true rfl) ?_
  intro pg ev s1 mi ar bl me cd ls Q as0 hC hH hl hQ hsz
  generalize s1.heap = H at hH ⊢
  generalize ([] : List Loc) = locs at hH ⊢
  have hl : lv_has ls 3 [(0, .ref (ad 99)), (1, .int (iZ (x)))] := hl
  refine z_iload_n hC 0 hl dX1_spans_0 rfl 1 rfl ?_
  refine zp_back (zp_runS hC (hH.2.2) hl.1 (zp_nil) 1 (As := [.int (iZ (x))]) (rest := []) (u_X1_isValue lau s0 G x (by first | assumption | omega)) (lw_S q803 q804 q89 q805) ⟨by decide, by decide, by decide +kernel⟩ rfl rfl (Nat.le_of_ble_eq_true rfl) ⟨Nat.le_of_ble_eq_true rfl, Nat.le_of_ble_eq_true rfl⟩ ⟨by first | decide | omega, by first | decide | omega⟩ dX1_spans_1) (fun r_1 hpost => ?_)
  have hb_1 : (r_1 = 1 ∧ (0 ≤ x ∧ x < 1000)) ∨ (r_1 = 0 ∧ ¬ (0 ≤ x ∧ x < 1000)) := hpost
  refine z_st (st' := [.int (iZ (r_1))]) rfl ?_
  rcases hb_1 with ⟨rfl, hb_1⟩ | ⟨rfl, hb_1⟩
  · -- 1=1
    refine z_if_ne_t hC 4 9 dX1_spans_4 rfl (by omega) (by omega) ?_
    obtain ⟨x1, rfl⟩ := Int.eq_ofNat_of_zero_le (show 0 ≤ x by omega)
    refine z_aload_n hC 9 hl dX1_spans_9 rfl 0 rfl ?_
    refine z_iconst hC 10 dX1_spans_10 ?_
    refine pD_20 hC hH 11 dX1_spans_11 (fun H locs hH => ?_)
    have hH : zH s0 s1 G as0 (dW ad G (va_up F 20 (0)) (va_up Ar 16 zZ) kp pl PW) H locs := hH
    refine z_new (ci := 13) (N := 3) hC hH 14 [.null, .int (0), .null] tyX15 in_X15 tyX15_ok rfl q1177 q1178 q122 (fun j hj => by rcases (show j = 0 ∨ j = 1 ∨ j = 2 from by omega) with rfl | rfl | rfl <;> rfl) ⟨by first | decide | omega, by first | decide | omega⟩ dX1_spans_14 (fun w14 H hH => ?_)
    rw [dW_app] at hH
    have hH : zH s0 s1 G as0 (dW ad G (va_up F 20 (0)) (va_up Ar 16 zZ) kp pl (PW ++ [(w14, .inr (13, [.null, .int (0), .null]))])) H locs := hH
    refine z_dup hC 17 dX1_spans_17 rfl ?_
    refine z_aload_n hC 18 hl dX1_spans_18 rfl 0 rfl ?_
    refine z_iload_n hC 19 hl dX1_spans_19 rfl 1 rfl ?_
    refine z_subN (z_runI hC hH.2.2 hl.1 (dW_xP hH.1) (z_subD hH.2.1 [60 + PW.length] (by simp) dW_xk) 2 (As := [.ref (ad 99), .int (iZ ((x1 : Int)))]) (rest := [.ref (w14)]) (m_X15_init lau s0 G _ w14 (ad 99) ((x1 : Int))) (lw_meth q1181) q1179 ⟨q122, q1180⟩ rfl ⟨by decide, by decide, by decide +kernel⟩ rfl rfl (Nat.le_of_ble_eq_true rfl) ⟨Nat.le_of_ble_eq_true rfl, Nat.le_of_ble_eq_true rfl⟩ ⟨by first | decide | omega, by first | decide | omega⟩ dX1_spans_20) hH [60 + PW.length] dW_xk (by simp) (fun _ => rfl) (fun _ H locs hpost hH => ?_)
    rw [setL_x] at hH
    have hH : zH s0 s1 G as0 (dW ad G (va_up F 20 (0)) (va_up Ar 16 zZ) kp pl (PW ++ [(w14, .inr (13, [.ref (ad 99), .int (iZ ((x1 : Int))), .ref (ad 99)]))])) H locs := hH
    refine z_st (st' := [.ref (w14)]) rfl ?_
    refine z_same (z_runA (owner := "ModeDesk$Walk") hC hH.2.2 hl.1 hH.1 hH.2.1 0 (As := []) (rest := []) (m_X14_goes_X15 lau s0 G _ ad (va_up F 20 (0)) (va_up Ar 16 zZ) kp pl PW n v pr pa pm pf nw t x1 w14 (by first | exact hn | assumption | omega) (by first | exact hFn | assumption | omega) (by first | exact hv | assumption | omega) (by first | exact hAv | assumption | omega) (by first | exact ht | assumption | omega) (by first | exact hFt | assumption | omega) (by first | exact hpl | assumption | omega) (by first | exact hnw | assumption | omega) (by first | exact hpc | assumption | omega) (by first | exact hpp | assumption | omega) (by first | assumption | omega)) (lw_U q1196 q1197 q1199 q1200 q121 q1201) q1198 ⟨by decide, by decide, by decide +kernel⟩ (q0 := 60 + PW.length) (ci := 13) dW_x rfl rfl rfl (Nat.le_of_ble_eq_true rfl) ⟨Nat.le_of_ble_eq_true rfl, Nat.le_of_ble_eq_true rfl⟩ ⟨by first | decide | omega, by first | decide | omega⟩ dX1_spans_23) hH (fun f2_23 H locs hpost hH => ?_)
    have pf_23 : f2_23 = sm (fun l => cB (fun r => l ≤ r ∧ md v l (r + 1) t = x1) n) 0 n := hpost
    have hH : zH s0 s1 G as0 (dW ad G (va_up F 20 ((f2_23 : Int))) (va_up Ar 16 zZ) kp pl (PW ++ [(w14, .inr (13, [.ref (ad 99), .int (iZ (x1 : Int)), .ref (ad 99)]))])) H locs := hH
    refine z_st (st' := [.ref (w14)]) rfl ?_
    refine z_astore_n (lv' := [(2, .ref (w14)), (0, .ref (ad 99)), (1, .int (iZ ((x1 : Int))))]) hC 26 hl dX1_spans_26 rfl (by decide) rfl (fun ls hl => ?_)
    refine z_aload_n hC 27 hl dX1_spans_27 rfl 1 rfl ?_
    refine zp_get (v := .int (iZ ((f2_23 : Int)))) hC (va_P_l hH.1) 28 in_X1 rfl 20 (by decide) q233 0 rfl (rfl) dX1_spans_28 ?_
    rw [← dW_app] at hH
    have hH := zH_l hH
    -- R31.1
    exact z_iret hC hH hQ 31 (((f2_23 : Int), (va_up F 20 ((f2_23 : Int))), (va_up Ar 16 zZ))) dX1_spans_31 rfl ⟨by (unfold Sp_spans; rw [if_pos (by omega)]; simp only [Int.toNat_natCast]; rw [pf_23]), by first | assumption | exact ⟨fun k h1 h2 h3 h4 h5 => by first | rfl | (simp [va_up, h1, h2, h3, h4, h5]; done) | (simp [va_up, h1, h2, h3, h4, h5]; intro e9; rw [e9, hFn]), fun k h1 h2 h3 h4 h5 h6 => by first | rfl | simp [va_up, h1, h2, h3, h4, h5, h6]⟩⟩ rfl (by first | decide | omega) (by first | decide | omega)
  · -- 1=0
    refine z_if_ne_f hC 4 9 dX1_spans_4 rfl (by omega) (by omega) ?_
    refine z_iconst hC 7 dX1_spans_7 ?_
    -- R8.2
    exact z_iret hC hH hQ 8 (((-1), F, (va_up Ar 16 zZ))) dX1_spans_8 rfl ⟨by first | (unfold Sp_spans; rw [if_neg (by omega)]) | (unfold Sp_spans; rw [if_pos (by omega)]; (try simp only [Int.toNat_natCast, zt1]); first | done | trivial | rfl | omega | (rw [if_pos (by omega)]; first | done | trivial | rfl | omega) | (rw [if_neg (by omega)]; first | done | trivial | rfl | omega)), by first | assumption | exact ⟨fun k h1 h2 h3 h4 h5 => by first | rfl | (simp [va_up, h1, h2, h3, h4, h5]; done) | (simp [va_up, h1, h2, h3, h4, h5]; intro e9; rw [e9, hFn]), fun k h1 h2 h3 h4 h5 h6 => by first | rfl | simp [va_up, h1, h2, h3, h4, h5, h6]⟩⟩ rfl (by first | decide | omega) (by first | decide | omega)

set_option maxHeartbeats 4000000 in
set_option maxRecDepth 100000 in
theorem m_X1_longest (lau : Launch) (s0 : State) (G : zG) (sz : Nat) (ad : Nat → Nat) (F : Nat → Int) (Ar : Nat → Nat → Int) (kp : Nat → Nat) (pl : Nat → Option Nat) (PW : va_W) (n : Nat) (v : Nat → Nat) (pr : Nat → Nat) (pa : Nat → Nat) (pm : Nat → Nat) (pf : Nat → Nat → Nat) (nw : Nat) (b : Nat) (t : Nat) (x : Int) (q : Int) (hn : n ≤ 120) (hFn : F 200 = (n : Int)) (hv : ∀ i, i < n → v i < 1000) (hAv : ∀ i, i < n → Ar 201 i = (v i : Int)) (hb : 2 ≤ b ∧ b ≤ 20) (hFb : F 7 = (b : Int)) (ht : t < 4) (hFt : F 8 = (t : Int)) (hpl : ∀ y, y < 1000 → (pl y = some (pr y) ∨ (pl y = none ∧ pr y = nw))) (hnw : zNwh s0 nw) (hpc : ∀ y, y < 1000 → PlC n v y (pm y) (pf y)) (hpp : zPool s0 G PW pr pa pm pf) (hmo : ∀ i j, i ≤ j → b * j < n → Ar 12 (60 * i + j) = (md v (b * i) (bEnd b j n) t : Int)) (hr_x : -2147483648 ≤ x ∧ x < 2147483648) (hr_q : -2147483648 ≤ q ∧ q < 2147483648) : zMet (S := Int × (Nat → Int) × (Nat → Nat → Int)) lau yX1_longest cX1_longest 4 (some .int) 5 119 1 3 s0 G sz [.ref (ad 99), .int (iZ (x)), .int (iZ (q))] (dW ad G F (va_up Ar 16 zZ) kp pl PW) (fun ((r_, F2, A2) : Int × (Nat → Int) × (Nat → Nat → Int)) => some (.int (iZ (r_)))) (fun ((r_, F2, A2) : Int × (Nat → Int) × (Nat → Nat → Int)) => (Sp_longest n v t x q r_) ∧ (DK F (va_up Ar 16 zZ) F2 A2)) (fun ((r_, F2, A2) : Int × (Nat → Int) × (Nat → Nat → Int)) => (dW ad G F2 A2 kp pl PW)) := by
  refine zMet.of (by decide) (Nat.le_of_ble_eq_true rfl) ?_
  intro pg ev s1 mi ar bl me cd ls Q as0 hC hH hl hQ hsz
  generalize s1.heap = H at hH ⊢
  generalize ([] : List Loc) = locs at hH ⊢
  have hl : lv_has ls 4 [(0, .ref (ad 99)), (1, .int (iZ (x))), (2, .int (iZ (q)))] := hl
  refine z_iload_n hC 0 hl dX1_longest_0 rfl 1 rfl ?_
  refine zp_back (zp_runS hC (hH.2.2) hl.1 (zp_nil) 1 (As := [.int (iZ (x))]) (rest := []) (u_X1_isValue lau s0 G x (by first | assumption | omega)) (lw_S q803 q804 q89 q805) ⟨by decide, by decide, by decide +kernel⟩ rfl rfl (Nat.le_of_ble_eq_true rfl) ⟨Nat.le_of_ble_eq_true rfl, Nat.le_of_ble_eq_true rfl⟩ ⟨by first | decide | omega, by first | decide | omega⟩ dX1_longest_1) (fun r_1 hpost => ?_)
  have hb_1 : (r_1 = 1 ∧ (0 ≤ x ∧ x < 1000)) ∨ (r_1 = 0 ∧ ¬ (0 ≤ x ∧ x < 1000)) := hpost
  refine z_st (st' := [.int (iZ (r_1))]) rfl ?_
  rcases hb_1 with ⟨rfl, hb_1⟩ | ⟨rfl, hb_1⟩
  · -- 1=1
    refine z_if_eq_f hC 4 17 dX1_longest_4 rfl (by omega) (by omega) ?_
    refine z_iload_n hC 7 hl dX1_longest_7 rfl 2 rfl ?_
    refine z_i2l hC 8 dX1_longest_8 (by omega) ?_
    refine z_lconst (a := 0) hC 9 dX1_longest_9 rfl ?_
    refine z_lconst (a := 1) hC 10 dX1_longest_10 rfl ?_
    refine zp_back (zp_runS hC (hH.2.2) hl.1 (zp_nil) 3 (As := [.long (lZ (q)), .long (lZ (0)), .long (lZ (1))]) (rest := []) (u_X1_isIn lau s0 G q 0 1 (by first | assumption | omega) (by first | assumption | omega) (by first | assumption | omega)) (lw_S q303 q304 q89 q305) ⟨by decide, by decide, by decide +kernel⟩ rfl rfl (Nat.le_of_ble_eq_true rfl) ⟨Nat.le_of_ble_eq_true rfl, Nat.le_of_ble_eq_true rfl⟩ ⟨by first | decide | omega, by first | decide | omega⟩ dX1_longest_11) (fun r_11 hpost => ?_)
    have hb_11 : (r_11 = 1 ∧ ((0 : Int) ≤ q ∧ q ≤ (1 : Int))) ∨ (r_11 = 0 ∧ ¬ ((0 : Int) ≤ q ∧ q ≤ (1 : Int))) := hpost
    refine z_st (st' := [.int (iZ (r_11))]) rfl ?_
    rcases hb_11 with ⟨rfl, hb_11⟩ | ⟨rfl, hb_11⟩
    · -- 11=1
      refine z_if_ne_t hC 14 19 dX1_longest_14 rfl (by omega) (by omega) ?_
      obtain ⟨x1, rfl⟩ := Int.eq_ofNat_of_zero_le (show 0 ≤ x by omega)
      refine z_aload_n hC 19 hl dX1_longest_19 rfl 0 rfl ?_
      refine z_iconst hC 20 dX1_longest_20 ?_
      refine pD_20 hC hH 21 dX1_longest_21 (fun H locs hH => ?_)
      have hH : zH s0 s1 G as0 (dW ad G (va_up F 20 (0)) (va_up Ar 16 zZ) kp pl PW) H locs := hH
      refine z_new (ci := 14) (N := 3) hC hH 24 [.null, .int (0), .null] tyX16 in_X16 tyX16_ok rfl q1221 q1222 q123 (fun j hj => by rcases (show j = 0 ∨ j = 1 ∨ j = 2 from by omega) with rfl | rfl | rfl <;> rfl) ⟨by first | decide | omega, by first | decide | omega⟩ dX1_longest_24 (fun w24 H hH => ?_)
      rw [dW_app] at hH
      have hH : zH s0 s1 G as0 (dW ad G (va_up F 20 (0)) (va_up Ar 16 zZ) kp pl (PW ++ [(w24, .inr (14, [.null, .int (0), .null]))])) H locs := hH
      refine z_dup hC 27 dX1_longest_27 rfl ?_
      refine z_aload_n hC 28 hl dX1_longest_28 rfl 0 rfl ?_
      refine z_iload_n hC 29 hl dX1_longest_29 rfl 1 rfl ?_
      refine z_subN (z_runI hC hH.2.2 hl.1 (dW_xP hH.1) (z_subD hH.2.1 [60 + PW.length] (by simp) dW_xk) 2 (As := [.ref (ad 99), .int (iZ ((x1 : Int)))]) (rest := [.ref (w24)]) (m_X16_init lau s0 G _ w24 (ad 99) ((x1 : Int))) (lw_meth q1225) q1223 ⟨q123, q1224⟩ rfl ⟨by decide, by decide, by decide +kernel⟩ rfl rfl (Nat.le_of_ble_eq_true rfl) ⟨Nat.le_of_ble_eq_true rfl, Nat.le_of_ble_eq_true rfl⟩ ⟨by first | decide | omega, by first | decide | omega⟩ dX1_longest_30) hH [60 + PW.length] dW_xk (by simp) (fun _ => rfl) (fun _ H locs hpost hH => ?_)
      rw [setL_x] at hH
      have hH : zH s0 s1 G as0 (dW ad G (va_up F 20 (0)) (va_up Ar 16 zZ) kp pl (PW ++ [(w24, .inr (14, [.ref (ad 99), .int (iZ ((x1 : Int))), .ref (ad 99)]))])) H locs := hH
      refine z_st (st' := [.ref (w24)]) rfl ?_
      refine z_same (z_runA (owner := "ModeDesk$Walk") hC hH.2.2 hl.1 hH.1 hH.2.1 0 (As := []) (rest := []) (m_X14_goes_X16 lau s0 G _ ad (va_up F 20 (0)) (va_up Ar 16 zZ) kp pl PW n v pr pa pm pf nw t x1 w24 (F 21) (F 22) (by first | exact hn | assumption | omega) (by first | exact hFn | assumption | omega) (by first | exact hv | assumption | omega) (by first | exact hAv | assumption | omega) (by first | exact ht | assumption | omega) (by first | exact hFt | assumption | omega) (by first | exact hpl | assumption | omega) (by first | exact hnw | assumption | omega) (by first | exact hpc | assumption | omega) (by first | exact hpp | assumption | omega) (by first | assumption | omega)) (lw_U q1235 q1236 q1237 q1200 q121 q1201) q1198 ⟨by decide, by decide, by decide +kernel⟩ (q0 := 60 + PW.length) (ci := 14) dW_x rfl rfl rfl (Nat.le_of_ble_eq_true rfl) ⟨Nat.le_of_ble_eq_true rfl, Nat.le_of_ble_eq_true rfl⟩ ⟨by first | decide | omega, by first | decide | omega⟩ dX1_longest_33) hH (fun u_ H locs hpost hH => ?_)
      obtain ⟨f2_33, fl2_33, fr2_33⟩ := u_
      have pf_33 : WK (fun l r => md v l (r + 1) t = x1) n n 0 f2_33 fl2_33 fr2_33 := hpost
      have hH : zH s0 s1 G as0 (dW ad G (va_up (va_up (va_up F 20 (f2_33)) 21 (fl2_33)) 22 (fr2_33)) (va_up Ar 16 zZ) kp pl (PW ++ [(w24, .inr (14, [.ref (ad 99), .int (iZ (x1 : Int)), .ref (ad 99)]))])) H locs := hH
      refine z_st (st' := [.ref (w24)]) rfl ?_
      have hwb := WK_b pf_33
      refine z_astore_n (lv' := [(3, .ref (w24)), (0, .ref (ad 99)), (1, .int (iZ ((x1 : Int)))), (2, .int (iZ (q)))]) hC 36 hl dX1_longest_36 rfl (by decide) rfl (fun ls hl => ?_)
      refine z_aload_n hC 37 hl dX1_longest_37 rfl 1 rfl ?_
      refine zp_get (v := .int (iZ (f2_33))) hC (va_P_l hH.1) 38 in_X1 rfl 20 (by decide) q233 0 rfl (rfl) dX1_longest_38 ?_
      refine z_if_ne hC 41 49 dX1_longest_41 rfl (by omega) (fun hb1 => ?_) (fun hb1 => ?_)
      · -- 41t
        refine z_iload_n hC 49 hl dX1_longest_49 rfl 3 rfl ?_
        refine z_if_ne hC 50 60 dX1_longest_50 rfl (by omega) (fun hb2 => ?_) (fun hb2 => ?_)
        · -- 50t
          refine z_aload_n hC 60 hl dX1_longest_60 rfl 1 rfl ?_
          refine zp_get (v := .int (iZ (fr2_33))) hC (va_P_l hH.1) 61 in_X1 rfl 22 (by decide) q239 0 rfl (rfl) dX1_longest_61 ?_
          rw [← dW_app] at hH
          have hH := zH_l hH
          -- R64.1
          exact z_iret hC hH hQ 64 ((fr2_33, (va_up (va_up (va_up F 20 (f2_33)) 21 (fl2_33)) 22 (fr2_33)), (va_up Ar 16 zZ))) dX1_longest_64 rfl ⟨by (unfold Sp_longest; rw [if_pos (by omega)]; simp only [Int.toNat_natCast]; exact WK_end pf_33 rfl (by first | (left; omega) | (right; refine ⟨by omega, ?_⟩; first | (rw [if_pos (by omega)]; done) | (rw [if_neg (by omega)]; done)))), by first | assumption | exact ⟨fun k h1 h2 h3 h4 h5 => by first | rfl | (simp [va_up, h1, h2, h3, h4, h5]; done) | (simp [va_up, h1, h2, h3, h4, h5]; intro e9; rw [e9, hFn]), fun k h1 h2 h3 h4 h5 h6 => by first | rfl | simp [va_up, h1, h2, h3, h4, h5, h6]⟩⟩ rfl (by first | decide | omega) (by first | decide | omega)
        · -- 50f
          refine z_aload_n hC 53 hl dX1_longest_53 rfl 1 rfl ?_
          refine zp_get (v := .int (iZ (fl2_33))) hC (va_P_l hH.1) 54 in_X1 rfl 21 (by decide) q236 0 rfl (rfl) dX1_longest_54 ?_
          refine z_goto hC 57 64 dX1_longest_57 rfl ?_
          rw [← dW_app] at hH
          have hH := zH_l hH
          -- R64.2
          exact z_iret hC hH hQ 64 ((fl2_33, (va_up (va_up (va_up F 20 (f2_33)) 21 (fl2_33)) 22 (fr2_33)), (va_up Ar 16 zZ))) dX1_longest_64 rfl ⟨by (unfold Sp_longest; rw [if_pos (by omega)]; simp only [Int.toNat_natCast]; exact WK_end pf_33 rfl (by first | (left; omega) | (right; refine ⟨by omega, ?_⟩; first | (rw [if_pos (by omega)]; done) | (rw [if_neg (by omega)]; done)))), by first | assumption | exact ⟨fun k h1 h2 h3 h4 h5 => by first | rfl | (simp [va_up, h1, h2, h3, h4, h5]; done) | (simp [va_up, h1, h2, h3, h4, h5]; intro e9; rw [e9, hFn]), fun k h1 h2 h3 h4 h5 h6 => by first | rfl | simp [va_up, h1, h2, h3, h4, h5, h6]⟩⟩ rfl (by first | decide | omega) (by first | decide | omega)
      · -- 41f
        refine z_bipush hC 44 dX1_longest_44 rfl ?_
        refine z_goto hC 46 64 dX1_longest_46 rfl ?_
        rw [← dW_app] at hH
        have hH := zH_l hH
        -- R64.3
        exact z_iret hC hH hQ 64 (((-2), (va_up (va_up (va_up F 20 (f2_33)) 21 (fl2_33)) 22 (fr2_33)), (va_up Ar 16 zZ))) dX1_longest_64 rfl ⟨by (unfold Sp_longest; rw [if_pos (by omega)]; simp only [Int.toNat_natCast]; exact WK_end pf_33 rfl (by first | (left; omega) | (right; refine ⟨by omega, ?_⟩; first | (rw [if_pos (by omega)]; done) | (rw [if_neg (by omega)]; done)))), by first | assumption | exact ⟨fun k h1 h2 h3 h4 h5 => by first | rfl | (simp [va_up, h1, h2, h3, h4, h5]; done) | (simp [va_up, h1, h2, h3, h4, h5]; intro e9; rw [e9, hFn]), fun k h1 h2 h3 h4 h5 h6 => by first | rfl | simp [va_up, h1, h2, h3, h4, h5, h6]⟩⟩ rfl (by first | decide | omega) (by first | decide | omega)
    · -- 11=0
      refine z_if_ne_f hC 14 19 dX1_longest_14 rfl (by omega) (by omega) ?_
      refine z_iconst hC 17 dX1_longest_17 ?_
      -- R18.4
      exact z_iret hC hH hQ 18 (((-1), F, (va_up Ar 16 zZ))) dX1_longest_18 rfl ⟨by first | (unfold Sp_longest; rw [if_neg (by omega)]) | (unfold Sp_longest; rw [if_pos (by omega)]; (try simp only [Int.toNat_natCast, zt1]); first | done | trivial | rfl | omega | (rw [if_pos (by omega)]; first | done | trivial | rfl | omega) | (rw [if_neg (by omega)]; first | done | trivial | rfl | omega)), by first | assumption | exact ⟨fun k h1 h2 h3 h4 h5 => by first | rfl | (simp [va_up, h1, h2, h3, h4, h5]; done) | (simp [va_up, h1, h2, h3, h4, h5]; intro e9; rw [e9, hFn]), fun k h1 h2 h3 h4 h5 h6 => by first | rfl | simp [va_up, h1, h2, h3, h4, h5, h6]⟩⟩ rfl (by first | decide | omega) (by first | decide | omega)
  · -- 1=0
    refine z_if_eq_t hC 4 17 dX1_longest_4 rfl (by omega) (by omega) ?_
    refine z_iconst hC 17 dX1_longest_17 ?_
    -- R18.5
    exact z_iret hC hH hQ 18 (((-1), F, (va_up Ar 16 zZ))) dX1_longest_18 rfl ⟨by first | (unfold Sp_longest; rw [if_neg (by omega)]) | (unfold Sp_longest; rw [if_pos (by omega)]; (try simp only [Int.toNat_natCast, zt1]); first | done | trivial | rfl | omega | (rw [if_pos (by omega)]; first | done | trivial | rfl | omega) | (rw [if_neg (by omega)]; first | done | trivial | rfl | omega)), by first | assumption | exact ⟨fun k h1 h2 h3 h4 h5 => by first | rfl | (simp [va_up, h1, h2, h3, h4, h5]; done) | (simp [va_up, h1, h2, h3, h4, h5]; intro e9; rw [e9, hFn]), fun k h1 h2 h3 h4 h5 h6 => by first | rfl | simp [va_up, h1, h2, h3, h4, h5, h6]⟩⟩ rfl (by first | decide | omega) (by first | decide | omega)

set_option maxHeartbeats 4000000 in
set_option maxRecDepth 100000 in
theorem m_X1_reign (lau : Launch) (s0 : State) (G : zG) (sz : Nat) (ad : Nat → Nat) (F : Nat → Int) (Ar : Nat → Nat → Int) (kp : Nat → Nat) (pl : Nat → Option Nat) (PW : va_W) (n : Nat) (v : Nat → Nat) (pr : Nat → Nat) (pa : Nat → Nat) (pm : Nat → Nat) (pf : Nat → Nat → Nat) (nw : Nat) (b : Nat) (t : Nat) (x : Int) (q : Int) (hn : n ≤ 120) (hFn : F 200 = (n : Int)) (hv : ∀ i, i < n → v i < 1000) (hAv : ∀ i, i < n → Ar 201 i = (v i : Int)) (hb : 2 ≤ b ∧ b ≤ 20) (hFb : F 7 = (b : Int)) (ht : t < 4) (hFt : F 8 = (t : Int)) (hpl : ∀ y, y < 1000 → (pl y = some (pr y) ∨ (pl y = none ∧ pr y = nw))) (hnw : zNwh s0 nw) (hpc : ∀ y, y < 1000 → PlC n v y (pm y) (pf y)) (hpp : zPool s0 G PW pr pa pm pf) (hmo : ∀ i j, i ≤ j → b * j < n → Ar 12 (60 * i + j) = (md v (b * i) (bEnd b j n) t : Int)) (hr_x : -2147483648 ≤ x ∧ x < 2147483648) (hr_q : -2147483648 ≤ q ∧ q < 2147483648) : zMet (S := Int × (Nat → Int) × (Nat → Nat → Int)) lau yX1_reign cX1_reign 4 (some .int) 5 119 1 3 s0 G sz [.ref (ad 99), .int (iZ (x)), .int (iZ (q))] (dW ad G F (va_up Ar 16 zZ) kp pl PW) (fun ((r_, F2, A2) : Int × (Nat → Int) × (Nat → Nat → Int)) => some (.int (iZ (r_)))) (fun ((r_, F2, A2) : Int × (Nat → Int) × (Nat → Nat → Int)) => (Sp_reign n v x q r_) ∧ (DK F (va_up Ar 16 zZ) F2 A2)) (fun ((r_, F2, A2) : Int × (Nat → Int) × (Nat → Nat → Int)) => (dW ad G F2 A2 kp pl PW)) := by
  refine zMet.of (by decide) (Nat.le_of_ble_eq_true rfl) ?_
  intro pg ev s1 mi ar bl me cd ls Q as0 hC hH hl hQ hsz
  generalize s1.heap = H at hH ⊢
  generalize ([] : List Loc) = locs at hH ⊢
  have hl : lv_has ls 4 [(0, .ref (ad 99)), (1, .int (iZ (x))), (2, .int (iZ (q)))] := hl
  refine z_iload_n hC 0 hl dX1_reign_0 rfl 1 rfl ?_
  refine zp_back (zp_runS hC (hH.2.2) hl.1 (zp_nil) 1 (As := [.int (iZ (x))]) (rest := []) (u_X1_isValue lau s0 G x (by first | assumption | omega)) (lw_S q803 q804 q89 q805) ⟨by decide, by decide, by decide +kernel⟩ rfl rfl (Nat.le_of_ble_eq_true rfl) ⟨Nat.le_of_ble_eq_true rfl, Nat.le_of_ble_eq_true rfl⟩ ⟨by first | decide | omega, by first | decide | omega⟩ dX1_reign_1) (fun r_1 hpost => ?_)
  have hb_1 : (r_1 = 1 ∧ (0 ≤ x ∧ x < 1000)) ∨ (r_1 = 0 ∧ ¬ (0 ≤ x ∧ x < 1000)) := hpost
  refine z_st (st' := [.int (iZ (r_1))]) rfl ?_
  rcases hb_1 with ⟨rfl, hb_1⟩ | ⟨rfl, hb_1⟩
  · -- 1=1
    refine z_if_eq_f hC 4 17 dX1_reign_4 rfl (by omega) (by omega) ?_
    refine z_iload_n hC 7 hl dX1_reign_7 rfl 2 rfl ?_
    refine z_i2l hC 8 dX1_reign_8 (by omega) ?_
    refine z_lconst (a := 0) hC 9 dX1_reign_9 rfl ?_
    refine z_lconst (a := 1) hC 10 dX1_reign_10 rfl ?_
    refine zp_back (zp_runS hC (hH.2.2) hl.1 (zp_nil) 3 (As := [.long (lZ (q)), .long (lZ (0)), .long (lZ (1))]) (rest := []) (u_X1_isIn lau s0 G q 0 1 (by first | assumption | omega) (by first | assumption | omega) (by first | assumption | omega)) (lw_S q303 q304 q89 q305) ⟨by decide, by decide, by decide +kernel⟩ rfl rfl (Nat.le_of_ble_eq_true rfl) ⟨Nat.le_of_ble_eq_true rfl, Nat.le_of_ble_eq_true rfl⟩ ⟨by first | decide | omega, by first | decide | omega⟩ dX1_reign_11) (fun r_11 hpost => ?_)
    have hb_11 : (r_11 = 1 ∧ ((0 : Int) ≤ q ∧ q ≤ (1 : Int))) ∨ (r_11 = 0 ∧ ¬ ((0 : Int) ≤ q ∧ q ≤ (1 : Int))) := hpost
    refine z_st (st' := [.int (iZ (r_11))]) rfl ?_
    rcases hb_11 with ⟨rfl, hb_11⟩ | ⟨rfl, hb_11⟩
    · -- 11=1
      refine z_if_ne_t hC 14 19 dX1_reign_14 rfl (by omega) (by omega) ?_
      obtain ⟨x1, rfl⟩ := Int.eq_ofNat_of_zero_le (show 0 ≤ x by omega)
      refine z_aload_n hC 19 hl dX1_reign_19 rfl 0 rfl ?_
      refine z_iconst hC 20 dX1_reign_20 ?_
      refine pD_20 hC hH 21 dX1_reign_21 (fun H locs hH => ?_)
      have hH : zH s0 s1 G as0 (dW ad G (va_up F 20 (0)) (va_up Ar 16 zZ) kp pl PW) H locs := hH
      refine z_new (ci := 15) (N := 3) hC hH 24 [.null, .int (0), .null] tyX17 in_X17 tyX17_ok rfl q1303 q1304 q124 (fun j hj => by rcases (show j = 0 ∨ j = 1 ∨ j = 2 from by omega) with rfl | rfl | rfl <;> rfl) ⟨by first | decide | omega, by first | decide | omega⟩ dX1_reign_24 (fun w24 H hH => ?_)
      rw [dW_app] at hH
      have hH : zH s0 s1 G as0 (dW ad G (va_up F 20 (0)) (va_up Ar 16 zZ) kp pl (PW ++ [(w24, .inr (15, [.null, .int (0), .null]))])) H locs := hH
      refine z_dup hC 27 dX1_reign_27 rfl ?_
      refine z_aload_n hC 28 hl dX1_reign_28 rfl 0 rfl ?_
      refine z_iload_n hC 29 hl dX1_reign_29 rfl 1 rfl ?_
      refine z_subN (z_runI hC hH.2.2 hl.1 (dW_xP hH.1) (z_subD hH.2.1 [60 + PW.length] (by simp) dW_xk) 2 (As := [.ref (ad 99), .int (iZ ((x1 : Int)))]) (rest := [.ref (w24)]) (m_X17_init lau s0 G _ w24 (ad 99) ((x1 : Int))) (lw_meth q1307) q1305 ⟨q124, q1306⟩ rfl ⟨by decide, by decide, by decide +kernel⟩ rfl rfl (Nat.le_of_ble_eq_true rfl) ⟨Nat.le_of_ble_eq_true rfl, Nat.le_of_ble_eq_true rfl⟩ ⟨by first | decide | omega, by first | decide | omega⟩ dX1_reign_30) hH [60 + PW.length] dW_xk (by simp) (fun _ => rfl) (fun _ H locs hpost hH => ?_)
      rw [setL_x] at hH
      have hH : zH s0 s1 G as0 (dW ad G (va_up F 20 (0)) (va_up Ar 16 zZ) kp pl (PW ++ [(w24, .inr (15, [.ref (ad 99), .int (iZ ((x1 : Int))), .ref (ad 99)]))])) H locs := hH
      refine z_st (st' := [.ref (w24)]) rfl ?_
      refine z_same (z_runA (owner := "ModeDesk$Walk") hC hH.2.2 hl.1 hH.1 hH.2.1 0 (As := []) (rest := []) (m_X14_goes_X17 lau s0 G _ ad (va_up F 20 (0)) (va_up Ar 16 zZ) kp pl PW n v pr pa pm pf nw t x1 w24 (F 21) (F 22) (by first | exact hn | assumption | omega) (by first | exact hFn | assumption | omega) (by first | exact hv | assumption | omega) (by first | exact hAv | assumption | omega) (by first | exact ht | assumption | omega) (by first | exact hFt | assumption | omega) (by first | exact hpl | assumption | omega) (by first | exact hnw | assumption | omega) (by first | exact hpc | assumption | omega) (by first | exact hpp | assumption | omega) (by first | assumption | omega)) (lw_U q1317 q1318 q1319 q1200 q121 q1201) q1198 ⟨by decide, by decide, by decide +kernel⟩ (q0 := 60 + PW.length) (ci := 15) dW_x rfl rfl rfl (Nat.le_of_ble_eq_true rfl) ⟨Nat.le_of_ble_eq_true rfl, Nat.le_of_ble_eq_true rfl⟩ ⟨by first | decide | omega, by first | decide | omega⟩ dX1_reign_33) hH (fun u_ H locs hpost hH => ?_)
      obtain ⟨f2_33, fl2_33, fr2_33⟩ := u_
      have pf_33 : WK (fun l r => r + 1 - l < 2 * cnt v l (r + 1) x1) n n 0 f2_33 fl2_33 fr2_33 := hpost
      have hH : zH s0 s1 G as0 (dW ad G (va_up (va_up (va_up F 20 (f2_33)) 21 (fl2_33)) 22 (fr2_33)) (va_up Ar 16 zZ) kp pl (PW ++ [(w24, .inr (15, [.ref (ad 99), .int (iZ (x1 : Int)), .ref (ad 99)]))])) H locs := hH
      refine z_st (st' := [.ref (w24)]) rfl ?_
      have hwb := WK_b pf_33
      refine z_astore_n (lv' := [(3, .ref (w24)), (0, .ref (ad 99)), (1, .int (iZ ((x1 : Int)))), (2, .int (iZ (q)))]) hC 36 hl dX1_reign_36 rfl (by decide) rfl (fun ls hl => ?_)
      refine z_aload_n hC 37 hl dX1_reign_37 rfl 1 rfl ?_
      refine zp_get (v := .int (iZ (f2_33))) hC (va_P_l hH.1) 38 in_X1 rfl 20 (by decide) q233 0 rfl (rfl) dX1_reign_38 ?_
      refine z_if_ne hC 41 49 dX1_reign_41 rfl (by omega) (fun hb1 => ?_) (fun hb1 => ?_)
      · -- 41t
        refine z_iload_n hC 49 hl dX1_reign_49 rfl 3 rfl ?_
        refine z_if_ne hC 50 60 dX1_reign_50 rfl (by omega) (fun hb2 => ?_) (fun hb2 => ?_)
        · -- 50t
          refine z_aload_n hC 60 hl dX1_reign_60 rfl 1 rfl ?_
          refine zp_get (v := .int (iZ (fr2_33))) hC (va_P_l hH.1) 61 in_X1 rfl 22 (by decide) q239 0 rfl (rfl) dX1_reign_61 ?_
          rw [← dW_app] at hH
          have hH := zH_l hH
          -- R64.1
          exact z_iret hC hH hQ 64 ((fr2_33, (va_up (va_up (va_up F 20 (f2_33)) 21 (fl2_33)) 22 (fr2_33)), (va_up Ar 16 zZ))) dX1_reign_64 rfl ⟨by (unfold Sp_reign; rw [if_pos (by omega)]; simp only [Int.toNat_natCast]; exact WK_end pf_33 rfl (by first | (left; omega) | (right; refine ⟨by omega, ?_⟩; first | (rw [if_pos (by omega)]; done) | (rw [if_neg (by omega)]; done)))), by first | assumption | exact ⟨fun k h1 h2 h3 h4 h5 => by first | rfl | (simp [va_up, h1, h2, h3, h4, h5]; done) | (simp [va_up, h1, h2, h3, h4, h5]; intro e9; rw [e9, hFn]), fun k h1 h2 h3 h4 h5 h6 => by first | rfl | simp [va_up, h1, h2, h3, h4, h5, h6]⟩⟩ rfl (by first | decide | omega) (by first | decide | omega)
        · -- 50f
          refine z_aload_n hC 53 hl dX1_reign_53 rfl 1 rfl ?_
          refine zp_get (v := .int (iZ (fl2_33))) hC (va_P_l hH.1) 54 in_X1 rfl 21 (by decide) q236 0 rfl (rfl) dX1_reign_54 ?_
          refine z_goto hC 57 64 dX1_reign_57 rfl ?_
          rw [← dW_app] at hH
          have hH := zH_l hH
          -- R64.2
          exact z_iret hC hH hQ 64 ((fl2_33, (va_up (va_up (va_up F 20 (f2_33)) 21 (fl2_33)) 22 (fr2_33)), (va_up Ar 16 zZ))) dX1_reign_64 rfl ⟨by (unfold Sp_reign; rw [if_pos (by omega)]; simp only [Int.toNat_natCast]; exact WK_end pf_33 rfl (by first | (left; omega) | (right; refine ⟨by omega, ?_⟩; first | (rw [if_pos (by omega)]; done) | (rw [if_neg (by omega)]; done)))), by first | assumption | exact ⟨fun k h1 h2 h3 h4 h5 => by first | rfl | (simp [va_up, h1, h2, h3, h4, h5]; done) | (simp [va_up, h1, h2, h3, h4, h5]; intro e9; rw [e9, hFn]), fun k h1 h2 h3 h4 h5 h6 => by first | rfl | simp [va_up, h1, h2, h3, h4, h5, h6]⟩⟩ rfl (by first | decide | omega) (by first | decide | omega)
      · -- 41f
        refine z_bipush hC 44 dX1_reign_44 rfl ?_
        refine z_goto hC 46 64 dX1_reign_46 rfl ?_
        rw [← dW_app] at hH
        have hH := zH_l hH
        -- R64.3
        exact z_iret hC hH hQ 64 (((-2), (va_up (va_up (va_up F 20 (f2_33)) 21 (fl2_33)) 22 (fr2_33)), (va_up Ar 16 zZ))) dX1_reign_64 rfl ⟨by (unfold Sp_reign; rw [if_pos (by omega)]; simp only [Int.toNat_natCast]; exact WK_end pf_33 rfl (by first | (left; omega) | (right; refine ⟨by omega, ?_⟩; first | (rw [if_pos (by omega)]; done) | (rw [if_neg (by omega)]; done)))), by first | assumption | exact ⟨fun k h1 h2 h3 h4 h5 => by first | rfl | (simp [va_up, h1, h2, h3, h4, h5]; done) | (simp [va_up, h1, h2, h3, h4, h5]; intro e9; rw [e9, hFn]), fun k h1 h2 h3 h4 h5 h6 => by first | rfl | simp [va_up, h1, h2, h3, h4, h5, h6]⟩⟩ rfl (by first | decide | omega) (by first | decide | omega)
    · -- 11=0
      refine z_if_ne_f hC 14 19 dX1_reign_14 rfl (by omega) (by omega) ?_
      refine z_iconst hC 17 dX1_reign_17 ?_
      -- R18.4
      exact z_iret hC hH hQ 18 (((-1), F, (va_up Ar 16 zZ))) dX1_reign_18 rfl ⟨by first | (unfold Sp_reign; rw [if_neg (by omega)]) | (unfold Sp_reign; rw [if_pos (by omega)]; (try simp only [Int.toNat_natCast, zt1]); first | done | trivial | rfl | omega | (rw [if_pos (by omega)]; first | done | trivial | rfl | omega) | (rw [if_neg (by omega)]; first | done | trivial | rfl | omega)), by first | assumption | exact ⟨fun k h1 h2 h3 h4 h5 => by first | rfl | (simp [va_up, h1, h2, h3, h4, h5]; done) | (simp [va_up, h1, h2, h3, h4, h5]; intro e9; rw [e9, hFn]), fun k h1 h2 h3 h4 h5 h6 => by first | rfl | simp [va_up, h1, h2, h3, h4, h5, h6]⟩⟩ rfl (by first | decide | omega) (by first | decide | omega)
  · -- 1=0
    refine z_if_eq_t hC 4 17 dX1_reign_4 rfl (by omega) (by omega) ?_
    refine z_iconst hC 17 dX1_reign_17 ?_
    -- R18.5
    exact z_iret hC hH hQ 18 (((-1), F, (va_up Ar 16 zZ))) dX1_reign_18 rfl ⟨by first | (unfold Sp_reign; rw [if_neg (by omega)]) | (unfold Sp_reign; rw [if_pos (by omega)]; (try simp only [Int.toNat_natCast, zt1]); first | done | trivial | rfl | omega | (rw [if_pos (by omega)]; first | done | trivial | rfl | omega) | (rw [if_neg (by omega)]; first | done | trivial | rfl | omega)), by first | assumption | exact ⟨fun k h1 h2 h3 h4 h5 => by first | rfl | (simp [va_up, h1, h2, h3, h4, h5]; done) | (simp [va_up, h1, h2, h3, h4, h5]; intro e9; rw [e9, hFn]), fun k h1 h2 h3 h4 h5 h6 => by first | rfl | simp [va_up, h1, h2, h3, h4, h5, h6]⟩⟩ rfl (by first | decide | omega) (by first | decide | omega)
