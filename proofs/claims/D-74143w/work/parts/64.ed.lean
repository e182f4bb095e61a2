/-! methods of ModeDesk that write: 64.ed -/
set_option maxHeartbeats 4000000 in
set_option maxRecDepth 100000 in
theorem m_X1_common (lau : Launch) (s0 : State) (G : zG) (sz : Nat) (ad : Nat → Nat) (F : Nat → Int) (Ar : Nat → Nat → Int) (kp : Nat → Nat) (pl : Nat → Option Nat) (PW : va_W) (n : Nat) (v : Nat → Nat) (pr : Nat → Nat) (pa : Nat → Nat) (pm : Nat → Nat) (pf : Nat → Nat → Nat) (nw : Nat) (b : Nat) (t : Nat) (l : Int) (r : Int) (m : Int) (hn : n ≤ 120) (hFn : F 200 = (n : Int)) (hv : ∀ i, i < n → v i < 1000) (hAv : ∀ i, i < n → Ar 201 i = (v i : Int)) (hb : 2 ≤ b ∧ b ≤ 20) (hFb : F 7 = (b : Int)) (ht : t < 4) (hFt : F 8 = (t : Int)) (hpl : ∀ y, y < 1000 → (pl y = some (pr y) ∨ (pl y = none ∧ pr y = nw))) (hnw : zNwh s0 nw) (hpc : ∀ y, y < 1000 → PlC n v y (pm y) (pf y)) (hpp : zPool s0 G PW pr pa pm pf) (hmo : ∀ i j, i ≤ j → b * j < n → Ar 12 (60 * i + j) = (md v (b * i) (bEnd b j n) t : Int)) (hr_l : -2147483648 ≤ l ∧ l < 2147483648) (hr_r : -2147483648 ≤ r ∧ r < 2147483648) (hr_m : -2147483648 ≤ m ∧ m < 2147483648) : zMet (S := Int × (Nat → Int) × (Nat → Nat → Int)) lau yX1_common cX1_common 6 (some .int) 2 46 0 0 s0 G sz [.ref (ad 99), .int (iZ (l)), .int (iZ (r)), .int (iZ (m))] (dW ad G F (va_up Ar 16 zZ) kp pl PW) (fun ((r_, F2, A2) : Int × (Nat → Int) × (Nat → Nat → Int)) => some (.int (iZ (r_)))) (fun ((r_, F2, A2) : Int × (Nat → Int) × (Nat → Nat → Int)) => (Sp_common n v l r m r_) ∧ (DK F (va_up Ar 16 zZ) F2 A2)) (fun ((r_, F2, A2) : Int × (Nat → Int) × (Nat → Nat → Int)) => (dW ad G F2 A2 kp pl PW)) := by
  refine zMet.of (by decide) (Nat.le_of_ble_eq_true rfl) ?_
  intro pg ev s1 mi ar bl me cd ls Q as0 hC hH hl hQ hsz
  generalize s1.heap = H at hH ⊢
  generalize ([] : List Loc) = locs at hH ⊢
  have hl : lv_has ls 6 [(0, .ref (ad 99)), (1, .int (iZ (l))), (2, .int (iZ (r))), (3, .int (iZ (m)))] := hl
  refine z_aload_n hC 0 hl dX1_common_0 rfl 0 rfl ?_
  refine z_iload_n hC 1 hl dX1_common_1 rfl 1 rfl ?_
  refine z_iload_n hC 2 hl dX1_common_2 rfl 2 rfl ?_
  refine zp_back (zp_runV hC (hH.2.2) hl.1 (va_P_l hH.1) 2 (As := [.int (iZ (l)), .int (iZ (r))]) (rest := []) (u_X1_isSpan lau s0 G ad F (va_up Ar 16 zZ) kp pl n l r (by first | exact hn | assumption | omega) (by first | exact hFn | assumption | omega) (by first | assumption | omega) (by first | assumption | omega)) (lw_V q864 q866 qs26 q89 q867) ⟨rfl, by decide, by decide, by decide +kernel⟩ (q0 := 0) (ci := 1) rfl rfl rfl rfl (Nat.le_of_ble_eq_true rfl) ⟨Nat.le_of_ble_eq_true rfl, Nat.le_of_ble_eq_true rfl⟩ ⟨by first | decide | omega, by first | decide | omega⟩ dX1_common_3) (fun r_3 hpost => ?_)
  have hb_3 : (r_3 = 1 ∧ (0 ≤ l ∧ l ≤ r ∧ r < (n : Int))) ∨ (r_3 = 0 ∧ ¬ (0 ≤ l ∧ l ≤ r ∧ r < (n : Int))) := hpost
  refine z_st (st' := [.int (iZ (r_3))]) rfl ?_
  rcases hb_3 with ⟨rfl, hb_3⟩ | ⟨rfl, hb_3⟩
  · -- 3=1
    refine z_if_eq_f hC 6 32 dX1_common_6 rfl (by omega) (by omega) ?_
    refine z_iload_n hC 9 hl dX1_common_9 rfl 3 rfl ?_
    refine z_i2l hC 10 dX1_common_10 (by omega) ?_
    refine z_lconst (a := 0) hC 11 dX1_common_11 rfl ?_
    refine z_aload_n hC 12 hl dX1_common_12 rfl 0 rfl ?_
    refine zp_get (v := .ref (ad 200)) hC (va_P_l hH.1) 13 in_X1 rfl 4 (by decide) q210 0 rfl (rfl) dX1_common_13 ?_
    refine zp_getN (v := .int (iZ ((n : Int)))) hC (va_P_l hH.1) 16 in_X2 rfl 2 (by decide) q149 11 rfl (by rw [← hFn]; rfl) dX1_common_16 ?_
    refine z_iconst hC 19 dX1_common_19 ?_
    refine z_isub (e := (n : Int) - 1) hC 20 dX1_common_20 rfl ?_
    refine z_iload_n hC 21 hl dX1_common_21 rfl 2 rfl ?_
    refine z_iload_n hC 22 hl dX1_common_22 rfl 1 rfl ?_
    refine z_isub (e := r - l) hC 23 dX1_common_23 rfl ?_
    refine z_isub (e := (n : Int) - r + l - 1) hC 24 dX1_common_24 (by omega) ?_
    refine z_i2l hC 25 dX1_common_25 (by omega) ?_
    refine z_st (st' := [.long (lZ (((n : Int) - r + l - 1))), .long (lZ (0)), .long (lZ (m))]) (zcons (zleq (by omega)) (zcons rfl (zcons rfl rfl))) ?_
    refine zp_back (zp_runS hC (hH.2.2) hl.1 (zp_nil) 3 (As := [.long (lZ (m)), .long (lZ (0)), .long (lZ (((n : Int) - r + l - 1)))]) (rest := []) (u_X1_isIn lau s0 G m 0 ((n : Int) - r + l - 1) (by first | assumption | omega) (by first | assumption | omega) (by first | assumption | omega)) (lw_S q303 q304 q89 q305) ⟨by decide, by decide, by decide +kernel⟩ rfl rfl (Nat.le_of_ble_eq_true rfl) ⟨Nat.le_of_ble_eq_true rfl, Nat.le_of_ble_eq_true rfl⟩ ⟨by first | decide | omega, by first | decide | omega⟩ dX1_common_26) (fun r_26 hpost => ?_)
    have hb_26 : (r_26 = 1 ∧ ((0 : Int) ≤ m ∧ m ≤ ((n : Int) - r + l - 1))) ∨ (r_26 = 0 ∧ ¬ ((0 : Int) ≤ m ∧ m ≤ ((n : Int) - r + l - 1))) := hpost
    refine z_st (st' := [.int (iZ (r_26))]) rfl ?_
    rcases hb_26 with ⟨rfl, hb_26⟩ | ⟨rfl, hb_26⟩
    · -- 26=1
      refine z_if_ne_t hC 29 34 dX1_common_29 rfl (by omega) (by omega) ?_
      obtain ⟨l1, rfl⟩ := Int.eq_ofNat_of_zero_le (show 0 ≤ l by omega)
      obtain ⟨r1, rfl⟩ := Int.eq_ofNat_of_zero_le (show 0 ≤ r by omega)
      obtain ⟨m1, rfl⟩ := Int.eq_ofNat_of_zero_le (show 0 ≤ m by omega)
      refine z_aload_n hC 34 hl dX1_common_34 rfl 0 rfl ?_
      refine z_iload_n hC 35 hl dX1_common_35 rfl 1 rfl ?_
      refine z_iload_n hC 36 hl dX1_common_36 rfl 2 rfl ?_
      refine z_st (st' := [.int (iZ (((r1 + 1 : Nat) : Int) - 1)), .int (iZ ((l1 : Int))), .ref (ad 99)]) (zcons (zieq (by omega)) (zcons rfl rfl)) ?_
      refine z_same (z_runV hC hH.2.2 hl.1 hH.1 hH.2.1 2 (As := [.int (iZ ((l1 : Int))), .int (iZ (((r1 + 1 : Nat) : Int) - 1))]) (rest := []) (m_X1_laysAll lau s0 G _ ad F (va_up Ar 16 zZ) kp pl PW n v l1 (r1 + 1) (by first | exact hn | assumption | omega) (by first | exact hFn | assumption | omega) (by first | exact hv | assumption | omega) (by first | exact hAv | assumption | omega) (by first | exact hlr | assumption | omega) (by first | exact hrn | assumption | omega)) (lw_V q1051 q1053 qs35 q89 q1054) ⟨rfl, by decide, by decide, by decide +kernel⟩ (q0 := 0) (ci := 1) rfl rfl rfl rfl (Nat.le_of_ble_eq_true rfl) ⟨Nat.le_of_ble_eq_true rfl, Nat.le_of_ble_eq_true rfl⟩ ⟨Nat.le_of_ble_eq_true rfl, Nat.le_of_ble_eq_true rfl⟩ dX1_common_37) hH (fun u_ H locs hpost hH => ?_)
      obtain ⟨k_37, u_37, gu_37⟩ := u_
      have pE_37 : EN v l1 (r1 + 1) k_37 u_37 := hpost
      have hH : zH s0 s1 G as0 (dW ad G (va_up F 17 ((k_37 : Int))) (va_up (va_up Ar 15 (cI (k_37) u_37 gu_37)) 16 zZ) kp pl PW) H locs := hH
      refine z_st (st' := []) rfl ?_
      have hkk := pE_37.1
      refine z_iconst hC 40 dX1_common_40 ?_
      refine z_istore (lv' := [(4, .int (iZ (0))), (0, .ref (ad 99)), (1, .int (iZ ((l1 : Int)))), (2, .int (iZ ((r1 : Int)))), (3, .int (iZ ((m1 : Int))))]) hC 41 hl dX1_common_41 (by decide) rfl (fun ls hl => ?_)
      refine z_iconst hC 43 dX1_common_43 ?_
      refine z_istore (lv' := [(5, .int (iZ (0))), (4, .int (iZ (0))), (0, .ref (ad 99)), (1, .int (iZ ((l1 : Int)))), (2, .int (iZ ((r1 : Int)))), (3, .int (iZ ((m1 : Int))))]) hC 44 hl dX1_common_44 (by decide) rfl (fun ls hl => ?_)
      have L46 : ∀ (N_ : Nat) (i : Nat) (c : Nat) (H : Heap) (locs : List Loc) (ls : Array Slot), k_37 - i < N_ → (i ≤ k_37) → (c = sm (fun j => min (cnt v l1 (r1 + 1) (u_37 j)) (cnt v m1 (m1 + r1 + 1 - l1) (u_37 j))) 0 i) → (c ≤ i * 120) → zH s0 s1 G as0 (dW ad G (va_up F 17 ((k_37 : Int))) (va_up (va_up Ar 15 (cI (k_37) u_37 gu_37)) 16 zZ) kp pl PW) H locs → lv_has ls 6 [(0, .ref (ad 99)), (1, .int (iZ ((l1 : Int)))), (2, .int (iZ ((r1 : Int)))), (3, .int (iZ ((m1 : Int)))), (4, .int (iZ ((c : Int)))), (5, .int (iZ ((i : Int))))] → W pg lau ev (zRm 2 0 0 46) s1 mi ar bl me cd H locs 0 0 Q (F0 mi 46 ls []) := by
        intro N_
        induction N_ with
        | zero => intro i c H locs ls hd; exact absurd hd (Nat.not_lt_zero _)
        | succ N_ ih46 =>
          intro i c H locs ls hd46 i46_1 ic i46_3 hH hl
          refine z_iload hC 46 hl dX1_common_46 5 rfl ?_
          refine z_aload_n hC 48 hl dX1_common_48 rfl 0 rfl ?_
          refine zp_get (v := .int (iZ ((k_37 : Int)))) hC (va_P_l hH.1) 49 in_X1 rfl 17 (by decide) q227 0 rfl (rfl) dX1_common_49 ?_
          refine z_icmp_ge hC 52 105 dX1_common_52 rfl (by omega) (by omega) (fun hb1 => ?_) (fun hb1 => ?_)
          · -- 52t
            have ei : (i) = k_37 := by omega
            rw [ei] at ic
            have hen := sm_enum (M := 1000) u_37 k_37 (fun x => min (cnt v l1 (r1 + 1) x) (cnt v m1 (m1 + r1 + 1 - l1) x)) (fun j hj => (pE_37.2.1 j hj).1) pE_37.2.2.1 (fun x hx hf => pE_37.2.2.2 x hx (Nat.pos_of_ne_zero (fun e => hf (by rw [e, Nat.zero_min]))))
            refine z_iload hC 105 hl dX1_common_105 4 rfl ?_
            -- R107.1
            exact z_iret hC hH hQ 107 (((c : Int), (va_up F 17 ((k_37 : Int))), (va_up (va_up Ar 15 (cI (k_37) u_37 gu_37)) 16 zZ))) dX1_common_107 rfl ⟨by (unfold Sp_common; rw [if_pos (by omega)]; simp only [Int.toNat_natCast, zt1]; rw [ic, hen]; rfl), by first | assumption | exact ⟨fun k h1 h2 h3 h4 h5 => by first | rfl | (simp [va_up, h1, h2, h3, h4, h5]; done) | (simp [va_up, h1, h2, h3, h4, h5]; intro e9; rw [e9, hFn]), fun k h1 h2 h3 h4 h5 h6 => by first | rfl | simp [va_up, h1, h2, h3, h4, h5, h6]⟩⟩ rfl (Nat.le_refl _) (Nat.le_refl _)
          · -- 52f
            have hu := pE_37.2.1 (i) (by omega)
            have hc1 := cnt_le v l1 (r1 + 1) (u_37 (i))
            have hc2 := cnt_le v m1 (m1 + r1 + 1 - l1) (u_37 (i))
            refine z_iload hC 55 hl dX1_common_55 4 rfl ?_
            refine z_aload_n hC 57 hl dX1_common_57 rfl 0 rfl ?_
            refine z_aload_n hC 58 hl dX1_common_58 rfl 0 rfl ?_
            refine zp_get (v := .ref (ad 15)) hC (va_P_l hH.1) 59 in_X1 rfl 15 (by decide) q225 0 rfl (rfl) dX1_common_59 ?_
            refine z_iload hC 62 hl dX1_common_62 5 rfl ?_
            refine zp_iald (f := (cI (k_37) u_37 gu_37)) (x := ((u_37 i : Nat) : Int)) hC (va_P_l hH.1) 64 6 (i) rfl (by decide) (by omega) (by omega) ((cI_lt (by omega))) dX1_common_64 ?_
            refine zp_back (zp_runV hC (hH.2.2) hl.1 (va_P_l hH.1) 1 (As := [.int (iZ (((u_37 i : Nat) : Int)))]) (rest := [.int (iZ ((c : Int)))]) (u_X1_of lau s0 G ad (va_up F 17 ((k_37 : Int))) (va_up (va_up Ar 15 (cI (k_37) u_37 gu_37)) 16 zZ) kp pl (u_37 i) (pr (u_37 i)) nw (by first | assumption | omega) (by first | exact hpl | (first | assumption | exact hpl _ (by omega)) | assumption | omega) (by first | exact hnw | assumption | omega)) (lw_V q736 q738 qs17 q89 q739) ⟨rfl, by decide, by decide, by decide +kernel⟩ (q0 := 0) (ci := 1) rfl rfl rfl rfl (Nat.le_of_ble_eq_true rfl) ⟨Nat.le_of_ble_eq_true rfl, Nat.le_of_ble_eq_true rfl⟩ ⟨by first | decide | omega, by first | decide | omega⟩ dX1_common_65) (fun _ hpost => ?_)
            refine z_st (st' := [.ref ((pr (u_37 i))), .int (iZ ((c : Int)))]) rfl ?_
            refine z_iload_n hC 68 hl dX1_common_68 rfl 1 rfl ?_
            refine z_iload_n hC 69 hl dX1_common_69 rfl 2 rfl ?_
            refine z_st (st' := [.int (iZ (((r1 + 1 : Nat) : Int) - 1)), .int (iZ ((l1 : Int))), .ref ((pr (u_37 i))), .int (iZ ((c : Int)))]) (zcons (zieq (by omega)) (zcons rfl rfl)) ?_
            refine zp_back (zw_run hC (hH.2.2) hl.1 ((dWp hH hpp (y := (u_37 i)) (by omega))) 2 (As := [.int (iZ ((l1 : Int))), .int (iZ (((r1 + 1 : Nat) : Int) - 1))]) (rest := [.int (iZ ((c : Int)))]) (u_X10_within lau s0 G (pr (u_37 i)) (pa ((u_37 i))) (pm ((u_37 i))) (pf ((u_37 i))) n v ((u_37 i)) l1 (r1 + 1) (by first | exact hn | assumption | omega) (by exact hpc _ (by omega)) (by first | exact hlr | assumption | omega) (by first | exact hrn | assumption | omega)) (fun hx0 hO0 => u_X10_within_nw lau s0 G (pr (u_37 i)) (pa ((u_37 i))) (pm ((u_37 i))) (pf ((u_37 i))) n v ((u_37 i)) l1 (r1 + 1) (by first | exact hn | assumption | omega) (by exact hpc _ (by omega)) (by first | exact hlr | assumption | omega) (by first | exact hrn | assumption | omega) hx0 hO0) (lw_V q742 q743 q744 q110 q745) ⟨rfl, by decide, by decide, by decide +kernel⟩ rfl rfl (Nat.le_of_ble_eq_true rfl) ⟨Nat.le_of_ble_eq_true rfl, Nat.le_of_ble_eq_true rfl⟩ ⟨by first | decide | omega, by first | decide | omega⟩ dX1_common_70) (fun _ hpost => ?_)
            refine z_st (st' := [.int (iZ (((cnt v l1 (r1 + 1) ((u_37 i)) : Nat) : Int))), .int (iZ ((c : Int)))]) rfl ?_
            refine z_aload_n hC 73 hl dX1_common_73 rfl 0 rfl ?_
            refine z_aload_n hC 74 hl dX1_common_74 rfl 0 rfl ?_
            refine zp_get (v := .ref (ad 15)) hC (va_P_l hH.1) 75 in_X1 rfl 15 (by decide) q225 0 rfl (rfl) dX1_common_75 ?_
            refine z_iload hC 78 hl dX1_common_78 5 rfl ?_
            refine zp_iald (f := (cI (k_37) u_37 gu_37)) (x := ((u_37 i : Nat) : Int)) hC (va_P_l hH.1) 80 6 (i) rfl (by decide) (by omega) (by omega) ((cI_lt (by omega))) dX1_common_80 ?_
            refine zp_back (zp_runV hC (hH.2.2) hl.1 (va_P_l hH.1) 1 (As := [.int (iZ (((u_37 i : Nat) : Int)))]) (rest := [.int (iZ (((cnt v l1 (r1 + 1) ((u_37 i)) : Nat) : Int))), .int (iZ ((c : Int)))]) (u_X1_of lau s0 G ad (va_up F 17 ((k_37 : Int))) (va_up (va_up Ar 15 (cI (k_37) u_37 gu_37)) 16 zZ) kp pl (u_37 i) (pr (u_37 i)) nw (by first | assumption | omega) (by first | exact hpl | (first | assumption | exact hpl _ (by omega)) | assumption | omega) (by first | exact hnw | assumption | omega)) (lw_V q736 q738 qs17 q89 q739) ⟨rfl, by decide, by decide, by decide +kernel⟩ (q0 := 0) (ci := 1) rfl rfl rfl rfl (Nat.le_of_ble_eq_true rfl) ⟨Nat.le_of_ble_eq_true rfl, Nat.le_of_ble_eq_true rfl⟩ ⟨by first | decide | omega, by first | decide | omega⟩ dX1_common_81) (fun _ hpost => ?_)
            refine z_st (st' := [.ref ((pr (u_37 i))), .int (iZ (((cnt v l1 (r1 + 1) ((u_37 i)) : Nat) : Int))), .int (iZ ((c : Int)))]) rfl ?_
            refine z_iload_n hC 84 hl dX1_common_84 rfl 3 rfl ?_
            refine z_iload_n hC 85 hl dX1_common_85 rfl 3 rfl ?_
            refine z_iload_n hC 86 hl dX1_common_86 rfl 2 rfl ?_
            refine z_iadd (e := (m1 : Int) + (r1 : Int)) hC 87 dX1_common_87 rfl ?_
            refine z_iload_n hC 88 hl dX1_common_88 rfl 1 rfl ?_
            refine z_isub (e := (m1 : Int) + (r1 : Int) - (l1 : Int)) hC 89 dX1_common_89 rfl ?_
            refine z_st (st' := [.int (iZ (((m1 + r1 + 1 - l1 : Nat) : Int) - 1)), .int (iZ ((m1 : Int))), .ref ((pr (u_37 i))), .int (iZ (((cnt v l1 (r1 + 1) ((u_37 i)) : Nat) : Int))), .int (iZ ((c : Int)))]) (zcons (zieq (by omega)) (zcons rfl rfl)) ?_
            refine zp_back (zw_run hC (hH.2.2) hl.1 ((dWp hH hpp (y := (u_37 i)) (by omega))) 2 (As := [.int (iZ ((m1 : Int))), .int (iZ (((m1 + r1 + 1 - l1 : Nat) : Int) - 1))]) (rest := [.int (iZ (((cnt v l1 (r1 + 1) ((u_37 i)) : Nat) : Int))), .int (iZ ((c : Int)))]) (u_X10_within lau s0 G (pr (u_37 i)) (pa ((u_37 i))) (pm ((u_37 i))) (pf ((u_37 i))) n v ((u_37 i)) m1 (m1 + r1 + 1 - l1) (by first | exact hn | assumption | omega) (by exact hpc _ (by omega)) (by first | exact hlr | assumption | omega) (by first | exact hrn | assumption | omega)) (fun hx0 hO0 => u_X10_within_nw lau s0 G (pr (u_37 i)) (pa ((u_37 i))) (pm ((u_37 i))) (pf ((u_37 i))) n v ((u_37 i)) m1 (m1 + r1 + 1 - l1) (by first | exact hn | assumption | omega) (by exact hpc _ (by omega)) (by first | exact hlr | assumption | omega) (by first | exact hrn | assumption | omega) hx0 hO0) (lw_V q742 q743 q744 q110 q745) ⟨rfl, by decide, by decide, by decide +kernel⟩ rfl rfl (Nat.le_of_ble_eq_true rfl) ⟨Nat.le_of_ble_eq_true rfl, Nat.le_of_ble_eq_true rfl⟩ ⟨by first | decide | omega, by first | decide | omega⟩ dX1_common_90) (fun _ hpost => ?_)
            refine z_st (st' := [.int (iZ (((cnt v m1 (m1 + r1 + 1 - l1) ((u_37 i)) : Nat) : Int))), .int (iZ (((cnt v l1 (r1 + 1) ((u_37 i)) : Nat) : Int))), .int (iZ ((c : Int)))]) rfl ?_
            refine z_min (a := ((cnt v l1 (r1 + 1) ((u_37 i)) : Nat) : Int)) (b := ((cnt v m1 (m1 + r1 + 1 - l1) ((u_37 i)) : Nat) : Int)) hC hl.1 93 q731 dX1_common_93 (by omega) (by omega) ⟨Nat.le_of_ble_eq_true rfl, Nat.le_of_ble_eq_true rfl⟩ ⟨by first | decide | omega, by first | decide | omega⟩ ?_
            have hmm93 := zmin_spec (((cnt v l1 (r1 + 1) ((u_37 i)) : Nat) : Int)) (((cnt v m1 (m1 + r1 + 1 - l1) ((u_37 i)) : Nat) : Int))
            refine z_iadd (e := (c : Int) + (zmin (((cnt v l1 (r1 + 1) ((u_37 i)) : Nat) : Int)) (((cnt v m1 (m1 + r1 + 1 - l1) ((u_37 i)) : Nat) : Int)))) hC 96 dX1_common_96 rfl ?_
            refine z_istore (lv' := [(4, .int (iZ ((c : Int) + (zmin (((cnt v l1 (r1 + 1) ((u_37 i)) : Nat) : Int)) (((cnt v m1 (m1 + r1 + 1 - l1) ((u_37 i)) : Nat) : Int)))))), (0, .ref (ad 99)), (1, .int (iZ ((l1 : Int)))), (2, .int (iZ ((r1 : Int)))), (3, .int (iZ ((m1 : Int)))), (5, .int (iZ ((i : Int))))]) hC 97 hl dX1_common_97 (by decide) rfl (fun ls hl => ?_)
            refine z_iinc (lv' := [(5, .int (iZ ((i : Int) + 1))), (4, .int (iZ ((c : Int) + (zmin (((cnt v l1 (r1 + 1) ((u_37 i)) : Nat) : Int)) (((cnt v m1 (m1 + r1 + 1 - l1) ((u_37 i)) : Nat) : Int)))))), (0, .ref (ad 99)), (1, .int (iZ ((l1 : Int)))), (2, .int (iZ ((r1 : Int)))), (3, .int (iZ ((m1 : Int))))]) hC 99 hl dX1_common_99 5 rfl (by omega) (by decide) rfl (fun ls hl => ?_)
            refine z_goto hC 102 46 dX1_common_102 rfl ?_
            -- J46.2
            exact ih46 (i + 1) (((c : Int) + (zmin (((cnt v l1 (r1 + 1) ((u_37 i)) : Nat) : Int)) (((cnt v m1 (m1 + r1 + 1 - l1) ((u_37 i)) : Nat) : Int)))).toNat) _ _ _ (by omega) (by first | assumption | omega) (by first | rfl | (rw [sm_succ _ (Nat.zero_le _)]; omega)) (by first | assumption | omega) hH (z_lv (lv_sub hl [2, 3, 4, 5, 1, 0] rfl) (zcons rfl (zcons rfl (zcons rfl (zcons rfl (zcons (zpeq (by omega)) (zcons (zpeq (by omega)) rfl)))))))
      -- J46.3
      exact L46 _ 0 0 _ _ _ (Nat.lt_succ_self _) (by first | assumption | omega) (by first | rfl | (rw [sm_succ _ (Nat.zero_le _)]; omega)) (by first | assumption | omega) hH (z_lv (lv_sub hl [2, 3, 4, 5, 1, 0] rfl) (zcons rfl (zcons rfl (zcons rfl (zcons rfl (zcons (zpeq (by omega)) (zcons (zpeq (by omega)) rfl)))))))
    · -- 26=0
      refine z_if_ne_f hC 29 34 dX1_common_29 rfl (by omega) (by omega) ?_
      refine z_iconst hC 32 dX1_common_32 ?_
      -- R33.4
      exact z_iret hC hH hQ 33 (((-1), F, (va_up Ar 16 zZ))) dX1_common_33 rfl ⟨by first | (unfold Sp_common; rw [if_neg (by omega)]) | (unfold Sp_common; rw [if_pos (by omega)]; (try simp only [Int.toNat_natCast, zt1]); first | done | trivial | rfl | omega | (rw [if_pos (by omega)]; first | done | trivial | rfl | omega) | (rw [if_neg (by omega)]; first | done | trivial | rfl | omega)), by first | assumption | exact ⟨fun k h1 h2 h3 h4 h5 => by first | rfl | (simp [va_up, h1, h2, h3, h4, h5]; done) | (simp [va_up, h1, h2, h3, h4, h5]; intro e9; rw [e9, hFn]), fun k h1 h2 h3 h4 h5 h6 => by first | rfl | simp [va_up, h1, h2, h3, h4, h5, h6]⟩⟩ rfl (Nat.le_refl _) (Nat.le_refl _)
  · -- 3=0
    refine z_if_eq_t hC 6 32 dX1_common_6 rfl (by omega) (by omega) ?_
    refine z_iconst hC 32 dX1_common_32 ?_
    -- R33.5
    exact z_iret hC hH hQ 33 (((-1), F, (va_up Ar 16 zZ))) dX1_common_33 rfl ⟨by first | (unfold Sp_common; rw [if_neg (by omega)]) | (unfold Sp_common; rw [if_pos (by omega)]; (try simp only [Int.toNat_natCast, zt1]); first | done | trivial | rfl | omega | (rw [if_pos (by omega)]; first | done | trivial | rfl | omega) | (rw [if_neg (by omega)]; first | done | trivial | rfl | omega)), by first | assumption | exact ⟨fun k h1 h2 h3 h4 h5 => by first | rfl | (simp [va_up, h1, h2, h3, h4, h5]; done) | (simp [va_up, h1, h2, h3, h4, h5]; intro e9; rw [e9, hFn]), fun k h1 h2 h3 h4 h5 h6 => by first | rfl | simp [va_up, h1, h2, h3, h4, h5, h6]⟩⟩ rfl (Nat.le_refl _) (Nat.le_refl _)

set_option maxHeartbeats 4000000 in
set_option maxRecDepth 100000 in
theorem m_X1_lead (lau : Launch) (s0 : State) (G : zG) (sz : Nat) (ad : Nat → Nat) (F : Nat → Int) (Ar : Nat → Nat → Int) (kp : Nat → Nat) (pl : Nat → Option Nat) (PW : va_W) (n : Nat) (v : Nat → Nat) (pr : Nat → Nat) (pa : Nat → Nat) (pm : Nat → Nat) (pf : Nat → Nat → Nat) (nw : Nat) (b : Nat) (t : Nat) (l : Int) (r : Int) (hn : n ≤ 120) (hFn : F 200 = (n : Int)) (hv : ∀ i, i < n → v i < 1000) (hAv : ∀ i, i < n → Ar 201 i = (v i : Int)) (hb : 2 ≤ b ∧ b ≤ 20) (hFb : F 7 = (b : Int)) (ht : t < 4) (hFt : F 8 = (t : Int)) (hpl : ∀ y, y < 1000 → (pl y = some (pr y) ∨ (pl y = none ∧ pr y = nw))) (hnw : zNwh s0 nw) (hpc : ∀ y, y < 1000 → PlC n v y (pm y) (pf y)) (hpp : zPool s0 G PW pr pa pm pf) (hmo : ∀ i j, i ≤ j → b * j < n → Ar 12 (60 * i + j) = (md v (b * i) (bEnd b j n) t : Int)) (hr_l : -2147483648 ≤ l ∧ l < 2147483648) (hr_r : -2147483648 ≤ r ∧ r < 2147483648) : zMet (S := Int × (Nat → Int) × (Nat → Nat → Int)) lau yX1_lead cX1_lead 3 (some .int) 5 121 0 0 s0 G sz [.ref (ad 99), .int (iZ (l)), .int (iZ (r))] (dW ad G F (va_up Ar 16 zZ) kp pl PW) (fun ((r_, F2, A2) : Int × (Nat → Int) × (Nat → Nat → Int)) => some (.int (iZ (r_)))) (fun ((r_, F2, A2) : Int × (Nat → Int) × (Nat → Nat → Int)) => (Sp_lead n v t l r r_) ∧ (DK F (va_up Ar 16 zZ) F2 A2)) (fun ((r_, F2, A2) : Int × (Nat → Int) × (Nat → Nat → Int)) => (dW ad G F2 A2 kp pl PW)) := by
  refine zMet.of (by decide) (Nat.le_of_ble_eq_true rfl) ?_
  intro pg ev s1 mi ar bl me cd ls Q as0 hC hH hl hQ hsz
  generalize s1.heap = H at hH ⊢
  generalize ([] : List Loc) = locs at hH ⊢
  have hl : lv_has ls 3 [(0, .ref (ad 99)), (1, .int (iZ (l))), (2, .int (iZ (r)))] := hl
  refine z_aload_n hC 0 hl dX1_lead_0 rfl 0 rfl ?_
  refine z_iload_n hC 1 hl dX1_lead_1 rfl 1 rfl ?_
  refine z_iload_n hC 2 hl dX1_lead_2 rfl 2 rfl ?_
  refine zp_back (zp_runV hC (hH.2.2) hl.1 (va_P_l hH.1) 2 (As := [.int (iZ (l)), .int (iZ (r))]) (rest := []) (u_X1_isSpan lau s0 G ad F (va_up Ar 16 zZ) kp pl n l r (by first | exact hn | assumption | omega) (by first | exact hFn | assumption | omega) (by first | assumption | omega) (by first | assumption | omega)) (lw_V q864 q866 qs26 q89 q867) ⟨rfl, by decide, by decide, by decide +kernel⟩ (q0 := 0) (ci := 1) rfl rfl rfl rfl (Nat.le_of_ble_eq_true rfl) ⟨Nat.le_of_ble_eq_true rfl, Nat.le_of_ble_eq_true rfl⟩ ⟨by first | decide | omega, by first | decide | omega⟩ dX1_lead_3) (fun r_3 hpost => ?_)
  have hb_3 : (r_3 = 1 ∧ (0 ≤ l ∧ l ≤ r ∧ r < (n : Int))) ∨ (r_3 = 0 ∧ ¬ (0 ≤ l ∧ l ≤ r ∧ r < (n : Int))) := hpost
  refine z_st (st' := [.int (iZ (r_3))]) rfl ?_
  rcases hb_3 with ⟨rfl, hb_3⟩ | ⟨rfl, hb_3⟩
  · -- 3=1
    refine z_if_ne_t hC 6 11 dX1_lead_6 rfl (by omega) (by omega) ?_
    obtain ⟨l1, rfl⟩ := Int.eq_ofNat_of_zero_le (show 0 ≤ l by omega)
    obtain ⟨r1, rfl⟩ := Int.eq_ofNat_of_zero_le (show 0 ≤ r by omega)
    refine z_aload_n hC 11 hl dX1_lead_11 rfl 0 rfl ?_
    refine z_iload_n hC 12 hl dX1_lead_12 rfl 1 rfl ?_
    refine z_iload_n hC 13 hl dX1_lead_13 rfl 2 rfl ?_
    refine z_st (st' := [.int (iZ (((r1 + 1 : Nat) : Int) - 1)), .int (iZ ((l1 : Int))), .ref (ad 99)]) (zcons (zieq (by omega)) (zcons rfl rfl)) ?_
    refine z_same (z_runV hC hH.2.2 hl.1 hH.1 hH.2.1 2 (As := [.int (iZ ((l1 : Int))), .int (iZ (((r1 + 1 : Nat) : Int) - 1))]) (rest := []) (m_X1_laysAll lau s0 G _ ad F (va_up Ar 16 zZ) kp pl PW n v l1 (r1 + 1) (by first | exact hn | assumption | omega) (by first | exact hFn | assumption | omega) (by first | exact hv | assumption | omega) (by first | exact hAv | assumption | omega) (by first | exact hlr | assumption | omega) (by first | exact hrn | assumption | omega)) (lw_V q1051 q1053 qs35 q89 q1054) ⟨rfl, by decide, by decide, by decide +kernel⟩ (q0 := 0) (ci := 1) rfl rfl rfl rfl (Nat.le_of_ble_eq_true rfl) ⟨Nat.le_of_ble_eq_true rfl, Nat.le_of_ble_eq_true rfl⟩ ⟨Nat.le_of_ble_eq_true rfl, Nat.le_of_ble_eq_true rfl⟩ dX1_lead_14) hH (fun u_ H locs hpost hH => ?_)
    obtain ⟨k_14, u_14, gu_14⟩ := u_
    have pE_14 : EN v l1 (r1 + 1) k_14 u_14 := hpost
    have hH : zH s0 s1 G as0 (dW ad G (va_up F 17 ((k_14 : Int))) (va_up (va_up Ar 15 (cI (k_14) u_14 gu_14)) 16 zZ) kp pl PW) H locs := hH
    refine z_st (st' := []) rfl ?_
    refine z_aload_n hC 17 hl dX1_lead_17 rfl 0 rfl ?_
    refine z_iload_n hC 18 hl dX1_lead_18 rfl 1 rfl ?_
    refine z_iload_n hC 19 hl dX1_lead_19 rfl 2 rfl ?_
    refine z_st (st' := [.int (iZ (((r1 + 1 : Nat) : Int) - 1)), .int (iZ ((l1 : Int))), .ref (ad 99)]) (zcons (zieq (by omega)) (zcons rfl rfl)) ?_
    refine z_same (z_runV hC hH.2.2 hl.1 hH.1 hH.2.1 2 (As := [.int (iZ ((l1 : Int))), .int (iZ (((r1 + 1 : Nat) : Int) - 1))]) (rest := []) (m_X1_ranks lau s0 G _ ad (va_up F 17 ((k_14 : Int))) (va_up (va_up Ar 15 (cI (k_14) u_14 gu_14)) 16 zZ) kp pl PW n v pr pa pm pf nw k_14 u_14 gu_14 l1 (r1 + 1) t (by first | exact hn | assumption | omega) (by first | exact hFn | assumption | omega) (by first | exact hpl | assumption | omega) (by first | exact hnw | assumption | omega) (by first | exact hpc | assumption | omega) (by first | exact hpp | assumption | omega) (by first | exact hv | assumption | omega) (by first | exact hlr | assumption | omega) (by first | exact hrn | assumption | omega) (by first | exact ht | assumption | omega) (by first | exact hFt | assumption | omega) (by have := pE_14.1; omega) (by exact fun j hj => pE_14.2.1 j hj) (by exact pE_14.2.2.1) (by exact CAN_pos (t := t) (EN_CAN pE_14 (fun i hi => hv i (by omega)) (by omega)))) (lw_V q1055 q1057 qs36 q89 q1058) ⟨rfl, by decide, by decide, by decide +kernel⟩ (q0 := 0) (ci := 1) rfl rfl rfl rfl (Nat.le_of_ble_eq_true rfl) ⟨Nat.le_of_ble_eq_true rfl, Nat.le_of_ble_eq_true rfl⟩ ⟨Nat.le_of_ble_eq_true rfl, Nat.le_of_ble_eq_true rfl⟩ dX1_lead_20) hH (fun w_20 H locs hpost hH => ?_)
    have pR_20 : RKS v l1 (r1 + 1) t k_14 u_14 w_20 := hpost
    have hH : zH s0 s1 G as0 (dW ad G (va_up F 17 ((k_14 : Int))) (va_up (va_up Ar 15 (cI (k_14) w_20 gu_14)) 16 zZ) kp pl PW) H locs := hH
    refine z_st (st' := []) rfl ?_
    have hkk := pE_14.1
    have hk0 := CAN_pos (t := t) (EN_CAN pE_14 (fun i hi => hv i (by omega)) (by omega))
    have hw0 := RKS_ofR pE_14 pR_20 (show 0 < k_14 by omega)
    have ho0 := ofR_spec (t := t) pE_14 (i := 0) (by omega)
    have hwl0 : w_20 0 < 1000 := by rw [hw0]; exact ho0.1
    have hc0 := cnt_le v l1 (r1 + 1) (w_20 0)
    refine z_aload_n hC 23 hl dX1_lead_23 rfl 0 rfl ?_
    refine z_aload_n hC 24 hl dX1_lead_24 rfl 0 rfl ?_
    refine zp_get (v := .ref (ad 15)) hC (va_P_l hH.1) 25 in_X1 rfl 15 (by decide) q225 0 rfl (rfl) dX1_lead_25 ?_
    refine z_iconst hC 28 dX1_lead_28 ?_
    refine zp_iald (f := (cI (k_14) w_20 gu_14)) (x := ((w_20 0 : Nat) : Int)) hC (va_P_l hH.1) 29 6 (0) rfl (by decide) (by omega) (by omega) ((cI_lt (by omega))) dX1_lead_29 ?_
    refine zp_back (zp_runV hC (hH.2.2) hl.1 (va_P_l hH.1) 1 (As := [.int (iZ (((w_20 0 : Nat) : Int)))]) (rest := []) (u_X1_of lau s0 G ad (va_up F 17 ((k_14 : Int))) (va_up (va_up Ar 15 (cI (k_14) w_20 gu_14)) 16 zZ) kp pl (w_20 0) (pr (w_20 0)) nw (by first | assumption | omega) (by first | exact hpl | (first | assumption | exact hpl _ (by omega)) | assumption | omega) (by first | exact hnw | assumption | omega)) (lw_V q736 q738 qs17 q89 q739) ⟨rfl, by decide, by decide, by decide +kernel⟩ (q0 := 0) (ci := 1) rfl rfl rfl rfl (Nat.le_of_ble_eq_true rfl) ⟨Nat.le_of_ble_eq_true rfl, Nat.le_of_ble_eq_true rfl⟩ ⟨by first | decide | omega, by first | decide | omega⟩ dX1_lead_30) (fun _ hpost => ?_)
    refine z_st (st' := [.ref ((pr (w_20 0)))]) rfl ?_
    refine z_iload_n hC 33 hl dX1_lead_33 rfl 1 rfl ?_
    refine z_iload_n hC 34 hl dX1_lead_34 rfl 2 rfl ?_
    refine z_st (st' := [.int (iZ (((r1 + 1 : Nat) : Int) - 1)), .int (iZ ((l1 : Int))), .ref ((pr (w_20 0)))]) (zcons (zieq (by omega)) (zcons rfl rfl)) ?_
    refine zp_back (zw_run hC (hH.2.2) hl.1 ((dWp hH hpp (y := (w_20 0)) (by omega))) 2 (As := [.int (iZ ((l1 : Int))), .int (iZ (((r1 + 1 : Nat) : Int) - 1))]) (rest := []) (u_X10_within lau s0 G (pr (w_20 0)) (pa ((w_20 0))) (pm ((w_20 0))) (pf ((w_20 0))) n v ((w_20 0)) l1 (r1 + 1) (by first | exact hn | assumption | omega) (by exact hpc _ (by omega)) (by first | exact hlr | assumption | omega) (by first | exact hrn | assumption | omega)) (fun hx0 hO0 => u_X10_within_nw lau s0 G (pr (w_20 0)) (pa ((w_20 0))) (pm ((w_20 0))) (pf ((w_20 0))) n v ((w_20 0)) l1 (r1 + 1) (by first | exact hn | assumption | omega) (by exact hpc _ (by omega)) (by first | exact hlr | assumption | omega) (by first | exact hrn | assumption | omega) hx0 hO0) (lw_V q742 q743 q744 q110 q745) ⟨rfl, by decide, by decide, by decide +kernel⟩ rfl rfl (Nat.le_of_ble_eq_true rfl) ⟨Nat.le_of_ble_eq_true rfl, Nat.le_of_ble_eq_true rfl⟩ ⟨by first | decide | omega, by first | decide | omega⟩ dX1_lead_35) (fun _ hpost => ?_)
    refine z_st (st' := [.int (iZ (((cnt v l1 (r1 + 1) ((w_20 0)) : Nat) : Int)))]) rfl ?_
    refine z_aload_n hC 38 hl dX1_lead_38 rfl 0 rfl ?_
    refine zp_get (v := .int (iZ ((k_14 : Int)))) hC (va_P_l hH.1) 39 in_X1 rfl 17 (by decide) q227 0 rfl (rfl) dX1_lead_39 ?_
    refine z_iconst hC 42 dX1_lead_42 ?_
    refine z_icmp_ne hC 43 50 dX1_lead_43 rfl (by omega) (by omega) (fun hb1 => ?_) (fun hb1 => ?_)
    · -- 43t
      have hw1 := RKS_ofR pE_14 pR_20 (show 1 < k_14 by omega)
      have ho1 := ofR_spec (t := t) pE_14 (i := 1) (by omega)
      have hwl1 : w_20 1 < 1000 := by rw [hw1]; exact ho1.1
      refine z_aload_n hC 50 hl dX1_lead_50 rfl 0 rfl ?_
      refine z_aload_n hC 51 hl dX1_lead_51 rfl 0 rfl ?_
      refine zp_get (v := .ref (ad 15)) hC (va_P_l hH.1) 52 in_X1 rfl 15 (by decide) q225 0 rfl (rfl) dX1_lead_52 ?_
      refine z_iconst hC 55 dX1_lead_55 ?_
      refine zp_iald (f := (cI (k_14) w_20 gu_14)) (x := ((w_20 1 : Nat) : Int)) hC (va_P_l hH.1) 56 6 (1) rfl (by decide) (by omega) (by omega) ((cI_lt (by omega))) dX1_lead_56 ?_
      refine zp_back (zp_runV hC (hH.2.2) hl.1 (va_P_l hH.1) 1 (As := [.int (iZ (((w_20 1 : Nat) : Int)))]) (rest := [.int (iZ (((cnt v l1 (r1 + 1) ((w_20 0)) : Nat) : Int)))]) (u_X1_of lau s0 G ad (va_up F 17 ((k_14 : Int))) (va_up (va_up Ar 15 (cI (k_14) w_20 gu_14)) 16 zZ) kp pl (w_20 1) (pr (w_20 1)) nw (by first | assumption | omega) (by first | exact hpl | (first | assumption | exact hpl _ (by omega)) | assumption | omega) (by first | exact hnw | assumption | omega)) (lw_V q736 q738 qs17 q89 q739) ⟨rfl, by decide, by decide, by decide +kernel⟩ (q0 := 0) (ci := 1) rfl rfl rfl rfl (Nat.le_of_ble_eq_true rfl) ⟨Nat.le_of_ble_eq_true rfl, Nat.le_of_ble_eq_true rfl⟩ ⟨by first | decide | omega, by first | decide | omega⟩ dX1_lead_57) (fun _ hpost => ?_)
      refine z_st (st' := [.ref ((pr (w_20 1))), .int (iZ (((cnt v l1 (r1 + 1) ((w_20 0)) : Nat) : Int)))]) rfl ?_
      refine z_iload_n hC 60 hl dX1_lead_60 rfl 1 rfl ?_
      refine z_iload_n hC 61 hl dX1_lead_61 rfl 2 rfl ?_
      refine z_st (st' := [.int (iZ (((r1 + 1 : Nat) : Int) - 1)), .int (iZ ((l1 : Int))), .ref ((pr (w_20 1))), .int (iZ (((cnt v l1 (r1 + 1) ((w_20 0)) : Nat) : Int)))]) (zcons (zieq (by omega)) (zcons rfl rfl)) ?_
      refine zp_back (zw_run hC (hH.2.2) hl.1 ((dWp hH hpp (y := (w_20 1)) (by omega))) 2 (As := [.int (iZ ((l1 : Int))), .int (iZ (((r1 + 1 : Nat) : Int) - 1))]) (rest := [.int (iZ (((cnt v l1 (r1 + 1) ((w_20 0)) : Nat) : Int)))]) (u_X10_within lau s0 G (pr (w_20 1)) (pa ((w_20 1))) (pm ((w_20 1))) (pf ((w_20 1))) n v ((w_20 1)) l1 (r1 + 1) (by first | exact hn | assumption | omega) (by exact hpc _ (by omega)) (by first | exact hlr | assumption | omega) (by first | exact hrn | assumption | omega)) (fun hx0 hO0 => u_X10_within_nw lau s0 G (pr (w_20 1)) (pa ((w_20 1))) (pm ((w_20 1))) (pf ((w_20 1))) n v ((w_20 1)) l1 (r1 + 1) (by first | exact hn | assumption | omega) (by exact hpc _ (by omega)) (by first | exact hlr | assumption | omega) (by first | exact hrn | assumption | omega) hx0 hO0) (lw_V q742 q743 q744 q110 q745) ⟨rfl, by decide, by decide, by decide +kernel⟩ rfl rfl (Nat.le_of_ble_eq_true rfl) ⟨Nat.le_of_ble_eq_true rfl, Nat.le_of_ble_eq_true rfl⟩ ⟨by first | decide | omega, by first | decide | omega⟩ dX1_lead_62) (fun _ hpost => ?_)
      refine z_st (st' := [.int (iZ (((cnt v l1 (r1 + 1) ((w_20 1)) : Nat) : Int))), .int (iZ (((cnt v l1 (r1 + 1) ((w_20 0)) : Nat) : Int)))]) rfl ?_
      refine z_isub (e := ((cnt v l1 (r1 + 1) ((w_20 0)) : Nat) : Int) - ((cnt v l1 (r1 + 1) ((w_20 1)) : Nat) : Int)) hC 65 dX1_lead_65 rfl ?_
      -- R66.1
      refine z_st (st' := [.int (iZ ((((cnt v l1 (r1 + 1) ((w_20 0)) : Nat) : Int) - ((cnt v l1 (r1 + 1) ((w_20 1)) : Nat) : Int))))]) (zcons (zieq (by first | assumption | omega)) rfl) ?_
      exact z_iret hC hH hQ 66 ((((cnt v l1 (r1 + 1) ((w_20 0)) : Nat) : Int) - ((cnt v l1 (r1 + 1) ((w_20 1)) : Nat) : Int), (va_up F 17 ((k_14 : Int))), (va_up (va_up Ar 15 (cI (k_14) w_20 gu_14)) 16 zZ))) dX1_lead_66 rfl ⟨by (unfold Sp_lead; rw [if_pos (by omega)]; simp only [Int.toNat_natCast, zt1]; rw [← EN_dst pE_14]; first | (rw [if_pos (by omega), hw0] <;> omega) | (rw [if_neg (by omega), hw0, hw1] <;> omega)), by first | assumption | exact ⟨fun k h1 h2 h3 h4 h5 => by first | rfl | (simp [va_up, h1, h2, h3, h4, h5]; done) | (simp [va_up, h1, h2, h3, h4, h5]; intro e9; rw [e9, hFn]), fun k h1 h2 h3 h4 h5 h6 => by first | rfl | simp [va_up, h1, h2, h3, h4, h5, h6]⟩⟩ rfl (Nat.le_refl _) (Nat.le_refl _)
    · -- 43f
      refine z_iconst hC 46 dX1_lead_46 ?_
      refine z_goto hC 47 65 dX1_lead_47 rfl ?_
      refine z_isub (e := ((cnt v l1 (r1 + 1) ((w_20 0)) : Nat) : Int)) hC 65 dX1_lead_65 (by omega) ?_
      -- R66.2
      exact z_iret hC hH hQ 66 ((((cnt v l1 (r1 + 1) ((w_20 0)) : Nat) : Int), (va_up F 17 ((k_14 : Int))), (va_up (va_up Ar 15 (cI (k_14) w_20 gu_14)) 16 zZ))) dX1_lead_66 rfl ⟨by (unfold Sp_lead; rw [if_pos (by omega)]; simp only [Int.toNat_natCast, zt1]; rw [← EN_dst pE_14]; first | (rw [if_pos (by omega), hw0] <;> omega) | (rw [if_neg (by omega), hw0, hw1] <;> omega)), by first | assumption | exact ⟨fun k h1 h2 h3 h4 h5 => by first | rfl | (simp [va_up, h1, h2, h3, h4, h5]; done) | (simp [va_up, h1, h2, h3, h4, h5]; intro e9; rw [e9, hFn]), fun k h1 h2 h3 h4 h5 h6 => by first | rfl | simp [va_up, h1, h2, h3, h4, h5, h6]⟩⟩ rfl (Nat.le_refl _) (Nat.le_refl _)
  · -- 3=0
    refine z_if_ne_f hC 6 11 dX1_lead_6 rfl (by omega) (by omega) ?_
    refine z_iconst hC 9 dX1_lead_9 ?_
    -- R10.3
    exact z_iret hC hH hQ 10 (((-1), F, (va_up Ar 16 zZ))) dX1_lead_10 rfl ⟨by first | (unfold Sp_lead; rw [if_neg (by omega)]) | (unfold Sp_lead; rw [if_pos (by omega)]; (try simp only [Int.toNat_natCast, zt1]); first | done | trivial | rfl | omega | (rw [if_pos (by omega)]; first | done | trivial | rfl | omega) | (rw [if_neg (by omega)]; first | done | trivial | rfl | omega)), by first | assumption | exact ⟨fun k h1 h2 h3 h4 h5 => by first | rfl | (simp [va_up, h1, h2, h3, h4, h5]; done) | (simp [va_up, h1, h2, h3, h4, h5]; intro e9; rw [e9, hFn]), fun k h1 h2 h3 h4 h5 h6 => by first | rfl | simp [va_up, h1, h2, h3, h4, h5, h6]⟩⟩ rfl (Nat.le_refl _) (Nat.le_refl _)

set_option maxHeartbeats 4000000 in
set_option maxRecDepth 100000 in
theorem m_X1_rarest (lau : Launch) (s0 : State) (G : zG) (sz : Nat) (ad : Nat → Nat) (F : Nat → Int) (Ar : Nat → Nat → Int) (kp : Nat → Nat) (pl : Nat → Option Nat) (PW : va_W) (n : Nat) (v : Nat → Nat) (pr : Nat → Nat) (pa : Nat → Nat) (pm : Nat → Nat) (pf : Nat → Nat → Nat) (nw : Nat) (b : Nat) (t : Nat) (l : Int) (r : Int) (q : Int) (hn : n ≤ 120) (hFn : F 200 = (n : Int)) (hv : ∀ i, i < n → v i < 1000) (hAv : ∀ i, i < n → Ar 201 i = (v i : Int)) (hb : 2 ≤ b ∧ b ≤ 20) (hFb : F 7 = (b : Int)) (ht : t < 4) (hFt : F 8 = (t : Int)) (hpl : ∀ y, y < 1000 → (pl y = some (pr y) ∨ (pl y = none ∧ pr y = nw))) (hnw : zNwh s0 nw) (hpc : ∀ y, y < 1000 → PlC n v y (pm y) (pf y)) (hpp : zPool s0 G PW pr pa pm pf) (hmo : ∀ i j, i ≤ j → b * j < n → Ar 12 (60 * i + j) = (md v (b * i) (bEnd b j n) t : Int)) (hr_l : -2147483648 ≤ l ∧ l < 2147483648) (hr_r : -2147483648 ≤ r ∧ r < 2147483648) (hr_q : -2147483648 ≤ q ∧ q < 2147483648) : zMet (S := Int × (Nat → Int) × (Nat → Nat → Int)) lau yX1_rarest cX1_rarest 4 (some .int) 5 121 0 0 s0 G sz [.ref (ad 99), .int (iZ (l)), .int (iZ (r)), .int (iZ (q))] (dW ad G F (va_up Ar 16 zZ) kp pl PW) (fun ((r_, F2, A2) : Int × (Nat → Int) × (Nat → Nat → Int)) => some (.int (iZ (r_)))) (fun ((r_, F2, A2) : Int × (Nat → Int) × (Nat → Nat → Int)) => (Sp_rarest n v t l r q r_) ∧ (DK F (va_up Ar 16 zZ) F2 A2)) (fun ((r_, F2, A2) : Int × (Nat → Int) × (Nat → Nat → Int)) => (dW ad G F2 A2 kp pl PW)) := by
  refine zMet.of (by decide) (Nat.le_of_ble_eq_true rfl) ?_
  intro pg ev s1 mi ar bl me cd ls Q as0 hC hH hl hQ hsz
  generalize s1.heap = H at hH ⊢
  generalize ([] : List Loc) = locs at hH ⊢
  have hl : lv_has ls 4 [(0, .ref (ad 99)), (1, .int (iZ (l))), (2, .int (iZ (r))), (3, .int (iZ (q)))] := hl
  refine z_aload_n hC 0 hl dX1_rarest_0 rfl 0 rfl ?_
  refine z_iload_n hC 1 hl dX1_rarest_1 rfl 1 rfl ?_
  refine z_iload_n hC 2 hl dX1_rarest_2 rfl 2 rfl ?_
  refine zp_back (zp_runV hC (hH.2.2) hl.1 (va_P_l hH.1) 2 (As := [.int (iZ (l)), .int (iZ (r))]) (rest := []) (u_X1_isSpan lau s0 G ad F (va_up Ar 16 zZ) kp pl n l r (by first | exact hn | assumption | omega) (by first | exact hFn | assumption | omega) (by first | assumption | omega) (by first | assumption | omega)) (lw_V q864 q866 qs26 q89 q867) ⟨rfl, by decide, by decide, by decide +kernel⟩ (q0 := 0) (ci := 1) rfl rfl rfl rfl (Nat.le_of_ble_eq_true rfl) ⟨Nat.le_of_ble_eq_true rfl, Nat.le_of_ble_eq_true rfl⟩ ⟨by first | decide | omega, by first | decide | omega⟩ dX1_rarest_3) (fun r_3 hpost => ?_)
  have hb_3 : (r_3 = 1 ∧ (0 ≤ l ∧ l ≤ r ∧ r < (n : Int))) ∨ (r_3 = 0 ∧ ¬ (0 ≤ l ∧ l ≤ r ∧ r < (n : Int))) := hpost
  refine z_st (st' := [.int (iZ (r_3))]) rfl ?_
  rcases hb_3 with ⟨rfl, hb_3⟩ | ⟨rfl, hb_3⟩
  · -- 3=1
    refine z_if_eq_f hC 6 21 dX1_rarest_6 rfl (by omega) (by omega) ?_
    refine z_iload_n hC 9 hl dX1_rarest_9 rfl 3 rfl ?_
    refine z_i2l hC 10 dX1_rarest_10 (by omega) ?_
    refine z_lconst (a := 0) hC 11 dX1_rarest_11 rfl ?_
    refine z_ldc2 (a := 3) hC 12 q1039 rfl dX1_rarest_12 ?_
    refine zp_back (zp_runS hC (hH.2.2) hl.1 (zp_nil) 3 (As := [.long (lZ (q)), .long (lZ (0)), .long (lZ (3))]) (rest := []) (u_X1_isIn lau s0 G q 0 3 (by first | assumption | omega) (by first | assumption | omega) (by first | assumption | omega)) (lw_S q303 q304 q89 q305) ⟨by decide, by decide, by decide +kernel⟩ rfl rfl (Nat.le_of_ble_eq_true rfl) ⟨Nat.le_of_ble_eq_true rfl, Nat.le_of_ble_eq_true rfl⟩ ⟨by first | decide | omega, by first | decide | omega⟩ dX1_rarest_15) (fun r_15 hpost => ?_)
    have hb_15 : (r_15 = 1 ∧ ((0 : Int) ≤ q ∧ q ≤ (3 : Int))) ∨ (r_15 = 0 ∧ ¬ ((0 : Int) ≤ q ∧ q ≤ (3 : Int))) := hpost
    refine z_st (st' := [.int (iZ (r_15))]) rfl ?_
    rcases hb_15 with ⟨rfl, hb_15⟩ | ⟨rfl, hb_15⟩
    · -- 15=1
      refine z_if_ne_t hC 18 23 dX1_rarest_18 rfl (by omega) (by omega) ?_
      obtain ⟨l1, rfl⟩ := Int.eq_ofNat_of_zero_le (show 0 ≤ l by omega)
      obtain ⟨r1, rfl⟩ := Int.eq_ofNat_of_zero_le (show 0 ≤ r by omega)
      refine z_aload_n hC 23 hl dX1_rarest_23 rfl 0 rfl ?_
      refine z_iload_n hC 24 hl dX1_rarest_24 rfl 1 rfl ?_
      refine z_iload_n hC 25 hl dX1_rarest_25 rfl 2 rfl ?_
      refine z_st (st' := [.int (iZ (((r1 + 1 : Nat) : Int) - 1)), .int (iZ ((l1 : Int))), .ref (ad 99)]) (zcons (zieq (by omega)) (zcons rfl rfl)) ?_
      refine z_same (z_runV hC hH.2.2 hl.1 hH.1 hH.2.1 2 (As := [.int (iZ ((l1 : Int))), .int (iZ (((r1 + 1 : Nat) : Int) - 1))]) (rest := []) (m_X1_laysAll lau s0 G _ ad F (va_up Ar 16 zZ) kp pl PW n v l1 (r1 + 1) (by first | exact hn | assumption | omega) (by first | exact hFn | assumption | omega) (by first | exact hv | assumption | omega) (by first | exact hAv | assumption | omega) (by first | exact hlr | assumption | omega) (by first | exact hrn | assumption | omega)) (lw_V q1051 q1053 qs35 q89 q1054) ⟨rfl, by decide, by decide, by decide +kernel⟩ (q0 := 0) (ci := 1) rfl rfl rfl rfl (Nat.le_of_ble_eq_true rfl) ⟨Nat.le_of_ble_eq_true rfl, Nat.le_of_ble_eq_true rfl⟩ ⟨Nat.le_of_ble_eq_true rfl, Nat.le_of_ble_eq_true rfl⟩ dX1_rarest_26) hH (fun u_ H locs hpost hH => ?_)
      obtain ⟨k_26, u_26, gu_26⟩ := u_
      have pE_26 : EN v l1 (r1 + 1) k_26 u_26 := hpost
      have hH : zH s0 s1 G as0 (dW ad G (va_up F 17 ((k_26 : Int))) (va_up (va_up Ar 15 (cI (k_26) u_26 gu_26)) 16 zZ) kp pl PW) H locs := hH
      refine z_st (st' := []) rfl ?_
      refine z_aload_n hC 29 hl dX1_rarest_29 rfl 0 rfl ?_
      refine z_iload_n hC 30 hl dX1_rarest_30 rfl 1 rfl ?_
      refine z_iload_n hC 31 hl dX1_rarest_31 rfl 2 rfl ?_
      refine z_st (st' := [.int (iZ (((r1 + 1 : Nat) : Int) - 1)), .int (iZ ((l1 : Int))), .ref (ad 99)]) (zcons (zieq (by omega)) (zcons rfl rfl)) ?_
      refine z_same (z_runV hC hH.2.2 hl.1 hH.1 hH.2.1 2 (As := [.int (iZ ((l1 : Int))), .int (iZ (((r1 + 1 : Nat) : Int) - 1))]) (rest := []) (m_X1_ranks lau s0 G _ ad (va_up F 17 ((k_26 : Int))) (va_up (va_up Ar 15 (cI (k_26) u_26 gu_26)) 16 zZ) kp pl PW n v pr pa pm pf nw k_26 u_26 gu_26 l1 (r1 + 1) t (by first | exact hn | assumption | omega) (by first | exact hFn | assumption | omega) (by first | exact hpl | assumption | omega) (by first | exact hnw | assumption | omega) (by first | exact hpc | assumption | omega) (by first | exact hpp | assumption | omega) (by first | exact hv | assumption | omega) (by first | exact hlr | assumption | omega) (by first | exact hrn | assumption | omega) (by first | exact ht | assumption | omega) (by first | exact hFt | assumption | omega) (by have := pE_26.1; omega) (by exact fun j hj => pE_26.2.1 j hj) (by exact pE_26.2.2.1) (by exact CAN_pos (t := t) (EN_CAN pE_26 (fun i hi => hv i (by omega)) (by omega)))) (lw_V q1055 q1057 qs36 q89 q1058) ⟨rfl, by decide, by decide, by decide +kernel⟩ (q0 := 0) (ci := 1) rfl rfl rfl rfl (Nat.le_of_ble_eq_true rfl) ⟨Nat.le_of_ble_eq_true rfl, Nat.le_of_ble_eq_true rfl⟩ ⟨Nat.le_of_ble_eq_true rfl, Nat.le_of_ble_eq_true rfl⟩ dX1_rarest_32) hH (fun w_32 H locs hpost hH => ?_)
      have pR_32 : RKS v l1 (r1 + 1) t k_26 u_26 w_32 := hpost
      have hH : zH s0 s1 G as0 (dW ad G (va_up F 17 ((k_26 : Int))) (va_up (va_up Ar 15 (cI (k_26) w_32 gu_26)) 16 zZ) kp pl PW) H locs := hH
      refine z_st (st' := []) rfl ?_
      have hkk := pE_26.1
      have hk0 := CAN_pos (t := t) (EN_CAN pE_26 (fun i hi => hv i (by omega)) (by omega))
      have hwk := RKS_ofR pE_26 pR_32 (show k_26 - 1 < k_26 by omega)
      have hof := ofR_spec (t := t) pE_26 (i := k_26 - 1) (by omega)
      have hwl : w_32 (k_26 - 1) < 1000 := by rw [hwk]; exact hof.1
      refine z_aload_n hC 35 hl dX1_rarest_35 rfl 0 rfl ?_
      refine z_aload_n hC 36 hl dX1_rarest_36 rfl 0 rfl ?_
      refine zp_get (v := .ref (ad 15)) hC (va_P_l hH.1) 37 in_X1 rfl 15 (by decide) q225 0 rfl (rfl) dX1_rarest_37 ?_
      refine z_aload_n hC 40 hl dX1_rarest_40 rfl 0 rfl ?_
      refine zp_get (v := .int (iZ ((k_26 : Int)))) hC (va_P_l hH.1) 41 in_X1 rfl 17 (by decide) q227 0 rfl (rfl) dX1_rarest_41 ?_
      refine z_iconst hC 44 dX1_rarest_44 ?_
      refine z_isub (e := (k_26 : Int) - 1) hC 45 dX1_rarest_45 rfl ?_
      refine zp_iald (f := (cI (k_26) w_32 gu_26)) (x := ((w_32 (k_26 - 1) : Nat) : Int)) hC (va_P_l hH.1) 46 6 (k_26 - 1) rfl (by decide) (by omega) (by omega) ((cI_lt (by omega))) dX1_rarest_46 ?_
      refine z_iload_n hC 47 hl dX1_rarest_47 rfl 1 rfl ?_
      refine z_iload_n hC 48 hl dX1_rarest_48 rfl 2 rfl ?_
      refine z_iload_n hC 49 hl dX1_rarest_49 rfl 3 rfl ?_
      refine z_st (st' := [.int (iZ (q)), .int (iZ (((r1 + 1 : Nat) : Int) - 1)), .int (iZ ((l1 : Int))), .int (iZ (((w_32 (k_26 - 1) : Nat) : Int))), .ref (ad 99)]) (zcons rfl (zcons (zieq (by omega)) (zcons rfl (zcons rfl rfl)))) ?_
      refine zp_back (zp_runV hC (hH.2.2) hl.1 (dP_of hH hpp) 4 (As := [.int (iZ (((w_32 (k_26 - 1) : Nat) : Int))), .int (iZ ((l1 : Int))), .int (iZ (((r1 + 1 : Nat) : Int) - 1)), .int (iZ (q))]) (rest := []) (u_X1_told lau s0 G ad (va_up F 17 ((k_26 : Int))) (va_up (va_up Ar 15 (cI (k_26) w_32 gu_26)) 16 zZ) kp pl pr pa pm pf n v (w_32 (k_26 - 1)) l1 (r1 + 1) nw q (by first | exact hn | assumption | omega) (by first | exact hv | assumption | omega) (by first | exact hpl | assumption | omega) (by first | exact hnw | assumption | omega) (by first | exact hpc | assumption | omega) (by first | exact hlr | assumption | omega) (by first | exact hrn | assumption | omega) (by first | assumption | omega) (by exact hwl) (by rw [hwk]; exact hof.2.1)) (lw_V q1041 q1043 qs34 q89 q1044) ⟨rfl, by decide, by decide, by decide +kernel⟩ (q0 := 0) (ci := 1) rfl rfl rfl rfl (Nat.le_of_ble_eq_true rfl) ⟨Nat.le_of_ble_eq_true rfl, Nat.le_of_ble_eq_true rfl⟩ ⟨by first | decide | omega, by first | decide | omega⟩ dX1_rarest_50) (fun _ hpost => ?_)
      refine z_st (st' := [.int (iZ ((toldZ v l1 (r1 + 1) (w_32 (k_26 - 1)) q)))]) rfl ?_
      -- R53.1
      exact z_iret hC hH hQ 53 (((toldZ v l1 (r1 + 1) (w_32 (k_26 - 1)) q), (va_up F 17 ((k_26 : Int))), (va_up (va_up Ar 15 (cI (k_26) w_32 gu_26)) 16 zZ))) dX1_rarest_53 rfl ⟨by (unfold Sp_rarest; rw [if_pos (by omega)]; simp only [Int.toNat_natCast, zt1]; rw [← EN_dst pE_26, hwk] <;> rfl), by first | assumption | exact ⟨fun k h1 h2 h3 h4 h5 => by first | rfl | (simp [va_up, h1, h2, h3, h4, h5]; done) | (simp [va_up, h1, h2, h3, h4, h5]; intro e9; rw [e9, hFn]), fun k h1 h2 h3 h4 h5 h6 => by first | rfl | simp [va_up, h1, h2, h3, h4, h5, h6]⟩⟩ rfl (Nat.le_refl _) (Nat.le_refl _)
    · -- 15=0
      refine z_if_ne_f hC 18 23 dX1_rarest_18 rfl (by omega) (by omega) ?_
      refine z_iconst hC 21 dX1_rarest_21 ?_
      -- R22.2
      exact z_iret hC hH hQ 22 (((-1), F, (va_up Ar 16 zZ))) dX1_rarest_22 rfl ⟨by first | (unfold Sp_rarest; rw [if_neg (by omega)]) | (unfold Sp_rarest; rw [if_pos (by omega)]; (try simp only [Int.toNat_natCast, zt1]); first | done | trivial | rfl | omega | (rw [if_pos (by omega)]; first | done | trivial | rfl | omega) | (rw [if_neg (by omega)]; first | done | trivial | rfl | omega)), by first | assumption | exact ⟨fun k h1 h2 h3 h4 h5 => by first | rfl | (simp [va_up, h1, h2, h3, h4, h5]; done) | (simp [va_up, h1, h2, h3, h4, h5]; intro e9; rw [e9, hFn]), fun k h1 h2 h3 h4 h5 h6 => by first | rfl | simp [va_up, h1, h2, h3, h4, h5, h6]⟩⟩ rfl (Nat.le_refl _) (Nat.le_refl _)
  · -- 3=0
    refine z_if_eq_t hC 6 21 dX1_rarest_6 rfl (by omega) (by omega) ?_
    refine z_iconst hC 21 dX1_rarest_21 ?_
    -- R22.3
    exact z_iret hC hH hQ 22 (((-1), F, (va_up Ar 16 zZ))) dX1_rarest_22 rfl ⟨by first | (unfold Sp_rarest; rw [if_neg (by omega)]) | (unfold Sp_rarest; rw [if_pos (by omega)]; (try simp only [Int.toNat_natCast, zt1]); first | done | trivial | rfl | omega | (rw [if_pos (by omega)]; first | done | trivial | rfl | omega) | (rw [if_neg (by omega)]; first | done | trivial | rfl | omega)), by first | assumption | exact ⟨fun k h1 h2 h3 h4 h5 => by first | rfl | (simp [va_up, h1, h2, h3, h4, h5]; done) | (simp [va_up, h1, h2, h3, h4, h5]; intro e9; rw [e9, hFn]), fun k h1 h2 h3 h4 h5 h6 => by first | rfl | simp [va_up, h1, h2, h3, h4, h5, h6]⟩⟩ rfl (Nat.le_refl _) (Nat.le_refl _)

set_option maxHeartbeats 4000000 in
set_option maxRecDepth 100000 in
theorem m_X1_peeled (lau : Launch) (s0 : State) (G : zG) (sz : Nat) (ad : Nat → Nat) (F : Nat → Int) (Ar : Nat → Nat → Int) (kp : Nat → Nat) (pl : Nat → Option Nat) (PW : va_W) (n : Nat) (v : Nat → Nat) (pr : Nat → Nat) (pa : Nat → Nat) (pm : Nat → Nat) (pf : Nat → Nat → Nat) (nw : Nat) (b : Nat) (t : Nat) (l : Int) (r : Int) (k0 : Int) (hn : n ≤ 120) (hFn : F 200 = (n : Int)) (hv : ∀ i, i < n → v i < 1000) (hAv : ∀ i, i < n → Ar 201 i = (v i : Int)) (hb : 2 ≤ b ∧ b ≤ 20) (hFb : F 7 = (b : Int)) (ht : t < 4) (hFt : F 8 = (t : Int)) (hpl : ∀ y, y < 1000 → (pl y = some (pr y) ∨ (pl y = none ∧ pr y = nw))) (hnw : zNwh s0 nw) (hpc : ∀ y, y < 1000 → PlC n v y (pm y) (pf y)) (hpp : zPool s0 G PW pr pa pm pf) (hmo : ∀ i j, i ≤ j → b * j < n → Ar 12 (60 * i + j) = (md v (b * i) (bEnd b j n) t : Int)) (hr_l : -2147483648 ≤ l ∧ l < 2147483648) (hr_r : -2147483648 ≤ r ∧ r < 2147483648) (hr_k0 : -2147483648 ≤ k0 ∧ k0 < 2147483648) : zMet (S := Int × (Nat → Int) × (Nat → Nat → Int)) lau yX1_peeled cX1_peeled 6 (some .int) 5 121 0 0 s0 G sz [.ref (ad 99), .int (iZ (l)), .int (iZ (r)), .int (iZ (k0))] (dW ad G F (va_up Ar 16 zZ) kp pl PW) (fun ((r_, F2, A2) : Int × (Nat → Int) × (Nat → Nat → Int)) => some (.int (iZ (r_)))) (fun ((r_, F2, A2) : Int × (Nat → Int) × (Nat → Nat → Int)) => (Sp_peeled n v t l r k0 r_) ∧ (DK F (va_up Ar 16 zZ) F2 A2)) (fun ((r_, F2, A2) : Int × (Nat → Int) × (Nat → Nat → Int)) => (dW ad G F2 A2 kp pl PW)) := by
  refine zMet.of (by decide) (Nat.le_of_ble_eq_true rfl) ?_
  intro pg ev s1 mi ar bl me cd ls Q as0 hC hH hl hQ hsz
  generalize s1.heap = H at hH ⊢
  generalize ([] : List Loc) = locs at hH ⊢
  have hl : lv_has ls 6 [(0, .ref (ad 99)), (1, .int (iZ (l))), (2, .int (iZ (r))), (3, .int (iZ (k0)))] := hl
  refine z_aload_n hC 0 hl dX1_peeled_0 rfl 0 rfl ?_
  refine z_iload_n hC 1 hl dX1_peeled_1 rfl 1 rfl ?_
  refine z_iload_n hC 2 hl dX1_peeled_2 rfl 2 rfl ?_
  refine zp_back (zp_runV hC (hH.2.2) hl.1 (va_P_l hH.1) 2 (As := [.int (iZ (l)), .int (iZ (r))]) (rest := []) (u_X1_isSpan lau s0 G ad F (va_up Ar 16 zZ) kp pl n l r (by first | exact hn | assumption | omega) (by first | exact hFn | assumption | omega) (by first | assumption | omega) (by first | assumption | omega)) (lw_V q864 q866 qs26 q89 q867) ⟨rfl, by decide, by decide, by decide +kernel⟩ (q0 := 0) (ci := 1) rfl rfl rfl rfl (Nat.le_of_ble_eq_true rfl) ⟨Nat.le_of_ble_eq_true rfl, Nat.le_of_ble_eq_true rfl⟩ ⟨by first | decide | omega, by first | decide | omega⟩ dX1_peeled_3) (fun r_3 hpost => ?_)
  have hb_3 : (r_3 = 1 ∧ (0 ≤ l ∧ l ≤ r ∧ r < (n : Int))) ∨ (r_3 = 0 ∧ ¬ (0 ≤ l ∧ l ≤ r ∧ r < (n : Int))) := hpost
  refine z_st (st' := [.int (iZ (r_3))]) rfl ?_
  rcases hb_3 with ⟨rfl, hb_3⟩ | ⟨rfl, hb_3⟩
  · -- 3=1
    refine z_if_eq_f hC 6 13 dX1_peeled_6 rfl (by omega) (by omega) ?_
    refine z_iload_n hC 9 hl dX1_peeled_9 rfl 3 rfl ?_
    refine z_if_ge hC 10 15 dX1_peeled_10 rfl (by omega) (fun hb1 => ?_) (fun hb1 => ?_)
    · -- 10t
      obtain ⟨l1, rfl⟩ := Int.eq_ofNat_of_zero_le (show 0 ≤ l by omega)
      obtain ⟨r1, rfl⟩ := Int.eq_ofNat_of_zero_le (show 0 ≤ r by omega)
      obtain ⟨k1, rfl⟩ := Int.eq_ofNat_of_zero_le (show 0 ≤ k0 by omega)
      refine z_aload_n hC 15 hl dX1_peeled_15 rfl 0 rfl ?_
      refine z_iload_n hC 16 hl dX1_peeled_16 rfl 1 rfl ?_
      refine z_iload_n hC 17 hl dX1_peeled_17 rfl 2 rfl ?_
      refine z_st (st' := [.int (iZ (((r1 + 1 : Nat) : Int) - 1)), .int (iZ ((l1 : Int))), .ref (ad 99)]) (zcons (zieq (by omega)) (zcons rfl rfl)) ?_
      refine z_same (z_runV hC hH.2.2 hl.1 hH.1 hH.2.1 2 (As := [.int (iZ ((l1 : Int))), .int (iZ (((r1 + 1 : Nat) : Int) - 1))]) (rest := []) (m_X1_laysAll lau s0 G _ ad F (va_up Ar 16 zZ) kp pl PW n v l1 (r1 + 1) (by first | exact hn | assumption | omega) (by first | exact hFn | assumption | omega) (by first | exact hv | assumption | omega) (by first | exact hAv | assumption | omega) (by first | exact hlr | assumption | omega) (by first | exact hrn | assumption | omega)) (lw_V q1051 q1053 qs35 q89 q1054) ⟨rfl, by decide, by decide, by decide +kernel⟩ (q0 := 0) (ci := 1) rfl rfl rfl rfl (Nat.le_of_ble_eq_true rfl) ⟨Nat.le_of_ble_eq_true rfl, Nat.le_of_ble_eq_true rfl⟩ ⟨Nat.le_of_ble_eq_true rfl, Nat.le_of_ble_eq_true rfl⟩ dX1_peeled_18) hH (fun u_ H locs hpost hH => ?_)
      obtain ⟨k_18, u_18, gu_18⟩ := u_
      have pE_18 : EN v l1 (r1 + 1) k_18 u_18 := hpost
      have hH : zH s0 s1 G as0 (dW ad G (va_up F 17 ((k_18 : Int))) (va_up (va_up Ar 15 (cI (k_18) u_18 gu_18)) 16 zZ) kp pl PW) H locs := hH
      refine z_st (st' := []) rfl ?_
      have hds := EN_dst pE_18
      have hkk := pE_18.1
      refine z_iload_n hC 21 hl dX1_peeled_21 rfl 3 rfl ?_
      refine z_aload_n hC 22 hl dX1_peeled_22 rfl 0 rfl ?_
      refine zp_get (v := .int (iZ ((k_18 : Int)))) hC (va_P_l hH.1) 23 in_X1 rfl 17 (by decide) q227 0 rfl (rfl) dX1_peeled_23 ?_
      refine z_icmp_le hC 26 32 dX1_peeled_26 rfl (by omega) (by omega) (fun hb2 => ?_) (fun hb2 => ?_)
      · -- 26t
        refine z_aload_n hC 32 hl dX1_peeled_32 rfl 0 rfl ?_
        refine z_iload_n hC 33 hl dX1_peeled_33 rfl 1 rfl ?_
        refine z_iload_n hC 34 hl dX1_peeled_34 rfl 2 rfl ?_
        refine z_st (st' := [.int (iZ (((r1 + 1 : Nat) : Int) - 1)), .int (iZ ((l1 : Int))), .ref (ad 99)]) (zcons (zieq (by omega)) (zcons rfl rfl)) ?_
        refine z_same (z_runV hC hH.2.2 hl.1 hH.1 hH.2.1 2 (As := [.int (iZ ((l1 : Int))), .int (iZ (((r1 + 1 : Nat) : Int) - 1))]) (rest := []) (m_X1_ranks lau s0 G _ ad (va_up F 17 ((k_18 : Int))) (va_up (va_up Ar 15 (cI (k_18) u_18 gu_18)) 16 zZ) kp pl PW n v pr pa pm pf nw k_18 u_18 gu_18 l1 (r1 + 1) t (by first | exact hn | assumption | omega) (by first | exact hFn | assumption | omega) (by first | exact hpl | assumption | omega) (by first | exact hnw | assumption | omega) (by first | exact hpc | assumption | omega) (by first | exact hpp | assumption | omega) (by first | exact hv | assumption | omega) (by first | exact hlr | assumption | omega) (by first | exact hrn | assumption | omega) (by first | exact ht | assumption | omega) (by first | exact hFt | assumption | omega) (by have := pE_18.1; omega) (by exact fun j hj => pE_18.2.1 j hj) (by exact pE_18.2.2.1) (by exact CAN_pos (t := t) (EN_CAN pE_18 (fun i hi => hv i (by omega)) (by omega)))) (lw_V q1055 q1057 qs36 q89 q1058) ⟨rfl, by decide, by decide, by decide +kernel⟩ (q0 := 0) (ci := 1) rfl rfl rfl rfl (Nat.le_of_ble_eq_true rfl) ⟨Nat.le_of_ble_eq_true rfl, Nat.le_of_ble_eq_true rfl⟩ ⟨Nat.le_of_ble_eq_true rfl, Nat.le_of_ble_eq_true rfl⟩ dX1_peeled_35) hH (fun w_35 H locs hpost hH => ?_)
        have pR_35 : RKS v l1 (r1 + 1) t k_18 u_18 w_35 := hpost
        have hH : zH s0 s1 G as0 (dW ad G (va_up F 17 ((k_18 : Int))) (va_up (va_up Ar 15 (cI (k_18) w_35 gu_18)) 16 zZ) kp pl PW) H locs := hH
        refine z_st (st' := []) rfl ?_
        refine z_iload_n hC 38 hl dX1_peeled_38 rfl 2 rfl ?_
        refine z_iload_n hC 39 hl dX1_peeled_39 rfl 1 rfl ?_
        refine z_isub (e := (r1 : Int) - (l1 : Int)) hC 40 dX1_peeled_40 rfl ?_
        refine z_iconst hC 41 dX1_peeled_41 ?_
        refine z_iadd (e := (r1 : Int) - (l1 : Int) + 1) hC 42 dX1_peeled_42 rfl ?_
        refine z_istore (lv' := [(4, .int (iZ ((r1 : Int) - (l1 : Int) + 1))), (0, .ref (ad 99)), (1, .int (iZ ((l1 : Int)))), (2, .int (iZ ((r1 : Int)))), (3, .int (iZ ((k1 : Int))))]) hC 43 hl dX1_peeled_43 (by decide) rfl (fun ls hl => ?_)
        have hs0 : sm (fun j => cnt v l1 (r1 + 1) (ofR v l1 (r1 + 1) t j)) 0 0 = 0 := rfl
        refine z_iconst hC 45 dX1_peeled_45 ?_
        refine z_istore (lv' := [(5, .int (iZ (0))), (4, .int (iZ ((r1 : Int) - (l1 : Int) + 1))), (0, .ref (ad 99)), (1, .int (iZ ((l1 : Int)))), (2, .int (iZ ((r1 : Int)))), (3, .int (iZ ((k1 : Int))))]) hC 46 hl dX1_peeled_46 (by decide) rfl (fun ls hl => ?_)
        have L48 : ∀ (N_ : Nat) (i : Nat) (H : Heap) (locs : List Loc) (ls : Array Slot), k1 - i < N_ → (i ≤ k1) → zH s0 s1 G as0 (dW ad G (va_up F 17 ((k_18 : Int))) (va_up (va_up Ar 15 (cI (k_18) w_35 gu_18)) 16 zZ) kp pl PW) H locs → lv_has ls 6 [(0, .ref (ad 99)), (1, .int (iZ ((l1 : Int)))), (2, .int (iZ ((r1 : Int)))), (3, .int (iZ ((k1 : Int)))), (4, .int (iZ ((r1 : Int) - (l1 : Int) - ((sm (fun j => cnt v l1 (r1 + 1) (ofR v l1 (r1 + 1) t j)) 0 i : Nat) : Int) + 1))), (5, .int (iZ ((i : Int))))] → W pg lau ev (zRm 5 0 0 121) s1 mi ar bl me cd H locs 0 0 Q (F0 mi 48 ls []) := by
          intro N_
          induction N_ with
          | zero => intro i H locs ls hd; exact absurd hd (Nat.not_lt_zero _)
          | succ N_ ih48 =>
            intro i H locs ls hd48 i48_1 hH hl
            refine z_iload hC 48 hl dX1_peeled_48 5 rfl ?_
            refine z_iload_n hC 50 hl dX1_peeled_50 rfl 3 rfl ?_
            refine z_icmp_ge hC 51 81 dX1_peeled_51 rfl (by omega) (by omega) (fun hb3 => ?_) (fun hb3 => ?_)
            · -- 51t
              have ei : (i) = k1 := by omega
              refine z_iload hC 81 hl dX1_peeled_81 4 rfl ?_
              -- R83.1
              refine z_st (st' := [.int (iZ (((r1 : Int) - (l1 : Int) - ((sm (fun j => cnt v l1 (r1 + 1) (ofR v l1 (r1 + 1) t j)) 0 i : Nat) : Int) + 1)))]) (zcons (zieq (by first | assumption | omega)) rfl) ?_
              exact z_iret hC hH hQ 83 (((r1 : Int) - (l1 : Int) - ((sm (fun j => cnt v l1 (r1 + 1) (ofR v l1 (r1 + 1) t j)) 0 i : Nat) : Int) + 1, (va_up F 17 ((k_18 : Int))), (va_up (va_up Ar 15 (cI (k_18) w_35 gu_18)) 16 zZ))) dX1_peeled_83 rfl ⟨by (unfold Sp_peeled; rw [if_pos (by omega)]; simp only [Int.toNat_natCast, zt1]; rw [← hds, if_neg (by omega)]; rw [ei]; omega), by first | assumption | exact ⟨fun k h1 h2 h3 h4 h5 => by first | rfl | (simp [va_up, h1, h2, h3, h4, h5]; done) | (simp [va_up, h1, h2, h3, h4, h5]; intro e9; rw [e9, hFn]), fun k h1 h2 h3 h4 h5 h6 => by first | rfl | simp [va_up, h1, h2, h3, h4, h5, h6]⟩⟩ rfl (Nat.le_refl _) (Nat.le_refl _)
            · -- 51f
              have hsm : sm (fun j => cnt v l1 (r1 + 1) (ofR v l1 (r1 + 1) t j)) 0 (i + 1) = sm (fun j => cnt v l1 (r1 + 1) (ofR v l1 (r1 + 1) t j)) 0 i + cnt v l1 (r1 + 1) (ofR v l1 (r1 + 1) t i) := sm_succ _ (Nat.zero_le i)
              have hwi := RKS_ofR pE_18 pR_35 (show i < k_18 by omega)
              have hof := ofR_spec (t := t) pE_18 (i := i) (by omega)
              have hwl : w_35 i < 1000 := by rw [hwi]; exact hof.1
              have hci : cnt v l1 (r1 + 1) (w_35 i) = cnt v l1 (r1 + 1) (ofR v l1 (r1 + 1) t i) := by rw [hwi]
              refine z_iload hC 54 hl dX1_peeled_54 4 rfl ?_
              refine z_aload_n hC 56 hl dX1_peeled_56 rfl 0 rfl ?_
              refine z_aload_n hC 57 hl dX1_peeled_57 rfl 0 rfl ?_
              refine zp_get (v := .ref (ad 15)) hC (va_P_l hH.1) 58 in_X1 rfl 15 (by decide) q225 0 rfl (rfl) dX1_peeled_58 ?_
              refine z_iload hC 61 hl dX1_peeled_61 5 rfl ?_
              refine zp_iald (f := (cI (k_18) w_35 gu_18)) (x := ((w_35 i : Nat) : Int)) hC (va_P_l hH.1) 63 6 (i) rfl (by decide) (by omega) (by omega) ((cI_lt (by omega))) dX1_peeled_63 ?_
              refine zp_back (zp_runV hC (hH.2.2) hl.1 (va_P_l hH.1) 1 (As := [.int (iZ (((w_35 i : Nat) : Int)))]) (rest := [.int (iZ ((r1 : Int) - (l1 : Int) - ((sm (fun j => cnt v l1 (r1 + 1) (ofR v l1 (r1 + 1) t j)) 0 i : Nat) : Int) + 1))]) (u_X1_of lau s0 G ad (va_up F 17 ((k_18 : Int))) (va_up (va_up Ar 15 (cI (k_18) w_35 gu_18)) 16 zZ) kp pl (w_35 i) (pr (w_35 i)) nw (by first | assumption | omega) (by first | exact hpl | (first | assumption | exact hpl _ (by omega)) | assumption | omega) (by first | exact hnw | assumption | omega)) (lw_V q736 q738 qs17 q89 q739) ⟨rfl, by decide, by decide, by decide +kernel⟩ (q0 := 0) (ci := 1) rfl rfl rfl rfl (Nat.le_of_ble_eq_true rfl) ⟨Nat.le_of_ble_eq_true rfl, Nat.le_of_ble_eq_true rfl⟩ ⟨by first | decide | omega, by first | decide | omega⟩ dX1_peeled_64) (fun _ hpost => ?_)
              refine z_st (st' := [.ref ((pr (w_35 i))), .int (iZ ((r1 : Int) - (l1 : Int) - ((sm (fun j => cnt v l1 (r1 + 1) (ofR v l1 (r1 + 1) t j)) 0 i : Nat) : Int) + 1))]) rfl ?_
              refine z_iload_n hC 67 hl dX1_peeled_67 rfl 1 rfl ?_
              refine z_iload_n hC 68 hl dX1_peeled_68 rfl 2 rfl ?_
              refine z_st (st' := [.int (iZ (((r1 + 1 : Nat) : Int) - 1)), .int (iZ ((l1 : Int))), .ref ((pr (w_35 i))), .int (iZ ((r1 : Int) - (l1 : Int) - ((sm (fun j => cnt v l1 (r1 + 1) (ofR v l1 (r1 + 1) t j)) 0 i : Nat) : Int) + 1))]) (zcons (zieq (by omega)) (zcons rfl rfl)) ?_
              refine zp_back (zw_run hC (hH.2.2) hl.1 ((dWp hH hpp (y := (w_35 i)) (by omega))) 2 (As := [.int (iZ ((l1 : Int))), .int (iZ (((r1 + 1 : Nat) : Int) - 1))]) (rest := [.int (iZ ((r1 : Int) - (l1 : Int) - ((sm (fun j => cnt v l1 (r1 + 1) (ofR v l1 (r1 + 1) t j)) 0 i : Nat) : Int) + 1))]) (u_X10_within lau s0 G (pr (w_35 i)) (pa ((w_35 i))) (pm ((w_35 i))) (pf ((w_35 i))) n v ((w_35 i)) l1 (r1 + 1) (by first | exact hn | assumption | omega) (by exact hpc _ (by omega)) (by first | exact hlr | assumption | omega) (by first | exact hrn | assumption | omega)) (fun hx0 hO0 => u_X10_within_nw lau s0 G (pr (w_35 i)) (pa ((w_35 i))) (pm ((w_35 i))) (pf ((w_35 i))) n v ((w_35 i)) l1 (r1 + 1) (by first | exact hn | assumption | omega) (by exact hpc _ (by omega)) (by first | exact hlr | assumption | omega) (by first | exact hrn | assumption | omega) hx0 hO0) (lw_V q742 q743 q744 q110 q745) ⟨rfl, by decide, by decide, by decide +kernel⟩ rfl rfl (Nat.le_of_ble_eq_true rfl) ⟨Nat.le_of_ble_eq_true rfl, Nat.le_of_ble_eq_true rfl⟩ ⟨by first | decide | omega, by first | decide | omega⟩ dX1_peeled_69) (fun _ hpost => ?_)
              refine z_st (st' := [.int (iZ (((cnt v l1 (r1 + 1) ((w_35 i)) : Nat) : Int))), .int (iZ ((r1 : Int) - (l1 : Int) - ((sm (fun j => cnt v l1 (r1 + 1) (ofR v l1 (r1 + 1) t j)) 0 i : Nat) : Int) + 1))]) rfl ?_
              refine z_isub (e := (r1 : Int) - (l1 : Int) - ((sm (fun j => cnt v l1 (r1 + 1) (ofR v l1 (r1 + 1) t j)) 0 i : Nat) : Int) - ((cnt v l1 (r1 + 1) ((w_35 i)) : Nat) : Int) + 1) hC 72 dX1_peeled_72 (by omega) ?_
              refine z_istore (lv' := [(4, .int (iZ ((r1 : Int) - (l1 : Int) - ((sm (fun j => cnt v l1 (r1 + 1) (ofR v l1 (r1 + 1) t j)) 0 i : Nat) : Int) - ((cnt v l1 (r1 + 1) ((w_35 i)) : Nat) : Int) + 1))), (0, .ref (ad 99)), (1, .int (iZ ((l1 : Int)))), (2, .int (iZ ((r1 : Int)))), (3, .int (iZ ((k1 : Int)))), (5, .int (iZ ((i : Int))))]) hC 73 hl dX1_peeled_73 (by decide) rfl (fun ls hl => ?_)
              refine z_iinc (lv' := [(5, .int (iZ ((i : Int) + 1))), (4, .int (iZ ((r1 : Int) - (l1 : Int) - ((sm (fun j => cnt v l1 (r1 + 1) (ofR v l1 (r1 + 1) t j)) 0 i : Nat) : Int) - ((cnt v l1 (r1 + 1) ((w_35 i)) : Nat) : Int) + 1))), (0, .ref (ad 99)), (1, .int (iZ ((l1 : Int)))), (2, .int (iZ ((r1 : Int)))), (3, .int (iZ ((k1 : Int))))]) hC 75 hl dX1_peeled_75 5 rfl (by omega) (by decide) rfl (fun ls hl => ?_)
              refine z_goto hC 78 48 dX1_peeled_78 rfl ?_
              -- J48.2
              exact ih48 (i + 1) _ _ _ (by omega) (by first | assumption | omega) hH (z_lv (lv_sub hl [2, 3, 4, 5, 1, 0] rfl) (zcons rfl (zcons rfl (zcons rfl (zcons rfl (zcons (zpeq (by omega)) (zcons (zpeq (by omega)) rfl)))))))
        -- J48.3
        exact L48 _ 0 _ _ _ (Nat.lt_succ_self _) (by first | assumption | omega) hH (z_lv (lv_sub hl [2, 3, 4, 5, 1, 0] rfl) (zcons rfl (zcons rfl (zcons rfl (zcons rfl (zcons (zpeq (by omega)) (zcons (zpeq (by omega)) rfl)))))))
      · -- 26f
        refine z_bipush hC 29 dX1_peeled_29 rfl ?_
        -- R31.4
        exact z_iret hC hH hQ 31 (((-2), (va_up F 17 ((k_18 : Int))), (va_up (va_up Ar 15 (cI (k_18) u_18 gu_18)) 16 zZ))) dX1_peeled_31 rfl ⟨by (unfold Sp_peeled; rw [if_pos (by omega)]; simp only [Int.toNat_natCast, zt1]; rw [← hds, if_pos (by omega)] <;> trivial), by first | assumption | exact ⟨fun k h1 h2 h3 h4 h5 => by first | rfl | (simp [va_up, h1, h2, h3, h4, h5]; done) | (simp [va_up, h1, h2, h3, h4, h5]; intro e9; rw [e9, hFn]), fun k h1 h2 h3 h4 h5 h6 => by first | rfl | simp [va_up, h1, h2, h3, h4, h5, h6]⟩⟩ rfl (Nat.le_refl _) (Nat.le_refl _)
    · -- 10f
      refine z_iconst hC 13 dX1_peeled_13 ?_
      -- R14.5
      exact z_iret hC hH hQ 14 (((-1), F, (va_up Ar 16 zZ))) dX1_peeled_14 rfl ⟨by first | (unfold Sp_peeled; rw [if_neg (by omega)]) | (unfold Sp_peeled; rw [if_pos (by omega)]; (try simp only [Int.toNat_natCast, zt1]); first | done | trivial | rfl | omega | (rw [if_pos (by omega)]; first | done | trivial | rfl | omega) | (rw [if_neg (by omega)]; first | done | trivial | rfl | omega)), by first | assumption | exact ⟨fun k h1 h2 h3 h4 h5 => by first | rfl | (simp [va_up, h1, h2, h3, h4, h5]; done) | (simp [va_up, h1, h2, h3, h4, h5]; intro e9; rw [e9, hFn]), fun k h1 h2 h3 h4 h5 h6 => by first | rfl | simp [va_up, h1, h2, h3, h4, h5, h6]⟩⟩ rfl (Nat.le_refl _) (Nat.le_refl _)
  · -- 3=0
    refine z_if_eq_t hC 6 13 dX1_peeled_6 rfl (by omega) (by omega) ?_
    refine z_iconst hC 13 dX1_peeled_13 ?_
    -- R14.6
    exact z_iret hC hH hQ 14 (((-1), F, (va_up Ar 16 zZ))) dX1_peeled_14 rfl ⟨by first | (unfold Sp_peeled; rw [if_neg (by omega)]) | (unfold Sp_peeled; rw [if_pos (by omega)]; (try simp only [Int.toNat_natCast, zt1]); first | done | trivial | rfl | omega | (rw [if_pos (by omega)]; first | done | trivial | rfl | omega) | (rw [if_neg (by omega)]; first | done | trivial | rfl | omega)), by first | assumption | exact ⟨fun k h1 h2 h3 h4 h5 => by first | rfl | (simp [va_up, h1, h2, h3, h4, h5]; done) | (simp [va_up, h1, h2, h3, h4, h5]; intro e9; rw [e9, hFn]), fun k h1 h2 h3 h4 h5 h6 => by first | rfl | simp [va_up, h1, h2, h3, h4, h5, h6]⟩⟩ rfl (Nat.le_refl _) (Nat.le_refl _)

set_option maxHeartbeats 4000000 in
set_option maxRecDepth 100000 in
theorem m_X1_agree (lau : Launch) (s0 : State) (G : zG) (sz : Nat) (ad : Nat → Nat) (F : Nat → Int) (Ar : Nat → Nat → Int) (kp : Nat → Nat) (pl : Nat → Option Nat) (PW : va_W) (n : Nat) (v : Nat → Nat) (pr : Nat → Nat) (pa : Nat → Nat) (pm : Nat → Nat) (pf : Nat → Nat → Nat) (nw : Nat) (b : Nat) (t : Nat) (l : Int) (m : Int) (r : Int) (hn : n ≤ 120) (hFn : F 200 = (n : Int)) (hv : ∀ i, i < n → v i < 1000) (hAv : ∀ i, i < n → Ar 201 i = (v i : Int)) (hb : 2 ≤ b ∧ b ≤ 20) (hFb : F 7 = (b : Int)) (ht : t < 4) (hFt : F 8 = (t : Int)) (hpl : ∀ y, y < 1000 → (pl y = some (pr y) ∨ (pl y = none ∧ pr y = nw))) (hnw : zNwh s0 nw) (hpc : ∀ y, y < 1000 → PlC n v y (pm y) (pf y)) (hpp : zPool s0 G PW pr pa pm pf) (hmo : ∀ i j, i ≤ j → b * j < n → Ar 12 (60 * i + j) = (md v (b * i) (bEnd b j n) t : Int)) (hr_l : -2147483648 ≤ l ∧ l < 2147483648) (hr_m : -2147483648 ≤ m ∧ m < 2147483648) (hr_r : -2147483648 ≤ r ∧ r < 2147483648) : zMet (S := Int × (Nat → Int) × (Nat → Nat → Int)) lau yX1_agree cX1_agree 4 (some .int) 6 143 0 0 s0 G sz [.ref (ad 99), .int (iZ (l)), .int (iZ (m)), .int (iZ (r))] (dW ad G F (va_up Ar 16 zZ) kp pl PW) (fun ((r_, F2, A2) : Int × (Nat → Int) × (Nat → Nat → Int)) => some (.int (iZ (r_)))) (fun ((r_, F2, A2) : Int × (Nat → Int) × (Nat → Nat → Int)) => (Sp_agree n v t l m r r_) ∧ (DK F (va_up Ar 16 zZ) F2 A2)) (fun ((r_, F2, A2) : Int × (Nat → Int) × (Nat → Nat → Int)) => (dW ad G F2 A2 kp pl PW)) := by
  refine zMet.of (by decide) (Nat.le_of_ble_eq_true rfl) ?_
  intro pg ev s1 mi ar bl me cd ls Q as0 hC hH hl hQ hsz
  generalize s1.heap = H at hH ⊢
  generalize ([] : List Loc) = locs at hH ⊢
  have hl : lv_has ls 4 [(0, .ref (ad 99)), (1, .int (iZ (l))), (2, .int (iZ (m))), (3, .int (iZ (r)))] := hl
  refine z_aload_n hC 0 hl dX1_agree_0 rfl 0 rfl ?_
  refine z_iload_n hC 1 hl dX1_agree_1 rfl 1 rfl ?_
  refine z_iload_n hC 2 hl dX1_agree_2 rfl 2 rfl ?_
  refine zp_back (zp_runV hC (hH.2.2) hl.1 (va_P_l hH.1) 2 (As := [.int (iZ (l)), .int (iZ (m))]) (rest := []) (u_X1_isSpan lau s0 G ad F (va_up Ar 16 zZ) kp pl n l m (by first | exact hn | assumption | omega) (by first | exact hFn | assumption | omega) (by first | assumption | omega) (by first | assumption | omega)) (lw_V q864 q866 qs26 q89 q867) ⟨rfl, by decide, by decide, by decide +kernel⟩ (q0 := 0) (ci := 1) rfl rfl rfl rfl (Nat.le_of_ble_eq_true rfl) ⟨Nat.le_of_ble_eq_true rfl, Nat.le_of_ble_eq_true rfl⟩ ⟨by first | decide | omega, by first | decide | omega⟩ dX1_agree_3) (fun r_3 hpost => ?_)
  have hb_3 : (r_3 = 1 ∧ (0 ≤ l ∧ l ≤ m ∧ m < (n : Int))) ∨ (r_3 = 0 ∧ ¬ (0 ≤ l ∧ l ≤ m ∧ m < (n : Int))) := hpost
  refine z_st (st' := [.int (iZ (r_3))]) rfl ?_
  rcases hb_3 with ⟨rfl, hb_3⟩ | ⟨rfl, hb_3⟩
  · -- 3=1
    refine z_if_eq_f hC 6 20 dX1_agree_6 rfl (by omega) (by omega) ?_
    refine z_aload_n hC 9 hl dX1_agree_9 rfl 0 rfl ?_
    refine z_iload_n hC 10 hl dX1_agree_10 rfl 2 rfl ?_
    refine z_iconst hC 11 dX1_agree_11 ?_
    refine z_iadd (e := m + 1) hC 12 dX1_agree_12 rfl ?_
    refine z_iload_n hC 13 hl dX1_agree_13 rfl 3 rfl ?_
    refine z_st (st' := [.int (iZ (r)), .int (iZ ((m + 1))), .ref (ad 99)]) (zcons rfl (zcons (zieq (by omega)) rfl)) ?_
    refine zp_back (zp_runV hC (hH.2.2) hl.1 (va_P_l hH.1) 2 (As := [.int (iZ ((m + 1))), .int (iZ (r))]) (rest := []) (u_X1_isSpan lau s0 G ad F (va_up Ar 16 zZ) kp pl n (m + 1) r (by first | exact hn | assumption | omega) (by first | exact hFn | assumption | omega) (by first | assumption | omega) (by first | assumption | omega)) (lw_V q864 q866 qs26 q89 q867) ⟨rfl, by decide, by decide, by decide +kernel⟩ (q0 := 0) (ci := 1) rfl rfl rfl rfl (Nat.le_of_ble_eq_true rfl) ⟨Nat.le_of_ble_eq_true rfl, Nat.le_of_ble_eq_true rfl⟩ ⟨by first | decide | omega, by first | decide | omega⟩ dX1_agree_14) (fun r_14 hpost => ?_)
    have hb_14 : (r_14 = 1 ∧ (0 ≤ (m + 1) ∧ (m + 1) ≤ r ∧ r < (n : Int))) ∨ (r_14 = 0 ∧ ¬ (0 ≤ (m + 1) ∧ (m + 1) ≤ r ∧ r < (n : Int))) := hpost
    refine z_st (st' := [.int (iZ (r_14))]) rfl ?_
    rcases hb_14 with ⟨rfl, hb_14⟩ | ⟨rfl, hb_14⟩
    · -- 14=1
      refine z_if_ne_t hC 17 22 dX1_agree_17 rfl (by omega) (by omega) ?_
      obtain ⟨l1, rfl⟩ := Int.eq_ofNat_of_zero_le (show 0 ≤ l by omega)
      obtain ⟨m1, rfl⟩ := Int.eq_ofNat_of_zero_le (show 0 ≤ m by omega)
      obtain ⟨r1, rfl⟩ := Int.eq_ofNat_of_zero_le (show 0 ≤ r by omega)
      refine z_aload_n hC 22 hl dX1_agree_22 rfl 0 rfl ?_
      refine z_iload_n hC 23 hl dX1_agree_23 rfl 1 rfl ?_
      refine z_iload_n hC 24 hl dX1_agree_24 rfl 2 rfl ?_
      refine z_st (st' := [.int (iZ (((m1 + 1 : Nat) : Int) - 1)), .int (iZ ((l1 : Int))), .ref (ad 99)]) (zcons (zieq (by omega)) (zcons rfl rfl)) ?_
      refine z_same (z_runV hC hH.2.2 hl.1 hH.1 hH.2.1 2 (As := [.int (iZ ((l1 : Int))), .int (iZ (((m1 + 1 : Nat) : Int) - 1))]) (rest := []) (m_X1_modeOf lau s0 G _ ad F (va_up Ar 16 zZ) kp pl PW n v pr pa pm pf nw b t l1 (m1 + 1) (by first | exact hn | assumption | omega) (by first | exact hFn | assumption | omega) (by first | exact hv | assumption | omega) (by first | exact hAv | assumption | omega) (by first | exact hb | assumption | omega) (by first | exact hFb | assumption | omega) (by first | exact ht | assumption | omega) (by first | exact hFt | assumption | omega) (by first | exact hpl | assumption | omega) (by first | exact hnw | assumption | omega) (by first | exact hpc | assumption | omega) (by first | exact hpp | assumption | omega) (by first | exact hmo | assumption | omega) (by first | exact hlr | assumption | omega) (by first | exact hrn | assumption | omega)) (lw_V q1040 q991 qs27 q89 q992) ⟨rfl, by decide, by decide, by decide +kernel⟩ (q0 := 0) (ci := 1) rfl rfl rfl rfl (Nat.le_of_ble_eq_true rfl) ⟨Nat.le_of_ble_eq_true rfl, Nat.le_of_ble_eq_true rfl⟩ ⟨Nat.le_of_ble_eq_true rfl, Nat.le_of_ble_eq_true rfl⟩ dX1_agree_25) hH (fun u_ H locs hpost hH => ?_)
      obtain ⟨k_25, u_25, gu_25⟩ := u_
      have hH : zH s0 s1 G as0 (dW ad G (va_up F 17 ((k_25 : Int))) (va_up (va_up Ar 15 (cI (k_25) u_25 gu_25)) 16 zZ) kp pl PW) H locs := hH
      refine z_st (st' := [.int (iZ (((md v l1 (m1 + 1) t : Nat) : Int)))]) rfl ?_
      refine z_aload_n hC 28 hl dX1_agree_28 rfl 0 rfl ?_
      refine z_iload_n hC 29 hl dX1_agree_29 rfl 2 rfl ?_
      refine z_iconst hC 30 dX1_agree_30 ?_
      refine z_iadd (e := (m1 : Int) + 1) hC 31 dX1_agree_31 rfl ?_
      refine z_iload_n hC 32 hl dX1_agree_32 rfl 3 rfl ?_
      refine z_st (st' := [.int (iZ (((r1 + 1 : Nat) : Int) - 1)), .int (iZ (((m1 + 1 : Nat) : Int))), .ref (ad 99), .int (iZ (((md v l1 (m1 + 1) t : Nat) : Int)))]) (zcons (zieq (by omega)) (zcons (zieq (by omega)) rfl)) ?_
      refine z_same (z_runV hC hH.2.2 hl.1 hH.1 hH.2.1 2 (As := [.int (iZ (((m1 + 1 : Nat) : Int))), .int (iZ (((r1 + 1 : Nat) : Int) - 1))]) (rest := [.int (iZ (((md v l1 (m1 + 1) t : Nat) : Int)))]) (m_X1_modeOf lau s0 G _ ad (va_up F 17 ((k_25 : Int))) (va_up (va_up Ar 15 (cI (k_25) u_25 gu_25)) 16 zZ) kp pl PW n v pr pa pm pf nw b t (m1 + 1) (r1 + 1) (by first | exact hn | assumption | omega) (by first | exact hFn | assumption | omega) (by first | exact hv | assumption | omega) (by first | exact hAv | assumption | omega) (by first | exact hb | assumption | omega) (by first | exact hFb | assumption | omega) (by first | exact ht | assumption | omega) (by first | exact hFt | assumption | omega) (by first | exact hpl | assumption | omega) (by first | exact hnw | assumption | omega) (by first | exact hpc | assumption | omega) (by first | exact hpp | assumption | omega) (by first | exact hmo | assumption | omega) (by first | exact hlr | assumption | omega) (by first | exact hrn | assumption | omega)) (lw_V q1040 q991 qs27 q89 q992) ⟨rfl, by decide, by decide, by decide +kernel⟩ (q0 := 0) (ci := 1) rfl rfl rfl rfl (Nat.le_of_ble_eq_true rfl) ⟨Nat.le_of_ble_eq_true rfl, Nat.le_of_ble_eq_true rfl⟩ ⟨Nat.le_of_ble_eq_true rfl, Nat.le_of_ble_eq_true rfl⟩ dX1_agree_33) hH (fun u_ H locs hpost hH => ?_)
      obtain ⟨k_33, u_33, gu_33⟩ := u_
      have hH : zH s0 s1 G as0 (dW ad G (va_up F 17 ((k_33 : Int))) (va_up (va_up Ar 15 (cI (k_33) u_33 gu_33)) 16 zZ) kp pl PW) H locs := hH
      refine z_st (st' := [.int (iZ (((md v (m1 + 1) (r1 + 1) t : Nat) : Int))), .int (iZ (((md v l1 (m1 + 1) t : Nat) : Int)))]) rfl ?_
      have hm1 := md_lt_1000 v l1 (m1 + 1) t
      have hm2 := md_lt_1000 v (m1 + 1) (r1 + 1) t
      refine z_icmp_ne hC 36 43 dX1_agree_36 rfl (by omega) (by omega) (fun hb1 => ?_) (fun hb1 => ?_)
      · -- 36t
        refine z_iconst hC 43 dX1_agree_43 ?_
        -- R44.1
        exact z_iret hC hH hQ 44 ((0, (va_up F 17 ((k_33 : Int))), (va_up (va_up Ar 15 (cI (k_33) u_33 gu_33)) 16 zZ))) dX1_agree_44 rfl ⟨by first | (unfold Sp_agree; rw [if_neg (by omega)]) | (unfold Sp_agree; rw [if_pos (by omega)]; (try simp only [Int.toNat_natCast, zt1]); first | done | trivial | rfl | omega | (rw [if_pos (by omega)]; first | done | trivial | rfl | omega) | (rw [if_neg (by omega)]; first | done | trivial | rfl | omega)), by first | assumption | exact ⟨fun k h1 h2 h3 h4 h5 => by first | rfl | (simp [va_up, h1, h2, h3, h4, h5]; done) | (simp [va_up, h1, h2, h3, h4, h5]; intro e9; rw [e9, hFn]), fun k h1 h2 h3 h4 h5 h6 => by first | rfl | simp [va_up, h1, h2, h3, h4, h5, h6]⟩⟩ rfl (Nat.le_refl _) (Nat.le_refl _)
      · -- 36f
        refine z_iconst hC 39 dX1_agree_39 ?_
        refine z_goto hC 40 44 dX1_agree_40 rfl ?_
        -- R44.2
        exact z_iret hC hH hQ 44 ((1, (va_up F 17 ((k_33 : Int))), (va_up (va_up Ar 15 (cI (k_33) u_33 gu_33)) 16 zZ))) dX1_agree_44 rfl ⟨by first | (unfold Sp_agree; rw [if_neg (by omega)]) | (unfold Sp_agree; rw [if_pos (by omega)]; (try simp only [Int.toNat_natCast, zt1]); first | done | trivial | rfl | omega | (rw [if_pos (by omega)]; first | done | trivial | rfl | omega) | (rw [if_neg (by omega)]; first | done | trivial | rfl | omega)), by first | assumption | exact ⟨fun k h1 h2 h3 h4 h5 => by first | rfl | (simp [va_up, h1, h2, h3, h4, h5]; done) | (simp [va_up, h1, h2, h3, h4, h5]; intro e9; rw [e9, hFn]), fun k h1 h2 h3 h4 h5 h6 => by first | rfl | simp [va_up, h1, h2, h3, h4, h5, h6]⟩⟩ rfl (Nat.le_refl _) (Nat.le_refl _)
    · -- 14=0
      refine z_if_ne_f hC 17 22 dX1_agree_17 rfl (by omega) (by omega) ?_
      refine z_iconst hC 20 dX1_agree_20 ?_
      -- R21.3
      exact z_iret hC hH hQ 21 (((-1), F, (va_up Ar 16 zZ))) dX1_agree_21 rfl ⟨by first | (unfold Sp_agree; rw [if_neg (by omega)]) | (unfold Sp_agree; rw [if_pos (by omega)]; (try simp only [Int.toNat_natCast, zt1]); first | done | trivial | rfl | omega | (rw [if_pos (by omega)]; first | done | trivial | rfl | omega) | (rw [if_neg (by omega)]; first | done | trivial | rfl | omega)), by first | assumption | exact ⟨fun k h1 h2 h3 h4 h5 => by first | rfl | (simp [va_up, h1, h2, h3, h4, h5]; done) | (simp [va_up, h1, h2, h3, h4, h5]; intro e9; rw [e9, hFn]), fun k h1 h2 h3 h4 h5 h6 => by first | rfl | simp [va_up, h1, h2, h3, h4, h5, h6]⟩⟩ rfl (Nat.le_refl _) (Nat.le_refl _)
  · -- 3=0
    refine z_if_eq_t hC 6 20 dX1_agree_6 rfl (by omega) (by omega) ?_
    refine z_iconst hC 20 dX1_agree_20 ?_
    -- R21.4
    exact z_iret hC hH hQ 21 (((-1), F, (va_up Ar 16 zZ))) dX1_agree_21 rfl ⟨by first | (unfold Sp_agree; rw [if_neg (by omega)]) | (unfold Sp_agree; rw [if_pos (by omega)]; (try simp only [Int.toNat_natCast, zt1]); first | done | trivial | rfl | omega | (rw [if_pos (by omega)]; first | done | trivial | rfl | omega) | (rw [if_neg (by omega)]; first | done | trivial | rfl | omega)), by first | assumption | exact ⟨fun k h1 h2 h3 h4 h5 => by first | rfl | (simp [va_up, h1, h2, h3, h4, h5]; done) | (simp [va_up, h1, h2, h3, h4, h5]; intro e9; rw [e9, hFn]), fun k h1 h2 h3 h4 h5 h6 => by first | rfl | simp [va_up, h1, h2, h3, h4, h5, h6]⟩⟩ rfl (Nat.le_refl _) (Nat.le_refl _)

set_option maxHeartbeats 4000000 in
set_option maxRecDepth 100000 in
theorem m_X1_ifTies (lau : Launch) (s0 : State) (G : zG) (sz : Nat) (ad : Nat → Nat) (F : Nat → Int) (Ar : Nat → Nat → Int) (kp : Nat → Nat) (pl : Nat → Option Nat) (PW : va_W) (n : Nat) (v : Nat → Nat) (pr : Nat → Nat) (pa : Nat → Nat) (pm : Nat → Nat) (pf : Nat → Nat → Nat) (nw : Nat) (b : Nat) (t : Nat) (ti : Int) (l : Int) (r : Int) (hn : n ≤ 120) (hFn : F 200 = (n : Int)) (hv : ∀ i, i < n → v i < 1000) (hAv : ∀ i, i < n → Ar 201 i = (v i : Int)) (hb : 2 ≤ b ∧ b ≤ 20) (hFb : F 7 = (b : Int)) (ht : t < 4) (hFt : F 8 = (t : Int)) (hpl : ∀ y, y < 1000 → (pl y = some (pr y) ∨ (pl y = none ∧ pr y = nw))) (hnw : zNwh s0 nw) (hpc : ∀ y, y < 1000 → PlC n v y (pm y) (pf y)) (hpp : zPool s0 G PW pr pa pm pf) (hmo : ∀ i j, i ≤ j → b * j < n → Ar 12 (60 * i + j) = (md v (b * i) (bEnd b j n) t : Int)) (hr_ti : -2147483648 ≤ ti ∧ ti < 2147483648) (hr_l : -2147483648 ≤ l ∧ l < 2147483648) (hr_r : -2147483648 ≤ r ∧ r < 2147483648) : zMet (S := Int × (Nat → Int) × (Nat → Nat → Int)) lau yX1_ifTies cX1_ifTies 4 (some .int) 5 121 0 0 s0 G sz [.ref (ad 99), .int (iZ (ti)), .int (iZ (l)), .int (iZ (r))] (dW ad G F (va_up Ar 16 zZ) kp pl PW) (fun ((r_, F2, A2) : Int × (Nat → Int) × (Nat → Nat → Int)) => some (.int (iZ (r_)))) (fun ((r_, F2, A2) : Int × (Nat → Int) × (Nat → Nat → Int)) => (Sp_ifTies n v ti l r r_) ∧ (DK F (va_up Ar 16 zZ) F2 A2)) (fun ((r_, F2, A2) : Int × (Nat → Int) × (Nat → Nat → Int)) => (dW ad G F2 A2 kp pl PW)) := by
  refine zMet.of (by decide) (Nat.le_of_ble_eq_true rfl) ?_
  intro pg ev s1 mi ar bl me cd ls Q as0 hC hH hl hQ hsz
  generalize s1.heap = H at hH ⊢
  generalize ([] : List Loc) = locs at hH ⊢
  have hl : lv_has ls 4 [(0, .ref (ad 99)), (1, .int (iZ (ti))), (2, .int (iZ (l))), (3, .int (iZ (r)))] := hl
  refine z_iload_n hC 0 hl dX1_ifTies_0 rfl 1 rfl ?_
  refine z_i2l hC 1 dX1_ifTies_1 (by omega) ?_
  refine z_lconst (a := 0) hC 2 dX1_ifTies_2 rfl ?_
  refine z_ldc2 (a := 3) hC 3 q1039 rfl dX1_ifTies_3 ?_
  refine zp_back (zp_runS hC (hH.2.2) hl.1 (zp_nil) 3 (As := [.long (lZ (ti)), .long (lZ (0)), .long (lZ (3))]) (rest := []) (u_X1_isIn lau s0 G ti 0 3 (by first | assumption | omega) (by first | assumption | omega) (by first | assumption | omega)) (lw_S q303 q304 q89 q305) ⟨by decide, by decide, by decide +kernel⟩ rfl rfl (Nat.le_of_ble_eq_true rfl) ⟨Nat.le_of_ble_eq_true rfl, Nat.le_of_ble_eq_true rfl⟩ ⟨by first | decide | omega, by first | decide | omega⟩ dX1_ifTies_6) (fun r_6 hpost => ?_)
  have hb_6 : (r_6 = 1 ∧ ((0 : Int) ≤ ti ∧ ti ≤ (3 : Int))) ∨ (r_6 = 0 ∧ ¬ ((0 : Int) ≤ ti ∧ ti ≤ (3 : Int))) := hpost
  refine z_st (st' := [.int (iZ (r_6))]) rfl ?_
  rcases hb_6 with ⟨rfl, hb_6⟩ | ⟨rfl, hb_6⟩
  · -- 6=1
    refine z_if_eq_f hC 9 21 dX1_ifTies_9 rfl (by omega) (by omega) ?_
    refine z_aload_n hC 12 hl dX1_ifTies_12 rfl 0 rfl ?_
    refine z_iload_n hC 13 hl dX1_ifTies_13 rfl 2 rfl ?_
    refine z_iload_n hC 14 hl dX1_ifTies_14 rfl 3 rfl ?_
    refine zp_back (zp_runV hC (hH.2.2) hl.1 (va_P_l hH.1) 2 (As := [.int (iZ (l)), .int (iZ (r))]) (rest := []) (u_X1_isSpan lau s0 G ad F (va_up Ar 16 zZ) kp pl n l r (by first | exact hn | assumption | omega) (by first | exact hFn | assumption | omega) (by first | assumption | omega) (by first | assumption | omega)) (lw_V q864 q866 qs26 q89 q867) ⟨rfl, by decide, by decide, by decide +kernel⟩ (q0 := 0) (ci := 1) rfl rfl rfl rfl (Nat.le_of_ble_eq_true rfl) ⟨Nat.le_of_ble_eq_true rfl, Nat.le_of_ble_eq_true rfl⟩ ⟨by first | decide | omega, by first | decide | omega⟩ dX1_ifTies_15) (fun r_15 hpost => ?_)
    have hb_15 : (r_15 = 1 ∧ (0 ≤ l ∧ l ≤ r ∧ r < (n : Int))) ∨ (r_15 = 0 ∧ ¬ (0 ≤ l ∧ l ≤ r ∧ r < (n : Int))) := hpost
    refine z_st (st' := [.int (iZ (r_15))]) rfl ?_
    rcases hb_15 with ⟨rfl, hb_15⟩ | ⟨rfl, hb_15⟩
    · -- 15=1
      refine z_if_ne_t hC 18 23 dX1_ifTies_18 rfl (by omega) (by omega) ?_
      obtain ⟨ti1, rfl⟩ := Int.eq_ofNat_of_zero_le (show 0 ≤ ti by omega)
      obtain ⟨l1, rfl⟩ := Int.eq_ofNat_of_zero_le (show 0 ≤ l by omega)
      obtain ⟨r1, rfl⟩ := Int.eq_ofNat_of_zero_le (show 0 ≤ r by omega)
      refine z_aload_n hC 23 hl dX1_ifTies_23 rfl 0 rfl ?_
      refine z_iload_n hC 24 hl dX1_ifTies_24 rfl 2 rfl ?_
      refine z_iload_n hC 25 hl dX1_ifTies_25 rfl 3 rfl ?_
      refine z_st (st' := [.int (iZ (((r1 + 1 : Nat) : Int) - 1)), .int (iZ ((l1 : Int))), .ref (ad 99)]) (zcons (zieq (by omega)) (zcons rfl rfl)) ?_
      refine z_same (z_runV hC hH.2.2 hl.1 hH.1 hH.2.1 2 (As := [.int (iZ ((l1 : Int))), .int (iZ (((r1 + 1 : Nat) : Int) - 1))]) (rest := []) (m_X1_laysAll lau s0 G _ ad F (va_up Ar 16 zZ) kp pl PW n v l1 (r1 + 1) (by first | exact hn | assumption | omega) (by first | exact hFn | assumption | omega) (by first | exact hv | assumption | omega) (by first | exact hAv | assumption | omega) (by first | exact hlr | assumption | omega) (by first | exact hrn | assumption | omega)) (lw_V q1051 q1053 qs35 q89 q1054) ⟨rfl, by decide, by decide, by decide +kernel⟩ (q0 := 0) (ci := 1) rfl rfl rfl rfl (Nat.le_of_ble_eq_true rfl) ⟨Nat.le_of_ble_eq_true rfl, Nat.le_of_ble_eq_true rfl⟩ ⟨Nat.le_of_ble_eq_true rfl, Nat.le_of_ble_eq_true rfl⟩ dX1_ifTies_26) hH (fun u_ H locs hpost hH => ?_)
      obtain ⟨k_26, u_26, gu_26⟩ := u_
      have pE_26 : EN v l1 (r1 + 1) k_26 u_26 := hpost
      have hH : zH s0 s1 G as0 (dW ad G (va_up F 17 ((k_26 : Int))) (va_up (va_up Ar 15 (cI (k_26) u_26 gu_26)) 16 zZ) kp pl PW) H locs := hH
      refine z_st (st' := []) rfl ?_
      refine z_aload_n hC 29 hl dX1_ifTies_29 rfl 0 rfl ?_
      refine z_iload_n hC 30 hl dX1_ifTies_30 rfl 2 rfl ?_
      refine z_iload_n hC 31 hl dX1_ifTies_31 rfl 3 rfl ?_
      refine z_iload_n hC 32 hl dX1_ifTies_32 rfl 1 rfl ?_
      refine z_st (st' := [.int (iZ ((ti1 : Int))), .int (iZ (((r1 + 1 : Nat) : Int) - 1)), .int (iZ ((l1 : Int))), .ref (ad 99)]) (zcons rfl (zcons (zieq (by omega)) (zcons rfl rfl))) ?_
      refine z_same (z_runV hC hH.2.2 hl.1 hH.1 hH.2.1 3 (As := [.int (iZ ((l1 : Int))), .int (iZ (((r1 + 1 : Nat) : Int) - 1)), .int (iZ ((ti1 : Int)))]) (rest := []) (m_X1_bestOf lau s0 G _ ad (va_up F 17 ((k_26 : Int))) (va_up (va_up Ar 15 (cI (k_26) u_26 gu_26)) 16 zZ) kp pl PW n v pr pa pm pf nw k_26 u_26 gu_26 l1 (r1 + 1) ti1 (by first | exact hn | assumption | omega) (by first | exact hFn | assumption | omega) (by first | exact hpl | assumption | omega) (by first | exact hnw | assumption | omega) (by first | exact hpc | assumption | omega) (by first | exact hpp | assumption | omega) (by first | exact hv | assumption | omega) (by first | exact hlr | assumption | omega) (by first | exact hrn | assumption | omega) (by first | exact ht | assumption | omega) (by have := pE_26.1; omega) (by exact EN_CAN pE_26 (fun i hi => hv i (by omega)) (by omega))) (lw_V q1013 q1015 qs33 q89 q1016) ⟨rfl, by decide, by decide, by decide +kernel⟩ (q0 := 0) (ci := 1) rfl rfl rfl rfl (Nat.le_of_ble_eq_true rfl) ⟨Nat.le_of_ble_eq_true rfl, Nat.le_of_ble_eq_true rfl⟩ ⟨Nat.le_of_ble_eq_true rfl, Nat.le_of_ble_eq_true rfl⟩ dX1_ifTies_33) hH (fun _ H locs hpost hH => ?_)
      have hH : zH s0 s1 G as0 (dW ad G (va_up F 17 ((k_26 : Int))) (va_up (va_up Ar 15 (cI (k_26) u_26 gu_26)) 16 zZ) kp pl PW) H locs := hH
      refine z_st (st' := [.int (iZ (((md v l1 (r1 + 1) ti1 : Nat) : Int)))]) rfl ?_
      -- R36.1
      exact z_iret hC hH hQ 36 ((((md v l1 (r1 + 1) ti1 : Nat) : Int), (va_up F 17 ((k_26 : Int))), (va_up (va_up Ar 15 (cI (k_26) u_26 gu_26)) 16 zZ))) dX1_ifTies_36 rfl ⟨by first | (unfold Sp_ifTies; rw [if_neg (by omega)]) | (unfold Sp_ifTies; rw [if_pos (by omega)]; (try simp only [Int.toNat_natCast, zt1]); first | done | trivial | rfl | omega | (rw [if_pos (by omega)]; first | done | trivial | rfl | omega) | (rw [if_neg (by omega)]; first | done | trivial | rfl | omega)), by first | assumption | exact ⟨fun k h1 h2 h3 h4 h5 => by first | rfl | (simp [va_up, h1, h2, h3, h4, h5]; done) | (simp [va_up, h1, h2, h3, h4, h5]; intro e9; rw [e9, hFn]), fun k h1 h2 h3 h4 h5 h6 => by first | rfl | simp [va_up, h1, h2, h3, h4, h5, h6]⟩⟩ rfl (Nat.le_refl _) (Nat.le_refl _)
    · -- 15=0
      refine z_if_ne_f hC 18 23 dX1_ifTies_18 rfl (by omega) (by omega) ?_
      refine z_iconst hC 21 dX1_ifTies_21 ?_
      -- R22.2
      exact z_iret hC hH hQ 22 (((-1), F, (va_up Ar 16 zZ))) dX1_ifTies_22 rfl ⟨by first | (unfold Sp_ifTies; rw [if_neg (by omega)]) | (unfold Sp_ifTies; rw [if_pos (by omega)]; (try simp only [Int.toNat_natCast, zt1]); first | done | trivial | rfl | omega | (rw [if_pos (by omega)]; first | done | trivial | rfl | omega) | (rw [if_neg (by omega)]; first | done | trivial | rfl | omega)), by first | assumption | exact ⟨fun k h1 h2 h3 h4 h5 => by first | rfl | (simp [va_up, h1, h2, h3, h4, h5]; done) | (simp [va_up, h1, h2, h3, h4, h5]; intro e9; rw [e9, hFn]), fun k h1 h2 h3 h4 h5 h6 => by first | rfl | simp [va_up, h1, h2, h3, h4, h5, h6]⟩⟩ rfl (Nat.le_refl _) (Nat.le_refl _)
  · -- 6=0
    refine z_if_eq_t hC 9 21 dX1_ifTies_9 rfl (by omega) (by omega) ?_
    refine z_iconst hC 21 dX1_ifTies_21 ?_
    -- R22.3
    exact z_iret hC hH hQ 22 (((-1), F, (va_up Ar 16 zZ))) dX1_ifTies_22 rfl ⟨by first | (unfold Sp_ifTies; rw [if_neg (by omega)]) | (unfold Sp_ifTies; rw [if_pos (by omega)]; (try simp only [Int.toNat_natCast, zt1]); first | done | trivial | rfl | omega | (rw [if_pos (by omega)]; first | done | trivial | rfl | omega) | (rw [if_neg (by omega)]; first | done | trivial | rfl | omega)), by first | assumption | exact ⟨fun k h1 h2 h3 h4 h5 => by first | rfl | (simp [va_up, h1, h2, h3, h4, h5]; done) | (simp [va_up, h1, h2, h3, h4, h5]; intro e9; rw [e9, hFn]), fun k h1 h2 h3 h4 h5 h6 => by first | rfl | simp [va_up, h1, h2, h3, h4, h5, h6]⟩⟩ rfl (Nat.le_refl _) (Nat.le_refl _)

set_option maxHeartbeats 4000000 in
set_option maxRecDepth 100000 in
theorem m_X1_isWide (lau : Launch) (s0 : State) (G : zG) (sz : Nat) (ad : Nat → Nat) (F : Nat → Int) (Ar : Nat → Nat → Int) (kp : Nat → Nat) (pl : Nat → Option Nat) (PW : va_W) (n : Nat) (v : Nat → Nat) (pr : Nat → Nat) (pa : Nat → Nat) (pm : Nat → Nat) (pf : Nat → Nat → Nat) (nw : Nat) (b : Nat) (t : Nat) (w : Nat) (k0 : Int) (hn : n ≤ 120) (hFn : F 200 = (n : Int)) (hv : ∀ i, i < n → v i < 1000) (hAv : ∀ i, i < n → Ar 201 i = (v i : Int)) (hb : 2 ≤ b ∧ b ≤ 20) (hFb : F 7 = (b : Int)) (ht : t < 4) (hFt : F 8 = (t : Int)) (hpl : ∀ y, y < 1000 → (pl y = some (pr y) ∨ (pl y = none ∧ pr y = nw))) (hnw : zNwh s0 nw) (hpc : ∀ y, y < 1000 → PlC n v y (pm y) (pf y)) (hpp : zPool s0 G PW pr pa pm pf) (hmo : ∀ i j, i ≤ j → b * j < n → Ar 12 (60 * i + j) = (md v (b * i) (bEnd b j n) t : Int)) (hw : 1 ≤ w ∧ w ≤ n) (hr_k0 : -2147483648 ≤ k0 ∧ k0 < 2147483648) : zMet (S := Int × Int × (Nat → Int)) lau yX1_isWide cX1_isWide 4 (some .boolean) 7 165 0 0 s0 G sz [.ref (ad 99), .int (iZ ((w : Int))), .int (iZ (k0))] (dW ad G F (va_up Ar 16 zZ) kp pl PW) (fun ((r_, f17, a15) : Int × Int × (Nat → Int)) => some (.int (iZ r_))) (fun ((r_, f17, a15) : Int × Int × (Nat → Int)) => ((r_ = 1 ∧ (WD v t n k0 w)) ∨ (r_ = 0 ∧ ¬ (WD v t n k0 w)))) (fun ((r_, f17, a15) : Int × Int × (Nat → Int)) => (dW ad G (va_up F 17 (f17)) (va_up (va_up Ar 15 a15) 16 zZ) kp pl PW)) := by
  refine zMet.of (by decide) (Nat.le_of_ble_eq_true rfl) ?_
  intro pg ev s1 mi ar bl me cd ls Q as0 hC hH hl hQ hsz
  generalize s1.heap = H at hH ⊢
  generalize ([] : List Loc) = locs at hH ⊢
  have hl : lv_has ls 4 [(0, .ref (ad 99)), (1, .int (iZ ((w : Int)))), (2, .int (iZ (k0)))] := hl
  refine z_iconst hC 0 dX1_isWide_0 ?_
  refine z_istore_n (lv' := [(3, .int (iZ (0))), (0, .ref (ad 99)), (1, .int (iZ ((w : Int)))), (2, .int (iZ (k0)))]) hC 1 hl dX1_isWide_1 rfl (by decide) rfl (fun ls hl => ?_)
  have L2 : ∀ (N_ : Nat) (l : Nat) (f17 : Int) (a15 : Nat → Int) (H : Heap) (locs : List Loc) (ls : Array Slot), n + 1 - w - l < N_ → (l ≤ n + 1 - w) → (∀ l1, l1 < l → l1 + w ≤ n → k0 ≤ (cnt v l1 (l1 + w) (md v l1 (l1 + w) t) : Int)) → zH s0 s1 G as0 (dW ad G (va_up F 17 (f17)) (va_up (va_up Ar 15 a15) 16 zZ) kp pl PW) H locs → lv_has ls 4 [(0, .ref (ad 99)), (1, .int (iZ ((w : Int)))), (2, .int (iZ (k0))), (3, .int (iZ ((l : Int))))] → W pg lau ev (zRm 7 0 0 165) s1 mi ar bl me cd H locs 0 0 Q (F0 mi 2 ls []) := by
    intro N_
    induction N_ with
    | zero => intro l f17 a15 H locs ls hd; exact absurd hd (Nat.not_lt_zero _)
    | succ N_ ih2 =>
      intro l f17 a15 H locs ls hd2 i2_1 il hH hl
      refine z_iload_n hC 2 hl dX1_isWide_2 rfl 3 rfl ?_
      refine z_iload_n hC 3 hl dX1_isWide_3 rfl 1 rfl ?_
      refine z_iadd (e := (l : Int) + (w : Int)) hC 4 dX1_isWide_4 rfl ?_
      refine z_aload_n hC 5 hl dX1_isWide_5 rfl 0 rfl ?_
      refine zp_get (v := .ref (ad 200)) hC (va_P_l hH.1) 6 in_X1 rfl 4 (by decide) q210 0 rfl (rfl) dX1_isWide_6 ?_
      refine zp_getN (v := .int (iZ ((n : Int)))) hC (va_P_l hH.1) 9 in_X2 rfl 2 (by decide) q149 11 rfl (by rw [← hFn]; rfl) dX1_isWide_9 ?_
      refine z_icmp_gt hC 12 37 dX1_isWide_12 rfl (by omega) (by omega) (fun hb1 => ?_) (fun hb1 => ?_)
      · -- 12t
        refine z_iconst hC 37 dX1_isWide_37 ?_
        -- R38.1
        exact z_zret hC hH hQ 38 ((1, f17, a15)) dX1_isWide_38 (by rfl) rfl (Or.inl ⟨rfl, by exact fun l1 h => il l1 (by omega) h⟩) rfl (Nat.le_refl _) (Nat.le_refl _)
      · -- 12f
        refine z_aload_n hC 15 hl dX1_isWide_15 rfl 0 rfl ?_
        refine z_iload_n hC 16 hl dX1_isWide_16 rfl 3 rfl ?_
        refine z_iload_n hC 17 hl dX1_isWide_17 rfl 3 rfl ?_
        refine z_iload_n hC 18 hl dX1_isWide_18 rfl 1 rfl ?_
        refine z_iadd (e := (l : Int) + (w : Int)) hC 19 dX1_isWide_19 rfl ?_
        refine z_iconst hC 20 dX1_isWide_20 ?_
        refine z_isub (e := (l : Int) + (w : Int) - 1) hC 21 dX1_isWide_21 rfl ?_
        refine z_st (st' := [.int (iZ (((l + w : Nat) : Int) - 1)), .int (iZ ((l : Int))), .ref (ad 99)]) (zcons (zieq (by omega)) (zcons rfl rfl)) ?_
        refine z_same (z_runV hC hH.2.2 hl.1 hH.1 hH.2.1 2 (As := [.int (iZ ((l : Int))), .int (iZ (((l + w : Nat) : Int) - 1))]) (rest := []) (m_X1_mostIn lau s0 G _ ad (va_up F 17 (f17)) (va_up (va_up Ar 15 a15) 16 zZ) kp pl PW n v pr pa pm pf nw b t l (l + w) (by first | exact hn | assumption | omega) (by first | exact hFn | assumption | omega) (by first | exact hv | assumption | omega) (by first | exact hAv | assumption | omega) (by first | exact hb | assumption | omega) (by first | exact hFb | assumption | omega) (by first | exact ht | assumption | omega) (by first | exact hFt | assumption | omega) (by first | exact hpl | assumption | omega) (by first | exact hnw | assumption | omega) (by first | exact hpc | assumption | omega) (by first | exact hpp | assumption | omega) (by first | exact hmo | assumption | omega) (by first | exact hlr | assumption | omega) (by first | exact hrn | assumption | omega)) (lw_V q1282 q1284 qs41 q89 q1285) ⟨rfl, by decide, by decide, by decide +kernel⟩ (q0 := 0) (ci := 1) rfl rfl rfl rfl (Nat.le_of_ble_eq_true rfl) ⟨Nat.le_of_ble_eq_true rfl, Nat.le_of_ble_eq_true rfl⟩ ⟨Nat.le_of_ble_eq_true rfl, Nat.le_of_ble_eq_true rfl⟩ dX1_isWide_22) hH (fun u_ H locs hpost hH => ?_)
        obtain ⟨k_22, u_22, gu_22⟩ := u_
        have hH : zH s0 s1 G as0 (dW ad G (va_up F 17 ((k_22 : Int))) (va_up (va_up Ar 15 (cI (k_22) u_22 gu_22)) 16 zZ) kp pl PW) H locs := hH
        refine z_st (st' := [.int (iZ (((cnt v l (l + w) (md v l (l + w) t) : Nat) : Int)))]) rfl ?_
        have hcw := cnt_le v l (l + w) (md v l (l + w) t)
        refine z_iload_n hC 25 hl dX1_isWide_25 rfl 2 rfl ?_
        refine z_icmp_ge hC 26 31 dX1_isWide_26 rfl (by omega) (by omega) (fun hb2 => ?_) (fun hb2 => ?_)
        · -- 26t
          refine z_iinc (lv' := [(3, .int (iZ ((l : Int) + 1))), (0, .ref (ad 99)), (1, .int (iZ ((w : Int)))), (2, .int (iZ (k0)))]) hC 31 hl dX1_isWide_31 3 rfl (by omega) (by decide) rfl (fun ls hl => ?_)
          refine z_goto hC 34 2 dX1_isWide_34 rfl ?_
          -- J2.2
          exact ih2 (l + 1) (k_22 : Int) (cI (k_22) u_22 gu_22) _ _ _ (by omega) (by first | assumption | omega) (by first | (intro l1 h1 h2; omega) | (intro l1 h1 h2; by_cases e : l1 = l; (rw [e]; omega); exact il l1 (by omega) h2)) hH (z_lv (lv_sub hl [1, 2, 3, 0] rfl) (zcons rfl (zcons rfl (zcons rfl (zcons (zpeq (by omega)) rfl)))))
        · -- 26f
          refine z_iconst hC 29 dX1_isWide_29 ?_
          -- R30.3
          exact z_zret hC hH hQ 30 ((0, (k_22 : Int), (cI (k_22) u_22 gu_22))) dX1_isWide_30 (by rfl) rfl (Or.inr ⟨rfl, by (intro q9; have := q9 l (by omega); omega)⟩) rfl (Nat.le_refl _) (Nat.le_refl _)
  -- J2.4
  exact L2 _ 0 (F 17) (Ar 15) _ _ _ (Nat.lt_succ_self _) (by first | assumption | omega) (by first | (intro l1 h1 h2; omega) | (intro l1 h1 h2; by_cases e : l1 = l; (rw [e]; omega); exact il l1 (by omega) h2)) hH (z_lv (lv_sub hl [1, 2, 3, 0] rfl) (zcons rfl (zcons rfl (zcons rfl (zcons (zpeq (by omega)) rfl)))))

set_option maxHeartbeats 4000000 in
set_option maxRecDepth 100000 in
theorem m_X1_wide (lau : Launch) (s0 : State) (G : zG) (sz : Nat) (ad : Nat → Nat) (F : Nat → Int) (Ar : Nat → Nat → Int) (kp : Nat → Nat) (pl : Nat → Option Nat) (PW : va_W) (n : Nat) (v : Nat → Nat) (pr : Nat → Nat) (pa : Nat → Nat) (pm : Nat → Nat) (pf : Nat → Nat → Nat) (nw : Nat) (b : Nat) (t : Nat) (k0 : Int) (hn : n ≤ 120) (hFn : F 200 = (n : Int)) (hv : ∀ i, i < n → v i < 1000) (hAv : ∀ i, i < n → Ar 201 i = (v i : Int)) (hb : 2 ≤ b ∧ b ≤ 20) (hFb : F 7 = (b : Int)) (ht : t < 4) (hFt : F 8 = (t : Int)) (hpl : ∀ y, y < 1000 → (pl y = some (pr y) ∨ (pl y = none ∧ pr y = nw))) (hnw : zNwh s0 nw) (hpc : ∀ y, y < 1000 → PlC n v y (pm y) (pf y)) (hpp : zPool s0 G PW pr pa pm pf) (hmo : ∀ i j, i ≤ j → b * j < n → Ar 12 (60 * i + j) = (md v (b * i) (bEnd b j n) t : Int)) (hr_k0 : -2147483648 ≤ k0 ∧ k0 < 2147483648) : zMet (S := Int × (Nat → Int) × (Nat → Nat → Int)) lau yX1_wide cX1_wide 3 (some .int) 8 188 0 0 s0 G sz [.ref (ad 99), .int (iZ (k0))] (dW ad G F (va_up Ar 16 zZ) kp pl PW) (fun ((r_, F2, A2) : Int × (Nat → Int) × (Nat → Nat → Int)) => some (.int (iZ (r_)))) (fun ((r_, F2, A2) : Int × (Nat → Int) × (Nat → Nat → Int)) => (Sp_wide n v t k0 r_) ∧ (DK F (va_up Ar 16 zZ) F2 A2)) (fun ((r_, F2, A2) : Int × (Nat → Int) × (Nat → Nat → Int)) => (dW ad G F2 A2 kp pl PW)) := by
  refine zMet.of (by decide) (Nat.le_of_ble_eq_true rfl) ?_
  intro pg ev s1 mi ar bl me cd ls Q as0 hC hH hl hQ hsz
  generalize s1.heap = H at hH ⊢
  generalize ([] : List Loc) = locs at hH ⊢
  have hl : lv_has ls 3 [(0, .ref (ad 99)), (1, .int (iZ (k0)))] := hl
  refine z_iload_n hC 0 hl dX1_wide_0 rfl 1 rfl ?_
  refine z_iconst hC 1 dX1_wide_1 ?_
  refine z_icmp_ge hC 2 7 dX1_wide_2 rfl (by omega) (by omega) (fun hb1 => ?_) (fun hb1 => ?_)
  · -- 2t
    refine z_iconst hC 7 dX1_wide_7 ?_
    refine z_istore_n (lv' := [(2, .int (iZ (1))), (0, .ref (ad 99)), (1, .int (iZ (k0)))]) hC 8 hl dX1_wide_8 rfl (by decide) rfl (fun ls hl => ?_)
    have L9 : ∀ (N_ : Nat) (w : Nat) (f17 : Int) (a15 : Nat → Int) (H : Heap) (locs : List Loc) (ls : Array Slot), n + 1 - w < N_ → (1 ≤ w) → (w ≤ n + 1) → (∀ w1, 1 ≤ w1 → w1 < w → ¬ WD v t n k0 w1) → zH s0 s1 G as0 (dW ad G (va_up F 17 (f17)) (va_up (va_up Ar 15 a15) 16 zZ) kp pl PW) H locs → lv_has ls 3 [(0, .ref (ad 99)), (1, .int (iZ (k0))), (2, .int (iZ ((w : Int))))] → W pg lau ev (zRm 8 0 0 188) s1 mi ar bl me cd H locs 0 0 Q (F0 mi 9 ls []) := by
      intro N_
      induction N_ with
      | zero => intro w f17 a15 H locs ls hd; exact absurd hd (Nat.not_lt_zero _)
      | succ N_ ih9 =>
        intro w f17 a15 H locs ls hd9 i9_1 i9_2 iw hH hl
        refine z_iload_n hC 9 hl dX1_wide_9 rfl 2 rfl ?_
        refine z_aload_n hC 10 hl dX1_wide_10 rfl 0 rfl ?_
        refine zp_get (v := .ref (ad 200)) hC (va_P_l hH.1) 11 in_X1 rfl 4 (by decide) q210 0 rfl (rfl) dX1_wide_11 ?_
        refine zp_getN (v := .int (iZ ((n : Int)))) hC (va_P_l hH.1) 14 in_X2 rfl 2 (by decide) q149 11 rfl (by rw [← hFn]; rfl) dX1_wide_14 ?_
        refine z_icmp_gt hC 17 37 dX1_wide_17 rfl (by omega) (by omega) (fun hb2 => ?_) (fun hb2 => ?_)
        · -- 17t
          refine z_bipush hC 37 dX1_wide_37 rfl ?_
          -- R39.1
          exact z_iret hC hH hQ 39 (((-2), (va_up F 17 (f17)), (va_up (va_up Ar 15 a15) 16 zZ))) dX1_wide_39 rfl ⟨by (unfold Sp_wide; rw [if_pos (by omega)]; exact Or.inr ⟨fun w1 q1 q2 => iw w1 q1 (by omega), rfl⟩), by first | assumption | exact ⟨fun k h1 h2 h3 h4 h5 => by first | rfl | (simp [va_up, h1, h2, h3, h4, h5]; done) | (simp [va_up, h1, h2, h3, h4, h5]; intro e9; rw [e9, hFn]), fun k h1 h2 h3 h4 h5 h6 => by first | rfl | simp [va_up, h1, h2, h3, h4, h5, h6]⟩⟩ rfl (Nat.le_refl _) (Nat.le_refl _)
        · -- 17f
          refine z_aload_n hC 20 hl dX1_wide_20 rfl 0 rfl ?_
          refine z_iload_n hC 21 hl dX1_wide_21 rfl 2 rfl ?_
          refine z_iload_n hC 22 hl dX1_wide_22 rfl 1 rfl ?_
          refine z_same (z_runV hC hH.2.2 hl.1 hH.1 hH.2.1 2 (As := [.int (iZ ((w : Int))), .int (iZ (k0))]) (rest := []) (m_X1_isWide lau s0 G _ ad (va_up F 17 (f17)) (va_up (va_up Ar 15 a15) 16 zZ) kp pl PW n v pr pa pm pf nw b t w k0 (by first | exact hn | assumption | omega) (by first | exact hFn | assumption | omega) (by first | exact hv | assumption | omega) (by first | exact hAv | assumption | omega) (by first | exact hb | assumption | omega) (by first | exact hFb | assumption | omega) (by first | exact ht | assumption | omega) (by first | exact hFt | assumption | omega) (by first | exact hpl | assumption | omega) (by first | exact hnw | assumption | omega) (by first | exact hpc | assumption | omega) (by first | exact hpp | assumption | omega) (by first | exact hmo | assumption | omega) (by omega) (by first | assumption | omega)) (lw_V q1337 q1339 qs42 q89 q1340) ⟨rfl, by decide, by decide, by decide +kernel⟩ (q0 := 0) (ci := 1) rfl rfl rfl rfl (Nat.le_of_ble_eq_true rfl) ⟨Nat.le_of_ble_eq_true rfl, Nat.le_of_ble_eq_true rfl⟩ ⟨Nat.le_of_ble_eq_true rfl, Nat.le_of_ble_eq_true rfl⟩ dX1_wide_23) hH (fun u_ H locs hpost hH => ?_)
          obtain ⟨r_23, f17_23, a15_23⟩ := u_
          have hb_23 : (r_23 = 1 ∧ (WD v t n k0 w)) ∨ (r_23 = 0 ∧ ¬ (WD v t n k0 w)) := hpost
          have hH : zH s0 s1 G as0 (dW ad G (va_up F 17 (f17_23)) (va_up (va_up Ar 15 a15_23) 16 zZ) kp pl PW) H locs := hH
          refine z_st (st' := [.int (iZ (r_23))]) rfl ?_
          rcases hb_23 with ⟨rfl, hb_23⟩ | ⟨rfl, hb_23⟩
          · -- 23=1
            refine z_if_eq_f hC 26 31 dX1_wide_26 rfl (by omega) (by omega) ?_
            refine z_iload_n hC 29 hl dX1_wide_29 rfl 2 rfl ?_
            -- R30.2
            exact z_iret hC hH hQ 30 (((w : Int), (va_up F 17 (f17_23)), (va_up (va_up Ar 15 a15_23) 16 zZ))) dX1_wide_30 rfl ⟨by (unfold Sp_wide; rw [if_pos (by omega)]; exact Or.inl ⟨w, by omega, by omega, hb_23, iw, rfl⟩), by first | assumption | exact ⟨fun k h1 h2 h3 h4 h5 => by first | rfl | (simp [va_up, h1, h2, h3, h4, h5]; done) | (simp [va_up, h1, h2, h3, h4, h5]; intro e9; rw [e9, hFn]), fun k h1 h2 h3 h4 h5 h6 => by first | rfl | simp [va_up, h1, h2, h3, h4, h5, h6]⟩⟩ rfl (Nat.le_refl _) (Nat.le_refl _)
          · -- 23=0
            refine z_if_eq_t hC 26 31 dX1_wide_26 rfl (by omega) (by omega) ?_
            refine z_iinc (lv' := [(2, .int (iZ ((w : Int) + 1))), (0, .ref (ad 99)), (1, .int (iZ (k0)))]) hC 31 hl dX1_wide_31 2 rfl (by omega) (by decide) rfl (fun ls hl => ?_)
            refine z_goto hC 34 9 dX1_wide_34 rfl ?_
            -- J9.3
            exact ih9 (w + 1) f17_23 a15_23 _ _ _ (by omega) (by first | assumption | omega) (by first | assumption | omega) (by first | (intro w1 q1 q2; omega) | (intro w1 q1 q2; by_cases e : w1 = w; (rw [e]; assumption); exact iw w1 q1 (by omega))) hH (z_lv (lv_sub hl [1, 2, 0] rfl) (zcons rfl (zcons rfl (zcons (zpeq (by omega)) rfl))))
    -- J9.4
    exact L9 _ 1 (F 17) (Ar 15) _ _ _ (Nat.lt_succ_self _) (by first | assumption | omega) (by first | assumption | omega) (by first | (intro w1 q1 q2; omega) | (intro w1 q1 q2; by_cases e : w1 = w; (rw [e]; assumption); exact iw w1 q1 (by omega))) hH (z_lv (lv_sub hl [1, 2, 0] rfl) (zcons rfl (zcons rfl (zcons (zpeq (by omega)) rfl))))
  · -- 2f
    refine z_iconst hC 5 dX1_wide_5 ?_
    -- R6.5
    exact z_iret hC hH hQ 6 (((-1), F, (va_up Ar 16 zZ))) dX1_wide_6 rfl ⟨by first | (unfold Sp_wide; rw [if_neg (by omega)]) | (unfold Sp_wide; rw [if_pos (by omega)]; (try simp only [Int.toNat_natCast, zt1]); first | done | trivial | rfl | omega | (rw [if_pos (by omega)]; first | done | trivial | rfl | omega) | (rw [if_neg (by omega)]; first | done | trivial | rfl | omega)), by first | assumption | exact ⟨fun k h1 h2 h3 h4 h5 => by first | rfl | (simp [va_up, h1, h2, h3, h4, h5]; done) | (simp [va_up, h1, h2, h3, h4, h5]; intro e9; rw [e9, hFn]), fun k h1 h2 h3 h4 h5 h6 => by first | rfl | simp [va_up, h1, h2, h3, h4, h5, h6]⟩⟩ rfl (Nat.le_refl _) (Nat.le_refl _)

set_option maxHeartbeats 4000000 in
set_option maxRecDepth 100000 in
theorem m_X1_split (lau : Launch) (s0 : State) (G : zG) (sz : Nat) (ad : Nat → Nat) (F : Nat → Int) (Ar : Nat → Nat → Int) (kp : Nat → Nat) (pl : Nat → Option Nat) (PW : va_W) (n : Nat) (v : Nat → Nat) (pr : Nat → Nat) (pa : Nat → Nat) (pm : Nat → Nat) (pf : Nat → Nat → Nat) (nw : Nat) (b : Nat) (t : Nat) (l : Int) (r : Int) (q : Int) (hn : n ≤ 120) (hFn : F 200 = (n : Int)) (hv : ∀ i, i < n → v i < 1000) (hAv : ∀ i, i < n → Ar 201 i = (v i : Int)) (hb : 2 ≤ b ∧ b ≤ 20) (hFb : F 7 = (b : Int)) (ht : t < 4) (hFt : F 8 = (t : Int)) (hpl : ∀ y, y < 1000 → (pl y = some (pr y) ∨ (pl y = none ∧ pr y = nw))) (hnw : zNwh s0 nw) (hpc : ∀ y, y < 1000 → PlC n v y (pm y) (pf y)) (hpp : zPool s0 G PW pr pa pm pf) (hmo : ∀ i j, i ≤ j → b * j < n → Ar 12 (60 * i + j) = (md v (b * i) (bEnd b j n) t : Int)) (hr_l : -2147483648 ≤ l ∧ l < 2147483648) (hr_r : -2147483648 ≤ r ∧ r < 2147483648) (hr_q : -2147483648 ≤ q ∧ q < 2147483648) : zMet (S := Int × (Nat → Int) × (Nat → Nat → Int)) lau yX1_split cX1_split 8 (some .int) 7 165 0 0 s0 G sz [.ref (ad 99), .int (iZ (l)), .int (iZ (r)), .int (iZ (q))] (dW ad G F (va_up Ar 16 zZ) kp pl PW) (fun ((r_, F2, A2) : Int × (Nat → Int) × (Nat → Nat → Int)) => some (.int (iZ (r_)))) (fun ((r_, F2, A2) : Int × (Nat → Int) × (Nat → Nat → Int)) => (Sp_split n v t l r q r_) ∧ (DK F (va_up Ar 16 zZ) F2 A2)) (fun ((r_, F2, A2) : Int × (Nat → Int) × (Nat → Nat → Int)) => (dW ad G F2 A2 kp pl PW)) := by
  refine zMet.of (by decide) (Nat.le_of_ble_eq_true rfl) ?_
  intro pg ev s1 mi ar bl me cd ls Q as0 hC hH hl hQ hsz
  generalize s1.heap = H at hH ⊢
  generalize ([] : List Loc) = locs at hH ⊢
  have hl : lv_has ls 8 [(0, .ref (ad 99)), (1, .int (iZ (l))), (2, .int (iZ (r))), (3, .int (iZ (q)))] := hl
  refine z_aload_n hC 0 hl dX1_split_0 rfl 0 rfl ?_
  refine z_iload_n hC 1 hl dX1_split_1 rfl 1 rfl ?_
  refine z_iload_n hC 2 hl dX1_split_2 rfl 2 rfl ?_
  refine zp_back (zp_runV hC (hH.2.2) hl.1 (va_P_l hH.1) 2 (As := [.int (iZ (l)), .int (iZ (r))]) (rest := []) (u_X1_isSpan lau s0 G ad F (va_up Ar 16 zZ) kp pl n l r (by first | exact hn | assumption | omega) (by first | exact hFn | assumption | omega) (by first | assumption | omega) (by first | assumption | omega)) (lw_V q864 q866 qs26 q89 q867) ⟨rfl, by decide, by decide, by decide +kernel⟩ (q0 := 0) (ci := 1) rfl rfl rfl rfl (Nat.le_of_ble_eq_true rfl) ⟨Nat.le_of_ble_eq_true rfl, Nat.le_of_ble_eq_true rfl⟩ ⟨by first | decide | omega, by first | decide | omega⟩ dX1_split_3) (fun r_3 hpost => ?_)
  have hb_3 : (r_3 = 1 ∧ (0 ≤ l ∧ l ≤ r ∧ r < (n : Int))) ∨ (r_3 = 0 ∧ ¬ (0 ≤ l ∧ l ≤ r ∧ r < (n : Int))) := hpost
  refine z_st (st' := [.int (iZ (r_3))]) rfl ?_
  rcases hb_3 with ⟨rfl, hb_3⟩ | ⟨rfl, hb_3⟩
  · -- 3=1
    refine z_if_eq_f hC 6 24 dX1_split_6 rfl (by omega) (by omega) ?_
    refine z_iload_n hC 9 hl dX1_split_9 rfl 1 rfl ?_
    refine z_iload_n hC 10 hl dX1_split_10 rfl 2 rfl ?_
    refine z_icmp_eq hC 11 24 dX1_split_11 rfl (by omega) (by omega) (fun hb1 => ?_) (fun hb1 => ?_)
    · -- 11t
      refine z_iconst hC 24 dX1_split_24 ?_
      -- R25.1
      exact z_iret hC hH hQ 25 (((-1), F, (va_up Ar 16 zZ))) dX1_split_25 rfl ⟨by first | (unfold Sp_split; rw [if_neg (by omega)]) | (unfold Sp_split; rw [if_pos (by omega)]; (try simp only [Int.toNat_natCast, zt1]); first | done | trivial | rfl | omega | (rw [if_pos (by omega)]; first | done | trivial | rfl | omega) | (rw [if_neg (by omega)]; first | done | trivial | rfl | omega)), by first | assumption | exact ⟨fun k h1 h2 h3 h4 h5 => by first | rfl | (simp [va_up, h1, h2, h3, h4, h5]; done) | (simp [va_up, h1, h2, h3, h4, h5]; intro e9; rw [e9, hFn]), fun k h1 h2 h3 h4 h5 h6 => by first | rfl | simp [va_up, h1, h2, h3, h4, h5, h6]⟩⟩ rfl (Nat.le_refl _) (Nat.le_refl _)
    · -- 11f
      refine z_iload_n hC 14 hl dX1_split_14 rfl 3 rfl ?_
      refine z_i2l hC 15 dX1_split_15 (by omega) ?_
      refine z_lconst (a := 0) hC 16 dX1_split_16 rfl ?_
      refine z_lconst (a := 1) hC 17 dX1_split_17 rfl ?_
      refine zp_back (zp_runS hC (hH.2.2) hl.1 (zp_nil) 3 (As := [.long (lZ (q)), .long (lZ (0)), .long (lZ (1))]) (rest := []) (u_X1_isIn lau s0 G q 0 1 (by first | assumption | omega) (by first | assumption | omega) (by first | assumption | omega)) (lw_S q303 q304 q89 q305) ⟨by decide, by decide, by decide +kernel⟩ rfl rfl (Nat.le_of_ble_eq_true rfl) ⟨Nat.le_of_ble_eq_true rfl, Nat.le_of_ble_eq_true rfl⟩ ⟨by first | decide | omega, by first | decide | omega⟩ dX1_split_18) (fun r_18 hpost => ?_)
      have hb_18 : (r_18 = 1 ∧ ((0 : Int) ≤ q ∧ q ≤ (1 : Int))) ∨ (r_18 = 0 ∧ ¬ ((0 : Int) ≤ q ∧ q ≤ (1 : Int))) := hpost
      refine z_st (st' := [.int (iZ (r_18))]) rfl ?_
      rcases hb_18 with ⟨rfl, hb_18⟩ | ⟨rfl, hb_18⟩
      · -- 18=1
        refine z_if_ne_t hC 21 26 dX1_split_21 rfl (by omega) (by omega) ?_
        obtain ⟨l1, rfl⟩ := Int.eq_ofNat_of_zero_le (show 0 ≤ l by omega)
        obtain ⟨r1, rfl⟩ := Int.eq_ofNat_of_zero_le (show 0 ≤ r by omega)
        refine z_iload_n hC 26 hl dX1_split_26 rfl 1 rfl ?_
        refine z_istore (lv' := [(4, .int (iZ ((l1 : Int)))), (0, .ref (ad 99)), (1, .int (iZ ((l1 : Int)))), (2, .int (iZ ((r1 : Int)))), (3, .int (iZ (q)))]) hC 27 hl dX1_split_27 (by decide) rfl (fun ls hl => ?_)
        refine z_iconst hC 29 dX1_split_29 ?_
        refine z_istore (lv' := [(5, .int (iZ (0))), (4, .int (iZ ((l1 : Int)))), (0, .ref (ad 99)), (1, .int (iZ ((l1 : Int)))), (2, .int (iZ ((r1 : Int)))), (3, .int (iZ (q)))]) hC 30 hl dX1_split_30 (by decide) rfl (fun ls hl => ?_)
        refine z_iload_n hC 32 hl dX1_split_32 rfl 3 rfl ?_
        refine z_istore (lv' := [(6, .int (iZ ((l1 : Int)))), (5, .int (iZ (0))), (4, .int (iZ ((l1 : Int)))), (0, .ref (ad 99)), (1, .int (iZ ((l1 : Int)))), (2, .int (iZ ((r1 : Int)))), (3, .int (iZ (q)))]) hC 33 hl dX1_split_33 (by decide) rfl (fun ls hl => ?_)
        have L35 : ∀ (N_ : Nat) (m : Nat) (b0 : Nat) (ms : Nat) (f17 : Int) (a15 : Nat → Int) (H : Heap) (locs : List Loc) (ls : Array Slot), r1 - m < N_ → (l1 ≤ m) → (m ≤ r1) → (b0 ≤ r1) → (ms ≤ 240) → (MX (splF v t l1 (r1 + 1)) l1 m b0 (ms : Int)) → zH s0 s1 G as0 (dW ad G (va_up F 17 (f17)) (va_up (va_up Ar 15 a15) 16 zZ) kp pl PW) H locs → lv_has ls 8 [(0, .ref (ad 99)), (1, .int (iZ ((l1 : Int)))), (2, .int (iZ ((r1 : Int)))), (3, .int (iZ (q))), (4, .int (iZ ((b0 : Int)))), (5, .int (iZ ((ms : Int)))), (6, .int (iZ ((m : Int))))] → W pg lau ev (zRm 7 0 0 165) s1 mi ar bl me cd H locs 0 0 Q (F0 mi 35 ls []) := by
          intro N_
          induction N_ with
          | zero => intro m b0 ms f17 a15 H locs ls hd; exact absurd hd (Nat.not_lt_zero _)
          | succ N_ ih35 =>
            intro m b0 ms f17 a15 H locs ls hd35 i35_1 i35_2 i35_3 i35_4 im hH hl
            refine z_iload hC 35 hl dX1_split_35 6 rfl ?_
            refine z_iload_n hC 37 hl dX1_split_37 rfl 2 rfl ?_
            refine z_icmp_ge hC 38 84 dX1_split_38 rfl (by omega) (by omega) (fun hb2 => ?_) (fun hb2 => ?_)
            · -- 38t
              have em : (m) = r1 := by omega
              rw [em] at im
              refine z_iload_n hC 84 hl dX1_split_84 rfl 3 rfl ?_
              refine z_if_ne hC 85 93 dX1_split_85 rfl (by omega) (fun hb3 => ?_) (fun hb3 => ?_)
              · -- 85t
                refine z_iload hC 93 hl dX1_split_93 5 rfl ?_
                -- R95.2
                exact z_iret hC hH hQ 95 (((ms : Int), (va_up F 17 (f17)), (va_up (va_up Ar 15 a15) 16 zZ))) dX1_split_95 rfl ⟨by (unfold Sp_split; rw [if_pos (by omega)]; simp only [Int.toNat_natCast, zt1]; exact ⟨b0, ms, im, by first | (rw [if_pos (by omega)]; done) | (rw [if_neg (by omega)]; done)⟩), by first | assumption | exact ⟨fun k h1 h2 h3 h4 h5 => by first | rfl | (simp [va_up, h1, h2, h3, h4, h5]; done) | (simp [va_up, h1, h2, h3, h4, h5]; intro e9; rw [e9, hFn]), fun k h1 h2 h3 h4 h5 h6 => by first | rfl | simp [va_up, h1, h2, h3, h4, h5, h6]⟩⟩ rfl (Nat.le_refl _) (Nat.le_refl _)
              · -- 85f
                refine z_iload hC 88 hl dX1_split_88 4 rfl ?_
                refine z_goto hC 90 95 dX1_split_90 rfl ?_
                -- R95.3
                exact z_iret hC hH hQ 95 (((b0 : Int), (va_up F 17 (f17)), (va_up (va_up Ar 15 a15) 16 zZ))) dX1_split_95 rfl ⟨by (unfold Sp_split; rw [if_pos (by omega)]; simp only [Int.toNat_natCast, zt1]; exact ⟨b0, ms, im, by first | (rw [if_pos (by omega)]; done) | (rw [if_neg (by omega)]; done)⟩), by first | assumption | exact ⟨fun k h1 h2 h3 h4 h5 => by first | rfl | (simp [va_up, h1, h2, h3, h4, h5]; done) | (simp [va_up, h1, h2, h3, h4, h5]; intro e9; rw [e9, hFn]), fun k h1 h2 h3 h4 h5 h6 => by first | rfl | simp [va_up, h1, h2, h3, h4, h5, h6]⟩⟩ rfl (Nat.le_refl _) (Nat.le_refl _)
            · -- 38f
              have hsp : splF v t l1 (r1 + 1) m = cnt v l1 (m + 1) (md v l1 (m + 1) t) + cnt v (m + 1) (r1 + 1) (md v (m + 1) (r1 + 1) t) := rfl
              have hc1 := cnt_le v l1 (m + 1) (md v l1 (m + 1) t)
              have hc2 := cnt_le v (m + 1) (r1 + 1) (md v (m + 1) (r1 + 1) t)
              have hp1 := (md_spec2 (v := v) (l := l1) (r := m + 1) (t := t) (fun i hi => hv i (by omega)) (by omega)).2.1
              refine z_aload_n hC 41 hl dX1_split_41 rfl 0 rfl ?_
              refine z_iload_n hC 42 hl dX1_split_42 rfl 1 rfl ?_
              refine z_iload hC 43 hl dX1_split_43 6 rfl ?_
              refine z_st (st' := [.int (iZ (((m + 1 : Nat) : Int) - 1)), .int (iZ ((l1 : Int))), .ref (ad 99)]) (zcons (zieq (by omega)) (zcons rfl rfl)) ?_
              refine z_same (z_runV hC hH.2.2 hl.1 hH.1 hH.2.1 2 (As := [.int (iZ ((l1 : Int))), .int (iZ (((m + 1 : Nat) : Int) - 1))]) (rest := []) (m_X1_mostIn lau s0 G _ ad (va_up F 17 (f17)) (va_up (va_up Ar 15 a15) 16 zZ) kp pl PW n v pr pa pm pf nw b t l1 (m + 1) (by first | exact hn | assumption | omega) (by first | exact hFn | assumption | omega) (by first | exact hv | assumption | omega) (by first | exact hAv | assumption | omega) (by first | exact hb | assumption | omega) (by first | exact hFb | assumption | omega) (by first | exact ht | assumption | omega) (by first | exact hFt | assumption | omega) (by first | exact hpl | assumption | omega) (by first | exact hnw | assumption | omega) (by first | exact hpc | assumption | omega) (by first | exact hpp | assumption | omega) (by first | exact hmo | assumption | omega) (by first | exact hlr | assumption | omega) (by first | exact hrn | assumption | omega)) (lw_V q1282 q1284 qs41 q89 q1285) ⟨rfl, by decide, by decide, by decide +kernel⟩ (q0 := 0) (ci := 1) rfl rfl rfl rfl (Nat.le_of_ble_eq_true rfl) ⟨Nat.le_of_ble_eq_true rfl, Nat.le_of_ble_eq_true rfl⟩ ⟨Nat.le_of_ble_eq_true rfl, Nat.le_of_ble_eq_true rfl⟩ dX1_split_45) hH (fun u_ H locs hpost hH => ?_)
              obtain ⟨k_45, u_45, gu_45⟩ := u_
              have hH : zH s0 s1 G as0 (dW ad G (va_up F 17 ((k_45 : Int))) (va_up (va_up Ar 15 (cI (k_45) u_45 gu_45)) 16 zZ) kp pl PW) H locs := hH
              refine z_st (st' := [.int (iZ (((cnt v l1 (m + 1) (md v l1 (m + 1) t) : Nat) : Int)))]) rfl ?_
              refine z_aload_n hC 48 hl dX1_split_48 rfl 0 rfl ?_
              refine z_iload hC 49 hl dX1_split_49 6 rfl ?_
              refine z_iconst hC 51 dX1_split_51 ?_
              refine z_iadd (e := (m : Int) + 1) hC 52 dX1_split_52 rfl ?_
              refine z_iload_n hC 53 hl dX1_split_53 rfl 2 rfl ?_
              refine z_st (st' := [.int (iZ (((r1 + 1 : Nat) : Int) - 1)), .int (iZ (((m + 1 : Nat) : Int))), .ref (ad 99), .int (iZ (((cnt v l1 (m + 1) (md v l1 (m + 1) t) : Nat) : Int)))]) (zcons (zieq (by omega)) (zcons (zieq (by omega)) rfl)) ?_
              refine z_same (z_runV hC hH.2.2 hl.1 hH.1 hH.2.1 2 (As := [.int (iZ (((m + 1 : Nat) : Int))), .int (iZ (((r1 + 1 : Nat) : Int) - 1))]) (rest := [.int (iZ (((cnt v l1 (m + 1) (md v l1 (m + 1) t) : Nat) : Int)))]) (m_X1_mostIn lau s0 G _ ad (va_up F 17 ((k_45 : Int))) (va_up (va_up Ar 15 (cI (k_45) u_45 gu_45)) 16 zZ) kp pl PW n v pr pa pm pf nw b t (m + 1) (r1 + 1) (by first | exact hn | assumption | omega) (by first | exact hFn | assumption | omega) (by first | exact hv | assumption | omega) (by first | exact hAv | assumption | omega) (by first | exact hb | assumption | omega) (by first | exact hFb | assumption | omega) (by first | exact ht | assumption | omega) (by first | exact hFt | assumption | omega) (by first | exact hpl | assumption | omega) (by first | exact hnw | assumption | omega) (by first | exact hpc | assumption | omega) (by first | exact hpp | assumption | omega) (by first | exact hmo | assumption | omega) (by first | exact hlr | assumption | omega) (by first | exact hrn | assumption | omega)) (lw_V q1282 q1284 qs41 q89 q1285) ⟨rfl, by decide, by decide, by decide +kernel⟩ (q0 := 0) (ci := 1) rfl rfl rfl rfl (Nat.le_of_ble_eq_true rfl) ⟨Nat.le_of_ble_eq_true rfl, Nat.le_of_ble_eq_true rfl⟩ ⟨Nat.le_of_ble_eq_true rfl, Nat.le_of_ble_eq_true rfl⟩ dX1_split_54) hH (fun u_ H locs hpost hH => ?_)
              obtain ⟨k_54, u_54, gu_54⟩ := u_
              have hH : zH s0 s1 G as0 (dW ad G (va_up F 17 ((k_54 : Int))) (va_up (va_up Ar 15 (cI (k_54) u_54 gu_54)) 16 zZ) kp pl PW) H locs := hH
              refine z_st (st' := [.int (iZ (((cnt v (m + 1) (r1 + 1) (md v (m + 1) (r1 + 1) t) : Nat) : Int))), .int (iZ (((cnt v l1 (m + 1) (md v l1 (m + 1) t) : Nat) : Int)))]) rfl ?_
              refine z_iadd (e := ((cnt v l1 (m + 1) (md v l1 (m + 1) t) : Nat) : Int) + ((cnt v (m + 1) (r1 + 1) (md v (m + 1) (r1 + 1) t) : Nat) : Int)) hC 57 dX1_split_57 rfl ?_
              refine z_istore (lv' := [(7, .int (iZ (((cnt v l1 (m + 1) (md v l1 (m + 1) t) : Nat) : Int) + ((cnt v (m + 1) (r1 + 1) (md v (m + 1) (r1 + 1) t) : Nat) : Int)))), (0, .ref (ad 99)), (1, .int (iZ ((l1 : Int)))), (2, .int (iZ ((r1 : Int)))), (3, .int (iZ (q))), (4, .int (iZ ((b0 : Int)))), (5, .int (iZ ((ms : Int)))), (6, .int (iZ ((m : Int))))]) hC 58 hl dX1_split_58 (by decide) rfl (fun ls hl => ?_)
              refine z_iload hC 60 hl dX1_split_60 0 rfl ?_
              refine z_iload hC 62 hl dX1_split_62 6 rfl ?_
              refine z_icmp_gt hC 64 70 dX1_split_64 rfl (by omega) (by omega) (fun hb4 => ?_) (fun hb4 => ?_)
              · -- 64t
                refine z_iload hC 70 hl dX1_split_70 7 rfl ?_
                refine z_istore (lv' := [(4, .int (iZ ((m : Int)))), (7, .int (iZ (((cnt v l1 (m + 1) (md v l1 (m + 1) t) : Nat) : Int) + ((cnt v (m + 1) (r1 + 1) (md v (m + 1) (r1 + 1) t) : Nat) : Int)))), (0, .ref (ad 99)), (1, .int (iZ ((l1 : Int)))), (2, .int (iZ ((r1 : Int)))), (3, .int (iZ (q))), (5, .int (iZ ((ms : Int)))), (6, .int (iZ ((m : Int))))]) hC 72 hl dX1_split_72 (by decide) rfl (fun ls hl => ?_)
                refine z_iload hC 74 hl dX1_split_74 1 rfl ?_
                refine z_istore (lv' := [(5, .int (iZ (((cnt v l1 (m + 1) (md v l1 (m + 1) t) : Nat) : Int) + ((cnt v (m + 1) (r1 + 1) (md v (m + 1) (r1 + 1) t) : Nat) : Int)))), (4, .int (iZ ((m : Int)))), (7, .int (iZ (((cnt v l1 (m + 1) (md v l1 (m + 1) t) : Nat) : Int) + ((cnt v (m + 1) (r1 + 1) (md v (m + 1) (r1 + 1) t) : Nat) : Int)))), (0, .ref (ad 99)), (1, .int (iZ ((l1 : Int)))), (2, .int (iZ ((r1 : Int)))), (3, .int (iZ (q))), (6, .int (iZ ((m : Int))))]) hC 76 hl dX1_split_76 (by decide) rfl (fun ls hl => ?_)
                refine z_iinc (lv' := [(6, .int (iZ ((m : Int) + 1))), (5, .int (iZ (((cnt v l1 (m + 1) (md v l1 (m + 1) t) : Nat) : Int) + ((cnt v (m + 1) (r1 + 1) (md v (m + 1) (r1 + 1) t) : Nat) : Int)))), (4, .int (iZ ((m : Int)))), (7, .int (iZ (((cnt v l1 (m + 1) (md v l1 (m + 1) t) : Nat) : Int) + ((cnt v (m + 1) (r1 + 1) (md v (m + 1) (r1 + 1) t) : Nat) : Int)))), (0, .ref (ad 99)), (1, .int (iZ ((l1 : Int)))), (2, .int (iZ ((r1 : Int)))), (3, .int (iZ (q)))]) hC 78 hl dX1_split_78 7 rfl (by omega) (by decide) rfl (fun ls hl => ?_)
                refine z_goto hC 81 35 dX1_split_81 rfl ?_
                -- J35.4
                exact ih35 (m + 1) m ((cnt v l1 (m + 1) (md v l1 (m + 1) t)) + (cnt v (m + 1) (r1 + 1) (md v (m + 1) (r1 + 1) t))) (k_54 : Int) (cI (k_54) u_54 gu_54) _ _ _ (by omega) (by first | assumption | omega) (by first | assumption | omega) (by first | assumption | omega) (by first | assumption | omega) (by first | exact Or.inl ⟨rfl, rfl, by omega⟩ | exact MX_keep im (by omega) (by omega) | (have q := MX_new im (by omega) (show (ms : Int) < (splF v t l1 (r1 + 1) m : Int) by omega); rw [hsp] at q; exact q)) hH (z_lv (lv_sub hl [4, 5, 6, 7, 2, 1, 0] rfl) (zcons rfl (zcons rfl (zcons rfl (zcons rfl (zcons rfl (zcons (zpeq (by omega)) (zcons (zpeq (by omega)) rfl))))))))
              · -- 64f
                refine z_goto hC 67 78 dX1_split_67 rfl ?_
                refine z_iinc (lv' := [(6, .int (iZ ((m : Int) + 1))), (7, .int (iZ (((cnt v l1 (m + 1) (md v l1 (m + 1) t) : Nat) : Int) + ((cnt v (m + 1) (r1 + 1) (md v (m + 1) (r1 + 1) t) : Nat) : Int)))), (0, .ref (ad 99)), (1, .int (iZ ((l1 : Int)))), (2, .int (iZ ((r1 : Int)))), (3, .int (iZ (q))), (4, .int (iZ ((b0 : Int)))), (5, .int (iZ ((ms : Int))))]) hC 78 hl dX1_split_78 7 rfl (by omega) (by decide) rfl (fun ls hl => ?_)
                refine z_goto hC 81 35 dX1_split_81 rfl ?_
                -- J35.5
                exact ih35 (m + 1) b0 ms (k_54 : Int) (cI (k_54) u_54 gu_54) _ _ _ (by omega) (by first | assumption | omega) (by first | assumption | omega) (by first | assumption | omega) (by first | assumption | omega) (by first | exact Or.inl ⟨rfl, rfl, by omega⟩ | exact MX_keep im (by omega) (by omega) | (have q := MX_new im (by omega) (show (ms : Int) < (splF v t l1 (r1 + 1) m : Int) by omega); rw [hsp] at q; exact q)) hH (z_lv (lv_sub hl [2, 3, 4, 5, 6, 7, 0] rfl) (zcons rfl (zcons rfl (zcons rfl (zcons rfl (zcons rfl (zcons rfl (zcons (zpeq (by omega)) rfl))))))))
        -- J35.6
        exact L35 _ l1 l1 0 (F 17) (Ar 15) _ _ _ (Nat.lt_succ_self _) (by first | assumption | omega) (by first | assumption | omega) (by first | assumption | omega) (by first | assumption | omega) (by first | exact Or.inl ⟨rfl, rfl, by omega⟩ | exact MX_keep im (by omega) (by omega) | (have q := MX_new im (by omega) (show (ms : Int) < (splF v t l1 (r1 + 1) m : Int) by omega); rw [hsp] at q; exact q)) hH (z_lv (lv_sub hl [3, 4, 5, 6, 2, 1, 0] rfl) (zcons rfl (zcons rfl (zcons rfl (zcons rfl (zcons rfl (zcons (zpeq (by omega)) (zcons rfl rfl))))))))
      · -- 18=0
        refine z_if_ne_f hC 21 26 dX1_split_21 rfl (by omega) (by omega) ?_
        refine z_iconst hC 24 dX1_split_24 ?_
        -- R25.7
        exact z_iret hC hH hQ 25 (((-1), F, (va_up Ar 16 zZ))) dX1_split_25 rfl ⟨by first | (unfold Sp_split; rw [if_neg (by omega)]) | (unfold Sp_split; rw [if_pos (by omega)]; (try simp only [Int.toNat_natCast, zt1]); first | done | trivial | rfl | omega | (rw [if_pos (by omega)]; first | done | trivial | rfl | omega) | (rw [if_neg (by omega)]; first | done | trivial | rfl | omega)), by first | assumption | exact ⟨fun k h1 h2 h3 h4 h5 => by first | rfl | (simp [va_up, h1, h2, h3, h4, h5]; done) | (simp [va_up, h1, h2, h3, h4, h5]; intro e9; rw [e9, hFn]), fun k h1 h2 h3 h4 h5 h6 => by first | rfl | simp [va_up, h1, h2, h3, h4, h5, h6]⟩⟩ rfl (Nat.le_refl _) (Nat.le_refl _)
  · -- 3=0
    refine z_if_eq_t hC 6 24 dX1_split_6 rfl (by omega) (by omega) ?_
    refine z_iconst hC 24 dX1_split_24 ?_
    -- R25.8
    exact z_iret hC hH hQ 25 (((-1), F, (va_up Ar 16 zZ))) dX1_split_25 rfl ⟨by first | (unfold Sp_split; rw [if_neg (by omega)]) | (unfold Sp_split; rw [if_pos (by omega)]; (try simp only [Int.toNat_natCast, zt1]); first | done | trivial | rfl | omega | (rw [if_pos (by omega)]; first | done | trivial | rfl | omega) | (rw [if_neg (by omega)]; first | done | trivial | rfl | omega)), by first | assumption | exact ⟨fun k h1 h2 h3 h4 h5 => by first | rfl | (simp [va_up, h1, h2, h3, h4, h5]; done) | (simp [va_up, h1, h2, h3, h4, h5]; intro e9; rw [e9, hFn]), fun k h1 h2 h3 h4 h5 h6 => by first | rfl | simp [va_up, h1, h2, h3, h4, h5, h6]⟩⟩ rfl (Nat.le_refl _) (Nat.le_refl _)

set_option maxHeartbeats 4000000 in
set_option maxRecDepth 100000 in
theorem m_X1_candidate (lau : Launch) (s0 : State) (G : zG) (sz : Nat) (ad : Nat → Nat) (F : Nat → Int) (Ar : Nat → Nat → Int) (kp : Nat → Nat) (pl : Nat → Option Nat) (PW : va_W) (n : Nat) (v : Nat → Nat) (pr : Nat → Nat) (pa : Nat → Nat) (pm : Nat → Nat) (pf : Nat → Nat → Nat) (nw : Nat) (b : Nat) (t : Nat) (l : Int) (r : Int) (k0 : Int) (hn : n ≤ 120) (hFn : F 200 = (n : Int)) (hv : ∀ i, i < n → v i < 1000) (hAv : ∀ i, i < n → Ar 201 i = (v i : Int)) (hb : 2 ≤ b ∧ b ≤ 20) (hFb : F 7 = (b : Int)) (ht : t < 4) (hFt : F 8 = (t : Int)) (hpl : ∀ y, y < 1000 → (pl y = some (pr y) ∨ (pl y = none ∧ pr y = nw))) (hnw : zNwh s0 nw) (hpc : ∀ y, y < 1000 → PlC n v y (pm y) (pf y)) (hpp : zPool s0 G PW pr pa pm pf) (hmo : ∀ i j, i ≤ j → b * j < n → Ar 12 (60 * i + j) = (md v (b * i) (bEnd b j n) t : Int)) (hr_l : -2147483648 ≤ l ∧ l < 2147483648) (hr_r : -2147483648 ≤ r ∧ r < 2147483648) (hr_k0 : -2147483648 ≤ k0 ∧ k0 < 2147483648) : zMet (S := Int × (Nat → Int) × (Nat → Nat → Int)) lau yX1_candidate cX1_candidate 4 (some .int) 5 121 0 0 s0 G sz [.ref (ad 99), .int (iZ (l)), .int (iZ (r)), .int (iZ (k0))] (dW ad G F (va_up Ar 16 zZ) kp pl PW) (fun ((r_, F2, A2) : Int × (Nat → Int) × (Nat → Nat → Int)) => some (.int (iZ (r_)))) (fun ((r_, F2, A2) : Int × (Nat → Int) × (Nat → Nat → Int)) => (Sp_candidate n v t b l r k0 r_) ∧ (DK F (va_up Ar 16 zZ) F2 A2)) (fun ((r_, F2, A2) : Int × (Nat → Int) × (Nat → Nat → Int)) => (dW ad G F2 A2 kp pl PW)) := by
  refine zMet.of (by decide) (Nat.le_of_ble_eq_true rfl) ?_
  intro pg ev s1 mi ar bl me cd ls Q as0 hC hH hl hQ hsz
  generalize s1.heap = H at hH ⊢
  generalize ([] : List Loc) = locs at hH ⊢
  have hl : lv_has ls 4 [(0, .ref (ad 99)), (1, .int (iZ (l))), (2, .int (iZ (r))), (3, .int (iZ (k0)))] := hl
  refine z_aload_n hC 0 hl dX1_candidate_0 rfl 0 rfl ?_
  refine z_iload_n hC 1 hl dX1_candidate_1 rfl 1 rfl ?_
  refine z_iload_n hC 2 hl dX1_candidate_2 rfl 2 rfl ?_
  refine zp_back (zp_runV hC (hH.2.2) hl.1 (va_P_l hH.1) 2 (As := [.int (iZ (l)), .int (iZ (r))]) (rest := []) (u_X1_isSpan lau s0 G ad F (va_up Ar 16 zZ) kp pl n l r (by first | exact hn | assumption | omega) (by first | exact hFn | assumption | omega) (by first | assumption | omega) (by first | assumption | omega)) (lw_V q864 q866 qs26 q89 q867) ⟨rfl, by decide, by decide, by decide +kernel⟩ (q0 := 0) (ci := 1) rfl rfl rfl rfl (Nat.le_of_ble_eq_true rfl) ⟨Nat.le_of_ble_eq_true rfl, Nat.le_of_ble_eq_true rfl⟩ ⟨by first | decide | omega, by first | decide | omega⟩ dX1_candidate_3) (fun r_3 hpost => ?_)
  have hb_3 : (r_3 = 1 ∧ (0 ≤ l ∧ l ≤ r ∧ r < (n : Int))) ∨ (r_3 = 0 ∧ ¬ (0 ≤ l ∧ l ≤ r ∧ r < (n : Int))) := hpost
  refine z_st (st' := [.int (iZ (r_3))]) rfl ?_
  rcases hb_3 with ⟨rfl, hb_3⟩ | ⟨rfl, hb_3⟩
  · -- 3=1
    refine z_if_eq_f hC 6 14 dX1_candidate_6 rfl (by omega) (by omega) ?_
    refine z_iload_n hC 9 hl dX1_candidate_9 rfl 3 rfl ?_
    refine z_iconst hC 10 dX1_candidate_10 ?_
    refine z_icmp_ge hC 11 16 dX1_candidate_11 rfl (by omega) (by omega) (fun hb1 => ?_) (fun hb1 => ?_)
    · -- 11t
      obtain ⟨l1, rfl⟩ := Int.eq_ofNat_of_zero_le (show 0 ≤ l by omega)
      obtain ⟨r1, rfl⟩ := Int.eq_ofNat_of_zero_le (show 0 ≤ r by omega)
      obtain ⟨K9, U9, pEx⟩ := EN_ex (v := v) (l := l1) (r := r1 + 1) (fun i hi => hv i (by omega))
      refine z_aload_n hC 16 hl dX1_candidate_16 rfl 0 rfl ?_
      refine z_iload_n hC 17 hl dX1_candidate_17 rfl 1 rfl ?_
      refine z_iload_n hC 18 hl dX1_candidate_18 rfl 2 rfl ?_
      refine z_st (st' := [.int (iZ (((r1 + 1 : Nat) : Int) - 1)), .int (iZ ((l1 : Int))), .ref (ad 99)]) (zcons (zieq (by omega)) (zcons rfl rfl)) ?_
      refine z_same (z_runV hC hH.2.2 hl.1 hH.1 hH.2.1 2 (As := [.int (iZ ((l1 : Int))), .int (iZ (((r1 + 1 : Nat) : Int) - 1))]) (rest := []) (m_X1_laysCandidates lau s0 G _ ad F (va_up Ar 16 zZ) kp pl PW n v b l1 (r1 + 1) t (by first | exact hn | assumption | omega) (by first | exact hFn | assumption | omega) (by first | exact hv | assumption | omega) (by first | exact hAv | assumption | omega) (by first | exact hb | assumption | omega) (by first | exact hFb | assumption | omega) (by first | exact ht | assumption | omega) (by first | exact hmo | assumption | omega) (by first | exact hlr | assumption | omega) (by first | exact hrn | assumption | omega)) (lw_V q993 q995 qs28 q89 q996) ⟨rfl, by decide, by decide, by decide +kernel⟩ (q0 := 0) (ci := 1) rfl rfl rfl rfl (Nat.le_of_ble_eq_true rfl) ⟨Nat.le_of_ble_eq_true rfl, Nat.le_of_ble_eq_true rfl⟩ ⟨Nat.le_of_ble_eq_true rfl, Nat.le_of_ble_eq_true rfl⟩ dX1_candidate_19) hH (fun u_ H locs hpost hH => ?_)
      obtain ⟨e_19, k_19, u_19, gu_19⟩ := u_
      obtain ⟨pW_19, pS_19, pC_19, pk_19⟩ : (WB b n (zdiv (l1 + b - 1) b) ((r1 + 1) - 1) e_19) ∧ (ENS (CSt v t n b l1 (zdiv (l1 + b - 1) b) e_19 (r1 + 1)) k_19 u_19) ∧ (CAN v l1 (r1 + 1) t k_19 u_19) ∧ (k_19 ≤ 120) := hpost
      have hH : zH s0 s1 G as0 (dW ad G (va_up F 17 ((k_19 : Int))) (va_up (va_up Ar 15 (cI (k_19) u_19 gu_19)) 16 zZ) kp pl PW) H locs := hH
      refine z_st (st' := []) rfl ?_
      have hcin : ∀ x, x < 1000 → CSt v t n b l1 (zdiv (l1 + b - 1) b) e_19 (r1 + 1) x → 0 < cnt v l1 (r1 + 1) x := fun x hx q => by obtain ⟨j9, hj9, ej9⟩ := pS_19.2.2 x hx q; rw [← ej9]; exact (pC_19.1 j9 hj9).2
      have hW9 : WB b n (zdiv (l1 + b - 1) b) r1 e_19 := pW_19
      have hca := cd_all (t := t) pEx pS_19 hcin
      refine z_iload_n hC 22 hl dX1_candidate_22 rfl 3 rfl ?_
      refine z_iconst hC 23 dX1_candidate_23 ?_
      refine z_icmp_ne hC 24 32 dX1_candidate_24 rfl (by omega) (by omega) (fun hb2 => ?_) (fun hb2 => ?_)
      · -- 24t
        refine z_aload_n hC 32 hl dX1_candidate_32 rfl 0 rfl ?_
        refine z_iload_n hC 33 hl dX1_candidate_33 rfl 1 rfl ?_
        refine z_iload_n hC 34 hl dX1_candidate_34 rfl 2 rfl ?_
        refine z_st (st' := [.int (iZ (((r1 + 1 : Nat) : Int) - 1)), .int (iZ ((l1 : Int))), .ref (ad 99)]) (zcons (zieq (by omega)) (zcons rfl rfl)) ?_
        refine z_same (z_runV hC hH.2.2 hl.1 hH.1 hH.2.1 2 (As := [.int (iZ ((l1 : Int))), .int (iZ (((r1 + 1 : Nat) : Int) - 1))]) (rest := []) (m_X1_ranks lau s0 G _ ad (va_up F 17 ((k_19 : Int))) (va_up (va_up Ar 15 (cI (k_19) u_19 gu_19)) 16 zZ) kp pl PW n v pr pa pm pf nw k_19 u_19 gu_19 l1 (r1 + 1) t (by first | exact hn | assumption | omega) (by first | exact hFn | assumption | omega) (by first | exact hpl | assumption | omega) (by first | exact hnw | assumption | omega) (by first | exact hpc | assumption | omega) (by first | exact hpp | assumption | omega) (by first | exact hv | assumption | omega) (by first | exact hlr | assumption | omega) (by first | exact hrn | assumption | omega) (by first | exact ht | assumption | omega) (by first | exact hFt | assumption | omega) (by omega) (by exact pC_19.1) (by exact pS_19.2.1) (by exact CAN_pos pC_19)) (lw_V q1055 q1057 qs36 q89 q1058) ⟨rfl, by decide, by decide, by decide +kernel⟩ (q0 := 0) (ci := 1) rfl rfl rfl rfl (Nat.le_of_ble_eq_true rfl) ⟨Nat.le_of_ble_eq_true rfl, Nat.le_of_ble_eq_true rfl⟩ ⟨Nat.le_of_ble_eq_true rfl, Nat.le_of_ble_eq_true rfl⟩ dX1_candidate_35) hH (fun w_35 H locs hpost hH => ?_)
        have pR_35 : RKS v l1 (r1 + 1) t k_19 u_19 w_35 := hpost
        have hH : zH s0 s1 G as0 (dW ad G (va_up F 17 ((k_19 : Int))) (va_up (va_up Ar 15 (cI (k_19) w_35 gu_19)) 16 zZ) kp pl PW) H locs := hH
        refine z_st (st' := []) rfl ?_
        refine z_iload_n hC 38 hl dX1_candidate_38 rfl 3 rfl ?_
        refine z_aload_n hC 39 hl dX1_candidate_39 rfl 0 rfl ?_
        refine zp_get (v := .int (iZ ((k_19 : Int)))) hC (va_P_l hH.1) 40 in_X1 rfl 17 (by decide) q227 0 rfl (rfl) dX1_candidate_40 ?_
        refine z_icmp_ge hC 43 55 dX1_candidate_43 rfl (by omega) (by omega) (fun hb3 => ?_) (fun hb3 => ?_)
        · -- 43t
          refine z_bipush hC 55 dX1_candidate_55 rfl ?_
          -- R57.1
          exact z_iret hC hH hQ 57 (((-2), (va_up F 17 ((k_19 : Int))), (va_up (va_up Ar 15 (cI (k_19) w_35 gu_19)) 16 zZ))) dX1_candidate_57 rfl ⟨by (unfold Sp_candidate; rw [if_pos (by omega)]; simp only [Int.toNat_natCast]; refine ⟨e_19, hW9, ?_⟩; rw [if_neg (by omega)]; first | (refine Or.inr ⟨?_, ?_⟩; (rw [hca]; omega); first | rfl | trivial) | (obtain ⟨i9, c1, c2, c3, c4⟩ := cd_at (t := t) pEx (RKS_ENS pS_19 pR_35) hcin pR_35.1 (show k1 < k_19 by omega); exact Or.inl ⟨i9, c1, c2, by rw [c3], by rw [c4]⟩)), by first | assumption | exact ⟨fun k h1 h2 h3 h4 h5 => by first | rfl | (simp [va_up, h1, h2, h3, h4, h5]; done) | (simp [va_up, h1, h2, h3, h4, h5]; intro e9; rw [e9, hFn]), fun k h1 h2 h3 h4 h5 h6 => by first | rfl | simp [va_up, h1, h2, h3, h4, h5, h6]⟩⟩ rfl (Nat.le_refl _) (Nat.le_refl _)
        · -- 43f
          obtain ⟨k1, rfl⟩ := Int.eq_ofNat_of_zero_le (show 0 ≤ k0 by omega)
          refine z_aload_n hC 46 hl dX1_candidate_46 rfl 0 rfl ?_
          refine zp_get (v := .ref (ad 15)) hC (va_P_l hH.1) 47 in_X1 rfl 15 (by decide) q225 0 rfl (rfl) dX1_candidate_47 ?_
          refine z_iload_n hC 50 hl dX1_candidate_50 rfl 3 rfl ?_
          refine zp_iald (f := (cI (k_19) w_35 gu_19)) (x := ((w_35 k1 : Nat) : Int)) hC (va_P_l hH.1) 51 6 (k1) rfl (by decide) (by omega) (by omega) ((cI_lt (by omega))) dX1_candidate_51 ?_
          refine z_goto hC 52 57 dX1_candidate_52 rfl ?_
          -- R57.2
          exact z_iret hC hH hQ 57 ((((w_35 k1 : Nat) : Int), (va_up F 17 ((k_19 : Int))), (va_up (va_up Ar 15 (cI (k_19) w_35 gu_19)) 16 zZ))) dX1_candidate_57 rfl ⟨by (unfold Sp_candidate; rw [if_pos (by omega)]; simp only [Int.toNat_natCast]; refine ⟨e_19, hW9, ?_⟩; rw [if_neg (by omega)]; first | (refine Or.inr ⟨?_, ?_⟩; (rw [hca]; omega); first | rfl | trivial) | (obtain ⟨i9, c1, c2, c3, c4⟩ := cd_at (t := t) pEx (RKS_ENS pS_19 pR_35) hcin pR_35.1 (show k1 < k_19 by omega); exact Or.inl ⟨i9, c1, c2, by rw [c3], by rw [c4]⟩)), by first | assumption | exact ⟨fun k h1 h2 h3 h4 h5 => by first | rfl | (simp [va_up, h1, h2, h3, h4, h5]; done) | (simp [va_up, h1, h2, h3, h4, h5]; intro e9; rw [e9, hFn]), fun k h1 h2 h3 h4 h5 h6 => by first | rfl | simp [va_up, h1, h2, h3, h4, h5, h6]⟩⟩ rfl (Nat.le_refl _) (Nat.le_refl _)
      · -- 24f
        refine z_aload_n hC 27 hl dX1_candidate_27 rfl 0 rfl ?_
        refine zp_get (v := .int (iZ ((k_19 : Int)))) hC (va_P_l hH.1) 28 in_X1 rfl 17 (by decide) q227 0 rfl (rfl) dX1_candidate_28 ?_
        -- R31.3
        exact z_iret hC hH hQ 31 (((k_19 : Int), (va_up F 17 ((k_19 : Int))), (va_up (va_up Ar 15 (cI (k_19) u_19 gu_19)) 16 zZ))) dX1_candidate_31 rfl ⟨by (unfold Sp_candidate; rw [if_pos (by omega)]; simp only [Int.toNat_natCast]; refine ⟨e_19, hW9, ?_⟩; rw [if_pos (by omega), hca]), by first | assumption | exact ⟨fun k h1 h2 h3 h4 h5 => by first | rfl | (simp [va_up, h1, h2, h3, h4, h5]; done) | (simp [va_up, h1, h2, h3, h4, h5]; intro e9; rw [e9, hFn]), fun k h1 h2 h3 h4 h5 h6 => by first | rfl | simp [va_up, h1, h2, h3, h4, h5, h6]⟩⟩ rfl (Nat.le_refl _) (Nat.le_refl _)
    · -- 11f
      refine z_iconst hC 14 dX1_candidate_14 ?_
      -- R15.4
      exact z_iret hC hH hQ 15 (((-1), F, (va_up Ar 16 zZ))) dX1_candidate_15 rfl ⟨by first | (unfold Sp_candidate; rw [if_neg (by omega)]) | (unfold Sp_candidate; rw [if_pos (by omega)]; (try simp only [Int.toNat_natCast, zt1]); first | done | trivial | rfl | omega | (rw [if_pos (by omega)]; first | done | trivial | rfl | omega) | (rw [if_neg (by omega)]; first | done | trivial | rfl | omega)), by first | assumption | exact ⟨fun k h1 h2 h3 h4 h5 => by first | rfl | (simp [va_up, h1, h2, h3, h4, h5]; done) | (simp [va_up, h1, h2, h3, h4, h5]; intro e9; rw [e9, hFn]), fun k h1 h2 h3 h4 h5 h6 => by first | rfl | simp [va_up, h1, h2, h3, h4, h5, h6]⟩⟩ rfl (Nat.le_refl _) (Nat.le_refl _)
  · -- 3=0
    refine z_if_eq_t hC 6 14 dX1_candidate_6 rfl (by omega) (by omega) ?_
    refine z_iconst hC 14 dX1_candidate_14 ?_
    -- R15.5
    exact z_iret hC hH hQ 15 (((-1), F, (va_up Ar 16 zZ))) dX1_candidate_15 rfl ⟨by first | (unfold Sp_candidate; rw [if_neg (by omega)]) | (unfold Sp_candidate; rw [if_pos (by omega)]; (try simp only [Int.toNat_natCast, zt1]); first | done | trivial | rfl | omega | (rw [if_pos (by omega)]; first | done | trivial | rfl | omega) | (rw [if_neg (by omega)]; first | done | trivial | rfl | omega)), by first | assumption | exact ⟨fun k h1 h2 h3 h4 h5 => by first | rfl | (simp [va_up, h1, h2, h3, h4, h5]; done) | (simp [va_up, h1, h2, h3, h4, h5]; intro e9; rw [e9, hFn]), fun k h1 h2 h3 h4 h5 h6 => by first | rfl | simp [va_up, h1, h2, h3, h4, h5, h6]⟩⟩ rfl (Nat.le_refl _) (Nat.le_refl _)
