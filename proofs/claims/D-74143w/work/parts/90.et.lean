/-! methods of ModeDesk that write: 90.et -/
set_option maxHeartbeats 4000000 in
set_option maxRecDepth 100000 in
theorem m_X1_at (lau : Launch) (s0 : State) (G : zG) (sz : Nat) (ad : Nat → Nat) (F : Nat → Int) (Ar : Nat → Nat → Int) (kp : Nat → Nat) (pl : Nat → Option Nat) (PW : va_W) (n : Nat) (v : Nat → Nat) (pr : Nat → Nat) (pa : Nat → Nat) (pm : Nat → Nat) (pf : Nat → Nat → Nat) (nw : Nat) (b : Nat) (t : Nat) (x : Int) (k0 : Int) (hn : n ≤ 120) (hFn : F 200 = (n : Int)) (hv : ∀ i, i < n → v i < 1000) (hAv : ∀ i, i < n → Ar 201 i = (v i : Int)) (hb : 2 ≤ b ∧ b ≤ 20) (hFb : F 7 = (b : Int)) (ht : t < 4) (hFt : F 8 = (t : Int)) (hpl : ∀ y, y < 1000 → (pl y = some (pr y) ∨ (pl y = none ∧ pr y = nw))) (hnw : zNwh s0 nw) (hpc : ∀ y, y < 1000 → PlC n v y (pm y) (pf y)) (hpp : zPool s0 G PW pr pa pm pf) (hmo : ∀ i j, i ≤ j → b * j < n → Ar 12 (60 * i + j) = (md v (b * i) (bEnd b j n) t : Int)) (hr_x : -2147483648 ≤ x ∧ x < 2147483648) (hr_k0 : -2147483648 ≤ k0 ∧ k0 < 2147483648) (hB : zBxs s0) : zMet (S := Int × (Nat → Int) × (Nat → Nat → Int)) lau yX1_at cX1_at 6 (some .int) 3 60 1 2 s0 G sz [.ref (ad 99), .int (iZ (x)), .int (iZ (k0))] (dW ad G F (va_up Ar 16 zZ) kp pl PW) (fun ((r_, F2, A2) : Int × (Nat → Int) × (Nat → Nat → Int)) => some (.int (iZ (r_)))) (fun ((r_, F2, A2) : Int × (Nat → Int) × (Nat → Nat → Int)) => (Sp_at n v x k0 r_) ∧ (DK F (va_up Ar 16 zZ) F2 A2)) (fun ((r_, F2, A2) : Int × (Nat → Int) × (Nat → Nat → Int)) => (dW ad G F2 A2 kp pl PW)) := by
  refine zMet.of (by decide) (Nat.le_of_ble_eq_true rfl) ?_
  intro pg ev s1 mi ar bl me cd ls Q as0 hC hH hl hQ hsz
  generalize s1.heap = H at hH ⊢
  generalize ([] : List Loc) = locs at hH ⊢
  have hl : lv_has ls 6 [(0, .ref (ad 99)), (1, .int (iZ (x))), (2, .int (iZ (k0)))] := hl
  refine z_iload_n hC 0 hl dX1_at_0 rfl 1 rfl ?_
  refine zp_back (zp_runS hC (hH.2.2) hl.1 (zp_nil) 1 (As := [.int (iZ (x))]) (rest := []) (u_X1_isValue lau s0 G x (by first | assumption | omega)) (lw_S q803 q804 q89 q805) ⟨by decide, by decide, by decide +kernel⟩ rfl rfl (Nat.le_of_ble_eq_true rfl) ⟨Nat.le_of_ble_eq_true rfl, Nat.le_of_ble_eq_true rfl⟩ ⟨by first | decide | omega, by first | decide | omega⟩ dX1_at_1) (fun r_1 hpost => ?_)
  have hb_1 : (r_1 = 1 ∧ (0 ≤ x ∧ x < 1000)) ∨ (r_1 = 0 ∧ ¬ (0 ≤ x ∧ x < 1000)) := hpost
  refine z_st (st' := [.int (iZ (r_1))]) rfl ?_
  rcases hb_1 with ⟨rfl, hb_1⟩ | ⟨rfl, hb_1⟩
  · -- 1=1
    refine z_if_eq_f hC 4 11 dX1_at_4 rfl (by omega) (by omega) ?_
    refine z_iload_n hC 7 hl dX1_at_7 rfl 2 rfl ?_
    refine z_if_ge hC 8 13 dX1_at_8 rfl (by omega) (fun hb1 => ?_) (fun hb1 => ?_)
    · -- 8t
      obtain ⟨x1, rfl⟩ := Int.eq_ofNat_of_zero_le (show 0 ≤ x by omega)
      obtain ⟨k1, rfl⟩ := Int.eq_ofNat_of_zero_le (show 0 ≤ k0 by omega)
      refine z_iload_n hC 13 hl dX1_at_13 rfl 2 rfl ?_
      refine z_istore_n (lv' := [(3, .int (iZ ((k1 : Int)))), (0, .ref (ad 99)), (1, .int (iZ ((x1 : Int)))), (2, .int (iZ ((k1 : Int))))]) hC 14 hl dX1_at_14 rfl (by decide) rfl (fun ls hl => ?_)
      refine z_aload_n hC 15 hl dX1_at_15 rfl 1 rfl ?_
      refine z_iload_n hC 16 hl dX1_at_16 rfl 2 rfl ?_
      refine zp_back (zp_runV hC (hH.2.2) hl.1 (va_P_l hH.1) 1 (As := [.int (iZ ((x1 : Int)))]) (rest := []) (u_X1_of lau s0 G ad F (va_up Ar 16 zZ) kp pl x1 (pr x1) nw (by first | assumption | omega) (by first | exact hpl | (first | assumption | exact hpl _ (by omega)) | assumption | omega) (by first | exact hnw | assumption | omega)) (lw_V q736 q738 qs17 q89 q739) ⟨rfl, by decide, by decide, by decide +kernel⟩ (q0 := 0) (ci := 1) rfl rfl rfl rfl (Nat.le_of_ble_eq_true rfl) ⟨Nat.le_of_ble_eq_true rfl, Nat.le_of_ble_eq_true rfl⟩ ⟨by first | decide | omega, by first | decide | omega⟩ dX1_at_17) (fun _ hpost => ?_)
      refine z_st (st' := [.ref ((pr x1))]) rfl ?_
      have hpy := hpc x1 (by omega)
      have hmx := PlC_120 hpy hn
      refine z_iter hC hH hl.1 (dWp hH hpp (y := x1) (by omega)) 20 q888 (rest := []) (Nat.le_of_ble_eq_true rfl) ⟨Nat.le_of_ble_eq_true rfl, Nat.le_of_ble_eq_true rfl⟩ ⟨by first | decide | omega, by first | decide | omega⟩ dX1_at_20 (fun w20 H locs hH => ?_)
      rw [dW_app] at hH
      have hH : zH s0 s1 G as0 (dW ad G F (va_up Ar 16 zZ) kp pl (PW ++ [(w20, .inr (10, [.int (iZ ((0 : Nat) : Int)), .ref (pr x1)]))])) H locs := hH
      refine z_astore (lv' := [(4, .ref (w20)), (3, .int (iZ ((k1 : Int)))), (0, .ref (ad 99)), (1, .int (iZ ((x1 : Int)))), (2, .int (iZ ((k1 : Int))))]) hC 23 hl dX1_at_23 (by decide) rfl (fun ls hl => ?_)
      have L25 : ∀ (N_ : Nat) (k : Nat) (H : Heap) (locs : List Loc) (ls : Array Slot), pm x1 - k < N_ → (k ≤ k1) → (k ≤ pm x1) → zH s0 s1 G as0 (dW ad G F (va_up Ar 16 zZ) kp pl (PW ++ [(w20, .inr (10, [.int (iZ ((k : Nat) : Int)), .ref (pr x1)]))])) H locs → lv_has ls 6 [(0, .ref (ad 99)), (1, .int (iZ ((x1 : Int)))), (2, .int (iZ ((k1 : Int)))), (3, .int (iZ ((k1 : Int) - (k : Int)))), (4, .ref (w20))] → W pg lau ev (zRm 3 1 2 60) s1 mi ar bl me cd H locs (0 + 1) (0 + 2) Q (F0 mi 25 ls []) := by
        intro N_
        induction N_ with
        | zero => intro k H locs ls hd; exact absurd hd (Nat.not_lt_zero _)
        | succ N_ ih25 =>
          intro k H locs ls hd25 i25_1 i25_2 hH hl
          refine z_aload hC 25 hl dX1_at_25 4 rfl ?_
          refine z_hasN (k := k) (y := x1) hC hH hl.1 hpp (by omega) hmx (by omega) 27 q906 (rest := []) (Nat.le_of_ble_eq_true rfl) ⟨Nat.le_of_ble_eq_true rfl, Nat.le_of_ble_eq_true rfl⟩ ⟨by first | decide | omega, by first | decide | omega⟩ dX1_at_27 (fun r_ hb_27 => ?_)
          rcases hb_27 with ⟨rfl, hb_27⟩ | ⟨rfl, hb_27⟩
          · -- 27=1
            refine z_if_eq_f hC 32 63 dX1_at_32 rfl (by omega) (by omega) ?_
            refine z_aload hC 35 hl dX1_at_35 4 rfl ?_
            have hfk := hpy.2 (k) (by omega)
            refine z_nextN (k := k) (y := x1) hC hH hl.1 hpp (by omega) hmx (by omega) (by omega) hB 37 q922 (rest := []) (Nat.le_of_ble_eq_true rfl) ⟨Nat.le_of_ble_eq_true rfl, Nat.le_of_ble_eq_true rfl⟩ ⟨by first | decide | omega, by first | decide | omega⟩ dX1_at_37 (fun b_37 H locs hbx hH => ?_)
            have hH : zH s0 s1 G as0 (dW ad G F (va_up Ar 16 zZ) kp pl (PW ++ [(w20, .inr (10, [.int (iZ ((k + 1 : Nat) : Int)), .ref (pr x1)]))])) H locs := hH
            refine z_castB hC hH.2.2 42 hbx q1018 dX1_at_42 ?_
            refine z_intV hC hH.2.2 hl.1 hbx 45 q1019 (rest := []) (Nat.le_of_ble_eq_true rfl) ⟨Nat.le_of_ble_eq_true rfl, Nat.le_of_ble_eq_true rfl⟩ ⟨by first | decide | omega, by first | decide | omega⟩ dX1_at_45 ?_
            refine z_istore (lv' := [(5, .int (iZ (((pf x1 (k) : Nat) : Int)))), (0, .ref (ad 99)), (1, .int (iZ ((x1 : Int)))), (2, .int (iZ ((k1 : Int)))), (3, .int (iZ ((k1 : Int) - (k : Int)))), (4, .ref (w20))]) hC 48 hl dX1_at_48 (by decide) rfl (fun ls hl => ?_)
            refine z_iload_n hC 50 hl dX1_at_50 rfl 4 rfl ?_
            refine z_if_ne hC 51 57 dX1_at_51 rfl (by omega) (fun hb2 => ?_) (fun hb2 => ?_)
            · -- 51t
              refine z_iinc (lv' := [(3, .int (iZ ((k1 : Int) - (k : Int) - 1))), (5, .int (iZ (((pf x1 (k) : Nat) : Int)))), (0, .ref (ad 99)), (1, .int (iZ ((x1 : Int)))), (2, .int (iZ ((k1 : Int)))), (4, .ref (w20))]) hC 57 hl dX1_at_57 4 rfl (by omega) (by decide) rfl (fun ls hl => ?_)
              refine z_goto hC 60 25 dX1_at_60 rfl ?_
              -- J25.1
              exact ih25 (k + 1) _ _ _ (by omega) (by first | assumption | omega) (by first | assumption | omega) hH (z_lv (lv_sub hl [2, 3, 4, 0, 5] rfl) (zcons rfl (zcons rfl (zcons rfl (zcons (zpeq (by omega)) (zcons rfl rfl))))))
            · -- 51f
              refine z_iload hC 54 hl dX1_at_54 0 rfl ?_
              rw [← dW_app] at hH
              have hH := zH_l hH
              -- R56.2
              exact z_iret hC hH hQ 56 ((((pf x1 (k) : Nat) : Int), F, (va_up Ar 16 zZ))) dX1_at_56 rfl ⟨by (unfold Sp_at; rw [if_pos (by omega)]; exact Or.inl ⟨pf x1 k, by omega, hfk.2.1, by rw [Int.toNat_natCast, Int.toNat_natCast]; omega, rfl⟩), by first | assumption | exact ⟨fun k h1 h2 h3 h4 h5 => by first | rfl | (simp [va_up, h1, h2, h3, h4, h5]; done) | (simp [va_up, h1, h2, h3, h4, h5]; intro e9; rw [e9, hFn]), fun k h1 h2 h3 h4 h5 h6 => by first | rfl | simp [va_up, h1, h2, h3, h4, h5, h6]⟩⟩ rfl (by first | decide | omega) (by first | decide | omega)
          · -- 27=0
            refine z_if_eq_t hC 32 63 dX1_at_32 rfl (by omega) (by omega) ?_
            refine z_bipush hC 63 dX1_at_63 rfl ?_
            rw [← dW_app] at hH
            have hH := zH_l hH
            -- R65.3
            exact z_iret hC hH hQ 65 (((-2), F, (va_up Ar 16 zZ))) dX1_at_65 rfl ⟨by (unfold Sp_at; rw [if_pos (by omega)]; have h9 := hpy.1; exact Or.inr ⟨by simp only [Int.toNat_natCast]; omega, rfl⟩), by first | assumption | exact ⟨fun k h1 h2 h3 h4 h5 => by first | rfl | (simp [va_up, h1, h2, h3, h4, h5]; done) | (simp [va_up, h1, h2, h3, h4, h5]; intro e9; rw [e9, hFn]), fun k h1 h2 h3 h4 h5 h6 => by first | rfl | simp [va_up, h1, h2, h3, h4, h5, h6]⟩⟩ rfl (by first | decide | omega) (by first | decide | omega)
      -- J25.4
      exact L25 _ 0 _ _ _ (Nat.lt_succ_self _) (by first | assumption | omega) (by first | assumption | omega) hH (z_lv (lv_sub hl [2, 3, 4, 1, 0] rfl) (zcons rfl (zcons rfl (zcons rfl (zcons (zpeq (by omega)) (zcons rfl rfl))))))
    · -- 8f
      refine z_iconst hC 11 dX1_at_11 ?_
      -- R12.5
      exact z_iret hC hH hQ 12 (((-1), F, (va_up Ar 16 zZ))) dX1_at_12 rfl ⟨by first | (unfold Sp_at; rw [if_neg (by omega)]) | (unfold Sp_at; rw [if_pos (by omega)]; (try simp only [Int.toNat_natCast, zt1]); first | done | trivial | rfl | omega | (rw [if_pos (by omega)]; first | done | trivial | rfl | omega) | (rw [if_neg (by omega)]; first | done | trivial | rfl | omega)), by first | assumption | exact ⟨fun k h1 h2 h3 h4 h5 => by first | rfl | (simp [va_up, h1, h2, h3, h4, h5]; done) | (simp [va_up, h1, h2, h3, h4, h5]; intro e9; rw [e9, hFn]), fun k h1 h2 h3 h4 h5 h6 => by first | rfl | simp [va_up, h1, h2, h3, h4, h5, h6]⟩⟩ rfl (by first | decide | omega) (by first | decide | omega)
  · -- 1=0
    refine z_if_eq_t hC 4 11 dX1_at_4 rfl (by omega) (by omega) ?_
    refine z_iconst hC 11 dX1_at_11 ?_
    -- R12.6
    exact z_iret hC hH hQ 12 (((-1), F, (va_up Ar 16 zZ))) dX1_at_12 rfl ⟨by first | (unfold Sp_at; rw [if_neg (by omega)]) | (unfold Sp_at; rw [if_pos (by omega)]; (try simp only [Int.toNat_natCast, zt1]); first | done | trivial | rfl | omega | (rw [if_pos (by omega)]; first | done | trivial | rfl | omega) | (rw [if_neg (by omega)]; first | done | trivial | rfl | omega)), by first | assumption | exact ⟨fun k h1 h2 h3 h4 h5 => by first | rfl | (simp [va_up, h1, h2, h3, h4, h5]; done) | (simp [va_up, h1, h2, h3, h4, h5]; intro e9; rw [e9, hFn]), fun k h1 h2 h3 h4 h5 h6 => by first | rfl | simp [va_up, h1, h2, h3, h4, h5, h6]⟩⟩ rfl (by first | decide | omega) (by first | decide | omega)

set_option maxHeartbeats 4000000 in
set_option maxRecDepth 100000 in
theorem m_X1_gap (lau : Launch) (s0 : State) (G : zG) (sz : Nat) (ad : Nat → Nat) (F : Nat → Int) (Ar : Nat → Nat → Int) (kp : Nat → Nat) (pl : Nat → Option Nat) (PW : va_W) (n : Nat) (v : Nat → Nat) (pr : Nat → Nat) (pa : Nat → Nat) (pm : Nat → Nat) (pf : Nat → Nat → Nat) (nw : Nat) (b : Nat) (t : Nat) (x : Int) (hn : n ≤ 120) (hFn : F 200 = (n : Int)) (hv : ∀ i, i < n → v i < 1000) (hAv : ∀ i, i < n → Ar 201 i = (v i : Int)) (hb : 2 ≤ b ∧ b ≤ 20) (hFb : F 7 = (b : Int)) (ht : t < 4) (hFt : F 8 = (t : Int)) (hpl : ∀ y, y < 1000 → (pl y = some (pr y) ∨ (pl y = none ∧ pr y = nw))) (hnw : zNwh s0 nw) (hpc : ∀ y, y < 1000 → PlC n v y (pm y) (pf y)) (hpp : zPool s0 G PW pr pa pm pf) (hmo : ∀ i j, i ≤ j → b * j < n → Ar 12 (60 * i + j) = (md v (b * i) (bEnd b j n) t : Int)) (hr_x : -2147483648 ≤ x ∧ x < 2147483648) (hB : zBxs s0) : zMet (S := Int × (Nat → Int) × (Nat → Nat → Int)) lau yX1_gap cX1_gap 6 (some .int) 3 60 1 2 s0 G sz [.ref (ad 99), .int (iZ (x))] (dW ad G F (va_up Ar 16 zZ) kp pl PW) (fun ((r_, F2, A2) : Int × (Nat → Int) × (Nat → Nat → Int)) => some (.int (iZ (r_)))) (fun ((r_, F2, A2) : Int × (Nat → Int) × (Nat → Nat → Int)) => (Sp_gap n v x r_) ∧ (DK F (va_up Ar 16 zZ) F2 A2)) (fun ((r_, F2, A2) : Int × (Nat → Int) × (Nat → Nat → Int)) => (dW ad G F2 A2 kp pl PW)) := by
  refine zMet.of (by decide) (Nat.le_of_ble_eq_true rfl) ?_
  intro pg ev s1 mi ar bl me cd ls Q as0 hC hH hl hQ hsz
  generalize s1.heap = H at hH ⊢
  generalize ([] : List Loc) = locs at hH ⊢
  have hl : lv_has ls 6 [(0, .ref (ad 99)), (1, .int (iZ (x)))] := hl
  refine z_iload_n hC 0 hl dX1_gap_0 rfl 1 rfl ?_
  refine zp_back (zp_runS hC (hH.2.2) hl.1 (zp_nil) 1 (As := [.int (iZ (x))]) (rest := []) (u_X1_isValue lau s0 G x (by first | assumption | omega)) (lw_S q803 q804 q89 q805) ⟨by decide, by decide, by decide +kernel⟩ rfl rfl (Nat.le_of_ble_eq_true rfl) ⟨Nat.le_of_ble_eq_true rfl, Nat.le_of_ble_eq_true rfl⟩ ⟨by first | decide | omega, by first | decide | omega⟩ dX1_gap_1) (fun r_1 hpost => ?_)
  have hb_1 : (r_1 = 1 ∧ (0 ≤ x ∧ x < 1000)) ∨ (r_1 = 0 ∧ ¬ (0 ≤ x ∧ x < 1000)) := hpost
  refine z_st (st' := [.int (iZ (r_1))]) rfl ?_
  rcases hb_1 with ⟨rfl, hb_1⟩ | ⟨rfl, hb_1⟩
  · -- 1=1
    refine z_if_ne_t hC 4 9 dX1_gap_4 rfl (by omega) (by omega) ?_
    obtain ⟨x1, rfl⟩ := Int.eq_ofNat_of_zero_le (show 0 ≤ x by omega)
    refine z_iconst hC 9 dX1_gap_9 ?_
    refine z_istore_n (lv' := [(2, .int (iZ ((-1)))), (0, .ref (ad 99)), (1, .int (iZ ((x1 : Int))))]) hC 10 hl dX1_gap_10 rfl (by decide) rfl (fun ls hl => ?_)
    refine z_bipush hC 11 dX1_gap_11 rfl ?_
    refine z_istore_n (lv' := [(3, .int (iZ ((-2)))), (2, .int (iZ ((-1)))), (0, .ref (ad 99)), (1, .int (iZ ((x1 : Int))))]) hC 13 hl dX1_gap_13 rfl (by decide) rfl (fun ls hl => ?_)
    refine z_aload_n hC 14 hl dX1_gap_14 rfl 2 rfl ?_
    refine z_iload_n hC 15 hl dX1_gap_15 rfl 3 rfl ?_
    refine zp_back (zp_runV hC (hH.2.2) hl.1 (va_P_l hH.1) 1 (As := [.int (iZ ((x1 : Int)))]) (rest := []) (u_X1_of lau s0 G ad F (va_up Ar 16 zZ) kp pl x1 (pr x1) nw (by first | assumption | omega) (by first | exact hpl | (first | assumption | exact hpl _ (by omega)) | assumption | omega) (by first | exact hnw | assumption | omega)) (lw_V q736 q738 qs17 q89 q739) ⟨rfl, by decide, by decide, by decide +kernel⟩ (q0 := 0) (ci := 1) rfl rfl rfl rfl (Nat.le_of_ble_eq_true rfl) ⟨Nat.le_of_ble_eq_true rfl, Nat.le_of_ble_eq_true rfl⟩ ⟨by first | decide | omega, by first | decide | omega⟩ dX1_gap_16) (fun _ hpost => ?_)
    refine z_st (st' := [.ref ((pr x1))]) rfl ?_
    have hpy := hpc x1 (by omega)
    have hmx := PlC_120 hpy hn
    refine z_iter hC hH hl.1 (dWp hH hpp (y := x1) (by omega)) 19 q888 (rest := []) (Nat.le_of_ble_eq_true rfl) ⟨Nat.le_of_ble_eq_true rfl, Nat.le_of_ble_eq_true rfl⟩ ⟨by first | decide | omega, by first | decide | omega⟩ dX1_gap_19 (fun w19 H locs hH => ?_)
    rw [dW_app] at hH
    have hH : zH s0 s1 G as0 (dW ad G F (va_up Ar 16 zZ) kp pl (PW ++ [(w19, .inr (10, [.int (iZ ((0 : Nat) : Int)), .ref (pr x1)]))])) H locs := hH
    refine z_astore (lv' := [(4, .ref (w19)), (3, .int (iZ ((-2)))), (2, .int (iZ ((-1)))), (0, .ref (ad 99)), (1, .int (iZ ((x1 : Int))))]) hC 22 hl dX1_gap_22 (by decide) rfl (fun ls hl => ?_)
    have L24 : ∀ (N_ : Nat) (k : Nat) (ws : Int) (ms : Int) (H : Heap) (locs : List Loc) (ls : Array Slot), pm x1 - k < N_ → (k ≤ pm x1) → (-1 ≤ ws ∧ ws < 120) → (-2 ≤ ms ∧ ms ≤ 120) → (GPI v x1 (pf x1) k ws ms) → zH s0 s1 G as0 (dW ad G F (va_up Ar 16 zZ) kp pl (PW ++ [(w19, .inr (10, [.int (iZ ((k : Nat) : Int)), .ref (pr x1)]))])) H locs → lv_has ls 6 [(0, .ref (ad 99)), (1, .int (iZ ((x1 : Int)))), (2, .int (iZ (ws))), (3, .int (iZ (ms))), (4, .ref (w19))] → W pg lau ev (zRm 3 1 2 60) s1 mi ar bl me cd H locs (0 + 1) (0 + 2) Q (F0 mi 24 ls []) := by
      intro N_
      induction N_ with
      | zero => intro k ws ms H locs ls hd; exact absurd hd (Nat.not_lt_zero _)
      | succ N_ ih24 =>
        intro k ws ms H locs ls hd24 i24_1 i24_2 i24_3 ig hH hl
        refine z_aload hC 24 hl dX1_gap_24 4 rfl ?_
        refine z_hasN (k := k) (y := x1) hC hH hl.1 hpp (by omega) hmx (by omega) 26 q906 (rest := []) (Nat.le_of_ble_eq_true rfl) ⟨Nat.le_of_ble_eq_true rfl, Nat.le_of_ble_eq_true rfl⟩ ⟨by first | decide | omega, by first | decide | omega⟩ dX1_gap_26 (fun r_ hb_26 => ?_)
        rcases hb_26 with ⟨rfl, hb_26⟩ | ⟨rfl, hb_26⟩
        · -- 26=1
          refine z_if_eq_f hC 31 69 dX1_gap_31 rfl (by omega) (by omega) ?_
          refine z_aload hC 34 hl dX1_gap_34 4 rfl ?_
          have hfk := hpy.2 (k) (by omega)
          refine z_nextN (k := k) (y := x1) hC hH hl.1 hpp (by omega) hmx (by omega) (by omega) hB 36 q922 (rest := []) (Nat.le_of_ble_eq_true rfl) ⟨Nat.le_of_ble_eq_true rfl, Nat.le_of_ble_eq_true rfl⟩ ⟨by first | decide | omega, by first | decide | omega⟩ dX1_gap_36 (fun b_36 H locs hbx hH => ?_)
          have hH : zH s0 s1 G as0 (dW ad G F (va_up Ar 16 zZ) kp pl (PW ++ [(w19, .inr (10, [.int (iZ ((k + 1 : Nat) : Int)), .ref (pr x1)]))])) H locs := hH
          refine z_castB hC hH.2.2 41 hbx q1018 dX1_gap_41 ?_
          refine z_intV hC hH.2.2 hl.1 hbx 44 q1019 (rest := []) (Nat.le_of_ble_eq_true rfl) ⟨Nat.le_of_ble_eq_true rfl, Nat.le_of_ble_eq_true rfl⟩ ⟨by first | decide | omega, by first | decide | omega⟩ dX1_gap_44 ?_
          refine z_istore (lv' := [(5, .int (iZ (((pf x1 (k) : Nat) : Int)))), (0, .ref (ad 99)), (1, .int (iZ ((x1 : Int)))), (2, .int (iZ (ws))), (3, .int (iZ (ms))), (4, .ref (w19))]) hC 47 hl dX1_gap_47 (by decide) rfl (fun ls hl => ?_)
          refine z_iload_n hC 49 hl dX1_gap_49 rfl 3 rfl ?_
          refine z_iconst hC 50 dX1_gap_50 ?_
          refine z_icmp_eq hC 51 63 dX1_gap_51 rfl (by omega) (by omega) (fun hb1 => ?_) (fun hb1 => ?_)
          · -- 51t
            refine z_iload hC 63 hl dX1_gap_63 0 rfl ?_
            refine z_istore_n (lv' := [(2, .int (iZ (((pf x1 (k) : Nat) : Int)))), (5, .int (iZ (((pf x1 (k) : Nat) : Int)))), (0, .ref (ad 99)), (1, .int (iZ ((x1 : Int)))), (3, .int (iZ (ms))), (4, .ref (w19))]) hC 65 hl dX1_gap_65 rfl (by decide) rfl (fun ls hl => ?_)
            refine z_goto hC 66 24 dX1_gap_66 rfl ?_
            -- J24.1
            exact ih24 (k + 1) ((pf x1 (k) : Nat) : Int) ms _ _ _ (by omega) (by first | assumption | omega) (by first | assumption | omega) (by first | assumption | omega) (by first | exact GP_0 | exact GP_s hpy (by omega) ig (by omega)) hH (lv_sub hl [2, 3, 0, 4, 5] rfl)
          · -- 51f
            refine z_iload_n hC 54 hl dX1_gap_54 rfl 4 rfl ?_
            refine z_iload hC 55 hl dX1_gap_55 0 rfl ?_
            refine z_iload_n hC 57 hl dX1_gap_57 rfl 3 rfl ?_
            refine z_isub (e := ((pf x1 (k) : Nat) : Int) - ws) hC 58 dX1_gap_58 rfl ?_
            refine z_max (a := ms) (b := ((pf x1 (k) : Nat) : Int) - ws) hC hl.1 59 q1324 dX1_gap_59 (by omega) (by omega) ⟨Nat.le_of_ble_eq_true rfl, Nat.le_of_ble_eq_true rfl⟩ ⟨by first | decide | omega, by first | decide | omega⟩ ?_
            have hmm59 := zmax_spec (ms) (((pf x1 (k) : Nat) : Int) - ws)
            refine z_istore_n (lv' := [(3, .int (iZ ((zmax (ms) (((pf x1 (k) : Nat) : Int) - ws))))), (5, .int (iZ (((pf x1 (k) : Nat) : Int)))), (0, .ref (ad 99)), (1, .int (iZ ((x1 : Int)))), (2, .int (iZ (ws))), (4, .ref (w19))]) hC 62 hl dX1_gap_62 rfl (by decide) rfl (fun ls hl => ?_)
            refine z_iload hC 63 hl dX1_gap_63 1 rfl ?_
            refine z_istore_n (lv' := [(2, .int (iZ (((pf x1 (k) : Nat) : Int)))), (3, .int (iZ ((zmax (ms) (((pf x1 (k) : Nat) : Int) - ws))))), (5, .int (iZ (((pf x1 (k) : Nat) : Int)))), (0, .ref (ad 99)), (1, .int (iZ ((x1 : Int)))), (4, .ref (w19))]) hC 65 hl dX1_gap_65 rfl (by decide) rfl (fun ls hl => ?_)
            refine z_goto hC 66 24 dX1_gap_66 rfl ?_
            -- J24.2
            exact ih24 (k + 1) ((pf x1 (k) : Nat) : Int) (zmax (ms) (((pf x1 (k) : Nat) : Int) - ws)) _ _ _ (by omega) (by first | assumption | omega) (by first | assumption | omega) (by first | assumption | omega) (by first | exact GP_0 | exact GP_s hpy (by omega) ig (by omega)) hH (lv_sub hl [3, 4, 0, 1, 5] rfl)
        · -- 26=0
          refine z_if_eq_t hC 31 69 dX1_gap_31 rfl (by omega) (by omega) ?_
          refine z_iload_n hC 69 hl dX1_gap_69 rfl 3 rfl ?_
          rw [← dW_app] at hH
          have hH := zH_l hH
          -- R70.3
          exact z_iret hC hH hQ 70 ((ms, F, (va_up Ar 16 zZ))) dX1_gap_70 rfl ⟨by (unfold Sp_gap; rw [if_pos (by omega)]; simp only [Int.toNat_natCast]; exact GP_e hpy (by omega) ig), by first | assumption | exact ⟨fun k h1 h2 h3 h4 h5 => by first | rfl | (simp [va_up, h1, h2, h3, h4, h5]; done) | (simp [va_up, h1, h2, h3, h4, h5]; intro e9; rw [e9, hFn]), fun k h1 h2 h3 h4 h5 h6 => by first | rfl | simp [va_up, h1, h2, h3, h4, h5, h6]⟩⟩ rfl (by first | decide | omega) (by first | decide | omega)
    -- J24.4
    exact L24 _ 0 (-1) (-2) _ _ _ (Nat.lt_succ_self _) (by first | assumption | omega) (by first | assumption | omega) (by first | assumption | omega) (by first | exact GP_0 | exact GP_s hpy (by omega) ig (by omega)) hH (lv_sub hl [3, 4, 2, 1, 0] rfl)
  · -- 1=0
    refine z_if_ne_f hC 4 9 dX1_gap_4 rfl (by omega) (by omega) ?_
    refine z_iconst hC 7 dX1_gap_7 ?_
    -- R8.5
    exact z_iret hC hH hQ 8 (((-1), F, (va_up Ar 16 zZ))) dX1_gap_8 rfl ⟨by first | (unfold Sp_gap; rw [if_neg (by omega)]) | (unfold Sp_gap; rw [if_pos (by omega)]; (try simp only [Int.toNat_natCast, zt1]); first | done | trivial | rfl | omega | (rw [if_pos (by omega)]; first | done | trivial | rfl | omega) | (rw [if_neg (by omega)]; first | done | trivial | rfl | omega)), by first | assumption | exact ⟨fun k h1 h2 h3 h4 h5 => by first | rfl | (simp [va_up, h1, h2, h3, h4, h5]; done) | (simp [va_up, h1, h2, h3, h4, h5]; intro e9; rw [e9, hFn]), fun k h1 h2 h3 h4 h5 h6 => by first | rfl | simp [va_up, h1, h2, h3, h4, h5, h6]⟩⟩ rfl (by first | decide | omega) (by first | decide | omega)
