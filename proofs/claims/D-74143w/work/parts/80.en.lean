/-! methods of ModeDesk that write: 80.en -/
set_option maxHeartbeats 16000000 in
set_option maxRecDepth 100000 in
theorem m_X1_refreshes (lau : Launch) (s0 : State) (G : zG) (sz : Nat) (ad : Nat → Nat) (F : Nat → Int) (Ar : Nat → Nat → Int) (kp : Nat → Nat) (pl : Nat → Option Nat) (PW : va_W) (L : List Nat) (pr : Nat → Nat) (pa : Nat → Nat) (pm : Nat → Nat) (pf : Nat → Nat → Nat) (nw : Nat) (n : Nat) (v : Nat → Nat) (n2 : Nat) (v2 : Nat → Nat) (b : Nat) (t : Nat) (a0 : Nat → Int) (hn : n ≤ 120) (hFn : F 200 = (n : Int)) (hv : ∀ i, i < n → v i < 1000) (hAv : ∀ i, i < n → Ar 201 i = (v i : Int)) (hn2 : n2 ≤ 120) (hFn2 : F 203 = (n2 : Int)) (hv2 : ∀ i, i < n2 → v2 i < 1000) (hAv2 : ∀ i, i < n2 → Ar 204 i = (v2 i : Int)) (hb : 2 ≤ b ∧ b ≤ 20) (hFb : F 7 = (b : Int)) (ht : t < 4) (hFt : F 8 = (t : Int)) (hS : PLS s0 G nw L pl pr pa pm pf) (hnw : zNwh s0 nw) (hmo0 : ∀ i j, i ≤ j → b * j < n2 → a0 (60 * i + j) = (md v2 (b * i) (bEnd b j n2) t : Int)) : zMet (S := List Nat × (Nat → Option Nat) × (Nat → Nat) × (Nat → Nat) × (Nat → Nat) × (Nat → Nat → Nat) × (Nat → Int)) lau yX1_refreshes cX1_refreshes 3 (none) 5 122 240 14640 s0 G sz [.ref (ad 99)] (dW ad G F (va_up Ar 12 a0) kp pl (dPool G pr pa pm pf L)) (fun ((L2, pl2, pr2, pa2, pm2, pf2, a2) : List Nat × (Nat → Option Nat) × (Nat → Nat) × (Nat → Nat) × (Nat → Nat) × (Nat → Nat → Nat) × (Nat → Int)) => (none : Option Value)) (fun ((L2, pl2, pr2, pa2, pm2, pf2, a2) : List Nat × (Nat → Option Nat) × (Nat → Nat) × (Nat → Nat) × (Nat → Nat) × (Nat → Nat → Nat) × (Nat → Int)) => (PLS s0 G nw L2 pl2 pr2 pa2 pm2 pf2) ∧ (∀ y, y < 1000 → PlC n v y (pm2 y) (pf2 y)) ∧ (∀ i j, i ≤ j → b * j < n → a2 (60 * i + j) = (md v (b * i) (bEnd b j n) t : Int))) (fun ((L2, pl2, pr2, pa2, pm2, pf2, a2) : List Nat × (Nat → Option Nat) × (Nat → Nat) × (Nat → Nat) × (Nat → Nat) × (Nat → Nat → Nat) × (Nat → Int)) => (dW ad G (va_up F 9 (((frs b n2 v2 n v : Nat) : Int))) (va_up Ar 12 a2) kp pl2 (dPool G pr2 pa2 pm2 pf2 L2))) := by
  refine zMet.of (by decide) (Nat.le_of_ble_eq_true rfl) ?_
  intro pg ev s1 mi ar bl me cd ls Q as0 hC hH hl hQ hsz
  generalize s1.heap = H at hH ⊢
  generalize ([] : List Loc) = locs at hH ⊢
  have hl : lv_has ls 3 [(0, .ref (ad 99))] := hl
  have hbl := blk_le hb.1 hn
  have hB60 : zdiv (n + b - 1) b ≤ 60 := by have := (blk_lt (n := n) (j := 60) (show 0 < b by omega)); have h9 : 2 * 60 ≤ b * 60 := Nat.mul_le_mul_right 60 hb.1; omega
  refine z_aload_n hC 0 hl dX1_refreshes_0 rfl 0 rfl ?_
  refine z_same (z_runV hC hH.2.2 hl.1 hH.1 hH.2.1 0 (As := []) (rest := []) (m_X1_laysPlaces lau s0 G _ ad F (va_up Ar 12 a0) kp pl L pr pa pm pf nw n v (by first | exact hn | assumption | omega) (by first | exact hFn | assumption | omega) (by first | exact hv | assumption | omega) (by first | exact hAv | assumption | omega) (by first | exact hS | assumption | omega)) (lw_V q695 q697 qs12 q89 q698) ⟨rfl, by decide, by decide, by decide +kernel⟩ (q0 := 0) (ci := 1) rfl rfl rfl rfl (Nat.le_of_ble_eq_true rfl) ⟨Nat.le_of_ble_eq_true rfl, Nat.le_of_ble_eq_true rfl⟩ ⟨by first | decide | omega, by first | decide | omega⟩ dX1_refreshes_1) hH (fun u_ H locs hpost hH => ?_)
  obtain ⟨L2_1, pl2_1, pr2_1, pa2_1, pm2_1, pf2_1⟩ := u_
  obtain ⟨pS_1, pc_1⟩ : (PLS s0 G nw L2_1 pl2_1 pr2_1 pa2_1 pm2_1 pf2_1) ∧ (∀ y, y < 1000 → PlC n v y (pm2_1 y) (pf2_1 y)) := hpost
  have hH : zH s0 s1 G as0 (dW ad G F (va_up Ar 12 a0) kp pl2_1 (dPool G pr2_1 pa2_1 pm2_1 pf2_1 L2_1)) H locs := hH
  refine z_st (st' := []) rfl ?_
  have hpl := PLS_pl pS_1
  have hpp := PLS_pool pS_1
  have hpc := pc_1
  have hS := pS_1
  refine z_aload_n hC 4 hl dX1_refreshes_4 rfl 0 rfl ?_
  refine z_iconst hC 5 dX1_refreshes_5 ?_
  refine pD_9 hC hH 6 dX1_refreshes_6 (fun H locs hH => ?_)
  have hH : zH s0 s1 G as0 (dW ad G (va_up F 9 (0)) (va_up Ar 12 a0) kp pl2_1 (dPool G pr2_1 pa2_1 pm2_1 pf2_1 L2_1)) H locs := hH
  refine z_aload_n hC 9 hl dX1_refreshes_9 rfl 0 rfl ?_
  refine zp_back (zp_runV hC (hH.2.2) hl.1 (va_P_l hH.1) 0 (As := []) (rest := []) (u_X1_blocks lau s0 G ad (va_up F 9 (0)) (va_up Ar 12 a0) kp pl2_1 n b (by first | exact hn | assumption | omega) (by first | exact hFn | assumption | omega) (by first | exact hb | assumption | omega) (by first | exact hFb | assumption | omega)) (lw_V q719 q721 qs13 q89 q722) ⟨rfl, by decide, by decide, by decide +kernel⟩ (q0 := 0) (ci := 1) rfl rfl rfl rfl (Nat.le_of_ble_eq_true rfl) ⟨Nat.le_of_ble_eq_true rfl, Nat.le_of_ble_eq_true rfl⟩ ⟨by first | decide | omega, by first | decide | omega⟩ dX1_refreshes_10) (fun _ hpost => ?_)
  refine z_st (st' := [.int (iZ (((zdiv (n + b - 1) b : Nat) : Int)))]) rfl ?_
  refine z_istore_n (lv' := [(1, .int (iZ (((zdiv (n + b - 1) b : Nat) : Int)))), (0, .ref (ad 99))]) hC 13 hl dX1_refreshes_13 rfl (by decide) rfl (fun ls hl => ?_)
  refine z_aload_n hC 14 hl dX1_refreshes_14 rfl 1 rfl ?_
  refine zp_back (zp_runV hC (hH.2.2) hl.1 (va_P_l hH.1) 0 (As := []) (rest := []) (u_X1_blocks lau s0 G ad (va_up F 9 (0)) (va_up Ar 12 a0) kp pl2_1 n b (by first | exact hn | assumption | omega) (by first | exact hFn | assumption | omega) (by first | exact hb | assumption | omega) (by first | exact hFb | assumption | omega)) (lw_V q719 q721 qs13 q89 q722) ⟨rfl, by decide, by decide, by decide +kernel⟩ (q0 := 0) (ci := 1) rfl rfl rfl rfl (Nat.le_of_ble_eq_true rfl) ⟨Nat.le_of_ble_eq_true rfl, Nat.le_of_ble_eq_true rfl⟩ ⟨by first | decide | omega, by first | decide | omega⟩ dX1_refreshes_15) (fun _ hpost => ?_)
  refine z_st (st' := [.int (iZ (((zdiv (n + b - 1) b : Nat) : Int)))]) rfl ?_
  refine z_iconst hC 18 dX1_refreshes_18 ?_
  refine z_isub (e := ((zdiv (n + b - 1) b : Nat) : Int) - 1) hC 19 dX1_refreshes_19 rfl ?_
  refine z_istore_n (lv' := [(2, .int (iZ (((zdiv (n + b - 1) b : Nat) : Int) - 1))), (1, .int (iZ (((zdiv (n + b - 1) b : Nat) : Int)))), (0, .ref (ad 99))]) hC 20 hl dX1_refreshes_20 rfl (by decide) rfl (fun ls hl => ?_)
  have L21 : ∀ (N_ : Nat) (e : Nat) (nx : Nat) (c : Nat) (a : Nat → Int) (H : Heap) (locs : List Loc) (ls : Array Slot), e < N_ → (e ≤ zdiv (n + b - 1) b) → (nx ≤ zdiv (n + b - 1) b) → (e ≤ nx) → (∀ j, e ≤ j → j < nx → ¬ FR b n2 v2 n v j) → (nx < zdiv (n + b - 1) b → FR b n2 v2 n v nx) → (c + sm (fun i => cB (fun j => ∃ i1, i ≤ i1 ∧ i1 ≤ j ∧ FR b n2 v2 n v i1) (zdiv (n + b - 1) b)) 0 e = frs b n2 v2 n v) → (c ≤ 14400) → (RFM v b n t e a0 a) → zH s0 s1 G as0 (dW ad G (va_up F 9 ((c : Int))) (va_up Ar 12 a) kp pl2_1 (dPool G pr2_1 pa2_1 pm2_1 pf2_1 L2_1)) H locs → lv_has ls 3 [(0, .ref (ad 99)), (1, .int (iZ ((nx : Int)))), (2, .int (iZ ((e : Int) - 1)))] → W pg lau ev (zRm 5 240 14640 122) s1 mi ar bl me cd H locs (0 + 240) (0 + 14640) Q (F0 mi 21 ls []) := by
    intro N_
    induction N_ with
    | zero => intro e nx c a H locs ls hd; exact absurd hd (Nat.not_lt_zero _)
    | succ N_ ih21 =>
      intro e nx c a H locs ls hd21 i21_1 i21_2 i21_3 inx inf ic i21_7 im hH hl
      have hfl := frs_le (v := v2) (v2 := v) (n := n2) hb.1 hn
      refine z_iload_n hC 21 hl dX1_refreshes_21 rfl 2 rfl ?_
      refine z_if_lt hC 22 70 dX1_refreshes_22 rfl (by omega) (fun hb1 => ?_) (fun hb1 => ?_)
      · -- 22t
        have e0 : e = 0 := by omega
        have hcf : c = frs b n2 v2 n v := by rw [e0] at ic; exact ic
        have hcv2 : ((c : Int) : Int) = ((frs b n2 v2 n v : Nat) : Int) := by rw [hcf]
        rw [hcv2] at hH
        have hH : zH s0 s1 G as0 (dW ad G (va_up F 9 (((frs b n2 v2 n v : Nat) : Int))) (va_up Ar 12 a) kp pl2_1 (dPool G pr2_1 pa2_1 pm2_1 pf2_1 L2_1)) H locs := hH
        -- R70.1
        exact z_vret hC hH hQ 70 ((L2_1, pl2_1, pr2_1, pa2_1, pm2_1, pf2_1, a)) dX1_refreshes_70 rfl ⟨by exact hS, by exact hpc, by exact fun i j h1 h2 => im.1 i j (by omega) h1 h2⟩ rfl (by first | decide | omega) (by first | decide | omega)
      · -- 22f
        have hib := (blk_lt (n := n) (j := e - 1) (show 0 < b by omega)).mp (by omega)
        refine z_aload_n hC 25 hl dX1_refreshes_25 rfl 0 rfl ?_
        refine z_iload_n hC 26 hl dX1_refreshes_26 rfl 2 rfl ?_
        refine z_st (st' := [.int (iZ (((e - 1 : Nat) : Int))), .ref (ad 99)]) (zcons (zieq (by omega)) rfl) ?_
        refine z_same (z_runV hC hH.2.2 hl.1 hH.1 hH.2.1 1 (As := [.int (iZ (((e - 1 : Nat) : Int)))]) (rest := []) (m_X1_isFresh lau s0 G _ ad (va_up F 9 ((c : Int))) (va_up Ar 12 a) kp pl2_1 (dPool G pr2_1 pa2_1 pm2_1 pf2_1 L2_1) n v n2 v2 b (e - 1) (by first | exact hn | assumption | omega) (by first | exact hFn | assumption | omega) (by first | exact hv | assumption | omega) (by first | exact hAv | assumption | omega) (by first | exact hb | assumption | omega) (by first | exact hFb | assumption | omega) (by exact hn2) (by exact hFn2) (by exact hv2) (by exact hAv2) (by first | assumption | omega)) (lw_V q827 q829 qs25 q89 q830) ⟨rfl, by decide, by decide, by decide +kernel⟩ (q0 := 0) (ci := 1) rfl rfl rfl rfl (Nat.le_of_ble_eq_true rfl) ⟨Nat.le_of_ble_eq_true rfl, Nat.le_of_ble_eq_true rfl⟩ ⟨by first | decide | omega, by first | decide | omega⟩ dX1_refreshes_27) hH (fun r_27 H locs hpost hH => ?_)
        have hb_27 : (r_27 = 1 ∧ (FR b n2 v2 n v (e - 1))) ∨ (r_27 = 0 ∧ ¬ (FR b n2 v2 n v (e - 1))) := hpost
        have hH : zH s0 s1 G as0 (dW ad G (va_up F 9 ((c : Int))) (va_up Ar 12 a) kp pl2_1 (dPool G pr2_1 pa2_1 pm2_1 pf2_1 L2_1)) H locs := hH
        refine z_st (st' := [.int (iZ (r_27))]) rfl ?_
        rcases hb_27 with ⟨rfl, hb_27⟩ | ⟨rfl, hb_27⟩
        · -- 27=1
          refine z_if_eq_f hC 30 35 dX1_refreshes_30 rfl (by omega) (by omega) ?_
          refine z_iload_n hC 33 hl dX1_refreshes_33 rfl 2 rfl ?_
          refine z_istore_n (lv' := [(1, .int (iZ ((e : Int) - 1))), (0, .ref (ad 99)), (2, .int (iZ ((e : Int) - 1)))]) hC 34 hl dX1_refreshes_34 rfl (by decide) rfl (fun ls hl => ?_)
          have hnx1 : ∀ j, e - 1 ≤ j → j < (e - 1) → ¬ FR b n2 v2 n v j := by first | (intro j h1 h2; omega) | (intro j h1 h2; by_cases z : j = e - 1; (rw [z]; exact hb_27); exact inx j (by omega) h2)
          have hnf1 : (e - 1) < zdiv (n + b - 1) b → FR b n2 v2 n v (e - 1) := by first | exact fun _ => hb_27 | exact inf
          have hrow := frs_row (P := FR b n2 v2 n v) (N := zdiv (n + b - 1) b) (i := e - 1) (k := (e - 1)) (by omega) (by omega) hnx1 hnf1
          have hsm : sm (fun i => cB (fun j => ∃ i1, i ≤ i1 ∧ i1 ≤ j ∧ FR b n2 v2 n v i1) (zdiv (n + b - 1) b)) 0 (e - 1 + 1) = sm (fun i => cB (fun j => ∃ i1, i ≤ i1 ∧ i1 ≤ j ∧ FR b n2 v2 n v i1) (zdiv (n + b - 1) b)) 0 (e - 1) + cB (fun j => ∃ i1, e - 1 ≤ i1 ∧ i1 ≤ j ∧ FR b n2 v2 n v i1) (zdiv (n + b - 1) b) := sm_succ _ (Nat.zero_le _)
          rw [show e - 1 + 1 = e by omega] at hsm
          refine z_aload_n hC 35 hl dX1_refreshes_35 rfl 1 rfl ?_
          refine z_dup hC 36 dX1_refreshes_36 rfl ?_
          refine zp_get (v := .int (iZ ((c : Int)))) hC (va_P_l hH.1) 37 in_X1 rfl 9 (by decide) q219 0 rfl (rfl) dX1_refreshes_37 ?_
          refine z_aload_n hC 40 hl dX1_refreshes_40 rfl 1 rfl ?_
          refine zp_back (zp_runV hC (hH.2.2) hl.1 (va_P_l hH.1) 0 (As := []) (rest := [.int (iZ ((c : Int))), .ref (ad 99)]) (u_X1_blocks lau s0 G ad (va_up F 9 ((c : Int))) (va_up Ar 12 a) kp pl2_1 n b (by first | exact hn | assumption | omega) (by first | exact hFn | assumption | omega) (by first | exact hb | assumption | omega) (by first | exact hFb | assumption | omega)) (lw_V q719 q721 qs13 q89 q722) ⟨rfl, by decide, by decide, by decide +kernel⟩ (q0 := 0) (ci := 1) rfl rfl rfl rfl (Nat.le_of_ble_eq_true rfl) ⟨Nat.le_of_ble_eq_true rfl, Nat.le_of_ble_eq_true rfl⟩ ⟨by first | decide | omega, by first | decide | omega⟩ dX1_refreshes_41) (fun _ hpost => ?_)
          refine z_st (st' := [.int (iZ (((zdiv (n + b - 1) b : Nat) : Int))), .int (iZ ((c : Int))), .ref (ad 99)]) rfl ?_
          refine z_iload_n hC 44 hl dX1_refreshes_44 rfl 0 rfl ?_
          refine z_isub (e := ((zdiv (n + b - 1) b : Nat) : Int) - (e : Int) + 1) hC 45 dX1_refreshes_45 (by omega) ?_
          refine z_iadd (e := (c : Int) + ((zdiv (n + b - 1) b : Nat) : Int) - (e : Int) + 1) hC 46 dX1_refreshes_46 (by omega) ?_
          refine pD_9 hC hH 47 dX1_refreshes_47 (fun H locs hH => ?_)
          have hH : zH s0 s1 G as0 (dW ad G (va_up F 9 ((c : Int) + ((zdiv (n + b - 1) b : Nat) : Int) - (e : Int) + 1)) (va_up Ar 12 a) kp pl2_1 (dPool G pr2_1 pa2_1 pm2_1 pf2_1 L2_1)) H locs := hH
          refine z_iload_n hC 50 hl dX1_refreshes_50 rfl 0 rfl ?_
          refine z_aload_n hC 51 hl dX1_refreshes_51 rfl 1 rfl ?_
          refine zp_back (zp_runV hC (hH.2.2) hl.1 (va_P_l hH.1) 0 (As := []) (rest := [.int (iZ ((e : Int) - 1))]) (u_X1_blocks lau s0 G ad (va_up F 9 ((c : Int) + ((zdiv (n + b - 1) b : Nat) : Int) - (e : Int) + 1)) (va_up Ar 12 a) kp pl2_1 n b (by first | exact hn | assumption | omega) (by first | exact hFn | assumption | omega) (by first | exact hb | assumption | omega) (by first | exact hFb | assumption | omega)) (lw_V q719 q721 qs13 q89 q722) ⟨rfl, by decide, by decide, by decide +kernel⟩ (q0 := 0) (ci := 1) rfl rfl rfl rfl (Nat.le_of_ble_eq_true rfl) ⟨Nat.le_of_ble_eq_true rfl, Nat.le_of_ble_eq_true rfl⟩ ⟨by first | decide | omega, by first | decide | omega⟩ dX1_refreshes_52) (fun _ hpost => ?_)
          refine z_st (st' := [.int (iZ (((zdiv (n + b - 1) b : Nat) : Int))), .int (iZ ((e : Int) - 1))]) rfl ?_
          refine z_icmp_ge hC 55 64 dX1_refreshes_55 rfl (by omega) (by omega) (fun hb3 => ?_) (fun hb3 => ?_)
          · -- 55t
            refine z_iinc (lv' := [(2, .int (iZ ((e : Int) - 2))), (1, .int (iZ ((e : Int) - 1))), (0, .ref (ad 99))]) hC 64 hl dX1_refreshes_64 2 rfl (by omega) (by decide) rfl (fun ls hl => ?_)
            refine z_goto hC 67 21 dX1_refreshes_67 rfl ?_
            -- J21.2
            exact ih21 (e - 1) (e - 1) (c + (zdiv (n + b - 1) b) + 1 - e) a _ _ _ (by omega) (by first | assumption | omega) (by first | assumption | omega) (by first | assumption | omega) (by first | exact hnx1 | (intro j h1 h2; omega)) (by first | exact hnf1 | (intro h; omega)) (by first | (rw [hrow] at hsm; omega) | (show 0 + sm (fun i => cB (fun j => ∃ i1, i ≤ i1 ∧ i1 ≤ j ∧ FR b n2 v2 n v i1) (zdiv (n + b - 1) b)) 0 (zdiv (n + b - 1) b) = _; rw [Nat.zero_add]; rfl)) (by first | assumption | omega) (by first | exact RFM_0 hb.1 | exact RFM_n hb.1 hv hB60 hmo0 im (by omega) (by omega) hnx1 | exact RFM_l hb.1 hv hB60 hmo0 im (by omega) (by omega) (by omega) hnx1 (pm_61.resolve_right (fun q => by omega))) (by rw [show ((c : Int) + ((zdiv (n + b - 1) b : Nat) : Int) - (e : Int) + 1 : Int) = ((c + (zdiv (n + b - 1) b) + 1 - e : Nat) : Int) from by omega] at hH; exact hH) (z_lv (lv_sub hl [2, 1, 0] rfl) (zcons rfl (zcons (zpeq (by omega)) (zcons (zpeq (by omega)) rfl))))
          · -- 55f
            refine z_aload_n hC 58 hl dX1_refreshes_58 rfl 1 rfl ?_
            refine z_iload_n hC 59 hl dX1_refreshes_59 rfl 2 rfl ?_
            refine z_iload_n hC 60 hl dX1_refreshes_60 rfl 0 rfl ?_
            refine z_st (st' := [.int (iZ (((e - 1 : Nat) : Int))), .int (iZ (((e - 1 : Nat) : Int))), .ref (ad 99)]) (zcons (zieq (by omega)) (zcons (zieq (by omega)) rfl)) ?_
            refine z_same (z_runV hC hH.2.2 hl.1 hH.1 hH.2.1 2 (As := [.int (iZ (((e - 1 : Nat) : Int))), .int (iZ (((e - 1 : Nat) : Int)))]) (rest := []) (m_X1_laysPairs lau s0 G _ ad (va_up F 9 ((c : Int) + ((zdiv (n + b - 1) b : Nat) : Int) - (e : Int) + 1)) (va_up Ar 12 a) kp pl2_1 (dPool G pr2_1 pa2_1 pm2_1 pf2_1 L2_1) n v pr2_1 pa2_1 pm2_1 pf2_1 nw b t (e - 1) (e - 1) a (by first | exact hn | assumption | omega) (by first | exact hFn | assumption | omega) (by first | exact hv | assumption | omega) (by first | exact hAv | assumption | omega) (by first | exact hb | assumption | omega) (by first | exact hFb | assumption | omega) (by first | exact ht | assumption | omega) (by first | exact hFt | assumption | omega) (by first | exact hpl | assumption | omega) (by first | exact hnw | assumption | omega) (by first | exact hpc | assumption | omega) (by first | exact hpp | assumption | omega) (by first | assumption | omega) (by first | assumption | omega) (by first | assumption | omega)) (lw_V q723 q725 qs14 q89 q726) ⟨rfl, by decide, by decide, by decide +kernel⟩ (q0 := 0) (ci := 1) rfl rfl rfl rfl (Nat.le_of_ble_eq_true rfl) ⟨Nat.le_of_ble_eq_true rfl, Nat.le_of_ble_eq_true rfl⟩ ⟨by first | decide | omega, by first | decide | omega⟩ dX1_refreshes_61) hH (fun a2_61 H locs hpost hH => ?_)
            have pm_61 : MOL v b n t (e - 1) (e - 1) (zdiv (n + b - 1) b) a a2_61 ∨ (zdiv (n + b - 1) b ≤ (e - 1) ∧ a2_61 = a) := hpost
            have hH : zH s0 s1 G as0 (dW ad G (va_up F 9 ((c : Int) + ((zdiv (n + b - 1) b : Nat) : Int) - (e : Int) + 1)) (va_up Ar 12 a2_61) kp pl2_1 (dPool G pr2_1 pa2_1 pm2_1 pf2_1 L2_1)) H locs := hH
            refine z_st (st' := []) rfl ?_
            refine z_iinc (lv' := [(2, .int (iZ ((e : Int) - 2))), (1, .int (iZ ((e : Int) - 1))), (0, .ref (ad 99))]) hC 64 hl dX1_refreshes_64 2 rfl (by omega) (by decide) rfl (fun ls hl => ?_)
            refine z_goto hC 67 21 dX1_refreshes_67 rfl ?_
            -- J21.3
            exact ih21 (e - 1) (e - 1) (c + (zdiv (n + b - 1) b) + 1 - e) a2_61 _ _ _ (by omega) (by first | assumption | omega) (by first | assumption | omega) (by first | assumption | omega) (by first | exact hnx1 | (intro j h1 h2; omega)) (by first | exact hnf1 | (intro h; omega)) (by first | (rw [hrow] at hsm; omega) | (show 0 + sm (fun i => cB (fun j => ∃ i1, i ≤ i1 ∧ i1 ≤ j ∧ FR b n2 v2 n v i1) (zdiv (n + b - 1) b)) 0 (zdiv (n + b - 1) b) = _; rw [Nat.zero_add]; rfl)) (by first | assumption | omega) (by first | exact RFM_0 hb.1 | exact RFM_n hb.1 hv hB60 hmo0 im (by omega) (by omega) hnx1 | exact RFM_l hb.1 hv hB60 hmo0 im (by omega) (by omega) (by omega) hnx1 (pm_61.resolve_right (fun q => by omega))) (by rw [show ((c : Int) + ((zdiv (n + b - 1) b : Nat) : Int) - (e : Int) + 1 : Int) = ((c + (zdiv (n + b - 1) b) + 1 - e : Nat) : Int) from by omega] at hH; exact hH) (z_lv (lv_sub hl [2, 1, 0] rfl) (zcons rfl (zcons (zpeq (by omega)) (zcons (zpeq (by omega)) rfl))))
        · -- 27=0
          refine z_if_eq_t hC 30 35 dX1_refreshes_30 rfl (by omega) (by omega) ?_
          have hnx1 : ∀ j, e - 1 ≤ j → j < (nx) → ¬ FR b n2 v2 n v j := by first | (intro j h1 h2; omega) | (intro j h1 h2; by_cases z : j = e - 1; (rw [z]; exact hb_27); exact inx j (by omega) h2)
          have hnf1 : (nx) < zdiv (n + b - 1) b → FR b n2 v2 n v (nx) := by first | exact fun _ => hb_27 | exact inf
          have hrow := frs_row (P := FR b n2 v2 n v) (N := zdiv (n + b - 1) b) (i := e - 1) (k := (nx)) (by omega) (by omega) hnx1 hnf1
          have hsm : sm (fun i => cB (fun j => ∃ i1, i ≤ i1 ∧ i1 ≤ j ∧ FR b n2 v2 n v i1) (zdiv (n + b - 1) b)) 0 (e - 1 + 1) = sm (fun i => cB (fun j => ∃ i1, i ≤ i1 ∧ i1 ≤ j ∧ FR b n2 v2 n v i1) (zdiv (n + b - 1) b)) 0 (e - 1) + cB (fun j => ∃ i1, e - 1 ≤ i1 ∧ i1 ≤ j ∧ FR b n2 v2 n v i1) (zdiv (n + b - 1) b) := sm_succ _ (Nat.zero_le _)
          rw [show e - 1 + 1 = e by omega] at hsm
          refine z_aload_n hC 35 hl dX1_refreshes_35 rfl 0 rfl ?_
          refine z_dup hC 36 dX1_refreshes_36 rfl ?_
          refine zp_get (v := .int (iZ ((c : Int)))) hC (va_P_l hH.1) 37 in_X1 rfl 9 (by decide) q219 0 rfl (rfl) dX1_refreshes_37 ?_
          refine z_aload_n hC 40 hl dX1_refreshes_40 rfl 0 rfl ?_
          refine zp_back (zp_runV hC (hH.2.2) hl.1 (va_P_l hH.1) 0 (As := []) (rest := [.int (iZ ((c : Int))), .ref (ad 99)]) (u_X1_blocks lau s0 G ad (va_up F 9 ((c : Int))) (va_up Ar 12 a) kp pl2_1 n b (by first | exact hn | assumption | omega) (by first | exact hFn | assumption | omega) (by first | exact hb | assumption | omega) (by first | exact hFb | assumption | omega)) (lw_V q719 q721 qs13 q89 q722) ⟨rfl, by decide, by decide, by decide +kernel⟩ (q0 := 0) (ci := 1) rfl rfl rfl rfl (Nat.le_of_ble_eq_true rfl) ⟨Nat.le_of_ble_eq_true rfl, Nat.le_of_ble_eq_true rfl⟩ ⟨by first | decide | omega, by first | decide | omega⟩ dX1_refreshes_41) (fun _ hpost => ?_)
          refine z_st (st' := [.int (iZ (((zdiv (n + b - 1) b : Nat) : Int))), .int (iZ ((c : Int))), .ref (ad 99)]) rfl ?_
          refine z_iload_n hC 44 hl dX1_refreshes_44 rfl 1 rfl ?_
          refine z_isub (e := ((zdiv (n + b - 1) b : Nat) : Int) - (nx : Int)) hC 45 dX1_refreshes_45 rfl ?_
          refine z_iadd (e := (c : Int) + ((zdiv (n + b - 1) b : Nat) : Int) - (nx : Int)) hC 46 dX1_refreshes_46 (by omega) ?_
          refine pD_9 hC hH 47 dX1_refreshes_47 (fun H locs hH => ?_)
          have hH : zH s0 s1 G as0 (dW ad G (va_up F 9 ((c : Int) + ((zdiv (n + b - 1) b : Nat) : Int) - (nx : Int))) (va_up Ar 12 a) kp pl2_1 (dPool G pr2_1 pa2_1 pm2_1 pf2_1 L2_1)) H locs := hH
          refine z_iload_n hC 50 hl dX1_refreshes_50 rfl 1 rfl ?_
          refine z_aload_n hC 51 hl dX1_refreshes_51 rfl 0 rfl ?_
          refine zp_back (zp_runV hC (hH.2.2) hl.1 (va_P_l hH.1) 0 (As := []) (rest := [.int (iZ ((nx : Int)))]) (u_X1_blocks lau s0 G ad (va_up F 9 ((c : Int) + ((zdiv (n + b - 1) b : Nat) : Int) - (nx : Int))) (va_up Ar 12 a) kp pl2_1 n b (by first | exact hn | assumption | omega) (by first | exact hFn | assumption | omega) (by first | exact hb | assumption | omega) (by first | exact hFb | assumption | omega)) (lw_V q719 q721 qs13 q89 q722) ⟨rfl, by decide, by decide, by decide +kernel⟩ (q0 := 0) (ci := 1) rfl rfl rfl rfl (Nat.le_of_ble_eq_true rfl) ⟨Nat.le_of_ble_eq_true rfl, Nat.le_of_ble_eq_true rfl⟩ ⟨by first | decide | omega, by first | decide | omega⟩ dX1_refreshes_52) (fun _ hpost => ?_)
          refine z_st (st' := [.int (iZ (((zdiv (n + b - 1) b : Nat) : Int))), .int (iZ ((nx : Int)))]) rfl ?_
          refine z_icmp_ge hC 55 64 dX1_refreshes_55 rfl (by omega) (by omega) (fun hb4 => ?_) (fun hb4 => ?_)
          · -- 55t
            refine z_iinc (lv' := [(2, .int (iZ ((e : Int) - 2))), (0, .ref (ad 99)), (1, .int (iZ ((nx : Int))))]) hC 64 hl dX1_refreshes_64 2 rfl (by omega) (by decide) rfl (fun ls hl => ?_)
            refine z_goto hC 67 21 dX1_refreshes_67 rfl ?_
            -- J21.4
            exact ih21 (e - 1) nx (c + (zdiv (n + b - 1) b) - nx) a _ _ _ (by omega) (by first | assumption | omega) (by first | assumption | omega) (by first | assumption | omega) (by first | exact hnx1 | (intro j h1 h2; omega)) (by first | exact hnf1 | (intro h; omega)) (by first | (rw [hrow] at hsm; omega) | (show 0 + sm (fun i => cB (fun j => ∃ i1, i ≤ i1 ∧ i1 ≤ j ∧ FR b n2 v2 n v i1) (zdiv (n + b - 1) b)) 0 (zdiv (n + b - 1) b) = _; rw [Nat.zero_add]; rfl)) (by first | assumption | omega) (by first | exact RFM_0 hb.1 | exact RFM_n hb.1 hv hB60 hmo0 im (by omega) (by omega) hnx1 | exact RFM_l hb.1 hv hB60 hmo0 im (by omega) (by omega) (by omega) hnx1 (pm_61.resolve_right (fun q => by omega))) (by rw [show ((c : Int) + ((zdiv (n + b - 1) b : Nat) : Int) - (nx : Int) : Int) = ((c + (zdiv (n + b - 1) b) - nx : Nat) : Int) from by omega] at hH; exact hH) (z_lv (lv_sub hl [1, 2, 0] rfl) (zcons rfl (zcons rfl (zcons (zpeq (by omega)) rfl))))
          · -- 55f
            refine z_aload_n hC 58 hl dX1_refreshes_58 rfl 0 rfl ?_
            refine z_iload_n hC 59 hl dX1_refreshes_59 rfl 2 rfl ?_
            refine z_iload_n hC 60 hl dX1_refreshes_60 rfl 1 rfl ?_
            refine z_st (st' := [.int (iZ ((nx : Int))), .int (iZ (((e - 1 : Nat) : Int))), .ref (ad 99)]) (zcons rfl (zcons (zieq (by omega)) rfl)) ?_
            refine z_same (z_runV hC hH.2.2 hl.1 hH.1 hH.2.1 2 (As := [.int (iZ (((e - 1 : Nat) : Int))), .int (iZ ((nx : Int)))]) (rest := []) (m_X1_laysPairs lau s0 G _ ad (va_up F 9 ((c : Int) + ((zdiv (n + b - 1) b : Nat) : Int) - (nx : Int))) (va_up Ar 12 a) kp pl2_1 (dPool G pr2_1 pa2_1 pm2_1 pf2_1 L2_1) n v pr2_1 pa2_1 pm2_1 pf2_1 nw b t (e - 1) nx a (by first | exact hn | assumption | omega) (by first | exact hFn | assumption | omega) (by first | exact hv | assumption | omega) (by first | exact hAv | assumption | omega) (by first | exact hb | assumption | omega) (by first | exact hFb | assumption | omega) (by first | exact ht | assumption | omega) (by first | exact hFt | assumption | omega) (by first | exact hpl | assumption | omega) (by first | exact hnw | assumption | omega) (by first | exact hpc | assumption | omega) (by first | exact hpp | assumption | omega) (by first | assumption | omega) (by first | assumption | omega) (by first | assumption | omega)) (lw_V q723 q725 qs14 q89 q726) ⟨rfl, by decide, by decide, by decide +kernel⟩ (q0 := 0) (ci := 1) rfl rfl rfl rfl (Nat.le_of_ble_eq_true rfl) ⟨Nat.le_of_ble_eq_true rfl, Nat.le_of_ble_eq_true rfl⟩ ⟨by first | decide | omega, by first | decide | omega⟩ dX1_refreshes_61) hH (fun a2_5 H locs hpost hH => ?_)
            have pm_61 : MOL v b n t (e - 1) nx (zdiv (n + b - 1) b) a a2_5 ∨ (zdiv (n + b - 1) b ≤ nx ∧ a2_5 = a) := hpost
            have hH : zH s0 s1 G as0 (dW ad G (va_up F 9 ((c : Int) + ((zdiv (n + b - 1) b : Nat) : Int) - (nx : Int))) (va_up Ar 12 a2_5) kp pl2_1 (dPool G pr2_1 pa2_1 pm2_1 pf2_1 L2_1)) H locs := hH
            refine z_st (st' := []) rfl ?_
            refine z_iinc (lv' := [(2, .int (iZ ((e : Int) - 2))), (0, .ref (ad 99)), (1, .int (iZ ((nx : Int))))]) hC 64 hl dX1_refreshes_64 2 rfl (by omega) (by decide) rfl (fun ls hl => ?_)
            refine z_goto hC 67 21 dX1_refreshes_67 rfl ?_
            -- J21.5
            exact ih21 (e - 1) nx (c + (zdiv (n + b - 1) b) - nx) a2_5 _ _ _ (by omega) (by first | assumption | omega) (by first | assumption | omega) (by first | assumption | omega) (by first | exact hnx1 | (intro j h1 h2; omega)) (by first | exact hnf1 | (intro h; omega)) (by first | (rw [hrow] at hsm; omega) | (show 0 + sm (fun i => cB (fun j => ∃ i1, i ≤ i1 ∧ i1 ≤ j ∧ FR b n2 v2 n v i1) (zdiv (n + b - 1) b)) 0 (zdiv (n + b - 1) b) = _; rw [Nat.zero_add]; rfl)) (by first | assumption | omega) (by first | exact RFM_0 hb.1 | exact RFM_n hb.1 hv hB60 hmo0 im (by omega) (by omega) hnx1 | exact RFM_l hb.1 hv hB60 hmo0 im (by omega) (by omega) (by omega) hnx1 (pm_61.resolve_right (fun q => by omega))) (by rw [show ((c : Int) + ((zdiv (n + b - 1) b : Nat) : Int) - (nx : Int) : Int) = ((c + (zdiv (n + b - 1) b) - nx : Nat) : Int) from by omega] at hH; exact hH) (z_lv (lv_sub hl [1, 2, 0] rfl) (zcons rfl (zcons rfl (zcons (zpeq (by omega)) rfl))))
  -- J21.6
  exact L21 _ (zdiv (n + b - 1) b) (zdiv (n + b - 1) b) 0 a0 _ _ _ (Nat.lt_succ_self _) (by first | assumption | omega) (by first | assumption | omega) (by first | assumption | omega) (by first | exact hnx1 | (intro j h1 h2; omega)) (by first | exact hnf1 | (intro h; omega)) (by first | (rw [hrow] at hsm; omega) | (show 0 + sm (fun i => cB (fun j => ∃ i1, i ≤ i1 ∧ i1 ≤ j ∧ FR b n2 v2 n v i1) (zdiv (n + b - 1) b)) 0 (zdiv (n + b - 1) b) = _; rw [Nat.zero_add]; rfl)) (by first | assumption | omega) (by first | exact RFM_0 hb.1 | exact RFM_n hb.1 hv hB60 hmo0 im (by omega) (by omega) hnx1 | exact RFM_l hb.1 hv hB60 hmo0 im (by omega) (by omega) (by omega) hnx1 (pm_61.resolve_right (fun q => by omega))) (by rw [show (0 : Int) = ((0 : Nat) : Int) from by omega] at hH; exact hH) (lv_sub hl [2, 1, 0] rfl)
