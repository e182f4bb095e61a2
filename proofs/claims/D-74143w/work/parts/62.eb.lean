/-! methods of ModeDesk that write: 62.eb -/
set_option maxHeartbeats 4000000 in
set_option maxRecDepth 100000 in
theorem m_X1_laysCandidates (lau : Launch) (s0 : State) (G : zG) (sz : Nat) (ad : Nat → Nat) (F : Nat → Int) (Ar : Nat → Nat → Int) (kp : Nat → Nat) (pl : Nat → Option Nat) (PW : va_W) (n : Nat) (v : Nat → Nat) (b : Nat) (l : Nat) (r : Nat) (t : Nat) (hn : n ≤ 120) (hFn : F 200 = (n : Int)) (hv : ∀ i, i < n → v i < 1000) (hAv : ∀ i, i < n → Ar 201 i = (v i : Int)) (hb : 2 ≤ b ∧ b ≤ 20) (hFb : F 7 = (b : Int)) (ht : t < 4) (hmo : ∀ i j, i ≤ j → b * j < n → Ar 12 (60 * i + j) = (md v (b * i) (bEnd b j n) t : Int)) (hlr : l < r) (hrn : r ≤ n) : zMet (S := Nat × Nat × (Nat → Nat) × (Nat → Int)) lau yX1_laysCandidates cX1_laysCandidates 7 (none) 2 41 0 0 s0 G sz [.ref (ad 99), .int (iZ ((l : Int))), .int (iZ ((r : Int) - 1))] (dW ad G F (va_up Ar 16 zZ) kp pl PW) (fun ((e, k, u, gu) : Nat × Nat × (Nat → Nat) × (Nat → Int)) => (none : Option Value)) (fun ((e, k, u, gu) : Nat × Nat × (Nat → Nat) × (Nat → Int)) => (WB b n (zdiv (l + b - 1) b) (r - 1) e) ∧ (ENS (CSt v t n b l (zdiv (l + b - 1) b) e r) k u) ∧ (CAN v l r t k u) ∧ (k ≤ 120)) (fun ((e, k, u, gu) : Nat × Nat × (Nat → Nat) × (Nat → Int)) => (dW ad G (va_up F 17 ((k : Int))) (va_up (va_up Ar 15 (cI (k) u gu)) 16 zZ) kp pl PW)) := by
  refine zMet.of (by decide) (Nat.le_of_ble_eq_true rfl) ?_
  intro pg ev s1 mi ar bl me cd ls Q as0 hC hH hl hQ hsz
  generalize s1.heap = H at hH ⊢
  generalize ([] : List Loc) = locs at hH ⊢
  have hl : lv_has ls 7 [(0, .ref (ad 99)), (1, .int (iZ ((l : Int)))), (2, .int (iZ ((r : Int) - 1)))] := hl
  have hfb := fi_b (l := l) (show 0 < b by omega)
  have hf1 : zdiv (l + b - 1) b ≤ b * zdiv (l + b - 1) b := Nat.le_mul_of_pos_left _ (by omega)
  have hlbr := lbZ_rng (n := n) (b := b) (r := r - 1) (by omega) hn (by omega)
  refine z_aload_n hC 0 hl dX1_laysCandidates_0 rfl 0 rfl ?_
  refine z_iconst hC 1 dX1_laysCandidates_1 ?_
  refine pD_17 hC hH 2 dX1_laysCandidates_2 (fun H locs hH => ?_)
  have hH : zH s0 s1 G as0 (dW ad G (va_up F 17 (0)) (va_up Ar 16 zZ) kp pl PW) H locs := hH
  have hH : zH s0 s1 G as0 (dW ad G (va_up F 17 (0)) (va_up (va_up Ar 15 (Ar 15)) 16 zZ) kp pl PW) H locs := hH
  have hcv1 : (Ar 15) = (cI (0) (fun _ => 0) (Ar 15)) := by exact cI_self (fun p hp => absurd hp (Nat.not_lt_zero _))
  rw [hcv1] at hH
  have hH : zH s0 s1 G as0 (dW ad G (va_up F 17 (0)) (va_up (va_up Ar 15 (cI (0) (fun _ => 0) (Ar 15))) 16 zZ) kp pl PW) H locs := hH
  have hcv2 : zZ = (isl (fun _ => 0) 0 0) := by exact isl_nil
  rw [hcv2] at hH
  have hH : zH s0 s1 G as0 (dW ad G (va_up F 17 (0)) (va_up (va_up Ar 15 (cI (0) (fun _ => 0) (Ar 15))) 16 (isl (fun _ => 0) 0 0)) kp pl PW) H locs := hH
  refine z_aload_n hC 5 hl dX1_laysCandidates_5 rfl 0 rfl ?_
  refine z_iload_n hC 6 hl dX1_laysCandidates_6 rfl 1 rfl ?_
  refine zp_back (zp_runV hC (hH.2.2) hl.1 (va_P_l hH.1) 1 (As := [.int (iZ ((l : Int)))]) (rest := []) (u_X1_firstBlock lau s0 G ad (va_up F 17 (0)) (va_up (va_up Ar 15 (cI (0) (fun _ => 0) (Ar 15))) 16 (isl (fun _ => 0) 0 0)) kp pl b l (by first | exact hb | assumption | omega) (by first | exact hFb | assumption | omega) (by first | assumption | omega)) (lw_V q997 q999 qs29 q89 q1000) ⟨rfl, by decide, by decide, by decide +kernel⟩ (q0 := 0) (ci := 1) rfl rfl rfl rfl (Nat.le_of_ble_eq_true rfl) ⟨Nat.le_of_ble_eq_true rfl, Nat.le_of_ble_eq_true rfl⟩ ⟨by first | decide | omega, by first | decide | omega⟩ dX1_laysCandidates_7) (fun _ hpost => ?_)
  refine z_st (st' := [.int (iZ (((zdiv (l + b - 1) b : Nat) : Int)))]) rfl ?_
  refine z_istore_n (lv' := [(3, .int (iZ (((zdiv (l + b - 1) b : Nat) : Int)))), (0, .ref (ad 99)), (1, .int (iZ ((l : Int)))), (2, .int (iZ ((r : Int) - 1)))]) hC 10 hl dX1_laysCandidates_10 rfl (by decide) rfl (fun ls hl => ?_)
  refine z_aload_n hC 11 hl dX1_laysCandidates_11 rfl 1 rfl ?_
  refine z_iload_n hC 12 hl dX1_laysCandidates_12 rfl 3 rfl ?_
  refine z_st (st' := [.int (iZ (((r - 1 : Nat) : Int))), .ref (ad 99)]) (zcons (zieq (by omega)) rfl) ?_
  refine zp_back (zp_runV hC (hH.2.2) hl.1 (va_P_l hH.1) 1 (As := [.int (iZ (((r - 1 : Nat) : Int)))]) (rest := []) (u_X1_lastBlock lau s0 G ad (va_up F 17 (0)) (va_up (va_up Ar 15 (cI (0) (fun _ => 0) (Ar 15))) 16 (isl (fun _ => 0) 0 0)) kp pl n b (r - 1) (by first | exact hn | assumption | omega) (by first | exact hFn | assumption | omega) (by first | exact hb | assumption | omega) (by first | exact hFb | assumption | omega) (by first | assumption | omega)) (lw_V q1001 q1003 qs30 q89 q1004) ⟨rfl, by decide, by decide, by decide +kernel⟩ (q0 := 0) (ci := 1) rfl rfl rfl rfl (Nat.le_of_ble_eq_true rfl) ⟨Nat.le_of_ble_eq_true rfl, Nat.le_of_ble_eq_true rfl⟩ ⟨by first | decide | omega, by first | decide | omega⟩ dX1_laysCandidates_13) (fun _ hpost => ?_)
  refine z_st (st' := [.int (iZ ((lbZ n b (r - 1))))]) rfl ?_
  generalize hg_lb : lbZ n b (r - 1) = lb
  rw [hg_lb] at hlbr
  refine z_istore (lv' := [(4, .int (iZ (lb))), (3, .int (iZ (((zdiv (l + b - 1) b : Nat) : Int)))), (0, .ref (ad 99)), (1, .int (iZ ((l : Int)))), (2, .int (iZ ((r : Int) - 1)))]) hC 16 hl dX1_laysCandidates_16 (by decide) rfl (fun ls hl => ?_)
  refine z_iload_n hC 18 hl dX1_laysCandidates_18 rfl 1 rfl ?_
  refine z_iload hC 19 hl dX1_laysCandidates_19 0 rfl ?_
  refine z_icmp_gt hC 21 28 dX1_laysCandidates_21 rfl (by omega) (by omega) (fun hb3 => ?_) (fun hb3 => ?_)
  · -- 21t
    obtain ⟨e, hee⟩ : ∃ e : Nat, e = zdiv (l + b - 1) b := ⟨_, rfl⟩
    have hW : WB b n (zdiv (l + b - 1) b) (r - 1) e := by rw [hee]; exact lb_wb0 (by omega) (by omega) (by omega)
    have hM : zdiv (l + b - 1) b < e → l ≤ b * zdiv (l + b - 1) b ∧ b * zdiv (l + b - 1) b < bEnd b (e - 1) n ∧ bEnd b (e - 1) n ≤ r := fun q => by omega
    refine z_iconst hC 28 dX1_laysCandidates_28 ?_
    refine z_istore (lv' := [(5, .int (iZ (0))), (4, .int (iZ (lb))), (3, .int (iZ (((zdiv (l + b - 1) b : Nat) : Int)))), (0, .ref (ad 99)), (1, .int (iZ ((l : Int)))), (2, .int (iZ ((r : Int) - 1)))]) hC 29 hl dX1_laysCandidates_29 (by decide) rfl (fun ls hl => ?_)
    refine z_iload hC 31 hl dX1_laysCandidates_31 0 rfl ?_
    refine z_if_eq_t hC 33 52 dX1_laysCandidates_33 rfl (by omega) (by omega) ?_
    refine z_iload_n hC 52 hl dX1_laysCandidates_52 rfl 4 rfl ?_
    refine z_istore (lv' := [(6, .int (iZ ((l : Int)))), (5, .int (iZ (0))), (4, .int (iZ (lb))), (3, .int (iZ (((zdiv (l + b - 1) b : Nat) : Int)))), (0, .ref (ad 99)), (1, .int (iZ ((l : Int)))), (2, .int (iZ ((r : Int) - 1)))]) hC 53 hl dX1_laysCandidates_53 (by decide) rfl (fun ls hl => ?_)
    have L55 : ∀ (N_ : Nat) (p : Nat) (k : Nat) (u : Nat → Nat) (gu : Nat → Int) (H : Heap) (locs : List Loc) (ls : Array Slot), r - p < N_ → (l ≤ p) → (p ≤ r) → (zdiv (l + b - 1) b < e → p ≤ b * zdiv (l + b - 1) b ∨ bEnd b (e - 1) n ≤ p) → (ENS (CSt v t n b l (zdiv (l + b - 1) b) e p) k u) → zH s0 s1 G as0 (dW ad G (va_up F 17 ((k : Int))) (va_up (va_up Ar 15 (cI (k) u gu)) 16 (isl u 0 k)) kp pl PW) H locs → lv_has ls 7 [(0, .ref (ad 99)), (1, .int (iZ ((l : Int)))), (2, .int (iZ ((r : Int) - 1))), (3, .int (iZ (((zdiv (l + b - 1) b : Nat) : Int)))), (4, .int (iZ (lb))), (5, .int (iZ (0))), (6, .int (iZ ((p : Int))))] → W pg lau ev (zRm 2 0 0 41) s1 mi ar bl me cd H locs 0 0 Q (F0 mi 55 ls []) := by
      intro N_
      induction N_ with
      | zero => intro p k u gu H locs ls hd; exact absurd hd (Nat.not_lt_zero _)
      | succ N_ ih55 =>
        intro p k u gu H locs ls hd55 i55_1 i55_2 iP iS hH hl
        have hin : ∀ x, x < 1000 → CSt v t n b l (zdiv (l + b - 1) b) e p x → 0 < cnt v l r x := fun x hx q => CSt_in hv bEnd_le hM (CSt_up q (by omega))
        have hK := ENS_le iS hin
        refine z_iload hC 55 hl dX1_laysCandidates_55 6 rfl ?_
        refine z_iload_n hC 57 hl dX1_laysCandidates_57 rfl 2 rfl ?_
        refine z_icmp_gt hC 58 108 dX1_laysCandidates_58 rfl (by omega) (by omega) (fun hb4 => ?_) (fun hb4 => ?_)
        · -- 58t
          have ep : (p) = r := by omega
          rw [ep] at iS hin
          refine z_aload_n hC 108 hl dX1_laysCandidates_108 rfl 0 rfl ?_
          refine z_same (z_runV hC hH.2.2 hl.1 hH.1 hH.2.1 0 (As := []) (rest := []) (m_X1_looksNoMore lau s0 G _ ad (va_up F 17 ((k : Int))) (va_up (va_up Ar 15 (cI (k) u gu)) 16 (isl u 0 k)) kp pl PW k u gu (by first | assumption | omega) (by exact fun j hj => (iS.1 j hj).1)) (lw_V q1009 q1011 qs32 q89 q1012) ⟨rfl, by decide, by decide, by decide +kernel⟩ (q0 := 0) (ci := 1) rfl rfl rfl rfl (Nat.le_of_ble_eq_true rfl) ⟨Nat.le_of_ble_eq_true rfl, Nat.le_of_ble_eq_true rfl⟩ ⟨Nat.le_of_ble_eq_true rfl, Nat.le_of_ble_eq_true rfl⟩ dX1_laysCandidates_109) hH (fun _ H locs hpost hH => ?_)
          have hH : zH s0 s1 G as0 (dW ad G (va_up F 17 ((k : Int))) (va_up (va_up Ar 15 (cI (k) u gu)) 16 zZ) kp pl PW) H locs := hH
          refine z_st (st' := []) rfl ?_
          -- R112.1
          exact z_vret hC hH hQ 112 ((e, k, u, gu)) dX1_laysCandidates_112 rfl ⟨by exact hW, by exact iS, by exact ⟨fun j hj => ⟨(iS.1 j hj).1, hin _ (iS.1 j hj).1 (iS.1 j hj).2⟩, iS.2.2 _ (md_lt_1000 _ _ _ _) (CSt_md (fun i hi => hv i (by omega)) hlr (fun q => hM q))⟩, by omega⟩ rfl (Nat.le_refl _) (Nat.le_refl _)
        · -- 58f
          refine z_iload hC 61 hl dX1_laysCandidates_61 5 rfl ?_
          refine z_if_eq_t hC 63 88 dX1_laysCandidates_63 rfl (by omega) (by omega) ?_
          have hvp := hv (p) (by omega)
          refine z_aload_n hC 88 hl dX1_laysCandidates_88 rfl 0 rfl ?_
          refine z_aload_n hC 89 hl dX1_laysCandidates_89 rfl 0 rfl ?_
          refine zp_get (v := .ref (ad 200)) hC (va_P_l hH.1) 90 in_X1 rfl 4 (by decide) q210 0 rfl (rfl) dX1_laysCandidates_90 ?_
          refine zp_getN (v := .ref (ad 201)) hC (va_P_l hH.1) 93 in_X2 rfl 0 (by decide) q141 11 rfl (rfl) dX1_laysCandidates_93 ?_
          refine z_iload hC 96 hl dX1_laysCandidates_96 6 rfl ?_
          refine zp_iald (f := (Ar 201)) (x := ((v (p) : Nat) : Int)) hC (va_P_l hH.1) 98 12 (p) rfl (by decide) (by omega) (by omega) (hAv (p) (by omega)) dX1_laysCandidates_98 ?_
          refine z_same (z_runV hC hH.2.2 hl.1 hH.1 hH.2.1 1 (As := [.int (iZ (((v (p) : Nat) : Int)))]) (rest := []) (m_X1_looks lau s0 G _ ad (va_up F 17 ((k : Int))) (va_up (va_up Ar 15 (cI (k) u gu)) 16 (isl u 0 k)) kp pl PW k u gu (v (p)) (by first | assumption | omega) (by first | assumption | omega) (by exact ENS_room iS hin hvp (cnt_in (by omega) (by omega)) (by omega))) (lw_V q1005 q1007 qs31 q89 q1008) ⟨rfl, by decide, by decide, by decide +kernel⟩ (q0 := 0) (ci := 1) rfl rfl rfl rfl (Nat.le_of_ble_eq_true rfl) ⟨Nat.le_of_ble_eq_true rfl, Nat.le_of_ble_eq_true rfl⟩ ⟨Nat.le_of_ble_eq_true rfl, Nat.le_of_ble_eq_true rfl⟩ dX1_laysCandidates_99) hH (fun u_ H locs hpost hH => ?_)
          obtain ⟨k2_99, u2_99⟩ := u_
          have pL_99 : LKS k u (v (p)) k2_99 u2_99 := hpost
          have hH : zH s0 s1 G as0 (dW ad G (va_up F 17 ((k2_99 : Int))) (va_up (va_up Ar 15 (cI (k2_99) u2_99 gu)) 16 (isl u2_99 0 k2_99)) kp pl PW) H locs := hH
          refine z_st (st' := []) rfl ?_
          refine z_iinc (lv' := [(6, .int (iZ ((p : Int) + 1))), (0, .ref (ad 99)), (1, .int (iZ ((l : Int)))), (2, .int (iZ ((r : Int) - 1))), (3, .int (iZ (((zdiv (l + b - 1) b : Nat) : Int)))), (4, .int (iZ (lb))), (5, .int (iZ (0)))]) hC 102 hl dX1_laysCandidates_102 6 rfl (by omega) (by decide) rfl (fun ls hl => ?_)
          refine z_goto hC 105 55 dX1_laysCandidates_105 rfl ?_
          -- J55.2
          exact ih55 (p + 1) k2_99 u2_99 gu _ _ _ (by omega) (by first | assumption | omega) (by first | assumption | omega) (by first | assumption | omega) (by first | exact ENS_0 (cst_l0 (by omega)) | exact cst_l1 (by omega) (by rw [hbe]; exact pL_49) | exact ENS_lk iS pL_99 hvp (cst_step (by omega) (by omega)) | exact ENS_cg iS (cst_skip (by omega) (by omega) (by omega) (by omega))) hH (z_lv (lv_sub hl [1, 2, 3, 4, 5, 6, 0] rfl) (zcons rfl (zcons rfl (zcons rfl (zcons rfl (zcons rfl (zcons rfl (zcons (zpeq (by omega)) rfl))))))))
    -- J55.3
    exact L55 _ l 0 (fun _ => 0) (Ar 15) _ _ _ (Nat.lt_succ_self _) (by first | assumption | omega) (by first | assumption | omega) (by first | assumption | omega) (by first | exact ENS_0 (cst_l0 (by omega)) | exact cst_l1 (by omega) (by rw [hbe]; exact pL_49) | exact ENS_lk iS pL_99 hvp (cst_step (by omega) (by omega)) | exact ENS_cg iS (cst_skip (by omega) (by omega) (by omega) (by omega))) (by rw [show (0 : Int) = ((0 : Nat) : Int) from by omega] at hH; exact hH) (lv_sub hl [4, 5, 6, 3, 2, 1, 0] rfl)
  · -- 21f
    obtain ⟨j, rfl⟩ := Int.eq_ofNat_of_zero_le (show 0 ≤ lb by omega)
    have hWw := lb_wb (by omega) (show r - 1 < n by omega) hg_lb (show zdiv (l + b - 1) b ≤ j by omega) hfb.2 hfb.1
    obtain ⟨e, hee⟩ : ∃ e : Nat, e = j + 1 := ⟨_, rfl⟩
    have hee1 : e - 1 = j := by omega
    have hbe : bEnd b (e - 1) n = bEnd b j n := by rw [hee1]
    have hW : WB b n (zdiv (l + b - 1) b) (r - 1) e := by rw [hee]; exact hWw.1
    have hM : zdiv (l + b - 1) b < e → l ≤ b * zdiv (l + b - 1) b ∧ b * zdiv (l + b - 1) b < bEnd b (e - 1) n ∧ bEnd b (e - 1) n ≤ r := fun _ => by have := hWw.2.1; omega
    have hj2 : 2 * j ≤ b * j := Nat.mul_le_mul_right j (by omega)
    refine z_iconst hC 24 dX1_laysCandidates_24 ?_
    refine z_goto hC 25 29 dX1_laysCandidates_25 rfl ?_
    refine z_istore (lv' := [(5, .int (iZ (1))), (4, .int (iZ ((j : Int)))), (3, .int (iZ (((zdiv (l + b - 1) b : Nat) : Int)))), (0, .ref (ad 99)), (1, .int (iZ ((l : Int)))), (2, .int (iZ ((r : Int) - 1)))]) hC 29 hl dX1_laysCandidates_29 (by decide) rfl (fun ls hl => ?_)
    refine z_iload hC 31 hl dX1_laysCandidates_31 0 rfl ?_
    refine z_if_eq_f hC 33 52 dX1_laysCandidates_33 rfl (by omega) (by omega) ?_
    refine z_aload_n hC 36 hl dX1_laysCandidates_36 rfl 3 rfl ?_
    refine z_aload_n hC 37 hl dX1_laysCandidates_37 rfl 3 rfl ?_
    refine zp_get (v := .ref (ad 12)) hC (va_P_l hH.1) 38 in_X1 rfl 12 (by decide) q222 0 rfl (rfl) dX1_laysCandidates_38 ?_
    refine z_bipush hC 41 dX1_laysCandidates_41 rfl ?_
    refine z_iload_n hC 43 hl dX1_laysCandidates_43 rfl 2 rfl ?_
    refine z_imul (e := 60 * ((zdiv (l + b - 1) b : Nat) : Int)) hC 44 dX1_laysCandidates_44 rfl ?_
    refine z_iload hC 45 hl dX1_laysCandidates_45 1 rfl ?_
    refine z_iadd (e := 60 * ((zdiv (l + b - 1) b : Nat) : Int) + (j : Int)) hC 47 dX1_laysCandidates_47 rfl ?_
    refine zp_iald (f := (Ar 12)) (x := ((md v (b * zdiv (l + b - 1) b) (bEnd b j n) t : Nat) : Int)) hC (va_P_l hH.1) 48 5 (60 * (zdiv (l + b - 1) b) + j) rfl (by decide) (by omega) (by omega) ((hmo _ _ (by omega) (by omega))) dX1_laysCandidates_48 ?_
    rw [show (0 : Int) = ((0 : Nat) : Int) from by omega] at hH
    have hH : zH s0 s1 G as0 (dW ad G (va_up F 17 (((0 : Nat) : Int))) (va_up (va_up Ar 15 (cI (0) (fun _ => 0) (Ar 15))) 16 (isl (fun _ => 0) 0 0)) kp pl PW) H locs := hH
    refine z_same (z_runV hC hH.2.2 hl.1 hH.1 hH.2.1 1 (As := [.int (iZ (((md v (b * zdiv (l + b - 1) b) (bEnd b j n) t : Nat) : Int)))]) (rest := []) (m_X1_looks lau s0 G _ ad (va_up F 17 (((0 : Nat) : Int))) (va_up (va_up Ar 15 (cI (0) (fun _ => 0) (Ar 15))) 16 (isl (fun _ => 0) 0 0)) kp pl PW 0 (fun _ => 0) (Ar 15) (md v (b * zdiv (l + b - 1) b) (bEnd b j n) t) (by exact md_lt_1000 _ _ _ _) (by first | assumption | omega) (by first | assumption | omega)) (lw_V q1005 q1007 qs31 q89 q1008) ⟨rfl, by decide, by decide, by decide +kernel⟩ (q0 := 0) (ci := 1) rfl rfl rfl rfl (Nat.le_of_ble_eq_true rfl) ⟨Nat.le_of_ble_eq_true rfl, Nat.le_of_ble_eq_true rfl⟩ ⟨Nat.le_of_ble_eq_true rfl, Nat.le_of_ble_eq_true rfl⟩ dX1_laysCandidates_49) hH (fun u_ H locs hpost hH => ?_)
    obtain ⟨k2_49, u2_49⟩ := u_
    have pL_49 : LKS 0 (fun _ => 0) (md v (b * zdiv (l + b - 1) b) (bEnd b j n) t) k2_49 u2_49 := hpost
    have hH : zH s0 s1 G as0 (dW ad G (va_up F 17 ((k2_49 : Int))) (va_up (va_up Ar 15 (cI (k2_49) u2_49 (Ar 15))) 16 (isl u2_49 0 k2_49)) kp pl PW) H locs := hH
    refine z_st (st' := []) rfl ?_
    refine z_iload_n hC 52 hl dX1_laysCandidates_52 rfl 4 rfl ?_
    refine z_istore (lv' := [(6, .int (iZ ((l : Int)))), (5, .int (iZ (1))), (4, .int (iZ ((j : Int)))), (3, .int (iZ (((zdiv (l + b - 1) b : Nat) : Int)))), (0, .ref (ad 99)), (1, .int (iZ ((l : Int)))), (2, .int (iZ ((r : Int) - 1)))]) hC 53 hl dX1_laysCandidates_53 (by decide) rfl (fun ls hl => ?_)
    have L55 : ∀ (N_ : Nat) (p : Nat) (k : Nat) (u : Nat → Nat) (gu : Nat → Int) (H : Heap) (locs : List Loc) (ls : Array Slot), r - p < N_ → (l ≤ p) → (p ≤ r) → (zdiv (l + b - 1) b < e → p ≤ b * zdiv (l + b - 1) b ∨ bEnd b (e - 1) n ≤ p) → (ENS (CSt v t n b l (zdiv (l + b - 1) b) e p) k u) → zH s0 s1 G as0 (dW ad G (va_up F 17 ((k : Int))) (va_up (va_up Ar 15 (cI (k) u gu)) 16 (isl u 0 k)) kp pl PW) H locs → lv_has ls 7 [(0, .ref (ad 99)), (1, .int (iZ ((l : Int)))), (2, .int (iZ ((r : Int) - 1))), (3, .int (iZ (((zdiv (l + b - 1) b : Nat) : Int)))), (4, .int (iZ ((j : Int)))), (5, .int (iZ (1))), (6, .int (iZ ((p : Int))))] → W pg lau ev (zRm 2 0 0 41) s1 mi ar bl me cd H locs 0 0 Q (F0 mi 55 ls []) := by
      intro N_
      induction N_ with
      | zero => intro p k u gu H locs ls hd; exact absurd hd (Nat.not_lt_zero _)
      | succ N_ ih55 =>
        intro p k u gu H locs ls hd55 i55_1 i55_2 iP iS hH hl
        have hin : ∀ x, x < 1000 → CSt v t n b l (zdiv (l + b - 1) b) e p x → 0 < cnt v l r x := fun x hx q => CSt_in hv bEnd_le hM (CSt_up q (by omega))
        have hK := ENS_le iS hin
        refine z_iload hC 55 hl dX1_laysCandidates_55 6 rfl ?_
        refine z_iload_n hC 57 hl dX1_laysCandidates_57 rfl 2 rfl ?_
        refine z_icmp_gt hC 58 108 dX1_laysCandidates_58 rfl (by omega) (by omega) (fun hb5 => ?_) (fun hb5 => ?_)
        · -- 58t
          have ep : (p) = r := by omega
          rw [ep] at iS hin
          refine z_aload_n hC 108 hl dX1_laysCandidates_108 rfl 0 rfl ?_
          refine z_same (z_runV hC hH.2.2 hl.1 hH.1 hH.2.1 0 (As := []) (rest := []) (m_X1_looksNoMore lau s0 G _ ad (va_up F 17 ((k : Int))) (va_up (va_up Ar 15 (cI (k) u gu)) 16 (isl u 0 k)) kp pl PW k u gu (by first | assumption | omega) (by exact fun j hj => (iS.1 j hj).1)) (lw_V q1009 q1011 qs32 q89 q1012) ⟨rfl, by decide, by decide, by decide +kernel⟩ (q0 := 0) (ci := 1) rfl rfl rfl rfl (Nat.le_of_ble_eq_true rfl) ⟨Nat.le_of_ble_eq_true rfl, Nat.le_of_ble_eq_true rfl⟩ ⟨Nat.le_of_ble_eq_true rfl, Nat.le_of_ble_eq_true rfl⟩ dX1_laysCandidates_109) hH (fun _ H locs hpost hH => ?_)
          have hH : zH s0 s1 G as0 (dW ad G (va_up F 17 ((k : Int))) (va_up (va_up Ar 15 (cI (k) u gu)) 16 zZ) kp pl PW) H locs := hH
          refine z_st (st' := []) rfl ?_
          -- R112.4
          exact z_vret hC hH hQ 112 ((e, k, u, gu)) dX1_laysCandidates_112 rfl ⟨by exact hW, by exact iS, by exact ⟨fun j hj => ⟨(iS.1 j hj).1, hin _ (iS.1 j hj).1 (iS.1 j hj).2⟩, iS.2.2 _ (md_lt_1000 _ _ _ _) (CSt_md (fun i hi => hv i (by omega)) hlr (fun q => hM q))⟩, by omega⟩ rfl (Nat.le_refl _) (Nat.le_refl _)
        · -- 58f
          refine z_iload hC 61 hl dX1_laysCandidates_61 5 rfl ?_
          refine z_if_eq_f hC 63 88 dX1_laysCandidates_63 rfl (by omega) (by omega) ?_
          refine z_iload hC 66 hl dX1_laysCandidates_66 6 rfl ?_
          refine z_aload_n hC 68 hl dX1_laysCandidates_68 rfl 0 rfl ?_
          refine zp_get (v := .int (iZ ((b : Int)))) hC (va_P_l hH.1) 69 in_X1 rfl 7 (by decide) q216 0 rfl (by rw [← hFb]; rfl) dX1_laysCandidates_69 ?_
          refine z_iload_n hC 72 hl dX1_laysCandidates_72 rfl 3 rfl ?_
          refine z_imul (e := ((b * (zdiv (l + b - 1) b) : Nat) : Int)) hC 73 dX1_laysCandidates_73 (by push_cast; rfl) ?_
          refine z_icmp_ne hC 74 88 dX1_laysCandidates_74 rfl (by omega) (by omega) (fun hb6 => ?_) (fun hb6 => ?_)
          · -- 74t
            have hvp := hv (p) (by omega)
            refine z_aload_n hC 88 hl dX1_laysCandidates_88 rfl 0 rfl ?_
            refine z_aload_n hC 89 hl dX1_laysCandidates_89 rfl 0 rfl ?_
            refine zp_get (v := .ref (ad 200)) hC (va_P_l hH.1) 90 in_X1 rfl 4 (by decide) q210 0 rfl (rfl) dX1_laysCandidates_90 ?_
            refine zp_getN (v := .ref (ad 201)) hC (va_P_l hH.1) 93 in_X2 rfl 0 (by decide) q141 11 rfl (rfl) dX1_laysCandidates_93 ?_
            refine z_iload hC 96 hl dX1_laysCandidates_96 6 rfl ?_
            refine zp_iald (f := (Ar 201)) (x := ((v (p) : Nat) : Int)) hC (va_P_l hH.1) 98 12 (p) rfl (by decide) (by omega) (by omega) (hAv (p) (by omega)) dX1_laysCandidates_98 ?_
            refine z_same (z_runV hC hH.2.2 hl.1 hH.1 hH.2.1 1 (As := [.int (iZ (((v (p) : Nat) : Int)))]) (rest := []) (m_X1_looks lau s0 G _ ad (va_up F 17 ((k : Int))) (va_up (va_up Ar 15 (cI (k) u gu)) 16 (isl u 0 k)) kp pl PW k u gu (v (p)) (by first | assumption | omega) (by first | assumption | omega) (by exact ENS_room iS hin hvp (cnt_in (by omega) (by omega)) (by omega))) (lw_V q1005 q1007 qs31 q89 q1008) ⟨rfl, by decide, by decide, by decide +kernel⟩ (q0 := 0) (ci := 1) rfl rfl rfl rfl (Nat.le_of_ble_eq_true rfl) ⟨Nat.le_of_ble_eq_true rfl, Nat.le_of_ble_eq_true rfl⟩ ⟨Nat.le_of_ble_eq_true rfl, Nat.le_of_ble_eq_true rfl⟩ dX1_laysCandidates_99) hH (fun u_ H locs hpost hH => ?_)
            obtain ⟨k2_7, u2_8⟩ := u_
            have pL_99 : LKS k u (v (p)) k2_7 u2_8 := hpost
            have hH : zH s0 s1 G as0 (dW ad G (va_up F 17 ((k2_7 : Int))) (va_up (va_up Ar 15 (cI (k2_7) u2_8 gu)) 16 (isl u2_8 0 k2_7)) kp pl PW) H locs := hH
            refine z_st (st' := []) rfl ?_
            refine z_iinc (lv' := [(6, .int (iZ ((p : Int) + 1))), (0, .ref (ad 99)), (1, .int (iZ ((l : Int)))), (2, .int (iZ ((r : Int) - 1))), (3, .int (iZ (((zdiv (l + b - 1) b : Nat) : Int)))), (4, .int (iZ ((j : Int)))), (5, .int (iZ (1)))]) hC 102 hl dX1_laysCandidates_102 6 rfl (by omega) (by decide) rfl (fun ls hl => ?_)
            refine z_goto hC 105 55 dX1_laysCandidates_105 rfl ?_
            -- J55.5
            exact ih55 (p + 1) k2_7 u2_8 gu _ _ _ (by omega) (by first | assumption | omega) (by first | assumption | omega) (by first | assumption | omega) (by first | exact ENS_0 (cst_l0 (by omega)) | exact cst_l1 (by omega) (by rw [hbe]; exact pL_49) | exact ENS_lk iS pL_99 hvp (cst_step (by omega) (by omega)) | exact ENS_cg iS (cst_skip (by omega) (by omega) (by omega) (by omega))) hH (z_lv (lv_sub hl [1, 2, 3, 4, 5, 6, 0] rfl) (zcons rfl (zcons rfl (zcons rfl (zcons rfl (zcons rfl (zcons rfl (zcons (zpeq (by omega)) rfl))))))))
          · -- 74f
            refine z_aload_n hC 77 hl dX1_laysCandidates_77 rfl 0 rfl ?_
            refine z_iload hC 78 hl dX1_laysCandidates_78 4 rfl ?_
            refine zp_back (zp_runV hC (hH.2.2) hl.1 (va_P_l hH.1) 1 (As := [.int (iZ ((j : Int)))]) (rest := []) (u_X1_endOf lau s0 G ad (va_up F 17 ((k : Int))) (va_up (va_up Ar 15 (cI (k) u gu)) 16 (isl u 0 k)) kp pl n b j (by first | exact hn | assumption | omega) (by first | exact hFn | assumption | omega) (by first | exact hb | assumption | omega) (by first | exact hFb | assumption | omega) (by first | assumption | omega)) (lw_V q727 q729 qs15 q89 q730) ⟨rfl, by decide, by decide, by decide +kernel⟩ (q0 := 0) (ci := 1) rfl rfl rfl rfl (Nat.le_of_ble_eq_true rfl) ⟨Nat.le_of_ble_eq_true rfl, Nat.le_of_ble_eq_true rfl⟩ ⟨by first | decide | omega, by first | decide | omega⟩ dX1_laysCandidates_80) (fun _ hpost => ?_)
            refine z_st (st' := [.int (iZ (((bEnd b j n : Nat) : Int) - 1))]) rfl ?_
            refine z_istore (lv' := [(6, .int (iZ (((bEnd b j n : Nat) : Int) - 1))), (0, .ref (ad 99)), (1, .int (iZ ((l : Int)))), (2, .int (iZ ((r : Int) - 1))), (3, .int (iZ (((zdiv (l + b - 1) b : Nat) : Int)))), (4, .int (iZ ((j : Int)))), (5, .int (iZ (1)))]) hC 83 hl dX1_laysCandidates_83 (by decide) rfl (fun ls hl => ?_)
            refine z_goto hC 85 102 dX1_laysCandidates_85 rfl ?_
            refine z_iinc (lv' := [(6, .int (iZ (((bEnd b j n : Nat) : Int)))), (0, .ref (ad 99)), (1, .int (iZ ((l : Int)))), (2, .int (iZ ((r : Int) - 1))), (3, .int (iZ (((zdiv (l + b - 1) b : Nat) : Int)))), (4, .int (iZ ((j : Int)))), (5, .int (iZ (1)))]) hC 102 hl dX1_laysCandidates_102 0 rfl (by omega) (by decide) rfl (fun ls hl => ?_)
            refine z_goto hC 105 55 dX1_laysCandidates_105 rfl ?_
            -- J55.6
            exact ih55 (bEnd b j n) k u gu _ _ _ (by omega) (by first | assumption | omega) (by first | assumption | omega) (by first | assumption | omega) (by first | exact ENS_0 (cst_l0 (by omega)) | exact cst_l1 (by omega) (by rw [hbe]; exact pL_49) | exact ENS_lk iS pL_99 hvp (cst_step (by omega) (by omega)) | exact ENS_cg iS (cst_skip (by omega) (by omega) (by omega) (by omega))) hH (lv_sub hl [1, 2, 3, 4, 5, 6, 0] rfl)
    -- J55.7
    exact L55 _ l k2_49 u2_49 (Ar 15) _ _ _ (Nat.lt_succ_self _) (by first | assumption | omega) (by first | assumption | omega) (by first | assumption | omega) (by first | exact ENS_0 (cst_l0 (by omega)) | exact cst_l1 (by omega) (by rw [hbe]; exact pL_49) | exact ENS_lk iS pL_99 hvp (cst_step (by omega) (by omega)) | exact ENS_cg iS (cst_skip (by omega) (by omega) (by omega) (by omega))) hH (lv_sub hl [4, 5, 6, 3, 2, 1, 0] rfl)

set_option maxHeartbeats 4000000 in
set_option maxRecDepth 100000 in
theorem m_X1_modeOf (lau : Launch) (s0 : State) (G : zG) (sz : Nat) (ad : Nat → Nat) (F : Nat → Int) (Ar : Nat → Nat → Int) (kp : Nat → Nat) (pl : Nat → Option Nat) (PW : va_W) (n : Nat) (v : Nat → Nat) (pr : Nat → Nat) (pa : Nat → Nat) (pm : Nat → Nat) (pf : Nat → Nat → Nat) (nw : Nat) (b : Nat) (t : Nat) (l : Nat) (r : Nat) (hn : n ≤ 120) (hFn : F 200 = (n : Int)) (hv : ∀ i, i < n → v i < 1000) (hAv : ∀ i, i < n → Ar 201 i = (v i : Int)) (hb : 2 ≤ b ∧ b ≤ 20) (hFb : F 7 = (b : Int)) (ht : t < 4) (hFt : F 8 = (t : Int)) (hpl : ∀ y, y < 1000 → (pl y = some (pr y) ∨ (pl y = none ∧ pr y = nw))) (hnw : zNwh s0 nw) (hpc : ∀ y, y < 1000 → PlC n v y (pm y) (pf y)) (hpp : zPool s0 G PW pr pa pm pf) (hmo : ∀ i j, i ≤ j → b * j < n → Ar 12 (60 * i + j) = (md v (b * i) (bEnd b j n) t : Int)) (hlr : l < r) (hrn : r ≤ n) : zMet (S := Nat × (Nat → Nat) × (Nat → Int)) lau yX1_modeOf cX1_modeOf 3 (some .int) 5 121 0 0 s0 G sz [.ref (ad 99), .int (iZ ((l : Int))), .int (iZ ((r : Int) - 1))] (dW ad G F (va_up Ar 16 zZ) kp pl PW) (fun ((k, u, gu) : Nat × (Nat → Nat) × (Nat → Int)) => some (.int (iZ (((md v l r t : Nat) : Int))))) (fun ((k, u, gu) : Nat × (Nat → Nat) × (Nat → Int)) => True) (fun ((k, u, gu) : Nat × (Nat → Nat) × (Nat → Int)) => (dW ad G (va_up F 17 ((k : Int))) (va_up (va_up Ar 15 (cI (k) u gu)) 16 zZ) kp pl PW)) := by
  refine zMet.of (by decide) (Nat.le_of_ble_eq_true rfl) ?_
  intro pg ev s1 mi ar bl me cd ls Q as0 hC hH hl hQ hsz
  generalize s1.heap = H at hH ⊢
  generalize ([] : List Loc) = locs at hH ⊢
  have hl : lv_has ls 3 [(0, .ref (ad 99)), (1, .int (iZ ((l : Int)))), (2, .int (iZ ((r : Int) - 1)))] := hl
  refine z_aload_n hC 0 hl dX1_modeOf_0 rfl 0 rfl ?_
  refine z_iload_n hC 1 hl dX1_modeOf_1 rfl 1 rfl ?_
  refine z_iload_n hC 2 hl dX1_modeOf_2 rfl 2 rfl ?_
  refine z_same (z_runV hC hH.2.2 hl.1 hH.1 hH.2.1 2 (As := [.int (iZ ((l : Int))), .int (iZ ((r : Int) - 1))]) (rest := []) (m_X1_laysCandidates lau s0 G _ ad F (va_up Ar 16 zZ) kp pl PW n v b l r t (by first | exact hn | assumption | omega) (by first | exact hFn | assumption | omega) (by first | exact hv | assumption | omega) (by first | exact hAv | assumption | omega) (by first | exact hb | assumption | omega) (by first | exact hFb | assumption | omega) (by first | exact ht | assumption | omega) (by first | exact hmo | assumption | omega) (by first | exact hlr | assumption | omega) (by first | exact hrn | assumption | omega)) (lw_V q993 q995 qs28 q89 q996) ⟨rfl, by decide, by decide, by decide +kernel⟩ (q0 := 0) (ci := 1) rfl rfl rfl rfl (Nat.le_of_ble_eq_true rfl) ⟨Nat.le_of_ble_eq_true rfl, Nat.le_of_ble_eq_true rfl⟩ ⟨Nat.le_of_ble_eq_true rfl, Nat.le_of_ble_eq_true rfl⟩ dX1_modeOf_3) hH (fun u_ H locs hpost hH => ?_)
  obtain ⟨e_3, k_3, u_3, gu_3⟩ := u_
  obtain ⟨pW_3, pS_3, pC_3, pk_3⟩ : (WB b n (zdiv (l + b - 1) b) (r - 1) e_3) ∧ (ENS (CSt v t n b l (zdiv (l + b - 1) b) e_3 r) k_3 u_3) ∧ (CAN v l r t k_3 u_3) ∧ (k_3 ≤ 120) := hpost
  have hH : zH s0 s1 G as0 (dW ad G (va_up F 17 ((k_3 : Int))) (va_up (va_up Ar 15 (cI (k_3) u_3 gu_3)) 16 zZ) kp pl PW) H locs := hH
  refine z_st (st' := []) rfl ?_
  refine z_aload_n hC 6 hl dX1_modeOf_6 rfl 0 rfl ?_
  refine z_iload_n hC 7 hl dX1_modeOf_7 rfl 1 rfl ?_
  refine z_iload_n hC 8 hl dX1_modeOf_8 rfl 2 rfl ?_
  refine z_aload_n hC 9 hl dX1_modeOf_9 rfl 0 rfl ?_
  refine zp_get (v := .int (iZ ((t : Int)))) hC (va_P_l hH.1) 10 in_X1 rfl 8 (by decide) q218 0 rfl (by rw [← hFt]; rfl) dX1_modeOf_10 ?_
  refine z_same (z_runV hC hH.2.2 hl.1 hH.1 hH.2.1 3 (As := [.int (iZ ((l : Int))), .int (iZ ((r : Int) - 1)), .int (iZ ((t : Int)))]) (rest := []) (m_X1_bestOf lau s0 G _ ad (va_up F 17 ((k_3 : Int))) (va_up (va_up Ar 15 (cI (k_3) u_3 gu_3)) 16 zZ) kp pl PW n v pr pa pm pf nw k_3 u_3 gu_3 l r t (by first | exact hn | assumption | omega) (by first | exact hFn | assumption | omega) (by first | exact hpl | assumption | omega) (by first | exact hnw | assumption | omega) (by first | exact hpc | assumption | omega) (by first | exact hpp | assumption | omega) (by first | exact hv | assumption | omega) (by first | exact hlr | assumption | omega) (by first | exact hrn | assumption | omega) (by first | exact ht | assumption | omega) (by first | assumption | omega) (by exact pC_3)) (lw_V q1013 q1015 qs33 q89 q1016) ⟨rfl, by decide, by decide, by decide +kernel⟩ (q0 := 0) (ci := 1) rfl rfl rfl rfl (Nat.le_of_ble_eq_true rfl) ⟨Nat.le_of_ble_eq_true rfl, Nat.le_of_ble_eq_true rfl⟩ ⟨Nat.le_of_ble_eq_true rfl, Nat.le_of_ble_eq_true rfl⟩ dX1_modeOf_13) hH (fun _ H locs hpost hH => ?_)
  have hH : zH s0 s1 G as0 (dW ad G (va_up F 17 ((k_3 : Int))) (va_up (va_up Ar 15 (cI (k_3) u_3 gu_3)) 16 zZ) kp pl PW) H locs := hH
  refine z_st (st' := [.int (iZ (((md v l r t : Nat) : Int)))]) rfl ?_
  -- R16.1
  exact z_iret hC hH hQ 16 ((k_3, u_3, gu_3)) dX1_modeOf_16 rfl trivial rfl (Nat.le_refl _) (Nat.le_refl _)

set_option maxHeartbeats 4000000 in
set_option maxRecDepth 100000 in
theorem m_X1_mostIn (lau : Launch) (s0 : State) (G : zG) (sz : Nat) (ad : Nat → Nat) (F : Nat → Int) (Ar : Nat → Nat → Int) (kp : Nat → Nat) (pl : Nat → Option Nat) (PW : va_W) (n : Nat) (v : Nat → Nat) (pr : Nat → Nat) (pa : Nat → Nat) (pm : Nat → Nat) (pf : Nat → Nat → Nat) (nw : Nat) (b : Nat) (t : Nat) (l : Nat) (r : Nat) (hn : n ≤ 120) (hFn : F 200 = (n : Int)) (hv : ∀ i, i < n → v i < 1000) (hAv : ∀ i, i < n → Ar 201 i = (v i : Int)) (hb : 2 ≤ b ∧ b ≤ 20) (hFb : F 7 = (b : Int)) (ht : t < 4) (hFt : F 8 = (t : Int)) (hpl : ∀ y, y < 1000 → (pl y = some (pr y) ∨ (pl y = none ∧ pr y = nw))) (hnw : zNwh s0 nw) (hpc : ∀ y, y < 1000 → PlC n v y (pm y) (pf y)) (hpp : zPool s0 G PW pr pa pm pf) (hmo : ∀ i j, i ≤ j → b * j < n → Ar 12 (60 * i + j) = (md v (b * i) (bEnd b j n) t : Int)) (hlr : l < r) (hrn : r ≤ n) : zMet (S := Nat × (Nat → Nat) × (Nat → Int)) lau yX1_mostIn cX1_mostIn 3 (some .int) 6 143 0 0 s0 G sz [.ref (ad 99), .int (iZ ((l : Int))), .int (iZ ((r : Int) - 1))] (dW ad G F (va_up Ar 16 zZ) kp pl PW) (fun ((k, u, gu) : Nat × (Nat → Nat) × (Nat → Int)) => some (.int (iZ (((cnt v l r (md v l r t) : Nat) : Int))))) (fun ((k, u, gu) : Nat × (Nat → Nat) × (Nat → Int)) => True) (fun ((k, u, gu) : Nat × (Nat → Nat) × (Nat → Int)) => (dW ad G (va_up F 17 ((k : Int))) (va_up (va_up Ar 15 (cI (k) u gu)) 16 zZ) kp pl PW)) := by
  refine zMet.of (by decide) (Nat.le_of_ble_eq_true rfl) ?_
  intro pg ev s1 mi ar bl me cd ls Q as0 hC hH hl hQ hsz
  generalize s1.heap = H at hH ⊢
  generalize ([] : List Loc) = locs at hH ⊢
  have hl : lv_has ls 3 [(0, .ref (ad 99)), (1, .int (iZ ((l : Int)))), (2, .int (iZ ((r : Int) - 1)))] := hl
  have hmd := md_lt_1000 v l r t
  refine z_aload_n hC 0 hl dX1_mostIn_0 rfl 0 rfl ?_
  refine z_aload_n hC 1 hl dX1_mostIn_1 rfl 0 rfl ?_
  refine z_iload_n hC 2 hl dX1_mostIn_2 rfl 1 rfl ?_
  refine z_iload_n hC 3 hl dX1_mostIn_3 rfl 2 rfl ?_
  refine z_same (z_runV hC hH.2.2 hl.1 hH.1 hH.2.1 2 (As := [.int (iZ ((l : Int))), .int (iZ ((r : Int) - 1))]) (rest := [.ref (ad 99)]) (m_X1_modeOf lau s0 G _ ad F (va_up Ar 16 zZ) kp pl PW n v pr pa pm pf nw b t l r (by first | exact hn | assumption | omega) (by first | exact hFn | assumption | omega) (by first | exact hv | assumption | omega) (by first | exact hAv | assumption | omega) (by first | exact hb | assumption | omega) (by first | exact hFb | assumption | omega) (by first | exact ht | assumption | omega) (by first | exact hFt | assumption | omega) (by first | exact hpl | assumption | omega) (by first | exact hnw | assumption | omega) (by first | exact hpc | assumption | omega) (by first | exact hpp | assumption | omega) (by first | exact hmo | assumption | omega) (by first | exact hlr | assumption | omega) (by first | exact hrn | assumption | omega)) (lw_V q1040 q991 qs27 q89 q992) ⟨rfl, by decide, by decide, by decide +kernel⟩ (q0 := 0) (ci := 1) rfl rfl rfl rfl (Nat.le_of_ble_eq_true rfl) ⟨Nat.le_of_ble_eq_true rfl, Nat.le_of_ble_eq_true rfl⟩ ⟨Nat.le_of_ble_eq_true rfl, Nat.le_of_ble_eq_true rfl⟩ dX1_mostIn_4) hH (fun u_ H locs hpost hH => ?_)
  obtain ⟨k_4, u_4, gu_4⟩ := u_
  have hH : zH s0 s1 G as0 (dW ad G (va_up F 17 ((k_4 : Int))) (va_up (va_up Ar 15 (cI (k_4) u_4 gu_4)) 16 zZ) kp pl PW) H locs := hH
  refine z_st (st' := [.int (iZ (((md v l r t : Nat) : Int))), .ref (ad 99)]) rfl ?_
  refine zp_back (zp_runV hC (hH.2.2) hl.1 (va_P_l hH.1) 1 (As := [.int (iZ (((md v l r t : Nat) : Int)))]) (rest := []) (u_X1_of lau s0 G ad (va_up F 17 ((k_4 : Int))) (va_up (va_up Ar 15 (cI (k_4) u_4 gu_4)) 16 zZ) kp pl (md v l r t) (pr (md v l r t)) nw (by first | assumption | omega) (by first | exact hpl | (first | assumption | exact hpl _ (by omega)) | assumption | omega) (by first | exact hnw | assumption | omega)) (lw_V q736 q738 qs17 q89 q739) ⟨rfl, by decide, by decide, by decide +kernel⟩ (q0 := 0) (ci := 1) rfl rfl rfl rfl (Nat.le_of_ble_eq_true rfl) ⟨Nat.le_of_ble_eq_true rfl, Nat.le_of_ble_eq_true rfl⟩ ⟨by first | decide | omega, by first | decide | omega⟩ dX1_mostIn_7) (fun _ hpost => ?_)
  refine z_st (st' := [.ref ((pr (md v l r t)))]) rfl ?_
  refine z_iload_n hC 10 hl dX1_mostIn_10 rfl 1 rfl ?_
  refine z_iload_n hC 11 hl dX1_mostIn_11 rfl 2 rfl ?_
  refine zp_back (zw_run hC (hH.2.2) hl.1 ((dWp hH hpp (y := (md v l r t)) (by omega))) 2 (As := [.int (iZ ((l : Int))), .int (iZ ((r : Int) - 1))]) (rest := []) (u_X10_within lau s0 G (pr (md v l r t)) (pa ((md v l r t))) (pm ((md v l r t))) (pf ((md v l r t))) n v ((md v l r t)) l r (by first | exact hn | assumption | omega) (by exact hpc _ (by omega)) (by first | exact hlr | assumption | omega) (by first | exact hrn | assumption | omega)) (fun hx0 hO0 => u_X10_within_nw lau s0 G (pr (md v l r t)) (pa ((md v l r t))) (pm ((md v l r t))) (pf ((md v l r t))) n v ((md v l r t)) l r (by first | exact hn | assumption | omega) (by exact hpc _ (by omega)) (by first | exact hlr | assumption | omega) (by first | exact hrn | assumption | omega) hx0 hO0) (lw_V q742 q743 q744 q110 q745) ⟨rfl, by decide, by decide, by decide +kernel⟩ rfl rfl (Nat.le_of_ble_eq_true rfl) ⟨Nat.le_of_ble_eq_true rfl, Nat.le_of_ble_eq_true rfl⟩ ⟨by first | decide | omega, by first | decide | omega⟩ dX1_mostIn_12) (fun _ hpost => ?_)
  refine z_st (st' := [.int (iZ (((cnt v l r ((md v l r t)) : Nat) : Int)))]) rfl ?_
  -- R15.1
  refine z_st (st' := [.int (iZ (((cnt v l r (md v l r t) : Nat) : Int)))]) (zcons (zieq (by first | assumption | omega)) rfl) ?_
  exact z_iret hC hH hQ 15 ((k_4, u_4, gu_4)) dX1_mostIn_15 rfl trivial rfl (Nat.le_refl _) (Nat.le_refl _)

set_option maxHeartbeats 4000000 in
set_option maxRecDepth 100000 in
theorem m_X1_majorityOf (lau : Launch) (s0 : State) (G : zG) (sz : Nat) (ad : Nat → Nat) (F : Nat → Int) (Ar : Nat → Nat → Int) (kp : Nat → Nat) (pl : Nat → Option Nat) (PW : va_W) (n : Nat) (v : Nat → Nat) (pr : Nat → Nat) (pa : Nat → Nat) (pm : Nat → Nat) (pf : Nat → Nat → Nat) (nw : Nat) (b : Nat) (t : Nat) (l : Nat) (r : Nat) (hn : n ≤ 120) (hFn : F 200 = (n : Int)) (hv : ∀ i, i < n → v i < 1000) (hAv : ∀ i, i < n → Ar 201 i = (v i : Int)) (hb : 2 ≤ b ∧ b ≤ 20) (hFb : F 7 = (b : Int)) (ht : t < 4) (hFt : F 8 = (t : Int)) (hpl : ∀ y, y < 1000 → (pl y = some (pr y) ∨ (pl y = none ∧ pr y = nw))) (hnw : zNwh s0 nw) (hpc : ∀ y, y < 1000 → PlC n v y (pm y) (pf y)) (hpp : zPool s0 G PW pr pa pm pf) (hmo : ∀ i j, i ≤ j → b * j < n → Ar 12 (60 * i + j) = (md v (b * i) (bEnd b j n) t : Int)) (hlr : l < r) (hrn : r ≤ n) : zMet (S := Int × Nat × (Nat → Nat) × (Nat → Int)) lau yX1_majorityOf cX1_majorityOf 4 (some .int) 6 143 0 0 s0 G sz [.ref (ad 99), .int (iZ ((l : Int))), .int (iZ ((r : Int) - 1))] (dW ad G F (va_up Ar 16 zZ) kp pl PW) (fun ((z, k, u, gu) : Int × Nat × (Nat → Nat) × (Nat → Int)) => some (.int (iZ (z)))) (fun ((z, k, u, gu) : Int × Nat × (Nat → Nat) × (Nat → Int)) => (z = if r - l < 2 * cnt v l r (md v l r t) then (md v l r t : Int) else -2)) (fun ((z, k, u, gu) : Int × Nat × (Nat → Nat) × (Nat → Int)) => (dW ad G (va_up F 17 ((k : Int))) (va_up (va_up Ar 15 (cI (k) u gu)) 16 zZ) kp pl PW)) := by
  refine zMet.of (by decide) (Nat.le_of_ble_eq_true rfl) ?_
  intro pg ev s1 mi ar bl me cd ls Q as0 hC hH hl hQ hsz
  generalize s1.heap = H at hH ⊢
  generalize ([] : List Loc) = locs at hH ⊢
  have hl : lv_has ls 4 [(0, .ref (ad 99)), (1, .int (iZ ((l : Int)))), (2, .int (iZ ((r : Int) - 1)))] := hl
  have hmd := md_lt_1000 v l r t
  have hcl := cnt_le v l r (md v l r t)
  refine z_aload_n hC 0 hl dX1_majorityOf_0 rfl 0 rfl ?_
  refine z_iload_n hC 1 hl dX1_majorityOf_1 rfl 1 rfl ?_
  refine z_iload_n hC 2 hl dX1_majorityOf_2 rfl 2 rfl ?_
  refine z_same (z_runV hC hH.2.2 hl.1 hH.1 hH.2.1 2 (As := [.int (iZ ((l : Int))), .int (iZ ((r : Int) - 1))]) (rest := []) (m_X1_modeOf lau s0 G _ ad F (va_up Ar 16 zZ) kp pl PW n v pr pa pm pf nw b t l r (by first | exact hn | assumption | omega) (by first | exact hFn | assumption | omega) (by first | exact hv | assumption | omega) (by first | exact hAv | assumption | omega) (by first | exact hb | assumption | omega) (by first | exact hFb | assumption | omega) (by first | exact ht | assumption | omega) (by first | exact hFt | assumption | omega) (by first | exact hpl | assumption | omega) (by first | exact hnw | assumption | omega) (by first | exact hpc | assumption | omega) (by first | exact hpp | assumption | omega) (by first | exact hmo | assumption | omega) (by first | exact hlr | assumption | omega) (by first | exact hrn | assumption | omega)) (lw_V q1040 q991 qs27 q89 q992) ⟨rfl, by decide, by decide, by decide +kernel⟩ (q0 := 0) (ci := 1) rfl rfl rfl rfl (Nat.le_of_ble_eq_true rfl) ⟨Nat.le_of_ble_eq_true rfl, Nat.le_of_ble_eq_true rfl⟩ ⟨Nat.le_of_ble_eq_true rfl, Nat.le_of_ble_eq_true rfl⟩ dX1_majorityOf_3) hH (fun u_ H locs hpost hH => ?_)
  obtain ⟨k_3, u_3, gu_3⟩ := u_
  have hH : zH s0 s1 G as0 (dW ad G (va_up F 17 ((k_3 : Int))) (va_up (va_up Ar 15 (cI (k_3) u_3 gu_3)) 16 zZ) kp pl PW) H locs := hH
  refine z_st (st' := [.int (iZ (((md v l r t : Nat) : Int)))]) rfl ?_
  refine z_istore_n (lv' := [(3, .int (iZ (((md v l r t : Nat) : Int)))), (0, .ref (ad 99)), (1, .int (iZ ((l : Int)))), (2, .int (iZ ((r : Int) - 1)))]) hC 6 hl dX1_majorityOf_6 rfl (by decide) rfl (fun ls hl => ?_)
  refine z_iconst hC 7 dX1_majorityOf_7 ?_
  refine z_aload_n hC 8 hl dX1_majorityOf_8 rfl 1 rfl ?_
  refine z_iload_n hC 9 hl dX1_majorityOf_9 rfl 0 rfl ?_
  refine zp_back (zp_runV hC (hH.2.2) hl.1 (va_P_l hH.1) 1 (As := [.int (iZ (((md v l r t : Nat) : Int)))]) (rest := [.int (iZ (2))]) (u_X1_of lau s0 G ad (va_up F 17 ((k_3 : Int))) (va_up (va_up Ar 15 (cI (k_3) u_3 gu_3)) 16 zZ) kp pl (md v l r t) (pr (md v l r t)) nw (by first | assumption | omega) (by first | exact hpl | (first | assumption | exact hpl _ (by omega)) | assumption | omega) (by first | exact hnw | assumption | omega)) (lw_V q736 q738 qs17 q89 q739) ⟨rfl, by decide, by decide, by decide +kernel⟩ (q0 := 0) (ci := 1) rfl rfl rfl rfl (Nat.le_of_ble_eq_true rfl) ⟨Nat.le_of_ble_eq_true rfl, Nat.le_of_ble_eq_true rfl⟩ ⟨by first | decide | omega, by first | decide | omega⟩ dX1_majorityOf_10) (fun _ hpost => ?_)
  refine z_st (st' := [.ref ((pr (md v l r t))), .int (iZ (2))]) rfl ?_
  refine z_iload_n hC 13 hl dX1_majorityOf_13 rfl 2 rfl ?_
  refine z_iload_n hC 14 hl dX1_majorityOf_14 rfl 3 rfl ?_
  refine zp_back (zw_run hC (hH.2.2) hl.1 ((dWp hH hpp (y := (md v l r t)) (by omega))) 2 (As := [.int (iZ ((l : Int))), .int (iZ ((r : Int) - 1))]) (rest := [.int (iZ (2))]) (u_X10_within lau s0 G (pr (md v l r t)) (pa ((md v l r t))) (pm ((md v l r t))) (pf ((md v l r t))) n v ((md v l r t)) l r (by first | exact hn | assumption | omega) (by exact hpc _ (by omega)) (by first | exact hlr | assumption | omega) (by first | exact hrn | assumption | omega)) (fun hx0 hO0 => u_X10_within_nw lau s0 G (pr (md v l r t)) (pa ((md v l r t))) (pm ((md v l r t))) (pf ((md v l r t))) n v ((md v l r t)) l r (by first | exact hn | assumption | omega) (by exact hpc _ (by omega)) (by first | exact hlr | assumption | omega) (by first | exact hrn | assumption | omega) hx0 hO0) (lw_V q742 q743 q744 q110 q745) ⟨rfl, by decide, by decide, by decide +kernel⟩ rfl rfl (Nat.le_of_ble_eq_true rfl) ⟨Nat.le_of_ble_eq_true rfl, Nat.le_of_ble_eq_true rfl⟩ ⟨by first | decide | omega, by first | decide | omega⟩ dX1_majorityOf_15) (fun _ hpost => ?_)
  refine z_st (st' := [.int (iZ (((cnt v l r ((md v l r t)) : Nat) : Int))), .int (iZ (2))]) rfl ?_
  refine z_imul (e := 2 * ((cnt v l r ((md v l r t)) : Nat) : Int)) hC 18 dX1_majorityOf_18 rfl ?_
  refine z_iload_n hC 19 hl dX1_majorityOf_19 rfl 3 rfl ?_
  refine z_iload_n hC 20 hl dX1_majorityOf_20 rfl 2 rfl ?_
  refine z_isub (e := (r : Int) - (l : Int) - 1) hC 21 dX1_majorityOf_21 (by omega) ?_
  refine z_iconst hC 22 dX1_majorityOf_22 ?_
  refine z_iadd (e := (r : Int) - (l : Int)) hC 23 dX1_majorityOf_23 (by omega) ?_
  refine z_icmp_le hC 24 31 dX1_majorityOf_24 rfl (by omega) (by omega) (fun hb1 => ?_) (fun hb1 => ?_)
  · -- 24t
    refine z_bipush hC 31 dX1_majorityOf_31 rfl ?_
    -- R33.1
    exact z_iret hC hH hQ 33 (((-2), k_3, u_3, gu_3)) dX1_majorityOf_33 rfl (by (try dsimp only); first | (rw [if_pos (by omega)]) | (rw [if_neg (by omega)])) rfl (Nat.le_refl _) (Nat.le_refl _)
  · -- 24f
    refine z_iload_n hC 27 hl dX1_majorityOf_27 rfl 0 rfl ?_
    refine z_goto hC 28 33 dX1_majorityOf_28 rfl ?_
    -- R33.2
    exact z_iret hC hH hQ 33 ((((md v l r t : Nat) : Int), k_3, u_3, gu_3)) dX1_majorityOf_33 rfl (by (try dsimp only); first | (rw [if_pos (by omega)]) | (rw [if_neg (by omega)])) rfl (Nat.le_refl _) (Nat.le_refl _)
