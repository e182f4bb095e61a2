/-! methods of ModeDesk that write: 65.ee -/
set_option maxHeartbeats 4000000 in
set_option maxRecDepth 100000 in
theorem m_X1_sorts (lau : Launch) (s0 : State) (G : zG) (sz : Nat) (ad : Nat → Nat) (F : Nat → Int) (Ar : Nat → Nat → Int) (kp : Nat → Nat) (pl : Nat → Option Nat) (PW : va_W) (n : Nat) (v : Nat → Nat) (l : Nat) (r : Nat) (a0 : Nat → Int) (hn : n ≤ 120) (hFn : F 200 = (n : Int)) (hv : ∀ i, i < n → v i < 1000) (hAv : ∀ i, i < n → Ar 201 i = (v i : Int)) (hlr : l ≤ r) (hrn : r ≤ n) : zMet (S := (Nat → Int) × (Nat → Nat)) lau yX1_sorts cX1_sorts 5 (none) 0 0 0 0 s0 G sz [.ref (ad 99), .int (iZ ((l : Int))), .int (iZ ((r : Int) - 1))] (dW ad G F (va_up Ar 18 a0) kp pl PW) (fun ((a2, s2) : (Nat → Int) × (Nat → Nat)) => (none : Option Value)) (fun ((a2, s2) : (Nat → Int) × (Nat → Nat)) => (SRI v l (r - l) s2) ∧ (∀ j, j < r - l → a2 j = (s2 j : Int))) (fun ((a2, s2) : (Nat → Int) × (Nat → Nat)) => (dW ad G F (va_up Ar 18 a2) kp pl PW)) := by
  refine zMet.of (by decide) (Nat.le_of_ble_eq_true rfl) ?_
  intro pg ev s1 mi ar bl me cd ls Q as0 hC hH hl hQ hsz
  generalize s1.heap = H at hH ⊢
  generalize ([] : List Loc) = locs at hH ⊢
  have hl : lv_has ls 5 [(0, .ref (ad 99)), (1, .int (iZ ((l : Int)))), (2, .int (iZ ((r : Int) - 1)))] := hl
  refine z_iload_n hC 0 hl dX1_sorts_0 rfl 1 rfl ?_
  refine z_istore_n (lv' := [(3, .int (iZ ((l : Int)))), (0, .ref (ad 99)), (1, .int (iZ ((l : Int)))), (2, .int (iZ ((r : Int) - 1)))]) hC 1 hl dX1_sorts_1 rfl (by decide) rfl (fun ls hl => ?_)
  have L2 : ∀ (N_ : Nat) (i : Nat) (a : Nat → Int) (s : Nat → Nat) (H : Heap) (locs : List Loc) (ls : Array Slot), r - l - i < N_ → (i ≤ r - l) → (SRI v l i s) → (∀ j, j < i → a j = (s j : Int)) → zH s0 s1 G as0 (dW ad G F (va_up Ar 18 a) kp pl PW) H locs → lv_has ls 5 [(0, .ref (ad 99)), (1, .int (iZ ((l : Int)))), (2, .int (iZ ((r : Int) - 1))), (3, .int (iZ ((l : Int) + (i : Int))))] → W pg lau ev (zRm 0 0 0 0) s1 mi ar bl me cd H locs 0 0 Q (F0 mi 2 ls []) := by
    intro N_
    induction N_ with
    | zero => intro i a s H locs ls hd; exact absurd hd (Nat.not_lt_zero _)
    | succ N_ ih2 =>
      intro i a s H locs ls hd2 i2_1 iS ia hH hl
      refine z_iload_n hC 2 hl dX1_sorts_2 rfl 3 rfl ?_
      refine z_iload_n hC 3 hl dX1_sorts_3 rfl 2 rfl ?_
      refine z_icmp_gt hC 4 82 dX1_sorts_4 rfl (by omega) (by omega) (fun hb1 => ?_) (fun hb1 => ?_)
      · -- 4t
        have ei : i = r - l := by omega
        rw [ei] at iS ia
        -- R82.1
        exact z_vret hC hH hQ 82 ((a, s)) dX1_sorts_82 rfl ⟨by first | assumption | omega, by first | assumption | omega⟩ rfl (Nat.le_refl _) (Nat.le_refl _)
      · -- 4f
        have hvp := hv (l + i) (by omega)
        refine z_iload_n hC 7 hl dX1_sorts_7 rfl 3 rfl ?_
        refine z_iload_n hC 8 hl dX1_sorts_8 rfl 1 rfl ?_
        refine z_isub (e := (i : Int)) hC 9 dX1_sorts_9 (by omega) ?_
        have hcv2 : a = (insN a i i) := by rw [insN_0]
        rw [hcv2] at hH
        have hH : zH s0 s1 G as0 (dW ad G F (va_up Ar 18 (insN a i i)) kp pl PW) H locs := hH
        refine z_istore (lv' := [(4, .int (iZ ((i : Int)))), (0, .ref (ad 99)), (1, .int (iZ ((l : Int)))), (2, .int (iZ ((r : Int) - 1))), (3, .int (iZ ((l : Int) + (i : Int))))]) hC 10 hl dX1_sorts_10 (by decide) rfl (fun ls hl => ?_)
        have L12 : ∀ (N_ : Nat) (c : Nat) (H : Heap) (locs : List Loc) (ls : Array Slot), c < N_ → (c ≤ i) → (∀ j, c ≤ j → j < i → v (l + i) ≤ s j) → zH s0 s1 G as0 (dW ad G F (va_up Ar 18 (insN a c i)) kp pl PW) H locs → lv_has ls 5 [(0, .ref (ad 99)), (1, .int (iZ ((l : Int)))), (2, .int (iZ ((r : Int) - 1))), (3, .int (iZ ((l : Int) + (i : Int)))), (4, .int (iZ ((c : Int))))] → W pg lau ev (zRm 0 0 0 0) s1 mi ar bl me cd H locs 0 0 Q (F0 mi 12 ls []) := by
          intro N_
          induction N_ with
          | zero => intro c H locs ls hd; exact absurd hd (Nat.not_lt_zero _)
          | succ N_ ih12 =>
            intro c H locs ls hd12 hci iB hH hl
            refine z_iload hC 12 hl dX1_sorts_12 4 rfl ?_
            refine z_if_le hC 14 60 dX1_sorts_14 rfl (by omega) (fun hb3 => ?_) (fun hb3 => ?_)
            · -- 14t
              refine z_aload_n hC 60 hl dX1_sorts_60 rfl 0 rfl ?_
              refine zp_get (v := .ref (ad 18)) hC (va_P_l hH.1) 61 in_X1 rfl 18 (by decide) q228 0 rfl (rfl) dX1_sorts_61 ?_
              refine z_iload hC 64 hl dX1_sorts_64 4 rfl ?_
              refine z_aload_n hC 66 hl dX1_sorts_66 rfl 0 rfl ?_
              refine zp_get (v := .ref (ad 200)) hC (va_P_l hH.1) 67 in_X1 rfl 4 (by decide) q210 0 rfl (rfl) dX1_sorts_67 ?_
              refine zp_getN (v := .ref (ad 201)) hC (va_P_l hH.1) 70 in_X2 rfl 0 (by decide) q141 11 rfl (rfl) dX1_sorts_70 ?_
              refine z_iload_n hC 73 hl dX1_sorts_73 rfl 3 rfl ?_
              refine zp_iald (f := (Ar 201)) (x := ((v (l + i) : Nat) : Int)) hC (va_P_l hH.1) 74 12 (l + i) rfl (by decide) (by omega) (by omega) (hAv (l + i) (by omega)) dX1_sorts_74 ?_
              refine sD_18 (f' := (va_up (insN a c i) (c) (((v (l + i) : Nat) : Int)))) hC hH 75 (c) (by omega) (by omega) rfl dX1_sorts_75 (fun H locs hH => ?_)
              have hH : zH s0 s1 G as0 (dW ad G F (va_up Ar 18 (va_up (insN a c i) (c) (((v (l + i) : Nat) : Int)))) kp pl PW) H locs := hH
              refine z_iinc (lv' := [(3, .int (iZ ((l : Int) + (i : Int) + 1))), (0, .ref (ad 99)), (1, .int (iZ ((l : Int)))), (2, .int (iZ ((r : Int) - 1))), (4, .int (iZ ((c : Int))))]) hC 76 hl dX1_sorts_76 3 rfl (by omega) (by decide) rfl (fun ls hl => ?_)
              refine z_goto hC 79 2 dX1_sorts_79 rfl ?_
              -- J2.2
              exact ih2 (i + 1) (va_up (insN a c i) (c) (((v (l + i) : Nat) : Int))) (va_up (insN s c i) c (v (l + i))) _ _ _ (by omega) (by first | assumption | omega) (by first | exact SRI_0 | exact SRI_s iS hci rfl hvp iB (Or.inl (by omega)) | exact SRI_s iS hci rfl hvp iB (Or.inr (by omega))) (by first | (intro j hj; omega) | exact ins_arr ia hci) hH (z_lv (lv_sub hl [1, 2, 3, 0] rfl) (zcons rfl (zcons rfl (zcons rfl (zcons (zpeq (by omega)) rfl)))))
            · -- 14f
              have hac := ia (c - 1) (by omega)
              have hsc := iS.2.2 (c - 1) (by omega)
              have hal : insN a c i (c - 1) = (s (c - 1) : Int) := by rw [insN_lt (by omega)]; exact hac
              refine z_aload_n hC 17 hl dX1_sorts_17 rfl 0 rfl ?_
              refine zp_get (v := .ref (ad 18)) hC (va_P_l hH.1) 18 in_X1 rfl 18 (by decide) q228 0 rfl (rfl) dX1_sorts_18 ?_
              refine z_iload hC 21 hl dX1_sorts_21 4 rfl ?_
              refine z_iconst hC 23 dX1_sorts_23 ?_
              refine z_isub (e := (c : Int) - 1) hC 24 dX1_sorts_24 rfl ?_
              refine zp_iald (f := (insN a c i)) (x := ((insN a c i) (c - 1))) hC (va_P_l hH.1) 25 8 (c - 1) rfl (by decide) (by omega) (by omega) (rfl) dX1_sorts_25 ?_
              refine z_aload_n hC 26 hl dX1_sorts_26 rfl 0 rfl ?_
              refine zp_get (v := .ref (ad 200)) hC (va_P_l hH.1) 27 in_X1 rfl 4 (by decide) q210 0 rfl (rfl) dX1_sorts_27 ?_
              refine zp_getN (v := .ref (ad 201)) hC (va_P_l hH.1) 30 in_X2 rfl 0 (by decide) q141 11 rfl (rfl) dX1_sorts_30 ?_
              refine z_iload_n hC 33 hl dX1_sorts_33 rfl 3 rfl ?_
              refine zp_iald (f := (Ar 201)) (x := ((v (l + i) : Nat) : Int)) hC (va_P_l hH.1) 34 12 (l + i) rfl (by decide) (by omega) (by omega) (hAv (l + i) (by omega)) dX1_sorts_34 ?_
              refine z_icmp_le hC 35 60 dX1_sorts_35 rfl (by omega) (by omega) (fun hb4 => ?_) (fun hb4 => ?_)
              · -- 35t
                refine z_aload_n hC 60 hl dX1_sorts_60 rfl 0 rfl ?_
                refine zp_get (v := .ref (ad 18)) hC (va_P_l hH.1) 61 in_X1 rfl 18 (by decide) q228 0 rfl (rfl) dX1_sorts_61 ?_
                refine z_iload hC 64 hl dX1_sorts_64 4 rfl ?_
                refine z_aload_n hC 66 hl dX1_sorts_66 rfl 0 rfl ?_
                refine zp_get (v := .ref (ad 200)) hC (va_P_l hH.1) 67 in_X1 rfl 4 (by decide) q210 0 rfl (rfl) dX1_sorts_67 ?_
                refine zp_getN (v := .ref (ad 201)) hC (va_P_l hH.1) 70 in_X2 rfl 0 (by decide) q141 11 rfl (rfl) dX1_sorts_70 ?_
                refine z_iload_n hC 73 hl dX1_sorts_73 rfl 3 rfl ?_
                refine zp_iald (f := (Ar 201)) (x := ((v (l + i) : Nat) : Int)) hC (va_P_l hH.1) 74 12 (l + i) rfl (by decide) (by omega) (by omega) (hAv (l + i) (by omega)) dX1_sorts_74 ?_
                refine sD_18 (f' := (va_up (insN a c i) (c) (((v (l + i) : Nat) : Int)))) hC hH 75 (c) (by omega) (by omega) rfl dX1_sorts_75 (fun H locs hH => ?_)
                have hH : zH s0 s1 G as0 (dW ad G F (va_up Ar 18 (va_up (insN a c i) (c) (((v (l + i) : Nat) : Int)))) kp pl PW) H locs := hH
                refine z_iinc (lv' := [(3, .int (iZ ((l : Int) + (i : Int) + 1))), (0, .ref (ad 99)), (1, .int (iZ ((l : Int)))), (2, .int (iZ ((r : Int) - 1))), (4, .int (iZ ((c : Int))))]) hC 76 hl dX1_sorts_76 3 rfl (by omega) (by decide) rfl (fun ls hl => ?_)
                refine z_goto hC 79 2 dX1_sorts_79 rfl ?_
                -- J2.3
                exact ih2 (i + 1) (va_up (insN a c i) (c) (((v (l + i) : Nat) : Int))) (va_up (insN s c i) c (v (l + i))) _ _ _ (by omega) (by first | assumption | omega) (by first | exact SRI_0 | exact SRI_s iS hci rfl hvp iB (Or.inl (by omega)) | exact SRI_s iS hci rfl hvp iB (Or.inr (by omega))) (by first | (intro j hj; omega) | exact ins_arr ia hci) hH (z_lv (lv_sub hl [1, 2, 3, 0] rfl) (zcons rfl (zcons rfl (zcons rfl (zcons (zpeq (by omega)) rfl)))))
              · -- 35f
                refine z_aload_n hC 38 hl dX1_sorts_38 rfl 0 rfl ?_
                refine zp_get (v := .ref (ad 18)) hC (va_P_l hH.1) 39 in_X1 rfl 18 (by decide) q228 0 rfl (rfl) dX1_sorts_39 ?_
                refine z_iload hC 42 hl dX1_sorts_42 4 rfl ?_
                refine z_aload_n hC 44 hl dX1_sorts_44 rfl 0 rfl ?_
                refine zp_get (v := .ref (ad 18)) hC (va_P_l hH.1) 45 in_X1 rfl 18 (by decide) q228 0 rfl (rfl) dX1_sorts_45 ?_
                refine z_iload hC 48 hl dX1_sorts_48 4 rfl ?_
                refine z_iconst hC 50 dX1_sorts_50 ?_
                refine z_isub (e := (c : Int) - 1) hC 51 dX1_sorts_51 rfl ?_
                refine zp_iald (f := (insN a c i)) (x := ((insN a c i) (c - 1))) hC (va_P_l hH.1) 52 8 (c - 1) rfl (by decide) (by omega) (by omega) (rfl) dX1_sorts_52 ?_
                refine sD_18 (f' := (va_up (insN a c i) (c) (((insN a c i) (c - 1))))) hC hH 53 (c) (by omega) (by omega) rfl dX1_sorts_53 (fun H locs hH => ?_)
                have hH : zH s0 s1 G as0 (dW ad G F (va_up Ar 18 (va_up (insN a c i) (c) (((insN a c i) (c - 1))))) kp pl PW) H locs := hH
                have hcv5 : (va_up (insN a c i) (c) (((insN a c i) (c - 1)))) = (insN a (c - 1) i) := by exact insN_s2 (by omega) (by omega)
                rw [hcv5] at hH
                have hH : zH s0 s1 G as0 (dW ad G F (va_up Ar 18 (insN a (c - 1) i)) kp pl PW) H locs := hH
                refine z_iinc (lv' := [(4, .int (iZ ((c : Int) - 1))), (0, .ref (ad 99)), (1, .int (iZ ((l : Int)))), (2, .int (iZ ((r : Int) - 1))), (3, .int (iZ ((l : Int) + (i : Int))))]) hC 54 hl dX1_sorts_54 4 rfl (by omega) (by decide) rfl (fun ls hl => ?_)
                refine z_goto hC 57 12 dX1_sorts_57 rfl ?_
                -- J12.4
                exact ih12 (c - 1) _ _ _ (by omega) (by first | assumption | omega) (by first | (intro j h1 h2; omega) | (intro j h1 h2; by_cases e9 : j = c - 1; (rw [e9]; omega); exact iB j (by omega) h2)) hH (z_lv (lv_sub hl [1, 2, 3, 4, 0] rfl) (zcons rfl (zcons rfl (zcons rfl (zcons rfl (zcons (zpeq (by omega)) rfl))))))
        -- J12.5
        exact L12 _ i _ _ _ (Nat.lt_succ_self _) (by first | assumption | omega) (by first | (intro j h1 h2; omega) | (intro j h1 h2; by_cases e9 : j = c - 1; (rw [e9]; omega); exact iB j (by omega) h2)) hH (lv_sub hl [1, 2, 3, 4, 0] rfl)
  -- J2.6
  exact L2 _ 0 a0 (fun _ => 0) _ _ _ (Nat.lt_succ_self _) (by first | assumption | omega) (by first | exact SRI_0 | exact SRI_s iS hci rfl hvp iB (Or.inl (by omega)) | exact SRI_s iS hci rfl hvp iB (Or.inr (by omega))) (by first | (intro j hj; omega) | exact ins_arr ia hci) hH (z_lv (lv_sub hl [1, 2, 3, 0] rfl) (zcons rfl (zcons rfl (zcons rfl (zcons (zpeq (by omega)) rfl)))))

set_option maxHeartbeats 4000000 in
set_option maxRecDepth 100000 in
theorem m_X1_median (lau : Launch) (s0 : State) (G : zG) (sz : Nat) (ad : Nat → Nat) (F : Nat → Int) (Ar : Nat → Nat → Int) (kp : Nat → Nat) (pl : Nat → Option Nat) (PW : va_W) (n : Nat) (v : Nat → Nat) (pr : Nat → Nat) (pa : Nat → Nat) (pm : Nat → Nat) (pf : Nat → Nat → Nat) (nw : Nat) (b : Nat) (t : Nat) (l : Int) (r : Int) (hn : n ≤ 120) (hFn : F 200 = (n : Int)) (hv : ∀ i, i < n → v i < 1000) (hAv : ∀ i, i < n → Ar 201 i = (v i : Int)) (hb : 2 ≤ b ∧ b ≤ 20) (hFb : F 7 = (b : Int)) (ht : t < 4) (hFt : F 8 = (t : Int)) (hpl : ∀ y, y < 1000 → (pl y = some (pr y) ∨ (pl y = none ∧ pr y = nw))) (hnw : zNwh s0 nw) (hpc : ∀ y, y < 1000 → PlC n v y (pm y) (pf y)) (hpp : zPool s0 G PW pr pa pm pf) (hmo : ∀ i j, i ≤ j → b * j < n → Ar 12 (60 * i + j) = (md v (b * i) (bEnd b j n) t : Int)) (hr_l : -2147483648 ≤ l ∧ l < 2147483648) (hr_r : -2147483648 ≤ r ∧ r < 2147483648) : zMet (S := Int × (Nat → Int) × (Nat → Nat → Int)) lau yX1_median cX1_median 3 (some .int) 1 24 0 0 s0 G sz [.ref (ad 99), .int (iZ (l)), .int (iZ (r))] (dW ad G F (va_up Ar 16 zZ) kp pl PW) (fun ((r_, F2, A2) : Int × (Nat → Int) × (Nat → Nat → Int)) => some (.int (iZ (r_)))) (fun ((r_, F2, A2) : Int × (Nat → Int) × (Nat → Nat → Int)) => (Sp_median n v l r r_) ∧ (DK F (va_up Ar 16 zZ) F2 A2)) (fun ((r_, F2, A2) : Int × (Nat → Int) × (Nat → Nat → Int)) => (dW ad G F2 A2 kp pl PW)) := by
  refine zMet.of (by decide) (Nat.le_of_ble_eq_true rfl) ?_
  intro pg ev s1 mi ar bl me cd ls Q as0 hC hH hl hQ hsz
  generalize s1.heap = H at hH ⊢
  generalize ([] : List Loc) = locs at hH ⊢
  have hl : lv_has ls 3 [(0, .ref (ad 99)), (1, .int (iZ (l))), (2, .int (iZ (r)))] := hl
  refine z_aload_n hC 0 hl dX1_median_0 rfl 0 rfl ?_
  refine z_iload_n hC 1 hl dX1_median_1 rfl 1 rfl ?_
  refine z_iload_n hC 2 hl dX1_median_2 rfl 2 rfl ?_
  refine zp_back (zp_runV hC (hH.2.2) hl.1 (va_P_l hH.1) 2 (As := [.int (iZ (l)), .int (iZ (r))]) (rest := []) (u_X1_isSpan lau s0 G ad F (va_up Ar 16 zZ) kp pl n l r (by first | exact hn | assumption | omega) (by first | exact hFn | assumption | omega) (by first | assumption | omega) (by first | assumption | omega)) (lw_V q864 q866 qs26 q89 q867) ⟨rfl, by decide, by decide, by decide +kernel⟩ (q0 := 0) (ci := 1) rfl rfl rfl rfl (Nat.le_of_ble_eq_true rfl) ⟨Nat.le_of_ble_eq_true rfl, Nat.le_of_ble_eq_true rfl⟩ ⟨by first | decide | omega, by first | decide | omega⟩ dX1_median_3) (fun r_3 hpost => ?_)
  have hb_3 : (r_3 = 1 ∧ (0 ≤ l ∧ l ≤ r ∧ r < (n : Int))) ∨ (r_3 = 0 ∧ ¬ (0 ≤ l ∧ l ≤ r ∧ r < (n : Int))) := hpost
  refine z_st (st' := [.int (iZ (r_3))]) rfl ?_
  rcases hb_3 with ⟨rfl, hb_3⟩ | ⟨rfl, hb_3⟩
  · -- 3=1
    refine z_if_ne_t hC 6 11 dX1_median_6 rfl (by omega) (by omega) ?_
    obtain ⟨l1, rfl⟩ := Int.eq_ofNat_of_zero_le (show 0 ≤ l by omega)
    obtain ⟨r1, rfl⟩ := Int.eq_ofNat_of_zero_le (show 0 ≤ r by omega)
    refine z_aload_n hC 11 hl dX1_median_11 rfl 0 rfl ?_
    refine z_iload_n hC 12 hl dX1_median_12 rfl 1 rfl ?_
    refine z_iload_n hC 13 hl dX1_median_13 rfl 2 rfl ?_
    refine z_st (st' := [.int (iZ (((r1 + 1 : Nat) : Int) - 1)), .int (iZ ((l1 : Int))), .ref (ad 99)]) (zcons (zieq (by omega)) (zcons rfl rfl)) ?_
    refine z_same (z_runV hC hH.2.2 hl.1 hH.1 hH.2.1 2 (As := [.int (iZ ((l1 : Int))), .int (iZ (((r1 + 1 : Nat) : Int) - 1))]) (rest := []) (m_X1_sorts lau s0 G _ ad F (va_up Ar 16 zZ) kp pl PW n v l1 (r1 + 1) (Ar 18) (by first | exact hn | assumption | omega) (by first | exact hFn | assumption | omega) (by first | exact hv | assumption | omega) (by first | exact hAv | assumption | omega) (by first | exact hlr | assumption | omega) (by first | exact hrn | assumption | omega)) (lw_V q1132 q1134 qs38 q89 q1135) ⟨rfl, by decide, by decide, by decide +kernel⟩ (q0 := 0) (ci := 1) rfl rfl rfl rfl (Nat.le_of_ble_eq_true rfl) ⟨Nat.le_of_ble_eq_true rfl, Nat.le_of_ble_eq_true rfl⟩ ⟨Nat.le_of_ble_eq_true rfl, Nat.le_of_ble_eq_true rfl⟩ dX1_median_14) hH (fun u_ H locs hpost hH => ?_)
    obtain ⟨a2_14, s2_14⟩ := u_
    obtain ⟨pS_14, pa_14⟩ : (SRI v l1 ((r1 + 1) - l1) s2_14) ∧ (∀ j, j < (r1 + 1) - l1 → a2_14 j = (s2_14 j : Int)) := hpost
    have hH : zH s0 s1 G as0 (dW ad G F (va_up (va_up Ar 16 zZ) 18 a2_14) kp pl PW) H locs := hH
    refine z_st (st' := []) rfl ?_
    refine z_aload_n hC 17 hl dX1_median_17 rfl 0 rfl ?_
    refine zp_get (v := .ref (ad 18)) hC (va_P_l hH.1) 18 in_X1 rfl 18 (by decide) q228 0 rfl (rfl) dX1_median_18 ?_
    refine z_iload_n hC 21 hl dX1_median_21 rfl 2 rfl ?_
    refine z_iload_n hC 22 hl dX1_median_22 rfl 1 rfl ?_
    refine z_isub (e := (r1 : Int) - (l1 : Int)) hC 23 dX1_median_23 rfl ?_
    refine z_iconst hC 24 dX1_median_24 ?_
    refine z_idiv hC 25 (r1 - l1) (2) dX1_median_25 (by omega) (by omega) (by omega) (by omega) (((r1 - l1) / 2)) rfl ?_
    have hmd := SRI_med pS_14 (show zdiv (r1 - l1) 2 < r1 + 1 - l1 by unfold zdiv; omega)
    have hzz : zdiv (r1 - l1) 2 = (r1 - l1) / 2 := rfl
    refine zp_iald (f := a2_14) (x := ((s2_14 (zdiv (r1 - l1) 2) : Nat) : Int)) hC (va_P_l hH.1) 26 8 (((r1 - l1) / 2)) rfl (by decide) (by omega) (by omega) ((pa_14 _ (by omega))) dX1_median_26 ?_
    -- R27.1
    exact z_iret hC hH hQ 27 ((((s2_14 (zdiv (r1 - l1) 2) : Nat) : Int), F, (va_up (va_up Ar 16 zZ) 18 a2_14))) dX1_median_27 rfl ⟨by (unfold Sp_median; rw [if_pos (by omega)]; simp only [Int.toNat_natCast, zt1]; rw [show l1 + (r1 + 1 - l1) = r1 + 1 by omega] at hmd; exact ⟨_, hmd.1, hmd.2, rfl⟩), by first | assumption | exact ⟨fun k h1 h2 h3 h4 h5 => by first | rfl | (simp [va_up, h1, h2, h3, h4, h5]; done) | (simp [va_up, h1, h2, h3, h4, h5]; intro e9; rw [e9, hFn]), fun k h1 h2 h3 h4 h5 h6 => by first | rfl | simp [va_up, h1, h2, h3, h4, h5, h6]⟩⟩ rfl (Nat.le_refl _) (Nat.le_refl _)
  · -- 3=0
    refine z_if_ne_f hC 6 11 dX1_median_6 rfl (by omega) (by omega) ?_
    refine z_iconst hC 9 dX1_median_9 ?_
    -- R10.2
    exact z_iret hC hH hQ 10 (((-1), F, (va_up Ar 16 zZ))) dX1_median_10 rfl ⟨by first | (unfold Sp_median; rw [if_neg (by omega)]) | (unfold Sp_median; rw [if_pos (by omega)]; (try simp only [Int.toNat_natCast, zt1]); first | done | trivial | rfl | omega | (rw [if_pos (by omega)]; first | done | trivial | rfl | omega) | (rw [if_neg (by omega)]; first | done | trivial | rfl | omega)), by first | assumption | exact ⟨fun k h1 h2 h3 h4 h5 => by first | rfl | (simp [va_up, h1, h2, h3, h4, h5]; done) | (simp [va_up, h1, h2, h3, h4, h5]; intro e9; rw [e9, hFn]), fun k h1 h2 h3 h4 h5 h6 => by first | rfl | simp [va_up, h1, h2, h3, h4, h5, h6]⟩⟩ rfl (Nat.le_refl _) (Nat.le_refl _)
