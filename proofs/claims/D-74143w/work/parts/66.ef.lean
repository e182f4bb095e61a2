/-! methods of ModeDesk that write: 66.ef -/
set_option maxHeartbeats 4000000 in
set_option maxRecDepth 100000 in
theorem m_X1_twisted (lau : Launch) (s0 : State) (G : zG) (sz : Nat) (ad : Nat → Nat) (F : Nat → Int) (Ar : Nat → Nat → Int) (kp : Nat → Nat) (pl : Nat → Option Nat) (PW : va_W) (n : Nat) (v : Nat → Nat) (pr : Nat → Nat) (pa : Nat → Nat) (pm : Nat → Nat) (pf : Nat → Nat → Nat) (nw : Nat) (b : Nat) (t : Nat) (l : Int) (r : Int) (hn : n ≤ 120) (hFn : F 200 = (n : Int)) (hv : ∀ i, i < n → v i < 1000) (hAv : ∀ i, i < n → Ar 201 i = (v i : Int)) (hb : 2 ≤ b ∧ b ≤ 20) (hFb : F 7 = (b : Int)) (ht : t < 4) (hFt : F 8 = (t : Int)) (hpl : ∀ y, y < 1000 → (pl y = some (pr y) ∨ (pl y = none ∧ pr y = nw))) (hnw : zNwh s0 nw) (hpc : ∀ y, y < 1000 → PlC n v y (pm y) (pf y)) (hpp : zPool s0 G PW pr pa pm pf) (hmo : ∀ i j, i ≤ j → b * j < n → Ar 12 (60 * i + j) = (md v (b * i) (bEnd b j n) t : Int)) (hr_l : -2147483648 ≤ l ∧ l < 2147483648) (hr_r : -2147483648 ≤ r ∧ r < 2147483648) : zMet (S := Int × (Nat → Int) × (Nat → Nat → Int)) lau yX1_twisted cX1_twisted 6 (some .int) 1 22 0 0 s0 G sz [.ref (ad 99), .int (iZ (l)), .int (iZ (r))] (dW ad G F (va_up Ar 16 zZ) kp pl PW) (fun ((r_, F2, A2) : Int × (Nat → Int) × (Nat → Nat → Int)) => some (.int (iZ (r_)))) (fun ((r_, F2, A2) : Int × (Nat → Int) × (Nat → Nat → Int)) => (Sp_twisted n v l r r_) ∧ (DK F (va_up Ar 16 zZ) F2 A2)) (fun ((r_, F2, A2) : Int × (Nat → Int) × (Nat → Nat → Int)) => (dW ad G F2 A2 kp pl PW)) := by
  refine zMet.of (by decide) (Nat.le_of_ble_eq_true rfl) ?_
  intro pg ev s1 mi ar bl me cd ls Q as0 hC hH hl hQ hsz
  generalize s1.heap = H at hH ⊢
  generalize ([] : List Loc) = locs at hH ⊢
  have hl : lv_has ls 6 [(0, .ref (ad 99)), (1, .int (iZ (l))), (2, .int (iZ (r)))] := hl
  refine z_aload_n hC 0 hl dX1_twisted_0 rfl 0 rfl ?_
  refine z_iload_n hC 1 hl dX1_twisted_1 rfl 1 rfl ?_
  refine z_iload_n hC 2 hl dX1_twisted_2 rfl 2 rfl ?_
  refine zp_back (zp_runV hC (hH.2.2) hl.1 (va_P_l hH.1) 2 (As := [.int (iZ (l)), .int (iZ (r))]) (rest := []) (u_X1_isSpan lau s0 G ad F (va_up Ar 16 zZ) kp pl n l r (by first | exact hn | assumption | omega) (by first | exact hFn | assumption | omega) (by first | assumption | omega) (by first | assumption | omega)) (lw_V q864 q866 qs26 q89 q867) ⟨rfl, by decide, by decide, by decide +kernel⟩ (q0 := 0) (ci := 1) rfl rfl rfl rfl (Nat.le_of_ble_eq_true rfl) ⟨Nat.le_of_ble_eq_true rfl, Nat.le_of_ble_eq_true rfl⟩ ⟨by first | decide | omega, by first | decide | omega⟩ dX1_twisted_3) (fun r_3 hpost => ?_)
  have hb_3 : (r_3 = 1 ∧ (0 ≤ l ∧ l ≤ r ∧ r < (n : Int))) ∨ (r_3 = 0 ∧ ¬ (0 ≤ l ∧ l ≤ r ∧ r < (n : Int))) := hpost
  refine z_st (st' := [.int (iZ (r_3))]) rfl ?_
  rcases hb_3 with ⟨rfl, hb_3⟩ | ⟨rfl, hb_3⟩
  · -- 3=1
    refine z_if_ne_t hC 6 11 dX1_twisted_6 rfl (by omega) (by omega) ?_
    obtain ⟨l1, rfl⟩ := Int.eq_ofNat_of_zero_le (show 0 ≤ l by omega)
    obtain ⟨r1, rfl⟩ := Int.eq_ofNat_of_zero_le (show 0 ≤ r by omega)
    refine z_iconst hC 11 dX1_twisted_11 ?_
    refine z_istore_n (lv' := [(3, .int (iZ (0))), (0, .ref (ad 99)), (1, .int (iZ ((l1 : Int)))), (2, .int (iZ ((r1 : Int))))]) hC 12 hl dX1_twisted_12 rfl (by decide) rfl (fun ls hl => ?_)
    refine z_iload_n hC 13 hl dX1_twisted_13 rfl 2 rfl ?_
    refine z_istore (lv' := [(4, .int (iZ ((l1 : Int)))), (3, .int (iZ (0))), (0, .ref (ad 99)), (1, .int (iZ ((l1 : Int)))), (2, .int (iZ ((r1 : Int))))]) hC 14 hl dX1_twisted_14 (by decide) rfl (fun ls hl => ?_)
    have L16 : ∀ (N_ : Nat) (p : Nat) (c : Nat) (H : Heap) (locs : List Loc) (ls : Array Slot), r1 + 1 - p < N_ → (l1 ≤ p) → (p ≤ r1 + 1) → (c = sm (fun p => cB (fun q => p < q ∧ v q < v p) (r1 + 1)) l1 p) → (c ≤ p * 120) → zH s0 s1 G as0 (dW ad G F (va_up Ar 16 zZ) kp pl PW) H locs → lv_has ls 6 [(0, .ref (ad 99)), (1, .int (iZ ((l1 : Int)))), (2, .int (iZ ((r1 : Int)))), (3, .int (iZ ((c : Int)))), (4, .int (iZ ((p : Int))))] → W pg lau ev (zRm 1 0 0 22) s1 mi ar bl me cd H locs 0 0 Q (F0 mi 16 ls []) := by
      intro N_
      induction N_ with
      | zero => intro p c H locs ls hd; exact absurd hd (Nat.not_lt_zero _)
      | succ N_ ih16 =>
        intro p c H locs ls hd16 i16_1 i16_2 ic i16_4 hH hl
        refine z_iload hC 16 hl dX1_twisted_16 4 rfl ?_
        refine z_iload_n hC 18 hl dX1_twisted_18 rfl 2 rfl ?_
        refine z_icmp_gt hC 19 77 dX1_twisted_19 rfl (by omega) (by omega) (fun hb1 => ?_) (fun hb1 => ?_)
        · -- 19t
          have eq76 : p = r1 + 1 := by omega
          rw [eq76] at ic
          refine z_iload_n hC 77 hl dX1_twisted_77 rfl 3 rfl ?_
          -- R78.1
          exact z_iret hC hH hQ 78 (((c : Int), F, (va_up Ar 16 zZ))) dX1_twisted_78 rfl ⟨by (unfold Sp_twisted; rw [if_pos (by omega)]; try simp only [Int.toNat_natCast, zt1]; rw [ic]), by first | assumption | exact ⟨fun k h1 h2 h3 h4 h5 => by first | rfl | (simp [va_up, h1, h2, h3, h4, h5]; done) | (simp [va_up, h1, h2, h3, h4, h5]; intro e9; rw [e9, hFn]), fun k h1 h2 h3 h4 h5 h6 => by first | rfl | simp [va_up, h1, h2, h3, h4, h5, h6]⟩⟩ rfl (Nat.le_refl _) (Nat.le_refl _)
        · -- 19f
          refine z_iload hC 22 hl dX1_twisted_22 4 rfl ?_
          refine z_iconst hC 24 dX1_twisted_24 ?_
          refine z_iadd (e := (p : Int) + 1) hC 25 dX1_twisted_25 rfl ?_
          refine z_istore (lv' := [(5, .int (iZ ((p : Int) + 1))), (0, .ref (ad 99)), (1, .int (iZ ((l1 : Int)))), (2, .int (iZ ((r1 : Int)))), (3, .int (iZ ((c : Int)))), (4, .int (iZ ((p : Int))))]) hC 26 hl dX1_twisted_26 (by decide) rfl (fun ls hl => ?_)
          have L28 : ∀ (N_ : Nat) (q : Nat) (c2 : Nat) (H : Heap) (locs : List Loc) (ls : Array Slot), r1 + 1 - q < N_ → (p + 1 ≤ q) → (q ≤ r1 + 1) → (c2 = c + cB (fun q => p < q ∧ v q < v p) q) → (c2 ≤ c + q) → zH s0 s1 G as0 (dW ad G F (va_up Ar 16 zZ) kp pl PW) H locs → lv_has ls 6 [(0, .ref (ad 99)), (1, .int (iZ ((l1 : Int)))), (2, .int (iZ ((r1 : Int)))), (3, .int (iZ ((c2 : Int)))), (4, .int (iZ ((p : Int)))), (5, .int (iZ ((q : Int))))] → W pg lau ev (zRm 1 0 0 22) s1 mi ar bl me cd H locs 0 0 Q (F0 mi 28 ls []) := by
            intro N_
            induction N_ with
            | zero => intro q c2 H locs ls hd; exact absurd hd (Nat.not_lt_zero _)
            | succ N_ ih28 =>
              intro q c2 H locs ls hd28 i28_1 i28_2 ic2 i28_4 hH hl
              refine z_iload hC 28 hl dX1_twisted_28 5 rfl ?_
              refine z_iload_n hC 30 hl dX1_twisted_30 rfl 2 rfl ?_
              refine z_icmp_gt hC 31 71 dX1_twisted_31 rfl (by omega) (by omega) (fun hb2 => ?_) (fun hb2 => ?_)
              · -- 31t
                have hsm := sm_succ (fun p => cB (fun q => p < q ∧ v q < v p) (r1 + 1)) (show l1 ≤ p by omega)
                have eq70 : q = r1 + 1 := by omega
                rw [eq70] at ic2
                refine z_iinc (lv' := [(4, .int (iZ ((p : Int) + 1))), (0, .ref (ad 99)), (1, .int (iZ ((l1 : Int)))), (2, .int (iZ ((r1 : Int)))), (3, .int (iZ ((c2 : Int)))), (5, .int (iZ ((q : Int))))]) hC 71 hl dX1_twisted_71 4 rfl (by omega) (by decide) rfl (fun ls hl => ?_)
                refine z_goto hC 74 16 dX1_twisted_74 rfl ?_
                -- J16.2
                exact ih16 (p + 1) c2 _ _ _ (by omega) (by first | assumption | omega) (by first | assumption | omega) (by first | exact (sm_0 _ (Nat.le_refl _)).symm | omega) (by first | assumption | omega) hH (z_lv (lv_sub hl [1, 2, 3, 4, 0] rfl) (zcons rfl (zcons rfl (zcons rfl (zcons rfl (zcons (zpeq (by omega)) rfl))))))
              · -- 31f
                have hvp := hv (p) (by omega)
                have hvq := hv (q) (by omega)
                refine z_iload_n hC 34 hl dX1_twisted_34 rfl 3 rfl ?_
                refine z_aload_n hC 35 hl dX1_twisted_35 rfl 0 rfl ?_
                refine zp_get (v := .ref (ad 200)) hC (va_P_l hH.1) 36 in_X1 rfl 4 (by decide) q210 0 rfl (rfl) dX1_twisted_36 ?_
                refine zp_getN (v := .ref (ad 201)) hC (va_P_l hH.1) 39 in_X2 rfl 0 (by decide) q141 11 rfl (rfl) dX1_twisted_39 ?_
                refine z_iload hC 42 hl dX1_twisted_42 4 rfl ?_
                refine zp_iald (f := (Ar 201)) (x := ((v (p) : Nat) : Int)) hC (va_P_l hH.1) 44 12 (p) rfl (by decide) (by omega) (by omega) (hAv (p) (by omega)) dX1_twisted_44 ?_
                refine z_aload_n hC 45 hl dX1_twisted_45 rfl 0 rfl ?_
                refine zp_get (v := .ref (ad 200)) hC (va_P_l hH.1) 46 in_X1 rfl 4 (by decide) q210 0 rfl (rfl) dX1_twisted_46 ?_
                refine zp_getN (v := .ref (ad 201)) hC (va_P_l hH.1) 49 in_X2 rfl 0 (by decide) q141 11 rfl (rfl) dX1_twisted_49 ?_
                refine z_iload hC 52 hl dX1_twisted_52 5 rfl ?_
                refine zp_iald (f := (Ar 201)) (x := ((v (q) : Nat) : Int)) hC (va_P_l hH.1) 54 12 (q) rfl (by decide) (by omega) (by omega) (hAv (q) (by omega)) dX1_twisted_54 ?_
                refine z_icmp_le hC 55 62 dX1_twisted_55 rfl (by omega) (by omega) (fun hb3 => ?_) (fun hb3 => ?_)
                · -- 55t
                  refine z_iconst hC 62 dX1_twisted_62 ?_
                  refine z_iadd (e := (c2 : Int)) hC 63 dX1_twisted_63 (by omega) ?_
                  refine z_istore_n (lv' := [(3, .int (iZ ((c2 : Int)))), (0, .ref (ad 99)), (1, .int (iZ ((l1 : Int)))), (2, .int (iZ ((r1 : Int)))), (4, .int (iZ ((p : Int)))), (5, .int (iZ ((q : Int))))]) hC 64 hl dX1_twisted_64 rfl (by decide) rfl (fun ls hl => ?_)
                  refine z_iinc (lv' := [(5, .int (iZ ((q : Int) + 1))), (3, .int (iZ ((c2 : Int)))), (0, .ref (ad 99)), (1, .int (iZ ((l1 : Int)))), (2, .int (iZ ((r1 : Int)))), (4, .int (iZ ((p : Int))))]) hC 65 hl dX1_twisted_65 5 rfl (by omega) (by decide) rfl (fun ls hl => ?_)
                  refine z_goto hC 68 28 dX1_twisted_68 rfl ?_
                  -- J28.3
                  exact ih28 (q + 1) c2 _ _ _ (by omega) (by first | assumption | omega) (by first | assumption | omega) (by first | (rw [cB_none (fun j hj h => by omega)]; omega) | exact cB_ait (by omega) ic2 | exact cB_aif (by omega) ic2) (by first | assumption | omega) hH (z_lv (lv_sub hl [2, 3, 4, 1, 5, 0] rfl) (zcons rfl (zcons rfl (zcons rfl (zcons rfl (zcons rfl (zcons (zpeq (by omega)) rfl)))))))
                · -- 55f
                  refine z_iconst hC 58 dX1_twisted_58 ?_
                  refine z_goto hC 59 63 dX1_twisted_59 rfl ?_
                  refine z_iadd (e := (c2 : Int) + 1) hC 63 dX1_twisted_63 rfl ?_
                  refine z_istore_n (lv' := [(3, .int (iZ ((c2 : Int) + 1))), (0, .ref (ad 99)), (1, .int (iZ ((l1 : Int)))), (2, .int (iZ ((r1 : Int)))), (4, .int (iZ ((p : Int)))), (5, .int (iZ ((q : Int))))]) hC 64 hl dX1_twisted_64 rfl (by decide) rfl (fun ls hl => ?_)
                  refine z_iinc (lv' := [(5, .int (iZ ((q : Int) + 1))), (3, .int (iZ ((c2 : Int) + 1))), (0, .ref (ad 99)), (1, .int (iZ ((l1 : Int)))), (2, .int (iZ ((r1 : Int)))), (4, .int (iZ ((p : Int))))]) hC 65 hl dX1_twisted_65 5 rfl (by omega) (by decide) rfl (fun ls hl => ?_)
                  refine z_goto hC 68 28 dX1_twisted_68 rfl ?_
                  -- J28.4
                  exact ih28 (q + 1) (c2 + 1) _ _ _ (by omega) (by first | assumption | omega) (by first | assumption | omega) (by first | (rw [cB_none (fun j hj h => by omega)]; omega) | exact cB_ait (by omega) ic2 | exact cB_aif (by omega) ic2) (by first | assumption | omega) hH (z_lv (lv_sub hl [2, 3, 4, 1, 5, 0] rfl) (zcons rfl (zcons rfl (zcons rfl (zcons (zpeq (by omega)) (zcons rfl (zcons (zpeq (by omega)) rfl)))))))
          -- J28.5
          exact L28 _ (p + 1) c _ _ _ (Nat.lt_succ_self _) (by first | assumption | omega) (by first | assumption | omega) (by first | (rw [cB_none (fun j hj h => by omega)]; omega) | exact cB_ait (by omega) ic2 | exact cB_aif (by omega) ic2) (by first | assumption | omega) hH (z_lv (lv_sub hl [1, 2, 3, 4, 5, 0] rfl) (zcons rfl (zcons rfl (zcons rfl (zcons rfl (zcons rfl (zcons (zpeq (by omega)) rfl)))))))
    -- J16.6
    exact L16 _ l1 0 _ _ _ (Nat.lt_succ_self _) (by first | assumption | omega) (by first | assumption | omega) (by first | exact (sm_0 _ (Nat.le_refl _)).symm | omega) (by first | assumption | omega) hH (z_lv (lv_sub hl [2, 3, 4, 1, 0] rfl) (zcons rfl (zcons rfl (zcons rfl (zcons (zpeq (by omega)) (zcons rfl rfl))))))
  · -- 3=0
    refine z_if_ne_f hC 6 11 dX1_twisted_6 rfl (by omega) (by omega) ?_
    refine z_iconst hC 9 dX1_twisted_9 ?_
    -- R10.7
    exact z_iret hC hH hQ 10 (((-1), F, (va_up Ar 16 zZ))) dX1_twisted_10 rfl ⟨by first | (unfold Sp_twisted; rw [if_neg (by omega)]) | (unfold Sp_twisted; rw [if_pos (by omega)]; (try simp only [Int.toNat_natCast, zt1]); first | done | trivial | rfl | omega | (rw [if_pos (by omega)]; first | done | trivial | rfl | omega) | (rw [if_neg (by omega)]; first | done | trivial | rfl | omega)), by first | assumption | exact ⟨fun k h1 h2 h3 h4 h5 => by first | rfl | (simp [va_up, h1, h2, h3, h4, h5]; done) | (simp [va_up, h1, h2, h3, h4, h5]; intro e9; rw [e9, hFn]), fun k h1 h2 h3 h4 h5 h6 => by first | rfl | simp [va_up, h1, h2, h3, h4, h5, h6]⟩⟩ rfl (Nat.le_refl _) (Nat.le_refl _)

set_option maxHeartbeats 4000000 in
set_option maxRecDepth 100000 in
theorem m_X1_run (lau : Launch) (s0 : State) (G : zG) (sz : Nat) (ad : Nat → Nat) (F : Nat → Int) (Ar : Nat → Nat → Int) (kp : Nat → Nat) (pl : Nat → Option Nat) (PW : va_W) (n : Nat) (v : Nat → Nat) (pr : Nat → Nat) (pa : Nat → Nat) (pm : Nat → Nat) (pf : Nat → Nat → Nat) (nw : Nat) (b : Nat) (t : Nat) (l : Int) (r : Int) (q : Int) (hn : n ≤ 120) (hFn : F 200 = (n : Int)) (hv : ∀ i, i < n → v i < 1000) (hAv : ∀ i, i < n → Ar 201 i = (v i : Int)) (hb : 2 ≤ b ∧ b ≤ 20) (hFb : F 7 = (b : Int)) (ht : t < 4) (hFt : F 8 = (t : Int)) (hpl : ∀ y, y < 1000 → (pl y = some (pr y) ∨ (pl y = none ∧ pr y = nw))) (hnw : zNwh s0 nw) (hpc : ∀ y, y < 1000 → PlC n v y (pm y) (pf y)) (hpp : zPool s0 G PW pr pa pm pf) (hmo : ∀ i j, i ≤ j → b * j < n → Ar 12 (60 * i + j) = (md v (b * i) (bEnd b j n) t : Int)) (hr_l : -2147483648 ≤ l ∧ l < 2147483648) (hr_r : -2147483648 ≤ r ∧ r < 2147483648) (hr_q : -2147483648 ≤ q ∧ q < 2147483648) : zMet (S := Int × (Nat → Int) × (Nat → Nat → Int)) lau yX1_run cX1_run 8 (some .int) 1 25 0 0 s0 G sz [.ref (ad 99), .int (iZ (l)), .int (iZ (r)), .int (iZ (q))] (dW ad G F (va_up Ar 16 zZ) kp pl PW) (fun ((r_, F2, A2) : Int × (Nat → Int) × (Nat → Nat → Int)) => some (.int (iZ (r_)))) (fun ((r_, F2, A2) : Int × (Nat → Int) × (Nat → Nat → Int)) => (Sp_run n v l r q r_) ∧ (DK F (va_up Ar 16 zZ) F2 A2)) (fun ((r_, F2, A2) : Int × (Nat → Int) × (Nat → Nat → Int)) => (dW ad G F2 A2 kp pl PW)) := by
  refine zMet.of (by decide) (Nat.le_of_ble_eq_true rfl) ?_
  intro pg ev s1 mi ar bl me cd ls Q as0 hC hH hl hQ hsz
  generalize s1.heap = H at hH ⊢
  generalize ([] : List Loc) = locs at hH ⊢
  have hl : lv_has ls 8 [(0, .ref (ad 99)), (1, .int (iZ (l))), (2, .int (iZ (r))), (3, .int (iZ (q)))] := hl
  refine z_aload_n hC 0 hl dX1_run_0 rfl 0 rfl ?_
  refine z_iload_n hC 1 hl dX1_run_1 rfl 1 rfl ?_
  refine z_iload_n hC 2 hl dX1_run_2 rfl 2 rfl ?_
  refine zp_back (zp_runV hC (hH.2.2) hl.1 (va_P_l hH.1) 2 (As := [.int (iZ (l)), .int (iZ (r))]) (rest := []) (u_X1_isSpan lau s0 G ad F (va_up Ar 16 zZ) kp pl n l r (by first | exact hn | assumption | omega) (by first | exact hFn | assumption | omega) (by first | assumption | omega) (by first | assumption | omega)) (lw_V q864 q866 qs26 q89 q867) ⟨rfl, by decide, by decide, by decide +kernel⟩ (q0 := 0) (ci := 1) rfl rfl rfl rfl (Nat.le_of_ble_eq_true rfl) ⟨Nat.le_of_ble_eq_true rfl, Nat.le_of_ble_eq_true rfl⟩ ⟨by first | decide | omega, by first | decide | omega⟩ dX1_run_3) (fun r_3 hpost => ?_)
  have hb_3 : (r_3 = 1 ∧ (0 ≤ l ∧ l ≤ r ∧ r < (n : Int))) ∨ (r_3 = 0 ∧ ¬ (0 ≤ l ∧ l ≤ r ∧ r < (n : Int))) := hpost
  refine z_st (st' := [.int (iZ (r_3))]) rfl ?_
  rcases hb_3 with ⟨rfl, hb_3⟩ | ⟨rfl, hb_3⟩
  · -- 3=1
    refine z_if_eq_f hC 6 21 dX1_run_6 rfl (by omega) (by omega) ?_
    refine z_iload_n hC 9 hl dX1_run_9 rfl 3 rfl ?_
    refine z_i2l hC 10 dX1_run_10 (by omega) ?_
    refine z_lconst (a := 0) hC 11 dX1_run_11 rfl ?_
    refine z_ldc2 (a := 2) hC 12 q1144 rfl dX1_run_12 ?_
    refine zp_back (zp_runS hC (hH.2.2) hl.1 (zp_nil) 3 (As := [.long (lZ (q)), .long (lZ (0)), .long (lZ (2))]) (rest := []) (u_X1_isIn lau s0 G q 0 2 (by first | assumption | omega) (by first | assumption | omega) (by first | assumption | omega)) (lw_S q303 q304 q89 q305) ⟨by decide, by decide, by decide +kernel⟩ rfl rfl (Nat.le_of_ble_eq_true rfl) ⟨Nat.le_of_ble_eq_true rfl, Nat.le_of_ble_eq_true rfl⟩ ⟨by first | decide | omega, by first | decide | omega⟩ dX1_run_15) (fun r_15 hpost => ?_)
    have hb_15 : (r_15 = 1 ∧ ((0 : Int) ≤ q ∧ q ≤ (2 : Int))) ∨ (r_15 = 0 ∧ ¬ ((0 : Int) ≤ q ∧ q ≤ (2 : Int))) := hpost
    refine z_st (st' := [.int (iZ (r_15))]) rfl ?_
    rcases hb_15 with ⟨rfl, hb_15⟩ | ⟨rfl, hb_15⟩
    · -- 15=1
      refine z_if_ne_t hC 18 23 dX1_run_18 rfl (by omega) (by omega) ?_
      obtain ⟨l1, rfl⟩ := Int.eq_ofNat_of_zero_le (show 0 ≤ l by omega)
      obtain ⟨r1, rfl⟩ := Int.eq_ofNat_of_zero_le (show 0 ≤ r by omega)
      refine z_iload_n hC 23 hl dX1_run_23 rfl 1 rfl ?_
      refine z_istore (lv' := [(4, .int (iZ ((l1 : Int)))), (0, .ref (ad 99)), (1, .int (iZ ((l1 : Int)))), (2, .int (iZ ((r1 : Int)))), (3, .int (iZ (q)))]) hC 24 hl dX1_run_24 (by decide) rfl (fun ls hl => ?_)
      refine z_iload_n hC 26 hl dX1_run_26 rfl 2 rfl ?_
      refine z_istore (lv' := [(5, .int (iZ ((l1 : Int)))), (4, .int (iZ ((l1 : Int)))), (0, .ref (ad 99)), (1, .int (iZ ((l1 : Int)))), (2, .int (iZ ((r1 : Int)))), (3, .int (iZ (q)))]) hC 27 hl dX1_run_27 (by decide) rfl (fun ls hl => ?_)
      refine z_iconst hC 29 dX1_run_29 ?_
      refine z_istore (lv' := [(6, .int (iZ (0))), (5, .int (iZ ((l1 : Int)))), (4, .int (iZ ((l1 : Int)))), (0, .ref (ad 99)), (1, .int (iZ ((l1 : Int)))), (2, .int (iZ ((r1 : Int)))), (3, .int (iZ (q)))]) hC 30 hl dX1_run_30 (by decide) rfl (fun ls hl => ?_)
      refine z_iload_n hC 32 hl dX1_run_32 rfl 4 rfl ?_
      refine z_istore (lv' := [(7, .int (iZ ((l1 : Int)))), (6, .int (iZ (0))), (5, .int (iZ ((l1 : Int)))), (4, .int (iZ ((l1 : Int)))), (0, .ref (ad 99)), (1, .int (iZ ((l1 : Int)))), (2, .int (iZ ((r1 : Int)))), (3, .int (iZ (q)))]) hC 33 hl dX1_run_33 (by decide) rfl (fun ls hl => ?_)
      have L35 : ∀ (N_ : Nat) (p : Nat) (fr : Nat) (bs : Nat) (ms : Nat) (H : Heap) (locs : List Loc) (ls : Array Slot), r1 + 1 - p < N_ → (l1 ≤ p) → (p ≤ r1 + 1) → (fr ≤ p) → (fr ≤ r1) → (bs ≤ r1) → (ms ≤ r1 + 1) → (RNI v l1 p fr bs ms) → zH s0 s1 G as0 (dW ad G F (va_up Ar 16 zZ) kp pl PW) H locs → lv_has ls 8 [(0, .ref (ad 99)), (1, .int (iZ ((l1 : Int)))), (2, .int (iZ ((r1 : Int)))), (3, .int (iZ (q))), (4, .int (iZ ((fr : Int)))), (5, .int (iZ ((bs : Int)))), (6, .int (iZ ((ms : Int)))), (7, .int (iZ ((p : Int))))] → W pg lau ev (zRm 1 0 0 25) s1 mi ar bl me cd H locs 0 0 Q (F0 mi 35 ls []) := by
        intro N_
        induction N_ with
        | zero => intro p fr bs ms H locs ls hd; exact absurd hd (Nat.not_lt_zero _)
        | succ N_ ih35 =>
          intro p fr bs ms H locs ls hd35 i35_1 i35_2 i35_3 i35_4 i35_5 i35_6 ir hH hl
          refine z_iload hC 35 hl dX1_run_35 7 rfl ?_
          refine z_iload_n hC 37 hl dX1_run_37 rfl 2 rfl ?_
          refine z_icmp_gt hC 38 102 dX1_run_38 rfl (by omega) (by omega) (fun hb1 => ?_) (fun hb1 => ?_)
          · -- 38t
            have ep : p = r1 + 1 := by omega
            rw [ep] at ir
            have hvb := hv bs (by omega)
            have hms := ir.1.2
            refine z_iload_n hC 102 hl dX1_run_102 rfl 3 rfl ?_
            refine z_if_ne hC 103 111 dX1_run_103 rfl (by omega) (fun hb2 => ?_) (fun hb2 => ?_)
            · -- 103t
              refine z_iload_n hC 111 hl dX1_run_111 rfl 3 rfl ?_
              refine z_iconst hC 112 dX1_run_112 ?_
              refine z_icmp_ne hC 113 126 dX1_run_113 rfl (by omega) (by omega) (fun hb3 => ?_) (fun hb3 => ?_)
              · -- 113t
                refine z_aload_n hC 126 hl dX1_run_126 rfl 0 rfl ?_
                refine zp_get (v := .ref (ad 200)) hC (va_P_l hH.1) 127 in_X1 rfl 4 (by decide) q210 0 rfl (rfl) dX1_run_127 ?_
                refine zp_getN (v := .ref (ad 201)) hC (va_P_l hH.1) 130 in_X2 rfl 0 (by decide) q141 11 rfl (rfl) dX1_run_130 ?_
                refine z_iload hC 133 hl dX1_run_133 5 rfl ?_
                refine zp_iald (f := (Ar 201)) (x := ((v (bs) : Nat) : Int)) hC (va_P_l hH.1) 135 12 (bs) rfl (by decide) (by omega) (by omega) (hAv (bs) (by omega)) dX1_run_135 ?_
                -- R136.1
                exact z_iret hC hH hQ 136 ((((v (bs) : Nat) : Int), F, (va_up Ar 16 zZ))) dX1_run_136 rfl ⟨by (unfold Sp_run; rw [if_pos (by omega)]; simp only [Int.toNat_natCast, zt1]; exact ⟨bs, ms, ir.1, by first | (rw [if_pos (by omega)]; done) | (rw [if_neg (by omega), if_pos (by omega)] <;> omega) | (rw [if_neg (by omega), if_neg (by omega)]; done)⟩), by first | assumption | exact ⟨fun k h1 h2 h3 h4 h5 => by first | rfl | (simp [va_up, h1, h2, h3, h4, h5]; done) | (simp [va_up, h1, h2, h3, h4, h5]; intro e9; rw [e9, hFn]), fun k h1 h2 h3 h4 h5 h6 => by first | rfl | simp [va_up, h1, h2, h3, h4, h5, h6]⟩⟩ rfl (Nat.le_refl _) (Nat.le_refl _)
              · -- 113f
                refine z_iload hC 116 hl dX1_run_116 5 rfl ?_
                refine z_iload hC 118 hl dX1_run_118 6 rfl ?_
                refine z_iadd (e := (bs : Int) + (ms : Int)) hC 120 dX1_run_120 rfl ?_
                refine z_iconst hC 121 dX1_run_121 ?_
                refine z_isub (e := (bs : Int) + (ms : Int) - 1) hC 122 dX1_run_122 rfl ?_
                refine z_goto hC 123 136 dX1_run_123 rfl ?_
                -- R136.2
                refine z_st (st' := [.int (iZ (((bs : Int) + (ms : Int) - 1)))]) (zcons (zieq (by first | assumption | omega)) rfl) ?_
                exact z_iret hC hH hQ 136 (((bs : Int) + (ms : Int) - 1, F, (va_up Ar 16 zZ))) dX1_run_136 rfl ⟨by (unfold Sp_run; rw [if_pos (by omega)]; simp only [Int.toNat_natCast, zt1]; exact ⟨bs, ms, ir.1, by first | (rw [if_pos (by omega)]; done) | (rw [if_neg (by omega), if_pos (by omega)] <;> omega) | (rw [if_neg (by omega), if_neg (by omega)]; done)⟩), by first | assumption | exact ⟨fun k h1 h2 h3 h4 h5 => by first | rfl | (simp [va_up, h1, h2, h3, h4, h5]; done) | (simp [va_up, h1, h2, h3, h4, h5]; intro e9; rw [e9, hFn]), fun k h1 h2 h3 h4 h5 h6 => by first | rfl | simp [va_up, h1, h2, h3, h4, h5, h6]⟩⟩ rfl (Nat.le_refl _) (Nat.le_refl _)
            · -- 103f
              refine z_iload hC 106 hl dX1_run_106 5 rfl ?_
              refine z_goto hC 108 136 dX1_run_108 rfl ?_
              -- R136.3
              exact z_iret hC hH hQ 136 (((bs : Int), F, (va_up Ar 16 zZ))) dX1_run_136 rfl ⟨by (unfold Sp_run; rw [if_pos (by omega)]; simp only [Int.toNat_natCast, zt1]; exact ⟨bs, ms, ir.1, by first | (rw [if_pos (by omega)]; done) | (rw [if_neg (by omega), if_pos (by omega)] <;> omega) | (rw [if_neg (by omega), if_neg (by omega)]; done)⟩), by first | assumption | exact ⟨fun k h1 h2 h3 h4 h5 => by first | rfl | (simp [va_up, h1, h2, h3, h4, h5]; done) | (simp [va_up, h1, h2, h3, h4, h5]; intro e9; rw [e9, hFn]), fun k h1 h2 h3 h4 h5 h6 => by first | rfl | simp [va_up, h1, h2, h3, h4, h5, h6]⟩⟩ rfl (Nat.le_refl _) (Nat.le_refl _)
          · -- 38f
            have hv1 := hv p (by omega)
            have hv2 := hv fr (by omega)
            refine z_aload_n hC 41 hl dX1_run_41 rfl 0 rfl ?_
            refine zp_get (v := .ref (ad 200)) hC (va_P_l hH.1) 42 in_X1 rfl 4 (by decide) q210 0 rfl (rfl) dX1_run_42 ?_
            refine zp_getN (v := .ref (ad 201)) hC (va_P_l hH.1) 45 in_X2 rfl 0 (by decide) q141 11 rfl (rfl) dX1_run_45 ?_
            refine z_iload hC 48 hl dX1_run_48 7 rfl ?_
            refine zp_iald (f := (Ar 201)) (x := ((v (p) : Nat) : Int)) hC (va_P_l hH.1) 50 12 (p) rfl (by decide) (by omega) (by omega) (hAv (p) (by omega)) dX1_run_50 ?_
            refine z_aload_n hC 51 hl dX1_run_51 rfl 0 rfl ?_
            refine zp_get (v := .ref (ad 200)) hC (va_P_l hH.1) 52 in_X1 rfl 4 (by decide) q210 0 rfl (rfl) dX1_run_52 ?_
            refine zp_getN (v := .ref (ad 201)) hC (va_P_l hH.1) 55 in_X2 rfl 0 (by decide) q141 11 rfl (rfl) dX1_run_55 ?_
            refine z_iload hC 58 hl dX1_run_58 4 rfl ?_
            refine zp_iald (f := (Ar 201)) (x := ((v (fr) : Nat) : Int)) hC (va_P_l hH.1) 60 12 (fr) rfl (by decide) (by omega) (by omega) (hAv (fr) (by omega)) dX1_run_60 ?_
            refine z_icmp_eq hC 61 68 dX1_run_61 rfl (by omega) (by omega) (fun hb4 => ?_) (fun hb4 => ?_)
            · -- 61t
              refine z_iload hC 68 hl dX1_run_68 7 rfl ?_
              refine z_iload hC 70 hl dX1_run_70 4 rfl ?_
              refine z_isub (e := (p : Int) - (fr : Int)) hC 72 dX1_run_72 rfl ?_
              refine z_iconst hC 73 dX1_run_73 ?_
              refine z_iadd (e := (p : Int) - (fr : Int) + 1) hC 74 dX1_run_74 rfl ?_
              refine z_iload hC 75 hl dX1_run_75 6 rfl ?_
              refine z_icmp_gt hC 77 83 dX1_run_77 rfl (by omega) (by omega) (fun hb5 => ?_) (fun hb5 => ?_)
              · -- 77t
                refine z_iload hC 83 hl dX1_run_83 4 rfl ?_
                refine z_istore (lv' := [(5, .int (iZ ((fr : Int)))), (0, .ref (ad 99)), (1, .int (iZ ((l1 : Int)))), (2, .int (iZ ((r1 : Int)))), (3, .int (iZ (q))), (4, .int (iZ ((fr : Int)))), (6, .int (iZ ((ms : Int)))), (7, .int (iZ ((p : Int))))]) hC 85 hl dX1_run_85 (by decide) rfl (fun ls hl => ?_)
                refine z_iload hC 87 hl dX1_run_87 7 rfl ?_
                refine z_iload hC 89 hl dX1_run_89 5 rfl ?_
                refine z_isub (e := (p : Int) - (fr : Int)) hC 91 dX1_run_91 rfl ?_
                refine z_iconst hC 92 dX1_run_92 ?_
                refine z_iadd (e := (p : Int) - (fr : Int) + 1) hC 93 dX1_run_93 rfl ?_
                refine z_istore (lv' := [(6, .int (iZ ((p : Int) - (fr : Int) + 1))), (5, .int (iZ ((fr : Int)))), (0, .ref (ad 99)), (1, .int (iZ ((l1 : Int)))), (2, .int (iZ ((r1 : Int)))), (3, .int (iZ (q))), (4, .int (iZ ((fr : Int)))), (7, .int (iZ ((p : Int))))]) hC 94 hl dX1_run_94 (by decide) rfl (fun ls hl => ?_)
                refine z_iinc (lv' := [(7, .int (iZ ((p : Int) + 1))), (6, .int (iZ ((p : Int) - (fr : Int) + 1))), (5, .int (iZ ((fr : Int)))), (0, .ref (ad 99)), (1, .int (iZ ((l1 : Int)))), (2, .int (iZ ((r1 : Int)))), (3, .int (iZ (q))), (4, .int (iZ ((fr : Int))))]) hC 96 hl dX1_run_96 7 rfl (by omega) (by decide) rfl (fun ls hl => ?_)
                refine z_goto hC 99 35 dX1_run_99 rfl ?_
                -- J35.4
                exact ih35 (p + 1) fr fr (p + 1 - fr) _ _ _ (by omega) (by first | assumption | omega) (by first | assumption | omega) (by first | assumption | omega) (by first | assumption | omega) (by first | assumption | omega) (by first | assumption | omega) (by first | exact RNI_0 | exact RNI_keep ir (by omega) (Or.inl ⟨rfl, by omega⟩) (by omega) | exact RNI_keep ir (by omega) (Or.inr ⟨rfl, by omega⟩) (by omega) | (have q9 := RNI_new ir (by omega) (Or.inl ⟨rfl, by omega⟩) (by omega); rw [show p - fr + 1 = p + 1 - fr by omega] at q9; exact q9) | (have q9 := RNI_new ir (by omega) (Or.inr ⟨rfl, by omega⟩) (by omega); rw [Nat.sub_self] at q9; exact q9)) hH (z_lv (lv_sub hl [3, 4, 5, 6, 7, 2, 1, 0] rfl) (zcons rfl (zcons rfl (zcons rfl (zcons rfl (zcons rfl (zcons rfl (zcons (zpeq (by omega)) (zcons (zpeq (by omega)) rfl)))))))))
              · -- 77f
                refine z_goto hC 80 96 dX1_run_80 rfl ?_
                refine z_iinc (lv' := [(7, .int (iZ ((p : Int) + 1))), (0, .ref (ad 99)), (1, .int (iZ ((l1 : Int)))), (2, .int (iZ ((r1 : Int)))), (3, .int (iZ (q))), (4, .int (iZ ((fr : Int)))), (5, .int (iZ ((bs : Int)))), (6, .int (iZ ((ms : Int))))]) hC 96 hl dX1_run_96 7 rfl (by omega) (by decide) rfl (fun ls hl => ?_)
                refine z_goto hC 99 35 dX1_run_99 rfl ?_
                -- J35.5
                exact ih35 (p + 1) fr bs ms _ _ _ (by omega) (by first | assumption | omega) (by first | assumption | omega) (by first | assumption | omega) (by first | assumption | omega) (by first | assumption | omega) (by first | assumption | omega) (by first | exact RNI_0 | exact RNI_keep ir (by omega) (Or.inl ⟨rfl, by omega⟩) (by omega) | exact RNI_keep ir (by omega) (Or.inr ⟨rfl, by omega⟩) (by omega) | (have q9 := RNI_new ir (by omega) (Or.inl ⟨rfl, by omega⟩) (by omega); rw [show p - fr + 1 = p + 1 - fr by omega] at q9; exact q9) | (have q9 := RNI_new ir (by omega) (Or.inr ⟨rfl, by omega⟩) (by omega); rw [Nat.sub_self] at q9; exact q9)) hH (z_lv (lv_sub hl [1, 2, 3, 4, 5, 6, 7, 0] rfl) (zcons rfl (zcons rfl (zcons rfl (zcons rfl (zcons rfl (zcons rfl (zcons rfl (zcons (zpeq (by omega)) rfl)))))))))
            · -- 61f
              refine z_iload hC 64 hl dX1_run_64 7 rfl ?_
              refine z_istore (lv' := [(4, .int (iZ ((p : Int)))), (0, .ref (ad 99)), (1, .int (iZ ((l1 : Int)))), (2, .int (iZ ((r1 : Int)))), (3, .int (iZ (q))), (5, .int (iZ ((bs : Int)))), (6, .int (iZ ((ms : Int)))), (7, .int (iZ ((p : Int))))]) hC 66 hl dX1_run_66 (by decide) rfl (fun ls hl => ?_)
              refine z_iload hC 68 hl dX1_run_68 7 rfl ?_
              refine z_iload hC 70 hl dX1_run_70 0 rfl ?_
              refine z_isub (e := 0) hC 72 dX1_run_72 (by omega) ?_
              refine z_iconst hC 73 dX1_run_73 ?_
              refine z_iadd (e := 1) hC 74 dX1_run_74 (by omega) ?_
              refine z_iload hC 75 hl dX1_run_75 6 rfl ?_
              refine z_icmp_gt hC 77 83 dX1_run_77 rfl (by omega) (by omega) (fun hb6 => ?_) (fun hb6 => ?_)
              · -- 77t
                refine z_iload hC 83 hl dX1_run_83 0 rfl ?_
                refine z_istore (lv' := [(5, .int (iZ ((p : Int)))), (4, .int (iZ ((p : Int)))), (0, .ref (ad 99)), (1, .int (iZ ((l1 : Int)))), (2, .int (iZ ((r1 : Int)))), (3, .int (iZ (q))), (6, .int (iZ ((ms : Int)))), (7, .int (iZ ((p : Int))))]) hC 85 hl dX1_run_85 (by decide) rfl (fun ls hl => ?_)
                refine z_iload hC 87 hl dX1_run_87 7 rfl ?_
                refine z_iload hC 89 hl dX1_run_89 1 rfl ?_
                refine z_isub (e := 0) hC 91 dX1_run_91 (by omega) ?_
                refine z_iconst hC 92 dX1_run_92 ?_
                refine z_iadd (e := 1) hC 93 dX1_run_93 (by omega) ?_
                refine z_istore (lv' := [(6, .int (iZ (1))), (5, .int (iZ ((p : Int)))), (4, .int (iZ ((p : Int)))), (0, .ref (ad 99)), (1, .int (iZ ((l1 : Int)))), (2, .int (iZ ((r1 : Int)))), (3, .int (iZ (q))), (7, .int (iZ ((p : Int))))]) hC 94 hl dX1_run_94 (by decide) rfl (fun ls hl => ?_)
                refine z_iinc (lv' := [(7, .int (iZ ((p : Int) + 1))), (6, .int (iZ (1))), (5, .int (iZ ((p : Int)))), (4, .int (iZ ((p : Int)))), (0, .ref (ad 99)), (1, .int (iZ ((l1 : Int)))), (2, .int (iZ ((r1 : Int)))), (3, .int (iZ (q)))]) hC 96 hl dX1_run_96 7 rfl (by omega) (by decide) rfl (fun ls hl => ?_)
                refine z_goto hC 99 35 dX1_run_99 rfl ?_
                -- J35.6
                exact ih35 (p + 1) p p 1 _ _ _ (by omega) (by first | assumption | omega) (by first | assumption | omega) (by first | assumption | omega) (by first | assumption | omega) (by first | assumption | omega) (by first | assumption | omega) (by first | exact RNI_0 | exact RNI_keep ir (by omega) (Or.inl ⟨rfl, by omega⟩) (by omega) | exact RNI_keep ir (by omega) (Or.inr ⟨rfl, by omega⟩) (by omega) | (have q9 := RNI_new ir (by omega) (Or.inl ⟨rfl, by omega⟩) (by omega); rw [show p - fr + 1 = p + 1 - fr by omega] at q9; exact q9) | (have q9 := RNI_new ir (by omega) (Or.inr ⟨rfl, by omega⟩) (by omega); rw [Nat.sub_self] at q9; exact q9)) hH (z_lv (lv_sub hl [4, 5, 6, 7, 3, 2, 1, 0] rfl) (zcons rfl (zcons rfl (zcons rfl (zcons rfl (zcons rfl (zcons rfl (zcons (zpeq (by omega)) (zcons (zpeq (by omega)) rfl)))))))))
              · -- 77f
                refine z_goto hC 80 96 dX1_run_80 rfl ?_
                refine z_iinc (lv' := [(7, .int (iZ ((p : Int) + 1))), (4, .int (iZ ((p : Int)))), (0, .ref (ad 99)), (1, .int (iZ ((l1 : Int)))), (2, .int (iZ ((r1 : Int)))), (3, .int (iZ (q))), (5, .int (iZ ((bs : Int)))), (6, .int (iZ ((ms : Int))))]) hC 96 hl dX1_run_96 7 rfl (by omega) (by decide) rfl (fun ls hl => ?_)
                refine z_goto hC 99 35 dX1_run_99 rfl ?_
                -- J35.7
                exact ih35 (p + 1) p bs ms _ _ _ (by omega) (by first | assumption | omega) (by first | assumption | omega) (by first | assumption | omega) (by first | assumption | omega) (by first | assumption | omega) (by first | assumption | omega) (by first | exact RNI_0 | exact RNI_keep ir (by omega) (Or.inl ⟨rfl, by omega⟩) (by omega) | exact RNI_keep ir (by omega) (Or.inr ⟨rfl, by omega⟩) (by omega) | (have q9 := RNI_new ir (by omega) (Or.inl ⟨rfl, by omega⟩) (by omega); rw [show p - fr + 1 = p + 1 - fr by omega] at q9; exact q9) | (have q9 := RNI_new ir (by omega) (Or.inr ⟨rfl, by omega⟩) (by omega); rw [Nat.sub_self] at q9; exact q9)) hH (z_lv (lv_sub hl [2, 3, 4, 5, 1, 6, 7, 0] rfl) (zcons rfl (zcons rfl (zcons rfl (zcons rfl (zcons rfl (zcons rfl (zcons rfl (zcons (zpeq (by omega)) rfl)))))))))
      -- J35.8
      exact L35 _ l1 l1 l1 0 _ _ _ (Nat.lt_succ_self _) (by first | assumption | omega) (by first | assumption | omega) (by first | assumption | omega) (by first | assumption | omega) (by first | assumption | omega) (by first | assumption | omega) (by first | exact RNI_0 | exact RNI_keep ir (by omega) (Or.inl ⟨rfl, by omega⟩) (by omega) | exact RNI_keep ir (by omega) (Or.inr ⟨rfl, by omega⟩) (by omega) | (have q9 := RNI_new ir (by omega) (Or.inl ⟨rfl, by omega⟩) (by omega); rw [show p - fr + 1 = p + 1 - fr by omega] at q9; exact q9) | (have q9 := RNI_new ir (by omega) (Or.inr ⟨rfl, by omega⟩) (by omega); rw [Nat.sub_self] at q9; exact q9)) hH (z_lv (lv_sub hl [4, 5, 6, 7, 3, 2, 1, 0] rfl) (zcons rfl (zcons rfl (zcons rfl (zcons rfl (zcons rfl (zcons rfl (zcons (zpeq (by omega)) (zcons rfl rfl)))))))))
    · -- 15=0
      refine z_if_ne_f hC 18 23 dX1_run_18 rfl (by omega) (by omega) ?_
      refine z_iconst hC 21 dX1_run_21 ?_
      -- R22.9
      exact z_iret hC hH hQ 22 (((-1), F, (va_up Ar 16 zZ))) dX1_run_22 rfl ⟨by first | (unfold Sp_run; rw [if_neg (by omega)]) | (unfold Sp_run; rw [if_pos (by omega)]; (try simp only [Int.toNat_natCast, zt1]); first | done | trivial | rfl | omega | (rw [if_pos (by omega)]; first | done | trivial | rfl | omega) | (rw [if_neg (by omega)]; first | done | trivial | rfl | omega)), by first | assumption | exact ⟨fun k h1 h2 h3 h4 h5 => by first | rfl | (simp [va_up, h1, h2, h3, h4, h5]; done) | (simp [va_up, h1, h2, h3, h4, h5]; intro e9; rw [e9, hFn]), fun k h1 h2 h3 h4 h5 h6 => by first | rfl | simp [va_up, h1, h2, h3, h4, h5, h6]⟩⟩ rfl (Nat.le_refl _) (Nat.le_refl _)
  · -- 3=0
    refine z_if_eq_t hC 6 21 dX1_run_6 rfl (by omega) (by omega) ?_
    refine z_iconst hC 21 dX1_run_21 ?_
    -- R22.10
    exact z_iret hC hH hQ 22 (((-1), F, (va_up Ar 16 zZ))) dX1_run_22 rfl ⟨by first | (unfold Sp_run; rw [if_neg (by omega)]) | (unfold Sp_run; rw [if_pos (by omega)]; (try simp only [Int.toNat_natCast, zt1]); first | done | trivial | rfl | omega | (rw [if_pos (by omega)]; first | done | trivial | rfl | omega) | (rw [if_neg (by omega)]; first | done | trivial | rfl | omega)), by first | assumption | exact ⟨fun k h1 h2 h3 h4 h5 => by first | rfl | (simp [va_up, h1, h2, h3, h4, h5]; done) | (simp [va_up, h1, h2, h3, h4, h5]; intro e9; rw [e9, hFn]), fun k h1 h2 h3 h4 h5 h6 => by first | rfl | simp [va_up, h1, h2, h3, h4, h5, h6]⟩⟩ rfl (Nat.le_refl _) (Nat.le_refl _)

set_option maxHeartbeats 4000000 in
set_option maxRecDepth 100000 in
theorem m_X1_pair (lau : Launch) (s0 : State) (G : zG) (sz : Nat) (ad : Nat → Nat) (F : Nat → Int) (Ar : Nat → Nat → Int) (kp : Nat → Nat) (pl : Nat → Option Nat) (PW : va_W) (n : Nat) (v : Nat → Nat) (pr : Nat → Nat) (pa : Nat → Nat) (pm : Nat → Nat) (pf : Nat → Nat → Nat) (nw : Nat) (b : Nat) (t : Nat) (i : Int) (j : Int) (q : Int) (hn : n ≤ 120) (hFn : F 200 = (n : Int)) (hv : ∀ i, i < n → v i < 1000) (hAv : ∀ i, i < n → Ar 201 i = (v i : Int)) (hb : 2 ≤ b ∧ b ≤ 20) (hFb : F 7 = (b : Int)) (ht : t < 4) (hFt : F 8 = (t : Int)) (hpl : ∀ y, y < 1000 → (pl y = some (pr y) ∨ (pl y = none ∧ pr y = nw))) (hnw : zNwh s0 nw) (hpc : ∀ y, y < 1000 → PlC n v y (pm y) (pf y)) (hpp : zPool s0 G PW pr pa pm pf) (hmo : ∀ i j, i ≤ j → b * j < n → Ar 12 (60 * i + j) = (md v (b * i) (bEnd b j n) t : Int)) (hr_i : -2147483648 ≤ i ∧ i < 2147483648) (hr_j : -2147483648 ≤ j ∧ j < 2147483648) (hr_q : -2147483648 ≤ q ∧ q < 2147483648) : zMet (S := Int × (Nat → Int) × (Nat → Nat → Int)) lau yX1_pair cX1_pair 5 (some .int) 2 46 0 0 s0 G sz [.ref (ad 99), .int (iZ (i)), .int (iZ (j)), .int (iZ (q))] (dW ad G F (va_up Ar 16 zZ) kp pl PW) (fun ((r_, F2, A2) : Int × (Nat → Int) × (Nat → Nat → Int)) => some (.int (iZ (r_)))) (fun ((r_, F2, A2) : Int × (Nat → Int) × (Nat → Nat → Int)) => (Sp_pair n v t b i j q r_) ∧ (DK F (va_up Ar 16 zZ) F2 A2)) (fun ((r_, F2, A2) : Int × (Nat → Int) × (Nat → Nat → Int)) => (dW ad G F2 A2 kp pl PW)) := by
  refine zMet.of (by decide) (Nat.le_of_ble_eq_true rfl) ?_
  intro pg ev s1 mi ar bl me cd ls Q as0 hC hH hl hQ hsz
  generalize s1.heap = H at hH ⊢
  generalize ([] : List Loc) = locs at hH ⊢
  have hl : lv_has ls 5 [(0, .ref (ad 99)), (1, .int (iZ (i))), (2, .int (iZ (j))), (3, .int (iZ (q)))] := hl
  refine z_iload_n hC 0 hl dX1_pair_0 rfl 1 rfl ?_
  refine z_i2l hC 1 dX1_pair_1 (by omega) ?_
  refine z_lconst (a := 0) hC 2 dX1_pair_2 rfl ?_
  refine z_iload_n hC 3 hl dX1_pair_3 rfl 2 rfl ?_
  refine z_i2l hC 4 dX1_pair_4 (by omega) ?_
  refine zp_back (zp_runS hC (hH.2.2) hl.1 (zp_nil) 3 (As := [.long (lZ (i)), .long (lZ (0)), .long (lZ (j))]) (rest := []) (u_X1_isIn lau s0 G i 0 j (by first | assumption | omega) (by first | assumption | omega) (by first | assumption | omega)) (lw_S q303 q304 q89 q305) ⟨by decide, by decide, by decide +kernel⟩ rfl rfl (Nat.le_of_ble_eq_true rfl) ⟨Nat.le_of_ble_eq_true rfl, Nat.le_of_ble_eq_true rfl⟩ ⟨by first | decide | omega, by first | decide | omega⟩ dX1_pair_5) (fun r_5 hpost => ?_)
  have hb_5 : (r_5 = 1 ∧ ((0 : Int) ≤ i ∧ i ≤ j)) ∨ (r_5 = 0 ∧ ¬ ((0 : Int) ≤ i ∧ i ≤ j)) := hpost
  refine z_st (st' := [.int (iZ (r_5))]) rfl ?_
  rcases hb_5 with ⟨rfl, hb_5⟩ | ⟨rfl, hb_5⟩
  · -- 5=1
    refine z_if_eq_f hC 8 37 dX1_pair_8 rfl (by omega) (by omega) ?_
    have hbl := blk_le hb.1 hn
    refine z_iload_n hC 11 hl dX1_pair_11 rfl 2 rfl ?_
    refine z_i2l hC 12 dX1_pair_12 (by omega) ?_
    refine z_lconst (a := 0) hC 13 dX1_pair_13 rfl ?_
    refine z_aload_n hC 14 hl dX1_pair_14 rfl 0 rfl ?_
    refine zp_back (zp_runV hC (hH.2.2) hl.1 (va_P_l hH.1) 0 (As := []) (rest := [.long (lZ (0)), .long (lZ (j))]) (u_X1_blocks lau s0 G ad F (va_up Ar 16 zZ) kp pl n b (by first | exact hn | assumption | omega) (by first | exact hFn | assumption | omega) (by first | exact hb | assumption | omega) (by first | exact hFb | assumption | omega)) (lw_V q719 q721 qs13 q89 q722) ⟨rfl, by decide, by decide, by decide +kernel⟩ (q0 := 0) (ci := 1) rfl rfl rfl rfl (Nat.le_of_ble_eq_true rfl) ⟨Nat.le_of_ble_eq_true rfl, Nat.le_of_ble_eq_true rfl⟩ ⟨by first | decide | omega, by first | decide | omega⟩ dX1_pair_15) (fun _ hpost => ?_)
    refine z_st (st' := [.int (iZ (((zdiv (n + b - 1) b : Nat) : Int))), .long (lZ (0)), .long (lZ (j))]) rfl ?_
    refine z_iconst hC 18 dX1_pair_18 ?_
    refine z_isub (e := ((zdiv (n + b - 1) b : Nat) : Int) - 1) hC 19 dX1_pair_19 rfl ?_
    refine z_i2l hC 20 dX1_pair_20 (by omega) ?_
    refine z_st (st' := [.long (lZ ((((zdiv (n + b - 1) b : Nat) : Int) - 1))), .long (lZ (0)), .long (lZ (j))]) (zcons (zleq (by omega)) (zcons rfl (zcons rfl rfl))) ?_
    refine zp_back (zp_runS hC (hH.2.2) hl.1 (zp_nil) 3 (As := [.long (lZ (j)), .long (lZ (0)), .long (lZ ((((zdiv (n + b - 1) b : Nat) : Int) - 1)))]) (rest := []) (u_X1_isIn lau s0 G j 0 (((zdiv (n + b - 1) b : Nat) : Int) - 1) (by first | assumption | omega) (by first | assumption | omega) (by first | assumption | omega)) (lw_S q303 q304 q89 q305) ⟨by decide, by decide, by decide +kernel⟩ rfl rfl (Nat.le_of_ble_eq_true rfl) ⟨Nat.le_of_ble_eq_true rfl, Nat.le_of_ble_eq_true rfl⟩ ⟨by first | decide | omega, by first | decide | omega⟩ dX1_pair_21) (fun r_21 hpost => ?_)
    have hb_21 : (r_21 = 1 ∧ ((0 : Int) ≤ j ∧ j ≤ (((zdiv (n + b - 1) b : Nat) : Int) - 1))) ∨ (r_21 = 0 ∧ ¬ ((0 : Int) ≤ j ∧ j ≤ (((zdiv (n + b - 1) b : Nat) : Int) - 1))) := hpost
    refine z_st (st' := [.int (iZ (r_21))]) rfl ?_
    rcases hb_21 with ⟨rfl, hb_21⟩ | ⟨rfl, hb_21⟩
    · -- 21=1
      refine z_if_eq_f hC 24 37 dX1_pair_24 rfl (by omega) (by omega) ?_
      refine z_iload_n hC 27 hl dX1_pair_27 rfl 3 rfl ?_
      refine z_i2l hC 28 dX1_pair_28 (by omega) ?_
      refine z_lconst (a := 0) hC 29 dX1_pair_29 rfl ?_
      refine z_lconst (a := 1) hC 30 dX1_pair_30 rfl ?_
      refine zp_back (zp_runS hC (hH.2.2) hl.1 (zp_nil) 3 (As := [.long (lZ (q)), .long (lZ (0)), .long (lZ (1))]) (rest := []) (u_X1_isIn lau s0 G q 0 1 (by first | assumption | omega) (by first | assumption | omega) (by first | assumption | omega)) (lw_S q303 q304 q89 q305) ⟨by decide, by decide, by decide +kernel⟩ rfl rfl (Nat.le_of_ble_eq_true rfl) ⟨Nat.le_of_ble_eq_true rfl, Nat.le_of_ble_eq_true rfl⟩ ⟨by first | decide | omega, by first | decide | omega⟩ dX1_pair_31) (fun r_31 hpost => ?_)
      have hb_31 : (r_31 = 1 ∧ ((0 : Int) ≤ q ∧ q ≤ (1 : Int))) ∨ (r_31 = 0 ∧ ¬ ((0 : Int) ≤ q ∧ q ≤ (1 : Int))) := hpost
      refine z_st (st' := [.int (iZ (r_31))]) rfl ?_
      rcases hb_31 with ⟨rfl, hb_31⟩ | ⟨rfl, hb_31⟩
      · -- 31=1
        refine z_if_ne_t hC 34 39 dX1_pair_34 rfl (by omega) (by omega) ?_
        obtain ⟨i1, rfl⟩ := Int.eq_ofNat_of_zero_le (show 0 ≤ i by omega)
        obtain ⟨j1, rfl⟩ := Int.eq_ofNat_of_zero_le (show 0 ≤ j by omega)
        have hjn := (blk_lt (n := n) (j := j1) (show 0 < b by omega)).mp (by omega)
        have hbe := bEnd_b (by omega) hjn
        have hij := Nat.mul_le_mul_left b (show i1 ≤ j1 by omega)
        have hj2 : 2 * j1 ≤ b * j1 := Nat.mul_le_mul_right j1 (by omega)
        have hmd := md_lt_1000 v (b * i1) (bEnd b j1 n) t
        refine z_aload_n hC 39 hl dX1_pair_39 rfl 0 rfl ?_
        refine zp_get (v := .ref (ad 12)) hC (va_P_l hH.1) 40 in_X1 rfl 12 (by decide) q222 0 rfl (rfl) dX1_pair_40 ?_
        refine z_bipush hC 43 dX1_pair_43 rfl ?_
        refine z_iload_n hC 45 hl dX1_pair_45 rfl 1 rfl ?_
        refine z_imul (e := 60 * (i1 : Int)) hC 46 dX1_pair_46 rfl ?_
        refine z_iload_n hC 47 hl dX1_pair_47 rfl 2 rfl ?_
        refine z_iadd (e := 60 * (i1 : Int) + (j1 : Int)) hC 48 dX1_pair_48 rfl ?_
        refine zp_iald (f := (Ar 12)) (x := ((md v (b * i1) (bEnd b j1 n) t : Nat) : Int)) hC (va_P_l hH.1) 49 5 (60 * i1 + j1) rfl (by decide) (by omega) (by omega) ((hmo _ _ (by omega) hjn)) dX1_pair_49 ?_
        refine z_istore (lv' := [(4, .int (iZ (((md v (b * i1) (bEnd b j1 n) t : Nat) : Int)))), (0, .ref (ad 99)), (1, .int (iZ ((i1 : Int)))), (2, .int (iZ ((j1 : Int)))), (3, .int (iZ (q)))]) hC 50 hl dX1_pair_50 (by decide) rfl (fun ls hl => ?_)
        refine z_iload_n hC 52 hl dX1_pair_52 rfl 4 rfl ?_
        refine z_if_ne hC 53 61 dX1_pair_53 rfl (by omega) (fun hb1 => ?_) (fun hb1 => ?_)
        · -- 53t
          refine z_aload_n hC 61 hl dX1_pair_61 rfl 1 rfl ?_
          refine z_iload hC 62 hl dX1_pair_62 0 rfl ?_
          refine zp_back (zp_runV hC (hH.2.2) hl.1 (va_P_l hH.1) 1 (As := [.int (iZ (((md v (b * i1) (bEnd b j1 n) t : Nat) : Int)))]) (rest := []) (u_X1_of lau s0 G ad F (va_up Ar 16 zZ) kp pl (md v (b * i1) (bEnd b j1 n) t) (pr (md v (b * i1) (bEnd b j1 n) t)) nw (by first | assumption | omega) (by first | exact hpl | (first | assumption | exact hpl _ (by omega)) | assumption | omega) (by first | exact hnw | assumption | omega)) (lw_V q736 q738 qs17 q89 q739) ⟨rfl, by decide, by decide, by decide +kernel⟩ (q0 := 0) (ci := 1) rfl rfl rfl rfl (Nat.le_of_ble_eq_true rfl) ⟨Nat.le_of_ble_eq_true rfl, Nat.le_of_ble_eq_true rfl⟩ ⟨by first | decide | omega, by first | decide | omega⟩ dX1_pair_64) (fun _ hpost => ?_)
          refine z_st (st' := [.ref ((pr (md v (b * i1) (bEnd b j1 n) t)))]) rfl ?_
          refine z_aload_n hC 67 hl dX1_pair_67 rfl 1 rfl ?_
          refine zp_get (v := .int (iZ ((b : Int)))) hC (va_P_l hH.1) 68 in_X1 rfl 7 (by decide) q216 0 rfl (by rw [← hFb]; rfl) dX1_pair_68 ?_
          refine z_iload_n hC 71 hl dX1_pair_71 rfl 2 rfl ?_
          refine z_imul (e := ((b * i1 : Nat) : Int)) hC 72 dX1_pair_72 (by push_cast; rfl) ?_
          refine z_aload_n hC 73 hl dX1_pair_73 rfl 1 rfl ?_
          refine z_iload_n hC 74 hl dX1_pair_74 rfl 3 rfl ?_
          refine zp_back (zp_runV hC (hH.2.2) hl.1 (va_P_l hH.1) 1 (As := [.int (iZ ((j1 : Int)))]) (rest := [.int (iZ (((b * i1 : Nat) : Int))), .ref ((pr (md v (b * i1) (bEnd b j1 n) t)))]) (u_X1_endOf lau s0 G ad F (va_up Ar 16 zZ) kp pl n b j1 (by first | exact hn | assumption | omega) (by first | exact hFn | assumption | omega) (by first | exact hb | assumption | omega) (by first | exact hFb | assumption | omega) (by first | assumption | omega)) (lw_V q727 q729 qs15 q89 q730) ⟨rfl, by decide, by decide, by decide +kernel⟩ (q0 := 0) (ci := 1) rfl rfl rfl rfl (Nat.le_of_ble_eq_true rfl) ⟨Nat.le_of_ble_eq_true rfl, Nat.le_of_ble_eq_true rfl⟩ ⟨by first | decide | omega, by first | decide | omega⟩ dX1_pair_75) (fun _ hpost => ?_)
          refine z_st (st' := [.int (iZ (((bEnd b j1 n : Nat) : Int) - 1)), .int (iZ (((b * i1 : Nat) : Int))), .ref ((pr (md v (b * i1) (bEnd b j1 n) t)))]) rfl ?_
          refine zp_back (zw_run hC (hH.2.2) hl.1 ((dWp hH hpp (y := (md v (b * i1) (bEnd b j1 n) t)) (by omega))) 2 (As := [.int (iZ (((b * i1 : Nat) : Int))), .int (iZ (((bEnd b j1 n : Nat) : Int) - 1))]) (rest := []) (u_X10_within lau s0 G (pr (md v (b * i1) (bEnd b j1 n) t)) (pa ((md v (b * i1) (bEnd b j1 n) t))) (pm ((md v (b * i1) (bEnd b j1 n) t))) (pf ((md v (b * i1) (bEnd b j1 n) t))) n v ((md v (b * i1) (bEnd b j1 n) t)) (b * i1) (bEnd b j1 n) (by first | exact hn | assumption | omega) (by exact hpc _ (by omega)) (by first | exact hlr | assumption | omega) (by first | exact hrn | assumption | omega)) (fun hx0 hO0 => u_X10_within_nw lau s0 G (pr (md v (b * i1) (bEnd b j1 n) t)) (pa ((md v (b * i1) (bEnd b j1 n) t))) (pm ((md v (b * i1) (bEnd b j1 n) t))) (pf ((md v (b * i1) (bEnd b j1 n) t))) n v ((md v (b * i1) (bEnd b j1 n) t)) (b * i1) (bEnd b j1 n) (by first | exact hn | assumption | omega) (by exact hpc _ (by omega)) (by first | exact hlr | assumption | omega) (by first | exact hrn | assumption | omega) hx0 hO0) (lw_V q742 q743 q744 q110 q745) ⟨rfl, by decide, by decide, by decide +kernel⟩ rfl rfl (Nat.le_of_ble_eq_true rfl) ⟨Nat.le_of_ble_eq_true rfl, Nat.le_of_ble_eq_true rfl⟩ ⟨by first | decide | omega, by first | decide | omega⟩ dX1_pair_78) (fun _ hpost => ?_)
          refine z_st (st' := [.int (iZ (((cnt v (b * i1) (bEnd b j1 n) ((md v (b * i1) (bEnd b j1 n) t)) : Nat) : Int)))]) rfl ?_
          -- R81.1
          exact z_iret hC hH hQ 81 ((((cnt v (b * i1) (bEnd b j1 n) ((md v (b * i1) (bEnd b j1 n) t)) : Nat) : Int), F, (va_up Ar 16 zZ))) dX1_pair_81 rfl ⟨by (unfold Sp_pair; rw [if_pos (by omega)]; simp only [Int.toNat_natCast]; unfold toldZ; first | (rw [if_pos (by omega)]; done) | (rw [if_neg (by omega), if_pos (by omega)]; done)), by first | assumption | exact ⟨fun k h1 h2 h3 h4 h5 => by first | rfl | (simp [va_up, h1, h2, h3, h4, h5]; done) | (simp [va_up, h1, h2, h3, h4, h5]; intro e9; rw [e9, hFn]), fun k h1 h2 h3 h4 h5 h6 => by first | rfl | simp [va_up, h1, h2, h3, h4, h5, h6]⟩⟩ rfl (Nat.le_refl _) (Nat.le_refl _)
        · -- 53f
          refine z_iload hC 56 hl dX1_pair_56 0 rfl ?_
          refine z_goto hC 58 81 dX1_pair_58 rfl ?_
          -- R81.2
          exact z_iret hC hH hQ 81 ((((md v (b * i1) (bEnd b j1 n) t : Nat) : Int), F, (va_up Ar 16 zZ))) dX1_pair_81 rfl ⟨by (unfold Sp_pair; rw [if_pos (by omega)]; simp only [Int.toNat_natCast]; unfold toldZ; first | (rw [if_pos (by omega)]; done) | (rw [if_neg (by omega), if_pos (by omega)]; done)), by first | assumption | exact ⟨fun k h1 h2 h3 h4 h5 => by first | rfl | (simp [va_up, h1, h2, h3, h4, h5]; done) | (simp [va_up, h1, h2, h3, h4, h5]; intro e9; rw [e9, hFn]), fun k h1 h2 h3 h4 h5 h6 => by first | rfl | simp [va_up, h1, h2, h3, h4, h5, h6]⟩⟩ rfl (Nat.le_refl _) (Nat.le_refl _)
      · -- 31=0
        refine z_if_ne_f hC 34 39 dX1_pair_34 rfl (by omega) (by omega) ?_
        refine z_iconst hC 37 dX1_pair_37 ?_
        -- R38.3
        exact z_iret hC hH hQ 38 (((-1), F, (va_up Ar 16 zZ))) dX1_pair_38 rfl ⟨by first | (unfold Sp_pair; rw [if_neg (by omega)]) | (unfold Sp_pair; rw [if_pos (by omega)]; (try simp only [Int.toNat_natCast, zt1]); first | done | trivial | rfl | omega | (rw [if_pos (by omega)]; first | done | trivial | rfl | omega) | (rw [if_neg (by omega)]; first | done | trivial | rfl | omega)), by first | assumption | exact ⟨fun k h1 h2 h3 h4 h5 => by first | rfl | (simp [va_up, h1, h2, h3, h4, h5]; done) | (simp [va_up, h1, h2, h3, h4, h5]; intro e9; rw [e9, hFn]), fun k h1 h2 h3 h4 h5 h6 => by first | rfl | simp [va_up, h1, h2, h3, h4, h5, h6]⟩⟩ rfl (Nat.le_refl _) (Nat.le_refl _)
    · -- 21=0
      refine z_if_eq_t hC 24 37 dX1_pair_24 rfl (by omega) (by omega) ?_
      refine z_iconst hC 37 dX1_pair_37 ?_
      -- R38.4
      exact z_iret hC hH hQ 38 (((-1), F, (va_up Ar 16 zZ))) dX1_pair_38 rfl ⟨by first | (unfold Sp_pair; rw [if_neg (by omega)]) | (unfold Sp_pair; rw [if_pos (by omega)]; (try simp only [Int.toNat_natCast, zt1]); first | done | trivial | rfl | omega | (rw [if_pos (by omega)]; first | done | trivial | rfl | omega) | (rw [if_neg (by omega)]; first | done | trivial | rfl | omega)), by first | assumption | exact ⟨fun k h1 h2 h3 h4 h5 => by first | rfl | (simp [va_up, h1, h2, h3, h4, h5]; done) | (simp [va_up, h1, h2, h3, h4, h5]; intro e9; rw [e9, hFn]), fun k h1 h2 h3 h4 h5 h6 => by first | rfl | simp [va_up, h1, h2, h3, h4, h5, h6]⟩⟩ rfl (Nat.le_refl _) (Nat.le_refl _)
  · -- 5=0
    refine z_if_eq_t hC 8 37 dX1_pair_8 rfl (by omega) (by omega) ?_
    refine z_iconst hC 37 dX1_pair_37 ?_
    -- R38.5
    exact z_iret hC hH hQ 38 (((-1), F, (va_up Ar 16 zZ))) dX1_pair_38 rfl ⟨by first | (unfold Sp_pair; rw [if_neg (by omega)]) | (unfold Sp_pair; rw [if_pos (by omega)]; (try simp only [Int.toNat_natCast, zt1]); first | done | trivial | rfl | omega | (rw [if_pos (by omega)]; first | done | trivial | rfl | omega) | (rw [if_neg (by omega)]; first | done | trivial | rfl | omega)), by first | assumption | exact ⟨fun k h1 h2 h3 h4 h5 => by first | rfl | (simp [va_up, h1, h2, h3, h4, h5]; done) | (simp [va_up, h1, h2, h3, h4, h5]; intro e9; rw [e9, hFn]), fun k h1 h2 h3 h4 h5 h6 => by first | rfl | simp [va_up, h1, h2, h3, h4, h5, h6]⟩⟩ rfl (Nat.le_refl _) (Nat.le_refl _)

set_option maxHeartbeats 4000000 in
set_option maxRecDepth 100000 in
theorem m_X1_follow (lau : Launch) (s0 : State) (G : zG) (sz : Nat) (ad : Nat → Nat) (F : Nat → Int) (Ar : Nat → Nat → Int) (kp : Nat → Nat) (pl : Nat → Option Nat) (PW : va_W) (n : Nat) (v : Nat → Nat) (pr : Nat → Nat) (pa : Nat → Nat) (pm : Nat → Nat) (pf : Nat → Nat → Nat) (nw : Nat) (b : Nat) (t : Nat) (x : Int) (p : Int) (bk : Int) (hn : n ≤ 120) (hFn : F 200 = (n : Int)) (hv : ∀ i, i < n → v i < 1000) (hAv : ∀ i, i < n → Ar 201 i = (v i : Int)) (hb : 2 ≤ b ∧ b ≤ 20) (hFb : F 7 = (b : Int)) (ht : t < 4) (hFt : F 8 = (t : Int)) (hpl : ∀ y, y < 1000 → (pl y = some (pr y) ∨ (pl y = none ∧ pr y = nw))) (hnw : zNwh s0 nw) (hpc : ∀ y, y < 1000 → PlC n v y (pm y) (pf y)) (hpp : zPool s0 G PW pr pa pm pf) (hmo : ∀ i j, i ≤ j → b * j < n → Ar 12 (60 * i + j) = (md v (b * i) (bEnd b j n) t : Int)) (hr_x : -2147483648 ≤ x ∧ x < 2147483648) (hr_p : -2147483648 ≤ p ∧ p < 2147483648) (hr_bk : -2147483648 ≤ bk ∧ bk < 2147483648) : zMet (S := Int × (Nat → Int) × (Nat → Nat → Int)) lau yX1_follow cX1_follow 5 (some .int) 2 46 0 0 s0 G sz [.ref (ad 99), .int (iZ (x)), .int (iZ (p)), .int (iZ (bk))] (dW ad G F (va_up Ar 16 zZ) kp pl PW) (fun ((r_, F2, A2) : Int × (Nat → Int) × (Nat → Nat → Int)) => some (.int (iZ (r_)))) (fun ((r_, F2, A2) : Int × (Nat → Int) × (Nat → Nat → Int)) => (Sp_follow n v x p bk r_) ∧ (DK F (va_up Ar 16 zZ) F2 A2)) (fun ((r_, F2, A2) : Int × (Nat → Int) × (Nat → Nat → Int)) => (dW ad G F2 A2 kp pl PW)) := by
  refine zMet.of (by decide) (Nat.le_of_ble_eq_true rfl) ?_
  intro pg ev s1 mi ar bl me cd ls Q as0 hC hH hl hQ hsz
  generalize s1.heap = H at hH ⊢
  generalize ([] : List Loc) = locs at hH ⊢
  have hl : lv_has ls 5 [(0, .ref (ad 99)), (1, .int (iZ (x))), (2, .int (iZ (p))), (3, .int (iZ (bk)))] := hl
  refine z_iload_n hC 0 hl dX1_follow_0 rfl 1 rfl ?_
  refine zp_back (zp_runS hC (hH.2.2) hl.1 (zp_nil) 1 (As := [.int (iZ (x))]) (rest := []) (u_X1_isValue lau s0 G x (by first | assumption | omega)) (lw_S q803 q804 q89 q805) ⟨by decide, by decide, by decide +kernel⟩ rfl rfl (Nat.le_of_ble_eq_true rfl) ⟨Nat.le_of_ble_eq_true rfl, Nat.le_of_ble_eq_true rfl⟩ ⟨by first | decide | omega, by first | decide | omega⟩ dX1_follow_1) (fun r_1 hpost => ?_)
  have hb_1 : (r_1 = 1 ∧ (0 ≤ x ∧ x < 1000)) ∨ (r_1 = 0 ∧ ¬ (0 ≤ x ∧ x < 1000)) := hpost
  refine z_st (st' := [.int (iZ (r_1))]) rfl ?_
  rcases hb_1 with ⟨rfl, hb_1⟩ | ⟨rfl, hb_1⟩
  · -- 1=1
    refine z_if_eq_f hC 4 15 dX1_follow_4 rfl (by omega) (by omega) ?_
    refine z_aload_n hC 7 hl dX1_follow_7 rfl 0 rfl ?_
    refine z_iload_n hC 8 hl dX1_follow_8 rfl 2 rfl ?_
    refine zp_back (zp_runV hC (hH.2.2) hl.1 (va_P_l hH.1) 1 (As := [.int (iZ (p))]) (rest := []) (u_X1_isPlace lau s0 G ad F (va_up Ar 16 zZ) kp pl n p (by first | exact hn | assumption | omega) (by first | exact hFn | assumption | omega) (by first | assumption | omega)) (lw_V q799 q801 qs20 q89 q802) ⟨rfl, by decide, by decide, by decide +kernel⟩ (q0 := 0) (ci := 1) rfl rfl rfl rfl (Nat.le_of_ble_eq_true rfl) ⟨Nat.le_of_ble_eq_true rfl, Nat.le_of_ble_eq_true rfl⟩ ⟨by first | decide | omega, by first | decide | omega⟩ dX1_follow_9) (fun r_9 hpost => ?_)
    have hb_9 : (r_9 = 1 ∧ (0 ≤ p ∧ p < (n : Int))) ∨ (r_9 = 0 ∧ ¬ (0 ≤ p ∧ p < (n : Int))) := hpost
    refine z_st (st' := [.int (iZ (r_9))]) rfl ?_
    rcases hb_9 with ⟨rfl, hb_9⟩ | ⟨rfl, hb_9⟩
    · -- 9=1
      refine z_if_ne_t hC 12 17 dX1_follow_12 rfl (by omega) (by omega) ?_
      obtain ⟨x1, rfl⟩ := Int.eq_ofNat_of_zero_le (show 0 ≤ x by omega)
      obtain ⟨p1, rfl⟩ := Int.eq_ofNat_of_zero_le (show 0 ≤ p by omega)
      have hpm := (hpc x1 (by omega)).1
      have hcn := cnt_le v 0 n x1
      have hc1 := cnt_le v 0 p1 x1
      have hc2 := cnt_le v 0 (p1 + 1) x1
      have hpq := plq_n (show p1 ≤ n by omega)
      have hpq1 : plq ((p1 : Int) + 1) n = p1 + 1 := by unfold plq; omega
      have hsp := cnt_split (v := v) (x := x1) (Nat.zero_le p1) (show p1 ≤ n by omega)
      have hmn := cnt_mono (v := v) (a := 0) (x := x1) (show p1 + 1 ≤ n by omega)
      refine z_iload_n hC 17 hl dX1_follow_17 rfl 3 rfl ?_
      refine z_if_eq hC 18 37 dX1_follow_18 rfl (by omega) (fun hb1 => ?_) (fun hb1 => ?_)
      · -- 18t
        refine z_aload_n hC 37 hl dX1_follow_37 rfl 0 rfl ?_
        refine z_iload_n hC 38 hl dX1_follow_38 rfl 1 rfl ?_
        refine zp_back (zp_runV hC (hH.2.2) hl.1 (va_P_l hH.1) 1 (As := [.int (iZ ((x1 : Int)))]) (rest := []) (u_X1_of lau s0 G ad F (va_up Ar 16 zZ) kp pl x1 (pr x1) nw (by first | assumption | omega) (by first | exact hpl | (first | assumption | exact hpl _ (by omega)) | assumption | omega) (by first | exact hnw | assumption | omega)) (lw_V q736 q738 qs17 q89 q739) ⟨rfl, by decide, by decide, by decide +kernel⟩ (q0 := 0) (ci := 1) rfl rfl rfl rfl (Nat.le_of_ble_eq_true rfl) ⟨Nat.le_of_ble_eq_true rfl, Nat.le_of_ble_eq_true rfl⟩ ⟨by first | decide | omega, by first | decide | omega⟩ dX1_follow_39) (fun _ hpost => ?_)
        refine z_st (st' := [.ref ((pr x1))]) rfl ?_
        refine z_iload_n hC 42 hl dX1_follow_42 rfl 2 rfl ?_
        refine zp_back (zw_run hC (hH.2.2) hl.1 ((dWp hH hpp (y := x1) (by omega))) 1 (As := [.int (iZ ((p1 : Int)))]) (rest := []) (u_X10_ahead lau s0 G (pr x1) (pa (x1)) (pm (x1)) (pf (x1)) n v (x1) (p1 : Int) (by first | exact hn | assumption | omega) (by exact hpc _ (by omega)) (by first | assumption | omega)) (fun hx0 hO0 => u_X10_ahead_nw lau s0 G (pr x1) (pa (x1)) (pm (x1)) (pf (x1)) n v (x1) (p1 : Int) (by first | exact hn | assumption | omega) (by exact hpc _ (by omega)) (by first | assumption | omega) hx0 hO0) (lw_V q764 q747 q748 q110 q749) ⟨rfl, by decide, by decide, by decide +kernel⟩ rfl rfl (Nat.le_of_ble_eq_true rfl) ⟨Nat.le_of_ble_eq_true rfl, Nat.le_of_ble_eq_true rfl⟩ ⟨by first | decide | omega, by first | decide | omega⟩ dX1_follow_43) (fun _ hpost => ?_)
        refine z_st (st' := [.int (iZ (((cnt v 0 (plq (p1 : Int) n) (x1) : Nat) : Int)))]) rfl ?_
        have hq0 : cnt v 0 (plq (p1 : Int) n) x1 = cnt v 0 p1 x1 := by rw [hpq]
        have hq1 : cnt v 0 (plq ((p1 : Int) + 1) n) x1 = cnt v 0 (p1 + 1) x1 := by rw [hpq1]
        refine z_istore (lv' := [(4, .int (iZ (((cnt v 0 (plq (p1 : Int) n) (x1) : Nat) : Int)))), (0, .ref (ad 99)), (1, .int (iZ ((x1 : Int)))), (2, .int (iZ ((p1 : Int)))), (3, .int (iZ (bk)))]) hC 46 hl dX1_follow_46 (by decide) rfl (fun ls hl => ?_)
        refine z_iload hC 48 hl dX1_follow_48 0 rfl ?_
        refine z_i2l hC 50 dX1_follow_50 (by omega) ?_
        refine z_lconst (a := 0) hC 51 dX1_follow_51 rfl ?_
        refine z_aload_n hC 52 hl dX1_follow_52 rfl 1 rfl ?_
        refine z_iload_n hC 53 hl dX1_follow_53 rfl 2 rfl ?_
        refine zp_back (zp_runV hC (hH.2.2) hl.1 (va_P_l hH.1) 1 (As := [.int (iZ ((x1 : Int)))]) (rest := [.long (lZ (0)), .long (lZ (((cnt v 0 (plq (p1 : Int) n) (x1) : Nat) : Int)))]) (u_X1_of lau s0 G ad F (va_up Ar 16 zZ) kp pl x1 (pr x1) nw (by first | assumption | omega) (by first | exact hpl | (first | assumption | exact hpl _ (by omega)) | assumption | omega) (by first | exact hnw | assumption | omega)) (lw_V q736 q738 qs17 q89 q739) ⟨rfl, by decide, by decide, by decide +kernel⟩ (q0 := 0) (ci := 1) rfl rfl rfl rfl (Nat.le_of_ble_eq_true rfl) ⟨Nat.le_of_ble_eq_true rfl, Nat.le_of_ble_eq_true rfl⟩ ⟨by first | decide | omega, by first | decide | omega⟩ dX1_follow_54) (fun _ hpost => ?_)
        refine z_st (st' := [.ref ((pr x1)), .long (lZ (0)), .long (lZ (((cnt v 0 (plq (p1 : Int) n) (x1) : Nat) : Int)))]) rfl ?_
        refine zw_manyN hC hH.2.2 (dWp hH hpp (y := x1) (by omega)) 57 q709 dX1_follow_57 ?_
        refine z_iconst hC 60 dX1_follow_60 ?_
        refine z_isub (e := ((pm x1 : Nat) : Int) - 1) hC 61 dX1_follow_61 rfl ?_
        refine z_i2l hC 62 dX1_follow_62 (by omega) ?_
        refine z_st (st' := [.long (lZ ((((pm x1 : Nat) : Int) - 1))), .long (lZ (0)), .long (lZ (((cnt v 0 (plq (p1 : Int) n) (x1) : Nat) : Int)))]) (zcons (zleq (by omega)) (zcons rfl (zcons rfl rfl))) ?_
        refine zp_back (zp_runS hC (hH.2.2) hl.1 (zp_nil) 3 (As := [.long (lZ (((cnt v 0 (plq (p1 : Int) n) (x1) : Nat) : Int))), .long (lZ (0)), .long (lZ ((((pm x1 : Nat) : Int) - 1)))]) (rest := []) (u_X1_isIn lau s0 G ((cnt v 0 (plq (p1 : Int) n) (x1) : Nat) : Int) 0 (((pm x1 : Nat) : Int) - 1) (by first | assumption | omega) (by first | assumption | omega) (by first | assumption | omega)) (lw_S q303 q304 q89 q305) ⟨by decide, by decide, by decide +kernel⟩ rfl rfl (Nat.le_of_ble_eq_true rfl) ⟨Nat.le_of_ble_eq_true rfl, Nat.le_of_ble_eq_true rfl⟩ ⟨by first | decide | omega, by first | decide | omega⟩ dX1_follow_63) (fun r_63 hpost => ?_)
        have hb_63 : (r_63 = 1 ∧ ((0 : Int) ≤ ((cnt v 0 (plq (p1 : Int) n) (x1) : Nat) : Int) ∧ ((cnt v 0 (plq (p1 : Int) n) (x1) : Nat) : Int) ≤ (((pm x1 : Nat) : Int) - 1))) ∨ (r_63 = 0 ∧ ¬ ((0 : Int) ≤ ((cnt v 0 (plq (p1 : Int) n) (x1) : Nat) : Int) ∧ ((cnt v 0 (plq (p1 : Int) n) (x1) : Nat) : Int) ≤ (((pm x1 : Nat) : Int) - 1))) := hpost
        refine z_st (st' := [.int (iZ (r_63))]) rfl ?_
        rcases hb_63 with ⟨rfl, hb_63⟩ | ⟨rfl, hb_63⟩
        · -- 63=1
          refine z_if_eq_f hC 66 83 dX1_follow_66 rfl (by omega) (by omega) ?_
          refine z_aload_n hC 69 hl dX1_follow_69 rfl 1 rfl ?_
          refine z_iload_n hC 70 hl dX1_follow_70 rfl 2 rfl ?_
          refine zp_back (zp_runV hC (hH.2.2) hl.1 (va_P_l hH.1) 1 (As := [.int (iZ ((x1 : Int)))]) (rest := []) (u_X1_of lau s0 G ad F (va_up Ar 16 zZ) kp pl x1 (pr x1) nw (by first | assumption | omega) (by first | exact hpl | (first | assumption | exact hpl _ (by omega)) | assumption | omega) (by first | exact hnw | assumption | omega)) (lw_V q736 q738 qs17 q89 q739) ⟨rfl, by decide, by decide, by decide +kernel⟩ (q0 := 0) (ci := 1) rfl rfl rfl rfl (Nat.le_of_ble_eq_true rfl) ⟨Nat.le_of_ble_eq_true rfl, Nat.le_of_ble_eq_true rfl⟩ ⟨by first | decide | omega, by first | decide | omega⟩ dX1_follow_71) (fun _ hpost => ?_)
          refine z_st (st' := [.ref ((pr x1))]) rfl ?_
          refine zp_getN (v := .ref (pa x1)) hC (dWq hH hpp (y := x1) (by omega) (by first | assumption | omega)) 74 in_X10 rfl 0 (by decide) q706 0 rfl (rfl) dX1_follow_74 ?_
          refine z_iload hC 77 hl dX1_follow_77 0 rfl ?_
          refine zp_iald (x := ((pf x1 ((cnt v 0 (plq (p1 : Int) n) (x1))) : Nat) : Int)) hC (dWq hH hpp (y := x1) (by omega) (by first | assumption | omega)) 79 1 ((cnt v 0 (plq (p1 : Int) n) (x1))) rfl (by decide) (by omega) (by omega) rfl dX1_follow_79 ?_
          refine z_goto hC 80 85 dX1_follow_80 rfl ?_
          -- R85.1
          exact z_iret hC hH hQ 85 ((((pf x1 ((cnt v 0 (plq (p1 : Int) n) (x1))) : Nat) : Int), F, (va_up Ar 16 zZ))) dX1_follow_85 rfl ⟨by (unfold Sp_follow; rw [if_pos (by omega)]; simp only [Int.toNat_natCast, zt1]; first | (rw [if_pos (by omega)]; unfold nxF; first | (rw [if_neg (by omega)]; exact (qlc_first (hpc x1 (by omega)) hn (by omega) (by omega)).2.2) | (rw [if_pos (by omega)]; done)) | (rw [if_neg (by omega)]; unfold nxB; first | (rw [if_neg (by omega)]; exact (qlc_last (r := p1 + 1) (hpc x1 (by omega)) hn (by omega) (by omega)).2.2.2) | (rw [if_pos (by omega)]; done))), by first | assumption | exact ⟨fun k h1 h2 h3 h4 h5 => by first | rfl | (simp [va_up, h1, h2, h3, h4, h5]; done) | (simp [va_up, h1, h2, h3, h4, h5]; intro e9; rw [e9, hFn]), fun k h1 h2 h3 h4 h5 h6 => by first | rfl | simp [va_up, h1, h2, h3, h4, h5, h6]⟩⟩ rfl (Nat.le_refl _) (Nat.le_refl _)
        · -- 63=0
          refine z_if_eq_t hC 66 83 dX1_follow_66 rfl (by omega) (by omega) ?_
          refine z_bipush hC 83 dX1_follow_83 rfl ?_
          -- R85.2
          exact z_iret hC hH hQ 85 (((-2), F, (va_up Ar 16 zZ))) dX1_follow_85 rfl ⟨by (unfold Sp_follow; rw [if_pos (by omega)]; simp only [Int.toNat_natCast, zt1]; first | (rw [if_pos (by omega)]; unfold nxF; first | (rw [if_neg (by omega)]; exact (qlc_first (hpc x1 (by omega)) hn (by omega) (by omega)).2.2) | (rw [if_pos (by omega)]; done)) | (rw [if_neg (by omega)]; unfold nxB; first | (rw [if_neg (by omega)]; exact (qlc_last (r := p1 + 1) (hpc x1 (by omega)) hn (by omega) (by omega)).2.2.2) | (rw [if_pos (by omega)]; done))), by first | assumption | exact ⟨fun k h1 h2 h3 h4 h5 => by first | rfl | (simp [va_up, h1, h2, h3, h4, h5]; done) | (simp [va_up, h1, h2, h3, h4, h5]; intro e9; rw [e9, hFn]), fun k h1 h2 h3 h4 h5 h6 => by first | rfl | simp [va_up, h1, h2, h3, h4, h5, h6]⟩⟩ rfl (Nat.le_refl _) (Nat.le_refl _)
      · -- 18f
        refine z_aload_n hC 21 hl dX1_follow_21 rfl 0 rfl ?_
        refine z_iload_n hC 22 hl dX1_follow_22 rfl 1 rfl ?_
        refine zp_back (zp_runV hC (hH.2.2) hl.1 (va_P_l hH.1) 1 (As := [.int (iZ ((x1 : Int)))]) (rest := []) (u_X1_of lau s0 G ad F (va_up Ar 16 zZ) kp pl x1 (pr x1) nw (by first | assumption | omega) (by first | exact hpl | (first | assumption | exact hpl _ (by omega)) | assumption | omega) (by first | exact hnw | assumption | omega)) (lw_V q736 q738 qs17 q89 q739) ⟨rfl, by decide, by decide, by decide +kernel⟩ (q0 := 0) (ci := 1) rfl rfl rfl rfl (Nat.le_of_ble_eq_true rfl) ⟨Nat.le_of_ble_eq_true rfl, Nat.le_of_ble_eq_true rfl⟩ ⟨by first | decide | omega, by first | decide | omega⟩ dX1_follow_23) (fun _ hpost => ?_)
        refine z_st (st' := [.ref ((pr x1))]) rfl ?_
        refine z_iload_n hC 26 hl dX1_follow_26 rfl 2 rfl ?_
        refine z_iconst hC 27 dX1_follow_27 ?_
        refine z_iadd (e := (p1 : Int) + 1) hC 28 dX1_follow_28 rfl ?_
        refine z_st (st' := [.int (iZ (((p1 : Int) + 1))), .ref ((pr x1))]) (zcons (zieq (by omega)) rfl) ?_
        refine zp_back (zw_run hC (hH.2.2) hl.1 ((dWp hH hpp (y := x1) (by omega))) 1 (As := [.int (iZ (((p1 : Int) + 1)))]) (rest := []) (u_X10_ahead lau s0 G (pr x1) (pa (x1)) (pm (x1)) (pf (x1)) n v (x1) ((p1 : Int) + 1) (by first | exact hn | assumption | omega) (by exact hpc _ (by omega)) (by first | assumption | omega)) (fun hx0 hO0 => u_X10_ahead_nw lau s0 G (pr x1) (pa (x1)) (pm (x1)) (pf (x1)) n v (x1) ((p1 : Int) + 1) (by first | exact hn | assumption | omega) (by exact hpc _ (by omega)) (by first | assumption | omega) hx0 hO0) (lw_V q764 q747 q748 q110 q749) ⟨rfl, by decide, by decide, by decide +kernel⟩ rfl rfl (Nat.le_of_ble_eq_true rfl) ⟨Nat.le_of_ble_eq_true rfl, Nat.le_of_ble_eq_true rfl⟩ ⟨by first | decide | omega, by first | decide | omega⟩ dX1_follow_29) (fun _ hpost => ?_)
        refine z_st (st' := [.int (iZ (((cnt v 0 (plq ((p1 : Int) + 1) n) (x1) : Nat) : Int)))]) rfl ?_
        refine z_iconst hC 32 dX1_follow_32 ?_
        refine z_isub (e := ((cnt v 0 (plq ((p1 : Int) + 1) n) (x1) : Nat) : Int) - 1) hC 33 dX1_follow_33 rfl ?_
        refine z_goto hC 34 46 dX1_follow_34 rfl ?_
        have hq0 : cnt v 0 (plq (p1 : Int) n) x1 = cnt v 0 p1 x1 := by rw [hpq]
        have hq1 : cnt v 0 (plq ((p1 : Int) + 1) n) x1 = cnt v 0 (p1 + 1) x1 := by rw [hpq1]
        refine z_istore (lv' := [(4, .int (iZ (((cnt v 0 (plq ((p1 : Int) + 1) n) (x1) : Nat) : Int) - 1))), (0, .ref (ad 99)), (1, .int (iZ ((x1 : Int)))), (2, .int (iZ ((p1 : Int)))), (3, .int (iZ (bk)))]) hC 46 hl dX1_follow_46 (by decide) rfl (fun ls hl => ?_)
        refine z_iload hC 48 hl dX1_follow_48 0 rfl ?_
        refine z_i2l hC 50 dX1_follow_50 (by omega) ?_
        refine z_lconst (a := 0) hC 51 dX1_follow_51 rfl ?_
        refine z_aload_n hC 52 hl dX1_follow_52 rfl 1 rfl ?_
        refine z_iload_n hC 53 hl dX1_follow_53 rfl 2 rfl ?_
        refine zp_back (zp_runV hC (hH.2.2) hl.1 (va_P_l hH.1) 1 (As := [.int (iZ ((x1 : Int)))]) (rest := [.long (lZ (0)), .long (lZ (((cnt v 0 (plq ((p1 : Int) + 1) n) (x1) : Nat) : Int) - 1))]) (u_X1_of lau s0 G ad F (va_up Ar 16 zZ) kp pl x1 (pr x1) nw (by first | assumption | omega) (by first | exact hpl | (first | assumption | exact hpl _ (by omega)) | assumption | omega) (by first | exact hnw | assumption | omega)) (lw_V q736 q738 qs17 q89 q739) ⟨rfl, by decide, by decide, by decide +kernel⟩ (q0 := 0) (ci := 1) rfl rfl rfl rfl (Nat.le_of_ble_eq_true rfl) ⟨Nat.le_of_ble_eq_true rfl, Nat.le_of_ble_eq_true rfl⟩ ⟨by first | decide | omega, by first | decide | omega⟩ dX1_follow_54) (fun _ hpost => ?_)
        refine z_st (st' := [.ref ((pr x1)), .long (lZ (0)), .long (lZ (((cnt v 0 (plq ((p1 : Int) + 1) n) (x1) : Nat) : Int) - 1))]) rfl ?_
        refine zw_manyN hC hH.2.2 (dWp hH hpp (y := x1) (by omega)) 57 q709 dX1_follow_57 ?_
        refine z_iconst hC 60 dX1_follow_60 ?_
        refine z_isub (e := ((pm x1 : Nat) : Int) - 1) hC 61 dX1_follow_61 rfl ?_
        refine z_i2l hC 62 dX1_follow_62 (by omega) ?_
        refine z_st (st' := [.long (lZ ((((pm x1 : Nat) : Int) - 1))), .long (lZ (0)), .long (lZ ((((cnt v 0 (plq ((p1 : Int) + 1) n) (x1) : Nat) : Int) - 1)))]) (zcons (zleq (by omega)) (zcons rfl (zcons (zleq (by omega)) rfl))) ?_
        refine zp_back (zp_runS hC (hH.2.2) hl.1 (zp_nil) 3 (As := [.long (lZ ((((cnt v 0 (plq ((p1 : Int) + 1) n) (x1) : Nat) : Int) - 1))), .long (lZ (0)), .long (lZ ((((pm x1 : Nat) : Int) - 1)))]) (rest := []) (u_X1_isIn lau s0 G (((cnt v 0 (plq ((p1 : Int) + 1) n) (x1) : Nat) : Int) - 1) 0 (((pm x1 : Nat) : Int) - 1) (by first | assumption | omega) (by first | assumption | omega) (by first | assumption | omega)) (lw_S q303 q304 q89 q305) ⟨by decide, by decide, by decide +kernel⟩ rfl rfl (Nat.le_of_ble_eq_true rfl) ⟨Nat.le_of_ble_eq_true rfl, Nat.le_of_ble_eq_true rfl⟩ ⟨by first | decide | omega, by first | decide | omega⟩ dX1_follow_63) (fun r_2 hpost => ?_)
        have hb_63 : (r_2 = 1 ∧ ((0 : Int) ≤ (((cnt v 0 (plq ((p1 : Int) + 1) n) (x1) : Nat) : Int) - 1) ∧ (((cnt v 0 (plq ((p1 : Int) + 1) n) (x1) : Nat) : Int) - 1) ≤ (((pm x1 : Nat) : Int) - 1))) ∨ (r_2 = 0 ∧ ¬ ((0 : Int) ≤ (((cnt v 0 (plq ((p1 : Int) + 1) n) (x1) : Nat) : Int) - 1) ∧ (((cnt v 0 (plq ((p1 : Int) + 1) n) (x1) : Nat) : Int) - 1) ≤ (((pm x1 : Nat) : Int) - 1))) := hpost
        refine z_st (st' := [.int (iZ (r_2))]) rfl ?_
        rcases hb_63 with ⟨rfl, hb_63⟩ | ⟨rfl, hb_63⟩
        · -- 63=1
          refine z_if_eq_f hC 66 83 dX1_follow_66 rfl (by omega) (by omega) ?_
          refine z_aload_n hC 69 hl dX1_follow_69 rfl 1 rfl ?_
          refine z_iload_n hC 70 hl dX1_follow_70 rfl 2 rfl ?_
          refine zp_back (zp_runV hC (hH.2.2) hl.1 (va_P_l hH.1) 1 (As := [.int (iZ ((x1 : Int)))]) (rest := []) (u_X1_of lau s0 G ad F (va_up Ar 16 zZ) kp pl x1 (pr x1) nw (by first | assumption | omega) (by first | exact hpl | (first | assumption | exact hpl _ (by omega)) | assumption | omega) (by first | exact hnw | assumption | omega)) (lw_V q736 q738 qs17 q89 q739) ⟨rfl, by decide, by decide, by decide +kernel⟩ (q0 := 0) (ci := 1) rfl rfl rfl rfl (Nat.le_of_ble_eq_true rfl) ⟨Nat.le_of_ble_eq_true rfl, Nat.le_of_ble_eq_true rfl⟩ ⟨by first | decide | omega, by first | decide | omega⟩ dX1_follow_71) (fun _ hpost => ?_)
          refine z_st (st' := [.ref ((pr x1))]) rfl ?_
          refine zp_getN (v := .ref (pa x1)) hC (dWq hH hpp (y := x1) (by omega) (by first | assumption | omega)) 74 in_X10 rfl 0 (by decide) q706 0 rfl (rfl) dX1_follow_74 ?_
          refine z_iload hC 77 hl dX1_follow_77 0 rfl ?_
          refine zp_iald (x := ((pf x1 ((cnt v 0 (plq ((p1 : Int) + 1) n) (x1)) - 1) : Nat) : Int)) hC (dWq hH hpp (y := x1) (by omega) (by first | assumption | omega)) 79 1 ((cnt v 0 (plq ((p1 : Int) + 1) n) (x1)) - 1) rfl (by decide) (by omega) (by omega) rfl dX1_follow_79 ?_
          refine z_goto hC 80 85 dX1_follow_80 rfl ?_
          -- R85.3
          exact z_iret hC hH hQ 85 ((((pf x1 ((cnt v 0 (plq ((p1 : Int) + 1) n) (x1)) - 1) : Nat) : Int), F, (va_up Ar 16 zZ))) dX1_follow_85 rfl ⟨by (unfold Sp_follow; rw [if_pos (by omega)]; simp only [Int.toNat_natCast, zt1]; first | (rw [if_pos (by omega)]; unfold nxF; first | (rw [if_neg (by omega)]; exact (qlc_first (hpc x1 (by omega)) hn (by omega) (by omega)).2.2) | (rw [if_pos (by omega)]; done)) | (rw [if_neg (by omega)]; unfold nxB; first | (rw [if_neg (by omega)]; exact (qlc_last (r := p1 + 1) (hpc x1 (by omega)) hn (by omega) (by omega)).2.2.2) | (rw [if_pos (by omega)]; done))), by first | assumption | exact ⟨fun k h1 h2 h3 h4 h5 => by first | rfl | (simp [va_up, h1, h2, h3, h4, h5]; done) | (simp [va_up, h1, h2, h3, h4, h5]; intro e9; rw [e9, hFn]), fun k h1 h2 h3 h4 h5 h6 => by first | rfl | simp [va_up, h1, h2, h3, h4, h5, h6]⟩⟩ rfl (Nat.le_refl _) (Nat.le_refl _)
        · -- 63=0
          refine z_if_eq_t hC 66 83 dX1_follow_66 rfl (by omega) (by omega) ?_
          refine z_bipush hC 83 dX1_follow_83 rfl ?_
          -- R85.4
          exact z_iret hC hH hQ 85 (((-2), F, (va_up Ar 16 zZ))) dX1_follow_85 rfl ⟨by (unfold Sp_follow; rw [if_pos (by omega)]; simp only [Int.toNat_natCast, zt1]; first | (rw [if_pos (by omega)]; unfold nxF; first | (rw [if_neg (by omega)]; exact (qlc_first (hpc x1 (by omega)) hn (by omega) (by omega)).2.2) | (rw [if_pos (by omega)]; done)) | (rw [if_neg (by omega)]; unfold nxB; first | (rw [if_neg (by omega)]; exact (qlc_last (r := p1 + 1) (hpc x1 (by omega)) hn (by omega) (by omega)).2.2.2) | (rw [if_pos (by omega)]; done))), by first | assumption | exact ⟨fun k h1 h2 h3 h4 h5 => by first | rfl | (simp [va_up, h1, h2, h3, h4, h5]; done) | (simp [va_up, h1, h2, h3, h4, h5]; intro e9; rw [e9, hFn]), fun k h1 h2 h3 h4 h5 h6 => by first | rfl | simp [va_up, h1, h2, h3, h4, h5, h6]⟩⟩ rfl (Nat.le_refl _) (Nat.le_refl _)
    · -- 9=0
      refine z_if_ne_f hC 12 17 dX1_follow_12 rfl (by omega) (by omega) ?_
      refine z_iconst hC 15 dX1_follow_15 ?_
      -- R16.5
      exact z_iret hC hH hQ 16 (((-1), F, (va_up Ar 16 zZ))) dX1_follow_16 rfl ⟨by first | (unfold Sp_follow; rw [if_neg (by omega)]) | (unfold Sp_follow; rw [if_pos (by omega)]; (try simp only [Int.toNat_natCast, zt1]); first | done | trivial | rfl | omega | (rw [if_pos (by omega)]; first | done | trivial | rfl | omega) | (rw [if_neg (by omega)]; first | done | trivial | rfl | omega)), by first | assumption | exact ⟨fun k h1 h2 h3 h4 h5 => by first | rfl | (simp [va_up, h1, h2, h3, h4, h5]; done) | (simp [va_up, h1, h2, h3, h4, h5]; intro e9; rw [e9, hFn]), fun k h1 h2 h3 h4 h5 h6 => by first | rfl | simp [va_up, h1, h2, h3, h4, h5, h6]⟩⟩ rfl (Nat.le_refl _) (Nat.le_refl _)
  · -- 1=0
    refine z_if_eq_t hC 4 15 dX1_follow_4 rfl (by omega) (by omega) ?_
    refine z_iconst hC 15 dX1_follow_15 ?_
    -- R16.6
    exact z_iret hC hH hQ 16 (((-1), F, (va_up Ar 16 zZ))) dX1_follow_16 rfl ⟨by first | (unfold Sp_follow; rw [if_neg (by omega)]) | (unfold Sp_follow; rw [if_pos (by omega)]; (try simp only [Int.toNat_natCast, zt1]); first | done | trivial | rfl | omega | (rw [if_pos (by omega)]; first | done | trivial | rfl | omega) | (rw [if_neg (by omega)]; first | done | trivial | rfl | omega)), by first | assumption | exact ⟨fun k h1 h2 h3 h4 h5 => by first | rfl | (simp [va_up, h1, h2, h3, h4, h5]; done) | (simp [va_up, h1, h2, h3, h4, h5]; intro e9; rw [e9, hFn]), fun k h1 h2 h3 h4 h5 h6 => by first | rfl | simp [va_up, h1, h2, h3, h4, h5, h6]⟩⟩ rfl (Nat.le_refl _) (Nat.le_refl _)

set_option maxHeartbeats 4000000 in
set_option maxRecDepth 100000 in
theorem m_X1_weights (lau : Launch) (s0 : State) (G : zG) (sz : Nat) (ad : Nat → Nat) (F : Nat → Int) (Ar : Nat → Nat → Int) (kp : Nat → Nat) (pl : Nat → Option Nat) (PW : va_W) (n : Nat) (wt : Nat → Nat) (hn : n ≤ 120) (hFn : F 200 = (n : Int)) (hwt : ∀ i, i < n → 1 ≤ wt i ∧ wt i ≤ 9) (hAw : ∀ i, i < n → Ar 202 i = (wt i : Int)) : zMet (S := Unit) lau yX1_weights cX1_weights 3 (some .int) 0 0 0 0 s0 G sz [.ref (ad 99)] (dW ad G F Ar kp pl PW) (fun (_ : Unit) => some (.int (iZ (((sm wt 0 n : Nat) : Int))))) (fun (_ : Unit) => True) (fun (_ : Unit) => (dW ad G F Ar kp pl PW)) := by
  refine zMet.of (by decide) (Nat.le_of_ble_eq_true rfl) ?_
  intro pg ev s1 mi ar bl me cd ls Q as0 hC hH hl hQ hsz
  generalize s1.heap = H at hH ⊢
  generalize ([] : List Loc) = locs at hH ⊢
  have hl : lv_has ls 3 [(0, .ref (ad 99))] := hl
  refine z_iconst hC 0 dX1_weights_0 ?_
  refine z_istore_n (lv' := [(1, .int (iZ (0))), (0, .ref (ad 99))]) hC 1 hl dX1_weights_1 rfl (by decide) rfl (fun ls hl => ?_)
  refine z_iconst hC 2 dX1_weights_2 ?_
  refine z_istore_n (lv' := [(2, .int (iZ (0))), (1, .int (iZ (0))), (0, .ref (ad 99))]) hC 3 hl dX1_weights_3 rfl (by decide) rfl (fun ls hl => ?_)
  have L4 : ∀ (N_ : Nat) (p : Nat) (c : Nat) (H : Heap) (locs : List Loc) (ls : Array Slot), n - p < N_ → (p ≤ n) → (c = sm wt 0 p) → (c ≤ 9 * p) → zH s0 s1 G as0 (dW ad G F Ar kp pl PW) H locs → lv_has ls 3 [(0, .ref (ad 99)), (1, .int (iZ ((c : Int)))), (2, .int (iZ ((p : Int))))] → W pg lau ev (zRm 0 0 0 0) s1 mi ar bl me cd H locs 0 0 Q (F0 mi 4 ls []) := by
    intro N_
    induction N_ with
    | zero => intro p c H locs ls hd; exact absurd hd (Nat.not_lt_zero _)
    | succ N_ ih4 =>
      intro p c H locs ls hd4 i4_1 ic i4_3 hH hl
      refine z_iload_n hC 4 hl dX1_weights_4 rfl 2 rfl ?_
      refine z_aload_n hC 5 hl dX1_weights_5 rfl 0 rfl ?_
      refine zp_get (v := .ref (ad 200)) hC (va_P_l hH.1) 6 in_X1 rfl 4 (by decide) q210 0 rfl (rfl) dX1_weights_6 ?_
      refine zp_getN (v := .int (iZ ((n : Int)))) hC (va_P_l hH.1) 9 in_X2 rfl 2 (by decide) q149 11 rfl (by rw [← hFn]; rfl) dX1_weights_9 ?_
      refine z_icmp_ge hC 12 33 dX1_weights_12 rfl (by omega) (by omega) (fun hb1 => ?_) (fun hb1 => ?_)
      · -- 12t
        have ep : (p) = n := by omega
        rw [ep] at ic
        refine z_iload_n hC 33 hl dX1_weights_33 rfl 1 rfl ?_
        -- R34.1
        refine z_st (st' := [.int (iZ (((sm wt 0 n : Nat) : Int)))]) (zcons (zieq (by first | assumption | omega)) rfl) ?_
        exact z_iret hC hH hQ 34 (()) dX1_weights_34 rfl trivial rfl (Nat.le_refl _) (Nat.le_refl _)
      · -- 12f
        have hwp := hwt (p) (by omega)
        refine z_iload_n hC 15 hl dX1_weights_15 rfl 1 rfl ?_
        refine z_aload_n hC 16 hl dX1_weights_16 rfl 0 rfl ?_
        refine zp_get (v := .ref (ad 200)) hC (va_P_l hH.1) 17 in_X1 rfl 4 (by decide) q210 0 rfl (rfl) dX1_weights_17 ?_
        refine zp_getN (v := .ref (ad 202)) hC (va_P_l hH.1) 20 in_X2 rfl 1 (by decide) q145 11 rfl (rfl) dX1_weights_20 ?_
        refine z_iload_n hC 23 hl dX1_weights_23 rfl 2 rfl ?_
        refine zp_iald (f := (Ar 202)) (x := ((wt (p) : Nat) : Int)) hC (va_P_l hH.1) 24 13 (p) rfl (by decide) (by omega) (by omega) (hAw (p) (by omega)) dX1_weights_24 ?_
        refine z_iadd (e := (c : Int) + ((wt (p) : Nat) : Int)) hC 25 dX1_weights_25 rfl ?_
        refine z_istore_n (lv' := [(1, .int (iZ ((c : Int) + ((wt (p) : Nat) : Int)))), (0, .ref (ad 99)), (2, .int (iZ ((p : Int))))]) hC 26 hl dX1_weights_26 rfl (by decide) rfl (fun ls hl => ?_)
        refine z_iinc (lv' := [(2, .int (iZ ((p : Int) + 1))), (1, .int (iZ ((c : Int) + ((wt (p) : Nat) : Int)))), (0, .ref (ad 99))]) hC 27 hl dX1_weights_27 2 rfl (by omega) (by decide) rfl (fun ls hl => ?_)
        refine z_goto hC 30 4 dX1_weights_30 rfl ?_
        -- J4.2
        exact ih4 (p + 1) (c + (wt (p))) _ _ _ (by omega) (by first | assumption | omega) (by first | rfl | (rw [sm_succ _ (Nat.zero_le _)]; omega)) (by first | assumption | omega) hH (z_lv (lv_sub hl [2, 1, 0] rfl) (zcons rfl (zcons (zpeq (by omega)) (zcons (zpeq (by omega)) rfl))))
  -- J4.3
  exact L4 _ 0 0 _ _ _ (Nat.lt_succ_self _) (by first | assumption | omega) (by first | rfl | (rw [sm_succ _ (Nat.zero_le _)]; omega)) (by first | assumption | omega) hH (z_lv (lv_sub hl [2, 1, 0] rfl) (zcons rfl (zcons (zpeq (by omega)) (zcons (zpeq (by omega)) rfl))))

set_option maxHeartbeats 4000000 in
set_option maxRecDepth 100000 in
theorem m_X1_unlike_in (lau : Launch) (s0 : State) (G : zG) (sz : Nat) (ad : Nat → Nat) (F : Nat → Int) (Ar : Nat → Nat → Int) (kp : Nat → Nat) (pl : Nat → Option Nat) (PW : va_W) (n : Nat) (v : Nat → Nat) (l : Nat) (r : Nat) (hn : n ≤ 120) (hFn : F 200 = (n : Int)) (hv : ∀ i, i < n → v i < 1000) (hAv : ∀ i, i < n → Ar 201 i = (v i : Int)) (hlr : l < r) (hrn : r ≤ n) : zMet (S := Nat × (Nat → Nat) × (Nat → Int)) lau yX1_unlike cX1_unlike 3 (some .int) 2 44 0 0 s0 G sz [.ref (ad 99), .int (iZ ((l : Int))), .int (iZ ((r : Int) - 1))] (dW ad G F (va_up Ar 16 zZ) kp pl PW) (fun ((k, u, gu) : Nat × (Nat → Nat) × (Nat → Int)) => some (.int (iZ (((dst v l r : Nat) : Int))))) (fun ((k, u, gu) : Nat × (Nat → Nat) × (Nat → Int)) => (EN v l r k u)) (fun ((k, u, gu) : Nat × (Nat → Nat) × (Nat → Int)) => (dW ad G (va_up F 17 ((k : Int))) (va_up (va_up Ar 15 (cI (k) u gu)) 16 zZ) kp pl PW)) := by
  refine zMet.of (by decide) (Nat.le_of_ble_eq_true rfl) ?_
  intro pg ev s1 mi ar bl me cd ls Q as0 hC hH hl hQ hsz
  generalize s1.heap = H at hH ⊢
  generalize ([] : List Loc) = locs at hH ⊢
  have hl : lv_has ls 3 [(0, .ref (ad 99)), (1, .int (iZ ((l : Int)))), (2, .int (iZ ((r : Int) - 1)))] := hl
  refine z_aload_n hC 0 hl dX1_unlike_0 rfl 0 rfl ?_
  refine z_iload_n hC 1 hl dX1_unlike_1 rfl 1 rfl ?_
  refine z_iload_n hC 2 hl dX1_unlike_2 rfl 2 rfl ?_
  refine z_st (st' := [.int (iZ (((r : Int) - 1))), .int (iZ ((l : Int))), .ref (ad 99)]) (zcons (zieq (by omega)) (zcons rfl rfl)) ?_
  refine zp_back (zp_runV hC (hH.2.2) hl.1 (va_P_l hH.1) 2 (As := [.int (iZ ((l : Int))), .int (iZ (((r : Int) - 1)))]) (rest := []) (u_X1_isSpan lau s0 G ad F (va_up Ar 16 zZ) kp pl n (l : Int) ((r : Int) - 1) (by first | exact hn | assumption | omega) (by first | exact hFn | assumption | omega) (by first | assumption | omega) (by first | assumption | omega)) (lw_V q864 q866 qs26 q89 q867) ⟨rfl, by decide, by decide, by decide +kernel⟩ (q0 := 0) (ci := 1) rfl rfl rfl rfl (Nat.le_of_ble_eq_true rfl) ⟨Nat.le_of_ble_eq_true rfl, Nat.le_of_ble_eq_true rfl⟩ ⟨by first | decide | omega, by first | decide | omega⟩ dX1_unlike_3) (fun r_3 hpost => ?_)
  have hb_3 : (r_3 = 1 ∧ (0 ≤ (l : Int) ∧ (l : Int) ≤ ((r : Int) - 1) ∧ ((r : Int) - 1) < (n : Int))) ∨ (r_3 = 0 ∧ ¬ (0 ≤ (l : Int) ∧ (l : Int) ≤ ((r : Int) - 1) ∧ ((r : Int) - 1) < (n : Int))) := hpost
  refine z_st (st' := [.int (iZ (r_3))]) rfl ?_
  rcases hb_3 with ⟨rfl, hb_3⟩ | ⟨rfl, hb_3⟩
  · -- 3=1
    refine z_if_ne_t hC 6 11 dX1_unlike_6 rfl (by omega) (by omega) ?_
    refine z_aload_n hC 11 hl dX1_unlike_11 rfl 0 rfl ?_
    refine z_iload_n hC 12 hl dX1_unlike_12 rfl 1 rfl ?_
    refine z_iload_n hC 13 hl dX1_unlike_13 rfl 2 rfl ?_
    refine z_same (z_runV hC hH.2.2 hl.1 hH.1 hH.2.1 2 (As := [.int (iZ ((l : Int))), .int (iZ ((r : Int) - 1))]) (rest := []) (m_X1_laysAll lau s0 G _ ad F (va_up Ar 16 zZ) kp pl PW n v l r (by first | exact hn | assumption | omega) (by first | exact hFn | assumption | omega) (by first | exact hv | assumption | omega) (by first | exact hAv | assumption | omega) (by first | exact hlr | assumption | omega) (by first | exact hrn | assumption | omega)) (lw_V q1051 q1053 qs35 q89 q1054) ⟨rfl, by decide, by decide, by decide +kernel⟩ (q0 := 0) (ci := 1) rfl rfl rfl rfl (Nat.le_of_ble_eq_true rfl) ⟨Nat.le_of_ble_eq_true rfl, Nat.le_of_ble_eq_true rfl⟩ ⟨Nat.le_of_ble_eq_true rfl, Nat.le_of_ble_eq_true rfl⟩ dX1_unlike_14) hH (fun u_ H locs hpost hH => ?_)
    obtain ⟨k_14, u_14, gu_14⟩ := u_
    have pE_14 : EN v l r k_14 u_14 := hpost
    have hH : zH s0 s1 G as0 (dW ad G (va_up F 17 ((k_14 : Int))) (va_up (va_up Ar 15 (cI (k_14) u_14 gu_14)) 16 zZ) kp pl PW) H locs := hH
    refine z_st (st' := []) rfl ?_
    have hds := EN_dst pE_14
    have hkk := pE_14.1
    refine z_aload_n hC 17 hl dX1_unlike_17 rfl 0 rfl ?_
    refine zp_get (v := .int (iZ ((k_14 : Int)))) hC (va_P_l hH.1) 18 in_X1 rfl 17 (by decide) q227 0 rfl (rfl) dX1_unlike_18 ?_
    -- R21.1
    refine z_st (st' := [.int (iZ (((dst v l r : Nat) : Int)))]) (zcons (zieq (by first | assumption | omega)) rfl) ?_
    exact z_iret hC hH hQ 21 ((k_14, u_14, gu_14)) dX1_unlike_21 rfl (by (try dsimp only); first | assumption | omega) rfl (Nat.le_refl _) (Nat.le_refl _)
  · -- 3=0
    refine z_if_ne_f hC 6 11 dX1_unlike_6 rfl (by omega) (by omega) ?_
    exfalso
    omega

set_option maxHeartbeats 4000000 in
set_option maxRecDepth 100000 in
theorem m_X1_count (lau : Launch) (s0 : State) (G : zG) (sz : Nat) (ad : Nat → Nat) (F : Nat → Int) (Ar : Nat → Nat → Int) (kp : Nat → Nat) (pl : Nat → Option Nat) (PW : va_W) (n : Nat) (v : Nat → Nat) (pr : Nat → Nat) (pa : Nat → Nat) (pm : Nat → Nat) (pf : Nat → Nat → Nat) (nw : Nat) (b : Nat) (t : Nat) (wt : Nat → Nat) (ln : Int) (un : Int) (tp : Int) (q : Int) (hn : n ≤ 120) (hFn : F 200 = (n : Int)) (hv : ∀ i, i < n → v i < 1000) (hAv : ∀ i, i < n → Ar 201 i = (v i : Int)) (hb : 2 ≤ b ∧ b ≤ 20) (hFb : F 7 = (b : Int)) (ht : t < 4) (hFt : F 8 = (t : Int)) (hpl : ∀ y, y < 1000 → (pl y = some (pr y) ∨ (pl y = none ∧ pr y = nw))) (hnw : zNwh s0 nw) (hpc : ∀ y, y < 1000 → PlC n v y (pm y) (pf y)) (hpp : zPool s0 G PW pr pa pm pf) (hmo : ∀ i j, i ≤ j → b * j < n → Ar 12 (60 * i + j) = (md v (b * i) (bEnd b j n) t : Int)) (hr_q : -2147483648 ≤ q ∧ q < 2147483648) (hwt : ∀ i, i < n → 1 ≤ wt i ∧ wt i ≤ 9) (hAw : ∀ i, i < n → Ar 202 i = (wt i : Int)) (hln : F 6 = ln) (hun_ : F 14 = un) (htp_ : F 1 = tp) : zMet (S := Int × (Nat → Int) × (Nat → Nat → Int)) lau yX1_count cX1_count 2 (some .int) 3 66 0 0 s0 G sz [.ref (ad 99), .int (iZ (q))] (dW ad G F (va_up Ar 16 zZ) kp pl PW) (fun ((r_, F2, A2) : Int × (Nat → Int) × (Nat → Nat → Int)) => some (.int (iZ (r_)))) (fun ((r_, F2, A2) : Int × (Nat → Int) × (Nat → Nat → Int)) => (Sp_count n v wt t b ln un tp q r_) ∧ (DK F (va_up Ar 16 zZ) F2 A2)) (fun ((r_, F2, A2) : Int × (Nat → Int) × (Nat → Nat → Int)) => (dW ad G F2 A2 kp pl PW)) := by
  refine zMet.of (by decide) (Nat.le_of_ble_eq_true rfl) ?_
  intro pg ev s1 mi ar bl me cd ls Q as0 hC hH hl hQ hsz
  generalize s1.heap = H at hH ⊢
  generalize ([] : List Loc) = locs at hH ⊢
  have hl : lv_has ls 2 [(0, .ref (ad 99)), (1, .int (iZ (q)))] := hl
  refine z_iload_n hC 0 hl dX1_count_0 rfl 1 rfl ?_
  rcases (show (q < 0 ∨ 8 < q) ∨ q = 0 ∨ q = 1 ∨ q = 2 ∨ q = 3 ∨ q = 4 ∨ q = 5 ∨ q = 6 ∨ q = 7 ∨ q = 8 from by omega) with hs1 | hs1 | hs1 | hs1 | hs1 | hs1 | hs1 | hs1 | hs1 | hs1
  · -- 1:default
    refine z_tsw_out hC 1 124 dX1_count_1 (by omega) hs1 rfl ?_
    refine z_iconst hC 124 dX1_count_124 ?_
    -- R125.1
    exact z_iret hC hH hQ 125 (((-1), F, (va_up Ar 16 zZ))) dX1_count_125 rfl ⟨by (unfold Sp_count; first | (rw [if_pos (by omega)]; first | done | omega) | (rw [if_neg (by omega), if_pos (by omega)]; first | done | omega) | (rw [if_neg (by omega), if_neg (by omega), if_pos (by omega)]; first | done | omega) | (rw [if_neg (by omega), if_neg (by omega), if_neg (by omega), if_pos (by omega)]; first | done | omega) | (rw [if_neg (by omega), if_neg (by omega), if_neg (by omega), if_neg (by omega), if_pos (by omega)]; first | done | omega) | (rw [if_neg (by omega), if_neg (by omega), if_neg (by omega), if_neg (by omega), if_neg (by omega), if_pos (by omega)]; first | done | omega) | (rw [if_neg (by omega), if_neg (by omega), if_neg (by omega), if_neg (by omega), if_neg (by omega), if_neg (by omega), if_pos (by omega)]; first | done | omega) | (rw [if_neg (by omega), if_neg (by omega), if_neg (by omega), if_neg (by omega), if_neg (by omega), if_neg (by omega), if_neg (by omega), if_pos (by omega)]; first | done | omega) | (rw [if_neg (by omega), if_neg (by omega), if_neg (by omega), if_neg (by omega), if_neg (by omega), if_neg (by omega), if_neg (by omega), if_neg (by omega), if_pos (by omega)]; first | done | omega) | (rw [if_neg (by omega), if_neg (by omega), if_neg (by omega), if_neg (by omega), if_neg (by omega), if_neg (by omega), if_neg (by omega), if_neg (by omega), if_neg (by omega)]; first | done | omega)), by first | assumption | exact ⟨fun k h1 h2 h3 h4 h5 => by first | rfl | (simp [va_up, h1, h2, h3, h4, h5]; done) | (simp [va_up, h1, h2, h3, h4, h5]; intro e9; rw [e9, hFn]), fun k h1 h2 h3 h4 h5 h6 => by first | rfl | simp [va_up, h1, h2, h3, h4, h5, h6]⟩⟩ rfl (Nat.le_refl _) (Nat.le_refl _)
  · -- 1:0
    refine z_tsw_in hC 1 52 dX1_count_1 (by omega) hs1 (by decide) (by decide) rfl rfl ?_
    refine z_aload_n hC 52 hl dX1_count_52 rfl 0 rfl ?_
    refine zp_get (v := .ref (ad 200)) hC (va_P_l hH.1) 53 in_X1 rfl 4 (by decide) q210 0 rfl (rfl) dX1_count_53 ?_
    refine zp_getN (v := .int (iZ ((n : Int)))) hC (va_P_l hH.1) 56 in_X2 rfl 2 (by decide) q149 11 rfl (by rw [← hFn]; rfl) dX1_count_56 ?_
    -- R59.2
    exact z_iret hC hH hQ 59 (((n : Int), F, (va_up Ar 16 zZ))) dX1_count_59 rfl ⟨by (unfold Sp_count; first | (rw [if_pos (by omega)]; first | done | omega) | (rw [if_neg (by omega), if_pos (by omega)]; first | done | omega) | (rw [if_neg (by omega), if_neg (by omega), if_pos (by omega)]; first | done | omega) | (rw [if_neg (by omega), if_neg (by omega), if_neg (by omega), if_pos (by omega)]; first | done | omega) | (rw [if_neg (by omega), if_neg (by omega), if_neg (by omega), if_neg (by omega), if_pos (by omega)]; first | done | omega) | (rw [if_neg (by omega), if_neg (by omega), if_neg (by omega), if_neg (by omega), if_neg (by omega), if_pos (by omega)]; first | done | omega) | (rw [if_neg (by omega), if_neg (by omega), if_neg (by omega), if_neg (by omega), if_neg (by omega), if_neg (by omega), if_pos (by omega)]; first | done | omega) | (rw [if_neg (by omega), if_neg (by omega), if_neg (by omega), if_neg (by omega), if_neg (by omega), if_neg (by omega), if_neg (by omega), if_pos (by omega)]; first | done | omega) | (rw [if_neg (by omega), if_neg (by omega), if_neg (by omega), if_neg (by omega), if_neg (by omega), if_neg (by omega), if_neg (by omega), if_neg (by omega), if_pos (by omega)]; first | done | omega) | (rw [if_neg (by omega), if_neg (by omega), if_neg (by omega), if_neg (by omega), if_neg (by omega), if_neg (by omega), if_neg (by omega), if_neg (by omega), if_neg (by omega)]; first | done | omega)), by first | assumption | exact ⟨fun k h1 h2 h3 h4 h5 => by first | rfl | (simp [va_up, h1, h2, h3, h4, h5]; done) | (simp [va_up, h1, h2, h3, h4, h5]; intro e9; rw [e9, hFn]), fun k h1 h2 h3 h4 h5 h6 => by first | rfl | simp [va_up, h1, h2, h3, h4, h5, h6]⟩⟩ rfl (Nat.le_refl _) (Nat.le_refl _)
  · -- 1:1
    refine z_tsw_in hC 1 60 dX1_count_1 (by omega) hs1 (by decide) (by decide) rfl rfl ?_
    refine z_aload_n hC 60 hl dX1_count_60 rfl 0 rfl ?_
    refine zp_get (v := .int (iZ ((b : Int)))) hC (va_P_l hH.1) 61 in_X1 rfl 7 (by decide) q216 0 rfl (by rw [← hFb]; rfl) dX1_count_61 ?_
    -- R64.3
    exact z_iret hC hH hQ 64 (((b : Int), F, (va_up Ar 16 zZ))) dX1_count_64 rfl ⟨by (unfold Sp_count; first | (rw [if_pos (by omega)]; first | done | omega) | (rw [if_neg (by omega), if_pos (by omega)]; first | done | omega) | (rw [if_neg (by omega), if_neg (by omega), if_pos (by omega)]; first | done | omega) | (rw [if_neg (by omega), if_neg (by omega), if_neg (by omega), if_pos (by omega)]; first | done | omega) | (rw [if_neg (by omega), if_neg (by omega), if_neg (by omega), if_neg (by omega), if_pos (by omega)]; first | done | omega) | (rw [if_neg (by omega), if_neg (by omega), if_neg (by omega), if_neg (by omega), if_neg (by omega), if_pos (by omega)]; first | done | omega) | (rw [if_neg (by omega), if_neg (by omega), if_neg (by omega), if_neg (by omega), if_neg (by omega), if_neg (by omega), if_pos (by omega)]; first | done | omega) | (rw [if_neg (by omega), if_neg (by omega), if_neg (by omega), if_neg (by omega), if_neg (by omega), if_neg (by omega), if_neg (by omega), if_pos (by omega)]; first | done | omega) | (rw [if_neg (by omega), if_neg (by omega), if_neg (by omega), if_neg (by omega), if_neg (by omega), if_neg (by omega), if_neg (by omega), if_neg (by omega), if_pos (by omega)]; first | done | omega) | (rw [if_neg (by omega), if_neg (by omega), if_neg (by omega), if_neg (by omega), if_neg (by omega), if_neg (by omega), if_neg (by omega), if_neg (by omega), if_neg (by omega)]; first | done | omega)), by first | assumption | exact ⟨fun k h1 h2 h3 h4 h5 => by first | rfl | (simp [va_up, h1, h2, h3, h4, h5]; done) | (simp [va_up, h1, h2, h3, h4, h5]; intro e9; rw [e9, hFn]), fun k h1 h2 h3 h4 h5 h6 => by first | rfl | simp [va_up, h1, h2, h3, h4, h5, h6]⟩⟩ rfl (Nat.le_refl _) (Nat.le_refl _)
  · -- 1:2
    refine z_tsw_in hC 1 65 dX1_count_1 (by omega) hs1 (by decide) (by decide) rfl rfl ?_
    refine z_aload_n hC 65 hl dX1_count_65 rfl 0 rfl ?_
    refine zp_back (zp_runV hC (hH.2.2) hl.1 (va_P_l hH.1) 0 (As := []) (rest := []) (u_X1_blocks lau s0 G ad F (va_up Ar 16 zZ) kp pl n b (by first | exact hn | assumption | omega) (by first | exact hFn | assumption | omega) (by first | exact hb | assumption | omega) (by first | exact hFb | assumption | omega)) (lw_V q719 q721 qs13 q89 q722) ⟨rfl, by decide, by decide, by decide +kernel⟩ (q0 := 0) (ci := 1) rfl rfl rfl rfl (Nat.le_of_ble_eq_true rfl) ⟨Nat.le_of_ble_eq_true rfl, Nat.le_of_ble_eq_true rfl⟩ ⟨by first | decide | omega, by first | decide | omega⟩ dX1_count_66) (fun _ hpost => ?_)
    refine z_st (st' := [.int (iZ (((zdiv (n + b - 1) b : Nat) : Int)))]) rfl ?_
    -- R69.4
    exact z_iret hC hH hQ 69 ((((zdiv (n + b - 1) b : Nat) : Int), F, (va_up Ar 16 zZ))) dX1_count_69 rfl ⟨by (unfold Sp_count; first | (rw [if_pos (by omega)]; first | done | omega) | (rw [if_neg (by omega), if_pos (by omega)]; first | done | omega) | (rw [if_neg (by omega), if_neg (by omega), if_pos (by omega)]; first | done | omega) | (rw [if_neg (by omega), if_neg (by omega), if_neg (by omega), if_pos (by omega)]; first | done | omega) | (rw [if_neg (by omega), if_neg (by omega), if_neg (by omega), if_neg (by omega), if_pos (by omega)]; first | done | omega) | (rw [if_neg (by omega), if_neg (by omega), if_neg (by omega), if_neg (by omega), if_neg (by omega), if_pos (by omega)]; first | done | omega) | (rw [if_neg (by omega), if_neg (by omega), if_neg (by omega), if_neg (by omega), if_neg (by omega), if_neg (by omega), if_pos (by omega)]; first | done | omega) | (rw [if_neg (by omega), if_neg (by omega), if_neg (by omega), if_neg (by omega), if_neg (by omega), if_neg (by omega), if_neg (by omega), if_pos (by omega)]; first | done | omega) | (rw [if_neg (by omega), if_neg (by omega), if_neg (by omega), if_neg (by omega), if_neg (by omega), if_neg (by omega), if_neg (by omega), if_neg (by omega), if_pos (by omega)]; first | done | omega) | (rw [if_neg (by omega), if_neg (by omega), if_neg (by omega), if_neg (by omega), if_neg (by omega), if_neg (by omega), if_neg (by omega), if_neg (by omega), if_neg (by omega)]; first | done | omega)), by first | assumption | exact ⟨fun k h1 h2 h3 h4 h5 => by first | rfl | (simp [va_up, h1, h2, h3, h4, h5]; done) | (simp [va_up, h1, h2, h3, h4, h5]; intro e9; rw [e9, hFn]), fun k h1 h2 h3 h4 h5 h6 => by first | rfl | simp [va_up, h1, h2, h3, h4, h5, h6]⟩⟩ rfl (Nat.le_refl _) (Nat.le_refl _)
  · -- 1:3
    refine z_tsw_in hC 1 70 dX1_count_1 (by omega) hs1 (by decide) (by decide) rfl rfl ?_
    refine z_aload_n hC 70 hl dX1_count_70 rfl 0 rfl ?_
    refine zp_get (v := .int (iZ ((t : Int)))) hC (va_P_l hH.1) 71 in_X1 rfl 8 (by decide) q218 0 rfl (by rw [← hFt]; rfl) dX1_count_71 ?_
    -- R74.5
    exact z_iret hC hH hQ 74 (((t : Int), F, (va_up Ar 16 zZ))) dX1_count_74 rfl ⟨by (unfold Sp_count; first | (rw [if_pos (by omega)]; first | done | omega) | (rw [if_neg (by omega), if_pos (by omega)]; first | done | omega) | (rw [if_neg (by omega), if_neg (by omega), if_pos (by omega)]; first | done | omega) | (rw [if_neg (by omega), if_neg (by omega), if_neg (by omega), if_pos (by omega)]; first | done | omega) | (rw [if_neg (by omega), if_neg (by omega), if_neg (by omega), if_neg (by omega), if_pos (by omega)]; first | done | omega) | (rw [if_neg (by omega), if_neg (by omega), if_neg (by omega), if_neg (by omega), if_neg (by omega), if_pos (by omega)]; first | done | omega) | (rw [if_neg (by omega), if_neg (by omega), if_neg (by omega), if_neg (by omega), if_neg (by omega), if_neg (by omega), if_pos (by omega)]; first | done | omega) | (rw [if_neg (by omega), if_neg (by omega), if_neg (by omega), if_neg (by omega), if_neg (by omega), if_neg (by omega), if_neg (by omega), if_pos (by omega)]; first | done | omega) | (rw [if_neg (by omega), if_neg (by omega), if_neg (by omega), if_neg (by omega), if_neg (by omega), if_neg (by omega), if_neg (by omega), if_neg (by omega), if_pos (by omega)]; first | done | omega) | (rw [if_neg (by omega), if_neg (by omega), if_neg (by omega), if_neg (by omega), if_neg (by omega), if_neg (by omega), if_neg (by omega), if_neg (by omega), if_neg (by omega)]; first | done | omega)), by first | assumption | exact ⟨fun k h1 h2 h3 h4 h5 => by first | rfl | (simp [va_up, h1, h2, h3, h4, h5]; done) | (simp [va_up, h1, h2, h3, h4, h5]; intro e9; rw [e9, hFn]), fun k h1 h2 h3 h4 h5 h6 => by first | rfl | simp [va_up, h1, h2, h3, h4, h5, h6]⟩⟩ rfl (Nat.le_refl _) (Nat.le_refl _)
  · -- 1:4
    refine z_tsw_in hC 1 75 dX1_count_1 (by omega) hs1 (by decide) (by decide) rfl rfl ?_
    refine z_aload_n hC 75 hl dX1_count_75 rfl 0 rfl ?_
    refine zp_get (v := .int (iZ (ln))) hC (va_P_l hH.1) 76 in_X1 rfl 6 (by decide) q215 0 rfl (by rw [← hln]; rfl) dX1_count_76 ?_
    -- R79.6
    exact z_iret hC hH hQ 79 ((ln, F, (va_up Ar 16 zZ))) dX1_count_79 rfl ⟨by (unfold Sp_count; first | (rw [if_pos (by omega)]; first | done | omega) | (rw [if_neg (by omega), if_pos (by omega)]; first | done | omega) | (rw [if_neg (by omega), if_neg (by omega), if_pos (by omega)]; first | done | omega) | (rw [if_neg (by omega), if_neg (by omega), if_neg (by omega), if_pos (by omega)]; first | done | omega) | (rw [if_neg (by omega), if_neg (by omega), if_neg (by omega), if_neg (by omega), if_pos (by omega)]; first | done | omega) | (rw [if_neg (by omega), if_neg (by omega), if_neg (by omega), if_neg (by omega), if_neg (by omega), if_pos (by omega)]; first | done | omega) | (rw [if_neg (by omega), if_neg (by omega), if_neg (by omega), if_neg (by omega), if_neg (by omega), if_neg (by omega), if_pos (by omega)]; first | done | omega) | (rw [if_neg (by omega), if_neg (by omega), if_neg (by omega), if_neg (by omega), if_neg (by omega), if_neg (by omega), if_neg (by omega), if_pos (by omega)]; first | done | omega) | (rw [if_neg (by omega), if_neg (by omega), if_neg (by omega), if_neg (by omega), if_neg (by omega), if_neg (by omega), if_neg (by omega), if_neg (by omega), if_pos (by omega)]; first | done | omega) | (rw [if_neg (by omega), if_neg (by omega), if_neg (by omega), if_neg (by omega), if_neg (by omega), if_neg (by omega), if_neg (by omega), if_neg (by omega), if_neg (by omega)]; first | done | omega)), by first | assumption | exact ⟨fun k h1 h2 h3 h4 h5 => by first | rfl | (simp [va_up, h1, h2, h3, h4, h5]; done) | (simp [va_up, h1, h2, h3, h4, h5]; intro e9; rw [e9, hFn]), fun k h1 h2 h3 h4 h5 h6 => by first | rfl | simp [va_up, h1, h2, h3, h4, h5, h6]⟩⟩ rfl (Nat.le_refl _) (Nat.le_refl _)
  · -- 1:5
    refine z_tsw_in hC 1 80 dX1_count_1 (by omega) hs1 (by decide) (by decide) rfl rfl ?_
    refine z_aload_n hC 80 hl dX1_count_80 rfl 0 rfl ?_
    refine zp_get (v := .ref (ad 200)) hC (va_P_l hH.1) 81 in_X1 rfl 4 (by decide) q210 0 rfl (rfl) dX1_count_81 ?_
    refine zp_getN (v := .int (iZ ((n : Int)))) hC (va_P_l hH.1) 84 in_X2 rfl 2 (by decide) q149 11 rfl (by rw [← hFn]; rfl) dX1_count_84 ?_
    refine z_if_ne hC 87 94 dX1_count_87 rfl (by omega) (fun hb2 => ?_) (fun hb2 => ?_)
    · -- 87t
      refine z_aload_n hC 94 hl dX1_count_94 rfl 0 rfl ?_
      refine z_iconst hC 95 dX1_count_95 ?_
      refine z_aload_n hC 96 hl dX1_count_96 rfl 0 rfl ?_
      refine zp_get (v := .ref (ad 200)) hC (va_P_l hH.1) 97 in_X1 rfl 4 (by decide) q210 0 rfl (rfl) dX1_count_97 ?_
      refine zp_getN (v := .int (iZ ((n : Int)))) hC (va_P_l hH.1) 100 in_X2 rfl 2 (by decide) q149 11 rfl (by rw [← hFn]; rfl) dX1_count_100 ?_
      refine z_iconst hC 103 dX1_count_103 ?_
      refine z_isub (e := (n : Int) - 1) hC 104 dX1_count_104 rfl ?_
      refine z_st (st' := [.int (iZ ((n : Int) - 1)), .int (iZ (((0 : Nat) : Int))), .ref (ad 99)]) (zcons rfl (zcons (zieq (by omega)) rfl)) ?_
      refine z_same (z_runV hC hH.2.2 hl.1 hH.1 hH.2.1 2 (As := [.int (iZ (((0 : Nat) : Int))), .int (iZ ((n : Int) - 1))]) (rest := []) (m_X1_unlike_in lau s0 G _ ad F (va_up Ar 16 zZ) kp pl PW n v 0 n (by first | exact hn | assumption | omega) (by first | exact hFn | assumption | omega) (by first | exact hv | assumption | omega) (by first | exact hAv | assumption | omega) (by first | exact hlr | assumption | omega) (by first | exact hrn | assumption | omega)) (lw_V q1357 q1072 q1073 q89 q1074) ⟨rfl, by decide, by decide, by decide +kernel⟩ (q0 := 0) (ci := 1) rfl rfl rfl rfl (Nat.le_of_ble_eq_true rfl) ⟨Nat.le_of_ble_eq_true rfl, Nat.le_of_ble_eq_true rfl⟩ ⟨Nat.le_of_ble_eq_true rfl, Nat.le_of_ble_eq_true rfl⟩ dX1_count_105) hH (fun u_ H locs hpost hH => ?_)
      obtain ⟨k_105, u_105, gu_105⟩ := u_
      have pE_105 : EN v 0 n k_105 u_105 := hpost
      have hH : zH s0 s1 G as0 (dW ad G (va_up F 17 ((k_105 : Int))) (va_up (va_up Ar 15 (cI (k_105) u_105 gu_105)) 16 zZ) kp pl PW) H locs := hH
      refine z_st (st' := [.int (iZ (((dst v 0 n : Nat) : Int)))]) rfl ?_
      -- R108.7
      exact z_iret hC hH hQ 108 ((((dst v 0 n : Nat) : Int), (va_up F 17 ((k_105 : Int))), (va_up (va_up Ar 15 (cI (k_105) u_105 gu_105)) 16 zZ))) dX1_count_108 rfl ⟨by (unfold Sp_count; first | (rw [if_pos (by omega)]; first | done | omega) | (rw [if_neg (by omega), if_pos (by omega)]; first | done | omega) | (rw [if_neg (by omega), if_neg (by omega), if_pos (by omega)]; first | done | omega) | (rw [if_neg (by omega), if_neg (by omega), if_neg (by omega), if_pos (by omega)]; first | done | omega) | (rw [if_neg (by omega), if_neg (by omega), if_neg (by omega), if_neg (by omega), if_pos (by omega)]; first | done | omega) | (rw [if_neg (by omega), if_neg (by omega), if_neg (by omega), if_neg (by omega), if_neg (by omega), if_pos (by omega)]; first | done | omega) | (rw [if_neg (by omega), if_neg (by omega), if_neg (by omega), if_neg (by omega), if_neg (by omega), if_neg (by omega), if_pos (by omega)]; first | done | omega) | (rw [if_neg (by omega), if_neg (by omega), if_neg (by omega), if_neg (by omega), if_neg (by omega), if_neg (by omega), if_neg (by omega), if_pos (by omega)]; first | done | omega) | (rw [if_neg (by omega), if_neg (by omega), if_neg (by omega), if_neg (by omega), if_neg (by omega), if_neg (by omega), if_neg (by omega), if_neg (by omega), if_pos (by omega)]; first | done | omega) | (rw [if_neg (by omega), if_neg (by omega), if_neg (by omega), if_neg (by omega), if_neg (by omega), if_neg (by omega), if_neg (by omega), if_neg (by omega), if_neg (by omega)]; first | done | omega)), by first | assumption | exact ⟨fun k h1 h2 h3 h4 h5 => by first | rfl | (simp [va_up, h1, h2, h3, h4, h5]; done) | (simp [va_up, h1, h2, h3, h4, h5]; intro e9; rw [e9, hFn]), fun k h1 h2 h3 h4 h5 h6 => by first | rfl | simp [va_up, h1, h2, h3, h4, h5, h6]⟩⟩ rfl (Nat.le_refl _) (Nat.le_refl _)
    · -- 87f
      refine z_iconst hC 90 dX1_count_90 ?_
      have hd0 : dst v 0 n = 0 := by rw [show n = 0 by omega]; exact dst_0 v 0
      refine z_goto hC 91 108 dX1_count_91 rfl ?_
      -- R108.8
      exact z_iret hC hH hQ 108 ((0, F, (va_up Ar 16 zZ))) dX1_count_108 rfl ⟨by (unfold Sp_count; first | (rw [if_pos (by omega)]; first | done | omega) | (rw [if_neg (by omega), if_pos (by omega)]; first | done | omega) | (rw [if_neg (by omega), if_neg (by omega), if_pos (by omega)]; first | done | omega) | (rw [if_neg (by omega), if_neg (by omega), if_neg (by omega), if_pos (by omega)]; first | done | omega) | (rw [if_neg (by omega), if_neg (by omega), if_neg (by omega), if_neg (by omega), if_pos (by omega)]; first | done | omega) | (rw [if_neg (by omega), if_neg (by omega), if_neg (by omega), if_neg (by omega), if_neg (by omega), if_pos (by omega)]; first | done | omega) | (rw [if_neg (by omega), if_neg (by omega), if_neg (by omega), if_neg (by omega), if_neg (by omega), if_neg (by omega), if_pos (by omega)]; first | done | omega) | (rw [if_neg (by omega), if_neg (by omega), if_neg (by omega), if_neg (by omega), if_neg (by omega), if_neg (by omega), if_neg (by omega), if_pos (by omega)]; first | done | omega) | (rw [if_neg (by omega), if_neg (by omega), if_neg (by omega), if_neg (by omega), if_neg (by omega), if_neg (by omega), if_neg (by omega), if_neg (by omega), if_pos (by omega)]; first | done | omega) | (rw [if_neg (by omega), if_neg (by omega), if_neg (by omega), if_neg (by omega), if_neg (by omega), if_neg (by omega), if_neg (by omega), if_neg (by omega), if_neg (by omega)]; first | done | omega)), by first | assumption | exact ⟨fun k h1 h2 h3 h4 h5 => by first | rfl | (simp [va_up, h1, h2, h3, h4, h5]; done) | (simp [va_up, h1, h2, h3, h4, h5]; intro e9; rw [e9, hFn]), fun k h1 h2 h3 h4 h5 h6 => by first | rfl | simp [va_up, h1, h2, h3, h4, h5, h6]⟩⟩ rfl (Nat.le_refl _) (Nat.le_refl _)
  · -- 1:6
    refine z_tsw_in hC 1 109 dX1_count_1 (by omega) hs1 (by decide) (by decide) rfl rfl ?_
    refine z_aload_n hC 109 hl dX1_count_109 rfl 0 rfl ?_
    refine zp_get (v := .int (iZ (un))) hC (va_P_l hH.1) 110 in_X1 rfl 14 (by decide) q224 0 rfl (by rw [← hun_]; rfl) dX1_count_110 ?_
    -- R113.9
    exact z_iret hC hH hQ 113 ((un, F, (va_up Ar 16 zZ))) dX1_count_113 rfl ⟨by (unfold Sp_count; first | (rw [if_pos (by omega)]; first | done | omega) | (rw [if_neg (by omega), if_pos (by omega)]; first | done | omega) | (rw [if_neg (by omega), if_neg (by omega), if_pos (by omega)]; first | done | omega) | (rw [if_neg (by omega), if_neg (by omega), if_neg (by omega), if_pos (by omega)]; first | done | omega) | (rw [if_neg (by omega), if_neg (by omega), if_neg (by omega), if_neg (by omega), if_pos (by omega)]; first | done | omega) | (rw [if_neg (by omega), if_neg (by omega), if_neg (by omega), if_neg (by omega), if_neg (by omega), if_pos (by omega)]; first | done | omega) | (rw [if_neg (by omega), if_neg (by omega), if_neg (by omega), if_neg (by omega), if_neg (by omega), if_neg (by omega), if_pos (by omega)]; first | done | omega) | (rw [if_neg (by omega), if_neg (by omega), if_neg (by omega), if_neg (by omega), if_neg (by omega), if_neg (by omega), if_neg (by omega), if_pos (by omega)]; first | done | omega) | (rw [if_neg (by omega), if_neg (by omega), if_neg (by omega), if_neg (by omega), if_neg (by omega), if_neg (by omega), if_neg (by omega), if_neg (by omega), if_pos (by omega)]; first | done | omega) | (rw [if_neg (by omega), if_neg (by omega), if_neg (by omega), if_neg (by omega), if_neg (by omega), if_neg (by omega), if_neg (by omega), if_neg (by omega), if_neg (by omega)]; first | done | omega)), by first | assumption | exact ⟨fun k h1 h2 h3 h4 h5 => by first | rfl | (simp [va_up, h1, h2, h3, h4, h5]; done) | (simp [va_up, h1, h2, h3, h4, h5]; intro e9; rw [e9, hFn]), fun k h1 h2 h3 h4 h5 h6 => by first | rfl | simp [va_up, h1, h2, h3, h4, h5, h6]⟩⟩ rfl (Nat.le_refl _) (Nat.le_refl _)
  · -- 1:7
    refine z_tsw_in hC 1 114 dX1_count_1 (by omega) hs1 (by decide) (by decide) rfl rfl ?_
    refine z_aload_n hC 114 hl dX1_count_114 rfl 0 rfl ?_
    refine z_same (z_runV hC hH.2.2 hl.1 hH.1 hH.2.1 0 (As := []) (rest := []) (m_X1_weights lau s0 G _ ad F (va_up Ar 16 zZ) kp pl PW n wt (by first | exact hn | assumption | omega) (by first | exact hFn | assumption | omega) (by first | exact hwt | assumption | omega) (by first | exact hAw | assumption | omega)) (lw_V q1358 q1360 qs45 q89 q1361) ⟨rfl, by decide, by decide, by decide +kernel⟩ (q0 := 0) (ci := 1) rfl rfl rfl rfl (Nat.le_of_ble_eq_true rfl) ⟨Nat.le_of_ble_eq_true rfl, Nat.le_of_ble_eq_true rfl⟩ ⟨Nat.le_of_ble_eq_true rfl, Nat.le_of_ble_eq_true rfl⟩ dX1_count_115) hH (fun _ H locs hpost hH => ?_)
    have hH : zH s0 s1 G as0 (dW ad G F (va_up Ar 16 zZ) kp pl PW) H locs := hH
    refine z_st (st' := [.int (iZ (((sm wt 0 n : Nat) : Int)))]) rfl ?_
    -- R118.10
    exact z_iret hC hH hQ 118 ((((sm wt 0 n : Nat) : Int), F, (va_up Ar 16 zZ))) dX1_count_118 rfl ⟨by (unfold Sp_count; first | (rw [if_pos (by omega)]; first | done | omega) | (rw [if_neg (by omega), if_pos (by omega)]; first | done | omega) | (rw [if_neg (by omega), if_neg (by omega), if_pos (by omega)]; first | done | omega) | (rw [if_neg (by omega), if_neg (by omega), if_neg (by omega), if_pos (by omega)]; first | done | omega) | (rw [if_neg (by omega), if_neg (by omega), if_neg (by omega), if_neg (by omega), if_pos (by omega)]; first | done | omega) | (rw [if_neg (by omega), if_neg (by omega), if_neg (by omega), if_neg (by omega), if_neg (by omega), if_pos (by omega)]; first | done | omega) | (rw [if_neg (by omega), if_neg (by omega), if_neg (by omega), if_neg (by omega), if_neg (by omega), if_neg (by omega), if_pos (by omega)]; first | done | omega) | (rw [if_neg (by omega), if_neg (by omega), if_neg (by omega), if_neg (by omega), if_neg (by omega), if_neg (by omega), if_neg (by omega), if_pos (by omega)]; first | done | omega) | (rw [if_neg (by omega), if_neg (by omega), if_neg (by omega), if_neg (by omega), if_neg (by omega), if_neg (by omega), if_neg (by omega), if_neg (by omega), if_pos (by omega)]; first | done | omega) | (rw [if_neg (by omega), if_neg (by omega), if_neg (by omega), if_neg (by omega), if_neg (by omega), if_neg (by omega), if_neg (by omega), if_neg (by omega), if_neg (by omega)]; first | done | omega)), by first | assumption | exact ⟨fun k h1 h2 h3 h4 h5 => by first | rfl | (simp [va_up, h1, h2, h3, h4, h5]; done) | (simp [va_up, h1, h2, h3, h4, h5]; intro e9; rw [e9, hFn]), fun k h1 h2 h3 h4 h5 h6 => by first | rfl | simp [va_up, h1, h2, h3, h4, h5, h6]⟩⟩ rfl (Nat.le_refl _) (Nat.le_refl _)
  · -- 1:8
    refine z_tsw_in hC 1 119 dX1_count_1 (by omega) hs1 (by decide) (by decide) rfl rfl ?_
    refine z_aload_n hC 119 hl dX1_count_119 rfl 0 rfl ?_
    refine zp_get (v := .int (iZ (tp))) hC (va_P_l hH.1) 120 in_X1 rfl 1 (by decide) q207 0 rfl (by rw [← htp_]; rfl) dX1_count_120 ?_
    -- R123.11
    exact z_iret hC hH hQ 123 ((tp, F, (va_up Ar 16 zZ))) dX1_count_123 rfl ⟨by (unfold Sp_count; first | (rw [if_pos (by omega)]; first | done | omega) | (rw [if_neg (by omega), if_pos (by omega)]; first | done | omega) | (rw [if_neg (by omega), if_neg (by omega), if_pos (by omega)]; first | done | omega) | (rw [if_neg (by omega), if_neg (by omega), if_neg (by omega), if_pos (by omega)]; first | done | omega) | (rw [if_neg (by omega), if_neg (by omega), if_neg (by omega), if_neg (by omega), if_pos (by omega)]; first | done | omega) | (rw [if_neg (by omega), if_neg (by omega), if_neg (by omega), if_neg (by omega), if_neg (by omega), if_pos (by omega)]; first | done | omega) | (rw [if_neg (by omega), if_neg (by omega), if_neg (by omega), if_neg (by omega), if_neg (by omega), if_neg (by omega), if_pos (by omega)]; first | done | omega) | (rw [if_neg (by omega), if_neg (by omega), if_neg (by omega), if_neg (by omega), if_neg (by omega), if_neg (by omega), if_neg (by omega), if_pos (by omega)]; first | done | omega) | (rw [if_neg (by omega), if_neg (by omega), if_neg (by omega), if_neg (by omega), if_neg (by omega), if_neg (by omega), if_neg (by omega), if_neg (by omega), if_pos (by omega)]; first | done | omega) | (rw [if_neg (by omega), if_neg (by omega), if_neg (by omega), if_neg (by omega), if_neg (by omega), if_neg (by omega), if_neg (by omega), if_neg (by omega), if_neg (by omega)]; first | done | omega)), by first | assumption | exact ⟨fun k h1 h2 h3 h4 h5 => by first | rfl | (simp [va_up, h1, h2, h3, h4, h5]; done) | (simp [va_up, h1, h2, h3, h4, h5]; intro e9; rw [e9, hFn]), fun k h1 h2 h3 h4 h5 h6 => by first | rfl | simp [va_up, h1, h2, h3, h4, h5, h6]⟩⟩ rfl (Nat.le_refl _) (Nat.le_refl _)

set_option maxHeartbeats 4000000 in
set_option maxRecDepth 100000 in
theorem m_X1_tightest (lau : Launch) (s0 : State) (G : zG) (sz : Nat) (ad : Nat → Nat) (F : Nat → Int) (Ar : Nat → Nat → Int) (kp : Nat → Nat) (pl : Nat → Option Nat) (PW : va_W) (n : Nat) (v : Nat → Nat) (pr : Nat → Nat) (pa : Nat → Nat) (pm : Nat → Nat) (pf : Nat → Nat → Nat) (nw : Nat) (b : Nat) (t : Nat) (k0 : Int) (q : Int) (hn : n ≤ 120) (hFn : F 200 = (n : Int)) (hv : ∀ i, i < n → v i < 1000) (hAv : ∀ i, i < n → Ar 201 i = (v i : Int)) (hb : 2 ≤ b ∧ b ≤ 20) (hFb : F 7 = (b : Int)) (ht : t < 4) (hFt : F 8 = (t : Int)) (hpl : ∀ y, y < 1000 → (pl y = some (pr y) ∨ (pl y = none ∧ pr y = nw))) (hnw : zNwh s0 nw) (hpc : ∀ y, y < 1000 → PlC n v y (pm y) (pf y)) (hpp : zPool s0 G PW pr pa pm pf) (hmo : ∀ i j, i ≤ j → b * j < n → Ar 12 (60 * i + j) = (md v (b * i) (bEnd b j n) t : Int)) (hr_k0 : -2147483648 ≤ k0 ∧ k0 < 2147483648) (hr_q : -2147483648 ≤ q ∧ q < 2147483648) : zMet (S := Int × (Nat → Int) × (Nat → Nat → Int)) lau yX1_tightest cX1_tightest 8 (some .int) 1 25 0 0 s0 G sz [.ref (ad 99), .int (iZ (k0)), .int (iZ (q))] (dW ad G F (va_up Ar 16 zZ) kp pl PW) (fun ((r_, F2, A2) : Int × (Nat → Int) × (Nat → Nat → Int)) => some (.int (iZ (r_)))) (fun ((r_, F2, A2) : Int × (Nat → Int) × (Nat → Nat → Int)) => (Sp_tightest n v k0 q r_) ∧ (DK F (va_up Ar 16 zZ) F2 A2)) (fun ((r_, F2, A2) : Int × (Nat → Int) × (Nat → Nat → Int)) => (dW ad G F2 A2 kp pl PW)) := by
  refine zMet.of (by decide) (Nat.le_of_ble_eq_true rfl) ?_
  intro pg ev s1 mi ar bl me cd ls Q as0 hC hH hl hQ hsz
  generalize s1.heap = H at hH ⊢
  generalize ([] : List Loc) = locs at hH ⊢
  have hl : lv_has ls 8 [(0, .ref (ad 99)), (1, .int (iZ (k0))), (2, .int (iZ (q)))] := hl
  refine z_iload_n hC 0 hl dX1_tightest_0 rfl 1 rfl ?_
  refine z_iconst hC 1 dX1_tightest_1 ?_
  refine z_icmp_lt hC 2 17 dX1_tightest_2 rfl (by omega) (by omega) (fun hb1 => ?_) (fun hb1 => ?_)
  · -- 2t
    refine z_iconst hC 17 dX1_tightest_17 ?_
    -- R18.1
    exact z_iret hC hH hQ 18 (((-1), F, (va_up Ar 16 zZ))) dX1_tightest_18 rfl ⟨by first | (unfold Sp_tightest; rw [if_neg (by omega)]) | (unfold Sp_tightest; rw [if_pos (by omega)]; (try simp only [Int.toNat_natCast, zt1]); first | done | trivial | rfl | omega | (rw [if_pos (by omega)]; first | done | trivial | rfl | omega) | (rw [if_neg (by omega)]; first | done | trivial | rfl | omega)), by first | assumption | exact ⟨fun k h1 h2 h3 h4 h5 => by first | rfl | (simp [va_up, h1, h2, h3, h4, h5]; done) | (simp [va_up, h1, h2, h3, h4, h5]; intro e9; rw [e9, hFn]), fun k h1 h2 h3 h4 h5 h6 => by first | rfl | simp [va_up, h1, h2, h3, h4, h5, h6]⟩⟩ rfl (Nat.le_refl _) (Nat.le_refl _)
  · -- 2f
    refine z_iload_n hC 5 hl dX1_tightest_5 rfl 2 rfl ?_
    refine z_i2l hC 6 dX1_tightest_6 (by omega) ?_
    refine z_lconst (a := 0) hC 7 dX1_tightest_7 rfl ?_
    refine z_ldc2 (a := 2) hC 8 q1144 rfl dX1_tightest_8 ?_
    refine zp_back (zp_runS hC (hH.2.2) hl.1 (zp_nil) 3 (As := [.long (lZ (q)), .long (lZ (0)), .long (lZ (2))]) (rest := []) (u_X1_isIn lau s0 G q 0 2 (by first | assumption | omega) (by first | assumption | omega) (by first | assumption | omega)) (lw_S q303 q304 q89 q305) ⟨by decide, by decide, by decide +kernel⟩ rfl rfl (Nat.le_of_ble_eq_true rfl) ⟨Nat.le_of_ble_eq_true rfl, Nat.le_of_ble_eq_true rfl⟩ ⟨by first | decide | omega, by first | decide | omega⟩ dX1_tightest_11) (fun r_11 hpost => ?_)
    have hb_11 : (r_11 = 1 ∧ ((0 : Int) ≤ q ∧ q ≤ (2 : Int))) ∨ (r_11 = 0 ∧ ¬ ((0 : Int) ≤ q ∧ q ≤ (2 : Int))) := hpost
    refine z_st (st' := [.int (iZ (r_11))]) rfl ?_
    rcases hb_11 with ⟨rfl, hb_11⟩ | ⟨rfl, hb_11⟩
    · -- 11=1
      refine z_if_ne_t hC 14 19 dX1_tightest_14 rfl (by omega) (by omega) ?_
      obtain ⟨k1, rfl⟩ := Int.eq_ofNat_of_zero_le (show 0 ≤ k0 by omega)
      refine z_iconst hC 19 dX1_tightest_19 ?_
      refine z_istore_n (lv' := [(3, .int (iZ ((-1)))), (0, .ref (ad 99)), (1, .int (iZ ((k1 : Int)))), (2, .int (iZ (q)))]) hC 20 hl dX1_tightest_20 rfl (by decide) rfl (fun ls hl => ?_)
      refine z_bipush hC 21 dX1_tightest_21 rfl ?_
      refine z_istore (lv' := [(4, .int (iZ (121))), (3, .int (iZ ((-1)))), (0, .ref (ad 99)), (1, .int (iZ ((k1 : Int)))), (2, .int (iZ (q)))]) hC 23 hl dX1_tightest_23 (by decide) rfl (fun ls hl => ?_)
      refine z_iconst hC 25 dX1_tightest_25 ?_
      refine z_istore (lv' := [(5, .int (iZ (0))), (4, .int (iZ (121))), (3, .int (iZ ((-1)))), (0, .ref (ad 99)), (1, .int (iZ ((k1 : Int)))), (2, .int (iZ (q)))]) hC 26 hl dX1_tightest_26 (by decide) rfl (fun ls hl => ?_)
      have L28 : ∀ (N_ : Nat) (p : Nat) (be : Int) (fw : Int) (H : Heap) (locs : List Loc) (ls : Array Slot), n - p < N_ → (p ≤ n) → (-1 ≤ be ∧ be < 120) → (0 ≤ fw ∧ fw ≤ 121) → (TB v n (k1 : Int) p (bNo be) fw) → zH s0 s1 G as0 (dW ad G F (va_up Ar 16 zZ) kp pl PW) H locs → lv_has ls 8 [(0, .ref (ad 99)), (1, .int (iZ ((k1 : Int)))), (2, .int (iZ (q))), (3, .int (iZ (be))), (4, .int (iZ (fw))), (5, .int (iZ ((p : Int))))] → W pg lau ev (zRm 1 0 0 25) s1 mi ar bl me cd H locs 0 0 Q (F0 mi 28 ls []) := by
        intro N_
        induction N_ with
        | zero => intro p be fw H locs ls hd; exact absurd hd (Nat.not_lt_zero _)
        | succ N_ ih28 =>
          intro p be fw H locs ls hd28 i28_1 i28_2 i28_3 ib hH hl
          have hbb := bNo_b ib (by omega)
          refine z_iload hC 28 hl dX1_tightest_28 5 rfl ?_
          refine z_aload_n hC 30 hl dX1_tightest_30 rfl 0 rfl ?_
          refine zp_get (v := .ref (ad 200)) hC (va_P_l hH.1) 31 in_X1 rfl 4 (by decide) q210 0 rfl (rfl) dX1_tightest_31 ?_
          refine zp_getN (v := .int (iZ ((n : Int)))) hC (va_P_l hH.1) 34 in_X2 rfl 2 (by decide) q149 11 rfl (by rw [← hFn]; rfl) dX1_tightest_34 ?_
          refine z_icmp_ge hC 37 134 dX1_tightest_37 rfl (by omega) (by omega) (fun hb2 => ?_) (fun hb2 => ?_)
          · -- 37t
            have ep : p = n := by omega
            rw [ep] at ib
            have hbb := bNo_b ib (by omega)
            refine z_iload_n hC 134 hl dX1_tightest_134 rfl 3 rfl ?_
            refine z_iconst hC 135 dX1_tightest_135 ?_
            refine z_icmp_ne hC 136 144 dX1_tightest_136 rfl (by omega) (by omega) (fun hb3 => ?_) (fun hb3 => ?_)
            · -- 136t
              refine z_iload_n hC 144 hl dX1_tightest_144 rfl 2 rfl ?_
              refine z_if_ne hC 145 152 dX1_tightest_145 rfl (by omega) (fun hb4 => ?_) (fun hb4 => ?_)
              · -- 145t
                refine z_iload_n hC 152 hl dX1_tightest_152 rfl 2 rfl ?_
                refine z_iconst hC 153 dX1_tightest_153 ?_
                refine z_icmp_ne hC 154 166 dX1_tightest_154 rfl (by omega) (by omega) (fun hb5 => ?_) (fun hb5 => ?_)
                · -- 154t
                  have hvb := hv (be).toNat (by omega)
                  refine z_aload_n hC 166 hl dX1_tightest_166 rfl 0 rfl ?_
                  refine zp_get (v := .ref (ad 200)) hC (va_P_l hH.1) 167 in_X1 rfl 4 (by decide) q210 0 rfl (rfl) dX1_tightest_167 ?_
                  refine zp_getN (v := .ref (ad 201)) hC (va_P_l hH.1) 170 in_X2 rfl 0 (by decide) q141 11 rfl (rfl) dX1_tightest_170 ?_
                  refine z_iload_n hC 173 hl dX1_tightest_173 rfl 3 rfl ?_
                  refine zp_iald (f := (Ar 201)) (x := ((v ((be).toNat) : Nat) : Int)) hC (va_P_l hH.1) 174 12 ((be).toNat) rfl (by decide) (by omega) (by omega) (hAv ((be).toNat) (by omega)) dX1_tightest_174 ?_
                  -- R175.2
                  exact z_iret hC hH hQ 175 ((((v ((be).toNat) : Nat) : Int), F, (va_up Ar 16 zZ))) dX1_tightest_175 rfl ⟨by (unfold Sp_tightest; rw [if_pos (by omega)]; refine ⟨bNo be, fw, ib, ?_⟩; first | (rw [if_pos (show bNo be = -2 by unfold bNo; rw [if_pos (by omega)])]; done) | (have hbn : bNo be = be := (by unfold bNo; rw [if_neg (by omega)]); rw [hbn, if_neg (by omega)]; first | (rw [if_pos (by omega)]; done) | (rw [if_neg (by omega), if_pos (by omega)]; done) | (rw [if_neg (by omega), if_neg (by omega)]; done))), by first | assumption | exact ⟨fun k h1 h2 h3 h4 h5 => by first | rfl | (simp [va_up, h1, h2, h3, h4, h5]; done) | (simp [va_up, h1, h2, h3, h4, h5]; intro e9; rw [e9, hFn]), fun k h1 h2 h3 h4 h5 h6 => by first | rfl | simp [va_up, h1, h2, h3, h4, h5, h6]⟩⟩ rfl (Nat.le_refl _) (Nat.le_refl _)
                · -- 154f
                  refine z_iload_n hC 157 hl dX1_tightest_157 rfl 3 rfl ?_
                  refine z_iload hC 158 hl dX1_tightest_158 4 rfl ?_
                  refine z_iadd (e := be + fw) hC 160 dX1_tightest_160 rfl ?_
                  refine z_iconst hC 161 dX1_tightest_161 ?_
                  refine z_isub (e := be + fw - 1) hC 162 dX1_tightest_162 rfl ?_
                  refine z_goto hC 163 175 dX1_tightest_163 rfl ?_
                  -- R175.3
                  refine z_st (st' := [.int (iZ ((be + fw - 1)))]) (zcons (zieq (by first | assumption | omega)) rfl) ?_
                  exact z_iret hC hH hQ 175 ((be + fw - 1, F, (va_up Ar 16 zZ))) dX1_tightest_175 rfl ⟨by (unfold Sp_tightest; rw [if_pos (by omega)]; refine ⟨bNo be, fw, ib, ?_⟩; first | (rw [if_pos (show bNo be = -2 by unfold bNo; rw [if_pos (by omega)])]; done) | (have hbn : bNo be = be := (by unfold bNo; rw [if_neg (by omega)]); rw [hbn, if_neg (by omega)]; first | (rw [if_pos (by omega)]; done) | (rw [if_neg (by omega), if_pos (by omega)]; done) | (rw [if_neg (by omega), if_neg (by omega)]; done))), by first | assumption | exact ⟨fun k h1 h2 h3 h4 h5 => by first | rfl | (simp [va_up, h1, h2, h3, h4, h5]; done) | (simp [va_up, h1, h2, h3, h4, h5]; intro e9; rw [e9, hFn]), fun k h1 h2 h3 h4 h5 h6 => by first | rfl | simp [va_up, h1, h2, h3, h4, h5, h6]⟩⟩ rfl (Nat.le_refl _) (Nat.le_refl _)
              · -- 145f
                refine z_iload_n hC 148 hl dX1_tightest_148 rfl 3 rfl ?_
                refine z_goto hC 149 175 dX1_tightest_149 rfl ?_
                -- R175.4
                exact z_iret hC hH hQ 175 ((be, F, (va_up Ar 16 zZ))) dX1_tightest_175 rfl ⟨by (unfold Sp_tightest; rw [if_pos (by omega)]; refine ⟨bNo be, fw, ib, ?_⟩; first | (rw [if_pos (show bNo be = -2 by unfold bNo; rw [if_pos (by omega)])]; done) | (have hbn : bNo be = be := (by unfold bNo; rw [if_neg (by omega)]); rw [hbn, if_neg (by omega)]; first | (rw [if_pos (by omega)]; done) | (rw [if_neg (by omega), if_pos (by omega)]; done) | (rw [if_neg (by omega), if_neg (by omega)]; done))), by first | assumption | exact ⟨fun k h1 h2 h3 h4 h5 => by first | rfl | (simp [va_up, h1, h2, h3, h4, h5]; done) | (simp [va_up, h1, h2, h3, h4, h5]; intro e9; rw [e9, hFn]), fun k h1 h2 h3 h4 h5 h6 => by first | rfl | simp [va_up, h1, h2, h3, h4, h5, h6]⟩⟩ rfl (Nat.le_refl _) (Nat.le_refl _)
            · -- 136f
              refine z_bipush hC 139 dX1_tightest_139 rfl ?_
              refine z_goto hC 141 175 dX1_tightest_141 rfl ?_
              -- R175.5
              exact z_iret hC hH hQ 175 (((-2), F, (va_up Ar 16 zZ))) dX1_tightest_175 rfl ⟨by (unfold Sp_tightest; rw [if_pos (by omega)]; refine ⟨bNo be, fw, ib, ?_⟩; first | (rw [if_pos (show bNo be = -2 by unfold bNo; rw [if_pos (by omega)])]; done) | (have hbn : bNo be = be := (by unfold bNo; rw [if_neg (by omega)]); rw [hbn, if_neg (by omega)]; first | (rw [if_pos (by omega)]; done) | (rw [if_neg (by omega), if_pos (by omega)]; done) | (rw [if_neg (by omega), if_neg (by omega)]; done))), by first | assumption | exact ⟨fun k h1 h2 h3 h4 h5 => by first | rfl | (simp [va_up, h1, h2, h3, h4, h5]; done) | (simp [va_up, h1, h2, h3, h4, h5]; intro e9; rw [e9, hFn]), fun k h1 h2 h3 h4 h5 h6 => by first | rfl | simp [va_up, h1, h2, h3, h4, h5, h6]⟩⟩ rfl (Nat.le_refl _) (Nat.le_refl _)
          · -- 37f
            have hvp := hv p (by omega)
            have hpm := (hpc (v p) hvp).1
            have hcn := cnt_le v 0 n (v p)
            have hpq := plq_n (show p ≤ n by omega)
            have hq0 : cnt v 0 (plq (p : Int) n) (v p) = cnt v 0 p (v p) := by rw [hpq]
            have hsp := cnt_split (v := v) (x := v p) (Nat.zero_le p) (show p ≤ n by omega)
            refine z_aload_n hC 40 hl dX1_tightest_40 rfl 0 rfl ?_
            refine z_aload_n hC 41 hl dX1_tightest_41 rfl 0 rfl ?_
            refine zp_get (v := .ref (ad 200)) hC (va_P_l hH.1) 42 in_X1 rfl 4 (by decide) q210 0 rfl (rfl) dX1_tightest_42 ?_
            refine zp_getN (v := .ref (ad 201)) hC (va_P_l hH.1) 45 in_X2 rfl 0 (by decide) q141 11 rfl (rfl) dX1_tightest_45 ?_
            refine z_iload hC 48 hl dX1_tightest_48 5 rfl ?_
            refine zp_iald (f := (Ar 201)) (x := ((v (p) : Nat) : Int)) hC (va_P_l hH.1) 50 12 (p) rfl (by decide) (by omega) (by omega) (hAv (p) (by omega)) dX1_tightest_50 ?_
            refine zp_back (zp_runV hC (hH.2.2) hl.1 (va_P_l hH.1) 1 (As := [.int (iZ (((v (p) : Nat) : Int)))]) (rest := []) (u_X1_of lau s0 G ad F (va_up Ar 16 zZ) kp pl (v (p)) (pr (v (p))) nw (by first | assumption | omega) (by first | exact hpl | (first | assumption | exact hpl _ (by omega)) | assumption | omega) (by first | exact hnw | assumption | omega)) (lw_V q736 q738 qs17 q89 q739) ⟨rfl, by decide, by decide, by decide +kernel⟩ (q0 := 0) (ci := 1) rfl rfl rfl rfl (Nat.le_of_ble_eq_true rfl) ⟨Nat.le_of_ble_eq_true rfl, Nat.le_of_ble_eq_true rfl⟩ ⟨by first | decide | omega, by first | decide | omega⟩ dX1_tightest_51) (fun _ hpost => ?_)
            refine z_st (st' := [.ref ((pr (v (p))))]) rfl ?_
            refine z_astore (lv' := [(6, .ref ((pr (v (p))))), (0, .ref (ad 99)), (1, .int (iZ ((k1 : Int)))), (2, .int (iZ (q))), (3, .int (iZ (be))), (4, .int (iZ (fw))), (5, .int (iZ ((p : Int))))]) hC 54 hl dX1_tightest_54 (by decide) rfl (fun ls hl => ?_)
            refine z_iload_n hC 56 hl dX1_tightest_56 rfl 2 rfl ?_
            refine z_aload hC 57 hl dX1_tightest_57 0 rfl ?_
            refine zw_manyN hC hH.2.2 (dWp hH hpp (y := (v (p))) (by omega)) 59 q709 dX1_tightest_59 ?_
            refine z_aload hC 62 hl dX1_tightest_62 0 rfl ?_
            refine z_iload hC 64 hl dX1_tightest_64 6 rfl ?_
            refine zp_back (zw_run hC (hH.2.2) hl.1 ((dWp hH hpp (y := (v (p))) (by omega))) 1 (As := [.int (iZ ((p : Int)))]) (rest := [.int (iZ (((pm (v (p)) : Nat) : Int))), .int (iZ ((k1 : Int)))]) (u_X10_ahead lau s0 G (pr (v (p))) (pa ((v (p)))) (pm ((v (p)))) (pf ((v (p)))) n v ((v (p))) (p : Int) (by first | exact hn | assumption | omega) (by exact hpc _ (by omega)) (by first | assumption | omega)) (fun hx0 hO0 => u_X10_ahead_nw lau s0 G (pr (v (p))) (pa ((v (p)))) (pm ((v (p)))) (pf ((v (p)))) n v ((v (p))) (p : Int) (by first | exact hn | assumption | omega) (by exact hpc _ (by omega)) (by first | assumption | omega) hx0 hO0) (lw_V q764 q747 q748 q110 q749) ⟨rfl, by decide, by decide, by decide +kernel⟩ rfl rfl (Nat.le_of_ble_eq_true rfl) ⟨Nat.le_of_ble_eq_true rfl, Nat.le_of_ble_eq_true rfl⟩ ⟨by first | decide | omega, by first | decide | omega⟩ dX1_tightest_66) (fun _ hpost => ?_)
            refine z_st (st' := [.int (iZ (((cnt v 0 (plq (p : Int) n) ((v (p))) : Nat) : Int))), .int (iZ (((pm (v (p)) : Nat) : Int))), .int (iZ ((k1 : Int)))]) rfl ?_
            refine z_isub (e := ((pm (v (p)) : Nat) : Int) - ((cnt v 0 (plq (p : Int) n) ((v (p))) : Nat) : Int)) hC 69 dX1_tightest_69 rfl ?_
            refine z_icmp_le hC 70 76 dX1_tightest_70 rfl (by omega) (by omega) (fun hb6 => ?_) (fun hb6 => ?_)
            · -- 70t
              obtain ⟨f1, f2, f3⟩ := (hpc (v p) hvp).2 (cnt v 0 (plq (p : Int) n) (v p) + k1 - 1) (by omega)
              have hge := pl_ge f2 f3 (show cnt v 0 p (v p) ≤ cnt v 0 (plq (p : Int) n) (v p) + k1 - 1 by omega)
              have htw := TW_pl hge f1 f2 (show 1 ≤ k1 by omega) (by omega)
              have hwd : ((pf (v p) (cnt v 0 (plq (p : Int) n) (v p) + k1 - 1) - p + 1 : Nat) : Int) = ((pf (v p) (cnt v 0 (plq (p : Int) n) (v p) + k1 - 1) : Nat) : Int) - (p : Int) + 1 := by omega
              refine z_aload hC 76 hl dX1_tightest_76 0 rfl ?_
              refine z_iload hC 78 hl dX1_tightest_78 6 rfl ?_
              refine zp_back (zw_run hC (hH.2.2) hl.1 ((dWp hH hpp (y := (v (p))) (by omega))) 1 (As := [.int (iZ ((p : Int)))]) (rest := []) (u_X10_ahead lau s0 G (pr (v (p))) (pa ((v (p)))) (pm ((v (p)))) (pf ((v (p)))) n v ((v (p))) (p : Int) (by first | exact hn | assumption | omega) (by exact hpc _ (by omega)) (by first | assumption | omega)) (fun hx0 hO0 => u_X10_ahead_nw lau s0 G (pr (v (p))) (pa ((v (p)))) (pm ((v (p)))) (pf ((v (p)))) n v ((v (p))) (p : Int) (by first | exact hn | assumption | omega) (by exact hpc _ (by omega)) (by first | assumption | omega) hx0 hO0) (lw_V q764 q747 q748 q110 q749) ⟨rfl, by decide, by decide, by decide +kernel⟩ rfl rfl (Nat.le_of_ble_eq_true rfl) ⟨Nat.le_of_ble_eq_true rfl, Nat.le_of_ble_eq_true rfl⟩ ⟨by first | decide | omega, by first | decide | omega⟩ dX1_tightest_80) (fun _ hpost => ?_)
              refine z_st (st' := [.int (iZ (((cnt v 0 (plq (p : Int) n) ((v (p))) : Nat) : Int)))]) rfl ?_
              refine z_iload_n hC 83 hl dX1_tightest_83 rfl 2 rfl ?_
              refine z_iadd (e := ((cnt v 0 (plq (p : Int) n) ((v (p))) : Nat) : Int) + (k1 : Int)) hC 84 dX1_tightest_84 rfl ?_
              refine z_iconst hC 85 dX1_tightest_85 ?_
              refine z_isub (e := ((cnt v 0 (plq (p : Int) n) ((v (p))) : Nat) : Int) + (k1 : Int) - 1) hC 86 dX1_tightest_86 rfl ?_
              refine z_istore (lv' := [(7, .int (iZ (((cnt v 0 (plq (p : Int) n) ((v (p))) : Nat) : Int) + (k1 : Int) - 1))), (6, .ref ((pr (v (p))))), (0, .ref (ad 99)), (1, .int (iZ ((k1 : Int)))), (2, .int (iZ (q))), (3, .int (iZ (be))), (4, .int (iZ (fw))), (5, .int (iZ ((p : Int))))]) hC 87 hl dX1_tightest_87 (by decide) rfl (fun ls hl => ?_)
              refine z_aload hC 89 hl dX1_tightest_89 1 rfl ?_
              refine zp_getN (v := .ref (pa (v (p)))) hC (dWq hH hpp (y := (v (p))) (by omega) (by first | assumption | omega)) 91 in_X10 rfl 0 (by decide) q706 0 rfl (rfl) dX1_tightest_91 ?_
              refine z_iload hC 94 hl dX1_tightest_94 0 rfl ?_
              refine zp_iald (x := ((pf (v (p)) ((cnt v 0 (plq (p : Int) n) ((v (p)))) + k1 - 1) : Nat) : Int)) hC (dWq hH hpp (y := (v (p))) (by omega) (by first | assumption | omega)) 96 1 ((cnt v 0 (plq (p : Int) n) ((v (p)))) + k1 - 1) rfl (by decide) (by omega) (by omega) rfl dX1_tightest_96 ?_
              refine z_iload hC 97 hl dX1_tightest_97 7 rfl ?_
              refine z_isub (e := ((pf (v (p)) ((cnt v 0 (plq (p : Int) n) ((v (p)))) + k1 - 1) : Nat) : Int) - (p : Int)) hC 99 dX1_tightest_99 rfl ?_
              refine z_iconst hC 100 dX1_tightest_100 ?_
              refine z_iadd (e := ((pf (v (p)) ((cnt v 0 (plq (p : Int) n) ((v (p)))) + k1 - 1) : Nat) : Int) - (p : Int) + 1) hC 101 dX1_tightest_101 rfl ?_
              refine z_iload hC 102 hl dX1_tightest_102 6 rfl ?_
              refine z_icmp_lt hC 104 110 dX1_tightest_104 rfl (by omega) (by omega) (fun hb7 => ?_) (fun hb7 => ?_)
              · -- 104t
                refine z_iload hC 110 hl dX1_tightest_110 7 rfl ?_
                refine z_istore_n (lv' := [(3, .int (iZ ((p : Int)))), (7, .int (iZ (((cnt v 0 (plq (p : Int) n) ((v (p))) : Nat) : Int) + (k1 : Int) - 1))), (6, .ref ((pr (v (p))))), (0, .ref (ad 99)), (1, .int (iZ ((k1 : Int)))), (2, .int (iZ (q))), (4, .int (iZ (fw))), (5, .int (iZ ((p : Int))))]) hC 112 hl dX1_tightest_112 rfl (by decide) rfl (fun ls hl => ?_)
                refine z_aload hC 113 hl dX1_tightest_113 2 rfl ?_
                refine zp_getN (v := .ref (pa (v (p)))) hC (dWq hH hpp (y := (v (p))) (by omega) (by first | assumption | omega)) 115 in_X10 rfl 0 (by decide) q706 0 rfl (rfl) dX1_tightest_115 ?_
                refine z_iload hC 118 hl dX1_tightest_118 1 rfl ?_
                refine zp_iald (x := ((pf (v (p)) ((cnt v 0 (plq (p : Int) n) ((v (p)))) + k1 - 1) : Nat) : Int)) hC (dWq hH hpp (y := (v (p))) (by omega) (by first | assumption | omega)) 120 1 ((cnt v 0 (plq (p : Int) n) ((v (p)))) + k1 - 1) rfl (by decide) (by omega) (by omega) rfl dX1_tightest_120 ?_
                refine z_iload hC 121 hl dX1_tightest_121 7 rfl ?_
                refine z_isub (e := ((pf (v (p)) ((cnt v 0 (plq (p : Int) n) ((v (p)))) + k1 - 1) : Nat) : Int) - (p : Int)) hC 123 dX1_tightest_123 rfl ?_
                refine z_iconst hC 124 dX1_tightest_124 ?_
                refine z_iadd (e := ((pf (v (p)) ((cnt v 0 (plq (p : Int) n) ((v (p)))) + k1 - 1) : Nat) : Int) - (p : Int) + 1) hC 125 dX1_tightest_125 rfl ?_
                refine z_istore (lv' := [(4, .int (iZ (((pf (v (p)) ((cnt v 0 (plq (p : Int) n) ((v (p)))) + k1 - 1) : Nat) : Int) - (p : Int) + 1))), (3, .int (iZ ((p : Int)))), (7, .int (iZ (((cnt v 0 (plq (p : Int) n) ((v (p))) : Nat) : Int) + (k1 : Int) - 1))), (6, .ref ((pr (v (p))))), (0, .ref (ad 99)), (1, .int (iZ ((k1 : Int)))), (2, .int (iZ (q))), (5, .int (iZ ((p : Int))))]) hC 126 hl dX1_tightest_126 (by decide) rfl (fun ls hl => ?_)
                refine z_iinc (lv' := [(5, .int (iZ ((p : Int) + 1))), (4, .int (iZ (((pf (v (p)) ((cnt v 0 (plq (p : Int) n) ((v (p)))) + k1 - 1) : Nat) : Int) - (p : Int) + 1))), (3, .int (iZ ((p : Int)))), (7, .int (iZ (((cnt v 0 (plq (p : Int) n) ((v (p))) : Nat) : Int) + (k1 : Int) - 1))), (6, .ref ((pr (v (p))))), (0, .ref (ad 99)), (1, .int (iZ ((k1 : Int)))), (2, .int (iZ (q)))]) hC 128 hl dX1_tightest_128 7 rfl (by omega) (by decide) rfl (fun ls hl => ?_)
                refine z_goto hC 131 28 dX1_tightest_131 rfl ?_
                -- J28.6
                exact ih28 (p + 1) (p : Int) (((pf (v (p)) ((cnt v 0 (plq (p : Int) n) ((v (p)))) + k1 - 1) : Nat) : Int) - (p : Int) + 1) _ _ _ (by omega) (by first | assumption | omega) (by first | assumption | omega) (by first | assumption | omega) (by first | exact TB_0 | (have q9 := TB_dnew ib htw (by omega); rw [hwd] at q9; exact q9) | exact TB_dskip ib htw (by omega) (by omega) hn | exact TB_dno ib (TW_nopl (by omega) (by omega))) hH (z_lv (lv_sub hl [5, 6, 7, 2, 1, 0] rfl) (zcons rfl (zcons rfl (zcons rfl (zcons rfl (zcons (zpeq (by omega)) (zcons (zpeq (by omega)) rfl)))))))
              · -- 104f
                refine z_goto hC 107 128 dX1_tightest_107 rfl ?_
                refine z_iinc (lv' := [(5, .int (iZ ((p : Int) + 1))), (7, .int (iZ (((cnt v 0 (plq (p : Int) n) ((v (p))) : Nat) : Int) + (k1 : Int) - 1))), (6, .ref ((pr (v (p))))), (0, .ref (ad 99)), (1, .int (iZ ((k1 : Int)))), (2, .int (iZ (q))), (3, .int (iZ (be))), (4, .int (iZ (fw)))]) hC 128 hl dX1_tightest_128 7 rfl (by omega) (by decide) rfl (fun ls hl => ?_)
                refine z_goto hC 131 28 dX1_tightest_131 rfl ?_
                -- J28.7
                exact ih28 (p + 1) be fw _ _ _ (by omega) (by first | assumption | omega) (by first | assumption | omega) (by first | assumption | omega) (by first | exact TB_0 | (have q9 := TB_dnew ib htw (by omega); rw [hwd] at q9; exact q9) | exact TB_dskip ib htw (by omega) (by omega) hn | exact TB_dno ib (TW_nopl (by omega) (by omega))) hH (z_lv (lv_sub hl [3, 4, 5, 6, 7, 0] rfl) (zcons rfl (zcons rfl (zcons rfl (zcons rfl (zcons rfl (zcons (zpeq (by omega)) rfl)))))))
            · -- 70f
              refine z_goto hC 73 128 dX1_tightest_73 rfl ?_
              refine z_iinc (lv' := [(5, .int (iZ ((p : Int) + 1))), (6, .ref ((pr (v (p))))), (0, .ref (ad 99)), (1, .int (iZ ((k1 : Int)))), (2, .int (iZ (q))), (3, .int (iZ (be))), (4, .int (iZ (fw)))]) hC 128 hl dX1_tightest_128 6 rfl (by omega) (by decide) rfl (fun ls hl => ?_)
              refine z_goto hC 131 28 dX1_tightest_131 rfl ?_
              -- J28.8
              exact ih28 (p + 1) be fw _ _ _ (by omega) (by first | assumption | omega) (by first | assumption | omega) (by first | assumption | omega) (by first | exact TB_0 | (have q9 := TB_dnew ib htw (by omega); rw [hwd] at q9; exact q9) | exact TB_dskip ib htw (by omega) (by omega) hn | exact TB_dno ib (TW_nopl (by omega) (by omega))) hH (z_lv (lv_sub hl [2, 3, 4, 5, 6, 0] rfl) (zcons rfl (zcons rfl (zcons rfl (zcons rfl (zcons rfl (zcons (zpeq (by omega)) rfl)))))))
      -- J28.9
      exact L28 _ 0 (-1) 121 _ _ _ (Nat.lt_succ_self _) (by first | assumption | omega) (by first | assumption | omega) (by first | assumption | omega) (by first | exact TB_0 | (have q9 := TB_dnew ib htw (by omega); rw [hwd] at q9; exact q9) | exact TB_dskip ib htw (by omega) (by omega) hn | exact TB_dno ib (TW_nopl (by omega) (by omega))) hH (z_lv (lv_sub hl [3, 4, 5, 2, 1, 0] rfl) (zcons rfl (zcons rfl (zcons rfl (zcons rfl (zcons rfl (zcons (zpeq (by omega)) rfl)))))))
    · -- 11=0
      refine z_if_ne_f hC 14 19 dX1_tightest_14 rfl (by omega) (by omega) ?_
      refine z_iconst hC 17 dX1_tightest_17 ?_
      -- R18.10
      exact z_iret hC hH hQ 18 (((-1), F, (va_up Ar 16 zZ))) dX1_tightest_18 rfl ⟨by first | (unfold Sp_tightest; rw [if_neg (by omega)]) | (unfold Sp_tightest; rw [if_pos (by omega)]; (try simp only [Int.toNat_natCast, zt1]); first | done | trivial | rfl | omega | (rw [if_pos (by omega)]; first | done | trivial | rfl | omega) | (rw [if_neg (by omega)]; first | done | trivial | rfl | omega)), by first | assumption | exact ⟨fun k h1 h2 h3 h4 h5 => by first | rfl | (simp [va_up, h1, h2, h3, h4, h5]; done) | (simp [va_up, h1, h2, h3, h4, h5]; intro e9; rw [e9, hFn]), fun k h1 h2 h3 h4 h5 h6 => by first | rfl | simp [va_up, h1, h2, h3, h4, h5, h6]⟩⟩ rfl (Nat.le_refl _) (Nat.le_refl _)
