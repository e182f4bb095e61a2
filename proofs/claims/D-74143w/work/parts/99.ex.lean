/-! methods of ModeDesk that write: 99.ex -/
set_option maxHeartbeats 16000000 in
set_option maxRecDepth 100000 in
theorem m_X1_windows (lau : Launch) (s0 : State) (G : zG) (sz : Nat) (ad : Nat → Nat) (F : Nat → Int) (Ar : Nat → Nat → Int) (kp : Nat → Nat) (pl : Nat → Option Nat) (PW : va_W) (n : Nat) (v : Nat → Nat) (pr : Nat → Nat) (pa : Nat → Nat) (pm : Nat → Nat) (pf : Nat → Nat → Nat) (nw : Nat) (b : Nat) (t : Nat) (wd : Int) (q : Int) (hn : n ≤ 120) (hFn : F 200 = (n : Int)) (hv : ∀ i, i < n → v i < 1000) (hAv : ∀ i, i < n → Ar 201 i = (v i : Int)) (hb : 2 ≤ b ∧ b ≤ 20) (hFb : F 7 = (b : Int)) (ht : t < 4) (hFt : F 8 = (t : Int)) (hpl : ∀ y, y < 1000 → (pl y = some (pr y) ∨ (pl y = none ∧ pr y = nw))) (hnw : zNwh s0 nw) (hpc : ∀ y, y < 1000 → PlC n v y (pm y) (pf y)) (hpp : zPool s0 G PW pr pa pm pf) (hmo : ∀ i j, i ≤ j → b * j < n → Ar 12 (60 * i + j) = (md v (b * i) (bEnd b j n) t : Int)) (hr_wd : -2147483648 ≤ wd ∧ wd < 2147483648) (hr_q : -2147483648 ≤ q ∧ q < 2147483648) (hB : zBxs s0) : zMet (S := Int × (Nat → Int) × (Nat → Nat → Int)) lau yX1_windows cX1_windows 8 (some .int) 8 200 122 124 s0 G sz [.ref (ad 99), .int (iZ (wd)), .int (iZ (q))] (dW ad G F (va_up Ar 16 zZ) kp pl PW) (fun ((r_, F2, A2) : Int × (Nat → Int) × (Nat → Nat → Int)) => some (.int (iZ (r_)))) (fun ((r_, F2, A2) : Int × (Nat → Int) × (Nat → Nat → Int)) => (Sp_windows n v t wd q r_) ∧ (DK F (va_up Ar 16 zZ) F2 A2)) (fun ((r_, F2, A2) : Int × (Nat → Int) × (Nat → Nat → Int)) => (dW ad G F2 A2 kp pl PW)) := by
  refine zMet.of (by decide) (Nat.le_of_ble_eq_true rfl) ?_
  intro pg ev s1 mi ar bl me cd ls Q as0 hC hH hl hQ hsz
  generalize s1.heap = H at hH ⊢
  generalize ([] : List Loc) = locs at hH ⊢
  have hl : lv_has ls 8 [(0, .ref (ad 99)), (1, .int (iZ (wd))), (2, .int (iZ (q)))] := hl
  refine z_iload_n hC 0 hl dX1_windows_0 rfl 1 rfl ?_
  refine z_i2l hC 1 dX1_windows_1 (by omega) ?_
  refine z_lconst (a := 1) hC 2 dX1_windows_2 rfl ?_
  refine z_aload_n hC 3 hl dX1_windows_3 rfl 0 rfl ?_
  refine zp_get (v := .ref (ad 200)) hC (va_P_l hH.1) 4 in_X1 rfl 4 (by decide) q210 0 rfl (rfl) dX1_windows_4 ?_
  refine zp_getN (v := .int (iZ ((n : Int)))) hC (va_P_l hH.1) 7 in_X2 rfl 2 (by decide) q149 11 rfl (by rw [← hFn]; rfl) dX1_windows_7 ?_
  refine z_i2l hC 10 dX1_windows_10 (by omega) ?_
  refine zp_back (zp_runS hC (hH.2.2) hl.1 (zp_nil) 3 (As := [.long (lZ (wd)), .long (lZ (1)), .long (lZ ((n : Int)))]) (rest := []) (u_X1_isIn lau s0 G wd 1 (n : Int) (by first | assumption | omega) (by first | assumption | omega) (by first | assumption | omega)) (lw_S q303 q304 q89 q305) ⟨by decide, by decide, by decide +kernel⟩ rfl rfl (Nat.le_of_ble_eq_true rfl) ⟨Nat.le_of_ble_eq_true rfl, Nat.le_of_ble_eq_true rfl⟩ ⟨by first | decide | omega, by first | decide | omega⟩ dX1_windows_11) (fun r_11 hpost => ?_)
  have hb_11 : (r_11 = 1 ∧ ((1 : Int) ≤ wd ∧ wd ≤ (n : Int))) ∨ (r_11 = 0 ∧ ¬ ((1 : Int) ≤ wd ∧ wd ≤ (n : Int))) := hpost
  refine z_st (st' := [.int (iZ (r_11))]) rfl ?_
  rcases hb_11 with ⟨rfl, hb_11⟩ | ⟨rfl, hb_11⟩
  · -- 11=1
    refine z_if_eq_f hC 14 29 dX1_windows_14 rfl (by omega) (by omega) ?_
    refine z_iload_n hC 17 hl dX1_windows_17 rfl 2 rfl ?_
    refine z_i2l hC 18 dX1_windows_18 (by omega) ?_
    refine z_lconst (a := 0) hC 19 dX1_windows_19 rfl ?_
    refine z_ldc2 (a := 2) hC 20 q1144 rfl dX1_windows_20 ?_
    refine zp_back (zp_runS hC (hH.2.2) hl.1 (zp_nil) 3 (As := [.long (lZ (q)), .long (lZ (0)), .long (lZ (2))]) (rest := []) (u_X1_isIn lau s0 G q 0 2 (by first | assumption | omega) (by first | assumption | omega) (by first | assumption | omega)) (lw_S q303 q304 q89 q305) ⟨by decide, by decide, by decide +kernel⟩ rfl rfl (Nat.le_of_ble_eq_true rfl) ⟨Nat.le_of_ble_eq_true rfl, Nat.le_of_ble_eq_true rfl⟩ ⟨by first | decide | omega, by first | decide | omega⟩ dX1_windows_23) (fun r_23 hpost => ?_)
    have hb_23 : (r_23 = 1 ∧ ((0 : Int) ≤ q ∧ q ≤ (2 : Int))) ∨ (r_23 = 0 ∧ ¬ ((0 : Int) ≤ q ∧ q ≤ (2 : Int))) := hpost
    refine z_st (st' := [.int (iZ (r_23))]) rfl ?_
    rcases hb_23 with ⟨rfl, hb_23⟩ | ⟨rfl, hb_23⟩
    · -- 23=1
      refine z_if_ne_t hC 26 31 dX1_windows_26 rfl (by omega) (by omega) ?_
      obtain ⟨w1, rfl⟩ := Int.eq_ofNat_of_zero_le (show 0 ≤ wd by omega)
      refine z_iconst hC 31 dX1_windows_31 ?_
      refine z_istore_n (lv' := [(3, .int (iZ (0))), (0, .ref (ad 99)), (1, .int (iZ ((w1 : Int)))), (2, .int (iZ (q)))]) hC 32 hl dX1_windows_32 rfl (by decide) rfl (fun ls hl => ?_)
      have L33 : ∀ (N_ : Nat) (i : Nat) (a : Nat → Int) (H : Heap) (locs : List Loc) (ls : Array Slot), 1000 - i < N_ → (i ≤ 1000) → (∀ j, j < i → a j = 0) → zH s0 s1 G as0 (dW ad G F (va_up (va_up Ar 16 zZ) 19 a) kp pl PW) H locs → lv_has ls 8 [(0, .ref (ad 99)), (1, .int (iZ ((w1 : Int)))), (2, .int (iZ (q))), (3, .int (iZ ((i : Int))))] → W pg lau ev (zRm 8 122 124 200) s1 mi ar bl me cd H locs 0 0 Q (F0 mi 33 ls []) := by
        intro N_
        induction N_ with
        | zero => intro i a H locs ls hd; exact absurd hd (Nat.not_lt_zero _)
        | succ N_ ih33 =>
          intro i a H locs ls hd33 i33_1 iz hH hl
          refine z_iload_n hC 33 hl dX1_windows_33 rfl 3 rfl ?_
          refine z_sipush hC 34 dX1_windows_34 rfl ?_
          refine z_icmp_ge hC 37 53 dX1_windows_37 rfl (by omega) (by omega) (fun hb1 => ?_) (fun hb1 => ?_)
          · -- 37t
            have hcv2 : a = (cI (1000) (fun _ => 0) a) := by exact cI_self (fun p hp => iz p (by omega))
            rw [hcv2] at hH
            have hH : zH s0 s1 G as0 (dW ad G F (va_up (va_up Ar 16 zZ) 19 (cI (1000) (fun _ => 0) a)) kp pl PW) H locs := hH
            refine z_iconst hC 53 dX1_windows_53 ?_
            refine z_istore_n (lv' := [(3, .int (iZ (0))), (0, .ref (ad 99)), (1, .int (iZ ((w1 : Int)))), (2, .int (iZ (q)))]) hC 54 hl dX1_windows_54 rfl (by decide) rfl (fun ls hl => ?_)
            refine z_iconst hC 55 dX1_windows_55 ?_
            refine z_istore (lv' := [(4, .int (iZ (0))), (3, .int (iZ (0))), (0, .ref (ad 99)), (1, .int (iZ ((w1 : Int)))), (2, .int (iZ (q)))]) hC 56 hl dX1_windows_56 (by decide) rfl (fun ls hl => ?_)
            refine z_iconst hC 58 dX1_windows_58 ?_
            refine z_istore (lv' := [(5, .int (iZ ((-1)))), (4, .int (iZ (0))), (3, .int (iZ (0))), (0, .ref (ad 99)), (1, .int (iZ ((w1 : Int)))), (2, .int (iZ (q)))]) hC 59 hl dX1_windows_59 (by decide) rfl (fun ls hl => ?_)
            refine z_new (ci := 12) (N := 3) hC hH 61 [.int (0), .int (0), .null] tyX13 in_X13 tyX13_ok rfl q1157 q1158 q120 (fun j hj => by rcases (show j = 0 ∨ j = 1 ∨ j = 2 from by omega) with rfl | rfl | rfl <;> rfl) ⟨by first | decide | omega, by first | decide | omega⟩ dX1_windows_61 (fun w61 H hH => ?_)
            rw [dW_app] at hH
            have hH : zH s0 s1 G as0 (dW ad G F (va_up (va_up Ar 16 zZ) 19 (cI (1000) (fun _ => 0) a)) kp pl (PW ++ [(w61, .inr (12, [.int (0), .int (0), .null]))])) H locs := hH
            refine z_dup hC 64 dX1_windows_64 rfl ?_
            refine z_aload_n hC 65 hl dX1_windows_65 rfl 3 rfl ?_
            refine z_iload_n hC 66 hl dX1_windows_66 rfl 4 rfl ?_
            refine z_subN (z_runI hC hH.2.2 hl.1 (dW_xP hH.1) (z_subD hH.2.1 [60 + PW.length] (by simp) dW_xk) 2 (As := [.ref (ad 99), .int (iZ ((w1 : Int)))]) (rest := [.ref (w61)]) (m_X13_init lau s0 G _ w61 (ad 99) ((w1 : Int))) (lw_meth q1161) q1159 ⟨q120, q1160⟩ rfl ⟨by decide, by decide, by decide +kernel⟩ rfl rfl (Nat.le_of_ble_eq_true rfl) ⟨Nat.le_of_ble_eq_true rfl, Nat.le_of_ble_eq_true rfl⟩ ⟨by first | decide | omega, by first | decide | omega⟩ dX1_windows_67) hH [60 + PW.length] dW_xk (by simp) (fun _ => rfl) (fun _ H locs hpost hH => ?_)
            rw [setL_x] at hH
            have hH : zH s0 s1 G as0 (dW ad G F (va_up (va_up Ar 16 zZ) 19 (cI (1000) (fun _ => 0) a)) kp pl (PW ++ [(w61, .inr (12, [.int (iZ ((w1 : Int))), .int (0), .ref (ad 99)]))])) H locs := hH
            refine z_st (st' := [.ref (w61)]) rfl ?_
            obtain ⟨PX0, hPX0⟩ : ∃ P : va_W, P = (PW ++ [(w61, .inr (12, [.int (iZ (w1 : Int)), .int (0), .ref (ad 99)]))]) := ⟨_, rfl⟩
            have hPX1 : PX0 = (PW ++ [(w61, .inr (12, [.int (iZ (w1 : Int)), .int (iZ ((0 : Nat) : Int)), .ref (ad 99)]))]) := by rw [hPX0, show iZ ((0 : Nat) : Int) = (0 : Int32) from by decide]
            have hwx : (PW ++ [(w61, .inr (12, [.int (iZ ((w1 : Int))), .int (0), .ref (ad 99)]))]) = PX0 := by exact hPX0.symm
            rw [hwx] at hH
            have hH : zH s0 s1 G as0 (dW ad G F (va_up (va_up Ar 16 zZ) 19 (cI (1000) (fun _ => 0) a)) kp pl PX0) H locs := hH
            refine z_astore (lv' := [(6, .ref (w61)), (5, .int (iZ ((-1)))), (4, .int (iZ (0))), (3, .int (iZ (0))), (0, .ref (ad 99)), (1, .int (iZ ((w1 : Int)))), (2, .int (iZ (q)))]) hC 70 hl dX1_windows_70 (by decide) rfl (fun ls hl => ?_)
            have L72 : ∀ (N_ : Nat) (i : Nat) (c : Nat) (uk : Nat) (ce9 : Nat) (sl9 : Nat) (ws : Int) (mo : Nat → Nat) (gm : Nat → Int) (PX : va_W) (f17 : Int) (a15 : Nat → Int) (H : Heap) (locs : List Loc) (ls : Array Slot), n + 1 - w1 - i < N_ → (i ≤ n + 1 - w1) → (c ≤ i) → (uk ≤ i) → ((i = 0 ∧ ws = -1) ∨ (0 < i ∧ ws = (md v (i - 1) (i - 1 + w1) t : Int))) → (-1 ≤ ws ∧ ws < 1000) → (c = cB (fun i => 0 < i ∧ md v i (i + w1) t ≠ md v (i - 1) (i - 1 + w1) t) i) → (uk = dst (fun i => md v i (i + w1) t) 0 i) → (∀ x, x < 1000 → mo x = cnt (fun i => md v i (i + w1) t) 0 i x) → (PX = (PW ++ [(w61, .inr (12, [.int (iZ (w1 : Int)), .int (iZ ((i : Nat) : Int)), .ref (ad 99)]))])) → (ce9 ≤ 1 + i) → (sl9 ≤ 3 + i) → zH s0 s1 G as0 (dW ad G (va_up F 17 (f17)) (va_up (va_up (va_up Ar 15 a15) 16 zZ) 19 (cI (1000) mo gm)) kp pl PX) H locs → lv_has ls 8 [(0, .ref (ad 99)), (1, .int (iZ ((w1 : Int)))), (2, .int (iZ (q))), (3, .int (iZ ((c : Int)))), (4, .int (iZ ((uk : Int)))), (5, .int (iZ (ws))), (6, .ref (w61))] → W pg lau ev (zRm 8 122 124 200) s1 mi ar bl me cd H locs ce9 sl9 Q (F0 mi 72 ls []) := by
              intro N_
              induction N_ with
              | zero => intro i c uk ce9 sl9 ws mo gm PX f17 a15 H locs ls hd; exact absurd hd (Nat.not_lt_zero _)
              | succ N_ ih72 =>
                intro i c uk ce9 sl9 ws mo gm PX f17 a15 H locs ls hd72 i72_1 i72_2 i72_3 iw iws ic iu im hPX i72_10 i72_11 hH hl
                refine z_aload hC 72 hl dX1_windows_72 6 rfl ?_
                rw [hPX] at hH
                have hH : zH s0 s1 G as0 (dW ad G (va_up F 17 (f17)) (va_up (va_up (va_up Ar 15 a15) 16 zZ) 19 (cI (1000) mo gm)) kp pl (PW ++ [(w61, .inr (12, [.int (iZ (w1 : Int)), .int (iZ ((i : Nat) : Int)), .ref (ad 99)]))])) H locs := hH
                refine z_hasW (wi := w61) (wd := w1) (wl := i) hC hH hl.1 hn hFn (by omega) (by omega) 74 q906 (rest := []) (Nat.le_of_ble_eq_true rfl) ⟨Nat.le_of_ble_eq_true rfl, Nat.le_of_ble_eq_true rfl⟩ ⟨by first | decide | omega | (show _ ≤ 122; omega), by first | decide | omega | (show _ ≤ 124; omega)⟩ dX1_windows_74 (fun r_ hb_74 => ?_)
                rcases hb_74 with ⟨rfl, hb_74⟩ | ⟨rfl, hb_74⟩
                · -- 74=1
                  refine z_if_eq_f hC 79 156 dX1_windows_79 rfl (by omega) (by omega) ?_
                  refine z_aload hC 82 hl dX1_windows_82 6 rfl ?_
                  have hax : (va_up (va_up (va_up Ar 15 a15) 16 zZ) 19 (cI (1000) mo gm)) = va_up (va_up (va_up (va_up Ar 15 a15) 16 zZ) 19 (cI (1000) mo gm)) 16 zZ := (va_up_id rfl).symm
                  rw [hax] at hH
                  refine z_nextW (wi := w61) (wd := w1) (wl := i) hC hH hl.1 hn hFn hv hAv hb hFb ht hFt hpl hnw hpc hpp hmo (by omega) (by omega) hB 84 q922 (rest := []) (Nat.le_of_ble_eq_true rfl) ⟨Nat.le_of_ble_eq_true rfl, Nat.le_of_ble_eq_true rfl⟩ ⟨by first | decide | omega | (show _ ≤ 122; omega), by first | decide | omega | (show _ ≤ 124; omega)⟩ dX1_windows_84 (fun k_84 u_84 gu_84 b_84 X_84 H locs hbx hH => ?_)
                  rw [wn_F, wn_A] at hH
                  rw [← dW_app] at hH
                  refine z_castN hC hH 89 hbx q1018 dX1_windows_89 ?_
                  refine z_intVN hC hH hl.1 hbx 92 q1019 (rest := []) (Nat.le_of_ble_eq_true rfl) ⟨Nat.le_of_ble_eq_true rfl, Nat.le_of_ble_eq_true rfl⟩ ⟨by first | decide | omega | (show _ ≤ 122; omega), by first | decide | omega | (show _ ≤ 124; omega)⟩ dX1_windows_92 ?_
                  have hH := zH_l hH
                  obtain ⟨PX2, hPX2⟩ : ∃ P : va_W, P = (PW ++ [(w61, .inr (12, [.int (iZ (w1 : Int)), .int (iZ ((i + 1 : Nat) : Int)), .ref (ad 99)]))]) := ⟨_, rfl⟩
                  rw [← hPX2] at hH
                  have hH : zH s0 s1 G as0 (dW ad G (va_up F 17 ((k_84 : Int))) (va_up (va_up (va_up Ar 15 (cI (k_84) u_84 gu_84)) 16 zZ) 19 (cI (1000) mo gm)) kp pl PX2) H locs := hH
                  have hmd9 := md_lt_1000 v i (i + w1) t
                  have hmo9 : mo (md v i (i + w1) t) = cnt (fun i => md v i (i + w1) t) 0 i (md v i (i + w1) t) := im _ hmd9
                  have hcf := cnt_le (fun i => md v i (i + w1) t) 0 i (md v i (i + w1) t)
                  refine z_istore (lv' := [(7, .int (iZ (((md v i (i + w1) t : Nat) : Int)))), (0, .ref (ad 99)), (1, .int (iZ ((w1 : Int)))), (2, .int (iZ (q))), (3, .int (iZ ((c : Int)))), (4, .int (iZ ((uk : Int)))), (5, .int (iZ (ws))), (6, .ref (w61))]) hC 95 hl dX1_windows_95 (by decide) rfl (fun ls hl => ?_)
                  refine z_iload_n hC 97 hl dX1_windows_97 rfl 4 rfl ?_
                  refine z_iload hC 98 hl dX1_windows_98 6 rfl ?_
                  refine z_iconst hC 100 dX1_windows_100 ?_
                  refine z_icmp_eq hC 101 115 dX1_windows_101 rfl (by omega) (by omega) (fun hb3 => ?_) (fun hb3 => ?_)
                  · -- 101t
                    refine z_iconst hC 115 dX1_windows_115 ?_
                    refine z_iadd (e := (c : Int)) hC 116 dX1_windows_116 (by omega) ?_
                    refine z_istore_n (lv' := [(3, .int (iZ ((c : Int)))), (7, .int (iZ (((md v i (i + w1) t : Nat) : Int)))), (0, .ref (ad 99)), (1, .int (iZ ((w1 : Int)))), (2, .int (iZ (q))), (4, .int (iZ ((uk : Int)))), (5, .int (iZ (ws))), (6, .ref (w61))]) hC 117 hl dX1_windows_117 rfl (by decide) rfl (fun ls hl => ?_)
                    refine z_iload hC 118 hl dX1_windows_118 5 rfl ?_
                    refine z_aload_n hC 120 hl dX1_windows_120 rfl 2 rfl ?_
                    refine zp_get (v := .ref (ad 19)) hC (va_P_l hH.1) 121 in_X1 rfl 19 (by decide) q229 0 rfl (rfl) dX1_windows_121 ?_
                    refine z_iload hC 124 hl dX1_windows_124 1 rfl ?_
                    refine zp_iald (f := (cI (1000) mo gm)) (x := ((mo (md v i (i + w1) t) : Nat) : Int)) hC (va_P_l hH.1) 126 9 ((md v i (i + w1) t)) rfl (by decide) (by omega) (by omega) ((cI_lt (by omega))) dX1_windows_126 ?_
                    refine z_if_ne hC 127 134 dX1_windows_127 rfl (by omega) (fun hb4 => ?_) (fun hb4 => ?_)
                    · -- 127t
                      refine z_iconst hC 134 dX1_windows_134 ?_
                      refine z_iadd (e := (uk : Int)) hC 135 dX1_windows_135 (by omega) ?_
                      refine z_istore (lv' := [(4, .int (iZ ((uk : Int)))), (3, .int (iZ ((c : Int)))), (7, .int (iZ (((md v i (i + w1) t : Nat) : Int)))), (0, .ref (ad 99)), (1, .int (iZ ((w1 : Int)))), (2, .int (iZ (q))), (5, .int (iZ (ws))), (6, .ref (w61))]) hC 136 hl dX1_windows_136 (by decide) rfl (fun ls hl => ?_)
                      refine z_aload_n hC 138 hl dX1_windows_138 rfl 3 rfl ?_
                      refine zp_get (v := .ref (ad 19)) hC (va_P_l hH.1) 139 in_X1 rfl 19 (by decide) q229 0 rfl (rfl) dX1_windows_139 ?_
                      refine z_iload hC 142 hl dX1_windows_142 2 rfl ?_
                      refine z_dup2 hC 144 dX1_windows_144 rfl rfl ?_
                      refine zp_iald (f := (cI (1000) mo gm)) (x := ((mo (md v i (i + w1) t) : Nat) : Int)) hC (va_P_l hH.1) 145 9 ((md v i (i + w1) t)) rfl (by decide) (by omega) (by omega) ((cI_lt (by omega))) dX1_windows_145 ?_
                      refine z_iconst hC 146 dX1_windows_146 ?_
                      refine z_iadd (e := ((mo (md v i (i + w1) t) : Nat) : Int) + 1) hC 147 dX1_windows_147 rfl ?_
                      refine sD_19 (f' := (cI (1000) (va_up mo ((md v i (i + w1) t)) ((mo (md v i (i + w1) t)) + 1)) gm)) hC hH 148 ((md v i (i + w1) t)) (by omega) (by omega) (by rw [show (((mo (md v i (i + w1) t) : Nat) : Int) + 1 : Int) = (((mo (md v i (i + w1) t)) + 1 : Nat) : Int) from by omega]; exact cI_up (by omega)) dX1_windows_148 (fun H locs hH => ?_)
                      have hH : zH s0 s1 G as0 (dW ad G (va_up F 17 ((k_84 : Int))) (va_up (va_up (va_up Ar 15 (cI (k_84) u_84 gu_84)) 16 zZ) 19 (cI (1000) (va_up mo ((md v i (i + w1) t)) ((mo (md v i (i + w1) t)) + 1)) gm)) kp pl PX2) H locs := hH
                      refine z_iload hC 149 hl dX1_windows_149 2 rfl ?_
                      refine z_istore (lv' := [(5, .int (iZ (((md v i (i + w1) t : Nat) : Int)))), (4, .int (iZ ((uk : Int)))), (3, .int (iZ ((c : Int)))), (7, .int (iZ (((md v i (i + w1) t : Nat) : Int)))), (0, .ref (ad 99)), (1, .int (iZ ((w1 : Int)))), (2, .int (iZ (q))), (6, .ref (w61))]) hC 151 hl dX1_windows_151 (by decide) rfl (fun ls hl => ?_)
                      refine z_goto hC 153 72 dX1_windows_153 rfl ?_
                      -- J72.1
                      exact ih72 (i + 1) c uk (ce9 + 1) (sl9 + 1) ((md v i (i + w1) t : Nat) : Int) (va_up mo ((md v i (i + w1) t)) ((mo (md v i (i + w1) t)) + 1)) gm PX2 (k_84 : Int) (cI (k_84) u_84 gu_84) _ _ _ (by omega) (by first | assumption | omega) (by first | assumption | omega) (by first | assumption | omega) (by first | exact Or.inl ⟨rfl, rfl⟩ | exact Or.inr ⟨Nat.succ_pos _, rfl⟩) (by first | assumption | omega) (by first | rfl | exact cB_it ⟨by omega, by omega⟩ ic | exact cB_if (fun q => by have := q.1; have := q.2; omega) ic) (by first | exact (dst_0 _ 0).symm | (rw [dst_succ (f := (fun i => md v i (i + w1) t)) (md_lt_1000 _ _ _ _)]; first | (rw [if_pos (by omega)]; omega) | (rw [if_neg (by omega)]; omega))) (by first | (intro x hx; rw [cnt_0 _ (Nat.le_refl _)]) | exact cnt_up im (md_lt_1000 _ _ _ _) rfl) (by first | exact hPX1 | exact hPX2) (by first | assumption | omega) (by first | assumption | omega) hH (lv_sub hl [4, 5, 6, 2, 1, 0, 7] rfl)
                    · -- 127f
                      refine z_iconst hC 130 dX1_windows_130 ?_
                      refine z_goto hC 131 135 dX1_windows_131 rfl ?_
                      refine z_iadd (e := (uk : Int) + 1) hC 135 dX1_windows_135 rfl ?_
                      refine z_istore (lv' := [(4, .int (iZ ((uk : Int) + 1))), (3, .int (iZ ((c : Int)))), (7, .int (iZ (((md v i (i + w1) t : Nat) : Int)))), (0, .ref (ad 99)), (1, .int (iZ ((w1 : Int)))), (2, .int (iZ (q))), (5, .int (iZ (ws))), (6, .ref (w61))]) hC 136 hl dX1_windows_136 (by decide) rfl (fun ls hl => ?_)
                      refine z_aload_n hC 138 hl dX1_windows_138 rfl 3 rfl ?_
                      refine zp_get (v := .ref (ad 19)) hC (va_P_l hH.1) 139 in_X1 rfl 19 (by decide) q229 0 rfl (rfl) dX1_windows_139 ?_
                      refine z_iload hC 142 hl dX1_windows_142 2 rfl ?_
                      refine z_dup2 hC 144 dX1_windows_144 rfl rfl ?_
                      refine zp_iald (f := (cI (1000) mo gm)) (x := ((mo (md v i (i + w1) t) : Nat) : Int)) hC (va_P_l hH.1) 145 9 ((md v i (i + w1) t)) rfl (by decide) (by omega) (by omega) ((cI_lt (by omega))) dX1_windows_145 ?_
                      refine z_iconst hC 146 dX1_windows_146 ?_
                      refine z_iadd (e := ((mo (md v i (i + w1) t) : Nat) : Int) + 1) hC 147 dX1_windows_147 rfl ?_
                      refine sD_19 (f' := (cI (1000) (va_up mo ((md v i (i + w1) t)) ((mo (md v i (i + w1) t)) + 1)) gm)) hC hH 148 ((md v i (i + w1) t)) (by omega) (by omega) (by rw [show (((mo (md v i (i + w1) t) : Nat) : Int) + 1 : Int) = (((mo (md v i (i + w1) t)) + 1 : Nat) : Int) from by omega]; exact cI_up (by omega)) dX1_windows_148 (fun H locs hH => ?_)
                      have hH : zH s0 s1 G as0 (dW ad G (va_up F 17 ((k_84 : Int))) (va_up (va_up (va_up Ar 15 (cI (k_84) u_84 gu_84)) 16 zZ) 19 (cI (1000) (va_up mo ((md v i (i + w1) t)) ((mo (md v i (i + w1) t)) + 1)) gm)) kp pl PX2) H locs := hH
                      refine z_iload hC 149 hl dX1_windows_149 2 rfl ?_
                      refine z_istore (lv' := [(5, .int (iZ (((md v i (i + w1) t : Nat) : Int)))), (4, .int (iZ ((uk : Int) + 1))), (3, .int (iZ ((c : Int)))), (7, .int (iZ (((md v i (i + w1) t : Nat) : Int)))), (0, .ref (ad 99)), (1, .int (iZ ((w1 : Int)))), (2, .int (iZ (q))), (6, .ref (w61))]) hC 151 hl dX1_windows_151 (by decide) rfl (fun ls hl => ?_)
                      refine z_goto hC 153 72 dX1_windows_153 rfl ?_
                      -- J72.2
                      exact ih72 (i + 1) c (uk + 1) (ce9 + 1) (sl9 + 1) ((md v i (i + w1) t : Nat) : Int) (va_up mo ((md v i (i + w1) t)) ((mo (md v i (i + w1) t)) + 1)) gm PX2 (k_84 : Int) (cI (k_84) u_84 gu_84) _ _ _ (by omega) (by first | assumption | omega) (by first | assumption | omega) (by first | assumption | omega) (by first | exact Or.inl ⟨rfl, rfl⟩ | exact Or.inr ⟨Nat.succ_pos _, rfl⟩) (by first | assumption | omega) (by first | rfl | exact cB_it ⟨by omega, by omega⟩ ic | exact cB_if (fun q => by have := q.1; have := q.2; omega) ic) (by first | exact (dst_0 _ 0).symm | (rw [dst_succ (f := (fun i => md v i (i + w1) t)) (md_lt_1000 _ _ _ _)]; first | (rw [if_pos (by omega)]; omega) | (rw [if_neg (by omega)]; omega))) (by first | (intro x hx; rw [cnt_0 _ (Nat.le_refl _)]) | exact cnt_up im (md_lt_1000 _ _ _ _) rfl) (by first | exact hPX1 | exact hPX2) (by first | assumption | omega) (by first | assumption | omega) hH (z_lv (lv_sub hl [4, 5, 6, 2, 1, 0, 7] rfl) (zcons rfl (zcons rfl (zcons rfl (zcons rfl (zcons (zpeq (by omega)) (zcons rfl (zcons rfl rfl))))))))
                  · -- 101f
                    refine z_iload hC 104 hl dX1_windows_104 6 rfl ?_
                    refine z_iload hC 106 hl dX1_windows_106 0 rfl ?_
                    refine z_icmp_eq hC 108 115 dX1_windows_108 rfl (by omega) (by omega) (fun hb5 => ?_) (fun hb5 => ?_)
                    · -- 108t
                      refine z_iconst hC 115 dX1_windows_115 ?_
                      refine z_iadd (e := (c : Int)) hC 116 dX1_windows_116 (by omega) ?_
                      refine z_istore_n (lv' := [(3, .int (iZ ((c : Int)))), (7, .int (iZ (((md v i (i + w1) t : Nat) : Int)))), (0, .ref (ad 99)), (1, .int (iZ ((w1 : Int)))), (2, .int (iZ (q))), (4, .int (iZ ((uk : Int)))), (5, .int (iZ (ws))), (6, .ref (w61))]) hC 117 hl dX1_windows_117 rfl (by decide) rfl (fun ls hl => ?_)
                      refine z_iload hC 118 hl dX1_windows_118 5 rfl ?_
                      refine z_aload_n hC 120 hl dX1_windows_120 rfl 2 rfl ?_
                      refine zp_get (v := .ref (ad 19)) hC (va_P_l hH.1) 121 in_X1 rfl 19 (by decide) q229 0 rfl (rfl) dX1_windows_121 ?_
                      refine z_iload hC 124 hl dX1_windows_124 1 rfl ?_
                      refine zp_iald (f := (cI (1000) mo gm)) (x := ((mo (md v i (i + w1) t) : Nat) : Int)) hC (va_P_l hH.1) 126 9 ((md v i (i + w1) t)) rfl (by decide) (by omega) (by omega) ((cI_lt (by omega))) dX1_windows_126 ?_
                      refine z_if_ne hC 127 134 dX1_windows_127 rfl (by omega) (fun hb6 => ?_) (fun hb6 => ?_)
                      · -- 127t
                        refine z_iconst hC 134 dX1_windows_134 ?_
                        refine z_iadd (e := (uk : Int)) hC 135 dX1_windows_135 (by omega) ?_
                        refine z_istore (lv' := [(4, .int (iZ ((uk : Int)))), (3, .int (iZ ((c : Int)))), (7, .int (iZ (((md v i (i + w1) t : Nat) : Int)))), (0, .ref (ad 99)), (1, .int (iZ ((w1 : Int)))), (2, .int (iZ (q))), (5, .int (iZ (ws))), (6, .ref (w61))]) hC 136 hl dX1_windows_136 (by decide) rfl (fun ls hl => ?_)
                        refine z_aload_n hC 138 hl dX1_windows_138 rfl 3 rfl ?_
                        refine zp_get (v := .ref (ad 19)) hC (va_P_l hH.1) 139 in_X1 rfl 19 (by decide) q229 0 rfl (rfl) dX1_windows_139 ?_
                        refine z_iload hC 142 hl dX1_windows_142 2 rfl ?_
                        refine z_dup2 hC 144 dX1_windows_144 rfl rfl ?_
                        refine zp_iald (f := (cI (1000) mo gm)) (x := ((mo (md v i (i + w1) t) : Nat) : Int)) hC (va_P_l hH.1) 145 9 ((md v i (i + w1) t)) rfl (by decide) (by omega) (by omega) ((cI_lt (by omega))) dX1_windows_145 ?_
                        refine z_iconst hC 146 dX1_windows_146 ?_
                        refine z_iadd (e := ((mo (md v i (i + w1) t) : Nat) : Int) + 1) hC 147 dX1_windows_147 rfl ?_
                        refine sD_19 (f' := (cI (1000) (va_up mo ((md v i (i + w1) t)) ((mo (md v i (i + w1) t)) + 1)) gm)) hC hH 148 ((md v i (i + w1) t)) (by omega) (by omega) (by rw [show (((mo (md v i (i + w1) t) : Nat) : Int) + 1 : Int) = (((mo (md v i (i + w1) t)) + 1 : Nat) : Int) from by omega]; exact cI_up (by omega)) dX1_windows_148 (fun H locs hH => ?_)
                        have hH : zH s0 s1 G as0 (dW ad G (va_up F 17 ((k_84 : Int))) (va_up (va_up (va_up Ar 15 (cI (k_84) u_84 gu_84)) 16 zZ) 19 (cI (1000) (va_up mo ((md v i (i + w1) t)) ((mo (md v i (i + w1) t)) + 1)) gm)) kp pl PX2) H locs := hH
                        refine z_iload hC 149 hl dX1_windows_149 2 rfl ?_
                        refine z_istore (lv' := [(5, .int (iZ (((md v i (i + w1) t : Nat) : Int)))), (4, .int (iZ ((uk : Int)))), (3, .int (iZ ((c : Int)))), (7, .int (iZ (((md v i (i + w1) t : Nat) : Int)))), (0, .ref (ad 99)), (1, .int (iZ ((w1 : Int)))), (2, .int (iZ (q))), (6, .ref (w61))]) hC 151 hl dX1_windows_151 (by decide) rfl (fun ls hl => ?_)
                        refine z_goto hC 153 72 dX1_windows_153 rfl ?_
                        -- J72.3
                        exact ih72 (i + 1) c uk (ce9 + 1) (sl9 + 1) ((md v i (i + w1) t : Nat) : Int) (va_up mo ((md v i (i + w1) t)) ((mo (md v i (i + w1) t)) + 1)) gm PX2 (k_84 : Int) (cI (k_84) u_84 gu_84) _ _ _ (by omega) (by first | assumption | omega) (by first | assumption | omega) (by first | assumption | omega) (by first | exact Or.inl ⟨rfl, rfl⟩ | exact Or.inr ⟨Nat.succ_pos _, rfl⟩) (by first | assumption | omega) (by first | rfl | exact cB_it ⟨by omega, by omega⟩ ic | exact cB_if (fun q => by have := q.1; have := q.2; omega) ic) (by first | exact (dst_0 _ 0).symm | (rw [dst_succ (f := (fun i => md v i (i + w1) t)) (md_lt_1000 _ _ _ _)]; first | (rw [if_pos (by omega)]; omega) | (rw [if_neg (by omega)]; omega))) (by first | (intro x hx; rw [cnt_0 _ (Nat.le_refl _)]) | exact cnt_up im (md_lt_1000 _ _ _ _) rfl) (by first | exact hPX1 | exact hPX2) (by first | assumption | omega) (by first | assumption | omega) hH (lv_sub hl [4, 5, 6, 2, 1, 0, 7] rfl)
                      · -- 127f
                        refine z_iconst hC 130 dX1_windows_130 ?_
                        refine z_goto hC 131 135 dX1_windows_131 rfl ?_
                        refine z_iadd (e := (uk : Int) + 1) hC 135 dX1_windows_135 rfl ?_
                        refine z_istore (lv' := [(4, .int (iZ ((uk : Int) + 1))), (3, .int (iZ ((c : Int)))), (7, .int (iZ (((md v i (i + w1) t : Nat) : Int)))), (0, .ref (ad 99)), (1, .int (iZ ((w1 : Int)))), (2, .int (iZ (q))), (5, .int (iZ (ws))), (6, .ref (w61))]) hC 136 hl dX1_windows_136 (by decide) rfl (fun ls hl => ?_)
                        refine z_aload_n hC 138 hl dX1_windows_138 rfl 3 rfl ?_
                        refine zp_get (v := .ref (ad 19)) hC (va_P_l hH.1) 139 in_X1 rfl 19 (by decide) q229 0 rfl (rfl) dX1_windows_139 ?_
                        refine z_iload hC 142 hl dX1_windows_142 2 rfl ?_
                        refine z_dup2 hC 144 dX1_windows_144 rfl rfl ?_
                        refine zp_iald (f := (cI (1000) mo gm)) (x := ((mo (md v i (i + w1) t) : Nat) : Int)) hC (va_P_l hH.1) 145 9 ((md v i (i + w1) t)) rfl (by decide) (by omega) (by omega) ((cI_lt (by omega))) dX1_windows_145 ?_
                        refine z_iconst hC 146 dX1_windows_146 ?_
                        refine z_iadd (e := ((mo (md v i (i + w1) t) : Nat) : Int) + 1) hC 147 dX1_windows_147 rfl ?_
                        refine sD_19 (f' := (cI (1000) (va_up mo ((md v i (i + w1) t)) ((mo (md v i (i + w1) t)) + 1)) gm)) hC hH 148 ((md v i (i + w1) t)) (by omega) (by omega) (by rw [show (((mo (md v i (i + w1) t) : Nat) : Int) + 1 : Int) = (((mo (md v i (i + w1) t)) + 1 : Nat) : Int) from by omega]; exact cI_up (by omega)) dX1_windows_148 (fun H locs hH => ?_)
                        have hH : zH s0 s1 G as0 (dW ad G (va_up F 17 ((k_84 : Int))) (va_up (va_up (va_up Ar 15 (cI (k_84) u_84 gu_84)) 16 zZ) 19 (cI (1000) (va_up mo ((md v i (i + w1) t)) ((mo (md v i (i + w1) t)) + 1)) gm)) kp pl PX2) H locs := hH
                        refine z_iload hC 149 hl dX1_windows_149 2 rfl ?_
                        refine z_istore (lv' := [(5, .int (iZ (((md v i (i + w1) t : Nat) : Int)))), (4, .int (iZ ((uk : Int) + 1))), (3, .int (iZ ((c : Int)))), (7, .int (iZ (((md v i (i + w1) t : Nat) : Int)))), (0, .ref (ad 99)), (1, .int (iZ ((w1 : Int)))), (2, .int (iZ (q))), (6, .ref (w61))]) hC 151 hl dX1_windows_151 (by decide) rfl (fun ls hl => ?_)
                        refine z_goto hC 153 72 dX1_windows_153 rfl ?_
                        -- J72.4
                        exact ih72 (i + 1) c (uk + 1) (ce9 + 1) (sl9 + 1) ((md v i (i + w1) t : Nat) : Int) (va_up mo ((md v i (i + w1) t)) ((mo (md v i (i + w1) t)) + 1)) gm PX2 (k_84 : Int) (cI (k_84) u_84 gu_84) _ _ _ (by omega) (by first | assumption | omega) (by first | assumption | omega) (by first | assumption | omega) (by first | exact Or.inl ⟨rfl, rfl⟩ | exact Or.inr ⟨Nat.succ_pos _, rfl⟩) (by first | assumption | omega) (by first | rfl | exact cB_it ⟨by omega, by omega⟩ ic | exact cB_if (fun q => by have := q.1; have := q.2; omega) ic) (by first | exact (dst_0 _ 0).symm | (rw [dst_succ (f := (fun i => md v i (i + w1) t)) (md_lt_1000 _ _ _ _)]; first | (rw [if_pos (by omega)]; omega) | (rw [if_neg (by omega)]; omega))) (by first | (intro x hx; rw [cnt_0 _ (Nat.le_refl _)]) | exact cnt_up im (md_lt_1000 _ _ _ _) rfl) (by first | exact hPX1 | exact hPX2) (by first | assumption | omega) (by first | assumption | omega) hH (z_lv (lv_sub hl [4, 5, 6, 2, 1, 0, 7] rfl) (zcons rfl (zcons rfl (zcons rfl (zcons rfl (zcons (zpeq (by omega)) (zcons rfl (zcons rfl rfl))))))))
                    · -- 108f
                      refine z_iconst hC 111 dX1_windows_111 ?_
                      refine z_goto hC 112 116 dX1_windows_112 rfl ?_
                      refine z_iadd (e := (c : Int) + 1) hC 116 dX1_windows_116 rfl ?_
                      refine z_istore_n (lv' := [(3, .int (iZ ((c : Int) + 1))), (7, .int (iZ (((md v i (i + w1) t : Nat) : Int)))), (0, .ref (ad 99)), (1, .int (iZ ((w1 : Int)))), (2, .int (iZ (q))), (4, .int (iZ ((uk : Int)))), (5, .int (iZ (ws))), (6, .ref (w61))]) hC 117 hl dX1_windows_117 rfl (by decide) rfl (fun ls hl => ?_)
                      refine z_iload hC 118 hl dX1_windows_118 5 rfl ?_
                      refine z_aload_n hC 120 hl dX1_windows_120 rfl 2 rfl ?_
                      refine zp_get (v := .ref (ad 19)) hC (va_P_l hH.1) 121 in_X1 rfl 19 (by decide) q229 0 rfl (rfl) dX1_windows_121 ?_
                      refine z_iload hC 124 hl dX1_windows_124 1 rfl ?_
                      refine zp_iald (f := (cI (1000) mo gm)) (x := ((mo (md v i (i + w1) t) : Nat) : Int)) hC (va_P_l hH.1) 126 9 ((md v i (i + w1) t)) rfl (by decide) (by omega) (by omega) ((cI_lt (by omega))) dX1_windows_126 ?_
                      refine z_if_ne hC 127 134 dX1_windows_127 rfl (by omega) (fun hb7 => ?_) (fun hb7 => ?_)
                      · -- 127t
                        refine z_iconst hC 134 dX1_windows_134 ?_
                        refine z_iadd (e := (uk : Int)) hC 135 dX1_windows_135 (by omega) ?_
                        refine z_istore (lv' := [(4, .int (iZ ((uk : Int)))), (3, .int (iZ ((c : Int) + 1))), (7, .int (iZ (((md v i (i + w1) t : Nat) : Int)))), (0, .ref (ad 99)), (1, .int (iZ ((w1 : Int)))), (2, .int (iZ (q))), (5, .int (iZ (ws))), (6, .ref (w61))]) hC 136 hl dX1_windows_136 (by decide) rfl (fun ls hl => ?_)
                        refine z_aload_n hC 138 hl dX1_windows_138 rfl 3 rfl ?_
                        refine zp_get (v := .ref (ad 19)) hC (va_P_l hH.1) 139 in_X1 rfl 19 (by decide) q229 0 rfl (rfl) dX1_windows_139 ?_
                        refine z_iload hC 142 hl dX1_windows_142 2 rfl ?_
                        refine z_dup2 hC 144 dX1_windows_144 rfl rfl ?_
                        refine zp_iald (f := (cI (1000) mo gm)) (x := ((mo (md v i (i + w1) t) : Nat) : Int)) hC (va_P_l hH.1) 145 9 ((md v i (i + w1) t)) rfl (by decide) (by omega) (by omega) ((cI_lt (by omega))) dX1_windows_145 ?_
                        refine z_iconst hC 146 dX1_windows_146 ?_
                        refine z_iadd (e := ((mo (md v i (i + w1) t) : Nat) : Int) + 1) hC 147 dX1_windows_147 rfl ?_
                        refine sD_19 (f' := (cI (1000) (va_up mo ((md v i (i + w1) t)) ((mo (md v i (i + w1) t)) + 1)) gm)) hC hH 148 ((md v i (i + w1) t)) (by omega) (by omega) (by rw [show (((mo (md v i (i + w1) t) : Nat) : Int) + 1 : Int) = (((mo (md v i (i + w1) t)) + 1 : Nat) : Int) from by omega]; exact cI_up (by omega)) dX1_windows_148 (fun H locs hH => ?_)
                        have hH : zH s0 s1 G as0 (dW ad G (va_up F 17 ((k_84 : Int))) (va_up (va_up (va_up Ar 15 (cI (k_84) u_84 gu_84)) 16 zZ) 19 (cI (1000) (va_up mo ((md v i (i + w1) t)) ((mo (md v i (i + w1) t)) + 1)) gm)) kp pl PX2) H locs := hH
                        refine z_iload hC 149 hl dX1_windows_149 2 rfl ?_
                        refine z_istore (lv' := [(5, .int (iZ (((md v i (i + w1) t : Nat) : Int)))), (4, .int (iZ ((uk : Int)))), (3, .int (iZ ((c : Int) + 1))), (7, .int (iZ (((md v i (i + w1) t : Nat) : Int)))), (0, .ref (ad 99)), (1, .int (iZ ((w1 : Int)))), (2, .int (iZ (q))), (6, .ref (w61))]) hC 151 hl dX1_windows_151 (by decide) rfl (fun ls hl => ?_)
                        refine z_goto hC 153 72 dX1_windows_153 rfl ?_
                        -- J72.5
                        exact ih72 (i + 1) (c + 1) uk (ce9 + 1) (sl9 + 1) ((md v i (i + w1) t : Nat) : Int) (va_up mo ((md v i (i + w1) t)) ((mo (md v i (i + w1) t)) + 1)) gm PX2 (k_84 : Int) (cI (k_84) u_84 gu_84) _ _ _ (by omega) (by first | assumption | omega) (by first | assumption | omega) (by first | assumption | omega) (by first | exact Or.inl ⟨rfl, rfl⟩ | exact Or.inr ⟨Nat.succ_pos _, rfl⟩) (by first | assumption | omega) (by first | rfl | exact cB_it ⟨by omega, by omega⟩ ic | exact cB_if (fun q => by have := q.1; have := q.2; omega) ic) (by first | exact (dst_0 _ 0).symm | (rw [dst_succ (f := (fun i => md v i (i + w1) t)) (md_lt_1000 _ _ _ _)]; first | (rw [if_pos (by omega)]; omega) | (rw [if_neg (by omega)]; omega))) (by first | (intro x hx; rw [cnt_0 _ (Nat.le_refl _)]) | exact cnt_up im (md_lt_1000 _ _ _ _) rfl) (by first | exact hPX1 | exact hPX2) (by first | assumption | omega) (by first | assumption | omega) hH (z_lv (lv_sub hl [4, 5, 6, 2, 1, 0, 7] rfl) (zcons rfl (zcons rfl (zcons rfl (zcons (zpeq (by omega)) (zcons rfl (zcons rfl (zcons rfl rfl))))))))
                      · -- 127f
                        refine z_iconst hC 130 dX1_windows_130 ?_
                        refine z_goto hC 131 135 dX1_windows_131 rfl ?_
                        refine z_iadd (e := (uk : Int) + 1) hC 135 dX1_windows_135 rfl ?_
                        refine z_istore (lv' := [(4, .int (iZ ((uk : Int) + 1))), (3, .int (iZ ((c : Int) + 1))), (7, .int (iZ (((md v i (i + w1) t : Nat) : Int)))), (0, .ref (ad 99)), (1, .int (iZ ((w1 : Int)))), (2, .int (iZ (q))), (5, .int (iZ (ws))), (6, .ref (w61))]) hC 136 hl dX1_windows_136 (by decide) rfl (fun ls hl => ?_)
                        refine z_aload_n hC 138 hl dX1_windows_138 rfl 3 rfl ?_
                        refine zp_get (v := .ref (ad 19)) hC (va_P_l hH.1) 139 in_X1 rfl 19 (by decide) q229 0 rfl (rfl) dX1_windows_139 ?_
                        refine z_iload hC 142 hl dX1_windows_142 2 rfl ?_
                        refine z_dup2 hC 144 dX1_windows_144 rfl rfl ?_
                        refine zp_iald (f := (cI (1000) mo gm)) (x := ((mo (md v i (i + w1) t) : Nat) : Int)) hC (va_P_l hH.1) 145 9 ((md v i (i + w1) t)) rfl (by decide) (by omega) (by omega) ((cI_lt (by omega))) dX1_windows_145 ?_
                        refine z_iconst hC 146 dX1_windows_146 ?_
                        refine z_iadd (e := ((mo (md v i (i + w1) t) : Nat) : Int) + 1) hC 147 dX1_windows_147 rfl ?_
                        refine sD_19 (f' := (cI (1000) (va_up mo ((md v i (i + w1) t)) ((mo (md v i (i + w1) t)) + 1)) gm)) hC hH 148 ((md v i (i + w1) t)) (by omega) (by omega) (by rw [show (((mo (md v i (i + w1) t) : Nat) : Int) + 1 : Int) = (((mo (md v i (i + w1) t)) + 1 : Nat) : Int) from by omega]; exact cI_up (by omega)) dX1_windows_148 (fun H locs hH => ?_)
                        have hH : zH s0 s1 G as0 (dW ad G (va_up F 17 ((k_84 : Int))) (va_up (va_up (va_up Ar 15 (cI (k_84) u_84 gu_84)) 16 zZ) 19 (cI (1000) (va_up mo ((md v i (i + w1) t)) ((mo (md v i (i + w1) t)) + 1)) gm)) kp pl PX2) H locs := hH
                        refine z_iload hC 149 hl dX1_windows_149 2 rfl ?_
                        refine z_istore (lv' := [(5, .int (iZ (((md v i (i + w1) t : Nat) : Int)))), (4, .int (iZ ((uk : Int) + 1))), (3, .int (iZ ((c : Int) + 1))), (7, .int (iZ (((md v i (i + w1) t : Nat) : Int)))), (0, .ref (ad 99)), (1, .int (iZ ((w1 : Int)))), (2, .int (iZ (q))), (6, .ref (w61))]) hC 151 hl dX1_windows_151 (by decide) rfl (fun ls hl => ?_)
                        refine z_goto hC 153 72 dX1_windows_153 rfl ?_
                        -- J72.6
                        exact ih72 (i + 1) (c + 1) (uk + 1) (ce9 + 1) (sl9 + 1) ((md v i (i + w1) t : Nat) : Int) (va_up mo ((md v i (i + w1) t)) ((mo (md v i (i + w1) t)) + 1)) gm PX2 (k_84 : Int) (cI (k_84) u_84 gu_84) _ _ _ (by omega) (by first | assumption | omega) (by first | assumption | omega) (by first | assumption | omega) (by first | exact Or.inl ⟨rfl, rfl⟩ | exact Or.inr ⟨Nat.succ_pos _, rfl⟩) (by first | assumption | omega) (by first | rfl | exact cB_it ⟨by omega, by omega⟩ ic | exact cB_if (fun q => by have := q.1; have := q.2; omega) ic) (by first | exact (dst_0 _ 0).symm | (rw [dst_succ (f := (fun i => md v i (i + w1) t)) (md_lt_1000 _ _ _ _)]; first | (rw [if_pos (by omega)]; omega) | (rw [if_neg (by omega)]; omega))) (by first | (intro x hx; rw [cnt_0 _ (Nat.le_refl _)]) | exact cnt_up im (md_lt_1000 _ _ _ _) rfl) (by first | exact hPX1 | exact hPX2) (by first | assumption | omega) (by first | assumption | omega) hH (z_lv (lv_sub hl [4, 5, 6, 2, 1, 0, 7] rfl) (zcons rfl (zcons rfl (zcons rfl (zcons (zpeq (by omega)) (zcons (zpeq (by omega)) (zcons rfl (zcons rfl rfl))))))))
                · -- 74=0
                  refine z_if_eq_t hC 79 156 dX1_windows_79 rfl (by omega) (by omega) ?_
                  have ei : i = n + 1 - w1 := by omega
                  rw [ei] at ic im iu
                  refine z_iconst hC 156 dX1_windows_156 ?_
                  refine z_istore (lv' := [(6, .int (iZ (0))), (0, .ref (ad 99)), (1, .int (iZ ((w1 : Int)))), (2, .int (iZ (q))), (3, .int (iZ ((c : Int)))), (4, .int (iZ ((uk : Int)))), (5, .int (iZ (ws)))]) hC 157 hl dX1_windows_157 (by decide) rfl (fun ls hl => ?_)
                  refine z_iconst hC 159 dX1_windows_159 ?_
                  refine z_istore (lv' := [(7, .int (iZ (1))), (6, .int (iZ (0))), (0, .ref (ad 99)), (1, .int (iZ ((w1 : Int)))), (2, .int (iZ (q))), (3, .int (iZ ((c : Int)))), (4, .int (iZ ((uk : Int)))), (5, .int (iZ (ws)))]) hC 160 hl dX1_windows_160 (by decide) rfl (fun ls hl => ?_)
                  have L162 : ∀ (N_ : Nat) (x : Nat) (bs : Nat) (H : Heap) (locs : List Loc) (ls : Array Slot), 1000 - x < N_ → (1 ≤ x) → (x ≤ 1000) → (bs < x) → (∀ y, y < x → mo y ≤ mo bs ∧ (y < bs → mo y < mo bs)) → zH s0 s1 G as0 (dW ad G (va_up F 17 (f17)) (va_up (va_up (va_up Ar 15 a15) 16 zZ) 19 (cI (1000) mo gm)) kp pl (PW ++ [(w61, .inr (12, [.int (iZ (w1 : Int)), .int (iZ ((i : Nat) : Int)), .ref (ad 99)]))])) H locs → lv_has ls 8 [(0, .ref (ad 99)), (2, .int (iZ (q))), (3, .int (iZ ((c : Int)))), (4, .int (iZ ((uk : Int)))), (6, .int (iZ ((bs : Int)))), (7, .int (iZ ((x : Int))))] → W pg lau ev (zRm 8 122 124 200) s1 mi ar bl me cd H locs ce9 sl9 Q (F0 mi 162 ls []) := by
                    intro N_
                    induction N_ with
                    | zero => intro x bs H locs ls hd; exact absurd hd (Nat.not_lt_zero _)
                    | succ N_ ih162 =>
                      intro x bs H locs ls hd162 i162_1 i162_2 i162_3 ib hH hl
                      refine z_iload hC 162 hl dX1_windows_162 5 rfl ?_
                      refine z_sipush hC 164 dX1_windows_164 rfl ?_
                      refine z_icmp_ge hC 167 197 dX1_windows_167 rfl (by omega) (by omega) (fun hb8 => ?_) (fun hb8 => ?_)
                      · -- 167t
                        have ex : x = 1000 := by omega
                        rw [ex] at ib
                        have hf0 : (fun i => md v i (i + w1) t) 0 < 1000 := md_lt_1000 _ _ _ _
                        have hle := LB_end (b := (bs : Int)) im (by omega) hf0 (Or.inr ⟨bs, by omega, rfl, wpos im ib hf0 (by omega), ib⟩)
                        refine z_iload_n hC 197 hl dX1_windows_197 rfl 1 rfl ?_
                        refine z_if_ne hC 198 205 dX1_windows_198 rfl (by omega) (fun hb9 => ?_) (fun hb9 => ?_)
                        · -- 198t
                          refine z_iload_n hC 205 hl dX1_windows_205 rfl 1 rfl ?_
                          refine z_iconst hC 206 dX1_windows_206 ?_
                          refine z_icmp_ne hC 207 215 dX1_windows_207 rfl (by omega) (by omega) (fun hb10 => ?_) (fun hb10 => ?_)
                          · -- 207t
                            refine z_iload hC 215 hl dX1_windows_215 4 rfl ?_
                            rw [← dW_app] at hH
                            have hH := zH_l hH
                            -- R217.7
                            exact z_iret hC hH hQ 217 (((bs : Int), (va_up F 17 (f17)), (va_up (va_up (va_up Ar 15 a15) 16 zZ) 19 (cI (1000) mo gm)))) dX1_windows_217 rfl ⟨by (unfold Sp_windows; rw [if_pos (by omega)]; simp only [Int.toNat_natCast]; first | (rw [if_pos (by omega), ic]; done) | (rw [if_neg (by omega), if_pos (by omega), iu]; done) | (rw [if_neg (by omega), if_neg (by omega)]; exact hle)), by first | assumption | exact ⟨fun k h1 h2 h3 h4 h5 => by first | rfl | (simp [va_up, h1, h2, h3, h4, h5]; done) | (simp [va_up, h1, h2, h3, h4, h5]; intro e9; rw [e9, hFn]), fun k h1 h2 h3 h4 h5 h6 => by first | rfl | simp [va_up, h1, h2, h3, h4, h5, h6]⟩⟩ rfl (by first | decide | omega) (by first | decide | omega)
                          · -- 207f
                            refine z_iload hC 210 hl dX1_windows_210 3 rfl ?_
                            refine z_goto hC 212 217 dX1_windows_212 rfl ?_
                            rw [← dW_app] at hH
                            have hH := zH_l hH
                            -- R217.8
                            exact z_iret hC hH hQ 217 (((uk : Int), (va_up F 17 (f17)), (va_up (va_up (va_up Ar 15 a15) 16 zZ) 19 (cI (1000) mo gm)))) dX1_windows_217 rfl ⟨by (unfold Sp_windows; rw [if_pos (by omega)]; simp only [Int.toNat_natCast]; first | (rw [if_pos (by omega), ic]; done) | (rw [if_neg (by omega), if_pos (by omega), iu]; done) | (rw [if_neg (by omega), if_neg (by omega)]; exact hle)), by first | assumption | exact ⟨fun k h1 h2 h3 h4 h5 => by first | rfl | (simp [va_up, h1, h2, h3, h4, h5]; done) | (simp [va_up, h1, h2, h3, h4, h5]; intro e9; rw [e9, hFn]), fun k h1 h2 h3 h4 h5 h6 => by first | rfl | simp [va_up, h1, h2, h3, h4, h5, h6]⟩⟩ rfl (by first | decide | omega) (by first | decide | omega)
                        · -- 198f
                          refine z_iload_n hC 201 hl dX1_windows_201 rfl 2 rfl ?_
                          refine z_goto hC 202 217 dX1_windows_202 rfl ?_
                          rw [← dW_app] at hH
                          have hH := zH_l hH
                          -- R217.9
                          exact z_iret hC hH hQ 217 (((c : Int), (va_up F 17 (f17)), (va_up (va_up (va_up Ar 15 a15) 16 zZ) 19 (cI (1000) mo gm)))) dX1_windows_217 rfl ⟨by (unfold Sp_windows; rw [if_pos (by omega)]; simp only [Int.toNat_natCast]; first | (rw [if_pos (by omega), ic]; done) | (rw [if_neg (by omega), if_pos (by omega), iu]; done) | (rw [if_neg (by omega), if_neg (by omega)]; exact hle)), by first | assumption | exact ⟨fun k h1 h2 h3 h4 h5 => by first | rfl | (simp [va_up, h1, h2, h3, h4, h5]; done) | (simp [va_up, h1, h2, h3, h4, h5]; intro e9; rw [e9, hFn]), fun k h1 h2 h3 h4 h5 h6 => by first | rfl | simp [va_up, h1, h2, h3, h4, h5, h6]⟩⟩ rfl (by first | decide | omega) (by first | decide | omega)
                      · -- 167f
                        have hm1 := im x (by omega)
                        have hm2 := im bs (by omega)
                        have hm3 := cnt_le (fun i => md v i (i + w1) t) 0 (n + 1 - w1) x
                        have hm4 := cnt_le (fun i => md v i (i + w1) t) 0 (n + 1 - w1) bs
                        refine z_aload_n hC 170 hl dX1_windows_170 rfl 0 rfl ?_
                        refine zp_get (v := .ref (ad 19)) hC (va_P_l hH.1) 171 in_X1 rfl 19 (by decide) q229 0 rfl (rfl) dX1_windows_171 ?_
                        refine z_iload hC 174 hl dX1_windows_174 5 rfl ?_
                        refine zp_iald (f := (cI (1000) mo gm)) (x := ((mo x : Nat) : Int)) hC (va_P_l hH.1) 176 9 (x) rfl (by decide) (by omega) (by omega) ((cI_lt (by omega))) dX1_windows_176 ?_
                        refine z_aload_n hC 177 hl dX1_windows_177 rfl 0 rfl ?_
                        refine zp_get (v := .ref (ad 19)) hC (va_P_l hH.1) 178 in_X1 rfl 19 (by decide) q229 0 rfl (rfl) dX1_windows_178 ?_
                        refine z_iload hC 181 hl dX1_windows_181 4 rfl ?_
                        refine zp_iald (f := (cI (1000) mo gm)) (x := ((mo bs : Nat) : Int)) hC (va_P_l hH.1) 183 9 (bs) rfl (by decide) (by omega) (by omega) ((cI_lt (by omega))) dX1_windows_183 ?_
                        refine z_icmp_le hC 184 191 dX1_windows_184 rfl (by omega) (by omega) (fun hb11 => ?_) (fun hb11 => ?_)
                        · -- 184t
                          refine z_iinc (lv' := [(7, .int (iZ ((x : Int) + 1))), (0, .ref (ad 99)), (2, .int (iZ (q))), (3, .int (iZ ((c : Int)))), (4, .int (iZ ((uk : Int)))), (6, .int (iZ ((bs : Int))))]) hC 191 hl dX1_windows_191 5 rfl (by omega) (by decide) rfl (fun ls hl => ?_)
                          refine z_goto hC 194 162 dX1_windows_194 rfl ?_
                          -- J162.10
                          exact ih162 (x + 1) bs _ _ _ (by omega) (by first | assumption | omega) (by first | assumption | omega) (by first | assumption | omega) (by first | (intro y hy; rw [show y = 0 by omega]; exact ⟨Nat.le_refl _, fun q => absurd q (Nat.lt_irrefl _)⟩) | (intro y hy; by_cases e : y = x; (subst e; omega); (have := ib y (by omega); omega))) hH (z_lv (lv_sub hl [1, 2, 3, 4, 5, 0] rfl) (zcons rfl (zcons rfl (zcons rfl (zcons rfl (zcons rfl (zcons (zpeq (by omega)) rfl)))))))
                        · -- 184f
                          refine z_iload hC 187 hl dX1_windows_187 5 rfl ?_
                          refine z_istore (lv' := [(6, .int (iZ ((x : Int)))), (0, .ref (ad 99)), (2, .int (iZ (q))), (3, .int (iZ ((c : Int)))), (4, .int (iZ ((uk : Int)))), (7, .int (iZ ((x : Int))))]) hC 189 hl dX1_windows_189 (by decide) rfl (fun ls hl => ?_)
                          refine z_iinc (lv' := [(7, .int (iZ ((x : Int) + 1))), (6, .int (iZ ((x : Int)))), (0, .ref (ad 99)), (2, .int (iZ (q))), (3, .int (iZ ((c : Int)))), (4, .int (iZ ((uk : Int))))]) hC 191 hl dX1_windows_191 5 rfl (by omega) (by decide) rfl (fun ls hl => ?_)
                          refine z_goto hC 194 162 dX1_windows_194 rfl ?_
                          -- J162.11
                          exact ih162 (x + 1) x _ _ _ (by omega) (by first | assumption | omega) (by first | assumption | omega) (by first | assumption | omega) (by first | (intro y hy; rw [show y = 0 by omega]; exact ⟨Nat.le_refl _, fun q => absurd q (Nat.lt_irrefl _)⟩) | (intro y hy; by_cases e : y = x; (subst e; omega); (have := ib y (by omega); omega))) hH (z_lv (lv_sub hl [2, 3, 4, 5, 1, 0] rfl) (zcons rfl (zcons rfl (zcons rfl (zcons rfl (zcons rfl (zcons (zpeq (by omega)) rfl)))))))
                  -- J162.12
                  exact L162 _ 1 0 _ _ _ (Nat.lt_succ_self _) (by first | assumption | omega) (by first | assumption | omega) (by first | assumption | omega) (by first | (intro y hy; rw [show y = 0 by omega]; exact ⟨Nat.le_refl _, fun q => absurd q (Nat.lt_irrefl _)⟩) | (intro y hy; by_cases e : y = x; (subst e; omega); (have := ib y (by omega); omega))) hH (z_lv (lv_sub hl [2, 4, 5, 6, 1, 0] rfl) (zcons rfl (zcons rfl (zcons rfl (zcons rfl (zcons (zpeq (by omega)) (zcons (zpeq (by omega)) rfl)))))))
            -- J72.13
            exact L72 _ 0 0 0 (0 + 1 + 0) (0 + 3 + 0) (-1) (fun _ => 0) a PX0 (F 17) (Ar 15) _ _ _ (Nat.lt_succ_self _) (by first | assumption | omega) (by first | assumption | omega) (by first | assumption | omega) (by first | exact Or.inl ⟨rfl, rfl⟩ | exact Or.inr ⟨Nat.succ_pos _, rfl⟩) (by first | assumption | omega) (by first | rfl | exact cB_it ⟨by omega, by omega⟩ ic | exact cB_if (fun q => by have := q.1; have := q.2; omega) ic) (by first | exact (dst_0 _ 0).symm | (rw [dst_succ (f := (fun i => md v i (i + w1) t)) (md_lt_1000 _ _ _ _)]; first | (rw [if_pos (by omega)]; omega) | (rw [if_neg (by omega)]; omega))) (by first | (intro x hx; rw [cnt_0 _ (Nat.le_refl _)]) | exact cnt_up im (md_lt_1000 _ _ _ _) rfl) (by first | exact hPX1 | exact hPX2) (by first | assumption | omega) (by first | assumption | omega) hH (z_lv (lv_sub hl [4, 5, 6, 3, 2, 1, 0] rfl) (zcons rfl (zcons rfl (zcons rfl (zcons (zpeq (by omega)) (zcons (zpeq (by omega)) (zcons rfl (zcons rfl rfl))))))))
          · -- 37f
            refine z_aload_n hC 40 hl dX1_windows_40 rfl 0 rfl ?_
            refine zp_get (v := .ref (ad 19)) hC (va_P_l hH.1) 41 in_X1 rfl 19 (by decide) q229 0 rfl (rfl) dX1_windows_41 ?_
            refine z_iload_n hC 44 hl dX1_windows_44 rfl 3 rfl ?_
            refine z_iconst hC 45 dX1_windows_45 ?_
            refine sD_19 (f' := (va_up a (i) (0))) hC hH 46 (i) (by omega) (by omega) rfl dX1_windows_46 (fun H locs hH => ?_)
            have hH : zH s0 s1 G as0 (dW ad G F (va_up (va_up Ar 16 zZ) 19 (va_up a (i) (0))) kp pl PW) H locs := hH
            refine z_iinc (lv' := [(3, .int (iZ ((i : Int) + 1))), (0, .ref (ad 99)), (1, .int (iZ ((w1 : Int)))), (2, .int (iZ (q)))]) hC 47 hl dX1_windows_47 3 rfl (by omega) (by decide) rfl (fun ls hl => ?_)
            refine z_goto hC 50 33 dX1_windows_50 rfl ?_
            -- J33.14
            exact ih33 (i + 1) (va_up a (i) (0)) _ _ _ (by omega) (by first | assumption | omega) (by first | (intro j hj; omega) | exact z0_up iz) hH (z_lv (lv_sub hl [1, 2, 3, 0] rfl) (zcons rfl (zcons rfl (zcons rfl (zcons (zpeq (by omega)) rfl)))))
      -- J33.15
      exact L33 _ 0 (Ar 19) _ _ _ (Nat.lt_succ_self _) (by first | assumption | omega) (by first | (intro j hj; omega) | exact z0_up iz) hH (z_lv (lv_sub hl [1, 2, 3, 0] rfl) (zcons rfl (zcons rfl (zcons rfl (zcons (zpeq (by omega)) rfl)))))
    · -- 23=0
      refine z_if_ne_f hC 26 31 dX1_windows_26 rfl (by omega) (by omega) ?_
      refine z_iconst hC 29 dX1_windows_29 ?_
      -- R30.16
      exact z_iret hC hH hQ 30 (((-1), F, (va_up Ar 16 zZ))) dX1_windows_30 rfl ⟨by first | (unfold Sp_windows; rw [if_neg (by omega)]) | (unfold Sp_windows; rw [if_pos (by omega)]; (try simp only [Int.toNat_natCast, zt1]); first | done | trivial | rfl | omega | (rw [if_pos (by omega)]; first | done | trivial | rfl | omega) | (rw [if_neg (by omega)]; first | done | trivial | rfl | omega)), by first | assumption | exact ⟨fun k h1 h2 h3 h4 h5 => by first | rfl | (simp [va_up, h1, h2, h3, h4, h5]; done) | (simp [va_up, h1, h2, h3, h4, h5]; intro e9; rw [e9, hFn]), fun k h1 h2 h3 h4 h5 h6 => by first | rfl | simp [va_up, h1, h2, h3, h4, h5, h6]⟩⟩ rfl (by first | decide | omega) (by first | decide | omega)
  · -- 11=0
    refine z_if_eq_t hC 14 29 dX1_windows_14 rfl (by omega) (by omega) ?_
    refine z_iconst hC 29 dX1_windows_29 ?_
    -- R30.17
    exact z_iret hC hH hQ 30 (((-1), F, (va_up Ar 16 zZ))) dX1_windows_30 rfl ⟨by first | (unfold Sp_windows; rw [if_neg (by omega)]) | (unfold Sp_windows; rw [if_pos (by omega)]; (try simp only [Int.toNat_natCast, zt1]); first | done | trivial | rfl | omega | (rw [if_pos (by omega)]; first | done | trivial | rfl | omega) | (rw [if_neg (by omega)]; first | done | trivial | rfl | omega)), by first | assumption | exact ⟨fun k h1 h2 h3 h4 h5 => by first | rfl | (simp [va_up, h1, h2, h3, h4, h5]; done) | (simp [va_up, h1, h2, h3, h4, h5]; intro e9; rw [e9, hFn]), fun k h1 h2 h3 h4 h5 h6 => by first | rfl | simp [va_up, h1, h2, h3, h4, h5, h6]⟩⟩ rfl (by first | decide | omega) (by first | decide | omega)
