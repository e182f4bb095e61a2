/-! methods of ModeDesk that write: 69.ei -/
set_option maxHeartbeats 4000000 in
set_option maxRecDepth 100000 in
theorem m_X1_needed (lau : Launch) (s0 : State) (G : zG) (sz : Nat) (ad : Nat → Nat) (F : Nat → Int) (Ar : Nat → Nat → Int) (kp : Nat → Nat) (pl : Nat → Option Nat) (PW : va_W) (n : Nat) (v : Nat → Nat) (pr : Nat → Nat) (pa : Nat → Nat) (pm : Nat → Nat) (pf : Nat → Nat → Nat) (nw : Nat) (b : Nat) (t : Nat) (l : Int) (r : Int) (x : Int) (hn : n ≤ 120) (hFn : F 200 = (n : Int)) (hv : ∀ i, i < n → v i < 1000) (hAv : ∀ i, i < n → Ar 201 i = (v i : Int)) (hb : 2 ≤ b ∧ b ≤ 20) (hFb : F 7 = (b : Int)) (ht : t < 4) (hFt : F 8 = (t : Int)) (hpl : ∀ y, y < 1000 → (pl y = some (pr y) ∨ (pl y = none ∧ pr y = nw))) (hnw : zNwh s0 nw) (hpc : ∀ y, y < 1000 → PlC n v y (pm y) (pf y)) (hpp : zPool s0 G PW pr pa pm pf) (hmo : ∀ i j, i ≤ j → b * j < n → Ar 12 (60 * i + j) = (md v (b * i) (bEnd b j n) t : Int)) (hr_l : -2147483648 ≤ l ∧ l < 2147483648) (hr_r : -2147483648 ≤ r ∧ r < 2147483648) (hr_x : -2147483648 ≤ x ∧ x < 2147483648) : zMet (S := Int × (Nat → Int) × (Nat → Nat → Int)) lau yX1_needed cX1_needed 8 (some .int) 2 46 0 0 s0 G sz [.ref (ad 99), .int (iZ (l)), .int (iZ (r)), .int (iZ (x))] (dW ad G F (va_up Ar 16 zZ) kp pl PW) (fun ((r_, F2, A2) : Int × (Nat → Int) × (Nat → Nat → Int)) => some (.int (iZ (r_)))) (fun ((r_, F2, A2) : Int × (Nat → Int) × (Nat → Nat → Int)) => (Sp_needed n v l r x r_) ∧ (DK F (va_up Ar 16 zZ) F2 A2)) (fun ((r_, F2, A2) : Int × (Nat → Int) × (Nat → Nat → Int)) => (dW ad G F2 A2 kp pl PW)) := by
  refine zMet.of (by decide) (Nat.le_of_ble_eq_true rfl) ?_
  intro pg ev s1 mi ar bl me cd ls Q as0 hC hH hl hQ hsz
  generalize s1.heap = H at hH ⊢
  generalize ([] : List Loc) = locs at hH ⊢
  have hl : lv_has ls 8 [(0, .ref (ad 99)), (1, .int (iZ (l))), (2, .int (iZ (r))), (3, .int (iZ (x)))] := hl
  refine z_aload_n hC 0 hl dX1_needed_0 rfl 0 rfl ?_
  refine z_iload_n hC 1 hl dX1_needed_1 rfl 1 rfl ?_
  refine z_iload_n hC 2 hl dX1_needed_2 rfl 2 rfl ?_
  refine zp_back (zp_runV hC (hH.2.2) hl.1 (va_P_l hH.1) 2 (As := [.int (iZ (l)), .int (iZ (r))]) (rest := []) (u_X1_isSpan lau s0 G ad F (va_up Ar 16 zZ) kp pl n l r (by first | exact hn | assumption | omega) (by first | exact hFn | assumption | omega) (by first | assumption | omega) (by first | assumption | omega)) (lw_V q864 q866 qs26 q89 q867) ⟨rfl, by decide, by decide, by decide +kernel⟩ (q0 := 0) (ci := 1) rfl rfl rfl rfl (Nat.le_of_ble_eq_true rfl) ⟨Nat.le_of_ble_eq_true rfl, Nat.le_of_ble_eq_true rfl⟩ ⟨by first | decide | omega, by first | decide | omega⟩ dX1_needed_3) (fun r_3 hpost => ?_)
  have hb_3 : (r_3 = 1 ∧ (0 ≤ l ∧ l ≤ r ∧ r < (n : Int))) ∨ (r_3 = 0 ∧ ¬ (0 ≤ l ∧ l ≤ r ∧ r < (n : Int))) := hpost
  refine z_st (st' := [.int (iZ (r_3))]) rfl ?_
  rcases hb_3 with ⟨rfl, hb_3⟩ | ⟨rfl, hb_3⟩
  · -- 3=1
    refine z_if_eq_f hC 6 16 dX1_needed_6 rfl (by omega) (by omega) ?_
    refine z_iload_n hC 9 hl dX1_needed_9 rfl 3 rfl ?_
    refine zp_back (zp_runS hC (hH.2.2) hl.1 (zp_nil) 1 (As := [.int (iZ (x))]) (rest := []) (u_X1_isValue lau s0 G x (by first | assumption | omega)) (lw_S q803 q804 q89 q805) ⟨by decide, by decide, by decide +kernel⟩ rfl rfl (Nat.le_of_ble_eq_true rfl) ⟨Nat.le_of_ble_eq_true rfl, Nat.le_of_ble_eq_true rfl⟩ ⟨by first | decide | omega, by first | decide | omega⟩ dX1_needed_10) (fun r_10 hpost => ?_)
    have hb_10 : (r_10 = 1 ∧ (0 ≤ x ∧ x < 1000)) ∨ (r_10 = 0 ∧ ¬ (0 ≤ x ∧ x < 1000)) := hpost
    refine z_st (st' := [.int (iZ (r_10))]) rfl ?_
    rcases hb_10 with ⟨rfl, hb_10⟩ | ⟨rfl, hb_10⟩
    · -- 10=1
      refine z_if_ne_t hC 13 18 dX1_needed_13 rfl (by omega) (by omega) ?_
      obtain ⟨l1, rfl⟩ := Int.eq_ofNat_of_zero_le (show 0 ≤ l by omega)
      obtain ⟨r1, rfl⟩ := Int.eq_ofNat_of_zero_le (show 0 ≤ r by omega)
      obtain ⟨x1, rfl⟩ := Int.eq_ofNat_of_zero_le (show 0 ≤ x by omega)
      refine z_aload_n hC 18 hl dX1_needed_18 rfl 0 rfl ?_
      refine z_iload_n hC 19 hl dX1_needed_19 rfl 1 rfl ?_
      refine z_iload_n hC 20 hl dX1_needed_20 rfl 2 rfl ?_
      refine z_st (st' := [.int (iZ (((r1 + 1 : Nat) : Int) - 1)), .int (iZ ((l1 : Int))), .ref (ad 99)]) (zcons (zieq (by omega)) (zcons rfl rfl)) ?_
      refine z_same (z_runV hC hH.2.2 hl.1 hH.1 hH.2.1 2 (As := [.int (iZ ((l1 : Int))), .int (iZ (((r1 + 1 : Nat) : Int) - 1))]) (rest := []) (m_X1_laysAll lau s0 G _ ad F (va_up Ar 16 zZ) kp pl PW n v l1 (r1 + 1) (by first | exact hn | assumption | omega) (by first | exact hFn | assumption | omega) (by first | exact hv | assumption | omega) (by first | exact hAv | assumption | omega) (by first | exact hlr | assumption | omega) (by first | exact hrn | assumption | omega)) (lw_V q1051 q1053 qs35 q89 q1054) ⟨rfl, by decide, by decide, by decide +kernel⟩ (q0 := 0) (ci := 1) rfl rfl rfl rfl (Nat.le_of_ble_eq_true rfl) ⟨Nat.le_of_ble_eq_true rfl, Nat.le_of_ble_eq_true rfl⟩ ⟨Nat.le_of_ble_eq_true rfl, Nat.le_of_ble_eq_true rfl⟩ dX1_needed_21) hH (fun u_ H locs hpost hH => ?_)
      obtain ⟨k_21, u_21, gu_21⟩ := u_
      have pE_21 : EN v l1 (r1 + 1) k_21 u_21 := hpost
      have hH : zH s0 s1 G as0 (dW ad G (va_up F 17 ((k_21 : Int))) (va_up (va_up Ar 15 (cI (k_21) u_21 gu_21)) 16 zZ) kp pl PW) H locs := hH
      refine z_st (st' := []) rfl ?_
      have hkk := pE_21.1
      have hcx := cnt_le v l1 (r1 + 1) x1
      refine z_iconst hC 24 dX1_needed_24 ?_
      refine z_istore (lv' := [(4, .int (iZ (0))), (0, .ref (ad 99)), (1, .int (iZ ((l1 : Int)))), (2, .int (iZ ((r1 : Int)))), (3, .int (iZ ((x1 : Int))))]) hC 25 hl dX1_needed_25 (by decide) rfl (fun ls hl => ?_)
      have L27 : ∀ (N_ : Nat) (i : Nat) (ta : Nat → Int) (H : Heap) (locs : List Loc) (ls : Array Slot), k_21 - i < N_ → (i ≤ k_21) → (∀ j, j < i → ta (u_21 j) = (cnt v l1 (r1 + 1) (u_21 j) : Int)) → zH s0 s1 G as0 (dW ad G (va_up F 17 ((k_21 : Int))) (va_up (va_up (va_up Ar 15 (cI (k_21) u_21 gu_21)) 16 zZ) 19 ta) kp pl PW) H locs → lv_has ls 8 [(0, .ref (ad 99)), (1, .int (iZ ((l1 : Int)))), (2, .int (iZ ((r1 : Int)))), (3, .int (iZ ((x1 : Int)))), (4, .int (iZ ((i : Int))))] → W pg lau ev (zRm 2 0 0 46) s1 mi ar bl me cd H locs 0 0 Q (F0 mi 27 ls []) := by
        intro N_
        induction N_ with
        | zero => intro i ta H locs ls hd; exact absurd hd (Nat.not_lt_zero _)
        | succ N_ ih27 =>
          intro i ta H locs ls hd27 i27_1 it hH hl
          refine z_iload hC 27 hl dX1_needed_27 4 rfl ?_
          refine z_aload_n hC 29 hl dX1_needed_29 rfl 0 rfl ?_
          refine zp_get (v := .int (iZ ((k_21 : Int)))) hC (va_P_l hH.1) 30 in_X1 rfl 17 (by decide) q227 0 rfl (rfl) dX1_needed_30 ?_
          refine z_icmp_ge hC 33 70 dX1_needed_33 rfl (by omega) (by omega) (fun hb1 => ?_) (fun hb1 => ?_)
          · -- 33t
            have ei0 : (i) = k_21 := by omega
            rw [ei0] at it
            refine z_aload_n hC 70 hl dX1_needed_70 rfl 0 rfl ?_
            refine z_iload_n hC 71 hl dX1_needed_71 rfl 3 rfl ?_
            refine zp_back (zp_runV hC (hH.2.2) hl.1 (va_P_l hH.1) 1 (As := [.int (iZ ((x1 : Int)))]) (rest := []) (u_X1_of lau s0 G ad (va_up F 17 ((k_21 : Int))) (va_up (va_up (va_up Ar 15 (cI (k_21) u_21 gu_21)) 16 zZ) 19 ta) kp pl x1 (pr x1) nw (by first | assumption | omega) (by first | exact hpl | (first | assumption | exact hpl _ (by omega)) | assumption | omega) (by first | exact hnw | assumption | omega)) (lw_V q736 q738 qs17 q89 q739) ⟨rfl, by decide, by decide, by decide +kernel⟩ (q0 := 0) (ci := 1) rfl rfl rfl rfl (Nat.le_of_ble_eq_true rfl) ⟨Nat.le_of_ble_eq_true rfl, Nat.le_of_ble_eq_true rfl⟩ ⟨by first | decide | omega, by first | decide | omega⟩ dX1_needed_72) (fun _ hpost => ?_)
            refine z_st (st' := [.ref ((pr x1))]) rfl ?_
            refine z_iload_n hC 75 hl dX1_needed_75 rfl 1 rfl ?_
            refine z_iload_n hC 76 hl dX1_needed_76 rfl 2 rfl ?_
            refine z_st (st' := [.int (iZ (((r1 + 1 : Nat) : Int) - 1)), .int (iZ ((l1 : Int))), .ref ((pr x1))]) (zcons (zieq (by omega)) (zcons rfl rfl)) ?_
            refine zp_back (zw_run hC (hH.2.2) hl.1 ((dWp hH hpp (y := x1) (by omega))) 2 (As := [.int (iZ ((l1 : Int))), .int (iZ (((r1 + 1 : Nat) : Int) - 1))]) (rest := []) (u_X10_within lau s0 G (pr x1) (pa (x1)) (pm (x1)) (pf (x1)) n v (x1) l1 (r1 + 1) (by first | exact hn | assumption | omega) (by exact hpc _ (by omega)) (by first | exact hlr | assumption | omega) (by first | exact hrn | assumption | omega)) (fun hx0 hO0 => u_X10_within_nw lau s0 G (pr x1) (pa (x1)) (pm (x1)) (pf (x1)) n v (x1) l1 (r1 + 1) (by first | exact hn | assumption | omega) (by exact hpc _ (by omega)) (by first | exact hlr | assumption | omega) (by first | exact hrn | assumption | omega) hx0 hO0) (lw_V q742 q743 q744 q110 q745) ⟨rfl, by decide, by decide, by decide +kernel⟩ rfl rfl (Nat.le_of_ble_eq_true rfl) ⟨Nat.le_of_ble_eq_true rfl, Nat.le_of_ble_eq_true rfl⟩ ⟨by first | decide | omega, by first | decide | omega⟩ dX1_needed_77) (fun _ hpost => ?_)
            refine z_st (st' := [.int (iZ (((cnt v l1 (r1 + 1) (x1) : Nat) : Int)))]) rfl ?_
            refine z_istore (lv' := [(4, .int (iZ (((cnt v l1 (r1 + 1) (x1) : Nat) : Int)))), (0, .ref (ad 99)), (1, .int (iZ ((l1 : Int)))), (2, .int (iZ ((r1 : Int)))), (3, .int (iZ ((x1 : Int))))]) hC 80 hl dX1_needed_80 (by decide) rfl (fun ls hl => ?_)
            refine z_iconst hC 82 dX1_needed_82 ?_
            refine z_istore (lv' := [(5, .int (iZ (0))), (4, .int (iZ (((cnt v l1 (r1 + 1) (x1) : Nat) : Int)))), (0, .ref (ad 99)), (1, .int (iZ ((l1 : Int)))), (2, .int (iZ ((r1 : Int)))), (3, .int (iZ ((x1 : Int))))]) hC 83 hl dX1_needed_83 (by decide) rfl (fun ls hl => ?_)
            have L85 : ∀ (N_ : Nat) (j : Nat) (tb : Nat → Int) (T : Nat → Nat) (H : Heap) (locs : List Loc) (ls : Array Slot), 200 - j < N_ → (NDI v l1 (r1 + 1) x1 T j) → (∀ a, a < k_21 → tb (u_21 a) = (T (u_21 a) : Int)) → (∀ i : Nat, i < j → i < ov v l1 (r1 + 1) x1 ((cnt v l1 (r1 + 1) x1 : Int) + (i : Int) - 1)) → (j = 0 → ∀ y, T y = cnt v l1 (r1 + 1) y) → (∀ y, T y ≤ 120) → zH s0 s1 G as0 (dW ad G (va_up F 17 ((k_21 : Int))) (va_up (va_up (va_up Ar 15 (cI (k_21) u_21 gu_21)) 16 zZ) 19 tb) kp pl PW) H locs → lv_has ls 8 [(0, .ref (ad 99)), (1, .int (iZ ((l1 : Int)))), (2, .int (iZ ((r1 : Int)))), (3, .int (iZ ((x1 : Int)))), (4, .int (iZ (((cnt v l1 (r1 + 1) (x1) : Nat) : Int)))), (5, .int (iZ ((j : Int))))] → W pg lau ev (zRm 2 0 0 46) s1 mi ar bl me cd H locs 0 0 Q (F0 mi 85 ls []) := by
              intro N_
              induction N_ with
              | zero => intro j tb T H locs ls hd; exact absurd hd (Nat.not_lt_zero _)
              | succ N_ ih85 =>
                intro j tb T H locs ls hd85 iN iT iG i0 iZ_ hH hl
                have hxb : j < 200 := by rcases Nat.lt_or_ge j 200 with q1 | q1; (· exact q1); (· have q2 := iG 150 (by omega); rw [ov_0 (fun y => by have := cnt_le v l1 (r1 + 1) y; omega)] at q2; omega)
                refine z_iconst hC 85 dX1_needed_85 ?_
                refine z_istore (lv' := [(6, .int (iZ ((-1)))), (0, .ref (ad 99)), (1, .int (iZ ((l1 : Int)))), (2, .int (iZ ((r1 : Int)))), (3, .int (iZ ((x1 : Int)))), (4, .int (iZ (((cnt v l1 (r1 + 1) (x1) : Nat) : Int)))), (5, .int (iZ ((j : Int))))]) hC 86 hl dX1_needed_86 (by decide) rfl (fun ls hl => ?_)
                refine z_iconst hC 88 dX1_needed_88 ?_
                refine z_istore (lv' := [(7, .int (iZ (0))), (6, .int (iZ ((-1)))), (0, .ref (ad 99)), (1, .int (iZ ((l1 : Int)))), (2, .int (iZ ((r1 : Int)))), (3, .int (iZ ((x1 : Int)))), (4, .int (iZ (((cnt v l1 (r1 + 1) (x1) : Nat) : Int)))), (5, .int (iZ ((j : Int))))]) hC 89 hl dX1_needed_89 (by decide) rfl (fun ls hl => ?_)
                have L91 : ∀ (N_ : Nat) (i : Nat) (mo : Int) (H : Heap) (locs : List Loc) (ls : Array Slot), k_21 - i < N_ → (i ≤ k_21) → (-1 ≤ mo ∧ mo < 1000) → (NDB T u_21 x1 i mo) → zH s0 s1 G as0 (dW ad G (va_up F 17 ((k_21 : Int))) (va_up (va_up (va_up Ar 15 (cI (k_21) u_21 gu_21)) 16 zZ) 19 tb) kp pl PW) H locs → lv_has ls 8 [(0, .ref (ad 99)), (1, .int (iZ ((l1 : Int)))), (2, .int (iZ ((r1 : Int)))), (3, .int (iZ ((x1 : Int)))), (4, .int (iZ (((cnt v l1 (r1 + 1) (x1) : Nat) : Int)))), (5, .int (iZ ((j : Int)))), (6, .int (iZ (mo))), (7, .int (iZ ((i : Int))))] → W pg lau ev (zRm 2 0 0 46) s1 mi ar bl me cd H locs 0 0 Q (F0 mi 91 ls []) := by
                  intro N_
                  induction N_ with
                  | zero => intro i mo H locs ls hd; exact absurd hd (Nat.not_lt_zero _)
                  | succ N_ ih91 =>
                    intro i mo H locs ls hd91 i91_1 i91_2 iB hH hl
                    refine z_iload hC 91 hl dX1_needed_91 7 rfl ?_
                    refine z_aload_n hC 93 hl dX1_needed_93 rfl 0 rfl ?_
                    refine zp_get (v := .int (iZ ((k_21 : Int)))) hC (va_P_l hH.1) 94 in_X1 rfl 17 (by decide) q227 0 rfl (rfl) dX1_needed_94 ?_
                    refine z_icmp_ge hC 97 154 dX1_needed_97 rfl (by omega) (by omega) (fun hb2 => ?_) (fun hb2 => ?_)
                    · -- 97t
                      have ei1 : i = k_21 := by omega
                      rw [ei1] at iB
                      refine z_iload hC 154 hl dX1_needed_154 6 rfl ?_
                      refine z_iconst hC 156 dX1_needed_156 ?_
                      refine z_icmp_eq hC 157 175 dX1_needed_157 rfl (by omega) (by omega) (fun hb3 => ?_) (fun hb3 => ?_)
                      · -- 157t
                        refine z_iload hC 175 hl dX1_needed_175 5 rfl ?_
                        -- R177.1
                        exact z_iret hC hH hQ 177 (((j : Int), (va_up F 17 ((k_21 : Int))), (va_up (va_up (va_up Ar 15 (cI (k_21) u_21 gu_21)) 16 zZ) 19 tb))) dX1_needed_177 rfl ⟨by (unfold Sp_needed; rw [if_pos (by omega)]; simp only [Int.toNat_natCast, zt1]; refine ⟨j, ?_, iG, rfl⟩; first | exact NDI_stop iN (fun y hy hyx py => by have := hm6 y hy hyx py; omega) | (refine NDI_stop iN (fun y hy hyx py => ?_); rcases iB with ⟨b1, b2⟩ | ⟨a9, b1, b2, b3⟩; (obtain ⟨a9, ha9, ea9⟩ := pE_21.2.2.2 y hy py; exact absurd (by rw [← ea9]; exact b2 a9 ha9) hyx); omega)), by first | assumption | exact ⟨fun k h1 h2 h3 h4 h5 => by first | rfl | (simp [va_up, h1, h2, h3, h4, h5]; done) | (simp [va_up, h1, h2, h3, h4, h5]; intro e9; rw [e9, hFn]), fun k h1 h2 h3 h4 h5 h6 => by first | rfl | simp [va_up, h1, h2, h3, h4, h5, h6]⟩⟩ rfl (Nat.le_refl _) (Nat.le_refl _)
                      · -- 157f
                        obtain ⟨m, rfl, hm1, hm2, hm3⟩ := NDB_get iB (by assumption)
                        have hTm : tb m = (T m : Int) := by obtain ⟨a9, ha9, ea9⟩ := hm1; rw [ea9]; exact iT a9 (by omega)
                        have hTm2 := iZ_ m
                        have hm6 : ∀ y, y < 1000 → y ≠ x1 → 0 < cnt v l1 (r1 + 1) y → T y ≤ T m := fun y hy hyx py => by obtain ⟨a9, ha9, ea9⟩ := pE_21.2.2.2 y hy py; rw [← ea9]; exact hm3 a9 ha9 (by rw [ea9]; exact hyx)
                        have hm57 : m < 1000 ∧ 0 < cnt v l1 (r1 + 1) m := by obtain ⟨a9, ha9, ea9⟩ := hm1; rw [ea9]; exact pE_21.2.1 a9 ha9
                        have hm5 := hm57.1
                        have hm7 := hm57.2
                        refine z_iload hC 160 hl dX1_needed_160 4 rfl ?_
                        refine z_iload hC 162 hl dX1_needed_162 5 rfl ?_
                        refine z_iadd (e := ((cnt v l1 (r1 + 1) (x1) : Nat) : Int) + (j : Int)) hC 164 dX1_needed_164 rfl ?_
                        refine z_aload_n hC 165 hl dX1_needed_165 rfl 0 rfl ?_
                        refine zp_get (v := .ref (ad 19)) hC (va_P_l hH.1) 166 in_X1 rfl 19 (by decide) q229 0 rfl (rfl) dX1_needed_166 ?_
                        refine z_iload hC 169 hl dX1_needed_169 6 rfl ?_
                        refine zp_iald (f := tb) (x := ((T m : Nat) : Int)) hC (va_P_l hH.1) 171 9 (m) rfl (by decide) (by omega) (by omega) (hTm) dX1_needed_171 ?_
                        refine z_icmp_le hC 172 178 dX1_needed_172 rfl (by omega) (by omega) (fun hb4 => ?_) (fun hb4 => ?_)
                        · -- 172t
                          have hTp : 0 < T m := by by_cases e : j = 0; (have := i0 e m; omega); omega
                          have hm6 : ∀ y, y < 1000 → y ≠ x1 → T y ≤ T m := fun y hy hyx => by by_cases e : 0 < cnt v l1 (r1 + 1) y; (exact hm6 y hy hyx e); (have := iN.1 y hy hyx; omega)
                          refine z_aload_n hC 178 hl dX1_needed_178 rfl 0 rfl ?_
                          refine zp_get (v := .ref (ad 19)) hC (va_P_l hH.1) 179 in_X1 rfl 19 (by decide) q229 0 rfl (rfl) dX1_needed_179 ?_
                          refine z_iload hC 182 hl dX1_needed_182 6 rfl ?_
                          refine z_dup2 hC 184 dX1_needed_184 rfl rfl ?_
                          refine zp_iald (f := tb) (x := ((T m : Nat) : Int)) hC (va_P_l hH.1) 185 9 (m) rfl (by decide) (by omega) (by omega) (hTm) dX1_needed_185 ?_
                          refine z_iconst hC 186 dX1_needed_186 ?_
                          refine z_isub (e := ((T m : Nat) : Int) - 1) hC 187 dX1_needed_187 rfl ?_
                          refine sD_19 (f' := (va_up tb (m) (((T m : Nat) : Int) - 1))) hC hH 188 (m) (by omega) (by omega) rfl dX1_needed_188 (fun H locs hH => ?_)
                          have hH : zH s0 s1 G as0 (dW ad G (va_up F 17 ((k_21 : Int))) (va_up (va_up (va_up Ar 15 (cI (k_21) u_21 gu_21)) 16 zZ) 19 (va_up tb (m) (((T m : Nat) : Int) - 1))) kp pl PW) H locs := hH
                          refine z_iinc (lv' := [(5, .int (iZ ((j : Int) + 1))), (0, .ref (ad 99)), (1, .int (iZ ((l1 : Int)))), (2, .int (iZ ((r1 : Int)))), (3, .int (iZ ((x1 : Int)))), (4, .int (iZ (((cnt v l1 (r1 + 1) (x1) : Nat) : Int)))), (6, .int (iZ ((m : Int)))), (7, .int (iZ ((i : Int))))]) hC 189 hl dX1_needed_189 5 rfl (by omega) (by decide) rfl (fun ls hl => ?_)
                          refine z_goto hC 192 85 dX1_needed_192 rfl ?_
                          -- J85.2
                          exact ih85 (j + 1) (va_up tb (m) (((T m : Nat) : Int) - 1)) (va_up T m (T m - 1)) _ _ _ (by omega) (by first | exact NDI_0 (fun _ _ _ => rfl) | exact NDI_s iN hm5 hm2 (by omega) hm6) (by first | exact it | exact tl_d iT hTp) (by first | (intro i hi; omega) | (intro i hi; by_cases e : i = j; (rw [e]; exact NDI_go iN hm5 hm2 (by omega) hm7 (by omega)); exact iG i (by omega))) (by first | exact fun _ _ => rfl | (intro z; omega)) (by first | exact fun y => Nat.le_trans (cnt_le _ _ _ _) (by omega) | (intro y; unfold va_up; split; (have := iZ_ m; omega); exact iZ_ y)) hH (z_lv (lv_sub hl [1, 2, 3, 4, 5, 0] rfl) (zcons rfl (zcons rfl (zcons rfl (zcons rfl (zcons rfl (zcons (zpeq (by omega)) rfl)))))))
                        · -- 172f
                          refine z_iload hC 175 hl dX1_needed_175 5 rfl ?_
                          -- R177.3
                          exact z_iret hC hH hQ 177 (((j : Int), (va_up F 17 ((k_21 : Int))), (va_up (va_up (va_up Ar 15 (cI (k_21) u_21 gu_21)) 16 zZ) 19 tb))) dX1_needed_177 rfl ⟨by (unfold Sp_needed; rw [if_pos (by omega)]; simp only [Int.toNat_natCast, zt1]; refine ⟨j, ?_, iG, rfl⟩; first | exact NDI_stop iN (fun y hy hyx py => by have := hm6 y hy hyx py; omega) | (refine NDI_stop iN (fun y hy hyx py => ?_); rcases iB with ⟨b1, b2⟩ | ⟨a9, b1, b2, b3⟩; (obtain ⟨a9, ha9, ea9⟩ := pE_21.2.2.2 y hy py; exact absurd (by rw [← ea9]; exact b2 a9 ha9) hyx); omega)), by first | assumption | exact ⟨fun k h1 h2 h3 h4 h5 => by first | rfl | (simp [va_up, h1, h2, h3, h4, h5]; done) | (simp [va_up, h1, h2, h3, h4, h5]; intro e9; rw [e9, hFn]), fun k h1 h2 h3 h4 h5 h6 => by first | rfl | simp [va_up, h1, h2, h3, h4, h5, h6]⟩⟩ rfl (Nat.le_refl _) (Nat.le_refl _)
                    · -- 97f
                      have hui := pE_21.2.1 i (by omega)
                      have hTi := iZ_ (u_21 i)
                      refine z_aload_n hC 100 hl dX1_needed_100 rfl 0 rfl ?_
                      refine zp_get (v := .ref (ad 15)) hC (va_P_l hH.1) 101 in_X1 rfl 15 (by decide) q225 0 rfl (rfl) dX1_needed_101 ?_
                      refine z_iload hC 104 hl dX1_needed_104 7 rfl ?_
                      refine zp_iald (f := (cI (k_21) u_21 gu_21)) (x := ((u_21 i : Nat) : Int)) hC (va_P_l hH.1) 106 6 (i) rfl (by decide) (by omega) (by omega) ((cI_lt (by omega))) dX1_needed_106 ?_
                      refine z_iload_n hC 107 hl dX1_needed_107 rfl 3 rfl ?_
                      refine z_icmp_eq hC 108 148 dX1_needed_108 rfl (by omega) (by omega) (fun hb5 => ?_) (fun hb5 => ?_)
                      · -- 108t
                        refine z_iinc (lv' := [(7, .int (iZ ((i : Int) + 1))), (0, .ref (ad 99)), (1, .int (iZ ((l1 : Int)))), (2, .int (iZ ((r1 : Int)))), (3, .int (iZ ((x1 : Int)))), (4, .int (iZ (((cnt v l1 (r1 + 1) (x1) : Nat) : Int)))), (5, .int (iZ ((j : Int)))), (6, .int (iZ (mo)))]) hC 148 hl dX1_needed_148 7 rfl (by omega) (by decide) rfl (fun ls hl => ?_)
                        refine z_goto hC 151 91 dX1_needed_151 rfl ?_
                        -- J91.4
                        exact ih91 (i + 1) mo _ _ _ (by omega) (by first | assumption | omega) (by first | assumption | omega) (by first | exact NDB_0 | exact NDB_x iB (by omega) | exact NDB_1 iB (by omega) (by omega) | exact NDB_2 hm3 (by omega) (by omega) | exact NDB_3 hm3 hm1 hm2 (by omega)) hH (z_lv (lv_sub hl [1, 2, 3, 4, 5, 6, 7, 0] rfl) (zcons rfl (zcons rfl (zcons rfl (zcons rfl (zcons rfl (zcons rfl (zcons rfl (zcons (zpeq (by omega)) rfl)))))))))
                      · -- 108f
                        refine z_iload hC 111 hl dX1_needed_111 6 rfl ?_
                        refine z_iconst hC 113 dX1_needed_113 ?_
                        refine z_icmp_eq hC 114 139 dX1_needed_114 rfl (by omega) (by omega) (fun hb6 => ?_) (fun hb6 => ?_)
                        · -- 114t
                          refine z_aload_n hC 139 hl dX1_needed_139 rfl 0 rfl ?_
                          refine zp_get (v := .ref (ad 15)) hC (va_P_l hH.1) 140 in_X1 rfl 15 (by decide) q225 0 rfl (rfl) dX1_needed_140 ?_
                          refine z_iload hC 143 hl dX1_needed_143 7 rfl ?_
                          refine zp_iald (f := (cI (k_21) u_21 gu_21)) (x := ((u_21 i : Nat) : Int)) hC (va_P_l hH.1) 145 6 (i) rfl (by decide) (by omega) (by omega) ((cI_lt (by omega))) dX1_needed_145 ?_
                          refine z_istore (lv' := [(6, .int (iZ (((u_21 i : Nat) : Int)))), (0, .ref (ad 99)), (1, .int (iZ ((l1 : Int)))), (2, .int (iZ ((r1 : Int)))), (3, .int (iZ ((x1 : Int)))), (4, .int (iZ (((cnt v l1 (r1 + 1) (x1) : Nat) : Int)))), (5, .int (iZ ((j : Int)))), (7, .int (iZ ((i : Int))))]) hC 146 hl dX1_needed_146 (by decide) rfl (fun ls hl => ?_)
                          refine z_iinc (lv' := [(7, .int (iZ ((i : Int) + 1))), (6, .int (iZ (((u_21 i : Nat) : Int)))), (0, .ref (ad 99)), (1, .int (iZ ((l1 : Int)))), (2, .int (iZ ((r1 : Int)))), (3, .int (iZ ((x1 : Int)))), (4, .int (iZ (((cnt v l1 (r1 + 1) (x1) : Nat) : Int)))), (5, .int (iZ ((j : Int))))]) hC 148 hl dX1_needed_148 7 rfl (by omega) (by decide) rfl (fun ls hl => ?_)
                          refine z_goto hC 151 91 dX1_needed_151 rfl ?_
                          -- J91.5
                          exact ih91 (i + 1) ((u_21 i : Nat) : Int) _ _ _ (by omega) (by first | assumption | omega) (by first | assumption | omega) (by first | exact NDB_0 | exact NDB_x iB (by omega) | exact NDB_1 iB (by omega) (by omega) | exact NDB_2 hm3 (by omega) (by omega) | exact NDB_3 hm3 hm1 hm2 (by omega)) hH (z_lv (lv_sub hl [2, 3, 4, 5, 6, 7, 1, 0] rfl) (zcons rfl (zcons rfl (zcons rfl (zcons rfl (zcons rfl (zcons rfl (zcons rfl (zcons (zpeq (by omega)) rfl)))))))))
                        · -- 114f
                          obtain ⟨m, rfl, hm1, hm2, hm3⟩ := NDB_get iB (by assumption)
                          have hTm : tb m = (T m : Int) := by obtain ⟨a9, ha9, ea9⟩ := hm1; rw [ea9]; exact iT a9 (by omega)
                          have hTm2 := iZ_ m
                          refine z_aload_n hC 117 hl dX1_needed_117 rfl 0 rfl ?_
                          refine zp_get (v := .ref (ad 19)) hC (va_P_l hH.1) 118 in_X1 rfl 19 (by decide) q229 0 rfl (rfl) dX1_needed_118 ?_
                          refine z_aload_n hC 121 hl dX1_needed_121 rfl 0 rfl ?_
                          refine zp_get (v := .ref (ad 15)) hC (va_P_l hH.1) 122 in_X1 rfl 15 (by decide) q225 0 rfl (rfl) dX1_needed_122 ?_
                          refine z_iload hC 125 hl dX1_needed_125 7 rfl ?_
                          refine zp_iald (f := (cI (k_21) u_21 gu_21)) (x := ((u_21 i : Nat) : Int)) hC (va_P_l hH.1) 127 6 (i) rfl (by decide) (by omega) (by omega) ((cI_lt (by omega))) dX1_needed_127 ?_
                          refine zp_iald (f := tb) (x := ((T (u_21 i) : Nat) : Int)) hC (va_P_l hH.1) 128 9 ((u_21 i)) rfl (by decide) (by omega) (by omega) ((iT i (by omega))) dX1_needed_128 ?_
                          refine z_aload_n hC 129 hl dX1_needed_129 rfl 0 rfl ?_
                          refine zp_get (v := .ref (ad 19)) hC (va_P_l hH.1) 130 in_X1 rfl 19 (by decide) q229 0 rfl (rfl) dX1_needed_130 ?_
                          refine z_iload hC 133 hl dX1_needed_133 6 rfl ?_
                          refine zp_iald (f := tb) (x := ((T m : Nat) : Int)) hC (va_P_l hH.1) 135 9 (m) rfl (by decide) (by omega) (by omega) (hTm) dX1_needed_135 ?_
                          refine z_icmp_le hC 136 148 dX1_needed_136 rfl (by omega) (by omega) (fun hb7 => ?_) (fun hb7 => ?_)
                          · -- 136t
                            refine z_iinc (lv' := [(7, .int (iZ ((i : Int) + 1))), (0, .ref (ad 99)), (1, .int (iZ ((l1 : Int)))), (2, .int (iZ ((r1 : Int)))), (3, .int (iZ ((x1 : Int)))), (4, .int (iZ (((cnt v l1 (r1 + 1) (x1) : Nat) : Int)))), (5, .int (iZ ((j : Int)))), (6, .int (iZ ((m : Int))))]) hC 148 hl dX1_needed_148 7 rfl (by omega) (by decide) rfl (fun ls hl => ?_)
                            refine z_goto hC 151 91 dX1_needed_151 rfl ?_
                            -- J91.6
                            exact ih91 (i + 1) (m : Int) _ _ _ (by omega) (by first | assumption | omega) (by first | assumption | omega) (by first | exact NDB_0 | exact NDB_x iB (by omega) | exact NDB_1 iB (by omega) (by omega) | exact NDB_2 hm3 (by omega) (by omega) | exact NDB_3 hm3 hm1 hm2 (by omega)) hH (z_lv (lv_sub hl [1, 2, 3, 4, 5, 6, 7, 0] rfl) (zcons rfl (zcons rfl (zcons rfl (zcons rfl (zcons rfl (zcons rfl (zcons rfl (zcons (zpeq (by omega)) rfl)))))))))
                          · -- 136f
                            refine z_aload_n hC 139 hl dX1_needed_139 rfl 0 rfl ?_
                            refine zp_get (v := .ref (ad 15)) hC (va_P_l hH.1) 140 in_X1 rfl 15 (by decide) q225 0 rfl (rfl) dX1_needed_140 ?_
                            refine z_iload hC 143 hl dX1_needed_143 7 rfl ?_
                            refine zp_iald (f := (cI (k_21) u_21 gu_21)) (x := ((u_21 i : Nat) : Int)) hC (va_P_l hH.1) 145 6 (i) rfl (by decide) (by omega) (by omega) ((cI_lt (by omega))) dX1_needed_145 ?_
                            refine z_istore (lv' := [(6, .int (iZ (((u_21 i : Nat) : Int)))), (0, .ref (ad 99)), (1, .int (iZ ((l1 : Int)))), (2, .int (iZ ((r1 : Int)))), (3, .int (iZ ((x1 : Int)))), (4, .int (iZ (((cnt v l1 (r1 + 1) (x1) : Nat) : Int)))), (5, .int (iZ ((j : Int)))), (7, .int (iZ ((i : Int))))]) hC 146 hl dX1_needed_146 (by decide) rfl (fun ls hl => ?_)
                            refine z_iinc (lv' := [(7, .int (iZ ((i : Int) + 1))), (6, .int (iZ (((u_21 i : Nat) : Int)))), (0, .ref (ad 99)), (1, .int (iZ ((l1 : Int)))), (2, .int (iZ ((r1 : Int)))), (3, .int (iZ ((x1 : Int)))), (4, .int (iZ (((cnt v l1 (r1 + 1) (x1) : Nat) : Int)))), (5, .int (iZ ((j : Int))))]) hC 148 hl dX1_needed_148 7 rfl (by omega) (by decide) rfl (fun ls hl => ?_)
                            refine z_goto hC 151 91 dX1_needed_151 rfl ?_
                            -- J91.7
                            exact ih91 (i + 1) ((u_21 i : Nat) : Int) _ _ _ (by omega) (by first | assumption | omega) (by first | assumption | omega) (by first | exact NDB_0 | exact NDB_x iB (by omega) | exact NDB_1 iB (by omega) (by omega) | exact NDB_2 hm3 (by omega) (by omega) | exact NDB_3 hm3 hm1 hm2 (by omega)) hH (z_lv (lv_sub hl [2, 3, 4, 5, 6, 7, 1, 0] rfl) (zcons rfl (zcons rfl (zcons rfl (zcons rfl (zcons rfl (zcons rfl (zcons rfl (zcons (zpeq (by omega)) rfl)))))))))
                -- J91.8
                exact L91 _ 0 (-1) _ _ _ (Nat.lt_succ_self _) (by first | assumption | omega) (by first | assumption | omega) (by first | exact NDB_0 | exact NDB_x iB (by omega) | exact NDB_1 iB (by omega) (by omega) | exact NDB_2 hm3 (by omega) (by omega) | exact NDB_3 hm3 hm1 hm2 (by omega)) hH (z_lv (lv_sub hl [2, 3, 4, 5, 6, 7, 1, 0] rfl) (zcons rfl (zcons rfl (zcons rfl (zcons rfl (zcons rfl (zcons rfl (zcons rfl (zcons (zpeq (by omega)) rfl)))))))))
            -- J85.9
            exact L85 _ 0 ta (cnt v l1 (r1 + 1)) _ _ _ (Nat.lt_succ_self _) (by first | exact NDI_0 (fun _ _ _ => rfl) | exact NDI_s iN hm5 hm2 (by omega) hm6) (by first | exact it | exact tl_d iT hTp) (by first | (intro i hi; omega) | (intro i hi; by_cases e : i = j; (rw [e]; exact NDI_go iN hm5 hm2 (by omega) hm7 (by omega)); exact iG i (by omega))) (by first | exact fun _ _ => rfl | (intro z; omega)) (by first | exact fun y => Nat.le_trans (cnt_le _ _ _ _) (by omega) | (intro y; unfold va_up; split; (have := iZ_ m; omega); exact iZ_ y)) hH (z_lv (lv_sub hl [2, 3, 4, 5, 1, 0] rfl) (zcons rfl (zcons rfl (zcons rfl (zcons rfl (zcons rfl (zcons (zpeq (by omega)) rfl)))))))
          · -- 33f
            have hui := pE_21.2.1 i (by omega)
            have hcu := cnt_le v l1 (r1 + 1) (u_21 i)
            refine z_aload_n hC 36 hl dX1_needed_36 rfl 0 rfl ?_
            refine zp_get (v := .ref (ad 19)) hC (va_P_l hH.1) 37 in_X1 rfl 19 (by decide) q229 0 rfl (rfl) dX1_needed_37 ?_
            refine z_aload_n hC 40 hl dX1_needed_40 rfl 0 rfl ?_
            refine zp_get (v := .ref (ad 15)) hC (va_P_l hH.1) 41 in_X1 rfl 15 (by decide) q225 0 rfl (rfl) dX1_needed_41 ?_
            refine z_iload hC 44 hl dX1_needed_44 4 rfl ?_
            refine zp_iald (f := (cI (k_21) u_21 gu_21)) (x := ((u_21 i : Nat) : Int)) hC (va_P_l hH.1) 46 6 (i) rfl (by decide) (by omega) (by omega) ((cI_lt (by omega))) dX1_needed_46 ?_
            refine z_aload_n hC 47 hl dX1_needed_47 rfl 0 rfl ?_
            refine z_aload_n hC 48 hl dX1_needed_48 rfl 0 rfl ?_
            refine zp_get (v := .ref (ad 15)) hC (va_P_l hH.1) 49 in_X1 rfl 15 (by decide) q225 0 rfl (rfl) dX1_needed_49 ?_
            refine z_iload hC 52 hl dX1_needed_52 4 rfl ?_
            refine zp_iald (f := (cI (k_21) u_21 gu_21)) (x := ((u_21 i : Nat) : Int)) hC (va_P_l hH.1) 54 6 (i) rfl (by decide) (by omega) (by omega) ((cI_lt (by omega))) dX1_needed_54 ?_
            refine zp_back (zp_runV hC (hH.2.2) hl.1 (va_P_l hH.1) 1 (As := [.int (iZ (((u_21 i : Nat) : Int)))]) (rest := [.int (iZ (((u_21 i : Nat) : Int))), .ref (ad 19)]) (u_X1_of lau s0 G ad (va_up F 17 ((k_21 : Int))) (va_up (va_up (va_up Ar 15 (cI (k_21) u_21 gu_21)) 16 zZ) 19 ta) kp pl (u_21 i) (pr (u_21 i)) nw (by first | assumption | omega) (by first | exact hpl | (first | assumption | exact hpl _ (by omega)) | assumption | omega) (by first | exact hnw | assumption | omega)) (lw_V q736 q738 qs17 q89 q739) ⟨rfl, by decide, by decide, by decide +kernel⟩ (q0 := 0) (ci := 1) rfl rfl rfl rfl (Nat.le_of_ble_eq_true rfl) ⟨Nat.le_of_ble_eq_true rfl, Nat.le_of_ble_eq_true rfl⟩ ⟨by first | decide | omega, by first | decide | omega⟩ dX1_needed_55) (fun _ hpost => ?_)
            refine z_st (st' := [.ref ((pr (u_21 i))), .int (iZ (((u_21 i : Nat) : Int))), .ref (ad 19)]) rfl ?_
            refine z_iload_n hC 58 hl dX1_needed_58 rfl 1 rfl ?_
            refine z_iload_n hC 59 hl dX1_needed_59 rfl 2 rfl ?_
            refine z_st (st' := [.int (iZ (((r1 + 1 : Nat) : Int) - 1)), .int (iZ ((l1 : Int))), .ref ((pr (u_21 i))), .int (iZ (((u_21 i : Nat) : Int))), .ref (ad 19)]) (zcons (zieq (by omega)) (zcons rfl rfl)) ?_
            refine zp_back (zw_run hC (hH.2.2) hl.1 ((dWp hH hpp (y := (u_21 i)) (by omega))) 2 (As := [.int (iZ ((l1 : Int))), .int (iZ (((r1 + 1 : Nat) : Int) - 1))]) (rest := [.int (iZ (((u_21 i : Nat) : Int))), .ref (ad 19)]) (u_X10_within lau s0 G (pr (u_21 i)) (pa ((u_21 i))) (pm ((u_21 i))) (pf ((u_21 i))) n v ((u_21 i)) l1 (r1 + 1) (by first | exact hn | assumption | omega) (by exact hpc _ (by omega)) (by first | exact hlr | assumption | omega) (by first | exact hrn | assumption | omega)) (fun hx0 hO0 => u_X10_within_nw lau s0 G (pr (u_21 i)) (pa ((u_21 i))) (pm ((u_21 i))) (pf ((u_21 i))) n v ((u_21 i)) l1 (r1 + 1) (by first | exact hn | assumption | omega) (by exact hpc _ (by omega)) (by first | exact hlr | assumption | omega) (by first | exact hrn | assumption | omega) hx0 hO0) (lw_V q742 q743 q744 q110 q745) ⟨rfl, by decide, by decide, by decide +kernel⟩ rfl rfl (Nat.le_of_ble_eq_true rfl) ⟨Nat.le_of_ble_eq_true rfl, Nat.le_of_ble_eq_true rfl⟩ ⟨by first | decide | omega, by first | decide | omega⟩ dX1_needed_60) (fun _ hpost => ?_)
            refine z_st (st' := [.int (iZ (((cnt v l1 (r1 + 1) ((u_21 i)) : Nat) : Int))), .int (iZ (((u_21 i : Nat) : Int))), .ref (ad 19)]) rfl ?_
            refine sD_19 (f' := (va_up ta ((u_21 i)) (((cnt v l1 (r1 + 1) ((u_21 i)) : Nat) : Int)))) hC hH 63 ((u_21 i)) (by omega) (by omega) rfl dX1_needed_63 (fun H locs hH => ?_)
            have hH : zH s0 s1 G as0 (dW ad G (va_up F 17 ((k_21 : Int))) (va_up (va_up (va_up Ar 15 (cI (k_21) u_21 gu_21)) 16 zZ) 19 (va_up ta ((u_21 i)) (((cnt v l1 (r1 + 1) ((u_21 i)) : Nat) : Int)))) kp pl PW) H locs := hH
            refine z_iinc (lv' := [(4, .int (iZ ((i : Int) + 1))), (0, .ref (ad 99)), (1, .int (iZ ((l1 : Int)))), (2, .int (iZ ((r1 : Int)))), (3, .int (iZ ((x1 : Int))))]) hC 64 hl dX1_needed_64 4 rfl (by omega) (by decide) rfl (fun ls hl => ?_)
            refine z_goto hC 67 27 dX1_needed_67 rfl ?_
            -- J27.10
            exact ih27 (i + 1) (va_up ta ((u_21 i)) (((cnt v l1 (r1 + 1) ((u_21 i)) : Nat) : Int))) _ _ _ (by omega) (by first | assumption | omega) (by first | (intro j hj; omega) | exact tl_s it) hH (z_lv (lv_sub hl [1, 2, 3, 4, 0] rfl) (zcons rfl (zcons rfl (zcons rfl (zcons rfl (zcons (zpeq (by omega)) rfl))))))
      -- J27.11
      exact L27 _ 0 (Ar 19) _ _ _ (Nat.lt_succ_self _) (by first | assumption | omega) (by first | (intro j hj; omega) | exact tl_s it) hH (z_lv (lv_sub hl [1, 2, 3, 4, 0] rfl) (zcons rfl (zcons rfl (zcons rfl (zcons rfl (zcons (zpeq (by omega)) rfl))))))
    · -- 10=0
      refine z_if_ne_f hC 13 18 dX1_needed_13 rfl (by omega) (by omega) ?_
      refine z_iconst hC 16 dX1_needed_16 ?_
      -- R17.12
      exact z_iret hC hH hQ 17 (((-1), F, (va_up Ar 16 zZ))) dX1_needed_17 rfl ⟨by first | (unfold Sp_needed; rw [if_neg (by omega)]) | (unfold Sp_needed; rw [if_pos (by omega)]; (try simp only [Int.toNat_natCast, zt1]); first | done | trivial | rfl | omega | (rw [if_pos (by omega)]; first | done | trivial | rfl | omega) | (rw [if_neg (by omega)]; first | done | trivial | rfl | omega)), by first | assumption | exact ⟨fun k h1 h2 h3 h4 h5 => by first | rfl | (simp [va_up, h1, h2, h3, h4, h5]; done) | (simp [va_up, h1, h2, h3, h4, h5]; intro e9; rw [e9, hFn]), fun k h1 h2 h3 h4 h5 h6 => by first | rfl | simp [va_up, h1, h2, h3, h4, h5, h6]⟩⟩ rfl (Nat.le_refl _) (Nat.le_refl _)
  · -- 3=0
    refine z_if_eq_t hC 6 16 dX1_needed_6 rfl (by omega) (by omega) ?_
    refine z_iconst hC 16 dX1_needed_16 ?_
    -- R17.13
    exact z_iret hC hH hQ 17 (((-1), F, (va_up Ar 16 zZ))) dX1_needed_17 rfl ⟨by first | (unfold Sp_needed; rw [if_neg (by omega)]) | (unfold Sp_needed; rw [if_pos (by omega)]; (try simp only [Int.toNat_natCast, zt1]); first | done | trivial | rfl | omega | (rw [if_pos (by omega)]; first | done | trivial | rfl | omega) | (rw [if_neg (by omega)]; first | done | trivial | rfl | omega)), by first | assumption | exact ⟨fun k h1 h2 h3 h4 h5 => by first | rfl | (simp [va_up, h1, h2, h3, h4, h5]; done) | (simp [va_up, h1, h2, h3, h4, h5]; intro e9; rw [e9, hFn]), fun k h1 h2 h3 h4 h5 h6 => by first | rfl | simp [va_up, h1, h2, h3, h4, h5, h6]⟩⟩ rfl (Nat.le_refl _) (Nat.le_refl _)
