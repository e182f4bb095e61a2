/-! methods of ModeDesk that write: 74.el -/
set_option maxHeartbeats 8000000 in
set_option maxRecDepth 100000 in
theorem m_X1_together (lau : Launch) (s0 : State) (G : zG) (sz : Nat) (ad : Nat → Nat) (F : Nat → Int) (Ar : Nat → Nat → Int) (kp : Nat → Nat) (pl : Nat → Option Nat) (PW : va_W) (n : Nat) (v : Nat → Nat) (pr : Nat → Nat) (pa : Nat → Nat) (pm : Nat → Nat) (pf : Nat → Nat → Nat) (nw : Nat) (b : Nat) (t : Nat) (l : Int) (r : Int) (m : Int) (k0 : Int) (q : Int) (hn : n ≤ 120) (hFn : F 200 = (n : Int)) (hv : ∀ i, i < n → v i < 1000) (hAv : ∀ i, i < n → Ar 201 i = (v i : Int)) (hb : 2 ≤ b ∧ b ≤ 20) (hFb : F 7 = (b : Int)) (ht : t < 4) (hFt : F 8 = (t : Int)) (hpl : ∀ y, y < 1000 → (pl y = some (pr y) ∨ (pl y = none ∧ pr y = nw))) (hnw : zNwh s0 nw) (hpc : ∀ y, y < 1000 → PlC n v y (pm y) (pf y)) (hpp : zPool s0 G PW pr pa pm pf) (hmo : ∀ i j, i ≤ j → b * j < n → Ar 12 (60 * i + j) = (md v (b * i) (bEnd b j n) t : Int)) (hr_l : -2147483648 ≤ l ∧ l < 2147483648) (hr_r : -2147483648 ≤ r ∧ r < 2147483648) (hr_m : -2147483648 ≤ m ∧ m < 2147483648) (hr_k0 : -2147483648 ≤ k0 ∧ k0 < 2147483648) (hr_q : -2147483648 ≤ q ∧ q < 2147483648) : zMet (S := Int × (Nat → Int) × (Nat → Nat → Int)) lau yX1_together cX1_together 9 (some .int) 2 54 0 0 s0 G sz [.ref (ad 99), .int (iZ (l)), .int (iZ (r)), .int (iZ (m)), .int (iZ (k0)), .int (iZ (q))] (dW ad G F (va_up Ar 16 zZ) kp pl PW) (fun ((r_, F2, A2) : Int × (Nat → Int) × (Nat → Nat → Int)) => some (.int (iZ (r_)))) (fun ((r_, F2, A2) : Int × (Nat → Int) × (Nat → Nat → Int)) => (Sp_together n v t l r m k0 q r_) ∧ (DK F (va_up Ar 16 zZ) F2 A2)) (fun ((r_, F2, A2) : Int × (Nat → Int) × (Nat → Nat → Int)) => (dW ad G F2 A2 kp pl PW)) := by
  refine zMet.of (by decide) (Nat.le_of_ble_eq_true rfl) ?_
  intro pg ev s1 mi ar bl me cd ls Q as0 hC hH hl hQ hsz
  generalize s1.heap = H at hH ⊢
  generalize ([] : List Loc) = locs at hH ⊢
  have hl : lv_has ls 9 [(0, .ref (ad 99)), (1, .int (iZ (l))), (2, .int (iZ (r))), (3, .int (iZ (m))), (4, .int (iZ (k0))), (5, .int (iZ (q)))] := hl
  refine z_aload_n hC 0 hl dX1_together_0 rfl 0 rfl ?_
  refine z_iload_n hC 1 hl dX1_together_1 rfl 1 rfl ?_
  refine z_iload_n hC 2 hl dX1_together_2 rfl 2 rfl ?_
  refine zp_back (zp_runV hC (hH.2.2) hl.1 (va_P_l hH.1) 2 (As := [.int (iZ (l)), .int (iZ (r))]) (rest := []) (u_X1_isSpan lau s0 G ad F (va_up Ar 16 zZ) kp pl n l r (by first | exact hn | assumption | omega) (by first | exact hFn | assumption | omega) (by first | assumption | omega) (by first | assumption | omega)) (lw_V q864 q866 qs26 q89 q867) ⟨rfl, by decide, by decide, by decide +kernel⟩ (q0 := 0) (ci := 1) rfl rfl rfl rfl (Nat.le_of_ble_eq_true rfl) ⟨Nat.le_of_ble_eq_true rfl, Nat.le_of_ble_eq_true rfl⟩ ⟨by first | decide | omega, by first | decide | omega⟩ dX1_together_3) (fun r_3 hpost => ?_)
  have hb_3 : (r_3 = 1 ∧ (0 ≤ l ∧ l ≤ r ∧ r < (n : Int))) ∨ (r_3 = 0 ∧ ¬ (0 ≤ l ∧ l ≤ r ∧ r < (n : Int))) := hpost
  refine z_st (st' := [.int (iZ (r_3))]) rfl ?_
  rcases hb_3 with ⟨rfl, hb_3⟩ | ⟨rfl, hb_3⟩
  · -- 3=1
    refine z_if_eq_f hC 6 30 dX1_together_6 rfl (by omega) (by omega) ?_
    refine z_aload_n hC 9 hl dX1_together_9 rfl 0 rfl ?_
    refine z_iload_n hC 10 hl dX1_together_10 rfl 3 rfl ?_
    refine z_iload hC 11 hl dX1_together_11 4 rfl ?_
    refine zp_back (zp_runV hC (hH.2.2) hl.1 (va_P_l hH.1) 2 (As := [.int (iZ (m)), .int (iZ (k0))]) (rest := []) (u_X1_isSpan lau s0 G ad F (va_up Ar 16 zZ) kp pl n m k0 (by first | exact hn | assumption | omega) (by first | exact hFn | assumption | omega) (by first | assumption | omega) (by first | assumption | omega)) (lw_V q864 q866 qs26 q89 q867) ⟨rfl, by decide, by decide, by decide +kernel⟩ (q0 := 0) (ci := 1) rfl rfl rfl rfl (Nat.le_of_ble_eq_true rfl) ⟨Nat.le_of_ble_eq_true rfl, Nat.le_of_ble_eq_true rfl⟩ ⟨by first | decide | omega, by first | decide | omega⟩ dX1_together_13) (fun r_13 hpost => ?_)
    have hb_13 : (r_13 = 1 ∧ (0 ≤ m ∧ m ≤ k0 ∧ k0 < (n : Int))) ∨ (r_13 = 0 ∧ ¬ (0 ≤ m ∧ m ≤ k0 ∧ k0 < (n : Int))) := hpost
    refine z_st (st' := [.int (iZ (r_13))]) rfl ?_
    rcases hb_13 with ⟨rfl, hb_13⟩ | ⟨rfl, hb_13⟩
    · -- 13=1
      refine z_if_eq_f hC 16 30 dX1_together_16 rfl (by omega) (by omega) ?_
      refine z_iload hC 19 hl dX1_together_19 5 rfl ?_
      refine z_i2l hC 21 dX1_together_21 (by omega) ?_
      refine z_lconst (a := 0) hC 22 dX1_together_22 rfl ?_
      refine z_lconst (a := 1) hC 23 dX1_together_23 rfl ?_
      refine zp_back (zp_runS hC (hH.2.2) hl.1 (zp_nil) 3 (As := [.long (lZ (q)), .long (lZ (0)), .long (lZ (1))]) (rest := []) (u_X1_isIn lau s0 G q 0 1 (by first | assumption | omega) (by first | assumption | omega) (by first | assumption | omega)) (lw_S q303 q304 q89 q305) ⟨by decide, by decide, by decide +kernel⟩ rfl rfl (Nat.le_of_ble_eq_true rfl) ⟨Nat.le_of_ble_eq_true rfl, Nat.le_of_ble_eq_true rfl⟩ ⟨by first | decide | omega, by first | decide | omega⟩ dX1_together_24) (fun r_24 hpost => ?_)
      have hb_24 : (r_24 = 1 ∧ ((0 : Int) ≤ q ∧ q ≤ (1 : Int))) ∨ (r_24 = 0 ∧ ¬ ((0 : Int) ≤ q ∧ q ≤ (1 : Int))) := hpost
      refine z_st (st' := [.int (iZ (r_24))]) rfl ?_
      rcases hb_24 with ⟨rfl, hb_24⟩ | ⟨rfl, hb_24⟩
      · -- 24=1
        refine z_if_ne_t hC 27 32 dX1_together_27 rfl (by omega) (by omega) ?_
        obtain ⟨l1, rfl⟩ := Int.eq_ofNat_of_zero_le (show 0 ≤ l by omega)
        obtain ⟨r1, rfl⟩ := Int.eq_ofNat_of_zero_le (show 0 ≤ r by omega)
        obtain ⟨m1, rfl⟩ := Int.eq_ofNat_of_zero_le (show 0 ≤ m by omega)
        obtain ⟨k1, rfl⟩ := Int.eq_ofNat_of_zero_le (show 0 ≤ k0 by omega)
        refine z_aload_n hC 32 hl dX1_together_32 rfl 0 rfl ?_
        refine zp_get (v := .ref (ad 206)) hC (va_P_l hH.1) 33 in_X1 rfl 23 (by decide) q240 0 rfl (rfl) dX1_together_33 ?_
        refine z_iconst hC 36 dX1_together_36 ?_
        refine pD_206 hC hH 37 dX1_together_37 (fun H locs hH => ?_)
        have hH : zH s0 s1 G as0 (dW ad G (va_up F 206 (0)) (va_up Ar 16 zZ) kp pl PW) H locs := hH
        refine z_iload_n hC 40 hl dX1_together_40 rfl 1 rfl ?_
        refine z_istore (lv' := [(6, .int (iZ ((l1 : Int)))), (0, .ref (ad 99)), (1, .int (iZ ((l1 : Int)))), (2, .int (iZ ((r1 : Int)))), (3, .int (iZ ((m1 : Int)))), (4, .int (iZ ((k1 : Int)))), (5, .int (iZ (q)))]) hC 41 hl dX1_together_41 (by decide) rfl (fun ls hl => ?_)
        have L43 : ∀ (N_ : Nat) (j : Nat) (a : Nat → Int) (b9 : Nat → Int) (H : Heap) (locs : List Loc) (ls : Array Slot), r1 + 1 - l1 - j < N_ → (j ≤ r1 + 1 - l1) → (∀ i, i < j → a i = ((tgA v l1 j).1 i : Int)) → zH s0 s1 G as0 (dW ad G (va_up F 206 ((j : Int))) (va_up (va_up (va_up Ar 16 zZ) 207 a) 208 b9) kp pl PW) H locs → lv_has ls 9 [(0, .ref (ad 99)), (1, .int (iZ ((l1 : Int)))), (2, .int (iZ ((r1 : Int)))), (3, .int (iZ ((m1 : Int)))), (4, .int (iZ ((k1 : Int)))), (5, .int (iZ (q))), (6, .int (iZ ((l1 : Int) + (j : Int))))] → W pg lau ev (zRm 2 0 0 54) s1 mi ar bl me cd H locs 0 0 Q (F0 mi 43 ls []) := by
          intro N_
          induction N_ with
          | zero => intro j a b9 H locs ls hd; exact absurd hd (Nat.not_lt_zero _)
          | succ N_ ih43 =>
            intro j a b9 H locs ls hd43 i43_1 ia hH hl
            refine z_iload hC 43 hl dX1_together_43 6 rfl ?_
            refine z_iload_n hC 45 hl dX1_together_45 rfl 2 rfl ?_
            refine z_icmp_gt hC 46 72 dX1_together_46 rfl (by omega) (by omega) (fun hb1 => ?_) (fun hb1 => ?_)
            · -- 46t
              have ej : j = r1 + 1 - l1 := by omega
              have e0 : (tgB v l1 (r1 + 1) m1 0).2 = r1 + 1 - l1 := tgA_n v l1 _
              refine z_iload_n hC 72 hl dX1_together_72 rfl 3 rfl ?_
              refine z_istore (lv' := [(6, .int (iZ ((m1 : Int)))), (0, .ref (ad 99)), (1, .int (iZ ((l1 : Int)))), (2, .int (iZ ((r1 : Int)))), (3, .int (iZ ((m1 : Int)))), (4, .int (iZ ((k1 : Int)))), (5, .int (iZ (q)))]) hC 73 hl dX1_together_73 (by decide) rfl (fun ls hl => ?_)
              have L75 : ∀ (N_ : Nat) (i : Nat) (a : Nat → Int) (b9 : Nat → Int) (H : Heap) (locs : List Loc) (ls : Array Slot), k1 + 1 - m1 - i < N_ → (i ≤ k1 + 1 - m1) → (∀ p, p < (tgB v l1 (r1 + 1) m1 i).2 → a p = ((tgB v l1 (r1 + 1) m1 i).1 p : Int)) → zH s0 s1 G as0 (dW ad G (va_up F 206 ((((tgB v l1 (r1 + 1) m1 i).2 : Nat) : Int))) (va_up (va_up (va_up Ar 16 zZ) 207 a) 208 b9) kp pl PW) H locs → lv_has ls 9 [(0, .ref (ad 99)), (1, .int (iZ ((l1 : Int)))), (2, .int (iZ ((r1 : Int)))), (3, .int (iZ ((m1 : Int)))), (4, .int (iZ ((k1 : Int)))), (5, .int (iZ (q))), (6, .int (iZ ((m1 : Int) + (i : Int))))] → W pg lau ev (zRm 2 0 0 54) s1 mi ar bl me cd H locs 0 0 Q (F0 mi 75 ls []) := by
                intro N_
                induction N_ with
                | zero => intro i a b9 H locs ls hd; exact absurd hd (Nat.not_lt_zero _)
                | succ N_ ih75 =>
                  intro i a b9 H locs ls hd75 i75_1 ia2 hH hl
                  have htb := tgB_n v l1 (r1 + 1) m1 i
                  have htl := tgB_n2 (v := v) (l := l1) (R := r1 + 1) (m := m1) (n := n) (by omega) (by omega) i (by omega)
                  refine z_iload hC 75 hl dX1_together_75 6 rfl ?_
                  refine z_iload hC 77 hl dX1_together_77 4 rfl ?_
                  refine z_icmp_gt hC 79 118 dX1_together_79 rfl (by omega) (by omega) (fun hb2 => ?_) (fun hb2 => ?_)
                  · -- 79t
                    have ei : i = k1 + 1 - m1 := by omega
                    rw [ei] at ia2 htb htl
                    have hlt9 := tg_lt (v := v) (l := l1) (R := r1 + 1) (m := m1) (n := n) hv (by omega) (by omega) (k1 + 1 - m1) (by omega)
                    have hmd9 := md_lt_1000 (tgB v l1 (r1 + 1) m1 (k1 + 1 - m1)).1 0 (tgB v l1 (r1 + 1) m1 (k1 + 1 - m1)).2 t
                    have hcv3 : ((((tgB v l1 (r1 + 1) m1 i).2 : Nat) : Int) : Int) = (((tgB v l1 (r1 + 1) m1 (k1 + 1 - m1)).2 : Nat) : Int) := by rw [ei]
                    rw [hcv3] at hH
                    have hH : zH s0 s1 G as0 (dW ad G (va_up F 206 ((((tgB v l1 (r1 + 1) m1 (k1 + 1 - m1)).2 : Nat) : Int))) (va_up (va_up (va_up Ar 16 zZ) 207 a) 208 b9) kp pl PW) H locs := hH
                    refine z_aload_n hC 118 hl dX1_together_118 rfl 0 rfl ?_
                    refine z_aload_n hC 119 hl dX1_together_119 rfl 0 rfl ?_
                    refine zp_get (v := .ref (ad 206)) hC (va_P_l hH.1) 120 in_X1 rfl 23 (by decide) q240 0 rfl (rfl) dX1_together_120 ?_
                    refine z_iconst hC 123 dX1_together_123 ?_
                    refine z_aload_n hC 124 hl dX1_together_124 rfl 0 rfl ?_
                    refine zp_get (v := .ref (ad 206)) hC (va_P_l hH.1) 125 in_X1 rfl 23 (by decide) q240 0 rfl (rfl) dX1_together_125 ?_
                    refine zp_getN (v := .int (iZ ((((tgB v l1 (r1 + 1) m1 (k1 + 1 - m1)).2 : Nat) : Int)))) hC (va_P_l hH.1) 128 in_X2 rfl 2 (by decide) q149 17 rfl (rfl) dX1_together_128 ?_
                    refine z_iconst hC 131 dX1_together_131 ?_
                    refine z_isub (e := (((tgB v l1 (r1 + 1) m1 (k1 + 1 - m1)).2 : Nat) : Int) - 1) hC 132 dX1_together_132 rfl ?_
                    refine z_iconst hC 133 dX1_together_133 ?_
                    refine z_st (st' := [.int (iZ ((-1))), .int (iZ ((((tgB v l1 (r1 + 1) m1 (k1 + 1 - m1)).2 : Nat) : Int) - 1)), .int (iZ (((0 : Nat) : Int))), .ref (ad 206), .ref (ad 99)]) (zcons rfl (zcons rfl (zcons (zieq (by omega)) (zcons rfl rfl)))) ?_
                    refine zp_back (zp_runV hC (hH.2.2) hl.1 ((va_P.app (va_P_l hH.1) (z_subP hH.1 [17, 18] rfl))) 4 (As := [.ref (ad 206), .int (iZ (((0 : Nat) : Int))), .int (iZ ((((tgB v l1 (r1 + 1) m1 (k1 + 1 - m1)).2 : Nat) : Int) - 1)), .int (iZ ((-1)))]) (rest := []) (u_X1_plainMode lau s0 G ad (va_up F 206 ((((tgB v l1 (r1 + 1) m1 (k1 + 1 - m1)).2 : Nat) : Int))) (va_up (va_up (va_up Ar 16 zZ) 207 a) 208 b9) kp pl (ad 206) (ad 207) (ad 208) ((((tgB v l1 (r1 + 1) m1 (k1 + 1 - m1)).2 : Nat) : Int)) a ((tgB v l1 (r1 + 1) m1 (k1 + 1 - m1)).2) 0 ((tgB v l1 (r1 + 1) m1 (k1 + 1 - m1)).2) t ((tgB v l1 (r1 + 1) m1 (k1 + 1 - m1)).1) ((tgB v l1 (r1 + 1) m1 (k1 + 1 - m1)).1) (-1) (by omega) (by first | exact hFt | assumption | omega) (by first | exact ht | assumption | omega) (by exact ia2) (by omega) (by omega) (by exact fun p9 h1 h2 => by omega) (by exact fun p9 h1 h2 => ⟨rfl, hlt9 p9 h1⟩) (by first | assumption | omega)) (lw_V q1250 q1252 qs39 q89 q1253) ⟨rfl, by decide, by decide, by decide +kernel⟩ (q0 := 0) (ci := 1) rfl rfl rfl rfl (Nat.le_of_ble_eq_true rfl) ⟨Nat.le_of_ble_eq_true rfl, Nat.le_of_ble_eq_true rfl⟩ ⟨by first | decide | omega, by first | decide | omega⟩ dX1_together_134) (fun r_134 hpost => ?_)
                    have pm_134 : (r_134 = -2 ∧ ∀ q, 0 ≤ q → q < ((tgB v l1 (r1 + 1) m1 (k1 + 1 - m1)).2) → 1000 ≤ ((tgB v l1 (r1 + 1) m1 (k1 + 1 - m1)).1) q) ∨ (r_134 = (md ((tgB v l1 (r1 + 1) m1 (k1 + 1 - m1)).1) 0 ((tgB v l1 (r1 + 1) m1 (k1 + 1 - m1)).2) t : Int) ∧ ∃ q, 0 ≤ q ∧ q < ((tgB v l1 (r1 + 1) m1 (k1 + 1 - m1)).2) ∧ ((tgB v l1 (r1 + 1) m1 (k1 + 1 - m1)).1) q < 1000) := hpost
                    refine z_st (st' := [.int (iZ (r_134))]) rfl ?_
                    have hr134 : r_134 = (md (tgB v l1 (r1 + 1) m1 (k1 + 1 - m1)).1 0 (tgB v l1 (r1 + 1) m1 (k1 + 1 - m1)).2 t : Int) := by rcases pm_134 with ⟨e1, h1⟩ | ⟨e1, q⟩; (have q9 := h1 0 (by omega) (by omega); have q8 := hlt9 0 (by omega); omega); exact e1
                    refine z_istore (lv' := [(6, .int (iZ (r_134))), (0, .ref (ad 99)), (1, .int (iZ ((l1 : Int)))), (2, .int (iZ ((r1 : Int)))), (3, .int (iZ ((m1 : Int)))), (4, .int (iZ ((k1 : Int)))), (5, .int (iZ (q)))]) hC 137 hl dX1_together_137 (by decide) rfl (fun ls hl => ?_)
                    refine z_iconst hC 139 dX1_together_139 ?_
                    refine z_istore (lv' := [(7, .int (iZ (0))), (6, .int (iZ (r_134))), (0, .ref (ad 99)), (1, .int (iZ ((l1 : Int)))), (2, .int (iZ ((r1 : Int)))), (3, .int (iZ ((m1 : Int)))), (4, .int (iZ ((k1 : Int)))), (5, .int (iZ (q)))]) hC 140 hl dX1_together_140 (by decide) rfl (fun ls hl => ?_)
                    refine z_iconst hC 142 dX1_together_142 ?_
                    refine z_istore (lv' := [(8, .int (iZ (0))), (7, .int (iZ (0))), (6, .int (iZ (r_134))), (0, .ref (ad 99)), (1, .int (iZ ((l1 : Int)))), (2, .int (iZ ((r1 : Int)))), (3, .int (iZ ((m1 : Int)))), (4, .int (iZ ((k1 : Int)))), (5, .int (iZ (q)))]) hC 143 hl dX1_together_143 (by decide) rfl (fun ls hl => ?_)
                    have L145 : ∀ (N_ : Nat) (c : Nat) (p : Nat) (H : Heap) (locs : List Loc) (ls : Array Slot), (tgB v l1 (r1 + 1) m1 (k1 + 1 - m1)).2 - p < N_ → (p ≤ (tgB v l1 (r1 + 1) m1 (k1 + 1 - m1)).2) → (c ≤ p) → (c = cnt (tgB v l1 (r1 + 1) m1 (k1 + 1 - m1)).1 0 p (md (tgB v l1 (r1 + 1) m1 (k1 + 1 - m1)).1 0 (tgB v l1 (r1 + 1) m1 (k1 + 1 - m1)).2 t)) → zH s0 s1 G as0 (dW ad G (va_up F 206 ((((tgB v l1 (r1 + 1) m1 (k1 + 1 - m1)).2 : Nat) : Int))) (va_up (va_up (va_up Ar 16 zZ) 207 a) 208 b9) kp pl PW) H locs → lv_has ls 9 [(0, .ref (ad 99)), (5, .int (iZ (q))), (6, .int (iZ (r_134))), (7, .int (iZ ((c : Int)))), (8, .int (iZ ((p : Int))))] → W pg lau ev (zRm 2 0 0 54) s1 mi ar bl me cd H locs 0 0 Q (F0 mi 145 ls []) := by
                      intro N_
                      induction N_ with
                      | zero => intro c p H locs ls hd; exact absurd hd (Nat.not_lt_zero _)
                      | succ N_ ih145 =>
                        intro c p H locs ls hd145 i145_1 i145_2 ic hH hl
                        refine z_iload hC 145 hl dX1_together_145 4 rfl ?_
                        refine z_aload_n hC 147 hl dX1_together_147 rfl 0 rfl ?_
                        refine zp_get (v := .ref (ad 206)) hC (va_P_l hH.1) 148 in_X1 rfl 23 (by decide) q240 0 rfl (rfl) dX1_together_148 ?_
                        refine zp_getN (v := .int (iZ ((((tgB v l1 (r1 + 1) m1 (k1 + 1 - m1)).2 : Nat) : Int)))) hC (va_P_l hH.1) 151 in_X2 rfl 2 (by decide) q149 17 rfl (rfl) dX1_together_151 ?_
                        refine z_icmp_ge hC 154 188 dX1_together_154 rfl (by omega) (by omega) (fun hb4 => ?_) (fun hb4 => ?_)
                        · -- 154t
                          have ep : p = (tgB v l1 (r1 + 1) m1 (k1 + 1 - m1)).2 := by omega
                          rw [ep] at ic
                          refine z_iload hC 188 hl dX1_together_188 1 rfl ?_
                          refine z_if_ne hC 190 198 dX1_together_190 rfl (by omega) (fun hb5 => ?_) (fun hb5 => ?_)
                          · -- 190t
                            refine z_iload hC 198 hl dX1_together_198 3 rfl ?_
                            -- R200.1
                            exact z_iret hC hH hQ 200 (((c : Int), (va_up F 206 ((((tgB v l1 (r1 + 1) m1 (k1 + 1 - m1)).2 : Nat) : Int))), (va_up (va_up (va_up Ar 16 zZ) 207 a) 208 b9))) dX1_together_200 rfl ⟨by (unfold Sp_together; rw [if_pos (by omega)]; simp only [Int.toNat_natCast, zt1]; unfold toldZ; first | (rw [if_pos (by omega)]; exact hr134) | (rw [if_neg (by omega), if_pos (by omega), ic])), by first | assumption | exact ⟨fun k h1 h2 h3 h4 h5 => by first | rfl | (simp [va_up, h1, h2, h3, h4, h5]; done) | (simp [va_up, h1, h2, h3, h4, h5]; intro e9; rw [e9, hFn]), fun k h1 h2 h3 h4 h5 h6 => by first | rfl | simp [va_up, h1, h2, h3, h4, h5, h6]⟩⟩ rfl (Nat.le_refl _) (Nat.le_refl _)
                          · -- 190f
                            refine z_iload hC 193 hl dX1_together_193 2 rfl ?_
                            refine z_goto hC 195 200 dX1_together_195 rfl ?_
                            -- R200.2
                            exact z_iret hC hH hQ 200 ((r_134, (va_up F 206 ((((tgB v l1 (r1 + 1) m1 (k1 + 1 - m1)).2 : Nat) : Int))), (va_up (va_up (va_up Ar 16 zZ) 207 a) 208 b9))) dX1_together_200 rfl ⟨by (unfold Sp_together; rw [if_pos (by omega)]; simp only [Int.toNat_natCast, zt1]; unfold toldZ; first | (rw [if_pos (by omega)]; exact hr134) | (rw [if_neg (by omega), if_pos (by omega), ic])), by first | assumption | exact ⟨fun k h1 h2 h3 h4 h5 => by first | rfl | (simp [va_up, h1, h2, h3, h4, h5]; done) | (simp [va_up, h1, h2, h3, h4, h5]; intro e9; rw [e9, hFn]), fun k h1 h2 h3 h4 h5 h6 => by first | rfl | simp [va_up, h1, h2, h3, h4, h5, h6]⟩⟩ rfl (Nat.le_refl _) (Nat.le_refl _)
                        · -- 154f
                          have hg9 := hlt9 p (by omega)
                          refine z_iload hC 157 hl dX1_together_157 3 rfl ?_
                          refine z_aload_n hC 159 hl dX1_together_159 rfl 0 rfl ?_
                          refine zp_get (v := .ref (ad 206)) hC (va_P_l hH.1) 160 in_X1 rfl 23 (by decide) q240 0 rfl (rfl) dX1_together_160 ?_
                          refine zp_getN (v := .ref (ad 207)) hC (va_P_l hH.1) 163 in_X2 rfl 0 (by decide) q141 17 rfl (rfl) dX1_together_163 ?_
                          refine z_iload hC 166 hl dX1_together_166 4 rfl ?_
                          refine zp_iald (f := a) (x := (((tgB v l1 (r1 + 1) m1 (k1 + 1 - m1)).1 p : Nat) : Int)) hC (va_P_l hH.1) 168 18 (p) rfl (by decide) (by omega) (by omega) ((ia2 p (by omega))) dX1_together_168 ?_
                          refine z_iload hC 169 hl dX1_together_169 2 rfl ?_
                          refine z_icmp_ne hC 171 178 dX1_together_171 rfl (by omega) (by omega) (fun hb6 => ?_) (fun hb6 => ?_)
                          · -- 171t
                            refine z_iconst hC 178 dX1_together_178 ?_
                            refine z_iadd (e := (c : Int)) hC 179 dX1_together_179 (by omega) ?_
                            refine z_istore (lv' := [(7, .int (iZ ((c : Int)))), (0, .ref (ad 99)), (5, .int (iZ (q))), (6, .int (iZ (r_134))), (8, .int (iZ ((p : Int))))]) hC 180 hl dX1_together_180 (by decide) rfl (fun ls hl => ?_)
                            refine z_iinc (lv' := [(8, .int (iZ ((p : Int) + 1))), (7, .int (iZ ((c : Int)))), (0, .ref (ad 99)), (5, .int (iZ (q))), (6, .int (iZ (r_134)))]) hC 182 hl dX1_together_182 4 rfl (by omega) (by decide) rfl (fun ls hl => ?_)
                            refine z_goto hC 185 145 dX1_together_185 rfl ?_
                            -- J145.3
                            exact ih145 c (p + 1) _ _ _ (by omega) (by first | assumption | omega) (by first | assumption | omega) (by first | exact (cnt_0 _ (Nat.le_refl _)).symm | (rw [cnt_succ _ _ (Nat.zero_le _)]; first | (rw [if_pos (by omega)]; omega) | (rw [if_neg (by omega)]; omega))) hH (z_lv (lv_sub hl [2, 3, 4, 1, 0] rfl) (zcons rfl (zcons rfl (zcons rfl (zcons rfl (zcons (zpeq (by omega)) rfl))))))
                          · -- 171f
                            refine z_iconst hC 174 dX1_together_174 ?_
                            refine z_goto hC 175 179 dX1_together_175 rfl ?_
                            refine z_iadd (e := (c : Int) + 1) hC 179 dX1_together_179 rfl ?_
                            refine z_istore (lv' := [(7, .int (iZ ((c : Int) + 1))), (0, .ref (ad 99)), (5, .int (iZ (q))), (6, .int (iZ (r_134))), (8, .int (iZ ((p : Int))))]) hC 180 hl dX1_together_180 (by decide) rfl (fun ls hl => ?_)
                            refine z_iinc (lv' := [(8, .int (iZ ((p : Int) + 1))), (7, .int (iZ ((c : Int) + 1))), (0, .ref (ad 99)), (5, .int (iZ (q))), (6, .int (iZ (r_134)))]) hC 182 hl dX1_together_182 4 rfl (by omega) (by decide) rfl (fun ls hl => ?_)
                            refine z_goto hC 185 145 dX1_together_185 rfl ?_
                            -- J145.4
                            exact ih145 (c + 1) (p + 1) _ _ _ (by omega) (by first | assumption | omega) (by first | assumption | omega) (by first | exact (cnt_0 _ (Nat.le_refl _)).symm | (rw [cnt_succ _ _ (Nat.zero_le _)]; first | (rw [if_pos (by omega)]; omega) | (rw [if_neg (by omega)]; omega))) hH (z_lv (lv_sub hl [2, 3, 4, 1, 0] rfl) (zcons rfl (zcons rfl (zcons rfl (zcons (zpeq (by omega)) (zcons (zpeq (by omega)) rfl))))))
                    -- J145.5
                    exact L145 _ 0 0 _ _ _ (Nat.lt_succ_self _) (by first | assumption | omega) (by first | assumption | omega) (by first | exact (cnt_0 _ (Nat.le_refl _)).symm | (rw [cnt_succ _ _ (Nat.zero_le _)]; first | (rw [if_pos (by omega)]; omega) | (rw [if_neg (by omega)]; omega))) hH (z_lv (lv_sub hl [3, 8, 2, 1, 0] rfl) (zcons rfl (zcons rfl (zcons rfl (zcons (zpeq (by omega)) (zcons (zpeq (by omega)) rfl))))))
                  · -- 79f
                    refine z_iload hC 82 hl dX1_together_82 6 rfl ?_
                    refine z_i2l hC 84 dX1_together_84 (by omega) ?_
                    refine z_iload_n hC 85 hl dX1_together_85 rfl 1 rfl ?_
                    refine z_i2l hC 86 dX1_together_86 (by omega) ?_
                    refine z_iload_n hC 87 hl dX1_together_87 rfl 2 rfl ?_
                    refine z_i2l hC 88 dX1_together_88 (by omega) ?_
                    refine z_st (st' := [.long (lZ ((r1 : Int))), .long (lZ ((l1 : Int))), .long (lZ (((m1 : Int) + (i : Int))))]) (zcons rfl (zcons rfl (zcons (zleq (by omega)) rfl))) ?_
                    refine zp_back (zp_runS hC (hH.2.2) hl.1 (zp_nil) 3 (As := [.long (lZ (((m1 : Int) + (i : Int)))), .long (lZ ((l1 : Int))), .long (lZ ((r1 : Int)))]) (rest := []) (u_X1_isIn lau s0 G ((m1 : Int) + (i : Int)) (l1 : Int) (r1 : Int) (by first | assumption | omega) (by first | assumption | omega) (by first | assumption | omega)) (lw_S q303 q304 q89 q305) ⟨by decide, by decide, by decide +kernel⟩ rfl rfl (Nat.le_of_ble_eq_true rfl) ⟨Nat.le_of_ble_eq_true rfl, Nat.le_of_ble_eq_true rfl⟩ ⟨by first | decide | omega, by first | decide | omega⟩ dX1_together_89) (fun r_89 hpost => ?_)
                    have hb_89 : (r_89 = 1 ∧ ((l1 : Int) ≤ ((m1 : Int) + (i : Int)) ∧ ((m1 : Int) + (i : Int)) ≤ (r1 : Int))) ∨ (r_89 = 0 ∧ ¬ ((l1 : Int) ≤ ((m1 : Int) + (i : Int)) ∧ ((m1 : Int) + (i : Int)) ≤ (r1 : Int))) := hpost
                    refine z_st (st' := [.int (iZ (r_89))]) rfl ?_
                    rcases hb_89 with ⟨rfl, hb_89⟩ | ⟨rfl, hb_89⟩
                    · -- 89=1
                      refine z_if_ne_t hC 92 112 dX1_together_92 rfl (by omega) (by omega) ?_
                      have e4 : (l1 ≤ m1 + i ∧ m1 + i < r1 + 1) → (tgB v l1 (r1 + 1) m1 (i + 1)).2 = (tgB v l1 (r1 + 1) m1 i).2 := fun q => by rw [tgB_in q]
                      refine z_iinc (lv' := [(6, .int (iZ ((m1 : Int) + (i : Int) + 1))), (0, .ref (ad 99)), (1, .int (iZ ((l1 : Int)))), (2, .int (iZ ((r1 : Int)))), (3, .int (iZ ((m1 : Int)))), (4, .int (iZ ((k1 : Int)))), (5, .int (iZ (q)))]) hC 112 hl dX1_together_112 6 rfl (by omega) (by decide) rfl (fun ls hl => ?_)
                      refine z_goto hC 115 75 dX1_together_115 rfl ?_
                      -- J75.6
                      exact ih75 (i + 1) a b9 _ _ _ (by omega) (by first | assumption | omega) (by first | (intro p hp; rw [e0] at hp; rw [← ej] at hp; have q9 := ia p hp; rw [ej] at q9; exact q9) | exact tgb_s ia2 (by omega) | exact tgb_k ia2 (by omega)) (by rw [show ((((tgB v l1 (r1 + 1) m1 i).2 : Nat) : Int) : Int) = (((tgB v l1 (r1 + 1) m1 (i + 1)).2 : Nat) : Int) from by omega] at hH; exact hH) (z_lv (lv_sub hl [1, 2, 3, 4, 5, 6, 0] rfl) (zcons rfl (zcons rfl (zcons rfl (zcons rfl (zcons rfl (zcons rfl (zcons (zpeq (by omega)) rfl))))))))
                    · -- 89=0
                      refine z_if_ne_f hC 92 112 dX1_together_92 rfl (by omega) (by omega) ?_
                      have e2 := tgB_out (v := v) (l := l1) (R := r1 + 1) (m := m1) (k := i) (by omega)
                      have e3 : (tgB v l1 (r1 + 1) m1 (i + 1)).2 = (tgB v l1 (r1 + 1) m1 i).2 + 1 := by rw [e2]; rfl
                      have htl2 := tgB_n2 (v := v) (l := l1) (R := r1 + 1) (m := m1) (n := n) (by omega) (by omega) (i + 1) (by omega)
                      have hvp := hv (m1 + i) (by omega)
                      refine z_aload_n hC 95 hl dX1_together_95 rfl 0 rfl ?_
                      refine zp_get (v := .ref (ad 206)) hC (va_P_l hH.1) 96 in_X1 rfl 23 (by decide) q240 0 rfl (rfl) dX1_together_96 ?_
                      refine z_aload_n hC 99 hl dX1_together_99 rfl 0 rfl ?_
                      refine zp_get (v := .ref (ad 200)) hC (va_P_l hH.1) 100 in_X1 rfl 4 (by decide) q210 0 rfl (rfl) dX1_together_100 ?_
                      refine zp_getN (v := .ref (ad 201)) hC (va_P_l hH.1) 103 in_X2 rfl 0 (by decide) q141 11 rfl (rfl) dX1_together_103 ?_
                      refine z_iload hC 106 hl dX1_together_106 6 rfl ?_
                      refine zp_iald (f := (Ar 201)) (x := ((v (m1 + i) : Nat) : Int)) hC (va_P_l hH.1) 108 12 (m1 + i) rfl (by decide) (by omega) (by omega) (hAv (m1 + i) (by omega)) dX1_together_108 ?_
                      refine z_sub (z_runV (wc := (rW (fun i => ad (206 + i)) G (va_up (fun _ => 0) 2 ((((tgB v l1 (r1 + 1) m1 i).2 : Nat) : Int))) (va_up (va_up (fun _ => fun _ => 0) 0 a) 1 b9))) hC hH.2.2 hl.1 (z_subP hH.1 [17, 18, 19] rfl) (z_subD hH.2.1 [17, 18, 19] (by decide) rfl) 1 (As := [.int (iZ (((v (m1 + i) : Nat) : Int)))]) (rest := []) (m_X2_adds lau s0 G _ (fun i => ad (206 + i))  (fun _ => 0) (fun _ => fun _ => 0) (((tgB v l1 (r1 + 1) m1 i).2)) (((v (m1 + i) : Nat) : Int)) a b9 (by omega)) (lw_V q1290 q668 q669 q90 q670) ⟨rfl, by decide, by decide, by decide +kernel⟩ (q0 := 0) (ci := 2) rfl rfl rfl rfl (Nat.le_of_ble_eq_true rfl) ⟨Nat.le_of_ble_eq_true rfl, Nat.le_of_ble_eq_true rfl⟩ ⟨by first | decide | omega, by first | decide | omega⟩ dX1_together_109) hH [17, 18, 19] rfl (by decide) (fun _ => rfl) (fun _ H locs hpost hH => ?_)
                      have hH : zH s0 s1 G as0 (dW ad G (va_up F 206 ((((tgB v l1 (r1 + 1) m1 i).2 : Nat) : Int) + 1)) (va_up (va_up (va_up Ar 16 zZ) 207 (va_up a (((tgB v l1 (r1 + 1) m1 i).2)) (((v (m1 + i) : Nat) : Int)))) 208 (va_up b9 (((tgB v l1 (r1 + 1) m1 i).2)) 1)) kp pl PW) H locs := hH
                      refine z_st (st' := []) rfl ?_
                      have e4 : (l1 ≤ m1 + i ∧ m1 + i < r1 + 1) → (tgB v l1 (r1 + 1) m1 (i + 1)).2 = (tgB v l1 (r1 + 1) m1 i).2 := fun q => by rw [tgB_in q]
                      refine z_iinc (lv' := [(6, .int (iZ ((m1 : Int) + (i : Int) + 1))), (0, .ref (ad 99)), (1, .int (iZ ((l1 : Int)))), (2, .int (iZ ((r1 : Int)))), (3, .int (iZ ((m1 : Int)))), (4, .int (iZ ((k1 : Int)))), (5, .int (iZ (q)))]) hC 112 hl dX1_together_112 6 rfl (by omega) (by decide) rfl (fun ls hl => ?_)
                      refine z_goto hC 115 75 dX1_together_115 rfl ?_
                      -- J75.7
                      exact ih75 (i + 1) (va_up a (((tgB v l1 (r1 + 1) m1 i).2)) (((v (m1 + i) : Nat) : Int))) (va_up b9 (((tgB v l1 (r1 + 1) m1 i).2)) 1) _ _ _ (by omega) (by first | assumption | omega) (by first | (intro p hp; rw [e0] at hp; rw [← ej] at hp; have q9 := ia p hp; rw [ej] at q9; exact q9) | exact tgb_s ia2 (by omega) | exact tgb_k ia2 (by omega)) (by rw [show ((((tgB v l1 (r1 + 1) m1 i).2 : Nat) : Int) + 1 : Int) = (((tgB v l1 (r1 + 1) m1 (i + 1)).2 : Nat) : Int) from by omega] at hH; exact hH) (z_lv (lv_sub hl [1, 2, 3, 4, 5, 6, 0] rfl) (zcons rfl (zcons rfl (zcons rfl (zcons rfl (zcons rfl (zcons rfl (zcons (zpeq (by omega)) rfl))))))))
              -- J75.8
              exact L75 _ 0 a b9 _ _ _ (Nat.lt_succ_self _) (by first | assumption | omega) (by first | (intro p hp; rw [e0] at hp; rw [← ej] at hp; have q9 := ia p hp; rw [ej] at q9; exact q9) | exact tgb_s ia2 (by omega) | exact tgb_k ia2 (by omega)) (by rw [show ((j : Int) : Int) = (((tgB v l1 (r1 + 1) m1 0).2 : Nat) : Int) from by omega] at hH; exact hH) (z_lv (lv_sub hl [1, 2, 3, 4, 5, 6, 0] rfl) (zcons rfl (zcons rfl (zcons rfl (zcons rfl (zcons rfl (zcons rfl (zcons (zpeq (by omega)) rfl))))))))
            · -- 46f
              refine z_aload_n hC 49 hl dX1_together_49 rfl 0 rfl ?_
              refine zp_get (v := .ref (ad 206)) hC (va_P_l hH.1) 50 in_X1 rfl 23 (by decide) q240 0 rfl (rfl) dX1_together_50 ?_
              have hvp := hv (l1 + j) (by omega)
              refine z_aload_n hC 53 hl dX1_together_53 rfl 0 rfl ?_
              refine zp_get (v := .ref (ad 200)) hC (va_P_l hH.1) 54 in_X1 rfl 4 (by decide) q210 0 rfl (rfl) dX1_together_54 ?_
              refine zp_getN (v := .ref (ad 201)) hC (va_P_l hH.1) 57 in_X2 rfl 0 (by decide) q141 11 rfl (rfl) dX1_together_57 ?_
              refine z_iload hC 60 hl dX1_together_60 6 rfl ?_
              refine zp_iald (f := (Ar 201)) (x := ((v (l1 + j) : Nat) : Int)) hC (va_P_l hH.1) 62 12 (l1 + j) rfl (by decide) (by omega) (by omega) (hAv (l1 + j) (by omega)) dX1_together_62 ?_
              refine z_sub (z_runV (wc := (rW (fun i => ad (206 + i)) G (va_up (fun _ => 0) 2 ((j : Int))) (va_up (va_up (fun _ => fun _ => 0) 0 a) 1 b9))) hC hH.2.2 hl.1 (z_subP hH.1 [17, 18, 19] rfl) (z_subD hH.2.1 [17, 18, 19] (by decide) rfl) 1 (As := [.int (iZ (((v (l1 + j) : Nat) : Int)))]) (rest := []) (m_X2_adds lau s0 G _ (fun i => ad (206 + i))  (fun _ => 0) (fun _ => fun _ => 0) (j) (((v (l1 + j) : Nat) : Int)) a b9 (by omega)) (lw_V q1290 q668 q669 q90 q670) ⟨rfl, by decide, by decide, by decide +kernel⟩ (q0 := 0) (ci := 2) rfl rfl rfl rfl (Nat.le_of_ble_eq_true rfl) ⟨Nat.le_of_ble_eq_true rfl, Nat.le_of_ble_eq_true rfl⟩ ⟨by first | decide | omega, by first | decide | omega⟩ dX1_together_63) hH [17, 18, 19] rfl (by decide) (fun _ => rfl) (fun _ H locs hpost hH => ?_)
              have hH : zH s0 s1 G as0 (dW ad G (va_up F 206 ((j : Int) + 1)) (va_up (va_up (va_up Ar 16 zZ) 207 (va_up a (j) (((v (l1 + j) : Nat) : Int)))) 208 (va_up b9 (j) 1)) kp pl PW) H locs := hH
              refine z_st (st' := []) rfl ?_
              refine z_iinc (lv' := [(6, .int (iZ ((l1 : Int) + (j : Int) + 1))), (0, .ref (ad 99)), (1, .int (iZ ((l1 : Int)))), (2, .int (iZ ((r1 : Int)))), (3, .int (iZ ((m1 : Int)))), (4, .int (iZ ((k1 : Int)))), (5, .int (iZ (q)))]) hC 66 hl dX1_together_66 6 rfl (by omega) (by decide) rfl (fun ls hl => ?_)
              refine z_goto hC 69 43 dX1_together_69 rfl ?_
              -- J43.9
              exact ih43 (j + 1) (va_up a (j) (((v (l1 + j) : Nat) : Int))) (va_up b9 (j) 1) _ _ _ (by omega) (by first | assumption | omega) (by first | (intro i hi; omega) | exact tga_s ia) (by rw [show ((j : Int) + 1 : Int) = ((j + 1 : Nat) : Int) from by omega] at hH; exact hH) (z_lv (lv_sub hl [1, 2, 3, 4, 5, 6, 0] rfl) (zcons rfl (zcons rfl (zcons rfl (zcons rfl (zcons rfl (zcons rfl (zcons (zpeq (by omega)) rfl))))))))
        -- J43.10
        exact L43 _ 0 (Ar 207) (Ar 208) _ _ _ (Nat.lt_succ_self _) (by first | assumption | omega) (by first | (intro i hi; omega) | exact tga_s ia) (by rw [show (0 : Int) = ((0 : Nat) : Int) from by omega] at hH; exact hH) (z_lv (lv_sub hl [1, 2, 3, 4, 5, 6, 0] rfl) (zcons rfl (zcons rfl (zcons rfl (zcons rfl (zcons rfl (zcons rfl (zcons (zpeq (by omega)) rfl))))))))
      · -- 24=0
        refine z_if_ne_f hC 27 32 dX1_together_27 rfl (by omega) (by omega) ?_
        refine z_iconst hC 30 dX1_together_30 ?_
        -- R31.11
        exact z_iret hC hH hQ 31 (((-1), F, (va_up Ar 16 zZ))) dX1_together_31 rfl ⟨by first | (unfold Sp_together; rw [if_neg (by omega)]) | (unfold Sp_together; rw [if_pos (by omega)]; (try simp only [Int.toNat_natCast, zt1]); first | done | trivial | rfl | omega | (rw [if_pos (by omega)]; first | done | trivial | rfl | omega) | (rw [if_neg (by omega)]; first | done | trivial | rfl | omega)), by first | assumption | exact ⟨fun k h1 h2 h3 h4 h5 => by first | rfl | (simp [va_up, h1, h2, h3, h4, h5]; done) | (simp [va_up, h1, h2, h3, h4, h5]; intro e9; rw [e9, hFn]), fun k h1 h2 h3 h4 h5 h6 => by first | rfl | simp [va_up, h1, h2, h3, h4, h5, h6]⟩⟩ rfl (Nat.le_refl _) (Nat.le_refl _)
    · -- 13=0
      refine z_if_eq_t hC 16 30 dX1_together_16 rfl (by omega) (by omega) ?_
      refine z_iconst hC 30 dX1_together_30 ?_
      -- R31.12
      exact z_iret hC hH hQ 31 (((-1), F, (va_up Ar 16 zZ))) dX1_together_31 rfl ⟨by first | (unfold Sp_together; rw [if_neg (by omega)]) | (unfold Sp_together; rw [if_pos (by omega)]; (try simp only [Int.toNat_natCast, zt1]); first | done | trivial | rfl | omega | (rw [if_pos (by omega)]; first | done | trivial | rfl | omega) | (rw [if_neg (by omega)]; first | done | trivial | rfl | omega)), by first | assumption | exact ⟨fun k h1 h2 h3 h4 h5 => by first | rfl | (simp [va_up, h1, h2, h3, h4, h5]; done) | (simp [va_up, h1, h2, h3, h4, h5]; intro e9; rw [e9, hFn]), fun k h1 h2 h3 h4 h5 h6 => by first | rfl | simp [va_up, h1, h2, h3, h4, h5, h6]⟩⟩ rfl (Nat.le_refl _) (Nat.le_refl _)
  · -- 3=0
    refine z_if_eq_t hC 6 30 dX1_together_6 rfl (by omega) (by omega) ?_
    refine z_iconst hC 30 dX1_together_30 ?_
    -- R31.13
    exact z_iret hC hH hQ 31 (((-1), F, (va_up Ar 16 zZ))) dX1_together_31 rfl ⟨by first | (unfold Sp_together; rw [if_neg (by omega)]) | (unfold Sp_together; rw [if_pos (by omega)]; (try simp only [Int.toNat_natCast, zt1]); first | done | trivial | rfl | omega | (rw [if_pos (by omega)]; first | done | trivial | rfl | omega) | (rw [if_neg (by omega)]; first | done | trivial | rfl | omega)), by first | assumption | exact ⟨fun k h1 h2 h3 h4 h5 => by first | rfl | (simp [va_up, h1, h2, h3, h4, h5]; done) | (simp [va_up, h1, h2, h3, h4, h5]; intro e9; rw [e9, hFn]), fun k h1 h2 h3 h4 h5 h6 => by first | rfl | simp [va_up, h1, h2, h3, h4, h5, h6]⟩⟩ rfl (Nat.le_refl _) (Nat.le_refl _)

set_option maxHeartbeats 8000000 in
set_option maxRecDepth 100000 in
theorem m_X1_laysPairs (lau : Launch) (s0 : State) (G : zG) (sz : Nat) (ad : Nat → Nat) (F : Nat → Int) (Ar : Nat → Nat → Int) (kp : Nat → Nat) (pl : Nat → Option Nat) (PW : va_W) (n : Nat) (v : Nat → Nat) (pr : Nat → Nat) (pa : Nat → Nat) (pm : Nat → Nat) (pf : Nat → Nat → Nat) (nw : Nat) (b : Nat) (t : Nat) (i : Nat) (f : Nat) (a0 : Nat → Int) (hn : n ≤ 120) (hFn : F 200 = (n : Int)) (hv : ∀ i, i < n → v i < 1000) (hAv : ∀ i, i < n → Ar 201 i = (v i : Int)) (hb : 2 ≤ b ∧ b ≤ 20) (hFb : F 7 = (b : Int)) (ht : t < 4) (hFt : F 8 = (t : Int)) (hpl : ∀ y, y < 1000 → (pl y = some (pr y) ∨ (pl y = none ∧ pr y = nw))) (hnw : zNwh s0 nw) (hpc : ∀ y, y < 1000 → PlC n v y (pm y) (pf y)) (hpp : zPool s0 G PW pr pa pm pf) (hi : b * i < n) (hif : i ≤ f) (hf6 : f < 60) : zMet (S := (Nat → Int)) lau yX1_laysPairs cX1_laysPairs 7 (none) 4 96 0 0 s0 G sz [.ref (ad 99), .int (iZ ((i : Int))), .int (iZ ((f : Int)))] (dW ad G F (va_up Ar 12 a0) kp pl PW) (fun (a2 : (Nat → Int)) => (none : Option Value)) (fun (a2 : (Nat → Int)) => (MOL v b n t i f (zdiv (n + b - 1) b) a0 a2 ∨ (zdiv (n + b - 1) b ≤ f ∧ a2 = a0))) (fun (a2 : (Nat → Int)) => (dW ad G F (va_up Ar 12 a2) kp pl PW)) := by
  refine zMet.of (by decide) (Nat.le_of_ble_eq_true rfl) ?_
  intro pg ev s1 mi ar bl me cd ls Q as0 hC hH hl hQ hsz
  generalize s1.heap = H at hH ⊢
  generalize ([] : List Loc) = locs at hH ⊢
  have hl : lv_has ls 7 [(0, .ref (ad 99)), (1, .int (iZ ((i : Int)))), (2, .int (iZ ((f : Int))))] := hl
  have hbl := blk_le hb.1 hn
  have hi60 : 2 * i ≤ b * i := Nat.mul_le_mul_right i (by omega)
  have hib := (blk_lt (n := n) (j := i) (show 0 < b by omega)).mpr hi
  refine z_iconst hC 0 dX1_laysPairs_0 ?_
  refine z_istore_n (lv' := [(3, .int (iZ ((-1)))), (0, .ref (ad 99)), (1, .int (iZ ((i : Int)))), (2, .int (iZ ((f : Int))))]) hC 1 hl dX1_laysPairs_1 rfl (by decide) rfl (fun ls hl => ?_)
  refine z_iload_n hC 2 hl dX1_laysPairs_2 rfl 2 rfl ?_
  refine z_istore (lv' := [(4, .int (iZ ((i : Int)))), (3, .int (iZ ((-1)))), (0, .ref (ad 99)), (1, .int (iZ ((i : Int)))), (2, .int (iZ ((f : Int))))]) hC 3 hl dX1_laysPairs_3 (by decide) rfl (fun ls hl => ?_)
  have L5 : ∀ (N_ : Nat) (j : Nat) (be : Int) (a : Nat → Int) (H : Heap) (locs : List Loc) (ls : Array Slot), zdiv (n + b - 1) b - j < N_ → (i ≤ j) → (j ≤ zdiv (n + b - 1) b) → (LPI v (b * i) t (if b * j ≤ n then b * j else n) be) → (MOL v b n t i f j a0 a) → zH s0 s1 G as0 (dW ad G F (va_up Ar 12 a) kp pl PW) H locs → lv_has ls 7 [(0, .ref (ad 99)), (1, .int (iZ ((i : Int)))), (2, .int (iZ ((f : Int)))), (3, .int (iZ (be))), (4, .int (iZ ((j : Int))))] → W pg lau ev (zRm 4 0 0 96) s1 mi ar bl me cd H locs 0 0 Q (F0 mi 5 ls []) := by
    intro N_
    induction N_ with
    | zero => intro j be a H locs ls hd; exact absurd hd (Nat.not_lt_zero _)
    | succ N_ ih5 =>
      intro j be a H locs ls hd5 i5_1 i5_2 ib im hH hl
      have hbb := LPI_b ib
      refine z_iload hC 5 hl dX1_laysPairs_5 4 rfl ?_
      refine z_aload_n hC 7 hl dX1_laysPairs_7 rfl 0 rfl ?_
      refine zp_back (zp_runV hC (hH.2.2) hl.1 (va_P_l hH.1) 0 (As := []) (rest := [.int (iZ ((j : Int)))]) (u_X1_blocks lau s0 G ad F (va_up Ar 12 a) kp pl n b (by first | exact hn | assumption | omega) (by first | exact hFn | assumption | omega) (by first | exact hb | assumption | omega) (by first | exact hFb | assumption | omega)) (lw_V q719 q721 qs13 q89 q722) ⟨rfl, by decide, by decide, by decide +kernel⟩ (q0 := 0) (ci := 1) rfl rfl rfl rfl (Nat.le_of_ble_eq_true rfl) ⟨Nat.le_of_ble_eq_true rfl, Nat.le_of_ble_eq_true rfl⟩ ⟨by first | decide | omega, by first | decide | omega⟩ dX1_laysPairs_8) (fun _ hpost => ?_)
      refine z_st (st' := [.int (iZ (((zdiv (n + b - 1) b : Nat) : Int))), .int (iZ ((j : Int)))]) rfl ?_
      refine z_icmp_ge hC 11 107 dX1_laysPairs_11 rfl (by omega) (by omega) (fun hb1 => ?_) (fun hb1 => ?_)
      · -- 11t
        have hje : j = zdiv (n + b - 1) b := by omega
        rw [hje] at im
        -- R107.1
        exact z_vret hC hH hQ 107 (a) dX1_laysPairs_107 rfl (by exact Or.inl im) rfl (Nat.le_refl _) (Nat.le_refl _)
      · -- 11f
        have hjn := (blk_lt (n := n) (j := j) (show 0 < b by omega)).mp (by omega)
        have hbe9 := bEnd_b (by omega) hjn
        have hij9 := Nat.mul_le_mul_left b (show i ≤ j by omega)
        have hj60 : 2 * j ≤ b * j := Nat.mul_le_mul_right j (by omega)
        rw [if_pos (by omega)] at ib
        have hend : bEnd b j n = if b * (j + 1) ≤ n then b * (j + 1) else n := by unfold bEnd; split <;> split <;> omega
        refine z_aload_n hC 14 hl dX1_laysPairs_14 rfl 0 rfl ?_
        refine zp_get (v := .int (iZ ((b : Int)))) hC (va_P_l hH.1) 15 in_X1 rfl 7 (by decide) q216 0 rfl (by rw [← hFb]; rfl) dX1_laysPairs_15 ?_
        refine z_iload hC 18 hl dX1_laysPairs_18 4 rfl ?_
        refine z_imul (e := ((b * j : Nat) : Int)) hC 20 dX1_laysPairs_20 (by push_cast; rfl) ?_
        refine z_istore (lv' := [(5, .int (iZ (((b * j : Nat) : Int)))), (0, .ref (ad 99)), (1, .int (iZ ((i : Int)))), (2, .int (iZ ((f : Int)))), (3, .int (iZ (be))), (4, .int (iZ ((j : Int))))]) hC 21 hl dX1_laysPairs_21 (by decide) rfl (fun ls hl => ?_)
        have L23 : ∀ (N_ : Nat) (p : Nat) (be : Int) (H : Heap) (locs : List Loc) (ls : Array Slot), bEnd b j n - p < N_ → (b * j ≤ p) → (p ≤ bEnd b j n) → (LPI v (b * i) t p be) → zH s0 s1 G as0 (dW ad G F (va_up Ar 12 a) kp pl PW) H locs → lv_has ls 7 [(0, .ref (ad 99)), (1, .int (iZ ((i : Int)))), (2, .int (iZ ((f : Int)))), (3, .int (iZ (be))), (4, .int (iZ ((j : Int)))), (5, .int (iZ ((p : Int))))] → W pg lau ev (zRm 4 0 0 96) s1 mi ar bl me cd H locs 0 0 Q (F0 mi 23 ls []) := by
          intro N_
          induction N_ with
          | zero => intro p be H locs ls hd; exact absurd hd (Nat.not_lt_zero _)
          | succ N_ ih23 =>
            intro p be H locs ls hd23 i23_1 i23_2 ip hH hl
            have hbb := LPI_b ip
            refine z_iload hC 23 hl dX1_laysPairs_23 5 rfl ?_
            refine z_aload_n hC 25 hl dX1_laysPairs_25 rfl 0 rfl ?_
            refine z_iload hC 26 hl dX1_laysPairs_26 4 rfl ?_
            refine zp_back (zp_runV hC (hH.2.2) hl.1 (va_P_l hH.1) 1 (As := [.int (iZ ((j : Int)))]) (rest := [.int (iZ ((p : Int)))]) (u_X1_endOf lau s0 G ad F (va_up Ar 12 a) kp pl n b j (by first | exact hn | assumption | omega) (by first | exact hFn | assumption | omega) (by first | exact hb | assumption | omega) (by first | exact hFb | assumption | omega) (by first | assumption | omega)) (lw_V q727 q729 qs15 q89 q730) ⟨rfl, by decide, by decide, by decide +kernel⟩ (q0 := 0) (ci := 1) rfl rfl rfl rfl (Nat.le_of_ble_eq_true rfl) ⟨Nat.le_of_ble_eq_true rfl, Nat.le_of_ble_eq_true rfl⟩ ⟨by first | decide | omega, by first | decide | omega⟩ dX1_laysPairs_28) (fun _ hpost => ?_)
            refine z_st (st' := [.int (iZ (((bEnd b j n : Nat) : Int) - 1)), .int (iZ ((p : Int)))]) rfl ?_
            refine z_icmp_gt hC 31 82 dX1_laysPairs_31 rfl (by omega) (by omega) (fun hb2 => ?_) (fun hb2 => ?_)
            · -- 31t
              have hpe : p = bEnd b j n := by omega
              have hbe : be = (md v (b * i) (bEnd b j n) t : Int) := by rw [← hpe]; exact (LPI_get ip (by rcases ip with q | q; omega; (have := md_lt_1000 v (b * i) p t; omega))).2
              refine z_iload hC 82 hl dX1_laysPairs_82 4 rfl ?_
              refine z_iload_n hC 84 hl dX1_laysPairs_84 rfl 2 rfl ?_
              refine z_icmp_lt hC 85 101 dX1_laysPairs_85 rfl (by omega) (by omega) (fun hb3 => ?_) (fun hb3 => ?_)
              · -- 85t
                refine z_iinc (lv' := [(4, .int (iZ ((j : Int) + 1))), (0, .ref (ad 99)), (1, .int (iZ ((i : Int)))), (2, .int (iZ ((f : Int)))), (3, .int (iZ (be))), (5, .int (iZ ((p : Int))))]) hC 101 hl dX1_laysPairs_101 4 rfl (by omega) (by decide) rfl (fun ls hl => ?_)
                refine z_goto hC 104 5 dX1_laysPairs_104 rfl ?_
                -- J5.2
                exact ih5 (j + 1) be a _ _ _ (by omega) (by first | assumption | omega) (by first | assumption | omega) (by first | (rw [if_pos (by omega)]; exact LPI_0) | (rw [← hend]; rw [show p = bEnd b j n by omega] at ip; exact ip)) (by first | exact MOL_0 hif | exact MOL_n im (by omega) | exact MOL_s im (by omega) hbe) hH (z_lv (lv_sub hl [1, 2, 3, 4, 0] rfl) (zcons rfl (zcons rfl (zcons rfl (zcons rfl (zcons (zpeq (by omega)) rfl))))))
              · -- 85f
                refine z_aload_n hC 88 hl dX1_laysPairs_88 rfl 0 rfl ?_
                refine zp_get (v := .ref (ad 12)) hC (va_P_l hH.1) 89 in_X1 rfl 12 (by decide) q222 0 rfl (rfl) dX1_laysPairs_89 ?_
                refine z_bipush hC 92 dX1_laysPairs_92 rfl ?_
                refine z_iload_n hC 94 hl dX1_laysPairs_94 rfl 1 rfl ?_
                refine z_imul (e := 60 * (i : Int)) hC 95 dX1_laysPairs_95 rfl ?_
                refine z_iload hC 96 hl dX1_laysPairs_96 4 rfl ?_
                refine z_iadd (e := 60 * (i : Int) + (j : Int)) hC 98 dX1_laysPairs_98 rfl ?_
                refine z_iload_n hC 99 hl dX1_laysPairs_99 rfl 3 rfl ?_
                refine sD_12 (f' := (va_up a (60 * i + j) (be))) hC hH 100 (60 * i + j) (by omega) (by omega) rfl dX1_laysPairs_100 (fun H locs hH => ?_)
                have hH : zH s0 s1 G as0 (dW ad G F (va_up Ar 12 (va_up a (60 * i + j) (be))) kp pl PW) H locs := hH
                refine z_iinc (lv' := [(4, .int (iZ ((j : Int) + 1))), (0, .ref (ad 99)), (1, .int (iZ ((i : Int)))), (2, .int (iZ ((f : Int)))), (3, .int (iZ (be))), (5, .int (iZ ((p : Int))))]) hC 101 hl dX1_laysPairs_101 4 rfl (by omega) (by decide) rfl (fun ls hl => ?_)
                refine z_goto hC 104 5 dX1_laysPairs_104 rfl ?_
                -- J5.3
                exact ih5 (j + 1) be (va_up a (60 * i + j) (be)) _ _ _ (by omega) (by first | assumption | omega) (by first | assumption | omega) (by first | (rw [if_pos (by omega)]; exact LPI_0) | (rw [← hend]; rw [show p = bEnd b j n by omega] at ip; exact ip)) (by first | exact MOL_0 hif | exact MOL_n im (by omega) | exact MOL_s im (by omega) hbe) hH (z_lv (lv_sub hl [1, 2, 3, 4, 0] rfl) (zcons rfl (zcons rfl (zcons rfl (zcons rfl (zcons (zpeq (by omega)) rfl))))))
            · -- 31f
              have hvp := hv p (by omega)
              have hvq : ∀ i, i < p + 1 → v i < 1000 := fun i hi => hv i (by omega)
              refine z_aload_n hC 34 hl dX1_laysPairs_34 rfl 0 rfl ?_
              refine zp_get (v := .ref (ad 200)) hC (va_P_l hH.1) 35 in_X1 rfl 4 (by decide) q210 0 rfl (rfl) dX1_laysPairs_35 ?_
              refine zp_getN (v := .ref (ad 201)) hC (va_P_l hH.1) 38 in_X2 rfl 0 (by decide) q141 11 rfl (rfl) dX1_laysPairs_38 ?_
              refine z_iload hC 41 hl dX1_laysPairs_41 5 rfl ?_
              refine zp_iald (f := (Ar 201)) (x := ((v (p) : Nat) : Int)) hC (va_P_l hH.1) 43 12 (p) rfl (by decide) (by omega) (by omega) (hAv (p) (by omega)) dX1_laysPairs_43 ?_
              refine z_istore (lv' := [(6, .int (iZ (((v (p) : Nat) : Int)))), (0, .ref (ad 99)), (1, .int (iZ ((i : Int)))), (2, .int (iZ ((f : Int)))), (3, .int (iZ (be))), (4, .int (iZ ((j : Int)))), (5, .int (iZ ((p : Int))))]) hC 44 hl dX1_laysPairs_44 (by decide) rfl (fun ls hl => ?_)
              refine z_iload_n hC 46 hl dX1_laysPairs_46 rfl 4 rfl ?_
              refine z_iconst hC 47 dX1_laysPairs_47 ?_
              refine z_icmp_eq hC 48 73 dX1_laysPairs_48 rfl (by omega) (by omega) (fun hb4 => ?_) (fun hb4 => ?_)
              · -- 48t
                refine z_iload hC 73 hl dX1_laysPairs_73 0 rfl ?_
                refine z_istore_n (lv' := [(3, .int (iZ (((v (p) : Nat) : Int)))), (6, .int (iZ (((v (p) : Nat) : Int)))), (0, .ref (ad 99)), (1, .int (iZ ((i : Int)))), (2, .int (iZ ((f : Int)))), (4, .int (iZ ((j : Int)))), (5, .int (iZ ((p : Int))))]) hC 75 hl dX1_laysPairs_75 rfl (by decide) rfl (fun ls hl => ?_)
                refine z_iinc (lv' := [(5, .int (iZ ((p : Int) + 1))), (3, .int (iZ (((v (p) : Nat) : Int)))), (6, .int (iZ (((v (p) : Nat) : Int)))), (0, .ref (ad 99)), (1, .int (iZ ((i : Int)))), (2, .int (iZ ((f : Int)))), (4, .int (iZ ((j : Int))))]) hC 76 hl dX1_laysPairs_76 6 rfl (by omega) (by decide) rfl (fun ls hl => ?_)
                refine z_goto hC 79 23 dX1_laysPairs_79 rfl ?_
                -- J23.4
                exact ih23 (p + 1) ((v (p) : Nat) : Int) _ _ _ (by omega) (by first | assumption | omega) (by first | assumption | omega) (by first | exact ib | exact LPI_1 ip (by omega) hvp | exact LPI_2 hpq9.1 hvq hb_67 | exact LPI_3 hpq9.1 hvq hb_67) hH (z_lv (lv_sub hl [3, 4, 5, 1, 6, 0] rfl) (zcons rfl (zcons rfl (zcons rfl (zcons rfl (zcons rfl (zcons (zpeq (by omega)) rfl)))))))
              · -- 48f
                obtain rfl : be = ((md v (b * i) p t : Nat) : Int) := (LPI_get ip (by omega)).2
                have hpq9 := LPI_get ip (by omega)
                refine z_aload_n hC 51 hl dX1_laysPairs_51 rfl 1 rfl ?_
                refine z_iload hC 52 hl dX1_laysPairs_52 0 rfl ?_
                refine z_iload_n hC 54 hl dX1_laysPairs_54 rfl 4 rfl ?_
                refine z_aload_n hC 55 hl dX1_laysPairs_55 rfl 1 rfl ?_
                refine zp_get (v := .int (iZ ((b : Int)))) hC (va_P_l hH.1) 56 in_X1 rfl 7 (by decide) q216 0 rfl (by rw [← hFb]; rfl) dX1_laysPairs_56 ?_
                refine z_iload_n hC 59 hl dX1_laysPairs_59 rfl 2 rfl ?_
                refine z_imul (e := ((b * i : Nat) : Int)) hC 60 dX1_laysPairs_60 (by push_cast; rfl) ?_
                refine z_iload hC 61 hl dX1_laysPairs_61 6 rfl ?_
                have hq1 := cnt_in (v := v) (a := b * i) (b := p + 1) (p := p) (by omega) (by omega)
                have hq2 := (md_spec2 (v := v) (l := b * i) (r := p) (t := t) (fun i hi => hv i (by omega)) (by omega)).2.1
                have hq3 := cnt_mono (v := v) (a := b * i) (x := md v (b * i) p t) (show p ≤ p + 1 by omega)
                have hq4 := md_lt_1000 v (b * i) p t
                refine z_aload_n hC 63 hl dX1_laysPairs_63 rfl 1 rfl ?_
                refine zp_get (v := .int (iZ ((t : Int)))) hC (va_P_l hH.1) 64 in_X1 rfl 8 (by decide) q218 0 rfl (by rw [← hFt]; rfl) dX1_laysPairs_64 ?_
                refine z_st (st' := [.int (iZ ((t : Int))), .int (iZ (((p + 1 : Nat) : Int) - 1)), .int (iZ (((b * i : Nat) : Int))), .int (iZ (((md v (b * i) p t : Nat) : Int))), .int (iZ (((v (p) : Nat) : Int))), .ref (ad 99)]) (zcons rfl (zcons (zieq (by omega)) (zcons rfl (zcons rfl (zcons rfl rfl))))) ?_
                refine zp_back (zp_runV hC (hH.2.2) hl.1 (dP_of hH hpp) 5 (As := [.int (iZ (((v (p) : Nat) : Int))), .int (iZ (((md v (b * i) p t : Nat) : Int))), .int (iZ (((b * i : Nat) : Int))), .int (iZ (((p + 1 : Nat) : Int) - 1)), .int (iZ ((t : Int)))]) (rest := []) (u_X1_isAhead lau s0 G ad F (va_up Ar 12 a) kp pl pr pa pm pf n v (v (p)) (md v (b * i) p t) (b * i) (p + 1) t nw (by first | exact hn | assumption | omega) (by first | exact hv | assumption | omega) (by first | exact hpl | assumption | omega) (by first | exact hnw | assumption | omega) (by first | exact hpc | assumption | omega) (by omega) (by first | exact hrn | assumption | omega) (by first | assumption | omega) (by first | assumption | omega) (by first | exact hq1 | omega) (by omega) (by first | exact ht | assumption | omega)) (lw_V q732 q734 qs16 q89 q735) ⟨rfl, by decide, by decide, by decide +kernel⟩ (q0 := 0) (ci := 1) rfl rfl rfl rfl (Nat.le_of_ble_eq_true rfl) ⟨Nat.le_of_ble_eq_true rfl, Nat.le_of_ble_eq_true rfl⟩ ⟨by first | decide | omega, by first | decide | omega⟩ dX1_laysPairs_67) (fun r_67 hpost => ?_)
                have hb_67 : (r_67 = 1 ∧ (ahd v (b * i) (p + 1) t (v (p)) (md v (b * i) p t))) ∨ (r_67 = 0 ∧ ¬ (ahd v (b * i) (p + 1) t (v (p)) (md v (b * i) p t))) := hpost
                refine z_st (st' := [.int (iZ (r_67))]) rfl ?_
                rcases hb_67 with ⟨rfl, hb_67⟩ | ⟨rfl, hb_67⟩
                · -- 67=1
                  refine z_if_eq_f hC 70 76 dX1_laysPairs_70 rfl (by omega) (by omega) ?_
                  refine z_iload hC 73 hl dX1_laysPairs_73 0 rfl ?_
                  refine z_istore_n (lv' := [(3, .int (iZ (((v (p) : Nat) : Int)))), (6, .int (iZ (((v (p) : Nat) : Int)))), (0, .ref (ad 99)), (1, .int (iZ ((i : Int)))), (2, .int (iZ ((f : Int)))), (4, .int (iZ ((j : Int)))), (5, .int (iZ ((p : Int))))]) hC 75 hl dX1_laysPairs_75 rfl (by decide) rfl (fun ls hl => ?_)
                  refine z_iinc (lv' := [(5, .int (iZ ((p : Int) + 1))), (3, .int (iZ (((v (p) : Nat) : Int)))), (6, .int (iZ (((v (p) : Nat) : Int)))), (0, .ref (ad 99)), (1, .int (iZ ((i : Int)))), (2, .int (iZ ((f : Int)))), (4, .int (iZ ((j : Int))))]) hC 76 hl dX1_laysPairs_76 6 rfl (by omega) (by decide) rfl (fun ls hl => ?_)
                  refine z_goto hC 79 23 dX1_laysPairs_79 rfl ?_
                  -- J23.5
                  exact ih23 (p + 1) ((v (p) : Nat) : Int) _ _ _ (by omega) (by first | assumption | omega) (by first | assumption | omega) (by first | exact ib | exact LPI_1 ip (by omega) hvp | exact LPI_2 hpq9.1 hvq hb_67 | exact LPI_3 hpq9.1 hvq hb_67) hH (z_lv (lv_sub hl [3, 4, 5, 1, 6, 0] rfl) (zcons rfl (zcons rfl (zcons rfl (zcons rfl (zcons rfl (zcons (zpeq (by omega)) rfl)))))))
                · -- 67=0
                  refine z_if_eq_t hC 70 76 dX1_laysPairs_70 rfl (by omega) (by omega) ?_
                  refine z_iinc (lv' := [(5, .int (iZ ((p : Int) + 1))), (6, .int (iZ (((v (p) : Nat) : Int)))), (0, .ref (ad 99)), (1, .int (iZ ((i : Int)))), (2, .int (iZ ((f : Int)))), (3, .int (iZ (((md v (b * i) p t : Nat) : Int)))), (4, .int (iZ ((j : Int))))]) hC 76 hl dX1_laysPairs_76 6 rfl (by omega) (by decide) rfl (fun ls hl => ?_)
                  refine z_goto hC 79 23 dX1_laysPairs_79 rfl ?_
                  -- J23.6
                  exact ih23 (p + 1) ((md v (b * i) p t : Nat) : Int) _ _ _ (by omega) (by first | assumption | omega) (by first | assumption | omega) (by first | exact ib | exact LPI_1 ip (by omega) hvp | exact LPI_2 hpq9.1 hvq hb_67 | exact LPI_3 hpq9.1 hvq hb_67) hH (z_lv (lv_sub hl [2, 3, 4, 5, 6, 0] rfl) (zcons rfl (zcons rfl (zcons rfl (zcons rfl (zcons rfl (zcons (zpeq (by omega)) rfl)))))))
        -- J23.7
        exact L23 _ (b * j) be _ _ _ (Nat.lt_succ_self _) (by first | assumption | omega) (by first | assumption | omega) (by first | exact ib | exact LPI_1 ip (by omega) hvp | exact LPI_2 hpq9.1 hvq hb_67 | exact LPI_3 hpq9.1 hvq hb_67) hH (lv_sub hl [1, 2, 3, 4, 5, 0] rfl)
  -- J5.8
  exact L5 _ i (-1) a0 _ _ _ (Nat.lt_succ_self _) (by first | assumption | omega) (by first | assumption | omega) (by first | (rw [if_pos (by omega)]; exact LPI_0) | (rw [← hend]; rw [show p = bEnd b j n by omega] at ip; exact ip)) (by first | exact MOL_0 hif | exact MOL_n im (by omega) | exact MOL_s im (by omega) hbe) hH (lv_sub hl [2, 3, 4, 1, 0] rfl)

set_option maxHeartbeats 4000000 in
set_option maxRecDepth 100000 in
theorem m_X1_isFresh (lau : Launch) (s0 : State) (G : zG) (sz : Nat) (ad : Nat → Nat) (F : Nat → Int) (Ar : Nat → Nat → Int) (kp : Nat → Nat) (pl : Nat → Option Nat) (PW : va_W) (n : Nat) (v : Nat → Nat) (n0 : Nat) (v0 : Nat → Nat) (b : Nat) (i : Nat) (hn : n ≤ 120) (hFn : F 200 = (n : Int)) (hv : ∀ i, i < n → v i < 1000) (hAv : ∀ i, i < n → Ar 201 i = (v i : Int)) (hb : 2 ≤ b ∧ b ≤ 20) (hFb : F 7 = (b : Int)) (hn0 : n0 ≤ 120) (hFn0 : F 203 = (n0 : Int)) (hv0 : ∀ i, i < n0 → v0 i < 1000) (hAv0 : ∀ i, i < n0 → Ar 204 i = (v0 i : Int)) (hi : b * i < n) : zMet (S := Int) lau yX1_isFresh cX1_isFresh 3 (some .boolean) 2 34 0 0 s0 G sz [.ref (ad 99), .int (iZ ((i : Int)))] (dW ad G F Ar kp pl PW) (fun (r_ : Int) => some (.int (iZ r_))) (fun (r_ : Int) => ((r_ = 1 ∧ (FR b n0 v0 n v i)) ∨ (r_ = 0 ∧ ¬ (FR b n0 v0 n v i)))) (fun (r_ : Int) => (dW ad G F Ar kp pl PW)) := by
  refine zMet.of (by decide) (Nat.le_of_ble_eq_true rfl) ?_
  intro pg ev s1 mi ar bl me cd ls Q as0 hC hH hl hQ hsz
  generalize s1.heap = H at hH ⊢
  generalize ([] : List Loc) = locs at hH ⊢
  have hl : lv_has ls 3 [(0, .ref (ad 99)), (1, .int (iZ ((i : Int))))] := hl
  have hbe9 := bEnd_b (by omega) hi
  have hbs : b * (i + 1) = b * i + b := Nat.mul_succ b i
  refine z_aload_n hC 0 hl dX1_isFresh_0 rfl 0 rfl ?_
  refine zp_get (v := .int (iZ ((b : Int)))) hC (va_P_l hH.1) 1 in_X1 rfl 7 (by decide) q216 0 rfl (by rw [← hFb]; rfl) dX1_isFresh_1 ?_
  refine z_iload_n hC 4 hl dX1_isFresh_4 rfl 1 rfl ?_
  refine z_imul (e := ((b * i : Nat) : Int)) hC 5 dX1_isFresh_5 (by push_cast; rfl) ?_
  refine z_istore_n (lv' := [(2, .int (iZ (((b * i : Nat) : Int)))), (0, .ref (ad 99)), (1, .int (iZ ((i : Int))))]) hC 6 hl dX1_isFresh_6 rfl (by decide) rfl (fun ls hl => ?_)
  have L7 : ∀ (N_ : Nat) (p : Nat) (H : Heap) (locs : List Loc) (ls : Array Slot), bEnd b i n - p < N_ → (b * i ≤ p) → (p ≤ bEnd b i n) → (∀ q, b * i ≤ q → q < p → q < n0 ∧ v q = v0 q) → zH s0 s1 G as0 (dW ad G F Ar kp pl PW) H locs → lv_has ls 3 [(0, .ref (ad 99)), (1, .int (iZ ((i : Int)))), (2, .int (iZ ((p : Int))))] → W pg lau ev (zRm 2 0 0 34) s1 mi ar bl me cd H locs 0 0 Q (F0 mi 7 ls []) := by
    intro N_
    induction N_ with
    | zero => intro p H locs ls hd; exact absurd hd (Nat.not_lt_zero _)
    | succ N_ ih7 =>
      intro p H locs ls hd7 i7_1 i7_2 ip hH hl
      refine z_iload_n hC 7 hl dX1_isFresh_7 rfl 2 rfl ?_
      refine z_aload_n hC 8 hl dX1_isFresh_8 rfl 0 rfl ?_
      refine z_iload_n hC 9 hl dX1_isFresh_9 rfl 1 rfl ?_
      refine zp_back (zp_runV hC (hH.2.2) hl.1 (va_P_l hH.1) 1 (As := [.int (iZ ((i : Int)))]) (rest := [.int (iZ ((p : Int)))]) (u_X1_endOf lau s0 G ad F Ar kp pl n b i (by first | exact hn | assumption | omega) (by first | exact hFn | assumption | omega) (by first | exact hb | assumption | omega) (by first | exact hFb | assumption | omega) (by first | assumption | omega)) (lw_V q727 q729 qs15 q89 q730) ⟨rfl, by decide, by decide, by decide +kernel⟩ (q0 := 0) (ci := 1) rfl rfl rfl rfl (Nat.le_of_ble_eq_true rfl) ⟨Nat.le_of_ble_eq_true rfl, Nat.le_of_ble_eq_true rfl⟩ ⟨by first | decide | omega, by first | decide | omega⟩ dX1_isFresh_10) (fun _ hpost => ?_)
      refine z_st (st' := [.int (iZ (((bEnd b i n : Nat) : Int) - 1)), .int (iZ ((p : Int)))]) rfl ?_
      refine z_icmp_gt hC 13 56 dX1_isFresh_13 rfl (by omega) (by omega) (fun hb1 => ?_) (fun hb1 => ?_)
      · -- 13t
        have hpe : p = bEnd b i n := by omega
        rw [hpe] at ip
        have hfe := FRend (by omega) hi ip
        have hbn : bEnd b i n0 = if n0 < b * (i + 1) then n0 else b * (i + 1) := rfl
        refine z_aload_n hC 56 hl dX1_isFresh_56 rfl 0 rfl ?_
        refine zp_get (v := .ref (ad 203)) hC (va_P_l hH.1) 57 in_X1 rfl 5 (by decide) q214 0 rfl (rfl) dX1_isFresh_57 ?_
        refine zp_getN (v := .int (iZ ((n0 : Int)))) hC (va_P_l hH.1) 60 in_X2 rfl 2 (by decide) q149 14 rfl (by rw [← hFn0]; rfl) dX1_isFresh_60 ?_
        refine z_aload_n hC 63 hl dX1_isFresh_63 rfl 0 rfl ?_
        refine zp_get (v := .int (iZ ((b : Int)))) hC (va_P_l hH.1) 64 in_X1 rfl 7 (by decide) q216 0 rfl (by rw [← hFb]; rfl) dX1_isFresh_64 ?_
        refine z_iload_n hC 67 hl dX1_isFresh_67 rfl 1 rfl ?_
        refine z_iconst hC 68 dX1_isFresh_68 ?_
        refine z_iadd (e := (i : Int) + 1) hC 69 dX1_isFresh_69 rfl ?_
        refine z_imul (e := ((b * (i + 1) : Nat) : Int)) hC 70 dX1_isFresh_70 (by push_cast; rfl) ?_
        refine z_min (a := (n0 : Int)) (b := ((b * (i + 1) : Nat) : Int)) hC hl.1 71 q731 dX1_isFresh_71 (by omega) (by omega) ⟨Nat.le_of_ble_eq_true rfl, Nat.le_of_ble_eq_true rfl⟩ ⟨by first | decide | omega, by first | decide | omega⟩ ?_
        have hmm71 := zmin_spec ((n0 : Int)) (((b * (i + 1) : Nat) : Int))
        refine z_iconst hC 74 dX1_isFresh_74 ?_
        refine z_isub (e := (zmin ((n0 : Int)) (((b * (i + 1) : Nat) : Int))) - 1) hC 75 dX1_isFresh_75 rfl ?_
        refine z_aload_n hC 76 hl dX1_isFresh_76 rfl 0 rfl ?_
        refine z_iload_n hC 77 hl dX1_isFresh_77 rfl 1 rfl ?_
        refine zp_back (zp_runV hC (hH.2.2) hl.1 (va_P_l hH.1) 1 (As := [.int (iZ ((i : Int)))]) (rest := [.int (iZ ((zmin ((n0 : Int)) (((b * (i + 1) : Nat) : Int))) - 1))]) (u_X1_endOf lau s0 G ad F Ar kp pl n b i (by first | exact hn | assumption | omega) (by first | exact hFn | assumption | omega) (by first | exact hb | assumption | omega) (by first | exact hFb | assumption | omega) (by first | assumption | omega)) (lw_V q727 q729 qs15 q89 q730) ⟨rfl, by decide, by decide, by decide +kernel⟩ (q0 := 0) (ci := 1) rfl rfl rfl rfl (Nat.le_of_ble_eq_true rfl) ⟨Nat.le_of_ble_eq_true rfl, Nat.le_of_ble_eq_true rfl⟩ ⟨by first | decide | omega, by first | decide | omega⟩ dX1_isFresh_78) (fun _ hpost => ?_)
        refine z_st (st' := [.int (iZ (((bEnd b i n : Nat) : Int) - 1)), .int (iZ ((zmin ((n0 : Int)) (((b * (i + 1) : Nat) : Int))) - 1))]) rfl ?_
        refine z_icmp_le hC 81 88 dX1_isFresh_81 rfl (by omega) (by omega) (fun hb2 => ?_) (fun hb2 => ?_)
        · -- 81t
          refine z_iconst hC 88 dX1_isFresh_88 ?_
          -- R89.1
          exact z_zret hC hH hQ 89 (0) dX1_isFresh_89 (by rfl) rfl (Or.inr ⟨rfl, by (rw [hfe]; split at hbn <;> omega)⟩) rfl (Nat.le_refl _) (Nat.le_refl _)
        · -- 81f
          refine z_iconst hC 84 dX1_isFresh_84 ?_
          refine z_goto hC 85 89 dX1_isFresh_85 rfl ?_
          -- R89.2
          exact z_zret hC hH hQ 89 (1) dX1_isFresh_89 (by rfl) rfl (Or.inl ⟨rfl, by (rw [hfe]; split at hbn <;> omega)⟩) rfl (Nat.le_refl _) (Nat.le_refl _)
      · -- 13f
        have hvp := hv p (by omega)
        refine z_iload_n hC 16 hl dX1_isFresh_16 rfl 2 rfl ?_
        refine z_aload_n hC 17 hl dX1_isFresh_17 rfl 0 rfl ?_
        refine zp_get (v := .ref (ad 203)) hC (va_P_l hH.1) 18 in_X1 rfl 5 (by decide) q214 0 rfl (rfl) dX1_isFresh_18 ?_
        refine zp_getN (v := .int (iZ ((n0 : Int)))) hC (va_P_l hH.1) 21 in_X2 rfl 2 (by decide) q149 14 rfl (by rw [← hFn0]; rfl) dX1_isFresh_21 ?_
        refine z_icmp_ge hC 24 48 dX1_isFresh_24 rfl (by omega) (by omega) (fun hb3 => ?_) (fun hb3 => ?_)
        · -- 24t
          refine z_iconst hC 48 dX1_isFresh_48 ?_
          -- R49.3
          exact z_zret hC hH hQ 49 (1) dX1_isFresh_49 (by rfl) rfl (Or.inl ⟨rfl, by first | exact Or.inr ⟨p, by omega, by omega, by omega, Or.inl (by omega)⟩ | exact Or.inr ⟨p, by omega, by omega, by omega, Or.inr (by omega)⟩⟩) rfl (Nat.le_refl _) (Nat.le_refl _)
        · -- 24f
          refine z_aload_n hC 27 hl dX1_isFresh_27 rfl 0 rfl ?_
          refine zp_get (v := .ref (ad 200)) hC (va_P_l hH.1) 28 in_X1 rfl 4 (by decide) q210 0 rfl (rfl) dX1_isFresh_28 ?_
          refine zp_getN (v := .ref (ad 201)) hC (va_P_l hH.1) 31 in_X2 rfl 0 (by decide) q141 11 rfl (rfl) dX1_isFresh_31 ?_
          have hvp0 := hv0 p (by omega)
          refine z_iload_n hC 34 hl dX1_isFresh_34 rfl 2 rfl ?_
          refine zp_iald (f := (Ar 201)) (x := ((v (p) : Nat) : Int)) hC (va_P_l hH.1) 35 12 (p) rfl (by decide) (by omega) (by omega) (hAv (p) (by omega)) dX1_isFresh_35 ?_
          refine z_aload_n hC 36 hl dX1_isFresh_36 rfl 0 rfl ?_
          refine zp_get (v := .ref (ad 203)) hC (va_P_l hH.1) 37 in_X1 rfl 5 (by decide) q214 0 rfl (rfl) dX1_isFresh_37 ?_
          refine zp_getN (v := .ref (ad 204)) hC (va_P_l hH.1) 40 in_X2 rfl 0 (by decide) q141 14 rfl (rfl) dX1_isFresh_40 ?_
          refine z_iload_n hC 43 hl dX1_isFresh_43 rfl 2 rfl ?_
          refine zp_iald (f := (Ar 204)) (x := ((v0 (p) : Nat) : Int)) hC (va_P_l hH.1) 44 15 (p) rfl (by decide) (by omega) (by omega) (hAv0 (p) (by omega)) dX1_isFresh_44 ?_
          refine z_icmp_eq hC 45 50 dX1_isFresh_45 rfl (by omega) (by omega) (fun hb4 => ?_) (fun hb4 => ?_)
          · -- 45t
            refine z_iinc (lv' := [(2, .int (iZ ((p : Int) + 1))), (0, .ref (ad 99)), (1, .int (iZ ((i : Int))))]) hC 50 hl dX1_isFresh_50 2 rfl (by omega) (by decide) rfl (fun ls hl => ?_)
            refine z_goto hC 53 7 dX1_isFresh_53 rfl ?_
            -- J7.4
            exact ih7 (p + 1) _ _ _ (by omega) (by first | assumption | omega) (by first | assumption | omega) (by first | (intro q q1 q2; omega) | (intro q q1 q2; by_cases e : q = p; (subst e; exact ⟨by omega, by omega⟩); exact ip q q1 (by omega))) hH (z_lv (lv_sub hl [1, 2, 0] rfl) (zcons rfl (zcons rfl (zcons (zpeq (by omega)) rfl))))
          · -- 45f
            refine z_iconst hC 48 dX1_isFresh_48 ?_
            -- R49.5
            exact z_zret hC hH hQ 49 (1) dX1_isFresh_49 (by rfl) rfl (Or.inl ⟨rfl, by first | exact Or.inr ⟨p, by omega, by omega, by omega, Or.inl (by omega)⟩ | exact Or.inr ⟨p, by omega, by omega, by omega, Or.inr (by omega)⟩⟩) rfl (Nat.le_refl _) (Nat.le_refl _)
  -- J7.6
  exact L7 _ (b * i) _ _ _ (Nat.lt_succ_self _) (by first | assumption | omega) (by first | assumption | omega) (by first | (intro q q1 q2; omega) | (intro q q1 q2; by_cases e : q = p; (subst e; exact ⟨by omega, by omega⟩); exact ip q q1 (by omega))) hH (lv_sub hl [1, 2, 0] rfl)
