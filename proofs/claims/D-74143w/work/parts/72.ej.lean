/-! methods of ModeDesk that write: 72.ej -/
set_option maxHeartbeats 4000000 in
set_option maxRecDepth 100000 in
theorem m_X1_ifOut (lau : Launch) (s0 : State) (G : zG) (sz : Nat) (ad : Nat → Nat) (F : Nat → Int) (Ar : Nat → Nat → Int) (kp : Nat → Nat) (pl : Nat → Option Nat) (PW : va_W) (n : Nat) (v : Nat → Nat) (pr : Nat → Nat) (pa : Nat → Nat) (pm : Nat → Nat) (pf : Nat → Nat → Nat) (nw : Nat) (b : Nat) (t : Nat) (p : Int) (l : Int) (r : Int) (hn : n ≤ 120) (hFn : F 200 = (n : Int)) (hv : ∀ i, i < n → v i < 1000) (hAv : ∀ i, i < n → Ar 201 i = (v i : Int)) (hb : 2 ≤ b ∧ b ≤ 20) (hFb : F 7 = (b : Int)) (ht : t < 4) (hFt : F 8 = (t : Int)) (hpl : ∀ y, y < 1000 → (pl y = some (pr y) ∨ (pl y = none ∧ pr y = nw))) (hnw : zNwh s0 nw) (hpc : ∀ y, y < 1000 → PlC n v y (pm y) (pf y)) (hpp : zPool s0 G PW pr pa pm pf) (hmo : ∀ i j, i ≤ j → b * j < n → Ar 12 (60 * i + j) = (md v (b * i) (bEnd b j n) t : Int)) (hr_p : -2147483648 ≤ p ∧ p < 2147483648) (hr_l : -2147483648 ≤ l ∧ l < 2147483648) (hr_r : -2147483648 ≤ r ∧ r < 2147483648) : zMet (S := Int × (Nat → Int) × (Nat → Nat → Int)) lau yX1_ifOut cX1_ifOut 4 (some .int) 2 54 0 0 s0 G sz [.ref (ad 99), .int (iZ (p)), .int (iZ (l)), .int (iZ (r))] (dW ad G F (va_up Ar 16 zZ) kp pl PW) (fun ((r_, F2, A2) : Int × (Nat → Int) × (Nat → Nat → Int)) => some (.int (iZ (r_)))) (fun ((r_, F2, A2) : Int × (Nat → Int) × (Nat → Nat → Int)) => (Sp_ifOut n v t p l r r_) ∧ (DK F (va_up Ar 16 zZ) F2 A2)) (fun ((r_, F2, A2) : Int × (Nat → Int) × (Nat → Nat → Int)) => (dW ad G F2 A2 kp pl PW)) := by
  refine zMet.of (by decide) (Nat.le_of_ble_eq_true rfl) ?_
  intro pg ev s1 mi ar bl me cd ls Q as0 hC hH hl hQ hsz
  generalize s1.heap = H at hH ⊢
  generalize ([] : List Loc) = locs at hH ⊢
  have hl : lv_has ls 4 [(0, .ref (ad 99)), (1, .int (iZ (p))), (2, .int (iZ (l))), (3, .int (iZ (r)))] := hl
  refine z_aload_n hC 0 hl dX1_ifOut_0 rfl 0 rfl ?_
  refine z_iload_n hC 1 hl dX1_ifOut_1 rfl 2 rfl ?_
  refine z_iload_n hC 2 hl dX1_ifOut_2 rfl 3 rfl ?_
  refine zp_back (zp_runV hC (hH.2.2) hl.1 (va_P_l hH.1) 2 (As := [.int (iZ (l)), .int (iZ (r))]) (rest := []) (u_X1_isSpan lau s0 G ad F (va_up Ar 16 zZ) kp pl n l r (by first | exact hn | assumption | omega) (by first | exact hFn | assumption | omega) (by first | assumption | omega) (by first | assumption | omega)) (lw_V q864 q866 qs26 q89 q867) ⟨rfl, by decide, by decide, by decide +kernel⟩ (q0 := 0) (ci := 1) rfl rfl rfl rfl (Nat.le_of_ble_eq_true rfl) ⟨Nat.le_of_ble_eq_true rfl, Nat.le_of_ble_eq_true rfl⟩ ⟨by first | decide | omega, by first | decide | omega⟩ dX1_ifOut_3) (fun r_3 hpost => ?_)
  have hb_3 : (r_3 = 1 ∧ (0 ≤ l ∧ l ≤ r ∧ r < (n : Int))) ∨ (r_3 = 0 ∧ ¬ (0 ≤ l ∧ l ≤ r ∧ r < (n : Int))) := hpost
  refine z_st (st' := [.int (iZ (r_3))]) rfl ?_
  rcases hb_3 with ⟨rfl, hb_3⟩ | ⟨rfl, hb_3⟩
  · -- 3=1
    refine z_if_eq_f hC 6 35 dX1_ifOut_6 rfl (by omega) (by omega) ?_
    refine z_iload_n hC 9 hl dX1_ifOut_9 rfl 1 rfl ?_
    refine z_i2l hC 10 dX1_ifOut_10 (by omega) ?_
    refine z_iload_n hC 11 hl dX1_ifOut_11 rfl 2 rfl ?_
    refine z_i2l hC 12 dX1_ifOut_12 (by omega) ?_
    refine z_iload_n hC 13 hl dX1_ifOut_13 rfl 3 rfl ?_
    refine z_i2l hC 14 dX1_ifOut_14 (by omega) ?_
    refine zp_back (zp_runS hC (hH.2.2) hl.1 (zp_nil) 3 (As := [.long (lZ (p)), .long (lZ (l)), .long (lZ (r))]) (rest := []) (u_X1_isIn lau s0 G p l r (by first | assumption | omega) (by first | assumption | omega) (by first | assumption | omega)) (lw_S q303 q304 q89 q305) ⟨by decide, by decide, by decide +kernel⟩ rfl rfl (Nat.le_of_ble_eq_true rfl) ⟨Nat.le_of_ble_eq_true rfl, Nat.le_of_ble_eq_true rfl⟩ ⟨by first | decide | omega, by first | decide | omega⟩ dX1_ifOut_15) (fun r_15 hpost => ?_)
    have hb_15 : (r_15 = 1 ∧ (l ≤ p ∧ p ≤ r)) ∨ (r_15 = 0 ∧ ¬ (l ≤ p ∧ p ≤ r)) := hpost
    refine z_st (st' := [.int (iZ (r_15))]) rfl ?_
    rcases hb_15 with ⟨rfl, hb_15⟩ | ⟨rfl, hb_15⟩
    · -- 15=1
      refine z_if_eq_f hC 18 35 dX1_ifOut_18 rfl (by omega) (by omega) ?_
      obtain ⟨l1, rfl⟩ := Int.eq_ofNat_of_zero_le (show 0 ≤ l by omega)
      obtain ⟨r1, rfl⟩ := Int.eq_ofNat_of_zero_le (show 0 ≤ r by omega)
      obtain ⟨p1, rfl⟩ := Int.eq_ofNat_of_zero_le (show 0 ≤ p by omega)
      have hml := md_lt_1000 (va_up v p1 1000) l1 (r1 + 1) t
      refine z_aload_n hC 21 hl dX1_ifOut_21 rfl 0 rfl ?_
      refine z_aload_n hC 22 hl dX1_ifOut_22 rfl 0 rfl ?_
      refine zp_get (v := .ref (ad 200)) hC (va_P_l hH.1) 23 in_X1 rfl 4 (by decide) q210 0 rfl (rfl) dX1_ifOut_23 ?_
      refine z_iload_n hC 26 hl dX1_ifOut_26 rfl 2 rfl ?_
      refine z_iload_n hC 27 hl dX1_ifOut_27 rfl 3 rfl ?_
      refine z_iload_n hC 28 hl dX1_ifOut_28 rfl 1 rfl ?_
      refine z_st (st' := [.int (iZ ((p1 : Int))), .int (iZ (((r1 + 1 : Nat) : Int) - 1)), .int (iZ ((l1 : Int))), .ref (ad 200), .ref (ad 99)]) (zcons rfl (zcons (zieq (by omega)) (zcons rfl (zcons rfl rfl)))) ?_
      refine zp_back (zp_runV hC (hH.2.2) hl.1 ((va_P.app (va_P_l hH.1) (z_subP hH.1 [11, 12] rfl))) 4 (As := [.ref (ad 200), .int (iZ ((l1 : Int))), .int (iZ (((r1 + 1 : Nat) : Int) - 1)), .int (iZ ((p1 : Int)))]) (rest := []) (u_X1_plainMode lau s0 G ad F (va_up Ar 16 zZ) kp pl (ad 200) (ad 201) (ad 202) (F 200) (Ar 201) n l1 (r1 + 1) t v (va_up v p1 1000) (p1 : Int) (by first | exact hn | assumption | omega) (by first | exact hFt | assumption | omega) (by first | exact ht | assumption | omega) (by exact hAv) (by first | exact hrn | assumption | omega) (by first | exact hlr | assumption | omega) (by exact fun p9 h1 h2 => by rw [show p9 = p1 by omega, va_up_self]) (by exact fun p9 h1 h2 => by rw [va_up_ne _ _ (by omega)]; exact ⟨rfl, hv p9 h1⟩) (by first | assumption | omega)) (lw_V q1250 q1252 qs39 q89 q1253) ⟨rfl, by decide, by decide, by decide +kernel⟩ (q0 := 0) (ci := 1) rfl rfl rfl rfl (Nat.le_of_ble_eq_true rfl) ⟨Nat.le_of_ble_eq_true rfl, Nat.le_of_ble_eq_true rfl⟩ ⟨by first | decide | omega, by first | decide | omega⟩ dX1_ifOut_29) (fun r_29 hpost => ?_)
      have pm_29 : (r_29 = -2 ∧ ∀ q, l1 ≤ q → q < (r1 + 1) → 1000 ≤ (va_up v p1 1000) q) ∨ (r_29 = (md (va_up v p1 1000) l1 (r1 + 1) t : Int) ∧ ∃ q, l1 ≤ q ∧ q < (r1 + 1) ∧ (va_up v p1 1000) q < 1000) := hpost
      refine z_st (st' := [.int (iZ (r_29))]) rfl ?_
      have hone : l1 = r1 → ∀ q, l1 ≤ q → q < r1 + 1 → 1000 ≤ va_up v p1 1000 q := fun e q q1 q2 => by rw [show q = p1 by omega, va_up_self]; exact Nat.le_refl _
      have hex : ¬ l1 = r1 → ∃ q, l1 ≤ q ∧ q < r1 + 1 ∧ va_up v p1 1000 q < 1000 := fun e => by by_cases e2 : p1 = l1; (exact ⟨r1, by omega, by omega, by rw [va_up_ne _ _ (by omega)]; exact hv r1 (by omega)⟩); (exact ⟨l1, by omega, by omega, by rw [va_up_ne _ _ (by omega)]; exact hv l1 (by omega)⟩)
      have hr29 : (l1 = r1 ∧ r_29 = -2) ∨ (¬ l1 = r1 ∧ r_29 = (md (va_up v p1 1000) l1 (r1 + 1) t : Int)) := by rcases pm_29 with ⟨e1, h1⟩ | ⟨e1, q, q1, q2, q3⟩; (by_cases e : l1 = r1; (exact Or.inl ⟨e, e1⟩); (obtain ⟨q, q1, q2, q3⟩ := hex e; have := h1 q q1 q2; omega)); (by_cases e : l1 = r1; (have := hone e q q1 q2; omega); (exact Or.inr ⟨e, e1⟩))
      refine z_goto hC 32 36 dX1_ifOut_32 rfl ?_
      -- R36.1
      exact z_iret hC hH hQ 36 ((r_29, F, (va_up Ar 16 zZ))) dX1_ifOut_36 rfl ⟨by first | (unfold Sp_ifOut; rw [if_neg (by omega)]; done) | (unfold Sp_ifOut; rw [if_pos (by omega)]; simp only [Int.toNat_natCast, zt1]; rcases hr29 with ⟨e1, e2⟩ | ⟨e1, e2⟩; (rw [if_pos (by omega)]; exact e2); (rw [if_neg (by omega)]; exact e2)), by first | assumption | exact ⟨fun k h1 h2 h3 h4 h5 => by first | rfl | (simp [va_up, h1, h2, h3, h4, h5]; done) | (simp [va_up, h1, h2, h3, h4, h5]; intro e9; rw [e9, hFn]), fun k h1 h2 h3 h4 h5 h6 => by first | rfl | simp [va_up, h1, h2, h3, h4, h5, h6]⟩⟩ rfl (Nat.le_refl _) (Nat.le_refl _)
    · -- 15=0
      refine z_if_eq_t hC 18 35 dX1_ifOut_18 rfl (by omega) (by omega) ?_
      refine z_iconst hC 35 dX1_ifOut_35 ?_
      -- R36.2
      exact z_iret hC hH hQ 36 (((-1), F, (va_up Ar 16 zZ))) dX1_ifOut_36 rfl ⟨by first | (unfold Sp_ifOut; rw [if_neg (by omega)]; done) | (unfold Sp_ifOut; rw [if_pos (by omega)]; simp only [Int.toNat_natCast, zt1]; rcases hr29 with ⟨e1, e2⟩ | ⟨e1, e2⟩; (rw [if_pos (by omega)]; exact e2); (rw [if_neg (by omega)]; exact e2)), by first | assumption | exact ⟨fun k h1 h2 h3 h4 h5 => by first | rfl | (simp [va_up, h1, h2, h3, h4, h5]; done) | (simp [va_up, h1, h2, h3, h4, h5]; intro e9; rw [e9, hFn]), fun k h1 h2 h3 h4 h5 h6 => by first | rfl | simp [va_up, h1, h2, h3, h4, h5, h6]⟩⟩ rfl (Nat.le_refl _) (Nat.le_refl _)
  · -- 3=0
    refine z_if_eq_t hC 6 35 dX1_ifOut_6 rfl (by omega) (by omega) ?_
    refine z_iconst hC 35 dX1_ifOut_35 ?_
    -- R36.3
    exact z_iret hC hH hQ 36 (((-1), F, (va_up Ar 16 zZ))) dX1_ifOut_36 rfl ⟨by first | (unfold Sp_ifOut; rw [if_neg (by omega)]; done) | (unfold Sp_ifOut; rw [if_pos (by omega)]; simp only [Int.toNat_natCast, zt1]; rcases hr29 with ⟨e1, e2⟩ | ⟨e1, e2⟩; (rw [if_pos (by omega)]; exact e2); (rw [if_neg (by omega)]; exact e2)), by first | assumption | exact ⟨fun k h1 h2 h3 h4 h5 => by first | rfl | (simp [va_up, h1, h2, h3, h4, h5]; done) | (simp [va_up, h1, h2, h3, h4, h5]; intro e9; rw [e9, hFn]), fun k h1 h2 h3 h4 h5 h6 => by first | rfl | simp [va_up, h1, h2, h3, h4, h5, h6]⟩⟩ rfl (Nat.le_refl _) (Nat.le_refl _)

set_option maxHeartbeats 4000000 in
set_option maxRecDepth 100000 in
theorem m_X1_was (lau : Launch) (s0 : State) (G : zG) (sz : Nat) (ad : Nat → Nat) (F : Nat → Int) (Ar : Nat → Nat → Int) (kp : Nat → Nat) (pl : Nat → Option Nat) (PW : va_W) (n : Nat) (v : Nat → Nat) (pr : Nat → Nat) (pa : Nat → Nat) (pm : Nat → Nat) (pf : Nat → Nat → Nat) (nw : Nat) (b : Nat) (t : Nat) (un : Nat) (hm : Nat → Nat) (hvv : Nat → Nat → Nat) (hww : Nat → Nat → Nat) (k : Int) (p : Int) (hn : n ≤ 120) (hFn : F 200 = (n : Int)) (hv : ∀ i, i < n → v i < 1000) (hAv : ∀ i, i < n → Ar 201 i = (v i : Int)) (hb : 2 ≤ b ∧ b ≤ 20) (hFb : F 7 = (b : Int)) (ht : t < 4) (hFt : F 8 = (t : Int)) (hpl : ∀ y, y < 1000 → (pl y = some (pr y) ∨ (pl y = none ∧ pr y = nw))) (hnw : zNwh s0 nw) (hpc : ∀ y, y < 1000 → PlC n v y (pm y) (pf y)) (hpp : zPool s0 G PW pr pa pm pf) (hmo : ∀ i j, i ≤ j → b * j < n → Ar 12 (60 * i + j) = (md v (b * i) (bEnd b j n) t : Int)) (hr_k : -2147483648 ≤ k ∧ k < 2147483648) (hr_p : -2147483648 ≤ p ∧ p < 2147483648) (hun : un ≤ 12) (hF14 : F 14 = (un : Int)) (hkt : KPT kp) (hPD : PASTD un kp F Ar hm hvv hww) : zMet (S := Int × (Nat → Int) × (Nat → Nat → Int)) lau yX1_was cX1_was 4 (some .int) 1 25 0 0 s0 G sz [.ref (ad 99), .int (iZ (k)), .int (iZ (p))] (dW ad G F (va_up Ar 16 zZ) kp pl PW) (fun ((r_, F2, A2) : Int × (Nat → Int) × (Nat → Nat → Int)) => some (.int (iZ (r_)))) (fun ((r_, F2, A2) : Int × (Nat → Int) × (Nat → Nat → Int)) => (Sp_was n v un hm hvv k p r_) ∧ (DK F (va_up Ar 16 zZ) F2 A2)) (fun ((r_, F2, A2) : Int × (Nat → Int) × (Nat → Nat → Int)) => (dW ad G F2 A2 kp pl PW)) := by
  refine zMet.of (by decide) (Nat.le_of_ble_eq_true rfl) ?_
  intro pg ev s1 mi ar bl me cd ls Q as0 hC hH hl hQ hsz
  generalize s1.heap = H at hH ⊢
  generalize ([] : List Loc) = locs at hH ⊢
  have hl : lv_has ls 4 [(0, .ref (ad 99)), (1, .int (iZ (k))), (2, .int (iZ (p)))] := hl
  refine z_iload_n hC 0 hl dX1_was_0 rfl 1 rfl ?_
  refine z_i2l hC 1 dX1_was_1 (by omega) ?_
  refine z_lconst (a := 0) hC 2 dX1_was_2 rfl ?_
  refine z_aload_n hC 3 hl dX1_was_3 rfl 0 rfl ?_
  refine zp_get (v := .int (iZ ((un : Int)))) hC (va_P_l hH.1) 4 in_X1 rfl 14 (by decide) q224 0 rfl (by rw [← hF14]; rfl) dX1_was_4 ?_
  refine z_i2l hC 7 dX1_was_7 (by omega) ?_
  refine zp_back (zp_runS hC (hH.2.2) hl.1 (zp_nil) 3 (As := [.long (lZ (k)), .long (lZ (0)), .long (lZ ((un : Int)))]) (rest := []) (u_X1_isIn lau s0 G k 0 (un : Int) (by first | assumption | omega) (by first | assumption | omega) (by first | assumption | omega)) (lw_S q303 q304 q89 q305) ⟨by decide, by decide, by decide +kernel⟩ rfl rfl (Nat.le_of_ble_eq_true rfl) ⟨Nat.le_of_ble_eq_true rfl, Nat.le_of_ble_eq_true rfl⟩ ⟨by first | decide | omega, by first | decide | omega⟩ dX1_was_8) (fun r_8 hpost => ?_)
  have hb_8 : (r_8 = 1 ∧ ((0 : Int) ≤ k ∧ k ≤ (un : Int))) ∨ (r_8 = 0 ∧ ¬ ((0 : Int) ≤ k ∧ k ≤ (un : Int))) := hpost
  refine z_st (st' := [.int (iZ (r_8))]) rfl ?_
  rcases hb_8 with ⟨rfl, hb_8⟩ | ⟨rfl, hb_8⟩
  · -- 8=1
    refine z_if_eq_f hC 11 18 dX1_was_11 rfl (by omega) (by omega) ?_
    refine z_iload_n hC 14 hl dX1_was_14 rfl 2 rfl ?_
    refine z_if_ge hC 15 20 dX1_was_15 rfl (by omega) (fun hb1 => ?_) (fun hb1 => ?_)
    · -- 15t
      obtain ⟨k1, rfl⟩ := Int.eq_ofNat_of_zero_le (show 0 ≤ k by omega)
      obtain ⟨p1, rfl⟩ := Int.eq_ofNat_of_zero_le (show 0 ≤ p by omega)
      refine z_iload_n hC 20 hl dX1_was_20 rfl 1 rfl ?_
      refine z_if_ne hC 21 31 dX1_was_21 rfl (by omega) (fun hb2 => ?_) (fun hb2 => ?_)
      · -- 21t
        refine z_aload_n hC 31 hl dX1_was_31 rfl 0 rfl ?_
        refine zp_get (v := .ref (ad 13)) hC (va_P_l hH.1) 32 in_X1 rfl 13 (by decide) q223 0 rfl (rfl) dX1_was_32 ?_
        refine z_aload_n hC 35 hl dX1_was_35 rfl 0 rfl ?_
        refine zp_get (v := .int (iZ ((un : Int)))) hC (va_P_l hH.1) 36 in_X1 rfl 14 (by decide) q224 0 rfl (by rw [← hF14]; rfl) dX1_was_36 ?_
        refine z_iload_n hC 39 hl dX1_was_39 rfl 1 rfl ?_
        refine z_isub (e := (un : Int) - (k1 : Int)) hC 40 dX1_was_40 rfl ?_
        have hm9 := (hPD (un - k1) (by omega)).2.1
        refine zp_aldq (CN := RX2) (v := .ref (ad (kp (un - k1)))) hC (va_P_l hH.1) 41 3 4 (un - k1) rfl rfl (by decide) (by omega) (by omega) rfl dX1_was_41 ?_
        refine z_astore_n (lv' := [(3, .ref (ad (kp (un - k1)))), (0, .ref (ad 99)), (1, .int (iZ ((k1 : Int)))), (2, .int (iZ ((p1 : Int))))]) hC 42 hl dX1_was_42 rfl (by decide) rfl (fun ls hl => ?_)
        refine z_iload_n hC 43 hl dX1_was_43 rfl 3 rfl ?_
        refine z_aload_n hC 44 hl dX1_was_44 rfl 0 rfl ?_
        refine zp_getN (v := .int (iZ (((hm (un - k1) : Nat) : Int)))) hC (keptP (va_P_l hH.1) hkt (j := (un - k1)) (by omega)) 45 in_X2 rfl 2 (by decide) q149 0 rfl (by rw [← ((hPD (un - k1) (by omega)).1)]; rfl) dX1_was_45 ?_
        refine z_icmp_ge hC 48 60 dX1_was_48 rfl (by omega) (by omega) (fun hb3 => ?_) (fun hb3 => ?_)
        · -- 48t
          refine z_bipush hC 60 dX1_was_60 rfl ?_
          -- R62.1
          exact z_iret hC hH hQ 62 (((-2), F, (va_up Ar 16 zZ))) dX1_was_62 rfl ⟨by (unfold Sp_was; rw [if_pos (by omega)]; simp only [Int.toNat_natCast]; first | (rw [if_pos (by omega), if_pos (by omega)]; done) | (rw [if_pos (by omega), if_neg (by omega)]; done) | (rw [if_neg (by omega), if_pos (by omega)]; done) | (rw [if_neg (by omega), if_neg (by omega)]; done)), by first | assumption | exact ⟨fun k h1 h2 h3 h4 h5 => by first | rfl | (simp [va_up, h1, h2, h3, h4, h5]; done) | (simp [va_up, h1, h2, h3, h4, h5]; intro e9; rw [e9, hFn]), fun k h1 h2 h3 h4 h5 h6 => by first | rfl | simp [va_up, h1, h2, h3, h4, h5, h6]⟩⟩ rfl (Nat.le_refl _) (Nat.le_refl _)
        · -- 48f
          refine z_aload_n hC 51 hl dX1_was_51 rfl 0 rfl ?_
          refine zp_getN (v := .ref (ad (kp (un - k1) + 1))) hC (keptP (va_P_l hH.1) hkt (j := (un - k1)) (by omega)) 52 in_X2 rfl 0 (by decide) q141 0 rfl (rfl) dX1_was_52 ?_
          refine z_iload_n hC 55 hl dX1_was_55 rfl 3 rfl ?_
          refine zp_iald (len := 120) (f := ((va_up Ar 16 zZ) (kp (un - k1) + 1))) (x := ((hvv (un - k1) p1 : Nat) : Int)) hC (keptP (va_P_l hH.1) hkt (j := (un - k1)) (by omega)) 56 1 (p1) rfl (by decide) (by omega) (by omega) (by (repeat rw [va_up_ne _ _ (by have := kp_ge hkt (j := (un - k1)) (by omega); omega)]); exact ((hPD (un - k1) (by omega)).2.2 p1 (by omega)).1) dX1_was_56 ?_
          refine z_goto hC 57 62 dX1_was_57 rfl ?_
          -- R62.2
          exact z_iret hC hH hQ 62 ((((hvv (un - k1) p1 : Nat) : Int), F, (va_up Ar 16 zZ))) dX1_was_62 rfl ⟨by (unfold Sp_was; rw [if_pos (by omega)]; simp only [Int.toNat_natCast]; first | (rw [if_pos (by omega), if_pos (by omega)]; done) | (rw [if_pos (by omega), if_neg (by omega)]; done) | (rw [if_neg (by omega), if_pos (by omega)]; done) | (rw [if_neg (by omega), if_neg (by omega)]; done)), by first | assumption | exact ⟨fun k h1 h2 h3 h4 h5 => by first | rfl | (simp [va_up, h1, h2, h3, h4, h5]; done) | (simp [va_up, h1, h2, h3, h4, h5]; intro e9; rw [e9, hFn]), fun k h1 h2 h3 h4 h5 h6 => by first | rfl | simp [va_up, h1, h2, h3, h4, h5, h6]⟩⟩ rfl (Nat.le_refl _) (Nat.le_refl _)
      · -- 21f
        refine z_aload_n hC 24 hl dX1_was_24 rfl 0 rfl ?_
        refine zp_get (v := .ref (ad 200)) hC (va_P_l hH.1) 25 in_X1 rfl 4 (by decide) q210 0 rfl (rfl) dX1_was_25 ?_
        refine z_goto hC 28 42 dX1_was_28 rfl ?_
        refine z_astore_n (lv' := [(3, .ref (ad 200)), (0, .ref (ad 99)), (1, .int (iZ ((k1 : Int)))), (2, .int (iZ ((p1 : Int))))]) hC 42 hl dX1_was_42 rfl (by decide) rfl (fun ls hl => ?_)
        refine z_iload_n hC 43 hl dX1_was_43 rfl 3 rfl ?_
        refine z_aload_n hC 44 hl dX1_was_44 rfl 0 rfl ?_
        refine zp_getN (v := .int (iZ ((n : Int)))) hC (va_P_l hH.1) 45 in_X2 rfl 2 (by decide) q149 11 rfl (by rw [← hFn]; rfl) dX1_was_45 ?_
        refine z_icmp_ge hC 48 60 dX1_was_48 rfl (by omega) (by omega) (fun hb4 => ?_) (fun hb4 => ?_)
        · -- 48t
          refine z_bipush hC 60 dX1_was_60 rfl ?_
          -- R62.3
          exact z_iret hC hH hQ 62 (((-2), F, (va_up Ar 16 zZ))) dX1_was_62 rfl ⟨by (unfold Sp_was; rw [if_pos (by omega)]; simp only [Int.toNat_natCast]; first | (rw [if_pos (by omega), if_pos (by omega)]; done) | (rw [if_pos (by omega), if_neg (by omega)]; done) | (rw [if_neg (by omega), if_pos (by omega)]; done) | (rw [if_neg (by omega), if_neg (by omega)]; done)), by first | assumption | exact ⟨fun k h1 h2 h3 h4 h5 => by first | rfl | (simp [va_up, h1, h2, h3, h4, h5]; done) | (simp [va_up, h1, h2, h3, h4, h5]; intro e9; rw [e9, hFn]), fun k h1 h2 h3 h4 h5 h6 => by first | rfl | simp [va_up, h1, h2, h3, h4, h5, h6]⟩⟩ rfl (Nat.le_refl _) (Nat.le_refl _)
        · -- 48f
          refine z_aload_n hC 51 hl dX1_was_51 rfl 0 rfl ?_
          refine zp_getN (v := .ref (ad 201)) hC (va_P_l hH.1) 52 in_X2 rfl 0 (by decide) q141 11 rfl (rfl) dX1_was_52 ?_
          refine z_iload_n hC 55 hl dX1_was_55 rfl 3 rfl ?_
          refine zp_iald (f := (Ar 201)) (x := ((v (p1) : Nat) : Int)) hC (va_P_l hH.1) 56 12 (p1) rfl (by decide) (by omega) (by omega) (hAv (p1) (by omega)) dX1_was_56 ?_
          refine z_goto hC 57 62 dX1_was_57 rfl ?_
          -- R62.4
          exact z_iret hC hH hQ 62 ((((v (p1) : Nat) : Int), F, (va_up Ar 16 zZ))) dX1_was_62 rfl ⟨by (unfold Sp_was; rw [if_pos (by omega)]; simp only [Int.toNat_natCast]; first | (rw [if_pos (by omega), if_pos (by omega)]; done) | (rw [if_pos (by omega), if_neg (by omega)]; done) | (rw [if_neg (by omega), if_pos (by omega)]; done) | (rw [if_neg (by omega), if_neg (by omega)]; done)), by first | assumption | exact ⟨fun k h1 h2 h3 h4 h5 => by first | rfl | (simp [va_up, h1, h2, h3, h4, h5]; done) | (simp [va_up, h1, h2, h3, h4, h5]; intro e9; rw [e9, hFn]), fun k h1 h2 h3 h4 h5 h6 => by first | rfl | simp [va_up, h1, h2, h3, h4, h5, h6]⟩⟩ rfl (Nat.le_refl _) (Nat.le_refl _)
    · -- 15f
      refine z_iconst hC 18 dX1_was_18 ?_
      -- R19.5
      exact z_iret hC hH hQ 19 (((-1), F, (va_up Ar 16 zZ))) dX1_was_19 rfl ⟨by first | (unfold Sp_was; rw [if_neg (by omega)]) | (unfold Sp_was; rw [if_pos (by omega)]; (try simp only [Int.toNat_natCast, zt1]); first | done | trivial | rfl | omega | (rw [if_pos (by omega)]; first | done | trivial | rfl | omega) | (rw [if_neg (by omega)]; first | done | trivial | rfl | omega)), by first | assumption | exact ⟨fun k h1 h2 h3 h4 h5 => by first | rfl | (simp [va_up, h1, h2, h3, h4, h5]; done) | (simp [va_up, h1, h2, h3, h4, h5]; intro e9; rw [e9, hFn]), fun k h1 h2 h3 h4 h5 h6 => by first | rfl | simp [va_up, h1, h2, h3, h4, h5, h6]⟩⟩ rfl (Nat.le_refl _) (Nat.le_refl _)
  · -- 8=0
    refine z_if_eq_t hC 11 18 dX1_was_11 rfl (by omega) (by omega) ?_
    refine z_iconst hC 18 dX1_was_18 ?_
    -- R19.6
    exact z_iret hC hH hQ 19 (((-1), F, (va_up Ar 16 zZ))) dX1_was_19 rfl ⟨by first | (unfold Sp_was; rw [if_neg (by omega)]) | (unfold Sp_was; rw [if_pos (by omega)]; (try simp only [Int.toNat_natCast, zt1]); first | done | trivial | rfl | omega | (rw [if_pos (by omega)]; first | done | trivial | rfl | omega) | (rw [if_neg (by omega)]; first | done | trivial | rfl | omega)), by first | assumption | exact ⟨fun k h1 h2 h3 h4 h5 => by first | rfl | (simp [va_up, h1, h2, h3, h4, h5]; done) | (simp [va_up, h1, h2, h3, h4, h5]; intro e9; rw [e9, hFn]), fun k h1 h2 h3 h4 h5 h6 => by first | rfl | simp [va_up, h1, h2, h3, h4, h5, h6]⟩⟩ rfl (Nat.le_refl _) (Nat.le_refl _)

set_option maxHeartbeats 4000000 in
set_option maxRecDepth 100000 in
theorem m_X1_since (lau : Launch) (s0 : State) (G : zG) (sz : Nat) (ad : Nat → Nat) (F : Nat → Int) (Ar : Nat → Nat → Int) (kp : Nat → Nat) (pl : Nat → Option Nat) (PW : va_W) (n : Nat) (v : Nat → Nat) (pr : Nat → Nat) (pa : Nat → Nat) (pm : Nat → Nat) (pf : Nat → Nat → Nat) (nw : Nat) (b : Nat) (t : Nat) (un : Nat) (hm : Nat → Nat) (hvv : Nat → Nat → Nat) (hww : Nat → Nat → Nat) (p : Int) (hn : n ≤ 120) (hFn : F 200 = (n : Int)) (hv : ∀ i, i < n → v i < 1000) (hAv : ∀ i, i < n → Ar 201 i = (v i : Int)) (hb : 2 ≤ b ∧ b ≤ 20) (hFb : F 7 = (b : Int)) (ht : t < 4) (hFt : F 8 = (t : Int)) (hpl : ∀ y, y < 1000 → (pl y = some (pr y) ∨ (pl y = none ∧ pr y = nw))) (hnw : zNwh s0 nw) (hpc : ∀ y, y < 1000 → PlC n v y (pm y) (pf y)) (hpp : zPool s0 G PW pr pa pm pf) (hmo : ∀ i j, i ≤ j → b * j < n → Ar 12 (60 * i + j) = (md v (b * i) (bEnd b j n) t : Int)) (hr_p : -2147483648 ≤ p ∧ p < 2147483648) (hun : un ≤ 12) (hF14 : F 14 = (un : Int)) (hkt : KPT kp) (hPD : PASTD un kp F Ar hm hvv hww) : zMet (S := Int × (Nat → Int) × (Nat → Nat → Int)) lau yX1_since cX1_since 4 (some .int) 2 46 0 0 s0 G sz [.ref (ad 99), .int (iZ (p))] (dW ad G F (va_up Ar 16 zZ) kp pl PW) (fun ((r_, F2, A2) : Int × (Nat → Int) × (Nat → Nat → Int)) => some (.int (iZ (r_)))) (fun ((r_, F2, A2) : Int × (Nat → Int) × (Nat → Nat → Int)) => (Sp_since n v un hm hvv p r_) ∧ (DK F (va_up Ar 16 zZ) F2 A2)) (fun ((r_, F2, A2) : Int × (Nat → Int) × (Nat → Nat → Int)) => (dW ad G F2 A2 kp pl PW)) := by
  refine zMet.of (by decide) (Nat.le_of_ble_eq_true rfl) ?_
  intro pg ev s1 mi ar bl me cd ls Q as0 hC hH hl hQ hsz
  generalize s1.heap = H at hH ⊢
  generalize ([] : List Loc) = locs at hH ⊢
  have hl : lv_has ls 4 [(0, .ref (ad 99)), (1, .int (iZ (p)))] := hl
  refine z_aload_n hC 0 hl dX1_since_0 rfl 0 rfl ?_
  refine z_iload_n hC 1 hl dX1_since_1 rfl 1 rfl ?_
  refine zp_back (zp_runV hC (hH.2.2) hl.1 (va_P_l hH.1) 1 (As := [.int (iZ (p))]) (rest := []) (u_X1_isPlace lau s0 G ad F (va_up Ar 16 zZ) kp pl n p (by first | exact hn | assumption | omega) (by first | exact hFn | assumption | omega) (by first | assumption | omega)) (lw_V q799 q801 qs20 q89 q802) ⟨rfl, by decide, by decide, by decide +kernel⟩ (q0 := 0) (ci := 1) rfl rfl rfl rfl (Nat.le_of_ble_eq_true rfl) ⟨Nat.le_of_ble_eq_true rfl, Nat.le_of_ble_eq_true rfl⟩ ⟨by first | decide | omega, by first | decide | omega⟩ dX1_since_2) (fun r_2 hpost => ?_)
  have hb_2 : (r_2 = 1 ∧ (0 ≤ p ∧ p < (n : Int))) ∨ (r_2 = 0 ∧ ¬ (0 ≤ p ∧ p < (n : Int))) := hpost
  refine z_st (st' := [.int (iZ (r_2))]) rfl ?_
  rcases hb_2 with ⟨rfl, hb_2⟩ | ⟨rfl, hb_2⟩
  · -- 2=1
    refine z_if_ne_t hC 5 10 dX1_since_5 rfl (by omega) (by omega) ?_
    obtain ⟨p1, rfl⟩ := Int.eq_ofNat_of_zero_le (show 0 ≤ p by omega)
    refine z_iconst hC 10 dX1_since_10 ?_
    refine z_istore_n (lv' := [(2, .int (iZ (1))), (0, .ref (ad 99)), (1, .int (iZ ((p1 : Int))))]) hC 11 hl dX1_since_11 rfl (by decide) rfl (fun ls hl => ?_)
    have L12 : ∀ (N_ : Nat) (k : Nat) (H : Heap) (locs : List Loc) (ls : Array Slot), un + 1 - k < N_ → (1 ≤ k) → (k ≤ un + 1) → (∀ j, 1 ≤ j → j < k → ¬ snC v un hm hvv p1 j) → zH s0 s1 G as0 (dW ad G F (va_up Ar 16 zZ) kp pl PW) H locs → lv_has ls 4 [(0, .ref (ad 99)), (1, .int (iZ ((p1 : Int)))), (2, .int (iZ ((k : Int))))] → W pg lau ev (zRm 2 0 0 46) s1 mi ar bl me cd H locs 0 0 Q (F0 mi 12 ls []) := by
      intro N_
      induction N_ with
      | zero => intro k H locs ls hd; exact absurd hd (Nat.not_lt_zero _)
      | succ N_ ih12 =>
        intro k H locs ls hd12 i12_1 i12_2 ik hH hl
        refine z_iload_n hC 12 hl dX1_since_12 rfl 2 rfl ?_
        refine z_aload_n hC 13 hl dX1_since_13 rfl 0 rfl ?_
        refine zp_get (v := .int (iZ ((un : Int)))) hC (va_P_l hH.1) 14 in_X1 rfl 14 (by decide) q224 0 rfl (by rw [← hF14]; rfl) dX1_since_14 ?_
        refine z_icmp_gt hC 17 68 dX1_since_17 rfl (by omega) (by omega) (fun hb1 => ?_) (fun hb1 => ?_)
        · -- 17t
          refine z_bipush hC 68 dX1_since_68 rfl ?_
          -- R70.1
          exact z_iret hC hH hQ 70 (((-2), F, (va_up Ar 16 zZ))) dX1_since_70 rfl ⟨by (unfold Sp_since; rw [if_pos (by omega)]; simp only [Int.toNat_natCast]; exact Or.inr ⟨fun j q1 q2 => ik j q1 (by omega), by first | rfl | trivial⟩), by first | assumption | exact ⟨fun k h1 h2 h3 h4 h5 => by first | rfl | (simp [va_up, h1, h2, h3, h4, h5]; done) | (simp [va_up, h1, h2, h3, h4, h5]; intro e9; rw [e9, hFn]), fun k h1 h2 h3 h4 h5 h6 => by first | rfl | simp [va_up, h1, h2, h3, h4, h5, h6]⟩⟩ rfl (Nat.le_refl _) (Nat.le_refl _)
        · -- 17f
          refine z_aload_n hC 20 hl dX1_since_20 rfl 0 rfl ?_
          refine zp_get (v := .ref (ad 13)) hC (va_P_l hH.1) 21 in_X1 rfl 13 (by decide) q223 0 rfl (rfl) dX1_since_21 ?_
          refine z_aload_n hC 24 hl dX1_since_24 rfl 0 rfl ?_
          refine zp_get (v := .int (iZ ((un : Int)))) hC (va_P_l hH.1) 25 in_X1 rfl 14 (by decide) q224 0 rfl (by rw [← hF14]; rfl) dX1_since_25 ?_
          refine z_iload_n hC 28 hl dX1_since_28 rfl 2 rfl ?_
          refine z_isub (e := (un : Int) - (k : Int)) hC 29 dX1_since_29 rfl ?_
          refine zp_aldq (CN := RX2) (v := .ref (ad (kp (un - k)))) hC (va_P_l hH.1) 30 3 4 (un - k) rfl rfl (by decide) (by omega) (by omega) rfl dX1_since_30 ?_
          have hm9 := (hPD (un - k) (by omega)).2.1
          refine z_astore_n (lv' := [(3, .ref (ad (kp (un - k)))), (0, .ref (ad 99)), (1, .int (iZ ((p1 : Int)))), (2, .int (iZ ((k : Int))))]) hC 31 hl dX1_since_31 rfl (by decide) rfl (fun ls hl => ?_)
          refine z_iload_n hC 32 hl dX1_since_32 rfl 2 rfl ?_
          refine z_aload_n hC 33 hl dX1_since_33 rfl 0 rfl ?_
          refine zp_getN (v := .int (iZ (((hm (un - k) : Nat) : Int)))) hC (keptP (va_P_l hH.1) hkt (j := (un - k)) (by omega)) 34 in_X2 rfl 2 (by decide) q149 0 rfl (by rw [← ((hPD (un - k) (by omega)).1)]; rfl) dX1_since_34 ?_
          refine z_icmp_ge hC 37 58 dX1_since_37 rfl (by omega) (by omega) (fun hb2 => ?_) (fun hb2 => ?_)
          · -- 37t
            refine z_iload_n hC 58 hl dX1_since_58 rfl 3 rfl ?_
            refine z_iconst hC 59 dX1_since_59 ?_
            refine z_isub (e := (k : Int) - 1) hC 60 dX1_since_60 rfl ?_
            -- R61.2
            refine z_st (st' := [.int (iZ (((k : Int) - 1)))]) (zcons (zieq (by first | assumption | omega)) rfl) ?_
            exact z_iret hC hH hQ 61 (((k : Int) - 1, F, (va_up Ar 16 zZ))) dX1_since_61 rfl ⟨by (unfold Sp_since; rw [if_pos (by omega)]; simp only [Int.toNat_natCast]; refine Or.inl ⟨k, by omega, by omega, ?_, ik, by omega⟩; first | exact Or.inl (by omega) | exact Or.inr (by omega)), by first | assumption | exact ⟨fun k h1 h2 h3 h4 h5 => by first | rfl | (simp [va_up, h1, h2, h3, h4, h5]; done) | (simp [va_up, h1, h2, h3, h4, h5]; intro e9; rw [e9, hFn]), fun k h1 h2 h3 h4 h5 h6 => by first | rfl | simp [va_up, h1, h2, h3, h4, h5, h6]⟩⟩ rfl (Nat.le_refl _) (Nat.le_refl _)
          · -- 37f
            have hq9 := (hPD (un - k) (by omega)).2.2 p1 (by omega)
            have hvp := hv p1 (by omega)
            refine z_aload_n hC 40 hl dX1_since_40 rfl 0 rfl ?_
            refine zp_getN (v := .ref (ad (kp (un - k) + 1))) hC (keptP (va_P_l hH.1) hkt (j := (un - k)) (by omega)) 41 in_X2 rfl 0 (by decide) q141 0 rfl (rfl) dX1_since_41 ?_
            refine z_iload_n hC 44 hl dX1_since_44 rfl 2 rfl ?_
            refine zp_iald (len := 120) (f := ((va_up Ar 16 zZ) (kp (un - k) + 1))) (x := ((hvv (un - k) p1 : Nat) : Int)) hC (keptP (va_P_l hH.1) hkt (j := (un - k)) (by omega)) 45 1 (p1) rfl (by decide) (by omega) (by omega) (by (repeat rw [va_up_ne _ _ (by have := kp_ge hkt (j := (un - k)) (by omega); omega)]); exact ((hPD (un - k) (by omega)).2.2 p1 (by omega)).1) dX1_since_45 ?_
            refine z_aload_n hC 46 hl dX1_since_46 rfl 1 rfl ?_
            refine zp_get (v := .ref (ad 200)) hC (va_P_l hH.1) 47 in_X1 rfl 4 (by decide) q210 0 rfl (rfl) dX1_since_47 ?_
            refine zp_getN (v := .ref (ad 201)) hC (va_P_l hH.1) 50 in_X2 rfl 0 (by decide) q141 11 rfl (rfl) dX1_since_50 ?_
            refine z_iload_n hC 53 hl dX1_since_53 rfl 2 rfl ?_
            refine zp_iald (f := (Ar 201)) (x := ((v (p1) : Nat) : Int)) hC (va_P_l hH.1) 54 12 (p1) rfl (by decide) (by omega) (by omega) (hAv (p1) (by omega)) dX1_since_54 ?_
            refine z_icmp_eq hC 55 62 dX1_since_55 rfl (by omega) (by omega) (fun hb3 => ?_) (fun hb3 => ?_)
            · -- 55t
              refine z_iinc (lv' := [(2, .int (iZ ((k : Int) + 1))), (3, .ref (ad (kp (un - k)))), (0, .ref (ad 99)), (1, .int (iZ ((p1 : Int))))]) hC 62 hl dX1_since_62 3 rfl (by omega) (by decide) rfl (fun ls hl => ?_)
              refine z_goto hC 65 12 dX1_since_65 rfl ?_
              -- J12.3
              exact ih12 (k + 1) _ _ _ (by omega) (by first | assumption | omega) (by first | assumption | omega) (by first | (intro j q1 q2; omega) | (intro j q1 q2; by_cases e : j = k; (subst e; exact fun q => by rcases q with q | q <;> omega); exact ik j q1 (by omega))) hH (z_lv (lv_sub hl [2, 3, 0] rfl) (zcons rfl (zcons rfl (zcons (zpeq (by omega)) rfl))))
            · -- 55f
              refine z_iload_n hC 58 hl dX1_since_58 rfl 3 rfl ?_
              refine z_iconst hC 59 dX1_since_59 ?_
              refine z_isub (e := (k : Int) - 1) hC 60 dX1_since_60 rfl ?_
              -- R61.4
              refine z_st (st' := [.int (iZ (((k : Int) - 1)))]) (zcons (zieq (by first | assumption | omega)) rfl) ?_
              exact z_iret hC hH hQ 61 (((k : Int) - 1, F, (va_up Ar 16 zZ))) dX1_since_61 rfl ⟨by (unfold Sp_since; rw [if_pos (by omega)]; simp only [Int.toNat_natCast]; refine Or.inl ⟨k, by omega, by omega, ?_, ik, by omega⟩; first | exact Or.inl (by omega) | exact Or.inr (by omega)), by first | assumption | exact ⟨fun k h1 h2 h3 h4 h5 => by first | rfl | (simp [va_up, h1, h2, h3, h4, h5]; done) | (simp [va_up, h1, h2, h3, h4, h5]; intro e9; rw [e9, hFn]), fun k h1 h2 h3 h4 h5 h6 => by first | rfl | simp [va_up, h1, h2, h3, h4, h5, h6]⟩⟩ rfl (Nat.le_refl _) (Nat.le_refl _)
    -- J12.5
    exact L12 _ 1 _ _ _ (Nat.lt_succ_self _) (by first | assumption | omega) (by first | assumption | omega) (by first | (intro j q1 q2; omega) | (intro j q1 q2; by_cases e : j = k; (subst e; exact fun q => by rcases q with q | q <;> omega); exact ik j q1 (by omega))) hH (z_lv (lv_sub hl [1, 2, 0] rfl) (zcons rfl (zcons rfl (zcons (zpeq (by omega)) rfl))))
  · -- 2=0
    refine z_if_ne_f hC 5 10 dX1_since_5 rfl (by omega) (by omega) ?_
    refine z_iconst hC 8 dX1_since_8 ?_
    -- R9.6
    exact z_iret hC hH hQ 9 (((-1), F, (va_up Ar 16 zZ))) dX1_since_9 rfl ⟨by first | (unfold Sp_since; rw [if_neg (by omega)]) | (unfold Sp_since; rw [if_pos (by omega)]; (try simp only [Int.toNat_natCast, zt1]); first | done | trivial | rfl | omega | (rw [if_pos (by omega)]; first | done | trivial | rfl | omega) | (rw [if_neg (by omega)]; first | done | trivial | rfl | omega)), by first | assumption | exact ⟨fun k h1 h2 h3 h4 h5 => by first | rfl | (simp [va_up, h1, h2, h3, h4, h5]; done) | (simp [va_up, h1, h2, h3, h4, h5]; intro e9; rw [e9, hFn]), fun k h1 h2 h3 h4 h5 h6 => by first | rfl | simp [va_up, h1, h2, h3, h4, h5, h6]⟩⟩ rfl (Nat.le_refl _) (Nat.le_refl _)

set_option maxHeartbeats 8000000 in
set_option maxRecDepth 100000 in
theorem m_X1_feed (lau : Launch) (s0 : State) (G : zG) (sz : Nat) (ad : Nat → Nat) (F : Nat → Int) (Ar : Nat → Nat → Int) (kp : Nat → Nat) (pl : Nat → Option Nat) (PW : va_W) (t : Nat → Nat) (tp : Nat) (a0 : Nat → Int) (wa : Int) (wb : Int) (wc : Int) (wd : Int) (we : Int) (hr_wa : -2147483648 ≤ wa ∧ wa < 2147483648) (hr_wb : -2147483648 ≤ wb ∧ wb < 2147483648) (hr_wc : -2147483648 ≤ wc ∧ wc < 2147483648) (hr_wd : -2147483648 ≤ wd ∧ wd < 2147483648) (hr_we : -2147483648 ≤ we ∧ we < 2147483648) (htp : tp ≤ 900) (ha0 : ∀ i, i < tp → a0 i = sb (t i)) (ht0 : ∀ i, i < tp → t i < 256) : zMet (S := Int × Nat × (Nat → Nat) × (Nat → Int)) lau yX1_feed cX1_feed 8 (some .int) 0 0 0 0 s0 G sz [.ref (ad 99), .int (iZ (wa)), .int (iZ (wb)), .int (iZ (wc)), .int (iZ (wd)), .int (iZ (we))] (dW ad G (va_up F 1 ((tp : Int))) (va_up Ar 0 a0) kp pl PW) (fun ((r_, tp2, t2, a2) : Int × Nat × (Nat → Nat) × (Nat → Int)) => some (.int (iZ (r_)))) (fun ((r_, tp2, t2, a2) : Int × Nat × (Nat → Nat) × (Nat → Int)) => (Sp_feed t tp wa wb wc wd we r_ tp2 t2) ∧ (∀ i, i < tp2 → a2 i = sb (t2 i)) ∧ (∀ i, i < tp2 → t2 i < 256) ∧ (tp2 ≤ 900)) (fun ((r_, tp2, t2, a2) : Int × Nat × (Nat → Nat) × (Nat → Int)) => (dW ad G (va_up F 1 ((tp2 : Int))) (va_up Ar 0 a2) kp pl PW)) := by
  refine zMet.of (by decide) (Nat.le_of_ble_eq_true rfl) ?_
  intro pg ev s1 mi ar bl me cd ls Q as0 hC hH hl hQ hsz
  generalize s1.heap = H at hH ⊢
  generalize ([] : List Loc) = locs at hH ⊢
  have hl : lv_has ls 8 [(0, .ref (ad 99)), (1, .int (iZ (wa))), (2, .int (iZ (wb))), (3, .int (iZ (wc))), (4, .int (iZ (wd))), (5, .int (iZ (we)))] := hl
  refine z_aload_n hC 0 hl dX1_feed_0 rfl 0 rfl ?_
  refine zp_get (v := .int (iZ ((tp : Int)))) hC (va_P_l hH.1) 1 in_X1 rfl 1 (by decide) q207 0 rfl (rfl) dX1_feed_1 ?_
  refine z_bipush hC 4 dX1_feed_4 rfl ?_
  refine z_iadd (e := (tp : Int) + 20) hC 6 dX1_feed_6 rfl ?_
  refine z_sipush hC 7 dX1_feed_7 rfl ?_
  refine z_icmp_le hC 10 15 dX1_feed_10 rfl (by omega) (by omega) (fun hb1 => ?_) (fun hb1 => ?_)
  · -- 10t
    refine z_iconst hC 15 dX1_feed_15 ?_
    refine z_istore (lv' := [(6, .int (iZ (0))), (0, .ref (ad 99)), (1, .int (iZ (wa))), (2, .int (iZ (wb))), (3, .int (iZ (wc))), (4, .int (iZ (wd))), (5, .int (iZ (we)))]) hC 16 hl dX1_feed_16 (by decide) rfl (fun ls hl => ?_)
    have L18 : ∀ (N_ : Nat) (k : Nat) (a : Nat → Int) (H : Heap) (locs : List Loc) (ls : Array Slot), 20 - k < N_ → (k ≤ 20) → (∀ i, i < tp + k → a i = sb (fedF t tp wa wb wc wd we k i)) → zH s0 s1 G as0 (dW ad G (va_up F 1 ((tp : Int))) (va_up Ar 0 a) kp pl PW) H locs → lv_has ls 8 [(0, .ref (ad 99)), (1, .int (iZ (wa))), (2, .int (iZ (wb))), (3, .int (iZ (wc))), (4, .int (iZ (wd))), (5, .int (iZ (we))), (6, .int (iZ ((k : Int))))] → W pg lau ev (zRm 0 0 0 0) s1 mi ar bl me cd H locs 0 0 Q (F0 mi 18 ls []) := by
      intro N_
      induction N_ with
      | zero => intro k a H locs ls hd; exact absurd hd (Nat.not_lt_zero _)
      | succ N_ ih18 =>
        intro k a H locs ls hd18 i18_1 ia hH hl
        refine z_iload hC 18 hl dX1_feed_18 6 rfl ?_
        refine z_bipush hC 20 dX1_feed_20 rfl ?_
        refine z_icmp_ge hC 22 105 dX1_feed_22 rfl (by omega) (by omega) (fun hb2 => ?_) (fun hb2 => ?_)
        · -- 22t
          have ek : k = 20 := by omega
          rw [ek] at ia
          refine z_aload_n hC 105 hl dX1_feed_105 rfl 0 rfl ?_
          refine z_dup hC 106 dX1_feed_106 rfl ?_
          refine zp_get (v := .int (iZ ((tp : Int)))) hC (va_P_l hH.1) 107 in_X1 rfl 1 (by decide) q207 0 rfl (rfl) dX1_feed_107 ?_
          refine z_bipush hC 110 dX1_feed_110 rfl ?_
          refine z_iadd (e := (tp : Int) + 20) hC 112 dX1_feed_112 rfl ?_
          refine pD_1 hC hH 113 dX1_feed_113 (fun H locs hH => ?_)
          have hH : zH s0 s1 G as0 (dW ad G (va_up F 1 ((tp : Int) + 20)) (va_up Ar 0 a) kp pl PW) H locs := hH
          refine z_aload_n hC 116 hl dX1_feed_116 rfl 0 rfl ?_
          refine zp_get (v := .int (iZ ((tp : Int) + 20))) hC (va_P_l hH.1) 117 in_X1 rfl 1 (by decide) q207 0 rfl (rfl) dX1_feed_117 ?_
          -- R120.1
          rw [show ((tp : Int) + 20 : Int) = ((tp + 20 : Nat) : Int) from by omega] at hH
          have hH : zH s0 s1 G as0 (dW ad G (va_up F 1 (((tp + 20 : Nat) : Int))) (va_up Ar 0 a) kp pl PW) H locs := hH
          refine z_st (st' := [.int (iZ (((tp : Int) + 20)))]) (zcons (zieq (by first | assumption | omega)) rfl) ?_
          exact z_iret hC hH hQ 120 (((tp : Int) + 20, (tp + 20), (fedF t tp wa wb wc wd we 20), a)) dX1_feed_120 rfl ⟨by (unfold Sp_feed; rw [if_neg (by omega)]; exact ⟨by omega, rfl, rfl⟩), by exact ia, by exact fed_lt ht0, by first | assumption | omega⟩ rfl (Nat.le_refl _) (Nat.le_refl _)
        · -- 22f
          have L71 : ∀ (x : Int) (H : Heap) (locs : List Loc) (ls : Array Slot), (x = wd5 wa wb wc wd we k) → zH s0 s1 G as0 (dW ad G (va_up F 1 ((tp : Int))) (va_up Ar 0 a) kp pl PW) H locs → lv_has ls 8 [(0, .ref (ad 99)), (1, .int (iZ (wa))), (2, .int (iZ (wb))), (3, .int (iZ (wc))), (4, .int (iZ (wd))), (5, .int (iZ (we))), (6, .int (iZ ((k : Int))))] → W pg lau ev (zRm 0 0 0 0) s1 mi ar bl me cd H locs 0 0 Q (F0 mi 71 ls [.int (iZ (x))]) := by
            intro x H locs ls ix hH hl
            have hxr := wd5_rng (k := k) hr_wa hr_wb hr_wc hr_wd hr_we
            rw [← ix] at hxr
            refine z_istore (lv' := [(7, .int (iZ (x))), (0, .ref (ad 99)), (1, .int (iZ (wa))), (2, .int (iZ (wb))), (3, .int (iZ (wc))), (4, .int (iZ (wd))), (5, .int (iZ (we))), (6, .int (iZ ((k : Int))))]) hC 71 hl dX1_feed_71 (by decide) rfl (fun ls hl => ?_)
            refine z_aload_n hC 73 hl dX1_feed_73 rfl 1 rfl ?_
            refine zp_get (v := .ref (ad 0)) hC (va_P_l hH.1) 74 in_X1 rfl 0 (by decide) q205 0 rfl (rfl) dX1_feed_74 ?_
            refine z_aload_n hC 77 hl dX1_feed_77 rfl 1 rfl ?_
            refine zp_get (v := .int (iZ ((tp : Int)))) hC (va_P_l hH.1) 78 in_X1 rfl 1 (by decide) q207 0 rfl (rfl) dX1_feed_78 ?_
            refine z_iload hC 81 hl dX1_feed_81 7 rfl ?_
            refine z_iadd (e := (tp : Int) + (k : Int)) hC 83 dX1_feed_83 rfl ?_
            refine z_iload hC 84 hl dX1_feed_84 0 rfl ?_
            refine z_bipush hC 86 dX1_feed_86 rfl ?_
            refine z_bipush hC 88 dX1_feed_88 rfl ?_
            refine z_iload hC 90 hl dX1_feed_90 7 rfl ?_
            refine z_iconst hC 92 dX1_feed_92 ?_
            refine z_irem hC 93 (k) (4) dX1_feed_93 (by omega) (by omega) (by omega) (by omega) ((k % 4)) rfl ?_
            refine z_imul (e := 8 * ((k % 4 : Nat) : Int)) hC 94 dX1_feed_94 rfl ?_
            refine z_isub (e := -(8 * ((k % 4 : Nat) : Int)) + 24) hC 95 dX1_feed_95 (by omega) ?_
            refine z_ishr (e := (zshr (x) (-(8 * ((k % 4 : Nat) : Int)) + 24))) hC 96 dX1_feed_96 rfl ?_
            refine z_i2b (e := (sb (bytN x (k % 4)))) hC 97 dX1_feed_97 (by exact i2b_byt hxr (by omega) (by omega)) ?_
            refine sD_0 (f' := (va_up a (tp + k) ((sb (bytN x (k % 4)))))) hC hH 98 (tp + k) (by omega) (by omega) rfl (by exact sb_by (bytN_lt _ _)) dX1_feed_98 (fun H locs hH => ?_)
            have hH : zH s0 s1 G as0 (dW ad G (va_up F 1 ((tp : Int))) (va_up Ar 0 (va_up a (tp + k) ((sb (bytN x (k % 4)))))) kp pl PW) H locs := hH
            refine z_iinc (lv' := [(6, .int (iZ ((k : Int) + 1))), (7, .int (iZ (x))), (0, .ref (ad 99)), (1, .int (iZ (wa))), (2, .int (iZ (wb))), (3, .int (iZ (wc))), (4, .int (iZ (wd))), (5, .int (iZ (we)))]) hC 99 hl dX1_feed_99 7 rfl (by omega) (by decide) rfl (fun ls hl => ?_)
            refine z_goto hC 102 18 dX1_feed_102 rfl ?_
            -- J18.2
            exact ih18 (k + 1) (va_up a (tp + k) ((sb (bytN x (k % 4))))) _ _ _ (by omega) (by first | assumption | omega) (by first | (rw [fedF_0]; exact ha0) | (rw [ix]; exact fed_s ia)) hH (z_lv (lv_sub hl [2, 3, 4, 5, 6, 7, 0] rfl) (zcons rfl (zcons rfl (zcons rfl (zcons rfl (zcons rfl (zcons rfl (zcons (zpeq (by omega)) rfl))))))))
          refine z_iload hC 25 hl dX1_feed_25 6 rfl ?_
          refine z_iconst hC 27 dX1_feed_27 ?_
          refine z_icmp_ge hC 28 35 dX1_feed_28 rfl (by omega) (by omega) (fun hb3 => ?_) (fun hb3 => ?_)
          · -- 28t
            refine z_iload hC 35 hl dX1_feed_35 6 rfl ?_
            refine z_bipush hC 37 dX1_feed_37 rfl ?_
            refine z_icmp_ge hC 39 46 dX1_feed_39 rfl (by omega) (by omega) (fun hb4 => ?_) (fun hb4 => ?_)
            · -- 39t
              refine z_iload hC 46 hl dX1_feed_46 6 rfl ?_
              refine z_bipush hC 48 dX1_feed_48 rfl ?_
              refine z_icmp_ge hC 50 57 dX1_feed_50 rfl (by omega) (by omega) (fun hb5 => ?_) (fun hb5 => ?_)
              · -- 50t
                refine z_iload hC 57 hl dX1_feed_57 6 rfl ?_
                refine z_bipush hC 59 dX1_feed_59 rfl ?_
                refine z_icmp_ge hC 61 69 dX1_feed_61 rfl (by omega) (by omega) (fun hb6 => ?_) (fun hb6 => ?_)
                · -- 61t
                  refine z_iload hC 69 hl dX1_feed_69 5 rfl ?_
                  -- J71.3
                  exact L71 we _ _ _ (by (unfold wd5; repeat' split) <;> first | rfl | omega) hH (lv_sub hl [0, 1, 2, 3, 4, 5, 6] rfl)
                · -- 61f
                  refine z_iload hC 64 hl dX1_feed_64 4 rfl ?_
                  refine z_goto hC 66 71 dX1_feed_66 rfl ?_
                  -- J71.4
                  exact L71 wd _ _ _ (by (unfold wd5; repeat' split) <;> first | rfl | omega) hH (lv_sub hl [0, 1, 2, 3, 4, 5, 6] rfl)
              · -- 50f
                refine z_iload_n hC 53 hl dX1_feed_53 rfl 3 rfl ?_
                refine z_goto hC 54 71 dX1_feed_54 rfl ?_
                -- J71.5
                exact L71 wc _ _ _ (by (unfold wd5; repeat' split) <;> first | rfl | omega) hH (lv_sub hl [0, 1, 2, 3, 4, 5, 6] rfl)
            · -- 39f
              refine z_iload_n hC 42 hl dX1_feed_42 rfl 2 rfl ?_
              refine z_goto hC 43 71 dX1_feed_43 rfl ?_
              -- J71.6
              exact L71 wb _ _ _ (by (unfold wd5; repeat' split) <;> first | rfl | omega) hH (lv_sub hl [0, 1, 2, 3, 4, 5, 6] rfl)
          · -- 28f
            refine z_iload_n hC 31 hl dX1_feed_31 rfl 1 rfl ?_
            refine z_goto hC 32 71 dX1_feed_32 rfl ?_
            -- J71.7
            exact L71 wa _ _ _ (by (unfold wd5; repeat' split) <;> first | rfl | omega) hH (lv_sub hl [0, 1, 2, 3, 4, 5, 6] rfl)
    -- J18.8
    exact L18 _ 0 a0 _ _ _ (Nat.lt_succ_self _) (by first | assumption | omega) (by first | (rw [fedF_0]; exact ha0) | (rw [ix]; exact fed_s ia)) hH (z_lv (lv_sub hl [1, 2, 3, 4, 5, 6, 0] rfl) (zcons rfl (zcons rfl (zcons rfl (zcons rfl (zcons rfl (zcons rfl (zcons (zpeq (by omega)) rfl))))))))
  · -- 10f
    refine z_iconst hC 13 dX1_feed_13 ?_
    -- R14.9
    exact z_iret hC hH hQ 14 (((-1), tp, t, a0)) dX1_feed_14 rfl ⟨by (unfold Sp_feed; rw [if_pos (by omega)]; exact ⟨rfl, rfl, rfl⟩), by exact ha0, by exact ht0, by first | assumption | omega⟩ rfl (Nat.le_refl _) (Nat.le_refl _)
