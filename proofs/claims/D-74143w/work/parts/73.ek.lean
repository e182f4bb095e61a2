/-! methods of ModeDesk that write: 73.ek -/
set_option maxHeartbeats 4000000 in
set_option maxRecDepth 100000 in
theorem m_X1_begins (lau : Launch) (s0 : State) (G : zG) (sz : Nat) (ad : Nat → Nat) (F : Nat → Int) (Ar : Nat → Nat → Int) (kp : Nat → Nat) (pl : Nat → Option Nat) (PW : va_W) (m : Int) (a : Nat → Int) (b_ : Nat → Int)  : zMet (S := Unit) lau yX1_begins cX1_begins 1 (none) 2 41 0 0 s0 G sz [.ref (ad 99)] (dW ad G (va_up F 200 (m)) (va_up (va_up Ar 201 a) 202 b_) kp pl PW) (fun (_ : Unit) => (none : Option Value)) (fun (_ : Unit) => True) (fun (_ : Unit) => (dW ad G (va_up (va_up F 200 (m)) 203 (m)) (va_up (va_up (va_up (va_up Ar 201 a) 202 b_) 204 a) 205 b_) kp pl PW)) := by
  refine zMet.of (by decide) (Nat.le_of_ble_eq_true rfl) ?_
  intro pg ev s1 mi ar bl me cd ls Q as0 hC hH hl hQ hsz
  generalize s1.heap = H at hH ⊢
  generalize ([] : List Loc) = locs at hH ⊢
  have hl : lv_has ls 1 [(0, .ref (ad 99))] := hl
  refine z_aload_n hC 0 hl dX1_begins_0 rfl 0 rfl ?_
  refine zp_get (v := .ref (ad 203)) hC (va_P_l hH.1) 1 in_X1 rfl 5 (by decide) q214 0 rfl (rfl) dX1_begins_1 ?_
  refine z_aload_n hC 4 hl dX1_begins_4 rfl 0 rfl ?_
  refine zp_get (v := .ref (ad 200)) hC (va_P_l hH.1) 5 in_X1 rfl 4 (by decide) q210 0 rfl (rfl) dX1_begins_5 ?_
  refine z_sub (z_runV (wc := (rw3 G (ad 203) (ad 204) (ad 205) ((F 203)) (Ar 204) (Ar 205) ++ rw3 G (ad 200) (ad 201) (ad 202) (m) a b_)) hC hH.2.2 hl.1 (z_subP hH.1 [14, 15, 16, 11, 12, 13] rfl) (z_subD hH.2.1 [14, 15, 16, 11, 12, 13] (by decide) rfl) 1 (As := [.ref (ad 200)]) (rest := []) (m_X2_like lau s0 G _ (ad 203) (ad 204) (ad 205) ((F 203)) (Ar 204) (Ar 205) (ad 200) (ad 201) (ad 202) (m) a b_) (lw_V q690 q691 q692 q90 q693) ⟨rfl, by decide, by decide, by decide +kernel⟩ (q0 := 0) (ci := 2) rfl rfl rfl rfl (Nat.le_of_ble_eq_true rfl) ⟨Nat.le_of_ble_eq_true rfl, Nat.le_of_ble_eq_true rfl⟩ ⟨by first | decide | omega, by first | decide | omega⟩ dX1_begins_8) hH [14, 15, 16, 11, 12, 13] rfl (by decide) (fun _ => rfl) (fun _ H locs hpost hH => ?_)
  have hH : zH s0 s1 G as0 (dW ad G (va_up (va_up F 200 (m)) 203 (m)) (va_up (va_up (va_up (va_up Ar 201 a) 202 b_) 204 a) 205 b_) kp pl PW) H locs := hH
  refine z_st (st' := [.ref (ad 203)]) rfl ?_
  refine z_pop hC 11 dX1_begins_11 rfl ?_
  -- R12.1
  exact z_vret hC hH hQ 12 (()) dX1_begins_12 rfl trivial rfl (Nat.le_refl _) (Nat.le_refl _)

set_option maxHeartbeats 4000000 in
set_option maxRecDepth 100000 in
theorem m_X1_ifSet (lau : Launch) (s0 : State) (G : zG) (sz : Nat) (ad : Nat → Nat) (F : Nat → Int) (Ar : Nat → Nat → Int) (kp : Nat → Nat) (pl : Nat → Option Nat) (PW : va_W) (n : Nat) (v : Nat → Nat) (pr : Nat → Nat) (pa : Nat → Nat) (pm : Nat → Nat) (pf : Nat → Nat → Nat) (nw : Nat) (b : Nat) (t : Nat) (p : Int) (x : Int) (l : Int) (r : Int) (hn : n ≤ 120) (hFn : F 200 = (n : Int)) (hv : ∀ i, i < n → v i < 1000) (hAv : ∀ i, i < n → Ar 201 i = (v i : Int)) (hb : 2 ≤ b ∧ b ≤ 20) (hFb : F 7 = (b : Int)) (ht : t < 4) (hFt : F 8 = (t : Int)) (hpl : ∀ y, y < 1000 → (pl y = some (pr y) ∨ (pl y = none ∧ pr y = nw))) (hnw : zNwh s0 nw) (hpc : ∀ y, y < 1000 → PlC n v y (pm y) (pf y)) (hpp : zPool s0 G PW pr pa pm pf) (hmo : ∀ i j, i ≤ j → b * j < n → Ar 12 (60 * i + j) = (md v (b * i) (bEnd b j n) t : Int)) (hr_p : -2147483648 ≤ p ∧ p < 2147483648) (hr_x : -2147483648 ≤ x ∧ x < 2147483648) (hr_l : -2147483648 ≤ l ∧ l < 2147483648) (hr_r : -2147483648 ≤ r ∧ r < 2147483648) : zMet (S := Int × (Nat → Int) × (Nat → Nat → Int)) lau yX1_ifSet cX1_ifSet 5 (some .int) 2 54 0 0 s0 G sz [.ref (ad 99), .int (iZ (p)), .int (iZ (x)), .int (iZ (l)), .int (iZ (r))] (dW ad G F (va_up Ar 16 zZ) kp pl PW) (fun ((r_, F2, A2) : Int × (Nat → Int) × (Nat → Nat → Int)) => some (.int (iZ (r_)))) (fun ((r_, F2, A2) : Int × (Nat → Int) × (Nat → Nat → Int)) => (Sp_ifSet n v t p x l r r_) ∧ (DK F (va_up Ar 16 zZ) F2 A2)) (fun ((r_, F2, A2) : Int × (Nat → Int) × (Nat → Nat → Int)) => (dW ad G F2 A2 kp pl PW)) := by
  refine zMet.of (by decide) (Nat.le_of_ble_eq_true rfl) ?_
  intro pg ev s1 mi ar bl me cd ls Q as0 hC hH hl hQ hsz
  generalize s1.heap = H at hH ⊢
  generalize ([] : List Loc) = locs at hH ⊢
  have hl : lv_has ls 5 [(0, .ref (ad 99)), (1, .int (iZ (p))), (2, .int (iZ (x))), (3, .int (iZ (l))), (4, .int (iZ (r)))] := hl
  refine z_aload_n hC 0 hl dX1_ifSet_0 rfl 0 rfl ?_
  refine z_iload_n hC 1 hl dX1_ifSet_1 rfl 1 rfl ?_
  refine zp_back (zp_runV hC (hH.2.2) hl.1 (va_P_l hH.1) 1 (As := [.int (iZ (p))]) (rest := []) (u_X1_isPlace lau s0 G ad F (va_up Ar 16 zZ) kp pl n p (by first | exact hn | assumption | omega) (by first | exact hFn | assumption | omega) (by first | assumption | omega)) (lw_V q799 q801 qs20 q89 q802) ⟨rfl, by decide, by decide, by decide +kernel⟩ (q0 := 0) (ci := 1) rfl rfl rfl rfl (Nat.le_of_ble_eq_true rfl) ⟨Nat.le_of_ble_eq_true rfl, Nat.le_of_ble_eq_true rfl⟩ ⟨by first | decide | omega, by first | decide | omega⟩ dX1_ifSet_2) (fun r_2 hpost => ?_)
  have hb_2 : (r_2 = 1 ∧ (0 ≤ p ∧ p < (n : Int))) ∨ (r_2 = 0 ∧ ¬ (0 ≤ p ∧ p < (n : Int))) := hpost
  refine z_st (st' := [.int (iZ (r_2))]) rfl ?_
  rcases hb_2 with ⟨rfl, hb_2⟩ | ⟨rfl, hb_2⟩
  · -- 2=1
    refine z_if_eq_f hC 5 25 dX1_ifSet_5 rfl (by omega) (by omega) ?_
    refine z_iload_n hC 8 hl dX1_ifSet_8 rfl 2 rfl ?_
    refine zp_back (zp_runS hC (hH.2.2) hl.1 (zp_nil) 1 (As := [.int (iZ (x))]) (rest := []) (u_X1_isValue lau s0 G x (by first | assumption | omega)) (lw_S q803 q804 q89 q805) ⟨by decide, by decide, by decide +kernel⟩ rfl rfl (Nat.le_of_ble_eq_true rfl) ⟨Nat.le_of_ble_eq_true rfl, Nat.le_of_ble_eq_true rfl⟩ ⟨by first | decide | omega, by first | decide | omega⟩ dX1_ifSet_9) (fun r_9 hpost => ?_)
    have hb_9 : (r_9 = 1 ∧ (0 ≤ x ∧ x < 1000)) ∨ (r_9 = 0 ∧ ¬ (0 ≤ x ∧ x < 1000)) := hpost
    refine z_st (st' := [.int (iZ (r_9))]) rfl ?_
    rcases hb_9 with ⟨rfl, hb_9⟩ | ⟨rfl, hb_9⟩
    · -- 9=1
      refine z_if_eq_f hC 12 25 dX1_ifSet_12 rfl (by omega) (by omega) ?_
      refine z_aload_n hC 15 hl dX1_ifSet_15 rfl 0 rfl ?_
      refine z_iload_n hC 16 hl dX1_ifSet_16 rfl 3 rfl ?_
      refine z_iload hC 17 hl dX1_ifSet_17 4 rfl ?_
      refine zp_back (zp_runV hC (hH.2.2) hl.1 (va_P_l hH.1) 2 (As := [.int (iZ (l)), .int (iZ (r))]) (rest := []) (u_X1_isSpan lau s0 G ad F (va_up Ar 16 zZ) kp pl n l r (by first | exact hn | assumption | omega) (by first | exact hFn | assumption | omega) (by first | assumption | omega) (by first | assumption | omega)) (lw_V q864 q866 qs26 q89 q867) ⟨rfl, by decide, by decide, by decide +kernel⟩ (q0 := 0) (ci := 1) rfl rfl rfl rfl (Nat.le_of_ble_eq_true rfl) ⟨Nat.le_of_ble_eq_true rfl, Nat.le_of_ble_eq_true rfl⟩ ⟨by first | decide | omega, by first | decide | omega⟩ dX1_ifSet_19) (fun r_19 hpost => ?_)
      have hb_19 : (r_19 = 1 ∧ (0 ≤ l ∧ l ≤ r ∧ r < (n : Int))) ∨ (r_19 = 0 ∧ ¬ (0 ≤ l ∧ l ≤ r ∧ r < (n : Int))) := hpost
      refine z_st (st' := [.int (iZ (r_19))]) rfl ?_
      rcases hb_19 with ⟨rfl, hb_19⟩ | ⟨rfl, hb_19⟩
      · -- 19=1
        refine z_if_ne_t hC 22 27 dX1_ifSet_22 rfl (by omega) (by omega) ?_
        obtain ⟨p1, rfl⟩ := Int.eq_ofNat_of_zero_le (show 0 ≤ p by omega)
        obtain ⟨x1, rfl⟩ := Int.eq_ofNat_of_zero_le (show 0 ≤ x by omega)
        obtain ⟨l1, rfl⟩ := Int.eq_ofNat_of_zero_le (show 0 ≤ l by omega)
        obtain ⟨r1, rfl⟩ := Int.eq_ofNat_of_zero_le (show 0 ≤ r by omega)
        refine z_aload_n hC 27 hl dX1_ifSet_27 rfl 0 rfl ?_
        refine zp_get (v := .ref (ad 206)) hC (va_P_l hH.1) 28 in_X1 rfl 23 (by decide) q240 0 rfl (rfl) dX1_ifSet_28 ?_
        refine z_aload_n hC 31 hl dX1_ifSet_31 rfl 0 rfl ?_
        refine zp_get (v := .ref (ad 200)) hC (va_P_l hH.1) 32 in_X1 rfl 4 (by decide) q210 0 rfl (rfl) dX1_ifSet_32 ?_
        have hH : zH s0 s1 G as0 (dW ad G (va_up F 200 ((F 200))) (va_up Ar 16 zZ) kp pl PW) H locs := hH
        rw [show ((F 200) : Int) = (n : Int) from by omega] at hH
        have hH : zH s0 s1 G as0 (dW ad G (va_up F 200 ((n : Int))) (va_up Ar 16 zZ) kp pl PW) H locs := hH
        refine z_sub (z_runV (wc := (rw3 G (ad 206) (ad 207) (ad 208) ((F 206)) (Ar 207) (Ar 208) ++ rw3 G (ad 200) (ad 201) (ad 202) ((n : Int)) (Ar 201) (Ar 202))) hC hH.2.2 hl.1 (z_subP hH.1 [17, 18, 19, 11, 12, 13] rfl) (z_subD hH.2.1 [17, 18, 19, 11, 12, 13] (by decide) rfl) 1 (As := [.ref (ad 200)]) (rest := []) (m_X2_like lau s0 G _ (ad 206) (ad 207) (ad 208) ((F 206)) (Ar 207) (Ar 208) (ad 200) (ad 201) (ad 202) ((n : Int)) (Ar 201) (Ar 202)) (lw_V q690 q691 q692 q90 q693) ⟨rfl, by decide, by decide, by decide +kernel⟩ (q0 := 0) (ci := 2) rfl rfl rfl rfl (Nat.le_of_ble_eq_true rfl) ⟨Nat.le_of_ble_eq_true rfl, Nat.le_of_ble_eq_true rfl⟩ ⟨by first | decide | omega, by first | decide | omega⟩ dX1_ifSet_35) hH [17, 18, 19, 11, 12, 13] rfl (by decide) (fun _ => rfl) (fun _ H locs hpost hH => ?_)
        have hH : zH s0 s1 G as0 (dW ad G (va_up (va_up F 200 ((n : Int))) 206 ((n : Int))) (va_up (va_up (va_up Ar 16 zZ) 207 (Ar 201)) 208 (Ar 202)) kp pl PW) H locs := hH
        refine z_st (st' := [.ref (ad 206)]) rfl ?_
        refine zp_getN (v := .ref (ad 207)) hC (va_P_l hH.1) 38 in_X2 rfl 0 (by decide) q141 17 rfl (rfl) dX1_ifSet_38 ?_
        have hvx : ∀ i, i < n → va_up v p1 x1 i < 1000 := fun i hi => by unfold va_up; split; omega; exact hv i hi
        refine z_iload_n hC 41 hl dX1_ifSet_41 rfl 1 rfl ?_
        refine z_iload_n hC 42 hl dX1_ifSet_42 rfl 2 rfl ?_
        refine sD_207 (f' := (va_up (Ar 201) (p1) ((x1 : Int)))) hC hH 43 (p1) (by omega) (by omega) rfl dX1_ifSet_43 (fun H locs hH => ?_)
        have hH : zH s0 s1 G as0 (dW ad G (va_up (va_up F 200 ((n : Int))) 206 ((n : Int))) (va_up (va_up (va_up Ar 16 zZ) 207 (va_up (Ar 201) (p1) ((x1 : Int)))) 208 (Ar 202)) kp pl PW) H locs := hH
        refine z_aload_n hC 44 hl dX1_ifSet_44 rfl 0 rfl ?_
        refine z_aload_n hC 45 hl dX1_ifSet_45 rfl 0 rfl ?_
        refine zp_get (v := .ref (ad 206)) hC (va_P_l hH.1) 46 in_X1 rfl 23 (by decide) q240 0 rfl (rfl) dX1_ifSet_46 ?_
        refine z_iload_n hC 49 hl dX1_ifSet_49 rfl 3 rfl ?_
        refine z_iload hC 50 hl dX1_ifSet_50 4 rfl ?_
        refine z_iconst hC 52 dX1_ifSet_52 ?_
        refine z_st (st' := [.int (iZ ((-1))), .int (iZ (((r1 + 1 : Nat) : Int) - 1)), .int (iZ ((l1 : Int))), .ref (ad 206), .ref (ad 99)]) (zcons rfl (zcons (zieq (by omega)) (zcons rfl (zcons rfl rfl)))) ?_
        refine zp_back (zp_runV hC (hH.2.2) hl.1 ((va_P.app (va_P_l hH.1) (z_subP hH.1 [17, 18] rfl))) 4 (As := [.ref (ad 206), .int (iZ ((l1 : Int))), .int (iZ (((r1 + 1 : Nat) : Int) - 1)), .int (iZ ((-1)))]) (rest := []) (u_X1_plainMode lau s0 G ad (va_up (va_up F 200 ((n : Int))) 206 ((n : Int))) (va_up (va_up (va_up Ar 16 zZ) 207 (va_up (Ar 201) (p1) ((x1 : Int)))) 208 (Ar 202)) kp pl (ad 206) (ad 207) (ad 208) ((n : Int)) (va_up (Ar 201) (p1) ((x1 : Int))) n l1 (r1 + 1) t (va_up v p1 x1) (va_up v p1 x1) (-1) (by first | exact hn | assumption | omega) (by first | exact hFt | assumption | omega) (by first | exact ht | assumption | omega) (by (intro i hi; show va_up (Ar 201) p1 (x1 : Int) i = _; unfold va_up; split; rfl; exact hAv i hi)) (by first | exact hrn | assumption | omega) (by first | exact hlr | assumption | omega) (by exact fun p9 h1 h2 => by omega) (by exact fun p9 h1 h2 => ⟨rfl, hvx p9 h1⟩) (by first | assumption | omega)) (lw_V q1250 q1252 qs39 q89 q1253) ⟨rfl, by decide, by decide, by decide +kernel⟩ (q0 := 0) (ci := 1) rfl rfl rfl rfl (Nat.le_of_ble_eq_true rfl) ⟨Nat.le_of_ble_eq_true rfl, Nat.le_of_ble_eq_true rfl⟩ ⟨by first | decide | omega, by first | decide | omega⟩ dX1_ifSet_53) (fun r_53 hpost => ?_)
        have pm_53 : (r_53 = -2 ∧ ∀ q, l1 ≤ q → q < (r1 + 1) → 1000 ≤ (va_up v p1 x1) q) ∨ (r_53 = (md (va_up v p1 x1) l1 (r1 + 1) t : Int) ∧ ∃ q, l1 ≤ q ∧ q < (r1 + 1) ∧ (va_up v p1 x1) q < 1000) := hpost
        refine z_st (st' := [.int (iZ (r_53))]) rfl ?_
        have hr53 : r_53 = (md (va_up v p1 x1) l1 (r1 + 1) t : Int) := by rcases pm_53 with ⟨e1, h1⟩ | ⟨e1, q⟩; (have q9 := h1 l1 (by omega) (by omega); have q8 := hvx l1 (by omega); omega); exact e1
        -- R56.1
        exact z_iret hC hH hQ 56 ((r_53, (va_up (va_up F 200 ((n : Int))) 206 ((n : Int))), (va_up (va_up (va_up Ar 16 zZ) 207 (va_up (Ar 201) (p1) ((x1 : Int)))) 208 (Ar 202)))) dX1_ifSet_56 rfl ⟨by (unfold Sp_ifSet; rw [if_pos (by omega)]; simp only [Int.toNat_natCast, zt1]; exact hr53), by first | assumption | exact ⟨fun k h1 h2 h3 h4 h5 => by first | rfl | (simp [va_up, h1, h2, h3, h4, h5]; done) | (simp [va_up, h1, h2, h3, h4, h5]; intro e9; rw [e9, hFn]), fun k h1 h2 h3 h4 h5 h6 => by first | rfl | simp [va_up, h1, h2, h3, h4, h5, h6]⟩⟩ rfl (Nat.le_refl _) (Nat.le_refl _)
      · -- 19=0
        refine z_if_ne_f hC 22 27 dX1_ifSet_22 rfl (by omega) (by omega) ?_
        refine z_iconst hC 25 dX1_ifSet_25 ?_
        -- R26.2
        exact z_iret hC hH hQ 26 (((-1), F, (va_up Ar 16 zZ))) dX1_ifSet_26 rfl ⟨by first | (unfold Sp_ifSet; rw [if_neg (by omega)]) | (unfold Sp_ifSet; rw [if_pos (by omega)]; (try simp only [Int.toNat_natCast, zt1]); first | done | trivial | rfl | omega | (rw [if_pos (by omega)]; first | done | trivial | rfl | omega) | (rw [if_neg (by omega)]; first | done | trivial | rfl | omega)), by first | assumption | exact ⟨fun k h1 h2 h3 h4 h5 => by first | rfl | (simp [va_up, h1, h2, h3, h4, h5]; done) | (simp [va_up, h1, h2, h3, h4, h5]; intro e9; rw [e9, hFn]), fun k h1 h2 h3 h4 h5 h6 => by first | rfl | simp [va_up, h1, h2, h3, h4, h5, h6]⟩⟩ rfl (Nat.le_refl _) (Nat.le_refl _)
    · -- 9=0
      refine z_if_eq_t hC 12 25 dX1_ifSet_12 rfl (by omega) (by omega) ?_
      refine z_iconst hC 25 dX1_ifSet_25 ?_
      -- R26.3
      exact z_iret hC hH hQ 26 (((-1), F, (va_up Ar 16 zZ))) dX1_ifSet_26 rfl ⟨by first | (unfold Sp_ifSet; rw [if_neg (by omega)]) | (unfold Sp_ifSet; rw [if_pos (by omega)]; (try simp only [Int.toNat_natCast, zt1]); first | done | trivial | rfl | omega | (rw [if_pos (by omega)]; first | done | trivial | rfl | omega) | (rw [if_neg (by omega)]; first | done | trivial | rfl | omega)), by first | assumption | exact ⟨fun k h1 h2 h3 h4 h5 => by first | rfl | (simp [va_up, h1, h2, h3, h4, h5]; done) | (simp [va_up, h1, h2, h3, h4, h5]; intro e9; rw [e9, hFn]), fun k h1 h2 h3 h4 h5 h6 => by first | rfl | simp [va_up, h1, h2, h3, h4, h5, h6]⟩⟩ rfl (Nat.le_refl _) (Nat.le_refl _)
  · -- 2=0
    refine z_if_eq_t hC 5 25 dX1_ifSet_5 rfl (by omega) (by omega) ?_
    refine z_iconst hC 25 dX1_ifSet_25 ?_
    -- R26.4
    exact z_iret hC hH hQ 26 (((-1), F, (va_up Ar 16 zZ))) dX1_ifSet_26 rfl ⟨by first | (unfold Sp_ifSet; rw [if_neg (by omega)]) | (unfold Sp_ifSet; rw [if_pos (by omega)]; (try simp only [Int.toNat_natCast, zt1]); first | done | trivial | rfl | omega | (rw [if_pos (by omega)]; first | done | trivial | rfl | omega) | (rw [if_neg (by omega)]; first | done | trivial | rfl | omega)), by first | assumption | exact ⟨fun k h1 h2 h3 h4 h5 => by first | rfl | (simp [va_up, h1, h2, h3, h4, h5]; done) | (simp [va_up, h1, h2, h3, h4, h5]; intro e9; rw [e9, hFn]), fun k h1 h2 h3 h4 h5 h6 => by first | rfl | simp [va_up, h1, h2, h3, h4, h5, h6]⟩⟩ rfl (Nat.le_refl _) (Nat.le_refl _)
