/-! methods of ModeDesk that write: 75.em -/
set_option maxHeartbeats 8000000 in
set_option maxRecDepth 100000 in
theorem m_X1_keeps (lau : Launch) (s0 : State) (G : zG) (sz : Nat) (ad : Nat → Nat) (F : Nat → Int) (Ar : Nat → Nat → Int) (kp : Nat → Nat) (pl : Nat → Option Nat) (PW : va_W) (n : Nat) (v : Nat → Nat) (wt : Nat → Nat) (un : Nat) (hm : Nat → Nat) (hvv : Nat → Nat → Nat) (hww : Nat → Nat → Nat) (a : Nat → Int) (b_ : Nat → Int) (hn : n ≤ 120) (hv : ∀ i, i < n → v i < 1000) (hwt : ∀ i, i < n → 1 ≤ wt i ∧ wt i ≤ 9) (ha : ∀ i, i < n → a i = (v i : Int)) (hb_ : ∀ i, i < n → b_ i = (wt i : Int)) (hun : un ≤ 12) (hF14 : F 14 = (un : Int)) (hkt : KPT kp) (hPD : PASTD un kp F Ar hm hvv hww) : zMet (S := (Nat → Nat) × (Nat → Int) × (Nat → Nat → Int)) lau yX1_keeps cX1_keeps 3 (none) 2 41 0 0 s0 G sz [.ref (ad 99)] (dW ad G (va_up F 203 ((n : Int))) (va_up (va_up Ar 204 a) 205 b_) kp pl PW) (fun ((kp2, F2, A2) : (Nat → Nat) × (Nat → Int) × (Nat → Nat → Int)) => (none : Option Value)) (fun ((kp2, F2, A2) : (Nat → Nat) × (Nat → Int) × (Nat → Nat → Int)) => (KPT kp2) ∧ (F2 14 = (pushU un : Int)) ∧ (∀ k, k ≠ 14 → (k < 209 ∨ 245 ≤ k) → F2 k = (va_up F 203 ((n : Int))) k) ∧ (∀ k, (k < 209 ∨ 245 ≤ k) → A2 k = (va_up (va_up Ar 204 a) 205 b_) k) ∧ (PASTD (pushU un) kp2 F2 A2 (pushR un hm n) (pushR un hvv v) (pushR un hww wt))) (fun ((kp2, F2, A2) : (Nat → Nat) × (Nat → Int) × (Nat → Nat → Int)) => (dW ad G F2 A2 kp2 pl PW)) := by
  refine zMet.of (by decide) (Nat.le_of_ble_eq_true rfl) ?_
  intro pg ev s1 mi ar bl me cd ls Q as0 hC hH hl hQ hsz
  generalize s1.heap = H at hH ⊢
  generalize ([] : List Loc) = locs at hH ⊢
  have hl : lv_has ls 3 [(0, .ref (ad 99))] := hl
  refine z_aload_n hC 0 hl dX1_keeps_0 rfl 0 rfl ?_
  refine zp_get (v := .int (iZ ((un : Int)))) hC (va_P_l hH.1) 1 in_X1 rfl 14 (by decide) q224 0 rfl (by rw [← hF14]; rfl) dX1_keeps_1 ?_
  refine z_bipush hC 4 dX1_keeps_4 rfl ?_
  refine z_icmp_ne hC 6 62 dX1_keeps_6 rfl (by omega) (by omega) (fun hb1 => ?_) (fun hb1 => ?_)
  · -- 6t
    refine z_aload_n hC 62 hl dX1_keeps_62 rfl 0 rfl ?_
    refine zp_get (v := .ref (ad 13)) hC (va_P_l hH.1) 63 in_X1 rfl 13 (by decide) q223 0 rfl (rfl) dX1_keeps_63 ?_
    refine z_aload_n hC 66 hl dX1_keeps_66 rfl 0 rfl ?_
    refine zp_get (v := .int (iZ ((un : Int)))) hC (va_P_l hH.1) 67 in_X1 rfl 14 (by decide) q224 0 rfl (by rw [← hF14]; rfl) dX1_keeps_67 ?_
    refine zp_aldq (CN := RX2) (v := .ref (ad (kp un))) hC (va_P_l hH.1) 70 3 4 (un) rfl rfl (by decide) (by omega) (by omega) rfl dX1_keeps_70 ?_
    refine z_aload_n hC 71 hl dX1_keeps_71 rfl 0 rfl ?_
    refine zp_get (v := .ref (ad 203)) hC (va_P_l hH.1) 72 in_X1 rfl 5 (by decide) q214 0 rfl (rfl) dX1_keeps_72 ?_
    obtain ⟨i9, hi9, e9⟩ : ∃ i, i < 12 ∧ kp un = 209 + 3 * i := by first | exact hkt.1 _ (by omega) | exact (KPT_R hkt).1 _ (by omega)
    refine z_st (st' := [.ref (ad 203), .ref (ad (209 + 3 * i9))]) (by rw [e9]) ?_
    refine z_sub (z_runV (wc := (rw3 G (ad (209 + 3 * i9)) (ad ((209 + 3 * i9) + 1)) (ad ((209 + 3 * i9) + 2)) ((va_up F 203 ((n : Int))) (209 + 3 * i9)) ((va_up (va_up Ar 204 a) 205 b_) ((209 + 3 * i9) + 1)) ((va_up (va_up Ar 204 a) 205 b_) ((209 + 3 * i9) + 2)) ++ rw3 G (ad 203) (ad (203 + 1)) (ad (203 + 2)) ((va_up F 203 ((n : Int))) 203) ((va_up (va_up Ar 204 a) 205 b_) (203 + 1)) ((va_up (va_up Ar 204 a) 205 b_) (203 + 2)))) hC hH.2.2 hl.1 (z_subP hH.1 (likeKs i9 14) (setL_dk_k hi9)) (z_subD hH.2.1 (likeKs i9 14) (setL_dk_n hi9) (setL_dk_k hi9)) 1 (As := [.ref (ad 203)]) (rest := []) (m_X2_like lau s0 G _ (ad (209 + 3 * i9)) (ad ((209 + 3 * i9) + 1)) (ad ((209 + 3 * i9) + 2)) ((va_up F 203 ((n : Int))) (209 + 3 * i9)) ((va_up (va_up Ar 204 a) 205 b_) ((209 + 3 * i9) + 1)) ((va_up (va_up Ar 204 a) 205 b_) ((209 + 3 * i9) + 2)) (ad 203) (ad (203 + 1)) (ad (203 + 2)) ((va_up F 203 ((n : Int))) 203) ((va_up (va_up Ar 204 a) 205 b_) (203 + 1)) ((va_up (va_up Ar 204 a) 205 b_) (203 + 2))) (lw_V q690 q691 q692 q90 q693) ⟨rfl, by decide, by decide, by decide +kernel⟩ (q0 := 0) (ci := 2) rfl rfl rfl rfl (Nat.le_of_ble_eq_true rfl) ⟨Nat.le_of_ble_eq_true rfl, Nat.le_of_ble_eq_true rfl⟩ ⟨by first | decide | omega, by first | decide | omega⟩ dX1_keeps_75) hH (likeKs i9 14) (setL_dk_k hi9) (setL_dk_n hi9) (fun _ => rfl) (fun _ H locs hpost hH => ?_)
    rw [setL_dk_w hi9] at hH
    refine z_st (st' := [.ref (ad (209 + 3 * i9))]) rfl ?_
    generalize hbF : (va_up (va_up F 203 ((n : Int))) (209 + 3 * i9) ((va_up F 203 ((n : Int))) 203)) = F9 at hH
    generalize hbA : (va_up (va_up (va_up (va_up Ar 204 a) 205 b_) ((209 + 3 * i9) + 1) ((va_up (va_up Ar 204 a) 205 b_) (203 + 1))) ((209 + 3 * i9) + 2) ((va_up (va_up Ar 204 a) 205 b_) (203 + 2))) = A9 at hH
    have hFF : ∀ k, 209 ≤ k → (va_up F 203 ((n : Int))) k = F k := fun k hk => by simp [va_up, show k ≠ 203 by omega, show k ≠ 14 by omega]
    have hAA : ∀ k, 209 ≤ k → (va_up (va_up Ar 204 a) 205 b_) k = Ar k := fun k hk => by simp [va_up, show k ≠ 204 by omega, show k ≠ 205 by omega]
    have h14 : F9 14 = ((un : Nat) : Int) := by rw [← hbF, va_up_ne _ _ (by omega)]; first | exact hF14 | (show ((un : Int) - 1) = _; omega)
    have hH : zH s0 s1 G as0 (dW ad G F9 A9 kp pl PW) H locs := hH
    refine z_pop hC 78 dX1_keeps_78 rfl ?_
    refine z_aload_n hC 79 hl dX1_keeps_79 rfl 0 rfl ?_
    refine z_dup hC 80 dX1_keeps_80 rfl ?_
    refine zp_get (v := .int (iZ ((un : Int)))) hC (va_P_l hH.1) 81 in_X1 rfl 14 (by decide) q224 0 rfl (by rw [← h14]; rfl) dX1_keeps_81 ?_
    refine z_iconst hC 84 dX1_keeps_84 ?_
    refine z_iadd (e := (un : Int) + 1) hC 85 dX1_keeps_85 rfl ?_
    refine pD_14 hC hH 86 dX1_keeps_86 (fun H locs hH => ?_)
    have hH : zH s0 s1 G as0 (dW ad G (va_up F9 14 ((un : Int) + 1)) A9 kp pl PW) H locs := hH
    -- R89.1
    exact z_vret hC hH hQ 89 ((kp, (va_up F9 14 ((un : Int) + 1)), A9)) dX1_keeps_89 rfl ⟨by first | exact hkt | exact KPT_R hkt, by (rw [va_up_self]; unfold pushU; split <;> omega), by (intro k h1 h2; rw [va_up_ne _ _ h1, ← hbF, va_up_ne _ _ (by omega)] <;> simp [va_up, h1]), by (intro k h2; rw [← hbA, va_up_ne _ _ (by omega), va_up_ne _ _ (by omega)]), by rw [← hbF, ← hbA]; first | exact keeps_n (F := F) (Ar := Ar) hkt (by omega) hPD e9 hFF hAA hn ha hb_ hv hwt | exact keeps_12 (F := F) (Ar := Ar) hkt (by omega) hPD e9 hFF hAA hn ha hb_ hv hwt⟩ rfl (Nat.le_refl _) (Nat.le_refl _)
  · -- 6f
    refine z_aload_n hC 9 hl dX1_keeps_9 rfl 0 rfl ?_
    refine zp_get (v := .ref (ad 13)) hC (va_P_l hH.1) 10 in_X1 rfl 13 (by decide) q223 0 rfl (rfl) dX1_keeps_10 ?_
    refine z_iconst hC 13 dX1_keeps_13 ?_
    refine zp_aldq (CN := RX2) (v := .ref (ad (kp 0))) hC (va_P_l hH.1) 14 3 4 (0) rfl rfl (by decide) (by omega) (by omega) rfl dX1_keeps_14 ?_
    refine z_astore_n (lv' := [(1, .ref (ad (kp 0))), (0, .ref (ad 99))]) hC 15 hl dX1_keeps_15 rfl (by decide) rfl (fun ls hl => ?_)
    refine z_iconst hC 16 dX1_keeps_16 ?_
    have hwx : kp = (kpS kp 1) := by exact kpS_1
    rw [hwx] at hH
    have hH : zH s0 s1 G as0 (dW ad G (va_up F 203 ((n : Int))) (va_up (va_up Ar 204 a) 205 b_) (kpS kp 1) pl PW) H locs := hH
    refine z_istore_n (lv' := [(2, .int (iZ (1))), (1, .ref (ad (kp 0))), (0, .ref (ad 99))]) hC 17 hl dX1_keeps_17 rfl (by decide) rfl (fun ls hl => ?_)
    have L18 : ∀ (N_ : Nat) (k : Nat) (H : Heap) (locs : List Loc) (ls : Array Slot), 12 - k < N_ → (1 ≤ k) → (k ≤ 12) → zH s0 s1 G as0 (dW ad G (va_up F 203 ((n : Int))) (va_up (va_up Ar 204 a) 205 b_) (kpS kp k) pl PW) H locs → lv_has ls 3 [(0, .ref (ad 99)), (1, .ref (ad (kp 0))), (2, .int (iZ ((k : Int))))] → W pg lau ev (zRm 2 0 0 41) s1 mi ar bl me cd H locs 0 0 Q (F0 mi 18 ls []) := by
      intro N_
      induction N_ with
      | zero => intro k H locs ls hd; exact absurd hd (Nat.not_lt_zero _)
      | succ N_ ih18 =>
        intro k H locs ls hd18 i18_1 i18_2 hH hl
        refine z_iload_n hC 18 hl dX1_keeps_18 rfl 2 rfl ?_
        refine z_bipush hC 19 dX1_keeps_19 rfl ?_
        refine z_icmp_ge hC 21 44 dX1_keeps_21 rfl (by omega) (by omega) (fun hb2 => ?_) (fun hb2 => ?_)
        · -- 21t
          have hwx : (kpS kp k) = (kpS kp 12) := by rw [show k = 12 by omega]
          rw [hwx] at hH
          have hH : zH s0 s1 G as0 (dW ad G (va_up F 203 ((n : Int))) (va_up (va_up Ar 204 a) 205 b_) (kpS kp 12) pl PW) H locs := hH
          refine z_aload_n hC 44 hl dX1_keeps_44 rfl 0 rfl ?_
          refine zp_get (v := .ref (ad 13)) hC (va_P_l hH.1) 45 in_X1 rfl 13 (by decide) q223 0 rfl (rfl) dX1_keeps_45 ?_
          refine z_bipush hC 48 dX1_keeps_48 rfl ?_
          refine z_aload_n hC 50 hl dX1_keeps_50 rfl 1 rfl ?_
          refine z_kpst hC hH 51 (11) (kp 0) (by omega) (by omega) (by exact hkt.1 0 (by omega)) dX1_keeps_51 (fun H locs hH => ?_)
          have hH : zH s0 s1 G as0 (dW ad G (va_up F 203 ((n : Int))) (va_up (va_up Ar 204 a) 205 b_) (va_up (kpS kp 12) (11) (kp 0)) pl PW) H locs := hH
          have hwx : (va_up (kpS kp 12) (11) (kp 0)) = (kpR kp) := by rfl
          rw [hwx] at hH
          have hH : zH s0 s1 G as0 (dW ad G (va_up F 203 ((n : Int))) (va_up (va_up Ar 204 a) 205 b_) (kpR kp) pl PW) H locs := hH
          refine z_aload_n hC 52 hl dX1_keeps_52 rfl 0 rfl ?_
          refine z_dup hC 53 dX1_keeps_53 rfl ?_
          refine zp_get (v := .int (iZ ((un : Int)))) hC (va_P_l hH.1) 54 in_X1 rfl 14 (by decide) q224 0 rfl (by rw [← hF14]; rfl) dX1_keeps_54 ?_
          refine z_iconst hC 57 dX1_keeps_57 ?_
          refine z_isub (e := (un : Int) - 1) hC 58 dX1_keeps_58 rfl ?_
          refine pD_14 hC hH 59 dX1_keeps_59 (fun H locs hH => ?_)
          have hH : zH s0 s1 G as0 (dW ad G (va_up (va_up F 14 ((un : Int) - 1)) 203 ((n : Int))) (va_up (va_up Ar 204 a) 205 b_) (kpR kp) pl PW) H locs := hH
          refine z_aload_n hC 62 hl dX1_keeps_62 rfl 0 rfl ?_
          refine zp_get (v := .ref (ad 13)) hC (va_P_l hH.1) 63 in_X1 rfl 13 (by decide) q223 0 rfl (rfl) dX1_keeps_63 ?_
          refine z_aload_n hC 66 hl dX1_keeps_66 rfl 0 rfl ?_
          refine zp_get (v := .int (iZ ((un : Int) - 1))) hC (va_P_l hH.1) 67 in_X1 rfl 14 (by decide) q224 0 rfl (rfl) dX1_keeps_67 ?_
          refine zp_aldq (CN := RX2) (v := .ref (ad ((kpR kp) (un - 1)))) hC (va_P_l hH.1) 70 3 4 (un - 1) rfl rfl (by decide) (by omega) (by omega) rfl dX1_keeps_70 ?_
          refine z_aload_n hC 71 hl dX1_keeps_71 rfl 0 rfl ?_
          refine zp_get (v := .ref (ad 203)) hC (va_P_l hH.1) 72 in_X1 rfl 5 (by decide) q214 0 rfl (rfl) dX1_keeps_72 ?_
          obtain ⟨i9, hi9, e9⟩ : ∃ i, i < 12 ∧ (kpR kp) (un - 1) = 209 + 3 * i := by first | exact hkt.1 _ (by omega) | exact (KPT_R hkt).1 _ (by omega)
          refine z_st (st' := [.ref (ad 203), .ref (ad (209 + 3 * i9))]) (by rw [e9]) ?_
          refine z_sub (z_runV (wc := (rw3 G (ad (209 + 3 * i9)) (ad ((209 + 3 * i9) + 1)) (ad ((209 + 3 * i9) + 2)) ((va_up (va_up F 14 ((un : Int) - 1)) 203 ((n : Int))) (209 + 3 * i9)) ((va_up (va_up Ar 204 a) 205 b_) ((209 + 3 * i9) + 1)) ((va_up (va_up Ar 204 a) 205 b_) ((209 + 3 * i9) + 2)) ++ rw3 G (ad 203) (ad (203 + 1)) (ad (203 + 2)) ((va_up (va_up F 14 ((un : Int) - 1)) 203 ((n : Int))) 203) ((va_up (va_up Ar 204 a) 205 b_) (203 + 1)) ((va_up (va_up Ar 204 a) 205 b_) (203 + 2)))) hC hH.2.2 hl.1 (z_subP hH.1 (likeKs i9 14) (setL_dk_k hi9)) (z_subD hH.2.1 (likeKs i9 14) (setL_dk_n hi9) (setL_dk_k hi9)) 1 (As := [.ref (ad 203)]) (rest := []) (m_X2_like lau s0 G _ (ad (209 + 3 * i9)) (ad ((209 + 3 * i9) + 1)) (ad ((209 + 3 * i9) + 2)) ((va_up (va_up F 14 ((un : Int) - 1)) 203 ((n : Int))) (209 + 3 * i9)) ((va_up (va_up Ar 204 a) 205 b_) ((209 + 3 * i9) + 1)) ((va_up (va_up Ar 204 a) 205 b_) ((209 + 3 * i9) + 2)) (ad 203) (ad (203 + 1)) (ad (203 + 2)) ((va_up (va_up F 14 ((un : Int) - 1)) 203 ((n : Int))) 203) ((va_up (va_up Ar 204 a) 205 b_) (203 + 1)) ((va_up (va_up Ar 204 a) 205 b_) (203 + 2))) (lw_V q690 q691 q692 q90 q693) ⟨rfl, by decide, by decide, by decide +kernel⟩ (q0 := 0) (ci := 2) rfl rfl rfl rfl (Nat.le_of_ble_eq_true rfl) ⟨Nat.le_of_ble_eq_true rfl, Nat.le_of_ble_eq_true rfl⟩ ⟨by first | decide | omega, by first | decide | omega⟩ dX1_keeps_75) hH (likeKs i9 14) (setL_dk_k hi9) (setL_dk_n hi9) (fun _ => rfl) (fun _ H locs hpost hH => ?_)
          rw [setL_dk_w hi9] at hH
          refine z_st (st' := [.ref (ad (209 + 3 * i9))]) rfl ?_
          generalize hbF : (va_up (va_up (va_up F 14 ((un : Int) - 1)) 203 ((n : Int))) (209 + 3 * i9) ((va_up (va_up F 14 ((un : Int) - 1)) 203 ((n : Int))) 203)) = F9 at hH
          generalize hbA : (va_up (va_up (va_up (va_up Ar 204 a) 205 b_) ((209 + 3 * i9) + 1) ((va_up (va_up Ar 204 a) 205 b_) (203 + 1))) ((209 + 3 * i9) + 2) ((va_up (va_up Ar 204 a) 205 b_) (203 + 2))) = A9 at hH
          have hFF : ∀ k, 209 ≤ k → (va_up (va_up F 14 ((un : Int) - 1)) 203 ((n : Int))) k = F k := fun k hk => by simp [va_up, show k ≠ 203 by omega, show k ≠ 14 by omega]
          have hAA : ∀ k, 209 ≤ k → (va_up (va_up Ar 204 a) 205 b_) k = Ar k := fun k hk => by simp [va_up, show k ≠ 204 by omega, show k ≠ 205 by omega]
          have h14 : F9 14 = (((un - 1) : Nat) : Int) := by rw [← hbF, va_up_ne _ _ (by omega)]; first | exact hF14 | (show ((un : Int) - 1) = _; omega)
          have hH : zH s0 s1 G as0 (dW ad G F9 A9 (kpR kp) pl PW) H locs := hH
          refine z_pop hC 78 dX1_keeps_78 rfl ?_
          refine z_aload_n hC 79 hl dX1_keeps_79 rfl 0 rfl ?_
          refine z_dup hC 80 dX1_keeps_80 rfl ?_
          refine zp_get (v := .int (iZ (((un - 1 : Nat) : Int)))) hC (va_P_l hH.1) 81 in_X1 rfl 14 (by decide) q224 0 rfl (by rw [← h14]; rfl) dX1_keeps_81 ?_
          refine z_iconst hC 84 dX1_keeps_84 ?_
          refine z_iadd (e := ((un - 1 : Nat) : Int) + 1) hC 85 dX1_keeps_85 rfl ?_
          refine pD_14 hC hH 86 dX1_keeps_86 (fun H locs hH => ?_)
          have hH : zH s0 s1 G as0 (dW ad G (va_up F9 14 (((un - 1 : Nat) : Int) + 1)) A9 (kpR kp) pl PW) H locs := hH
          -- R89.2
          exact z_vret hC hH hQ 89 (((kpR kp), (va_up F9 14 (((un - 1 : Nat) : Int) + 1)), A9)) dX1_keeps_89 rfl ⟨by first | exact hkt | exact KPT_R hkt, by (rw [va_up_self]; unfold pushU; split <;> omega), by (intro k h1 h2; rw [va_up_ne _ _ h1, ← hbF, va_up_ne _ _ (by omega)] <;> simp [va_up, h1]), by (intro k h2; rw [← hbA, va_up_ne _ _ (by omega), va_up_ne _ _ (by omega)]), by rw [← hbF, ← hbA]; first | exact keeps_n (F := F) (Ar := Ar) hkt (by omega) hPD e9 hFF hAA hn ha hb_ hv hwt | exact keeps_12 (F := F) (Ar := Ar) hkt (by omega) hPD e9 hFF hAA hn ha hb_ hv hwt⟩ rfl (Nat.le_refl _) (Nat.le_refl _)
        · -- 21f
          refine z_aload_n hC 24 hl dX1_keeps_24 rfl 0 rfl ?_
          refine zp_get (v := .ref (ad 13)) hC (va_P_l hH.1) 25 in_X1 rfl 13 (by decide) q223 0 rfl (rfl) dX1_keeps_25 ?_
          refine z_iload_n hC 28 hl dX1_keeps_28 rfl 2 rfl ?_
          refine z_iconst hC 29 dX1_keeps_29 ?_
          refine z_isub (e := (k : Int) - 1) hC 30 dX1_keeps_30 rfl ?_
          refine z_aload_n hC 31 hl dX1_keeps_31 rfl 0 rfl ?_
          refine zp_get (v := .ref (ad 13)) hC (va_P_l hH.1) 32 in_X1 rfl 13 (by decide) q223 0 rfl (rfl) dX1_keeps_32 ?_
          refine z_iload_n hC 35 hl dX1_keeps_35 rfl 2 rfl ?_
          refine zp_aldq (CN := RX2) (v := .ref (ad ((kpS kp k) k))) hC (va_P_l hH.1) 36 3 4 (k) rfl rfl (by decide) (by omega) (by omega) rfl dX1_keeps_36 ?_
          refine z_kpst hC hH 37 (k - 1) ((kpS kp k) k) (by omega) (by omega) (by (unfold kpS; split <;> exact hkt.1 _ (by omega))) dX1_keeps_37 (fun H locs hH => ?_)
          have hH : zH s0 s1 G as0 (dW ad G (va_up F 203 ((n : Int))) (va_up (va_up Ar 204 a) 205 b_) (va_up (kpS kp k) (k - 1) ((kpS kp k) k)) pl PW) H locs := hH
          have hwx : (va_up (kpS kp k) (k - 1) ((kpS kp k) k)) = (kpS kp (k + 1)) := by exact kpS_s (by omega)
          rw [hwx] at hH
          have hH : zH s0 s1 G as0 (dW ad G (va_up F 203 ((n : Int))) (va_up (va_up Ar 204 a) 205 b_) (kpS kp (k + 1)) pl PW) H locs := hH
          refine z_iinc (lv' := [(2, .int (iZ ((k : Int) + 1))), (0, .ref (ad 99)), (1, .ref (ad (kp 0)))]) hC 38 hl dX1_keeps_38 2 rfl (by omega) (by decide) rfl (fun ls hl => ?_)
          refine z_goto hC 41 18 dX1_keeps_41 rfl ?_
          -- J18.3
          exact ih18 (k + 1) _ _ _ (by omega) (by first | assumption | omega) (by first | assumption | omega) hH (z_lv (lv_sub hl [1, 2, 0] rfl) (zcons rfl (zcons rfl (zcons (zpeq (by omega)) rfl))))
    -- J18.4
    exact L18 _ 1 _ _ _ (Nat.lt_succ_self _) (by first | assumption | omega) (by first | assumption | omega) hH (z_lv (lv_sub hl [2, 1, 0] rfl) (zcons rfl (zcons rfl (zcons (zpeq (by omega)) rfl))))
