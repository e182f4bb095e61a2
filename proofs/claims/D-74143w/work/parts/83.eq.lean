/-! methods of ModeDesk that write: 83.eq -/
set_option maxHeartbeats 16000000 in
set_option maxRecDepth 100000 in
theorem m_X1_undo (lau : Launch) (s0 : State) (G : zG) (sz : Nat) (ad : Nat → Nat) (F : Nat → Int) (Ar : Nat → Nat → Int) (kp : Nat → Nat) (pl : Nat → Option Nat) (PW : va_W) (L : List Nat) (pr : Nat → Nat) (pa : Nat → Nat) (pm : Nat → Nat) (pf : Nat → Nat → Nat) (nw : Nat) (b : Nat) (t : Nat) (n : Nat) (v : Nat → Nat) (wt : Nat → Nat) (un : Nat) (hm : Nat → Nat) (hvv : Nat → Nat → Nat) (hww : Nat → Nat → Nat) (fr : Int) (hD : DST s0 G nw b t n v wt un hm hvv hww fr F Ar kp L pl pr pa pm pf) (hnw : zNwh s0 nw) : zMet (S := Int × Nat × (Nat → Nat) × (Nat → Nat) × Nat × Int × List Nat × (Nat → Option Nat) × (Nat → Nat) × (Nat → Nat) × (Nat → Nat) × (Nat → Nat → Nat) × (Nat → Int) × (Nat → Nat → Int)) lau yX1_undo cX1_undo 1 (some .int) 6 144 240 14640 s0 G sz [.ref (ad 99)] (dW ad G F Ar kp pl (dPool G pr pa pm pf L)) (fun ((r_, n2, v2, w2, un2, fr2, L2, pl2, pr2, pa2, pm2, pf2, F2, A2) : Int × Nat × (Nat → Nat) × (Nat → Nat) × Nat × Int × List Nat × (Nat → Option Nat) × (Nat → Nat) × (Nat → Nat) × (Nat → Nat) × (Nat → Nat → Nat) × (Nat → Int) × (Nat → Nat → Int)) => some (.int (iZ (r_)))) (fun ((r_, n2, v2, w2, un2, fr2, L2, pl2, pr2, pa2, pm2, pf2, F2, A2) : Int × Nat × (Nat → Nat) × (Nat → Nat) × Nat × Int × List Nat × (Nat → Option Nat) × (Nat → Nat) × (Nat → Nat) × (Nat → Nat) × (Nat → Nat → Nat) × (Nat → Int) × (Nat → Nat → Int)) => (Sp_undo n v wt b un hm hvv hww fr r_ n2 v2 w2 un2 fr2) ∧ (DST s0 G nw b t n2 v2 w2 un2 hm hvv hww fr2 F2 A2 kp L2 pl2 pr2 pa2 pm2 pf2) ∧ (EKQ F Ar F2 A2)) (fun ((r_, n2, v2, w2, un2, fr2, L2, pl2, pr2, pa2, pm2, pf2, F2, A2) : Int × Nat × (Nat → Nat) × (Nat → Nat) × Nat × Int × List Nat × (Nat → Option Nat) × (Nat → Nat) × (Nat → Nat) × (Nat → Nat) × (Nat → Nat → Nat) × (Nat → Int) × (Nat → Nat → Int)) => (dW ad G F2 A2 kp pl2 (dPool G pr2 pa2 pm2 pf2 L2))) := by
  refine zMet.of (by decide) (Nat.le_of_ble_eq_true rfl) ?_
  intro pg ev s1 mi ar bl me cd ls Q as0 hC hH hl hQ hsz
  generalize s1.heap = H at hH ⊢
  generalize ([] : List Loc) = locs at hH ⊢
  have hl : lv_has ls 1 [(0, .ref (ad 99))] := hl
  obtain ⟨⟨hn, hFn, hv, hAv, hwt, hAw⟩, ⟨hb, hFb, ht, hFt⟩, ⟨hun, hF14, hkt, hPD⟩, ⟨hS, hpc⟩, hmo, hfr, h16⟩ := id hD
  refine z_aload_n hC 0 hl dX1_undo_0 rfl 0 rfl ?_
  refine zp_get (v := .int (iZ ((un : Int)))) hC (va_P_l hH.1) 1 in_X1 rfl 14 (by decide) q224 0 rfl (by rw [← hF14]; rfl) dX1_undo_1 ?_
  refine z_if_ne hC 4 9 dX1_undo_4 rfl (by omega) (fun hb1 => ?_) (fun hb1 => ?_)
  · -- 4t
    refine z_aload_n hC 9 hl dX1_undo_9 rfl 0 rfl ?_
    refine z_dup hC 10 dX1_undo_10 rfl ?_
    refine zp_get (v := .int (iZ ((un : Int)))) hC (va_P_l hH.1) 11 in_X1 rfl 14 (by decide) q224 0 rfl (by rw [← hF14]; rfl) dX1_undo_11 ?_
    refine z_iconst hC 14 dX1_undo_14 ?_
    refine z_isub (e := (un : Int) - 1) hC 15 dX1_undo_15 rfl ?_
    refine pD_14 hC hH 16 dX1_undo_16 (fun H locs hH => ?_)
    have hH : zH s0 s1 G as0 (dW ad G (va_up F 14 ((un : Int) - 1)) Ar kp pl (dPool G pr pa pm pf L)) H locs := hH
    refine z_aload_n hC 19 hl dX1_undo_19 rfl 0 rfl ?_
    have hH : zH s0 s1 G as0 (dW ad G (va_up (va_up F 14 ((un : Int) - 1)) 200 ((F 200))) Ar kp pl (dPool G pr pa pm pf L)) H locs := hH
    rw [show ((F 200) : Int) = (n : Int) from by omega] at hH
    have hH : zH s0 s1 G as0 (dW ad G (va_up (va_up F 14 ((un : Int) - 1)) 200 ((n : Int))) Ar kp pl (dPool G pr pa pm pf L)) H locs := hH
    refine z_same (z_runV hC hH.2.2 hl.1 hH.1 hH.2.1 0 (As := []) (rest := []) (m_X1_begins lau s0 G _ ad (va_up (va_up F 14 ((un : Int) - 1)) 200 ((n : Int))) Ar kp pl (dPool G pr pa pm pf L) (n : Int) (Ar 201) (Ar 202) ) (lw_V q807 q809 qs21 q89 q810) ⟨rfl, by decide, by decide, by decide +kernel⟩ (q0 := 0) (ci := 1) rfl rfl rfl rfl (Nat.le_of_ble_eq_true rfl) ⟨Nat.le_of_ble_eq_true rfl, Nat.le_of_ble_eq_true rfl⟩ ⟨Nat.le_of_ble_eq_true rfl, Nat.le_of_ble_eq_true rfl⟩ dX1_undo_20) hH (fun _ H locs hpost hH => ?_)
    have hH : zH s0 s1 G as0 (dW ad G (va_up (va_up (va_up F 14 ((un : Int) - 1)) 200 ((n : Int))) 203 ((n : Int))) (va_up (va_up Ar 204 (Ar 201)) 205 (Ar 202)) kp pl (dPool G pr pa pm pf L)) H locs := hH
    refine z_st (st' := []) rfl ?_
    refine z_aload_n hC 23 hl dX1_undo_23 rfl 0 rfl ?_
    refine zp_get (v := .ref (ad 200)) hC (va_P_l hH.1) 24 in_X1 rfl 4 (by decide) q210 0 rfl (rfl) dX1_undo_24 ?_
    refine z_aload_n hC 27 hl dX1_undo_27 rfl 0 rfl ?_
    refine zp_get (v := .ref (ad 13)) hC (va_P_l hH.1) 28 in_X1 rfl 13 (by decide) q223 0 rfl (rfl) dX1_undo_28 ?_
    refine z_aload_n hC 31 hl dX1_undo_31 rfl 0 rfl ?_
    refine zp_get (v := .int (iZ ((un : Int) - 1))) hC (va_P_l hH.1) 32 in_X1 rfl 14 (by decide) q224 0 rfl (rfl) dX1_undo_32 ?_
    refine zp_aldq (CN := RX2) (v := .ref (ad (kp (un - 1)))) hC (va_P_l hH.1) 35 3 4 (un - 1) rfl rfl (by decide) (by omega) (by omega) rfl dX1_undo_35 ?_
    obtain ⟨i9, hi9, e9⟩ : ∃ i, i < 12 ∧ kp (un - 1) = 209 + 3 * i := by exact hkt.1 _ (by omega)
    refine z_st (st' := [.ref (ad (209 + 3 * i9)), .ref (ad 200)]) (by rw [e9]) ?_
    refine z_sub (z_runV (wc := (rw3 G (ad 200) (ad (200 + 1)) (ad (200 + 2)) ((va_up (va_up (va_up F 14 ((un : Int) - 1)) 200 ((n : Int))) 203 ((n : Int))) 200) ((va_up (va_up Ar 204 (Ar 201)) 205 (Ar 202)) (200 + 1)) ((va_up (va_up Ar 204 (Ar 201)) 205 (Ar 202)) (200 + 2)) ++ rw3 G (ad (209 + 3 * i9)) (ad ((209 + 3 * i9) + 1)) (ad ((209 + 3 * i9) + 2)) ((va_up (va_up (va_up F 14 ((un : Int) - 1)) 200 ((n : Int))) 203 ((n : Int))) (209 + 3 * i9)) ((va_up (va_up Ar 204 (Ar 201)) 205 (Ar 202)) ((209 + 3 * i9) + 1)) ((va_up (va_up Ar 204 (Ar 201)) 205 (Ar 202)) ((209 + 3 * i9) + 2)))) hC hH.2.2 hl.1 (z_subP hH.1 (likeKs2 i9 11) (setL_sk_k hi9)) (z_subD hH.2.1 (likeKs2 i9 11) (setL_sk_n hi9) (setL_sk_k hi9)) 1 (As := [.ref (ad (209 + 3 * i9))]) (rest := []) (m_X2_like lau s0 G _ (ad 200) (ad (200 + 1)) (ad (200 + 2)) ((va_up (va_up (va_up F 14 ((un : Int) - 1)) 200 ((n : Int))) 203 ((n : Int))) 200) ((va_up (va_up Ar 204 (Ar 201)) 205 (Ar 202)) (200 + 1)) ((va_up (va_up Ar 204 (Ar 201)) 205 (Ar 202)) (200 + 2)) (ad (209 + 3 * i9)) (ad ((209 + 3 * i9) + 1)) (ad ((209 + 3 * i9) + 2)) ((va_up (va_up (va_up F 14 ((un : Int) - 1)) 200 ((n : Int))) 203 ((n : Int))) (209 + 3 * i9)) ((va_up (va_up Ar 204 (Ar 201)) 205 (Ar 202)) ((209 + 3 * i9) + 1)) ((va_up (va_up Ar 204 (Ar 201)) 205 (Ar 202)) ((209 + 3 * i9) + 2))) (lw_V q690 q691 q692 q90 q693) ⟨rfl, by decide, by decide, by decide +kernel⟩ (q0 := 0) (ci := 2) rfl rfl rfl rfl (Nat.le_of_ble_eq_true rfl) ⟨Nat.le_of_ble_eq_true rfl, Nat.le_of_ble_eq_true rfl⟩ ⟨by first | decide | omega, by first | decide | omega⟩ dX1_undo_36) hH (likeKs2 i9 11) (setL_sk_k hi9) (setL_sk_n hi9) (fun _ => rfl) (fun _ H locs hpost hH => ?_)
    rw [setL_sk_w hi9] at hH
    refine z_st (st' := [.ref (ad 200)]) rfl ?_
    generalize hbF : (va_up (va_up (va_up (va_up F 14 ((un : Int) - 1)) 200 ((n : Int))) 203 ((n : Int))) 200 ((va_up (va_up (va_up F 14 ((un : Int) - 1)) 200 ((n : Int))) 203 ((n : Int))) (209 + 3 * i9))) = F9 at hH
    generalize hbA : (va_up (va_up (va_up (va_up Ar 204 (Ar 201)) 205 (Ar 202)) (200 + 1) ((va_up (va_up Ar 204 (Ar 201)) 205 (Ar 202)) ((209 + 3 * i9) + 1))) (200 + 2) ((va_up (va_up Ar 204 (Ar 201)) 205 (Ar 202)) ((209 + 3 * i9) + 2))) = A9 at hH
    have hpu := hPD (un - 1) (by omega)
    have hgk := kp_ge hkt (show un - 1 < 12 by omega)
    have hFn9 : F9 200 = (hm (un - 1) : Int) := (congrFun hbF.symm 200).trans (by show ((va_up (va_up (va_up F 14 ((un : Int) - 1)) 200 ((n : Int))) 203 ((n : Int))) (209 + 3 * i9)) = _; rw [← e9]; (repeat rw [va_up_ne _ _ (by omega)]); exact hpu.1)
    have hAv9 : ∀ i, i < hm (un - 1) → A9 201 i = (hvv (un - 1) i : Int) := fun i hi => (congrFun (congrFun hbA.symm 201) i).trans (by show ((va_up (va_up Ar 204 (Ar 201)) 205 (Ar 202)) (209 + 3 * i9 + 1)) i = _; rw [← e9]; (repeat rw [va_up_ne _ _ (by omega)]); exact (hpu.2.2 i hi).1)
    have hAw9 : ∀ i, i < hm (un - 1) → A9 202 i = (hww (un - 1) i : Int) := fun i hi => (congrFun (congrFun hbA.symm 202) i).trans (by show ((va_up (va_up Ar 204 (Ar 201)) 205 (Ar 202)) (209 + 3 * i9 + 2)) i = _; rw [← e9]; (repeat rw [va_up_ne _ _ (by omega)]); exact (hpu.2.2 i hi).2.1)
    have hFn29 : F9 203 = (n : Int) := congrFun hbF.symm 203
    have hAv29 : ∀ i, i < n → A9 204 i = (v i : Int) := fun i hi => (congrFun (congrFun hbA.symm 204) i).trans (hAv i hi)
    have h14 : F9 14 = ((un - 1 : Nat) : Int) := (congrFun hbF.symm 14).trans (show (un : Int) - 1 = ((un - 1 : Nat) : Int) by omega)
    have hFb9 : F9 7 = (b : Int) := (congrFun hbF.symm 7).trans hFb
    have hFt9 : F9 8 = (t : Int) := (congrFun hbF.symm 8).trans hFt
    have hmo9 : ∀ i j, i ≤ j → b * j < n → A9 12 (60 * i + j) = (md v (b * i) (bEnd b j n) t : Int) := fun i j h1 h2 => (congrFun (congrFun hbA.symm 12) _).trans (hmo i j h1 h2)
    have hv9 : ∀ i, i < hm (un - 1) → hvv (un - 1) i < 1000 := fun i hi => (hpu.2.2 i hi).2.2.1
    have hwt9 : ∀ i, i < hm (un - 1) → 1 ≤ hww (un - 1) i ∧ hww (un - 1) i ≤ 9 := fun i hi => (hpu.2.2 i hi).2.2.2
    have hPD9 : PASTD (un - 1) kp F9 A9 hm hvv hww := PASTD_cg (fun k hk => hPD k (by omega)) (fun k hk => by have := (kp_ge hkt (show k < 12 by omega)).1; rw [← hbF]; (repeat rw [va_up_ne _ _ (by omega)])) (fun k hk => by have := (kp_ge hkt (show k < 12 by omega)).1; constructor <;> (rw [← hbA]; (repeat rw [va_up_ne _ _ (by omega)]))) (fun k hk => ⟨rfl, rfl, rfl⟩)
    have hK9 : EKQ F Ar F9 A9 := by rw [← hbF, ← hbA]; exact ⟨rfl, rfl, rfl, rfl, rfl⟩
    have h169 : A9 16 = zZ := (congrFun hbA.symm 16).trans h16
    have hH : zH s0 s1 G as0 (dW ad G F9 A9 kp pl (dPool G pr pa pm pf L)) H locs := hH
    refine z_pop hC 39 dX1_undo_39 rfl ?_
    refine z_aload_n hC 40 hl dX1_undo_40 rfl 0 rfl ?_
    refine z_same (z_runV hC hH.2.2 hl.1 hH.1 hH.2.1 0 (As := []) (rest := []) (m_X1_refreshes lau s0 G _ ad F9 A9 kp pl (dPool G pr pa pm pf L) L pr pa pm pf nw (hm (un - 1)) (hvv (un - 1)) n v b t (A9 12) (by exact hpu.2.1) (by exact hFn9) (by exact hv9) (by exact hAv9) (by exact hn) (by exact hFn29) (by exact hv) (by exact hAv29) (by first | exact hb | assumption | omega) (by exact hFb9) (by first | exact ht | assumption | omega) (by exact hFt9) (by first | exact hS | assumption | omega) (by first | exact hnw | assumption | omega) (by exact hmo9)) (lw_V q823 q825 qs24 q89 q826) ⟨rfl, by decide, by decide, by decide +kernel⟩ (q0 := 0) (ci := 1) rfl rfl rfl rfl (Nat.le_of_ble_eq_true rfl) ⟨Nat.le_of_ble_eq_true rfl, Nat.le_of_ble_eq_true rfl⟩ ⟨by first | decide | omega, by first | decide | omega⟩ dX1_undo_41) hH (fun u_ H locs hpost hH => ?_)
    obtain ⟨L2_41, pl2_41, pr2_41, pa2_41, pm2_41, pf2_41, a2_41⟩ := u_
    obtain ⟨pS_41, pc_41, pm_41⟩ : (PLS s0 G nw L2_41 pl2_41 pr2_41 pa2_41 pm2_41 pf2_41) ∧ (∀ y, y < 1000 → PlC (hm (un - 1)) (hvv (un - 1)) y (pm2_41 y) (pf2_41 y)) ∧ (∀ i j, i ≤ j → b * j < (hm (un - 1)) → a2_41 (60 * i + j) = (md (hvv (un - 1)) (b * i) (bEnd b j (hm (un - 1))) t : Int)) := hpost
    have hH : zH s0 s1 G as0 (dW ad G (va_up F9 9 (((frs b n v (hm (un - 1)) (hvv (un - 1)) : Nat) : Int))) (va_up A9 12 a2_41) kp pl2_41 (dPool G pr2_41 pa2_41 pm2_41 pf2_41 L2_41)) H locs := hH
    refine z_st (st' := []) rfl ?_
    refine z_aload_n hC 44 hl dX1_undo_44 rfl 0 rfl ?_
    refine zp_get (v := .int (iZ (((un - 1 : Nat) : Int)))) hC (va_P_l hH.1) 45 in_X1 rfl 14 (by decide) q224 0 rfl (by rw [← h14]; rfl) dX1_undo_45 ?_
    -- R48.1
    exact z_iret hC hH hQ 48 ((((un - 1 : Nat) : Int), (hm (un - 1)), (hvv (un - 1)), (hww (un - 1)), (un - 1), ((frs b n v (hm (un - 1)) (hvv (un - 1)) : Nat) : Int), L2_41, pl2_41, pr2_41, pa2_41, pm2_41, pf2_41, (va_up F9 9 (((frs b n v (hm (un - 1)) (hvv (un - 1)) : Nat) : Int))), (va_up A9 12 a2_41))) dX1_undo_48 rfl ⟨by (unfold Sp_undo; rw [if_neg (by omega)]; exact ⟨by omega, rfl, rfl, rfl, rfl, rfl⟩), by exact ⟨⟨hpu.2.1, hFn9, hv9, hAv9, hwt9, hAw9⟩, ⟨hb, hFb9, ht, hFt9⟩, ⟨by omega, h14, hkt, PASTD_cg hPD9 (fun k hk => va_up_ne _ _ (by have := (kp_ge hkt (show k < 12 by omega)).1; omega)) (fun k hk => by have := (kp_ge hkt (show k < 12 by omega)).1; exact ⟨va_up_ne _ _ (by omega), va_up_ne _ _ (by omega)⟩) (fun k hk => ⟨rfl, rfl, rfl⟩)⟩, ⟨pS_41, pc_41⟩, pm_41, rfl, h169⟩, by exact hK9⟩ rfl (by first | decide | omega) (by first | decide | omega)
  · -- 4f
    refine z_iconst hC 7 dX1_undo_7 ?_
    -- R8.2
    exact z_iret hC hH hQ 8 (((-1), n, v, wt, un, fr, L, pl, pr, pa, pm, pf, F, Ar)) dX1_undo_8 rfl ⟨by (unfold Sp_undo; rw [if_pos (by omega)]; exact ⟨rfl, rfl, rfl, rfl, by omega, rfl⟩), by exact hD, by exact ⟨rfl, rfl, rfl, rfl, rfl⟩⟩ rfl (by first | decide | omega) (by first | decide | omega)
