/-! methods of ModeDesk that write: 61.ea -/
set_option maxHeartbeats 4000000 in
set_option maxRecDepth 100000 in
theorem m_X1_looks (lau : Launch) (s0 : State) (G : zG) (sz : Nat) (ad : Nat → Nat) (F : Nat → Int) (Ar : Nat → Nat → Int) (kp : Nat → Nat) (pl : Nat → Option Nat) (PW : va_W) (k : Nat) (u : Nat → Nat) (gu : Nat → Int) (x : Nat) (hx : x < 1000) (hk : k ≤ 120) (hk2 : k < 120 ∨ ∃ j, j < k ∧ u j = x) : zMet (S := Nat × (Nat → Nat)) lau yX1_looks cX1_looks 2 (none) 0 0 0 0 s0 G sz [.ref (ad 99), .int (iZ ((x : Int)))] (dW ad G (va_up F 17 ((k : Int))) (va_up (va_up Ar 15 (cI (k) u gu)) 16 (isl u 0 k)) kp pl PW) (fun ((k2, u2) : Nat × (Nat → Nat)) => (none : Option Value)) (fun ((k2, u2) : Nat × (Nat → Nat)) => (LKS k u x k2 u2)) (fun ((k2, u2) : Nat × (Nat → Nat)) => (dW ad G (va_up F 17 ((k2 : Int))) (va_up (va_up Ar 15 (cI (k2) u2 gu)) 16 (isl u2 0 k2)) kp pl PW)) := by
  refine zMet.of (by decide) (Nat.le_of_ble_eq_true rfl) ?_
  intro pg ev s1 mi ar bl me cd ls Q as0 hC hH hl hQ hsz
  generalize s1.heap = H at hH ⊢
  generalize ([] : List Loc) = locs at hH ⊢
  have hl : lv_has ls 2 [(0, .ref (ad 99)), (1, .int (iZ ((x : Int))))] := hl
  have hil := isl_01 u 0 k x
  refine z_aload_n hC 0 hl dX1_looks_0 rfl 0 rfl ?_
  refine zp_get (v := .ref (ad 16)) hC (va_P_l hH.1) 1 in_X1 rfl 16 (by decide) q226 0 rfl (rfl) dX1_looks_1 ?_
  refine z_iload_n hC 4 hl dX1_looks_4 rfl 1 rfl ?_
  refine zp_zald (f := (isl u 0 k)) (x := ((isl u 0 k) x)) hC (va_P_l hH.1) 5 7 (x) rfl (by decide) (by omega) (by omega) (rfl) dX1_looks_5 ?_
  refine z_if_eq hC 6 10 dX1_looks_6 rfl (by omega) (fun hb1 => ?_) (fun hb1 => ?_)
  · -- 6t
    have hno := isl_0 (u := u) (k := k) (x := x) (by omega)
    have hk3 : k < 120 := hk2.elim (fun q => q) (fun ⟨j, hj, ej⟩ => absurd ej (hno j hj))
    refine z_aload_n hC 10 hl dX1_looks_10 rfl 0 rfl ?_
    refine zp_get (v := .ref (ad 16)) hC (va_P_l hH.1) 11 in_X1 rfl 16 (by decide) q226 0 rfl (rfl) dX1_looks_11 ?_
    refine z_iload_n hC 14 hl dX1_looks_14 rfl 1 rfl ?_
    refine z_iconst hC 15 dX1_looks_15 ?_
    refine sD_16 (f' := (va_up (isl u 0 k) (x) (1))) hC hH 16 (x) (by omega) (by omega) rfl (by omega) dX1_looks_16 (fun H locs hH => ?_)
    have hH : zH s0 s1 G as0 (dW ad G (va_up F 17 ((k : Int))) (va_up (va_up Ar 15 (cI (k) u gu)) 16 (va_up (isl u 0 k) (x) (1))) kp pl PW) H locs := hH
    refine z_aload_n hC 17 hl dX1_looks_17 rfl 0 rfl ?_
    refine zp_get (v := .ref (ad 15)) hC (va_P_l hH.1) 18 in_X1 rfl 15 (by decide) q225 0 rfl (rfl) dX1_looks_18 ?_
    refine z_aload_n hC 21 hl dX1_looks_21 rfl 0 rfl ?_
    refine zp_get (v := .int (iZ ((k : Int)))) hC (va_P_l hH.1) 22 in_X1 rfl 17 (by decide) q227 0 rfl (rfl) dX1_looks_22 ?_
    refine z_iload_n hC 25 hl dX1_looks_25 rfl 1 rfl ?_
    refine sD_15 (f' := (cI (k + 1) (va_up u (k) (x)) gu)) hC hH 26 (k) (by omega) (by omega) (by exact cI_push) dX1_looks_26 (fun H locs hH => ?_)
    have hH : zH s0 s1 G as0 (dW ad G (va_up F 17 ((k : Int))) (va_up (va_up Ar 15 (cI (k + 1) (va_up u (k) (x)) gu)) 16 (va_up (isl u 0 k) (x) (1))) kp pl PW) H locs := hH
    refine z_aload_n hC 27 hl dX1_looks_27 rfl 0 rfl ?_
    refine z_dup hC 28 dX1_looks_28 rfl ?_
    refine zp_get (v := .int (iZ ((k : Int)))) hC (va_P_l hH.1) 29 in_X1 rfl 17 (by decide) q227 0 rfl (rfl) dX1_looks_29 ?_
    refine z_iconst hC 32 dX1_looks_32 ?_
    refine z_iadd (e := (k : Int) + 1) hC 33 dX1_looks_33 rfl ?_
    refine pD_17 hC hH 34 dX1_looks_34 (fun H locs hH => ?_)
    have hH : zH s0 s1 G as0 (dW ad G (va_up F 17 ((k : Int) + 1)) (va_up (va_up Ar 15 (cI (k + 1) (va_up u (k) (x)) gu)) 16 (va_up (isl u 0 k) (x) (1))) kp pl PW) H locs := hH
    have hcv2 : (va_up (isl u 0 k) (x) (1)) = (isl (va_up u k x) 0 (k + 1)) := by exact isl_push
    rw [hcv2] at hH
    have hH : zH s0 s1 G as0 (dW ad G (va_up F 17 ((k : Int) + 1)) (va_up (va_up Ar 15 (cI (k + 1) (va_up u (k) (x)) gu)) 16 (isl (va_up u k x) 0 (k + 1))) kp pl PW) H locs := hH
    -- R37.1
    rw [show ((k : Int) + 1 : Int) = ((k + 1 : Nat) : Int) from by omega] at hH
    have hH : zH s0 s1 G as0 (dW ad G (va_up F 17 (((k + 1 : Nat) : Int))) (va_up (va_up Ar 15 (cI (k + 1) (va_up u (k) (x)) gu)) 16 (isl (va_up u k x) 0 (k + 1))) kp pl PW) H locs := hH
    exact z_vret hC hH hQ 37 (((k + 1), (va_up u (k) (x)))) dX1_looks_37 rfl (by (try dsimp only); exact Or.inr ⟨hno, rfl, rfl⟩) rfl (Nat.le_refl _) (Nat.le_refl _)
  · -- 6f
    have hin := isl_1 (u := u) (k := k) (x := x) (by omega)
    -- R9.2
    exact z_vret hC hH hQ 9 ((k, u)) dX1_looks_9 rfl (by (try dsimp only); exact Or.inl ⟨hin, rfl, rfl⟩) rfl (Nat.le_refl _) (Nat.le_refl _)

set_option maxHeartbeats 4000000 in
set_option maxRecDepth 100000 in
theorem m_X1_looksNoMore (lau : Launch) (s0 : State) (G : zG) (sz : Nat) (ad : Nat → Nat) (F : Nat → Int) (Ar : Nat → Nat → Int) (kp : Nat → Nat) (pl : Nat → Option Nat) (PW : va_W) (k : Nat) (u : Nat → Nat) (gu : Nat → Int) (hk : k ≤ 120) (hu : ∀ j, j < k → u j < 1000) : zMet (S := Unit) lau yX1_looksNoMore cX1_looksNoMore 2 (none) 0 0 0 0 s0 G sz [.ref (ad 99)] (dW ad G (va_up F 17 ((k : Int))) (va_up (va_up Ar 15 (cI (k) u gu)) 16 (isl u 0 k)) kp pl PW) (fun (_ : Unit) => (none : Option Value)) (fun (_ : Unit) => True) (fun (_ : Unit) => (dW ad G (va_up F 17 ((k : Int))) (va_up (va_up Ar 15 (cI (k) u gu)) 16 zZ) kp pl PW)) := by
  refine zMet.of (by decide) (Nat.le_of_ble_eq_true rfl) ?_
  intro pg ev s1 mi ar bl me cd ls Q as0 hC hH hl hQ hsz
  generalize s1.heap = H at hH ⊢
  generalize ([] : List Loc) = locs at hH ⊢
  have hl : lv_has ls 2 [(0, .ref (ad 99))] := hl
  refine z_iconst hC 0 dX1_looksNoMore_0 ?_
  refine z_istore_n (lv' := [(1, .int (iZ (0))), (0, .ref (ad 99))]) hC 1 hl dX1_looksNoMore_1 rfl (by decide) rfl (fun ls hl => ?_)
  have L2 : ∀ (N_ : Nat) (i : Nat) (H : Heap) (locs : List Loc) (ls : Array Slot), k - i < N_ → (i ≤ k) → zH s0 s1 G as0 (dW ad G (va_up F 17 ((k : Int))) (va_up (va_up Ar 15 (cI (k) u gu)) 16 (isl u i k)) kp pl PW) H locs → lv_has ls 2 [(0, .ref (ad 99)), (1, .int (iZ ((i : Int))))] → W pg lau ev (zRm 0 0 0 0) s1 mi ar bl me cd H locs 0 0 Q (F0 mi 2 ls []) := by
    intro N_
    induction N_ with
    | zero => intro i H locs ls hd; exact absurd hd (Nat.not_lt_zero _)
    | succ N_ ih2 =>
      intro i H locs ls hd2 i2_1 hH hl
      refine z_iload_n hC 2 hl dX1_looksNoMore_2 rfl 1 rfl ?_
      refine z_aload_n hC 3 hl dX1_looksNoMore_3 rfl 0 rfl ?_
      refine zp_get (v := .int (iZ ((k : Int)))) hC (va_P_l hH.1) 4 in_X1 rfl 17 (by decide) q227 0 rfl (rfl) dX1_looksNoMore_4 ?_
      refine z_icmp_ge hC 7 28 dX1_looksNoMore_7 rfl (by omega) (by omega) (fun hb1 => ?_) (fun hb1 => ?_)
      · -- 7t
        have hcv2 : (isl u i k) = zZ := by exact isl_end (by omega)
        rw [hcv2] at hH
        have hH : zH s0 s1 G as0 (dW ad G (va_up F 17 ((k : Int))) (va_up (va_up Ar 15 (cI (k) u gu)) 16 zZ) kp pl PW) H locs := hH
        -- R28.1
        exact z_vret hC hH hQ 28 (()) dX1_looksNoMore_28 rfl trivial rfl (Nat.le_refl _) (Nat.le_refl _)
      · -- 7f
        refine z_aload_n hC 10 hl dX1_looksNoMore_10 rfl 0 rfl ?_
        refine zp_get (v := .ref (ad 16)) hC (va_P_l hH.1) 11 in_X1 rfl 16 (by decide) q226 0 rfl (rfl) dX1_looksNoMore_11 ?_
        have hui := hu i (by omega)
        refine z_aload_n hC 14 hl dX1_looksNoMore_14 rfl 0 rfl ?_
        refine zp_get (v := .ref (ad 15)) hC (va_P_l hH.1) 15 in_X1 rfl 15 (by decide) q225 0 rfl (rfl) dX1_looksNoMore_15 ?_
        refine z_iload_n hC 18 hl dX1_looksNoMore_18 rfl 1 rfl ?_
        refine zp_iald (f := (cI (k) u gu)) (x := ((u i : Nat) : Int)) hC (va_P_l hH.1) 19 6 (i) rfl (by decide) (by omega) (by omega) ((cI_lt (by omega))) dX1_looksNoMore_19 ?_
        refine z_iconst hC 20 dX1_looksNoMore_20 ?_
        refine sD_16 (f' := (va_up (isl u i k) ((u i)) (0))) hC hH 21 ((u i)) (by omega) (by omega) rfl (by omega) dX1_looksNoMore_21 (fun H locs hH => ?_)
        have hH : zH s0 s1 G as0 (dW ad G (va_up F 17 ((k : Int))) (va_up (va_up Ar 15 (cI (k) u gu)) 16 (va_up (isl u i k) ((u i)) (0))) kp pl PW) H locs := hH
        have hcv3 : (va_up (isl u i k) ((u i)) (0)) = (isl u (i + 1) k) := by exact isl_pop (by omega)
        rw [hcv3] at hH
        have hH : zH s0 s1 G as0 (dW ad G (va_up F 17 ((k : Int))) (va_up (va_up Ar 15 (cI (k) u gu)) 16 (isl u (i + 1) k)) kp pl PW) H locs := hH
        refine z_iinc (lv' := [(1, .int (iZ ((i : Int) + 1))), (0, .ref (ad 99))]) hC 22 hl dX1_looksNoMore_22 1 rfl (by omega) (by decide) rfl (fun ls hl => ?_)
        refine z_goto hC 25 2 dX1_looksNoMore_25 rfl ?_
        -- J2.2
        exact ih2 (i + 1) _ _ _ (by omega) (by first | assumption | omega) hH (z_lv (lv_sub hl [1, 0] rfl) (zcons rfl (zcons (zpeq (by omega)) rfl)))
  -- J2.3
  exact L2 _ 0 _ _ _ (Nat.lt_succ_self _) (by first | assumption | omega) hH (z_lv (lv_sub hl [1, 0] rfl) (zcons rfl (zcons (zpeq (by omega)) rfl)))

set_option maxHeartbeats 4000000 in
set_option maxRecDepth 100000 in
theorem m_X1_laysAll (lau : Launch) (s0 : State) (G : zG) (sz : Nat) (ad : Nat → Nat) (F : Nat → Int) (Ar : Nat → Nat → Int) (kp : Nat → Nat) (pl : Nat → Option Nat) (PW : va_W) (n : Nat) (v : Nat → Nat) (l : Nat) (r : Nat) (hn : n ≤ 120) (hFn : F 200 = (n : Int)) (hv : ∀ i, i < n → v i < 1000) (hAv : ∀ i, i < n → Ar 201 i = (v i : Int)) (hlr : l ≤ r) (hrn : r ≤ n) : zMet (S := Nat × (Nat → Nat) × (Nat → Int)) lau yX1_laysAll cX1_laysAll 4 (none) 1 21 0 0 s0 G sz [.ref (ad 99), .int (iZ ((l : Int))), .int (iZ ((r : Int) - 1))] (dW ad G F (va_up Ar 16 zZ) kp pl PW) (fun ((k, u, gu) : Nat × (Nat → Nat) × (Nat → Int)) => (none : Option Value)) (fun ((k, u, gu) : Nat × (Nat → Nat) × (Nat → Int)) => (EN v l r k u)) (fun ((k, u, gu) : Nat × (Nat → Nat) × (Nat → Int)) => (dW ad G (va_up F 17 ((k : Int))) (va_up (va_up Ar 15 (cI (k) u gu)) 16 zZ) kp pl PW)) := by
  refine zMet.of (by decide) (Nat.le_of_ble_eq_true rfl) ?_
  intro pg ev s1 mi ar bl me cd ls Q as0 hC hH hl hQ hsz
  generalize s1.heap = H at hH ⊢
  generalize ([] : List Loc) = locs at hH ⊢
  have hl : lv_has ls 4 [(0, .ref (ad 99)), (1, .int (iZ ((l : Int)))), (2, .int (iZ ((r : Int) - 1)))] := hl
  refine z_aload_n hC 0 hl dX1_laysAll_0 rfl 0 rfl ?_
  refine z_iconst hC 1 dX1_laysAll_1 ?_
  refine pD_17 hC hH 2 dX1_laysAll_2 (fun H locs hH => ?_)
  have hH : zH s0 s1 G as0 (dW ad G (va_up F 17 (0)) (va_up Ar 16 zZ) kp pl PW) H locs := hH
  refine z_iload_n hC 5 hl dX1_laysAll_5 rfl 1 rfl ?_
  have hH : zH s0 s1 G as0 (dW ad G (va_up F 17 (0)) (va_up (va_up Ar 15 (Ar 15)) 16 zZ) kp pl PW) H locs := hH
  have hcv1 : (Ar 15) = (cI (0) (fun _ => 0) (Ar 15)) := by exact cI_self (fun p hp => absurd hp (Nat.not_lt_zero _))
  rw [hcv1] at hH
  have hH : zH s0 s1 G as0 (dW ad G (va_up F 17 (0)) (va_up (va_up Ar 15 (cI (0) (fun _ => 0) (Ar 15))) 16 zZ) kp pl PW) H locs := hH
  have hcv2 : zZ = (isl (fun _ => 0) 0 0) := by exact isl_nil
  rw [hcv2] at hH
  have hH : zH s0 s1 G as0 (dW ad G (va_up F 17 (0)) (va_up (va_up Ar 15 (cI (0) (fun _ => 0) (Ar 15))) 16 (isl (fun _ => 0) 0 0)) kp pl PW) H locs := hH
  refine z_istore_n (lv' := [(3, .int (iZ ((l : Int)))), (0, .ref (ad 99)), (1, .int (iZ ((l : Int)))), (2, .int (iZ ((r : Int) - 1)))]) hC 6 hl dX1_laysAll_6 rfl (by decide) rfl (fun ls hl => ?_)
  have L7 : ∀ (N_ : Nat) (p : Nat) (k : Nat) (u : Nat → Nat) (gu : Nat → Int) (H : Heap) (locs : List Loc) (ls : Array Slot), r - p < N_ → (l ≤ p) → (p ≤ r) → (EN v l p k u) → zH s0 s1 G as0 (dW ad G (va_up F 17 ((k : Int))) (va_up (va_up Ar 15 (cI (k) u gu)) 16 (isl u 0 k)) kp pl PW) H locs → lv_has ls 4 [(0, .ref (ad 99)), (1, .int (iZ ((l : Int)))), (2, .int (iZ ((r : Int) - 1))), (3, .int (iZ ((p : Int))))] → W pg lau ev (zRm 1 0 0 21) s1 mi ar bl me cd H locs 0 0 Q (F0 mi 7 ls []) := by
    intro N_
    induction N_ with
    | zero => intro p k u gu H locs ls hd; exact absurd hd (Nat.not_lt_zero _)
    | succ N_ ih7 =>
      intro p k u gu H locs ls hd7 i7_1 i7_2 iE hH hl
      have hK := iE.1
      refine z_iload_n hC 7 hl dX1_laysAll_7 rfl 3 rfl ?_
      refine z_iload_n hC 8 hl dX1_laysAll_8 rfl 2 rfl ?_
      refine z_icmp_gt hC 9 31 dX1_laysAll_9 rfl (by omega) (by omega) (fun hb3 => ?_) (fun hb3 => ?_)
      · -- 9t
        have ep : (p) = r := by omega
        rw [ep] at iE
        have hK := iE.1
        refine z_aload_n hC 31 hl dX1_laysAll_31 rfl 0 rfl ?_
        refine z_same (z_runV hC hH.2.2 hl.1 hH.1 hH.2.1 0 (As := []) (rest := []) (m_X1_looksNoMore lau s0 G _ ad (va_up F 17 ((k : Int))) (va_up (va_up Ar 15 (cI (k) u gu)) 16 (isl u 0 k)) kp pl PW k u gu (by first | assumption | omega) (by exact fun j hj => (iE.2.1 j hj).1)) (lw_V q1009 q1011 qs32 q89 q1012) ⟨rfl, by decide, by decide, by decide +kernel⟩ (q0 := 0) (ci := 1) rfl rfl rfl rfl (Nat.le_of_ble_eq_true rfl) ⟨Nat.le_of_ble_eq_true rfl, Nat.le_of_ble_eq_true rfl⟩ ⟨Nat.le_of_ble_eq_true rfl, Nat.le_of_ble_eq_true rfl⟩ dX1_laysAll_32) hH (fun _ H locs hpost hH => ?_)
        have hH : zH s0 s1 G as0 (dW ad G (va_up F 17 ((k : Int))) (va_up (va_up Ar 15 (cI (k) u gu)) 16 zZ) kp pl PW) H locs := hH
        refine z_st (st' := []) rfl ?_
        -- R35.1
        exact z_vret hC hH hQ 35 ((k, u, gu)) dX1_laysAll_35 rfl (by (try dsimp only); first | assumption | omega) rfl (Nat.le_refl _) (Nat.le_refl _)
      · -- 9f
        have hvp := hv (p) (by omega)
        refine z_aload_n hC 12 hl dX1_laysAll_12 rfl 0 rfl ?_
        refine z_aload_n hC 13 hl dX1_laysAll_13 rfl 0 rfl ?_
        refine zp_get (v := .ref (ad 200)) hC (va_P_l hH.1) 14 in_X1 rfl 4 (by decide) q210 0 rfl (rfl) dX1_laysAll_14 ?_
        refine zp_getN (v := .ref (ad 201)) hC (va_P_l hH.1) 17 in_X2 rfl 0 (by decide) q141 11 rfl (rfl) dX1_laysAll_17 ?_
        refine z_iload_n hC 20 hl dX1_laysAll_20 rfl 3 rfl ?_
        refine zp_iald (f := (Ar 201)) (x := ((v (p) : Nat) : Int)) hC (va_P_l hH.1) 21 12 (p) rfl (by decide) (by omega) (by omega) (hAv (p) (by omega)) dX1_laysAll_21 ?_
        refine z_same (z_runV hC hH.2.2 hl.1 hH.1 hH.2.1 1 (As := [.int (iZ (((v (p) : Nat) : Int)))]) (rest := []) (m_X1_looks lau s0 G _ ad (va_up F 17 ((k : Int))) (va_up (va_up Ar 15 (cI (k) u gu)) 16 (isl u 0 k)) kp pl PW k u gu (v (p)) (by first | assumption | omega) (by first | assumption | omega) (by first | assumption | omega)) (lw_V q1005 q1007 qs31 q89 q1008) ⟨rfl, by decide, by decide, by decide +kernel⟩ (q0 := 0) (ci := 1) rfl rfl rfl rfl (Nat.le_of_ble_eq_true rfl) ⟨Nat.le_of_ble_eq_true rfl, Nat.le_of_ble_eq_true rfl⟩ ⟨Nat.le_of_ble_eq_true rfl, Nat.le_of_ble_eq_true rfl⟩ dX1_laysAll_22) hH (fun u_ H locs hpost hH => ?_)
        obtain ⟨k2_22, u2_22⟩ := u_
        have pL_22 : LKS k u (v (p)) k2_22 u2_22 := hpost
        have hH : zH s0 s1 G as0 (dW ad G (va_up F 17 ((k2_22 : Int))) (va_up (va_up Ar 15 (cI (k2_22) u2_22 gu)) 16 (isl u2_22 0 k2_22)) kp pl PW) H locs := hH
        refine z_st (st' := []) rfl ?_
        refine z_iinc (lv' := [(3, .int (iZ ((p : Int) + 1))), (0, .ref (ad 99)), (1, .int (iZ ((l : Int)))), (2, .int (iZ ((r : Int) - 1)))]) hC 25 hl dX1_laysAll_25 3 rfl (by omega) (by decide) rfl (fun ls hl => ?_)
        refine z_goto hC 28 7 dX1_laysAll_28 rfl ?_
        -- J7.2
        exact ih7 (p + 1) k2_22 u2_22 gu _ _ _ (by omega) (by first | assumption | omega) (by first | assumption | omega) (by first | exact EN_looks iE pL_22 (by omega) hvp | exact EN_lk0 (Nat.le_refl _)) hH (z_lv (lv_sub hl [1, 2, 3, 0] rfl) (zcons rfl (zcons rfl (zcons rfl (zcons (zpeq (by omega)) rfl)))))
  -- J7.3
  exact L7 _ l 0 (fun _ => 0) (Ar 15) _ _ _ (Nat.lt_succ_self _) (by first | assumption | omega) (by first | assumption | omega) (by first | exact EN_looks iE pL_22 (by omega) hvp | exact EN_lk0 (Nat.le_refl _)) (by rw [show (0 : Int) = ((0 : Nat) : Int) from by omega] at hH; exact hH) (lv_sub hl [1, 2, 3, 0] rfl)

set_option maxHeartbeats 4000000 in
set_option maxRecDepth 100000 in
theorem m_X1_bestOf (lau : Launch) (s0 : State) (G : zG) (sz : Nat) (ad : Nat → Nat) (F : Nat → Int) (Ar : Nat → Nat → Int) (kp : Nat → Nat) (pl : Nat → Option Nat) (PW : va_W) (n : Nat) (v : Nat → Nat) (pr : Nat → Nat) (pa : Nat → Nat) (pm : Nat → Nat) (pf : Nat → Nat → Nat) (nw : Nat) (k : Nat) (u : Nat → Nat) (gu : Nat → Int) (l : Nat) (r : Nat) (t : Nat) (hn : n ≤ 120) (hFn : F 200 = (n : Int)) (hpl : ∀ y, y < 1000 → (pl y = some (pr y) ∨ (pl y = none ∧ pr y = nw))) (hnw : zNwh s0 nw) (hpc : ∀ y, y < 1000 → PlC n v y (pm y) (pf y)) (hpp : zPool s0 G PW pr pa pm pf) (hv : ∀ i, i < n → v i < 1000) (hlr : l < r) (hrn : r ≤ n) (ht : t < 4) (hk : k ≤ 120) (hC_ : CAN v l r t k u) : zMet (S := Unit) lau yX1_bestOf cX1_bestOf 6 (some .int) 4 96 0 0 s0 G sz [.ref (ad 99), .int (iZ ((l : Int))), .int (iZ ((r : Int) - 1)), .int (iZ ((t : Int)))] (dW ad G (va_up F 17 ((k : Int))) (va_up Ar 15 (cI (k) u gu)) kp pl PW) (fun (_ : Unit) => some (.int (iZ (((md v l r t : Nat) : Int))))) (fun (_ : Unit) => True) (fun (_ : Unit) => (dW ad G (va_up F 17 ((k : Int))) (va_up Ar 15 (cI (k) u gu)) kp pl PW)) := by
  refine zMet.of (by decide) (Nat.le_of_ble_eq_true rfl) ?_
  intro pg ev s1 mi ar bl me cd ls Q as0 hC hH hl hQ hsz
  generalize s1.heap = H at hH ⊢
  generalize ([] : List Loc) = locs at hH ⊢
  have hl : lv_has ls 6 [(0, .ref (ad 99)), (1, .int (iZ ((l : Int)))), (2, .int (iZ ((r : Int) - 1))), (3, .int (iZ ((t : Int))))] := hl
  have hk0 := CAN_pos hC_
  refine z_aload_n hC 0 hl dX1_bestOf_0 rfl 0 rfl ?_
  refine zp_get (v := .ref (ad 15)) hC (va_P_l hH.1) 1 in_X1 rfl 15 (by decide) q225 0 rfl (rfl) dX1_bestOf_1 ?_
  refine z_iconst hC 4 dX1_bestOf_4 ?_
  refine zp_iald (f := (cI (k) u gu)) (x := ((u 0 : Nat) : Int)) hC (va_P_l hH.1) 5 6 (0) rfl (by decide) (by omega) (by omega) ((cI_lt (by omega))) dX1_bestOf_5 ?_
  refine z_istore (lv' := [(4, .int (iZ (((u 0 : Nat) : Int)))), (0, .ref (ad 99)), (1, .int (iZ ((l : Int)))), (2, .int (iZ ((r : Int) - 1))), (3, .int (iZ ((t : Int))))]) hC 6 hl dX1_bestOf_6 (by decide) rfl (fun ls hl => ?_)
  refine z_iconst hC 8 dX1_bestOf_8 ?_
  refine z_istore (lv' := [(5, .int (iZ (1))), (4, .int (iZ (((u 0 : Nat) : Int)))), (0, .ref (ad 99)), (1, .int (iZ ((l : Int)))), (2, .int (iZ ((r : Int) - 1))), (3, .int (iZ ((t : Int))))]) hC 9 hl dX1_bestOf_9 (by decide) rfl (fun ls hl => ?_)
  have L11 : ∀ (N_ : Nat) (i : Nat) (b : Nat) (H : Heap) (locs : List Loc) (ls : Array Slot), k - i < N_ → (i ≤ k) → (1 ≤ i) → (BST v l r t u i b) → zH s0 s1 G as0 (dW ad G (va_up F 17 ((k : Int))) (va_up Ar 15 (cI (k) u gu)) kp pl PW) H locs → lv_has ls 6 [(0, .ref (ad 99)), (1, .int (iZ ((l : Int)))), (2, .int (iZ ((r : Int) - 1))), (3, .int (iZ ((t : Int)))), (4, .int (iZ ((b : Int)))), (5, .int (iZ ((i : Int))))] → W pg lau ev (zRm 4 0 0 96) s1 mi ar bl me cd H locs 0 0 Q (F0 mi 11 ls []) := by
    intro N_
    induction N_ with
    | zero => intro i b H locs ls hd; exact absurd hd (Nat.not_lt_zero _)
    | succ N_ ih11 =>
      intro i b H locs ls hd11 i11_1 i11_2 ib hH hl
      refine z_iload hC 11 hl dX1_bestOf_11 5 rfl ?_
      refine z_aload_n hC 13 hl dX1_bestOf_13 rfl 0 rfl ?_
      refine zp_get (v := .int (iZ ((k : Int)))) hC (va_P_l hH.1) 14 in_X1 rfl 17 (by decide) q227 0 rfl (rfl) dX1_bestOf_14 ?_
      refine z_icmp_ge hC 17 54 dX1_bestOf_17 rfl (by omega) (by omega) (fun hb1 => ?_) (fun hb1 => ?_)
      · -- 17t
        have ei : (i) = k := by omega
        refine z_iload hC 54 hl dX1_bestOf_54 4 rfl ?_
        -- R56.1
        refine z_st (st' := [.int (iZ (((md v l r t : Nat) : Int)))]) (zcons (zieq (by (have e9 := BST_md (ei ▸ ib) hC_ (fun i hi => hv i (by omega)) hlr; omega))) rfl) ?_
        exact z_iret hC hH hQ 56 (()) dX1_bestOf_56 rfl trivial rfl (Nat.le_refl _) (Nat.le_refl _)
      · -- 17f
        have hui := hC_.1 (i) (by omega)
        have hub : (b) < 1000 ∧ 0 < cnt v l r (b) := by obtain ⟨⟨j9, hj9, ej9⟩, -⟩ := ib; rw [ej9]; exact hC_.1 j9 (by omega)
        refine z_aload_n hC 20 hl dX1_bestOf_20 rfl 0 rfl ?_
        refine z_aload_n hC 21 hl dX1_bestOf_21 rfl 0 rfl ?_
        refine zp_get (v := .ref (ad 15)) hC (va_P_l hH.1) 22 in_X1 rfl 15 (by decide) q225 0 rfl (rfl) dX1_bestOf_22 ?_
        refine z_iload hC 25 hl dX1_bestOf_25 5 rfl ?_
        refine zp_iald (f := (cI (k) u gu)) (x := ((u i : Nat) : Int)) hC (va_P_l hH.1) 27 6 (i) rfl (by decide) (by omega) (by omega) ((cI_lt (by omega))) dX1_bestOf_27 ?_
        refine z_iload hC 28 hl dX1_bestOf_28 4 rfl ?_
        refine z_iload_n hC 30 hl dX1_bestOf_30 rfl 1 rfl ?_
        refine z_iload_n hC 31 hl dX1_bestOf_31 rfl 2 rfl ?_
        refine z_iload_n hC 32 hl dX1_bestOf_32 rfl 3 rfl ?_
        refine zp_back (zp_runV hC (hH.2.2) hl.1 (dP_of hH hpp) 5 (As := [.int (iZ (((u i : Nat) : Int))), .int (iZ ((b : Int))), .int (iZ ((l : Int))), .int (iZ ((r : Int) - 1)), .int (iZ ((t : Int)))]) (rest := []) (u_X1_isAhead lau s0 G ad (va_up F 17 ((k : Int))) (va_up Ar 15 (cI (k) u gu)) kp pl pr pa pm pf n v (u i) b l r t nw (by first | exact hn | assumption | omega) (by first | exact hv | assumption | omega) (by first | exact hpl | assumption | omega) (by first | exact hnw | assumption | omega) (by first | exact hpc | assumption | omega) (by omega) (by first | exact hrn | assumption | omega) (by exact hui.1) (by exact hub.1) (by exact hui.2) (by exact hub.2) (by first | exact ht | assumption | omega)) (lw_V q732 q734 qs16 q89 q735) ⟨rfl, by decide, by decide, by decide +kernel⟩ (q0 := 0) (ci := 1) rfl rfl rfl rfl (Nat.le_of_ble_eq_true rfl) ⟨Nat.le_of_ble_eq_true rfl, Nat.le_of_ble_eq_true rfl⟩ ⟨by first | decide | omega, by first | decide | omega⟩ dX1_bestOf_33) (fun r_33 hpost => ?_)
        have hb_33 : (r_33 = 1 ∧ (ahd v l r t (u i) b)) ∨ (r_33 = 0 ∧ ¬ (ahd v l r t (u i) b)) := hpost
        refine z_st (st' := [.int (iZ (r_33))]) rfl ?_
        rcases hb_33 with ⟨rfl, hb_33⟩ | ⟨rfl, hb_33⟩
        · -- 33=1
          refine z_if_eq_f hC 36 48 dX1_bestOf_36 rfl (by omega) (by omega) ?_
          refine z_aload_n hC 39 hl dX1_bestOf_39 rfl 0 rfl ?_
          refine zp_get (v := .ref (ad 15)) hC (va_P_l hH.1) 40 in_X1 rfl 15 (by decide) q225 0 rfl (rfl) dX1_bestOf_40 ?_
          refine z_iload hC 43 hl dX1_bestOf_43 5 rfl ?_
          refine zp_iald (f := (cI (k) u gu)) (x := ((u i : Nat) : Int)) hC (va_P_l hH.1) 45 6 (i) rfl (by decide) (by omega) (by omega) ((cI_lt (by omega))) dX1_bestOf_45 ?_
          refine z_istore (lv' := [(4, .int (iZ (((u i : Nat) : Int)))), (0, .ref (ad 99)), (1, .int (iZ ((l : Int)))), (2, .int (iZ ((r : Int) - 1))), (3, .int (iZ ((t : Int)))), (5, .int (iZ ((i : Int))))]) hC 46 hl dX1_bestOf_46 (by decide) rfl (fun ls hl => ?_)
          refine z_iinc (lv' := [(5, .int (iZ ((i : Int) + 1))), (4, .int (iZ (((u i : Nat) : Int)))), (0, .ref (ad 99)), (1, .int (iZ ((l : Int)))), (2, .int (iZ ((r : Int) - 1))), (3, .int (iZ ((t : Int))))]) hC 48 hl dX1_bestOf_48 5 rfl (by omega) (by decide) rfl (fun ls hl => ?_)
          refine z_goto hC 51 11 dX1_bestOf_51 rfl ?_
          -- J11.2
          exact ih11 (i + 1) (u i) _ _ _ (by omega) (by first | assumption | omega) (by first | assumption | omega) (by first | assumption | exact BST_1 | exact BST_w ib hb_33 | exact BST_n ib hui.2 hub.2 hb_33) hH (z_lv (lv_sub hl [2, 3, 4, 5, 1, 0] rfl) (zcons rfl (zcons rfl (zcons rfl (zcons rfl (zcons rfl (zcons (zpeq (by omega)) rfl)))))))
        · -- 33=0
          refine z_if_eq_t hC 36 48 dX1_bestOf_36 rfl (by omega) (by omega) ?_
          refine z_iinc (lv' := [(5, .int (iZ ((i : Int) + 1))), (0, .ref (ad 99)), (1, .int (iZ ((l : Int)))), (2, .int (iZ ((r : Int) - 1))), (3, .int (iZ ((t : Int)))), (4, .int (iZ ((b : Int))))]) hC 48 hl dX1_bestOf_48 5 rfl (by omega) (by decide) rfl (fun ls hl => ?_)
          refine z_goto hC 51 11 dX1_bestOf_51 rfl ?_
          -- J11.3
          exact ih11 (i + 1) b _ _ _ (by omega) (by first | assumption | omega) (by first | assumption | omega) (by first | assumption | exact BST_1 | exact BST_w ib hb_33 | exact BST_n ib hui.2 hub.2 hb_33) hH (z_lv (lv_sub hl [1, 2, 3, 4, 5, 0] rfl) (zcons rfl (zcons rfl (zcons rfl (zcons rfl (zcons rfl (zcons (zpeq (by omega)) rfl)))))))
  -- J11.4
  exact L11 _ 1 (u 0) _ _ _ (Nat.lt_succ_self _) (by first | assumption | omega) (by first | assumption | omega) (by first | assumption | exact BST_1 | exact BST_w ib hb_33 | exact BST_n ib hui.2 hub.2 hb_33) hH (z_lv (lv_sub hl [2, 3, 4, 5, 1, 0] rfl) (zcons rfl (zcons rfl (zcons rfl (zcons rfl (zcons rfl (zcons (zpeq (by omega)) rfl)))))))

set_option maxHeartbeats 4000000 in
set_option maxRecDepth 100000 in
theorem m_X1_ranks (lau : Launch) (s0 : State) (G : zG) (sz : Nat) (ad : Nat → Nat) (F : Nat → Int) (Ar : Nat → Nat → Int) (kp : Nat → Nat) (pl : Nat → Option Nat) (PW : va_W) (n : Nat) (v : Nat → Nat) (pr : Nat → Nat) (pa : Nat → Nat) (pm : Nat → Nat) (pf : Nat → Nat → Nat) (nw : Nat) (k : Nat) (u : Nat → Nat) (gu : Nat → Int) (l : Nat) (r : Nat) (t : Nat) (hn : n ≤ 120) (hFn : F 200 = (n : Int)) (hpl : ∀ y, y < 1000 → (pl y = some (pr y) ∨ (pl y = none ∧ pr y = nw))) (hnw : zNwh s0 nw) (hpc : ∀ y, y < 1000 → PlC n v y (pm y) (pf y)) (hpp : zPool s0 G PW pr pa pm pf) (hv : ∀ i, i < n → v i < 1000) (hlr : l < r) (hrn : r ≤ n) (ht : t < 4) (hFt : F 8 = (t : Int)) (hk : k ≤ 120) (hu : ∀ j, j < k → u j < 1000 ∧ 0 < cnt v l r (u j)) (hinj : ∀ a b, a < k → b < k → u a = u b → a = b) (hk0 : 0 < k) : zMet (S := (Nat → Nat)) lau yX1_ranks cX1_ranks 6 (none) 4 96 0 0 s0 G sz [.ref (ad 99), .int (iZ ((l : Int))), .int (iZ ((r : Int) - 1))] (dW ad G (va_up F 17 ((k : Int))) (va_up Ar 15 (cI (k) u gu)) kp pl PW) (fun (w : (Nat → Nat)) => (none : Option Value)) (fun (w : (Nat → Nat)) => (RKS v l r t k u w)) (fun (w : (Nat → Nat)) => (dW ad G (va_up F 17 ((k : Int))) (va_up Ar 15 (cI (k) w gu)) kp pl PW)) := by
  refine zMet.of (by decide) (Nat.le_of_ble_eq_true rfl) ?_
  intro pg ev s1 mi ar bl me cd ls Q as0 hC hH hl hQ hsz
  generalize s1.heap = H at hH ⊢
  generalize ([] : List Loc) = locs at hH ⊢
  have hl : lv_has ls 6 [(0, .ref (ad 99)), (1, .int (iZ ((l : Int)))), (2, .int (iZ ((r : Int) - 1)))] := hl
  refine z_iconst hC 0 dX1_ranks_0 ?_
  refine z_istore_n (lv' := [(3, .int (iZ (1))), (0, .ref (ad 99)), (1, .int (iZ ((l : Int)))), (2, .int (iZ ((r : Int) - 1)))]) hC 1 hl dX1_ranks_1 rfl (by decide) rfl (fun ls hl => ?_)
  have L2 : ∀ (N_ : Nat) (i : Nat) (w : Nat → Nat) (H : Heap) (locs : List Loc) (ls : Array Slot), k + 1 - i < N_ → (1 ≤ i) → (i ≤ k) → (RKS v l r t i u w) → zH s0 s1 G as0 (dW ad G (va_up F 17 ((k : Int))) (va_up Ar 15 (cI (k) w gu)) kp pl PW) H locs → lv_has ls 6 [(0, .ref (ad 99)), (1, .int (iZ ((l : Int)))), (2, .int (iZ ((r : Int) - 1))), (3, .int (iZ ((i : Int))))] → W pg lau ev (zRm 4 0 0 96) s1 mi ar bl me cd H locs 0 0 Q (F0 mi 2 ls []) := by
    intro N_
    induction N_ with
    | zero => intro i w H locs ls hd; exact absurd hd (Nat.not_lt_zero _)
    | succ N_ ih2 =>
      intro i w H locs ls hd2 i2_1 i2_2 iR hH hl
      refine z_iload_n hC 2 hl dX1_ranks_2 rfl 3 rfl ?_
      refine z_aload_n hC 3 hl dX1_ranks_3 rfl 0 rfl ?_
      refine zp_get (v := .int (iZ ((k : Int)))) hC (va_P_l hH.1) 4 in_X1 rfl 17 (by decide) q227 0 rfl (rfl) dX1_ranks_4 ?_
      refine z_icmp_ge hC 7 87 dX1_ranks_7 rfl (by omega) (by omega) (fun hb1 => ?_) (fun hb1 => ?_)
      · -- 7t
        -- R87.1
        exact z_vret hC hH hQ 87 (w) dX1_ranks_87 rfl (by exact (show i = k by omega) ▸ iR) rfl (Nat.le_refl _) (Nat.le_refl _)
      · -- 7f
        have ewi := iR.2.2.2 (i) (Nat.le_refl _)
        have hui : w i < 1000 ∧ 0 < cnt v l r (w i) := by rw [ewi]; exact hu i (by omega)
        refine z_aload_n hC 10 hl dX1_ranks_10 rfl 0 rfl ?_
        refine zp_get (v := .ref (ad 15)) hC (va_P_l hH.1) 11 in_X1 rfl 15 (by decide) q225 0 rfl (rfl) dX1_ranks_11 ?_
        refine z_iload_n hC 14 hl dX1_ranks_14 rfl 3 rfl ?_
        refine zp_iald (f := (cI (k) w gu)) (x := ((w i : Nat) : Int)) hC (va_P_l hH.1) 15 6 (i) rfl (by decide) (by omega) (by omega) ((cI_lt (by omega))) dX1_ranks_15 ?_
        refine z_istore (lv' := [(4, .int (iZ (((w i : Nat) : Int)))), (0, .ref (ad 99)), (1, .int (iZ ((l : Int)))), (2, .int (iZ ((r : Int) - 1))), (3, .int (iZ ((i : Int))))]) hC 16 hl dX1_ranks_16 (by decide) rfl (fun ls hl => ?_)
        refine z_iload_n hC 18 hl dX1_ranks_18 rfl 4 rfl ?_
        have hcv2 : (cI (k) w gu) = (cI (k) (insN w i i) gu) := by rw [insN_0]
        rw [hcv2] at hH
        have hH : zH s0 s1 G as0 (dW ad G (va_up F 17 ((k : Int))) (va_up Ar 15 (cI (k) (insN w i i) gu)) kp pl PW) H locs := hH
        refine z_istore (lv' := [(5, .int (iZ ((i : Int)))), (4, .int (iZ (((w i : Nat) : Int)))), (0, .ref (ad 99)), (1, .int (iZ ((l : Int)))), (2, .int (iZ ((r : Int) - 1))), (3, .int (iZ ((i : Int))))]) hC 19 hl dX1_ranks_19 (by decide) rfl (fun ls hl => ?_)
        have L21 : ∀ (N_ : Nat) (c : Nat) (H : Heap) (locs : List Loc) (ls : Array Slot), c < N_ → (c ≤ i) → (∀ j, c ≤ j → j < i → ahd v l r t (w i) (w j)) → zH s0 s1 G as0 (dW ad G (va_up F 17 ((k : Int))) (va_up Ar 15 (cI (k) (insN w c i) gu)) kp pl PW) H locs → lv_has ls 6 [(0, .ref (ad 99)), (1, .int (iZ ((l : Int)))), (2, .int (iZ ((r : Int) - 1))), (3, .int (iZ ((i : Int)))), (4, .int (iZ (((w i : Nat) : Int)))), (5, .int (iZ ((c : Int))))] → W pg lau ev (zRm 4 0 0 96) s1 mi ar bl me cd H locs 0 0 Q (F0 mi 21 ls []) := by
          intro N_
          induction N_ with
          | zero => intro c H locs ls hd; exact absurd hd (Nat.not_lt_zero _)
          | succ N_ ih21 =>
            intro c H locs ls hd21 hci iB hH hl
            refine z_iload hC 21 hl dX1_ranks_21 5 rfl ?_
            refine z_if_le hC 23 72 dX1_ranks_23 rfl (by omega) (fun hb3 => ?_) (fun hb3 => ?_)
            · -- 23t
              refine z_aload_n hC 72 hl dX1_ranks_72 rfl 0 rfl ?_
              refine zp_get (v := .ref (ad 15)) hC (va_P_l hH.1) 73 in_X1 rfl 15 (by decide) q225 0 rfl (rfl) dX1_ranks_73 ?_
              refine z_iload hC 76 hl dX1_ranks_76 5 rfl ?_
              refine z_iload hC 78 hl dX1_ranks_78 4 rfl ?_
              refine sD_15 (f' := (cI (k) (va_up (insN w c i) (c) ((w i))) gu)) hC hH 80 (c) (by omega) (by omega) (by exact cI_up (by omega)) dX1_ranks_80 (fun H locs hH => ?_)
              have hH : zH s0 s1 G as0 (dW ad G (va_up F 17 ((k : Int))) (va_up Ar 15 (cI (k) (va_up (insN w c i) (c) ((w i))) gu)) kp pl PW) H locs := hH
              refine z_iinc (lv' := [(3, .int (iZ ((i : Int) + 1))), (0, .ref (ad 99)), (1, .int (iZ ((l : Int)))), (2, .int (iZ ((r : Int) - 1))), (4, .int (iZ (((w i : Nat) : Int)))), (5, .int (iZ ((c : Int))))]) hC 81 hl dX1_ranks_81 3 rfl (by omega) (by decide) rfl (fun ls hl => ?_)
              refine z_goto hC 84 2 dX1_ranks_84 rfl ?_
              -- J2.2
              exact ih2 (i + 1) (va_up (insN w c i) (c) ((w i))) _ _ _ (by omega) (by first | assumption | omega) (by first | assumption | omega) (by first | exact RKS_1 | exact RKS_t iR hci (by omega) hu hinj iB (Or.inl (by omega)) | exact RKS_t iR hci (by omega) hu hinj iB (Or.inr (by assumption))) hH (z_lv (lv_sub hl [1, 2, 3, 0] rfl) (zcons rfl (zcons rfl (zcons rfl (zcons (zpeq (by omega)) rfl)))))
            · -- 23f
              have ewc := insN_lt (w := w) (i := i) (show c - 1 ≤ c by omega)
              have huc : insN w c i (c - 1) < 1000 ∧ 0 < cnt v l r (insN w c i (c - 1)) := by obtain ⟨a9, ha9, ea9⟩ := iR.2.1 (c - 1) (by omega); rw [ewc, ea9]; exact hu a9 (by omega)
              refine z_aload_n hC 26 hl dX1_ranks_26 rfl 0 rfl ?_
              refine z_iload hC 27 hl dX1_ranks_27 4 rfl ?_
              refine z_aload_n hC 29 hl dX1_ranks_29 rfl 0 rfl ?_
              refine zp_get (v := .ref (ad 15)) hC (va_P_l hH.1) 30 in_X1 rfl 15 (by decide) q225 0 rfl (rfl) dX1_ranks_30 ?_
              refine z_iload hC 33 hl dX1_ranks_33 5 rfl ?_
              refine z_iconst hC 35 dX1_ranks_35 ?_
              refine z_isub (e := (c : Int) - 1) hC 36 dX1_ranks_36 rfl ?_
              refine zp_iald (f := (cI (k) (insN w c i) gu)) (x := (((insN w c i) (c - 1) : Nat) : Int)) hC (va_P_l hH.1) 37 6 (c - 1) rfl (by decide) (by omega) (by omega) ((cI_lt (by omega))) dX1_ranks_37 ?_
              refine z_iload_n hC 38 hl dX1_ranks_38 rfl 1 rfl ?_
              refine z_iload_n hC 39 hl dX1_ranks_39 rfl 2 rfl ?_
              refine z_aload_n hC 40 hl dX1_ranks_40 rfl 0 rfl ?_
              refine zp_get (v := .int (iZ ((t : Int)))) hC (va_P_l hH.1) 41 in_X1 rfl 8 (by decide) q218 0 rfl (by rw [← hFt]; rfl) dX1_ranks_41 ?_
              refine zp_back (zp_runV hC (hH.2.2) hl.1 (dP_of hH hpp) 5 (As := [.int (iZ (((w i : Nat) : Int))), .int (iZ ((((insN w c i) (c - 1) : Nat) : Int))), .int (iZ ((l : Int))), .int (iZ ((r : Int) - 1)), .int (iZ ((t : Int)))]) (rest := []) (u_X1_isAhead lau s0 G ad (va_up F 17 ((k : Int))) (va_up Ar 15 (cI (k) (insN w c i) gu)) kp pl pr pa pm pf n v (w i) ((insN w c i) (c - 1)) l r t nw (by first | exact hn | assumption | omega) (by first | exact hv | assumption | omega) (by first | exact hpl | assumption | omega) (by first | exact hnw | assumption | omega) (by first | exact hpc | assumption | omega) (by omega) (by first | exact hrn | assumption | omega) (by exact hui.1) (by exact huc.1) (by exact hui.2) (by exact huc.2) (by first | exact ht | assumption | omega)) (lw_V q732 q734 qs16 q89 q735) ⟨rfl, by decide, by decide, by decide +kernel⟩ (q0 := 0) (ci := 1) rfl rfl rfl rfl (Nat.le_of_ble_eq_true rfl) ⟨Nat.le_of_ble_eq_true rfl, Nat.le_of_ble_eq_true rfl⟩ ⟨by first | decide | omega, by first | decide | omega⟩ dX1_ranks_44) (fun r_44 hpost => ?_)
              have hb_44 : (r_44 = 1 ∧ (ahd v l r t (w i) ((insN w c i) (c - 1)))) ∨ (r_44 = 0 ∧ ¬ (ahd v l r t (w i) ((insN w c i) (c - 1)))) := hpost
              refine z_st (st' := [.int (iZ (r_44))]) rfl ?_
              rcases hb_44 with ⟨rfl, hb_44⟩ | ⟨rfl, hb_44⟩
              · -- 44=1
                refine z_if_eq_f hC 47 72 dX1_ranks_47 rfl (by omega) (by omega) ?_
                refine z_aload_n hC 50 hl dX1_ranks_50 rfl 0 rfl ?_
                refine zp_get (v := .ref (ad 15)) hC (va_P_l hH.1) 51 in_X1 rfl 15 (by decide) q225 0 rfl (rfl) dX1_ranks_51 ?_
                refine z_iload hC 54 hl dX1_ranks_54 5 rfl ?_
                refine z_aload_n hC 56 hl dX1_ranks_56 rfl 0 rfl ?_
                refine zp_get (v := .ref (ad 15)) hC (va_P_l hH.1) 57 in_X1 rfl 15 (by decide) q225 0 rfl (rfl) dX1_ranks_57 ?_
                refine z_iload hC 60 hl dX1_ranks_60 5 rfl ?_
                refine z_iconst hC 62 dX1_ranks_62 ?_
                refine z_isub (e := (c : Int) - 1) hC 63 dX1_ranks_63 rfl ?_
                refine zp_iald (f := (cI (k) (insN w c i) gu)) (x := (((insN w c i) (c - 1) : Nat) : Int)) hC (va_P_l hH.1) 64 6 (c - 1) rfl (by decide) (by omega) (by omega) ((cI_lt (by omega))) dX1_ranks_64 ?_
                refine sD_15 (f' := (cI (k) (va_up (insN w c i) (c) (((insN w c i) (c - 1)))) gu)) hC hH 65 (c) (by omega) (by omega) (by exact cI_up (by omega)) dX1_ranks_65 (fun H locs hH => ?_)
                have hH : zH s0 s1 G as0 (dW ad G (va_up F 17 ((k : Int))) (va_up Ar 15 (cI (k) (va_up (insN w c i) (c) (((insN w c i) (c - 1)))) gu)) kp pl PW) H locs := hH
                have hcv4 : (cI (k) (va_up (insN w c i) (c) (((insN w c i) (c - 1)))) gu) = (cI (k) (insN w (c - 1) i) gu) := by rw [insN_s2 (by omega) (by omega)]
                rw [hcv4] at hH
                have hH : zH s0 s1 G as0 (dW ad G (va_up F 17 ((k : Int))) (va_up Ar 15 (cI (k) (insN w (c - 1) i) gu)) kp pl PW) H locs := hH
                refine z_iinc (lv' := [(5, .int (iZ ((c : Int) - 1))), (0, .ref (ad 99)), (1, .int (iZ ((l : Int)))), (2, .int (iZ ((r : Int) - 1))), (3, .int (iZ ((i : Int)))), (4, .int (iZ (((w i : Nat) : Int))))]) hC 66 hl dX1_ranks_66 5 rfl (by omega) (by decide) rfl (fun ls hl => ?_)
                refine z_goto hC 69 21 dX1_ranks_69 rfl ?_
                -- J21.3
                exact ih21 (c - 1) _ _ _ (by omega) (by first | assumption | omega) (by first | (intro j h1 h2; omega) | (intro j h1 h2; by_cases e9 : j = c - 1; (rw [e9, ← ewc]; exact hb_44); exact iB j (by omega) h2)) hH (z_lv (lv_sub hl [1, 2, 3, 4, 5, 0] rfl) (zcons rfl (zcons rfl (zcons rfl (zcons rfl (zcons rfl (zcons (zpeq (by omega)) rfl)))))))
              · -- 44=0
                refine z_if_eq_t hC 47 72 dX1_ranks_47 rfl (by omega) (by omega) ?_
                refine z_aload_n hC 72 hl dX1_ranks_72 rfl 0 rfl ?_
                refine zp_get (v := .ref (ad 15)) hC (va_P_l hH.1) 73 in_X1 rfl 15 (by decide) q225 0 rfl (rfl) dX1_ranks_73 ?_
                refine z_iload hC 76 hl dX1_ranks_76 5 rfl ?_
                refine z_iload hC 78 hl dX1_ranks_78 4 rfl ?_
                refine sD_15 (f' := (cI (k) (va_up (insN w c i) (c) ((w i))) gu)) hC hH 80 (c) (by omega) (by omega) (by exact cI_up (by omega)) dX1_ranks_80 (fun H locs hH => ?_)
                have hH : zH s0 s1 G as0 (dW ad G (va_up F 17 ((k : Int))) (va_up Ar 15 (cI (k) (va_up (insN w c i) (c) ((w i))) gu)) kp pl PW) H locs := hH
                refine z_iinc (lv' := [(3, .int (iZ ((i : Int) + 1))), (0, .ref (ad 99)), (1, .int (iZ ((l : Int)))), (2, .int (iZ ((r : Int) - 1))), (4, .int (iZ (((w i : Nat) : Int)))), (5, .int (iZ ((c : Int))))]) hC 81 hl dX1_ranks_81 3 rfl (by omega) (by decide) rfl (fun ls hl => ?_)
                refine z_goto hC 84 2 dX1_ranks_84 rfl ?_
                -- J2.4
                exact ih2 (i + 1) (va_up (insN w c i) (c) ((w i))) _ _ _ (by omega) (by first | assumption | omega) (by first | assumption | omega) (by first | exact RKS_1 | exact RKS_t iR hci (by omega) hu hinj iB (Or.inl (by omega)) | exact RKS_t iR hci (by omega) hu hinj iB (Or.inr (by assumption))) hH (z_lv (lv_sub hl [1, 2, 3, 0] rfl) (zcons rfl (zcons rfl (zcons rfl (zcons (zpeq (by omega)) rfl)))))
        -- J21.5
        exact L21 _ i _ _ _ (Nat.lt_succ_self _) (by first | assumption | omega) (by first | (intro j h1 h2; omega) | (intro j h1 h2; by_cases e9 : j = c - 1; (rw [e9, ← ewc]; exact hb_44); exact iB j (by omega) h2)) hH (lv_sub hl [2, 3, 4, 5, 1, 0] rfl)
  -- J2.6
  exact L2 _ 1 u _ _ _ (Nat.lt_succ_self _) (by first | assumption | omega) (by first | assumption | omega) (by first | exact RKS_1 | exact RKS_t iR hci (by omega) hu hinj iB (Or.inl (by omega)) | exact RKS_t iR hci (by omega) hu hinj iB (Or.inr (by assumption))) hH (z_lv (lv_sub hl [1, 2, 3, 0] rfl) (zcons rfl (zcons rfl (zcons rfl (zcons (zpeq (by omega)) rfl)))))
