/-! methods of ModeDesk: 36.db -/
set_option maxHeartbeats 4000000 in
set_option maxRecDepth 100000 in
theorem u_X1_isSpan (lau : Launch) (s0 : State) (G : zG) (ad : Nat → Nat) (F : Nat → Int) (Ar : Nat → Nat → Int) (kp : Nat → Nat) (pl : Nat → Option Nat) (n : Nat) (l : Int) (r : Int) (hn : n ≤ 120) (hFn : F 200 = (n : Int)) (hr_l : -2147483648 ≤ l ∧ l < 2147483648) (hr_r : -2147483648 ≤ r ∧ r < 2147483648) : zPur (S := Int) lau yX1_isSpan cX1_isSpan 3 (some .boolean) 0 0 s0 G [.ref (ad 99), .int (iZ (l)), .int (iZ (r))] (dW0 ad G F Ar kp pl) (fun (r_ : Int) => some (.int (iZ r_))) (fun (r_ : Int) => ((r_ = 1 ∧ (0 ≤ l ∧ l ≤ r ∧ r < (n : Int))) ∨ (r_ = 0 ∧ ¬ (0 ≤ l ∧ l ≤ r ∧ r < (n : Int))))) := by
  refine zPur.of (by decide) (Nat.le_of_ble_eq_true rfl) ?_
  intro pg ev s1 mi ar bl me cd ls Q hC hP hl hQ
  have hl : lv_has ls 3 [(0, .ref (ad 99)), (1, .int (iZ (l))), (2, .int (iZ (r)))] := hl
  refine z_iload_n hC 0 hl dX1_isSpan_0 rfl 1 rfl ?_
  refine z_if_lt hC 1 24 dX1_isSpan_1 rfl (by omega) (fun hb1 => ?_) (fun hb1 => ?_)
  · -- 1t
    refine z_iconst hC 24 dX1_isSpan_24 ?_
    -- R25.1
    exact zp_zret hC hQ 25 (0) dX1_isSpan_25 (by rfl) rfl (Or.inr ⟨rfl, by first | assumption | omega⟩)
  · -- 1f
    refine z_iload_n hC 4 hl dX1_isSpan_4 rfl 1 rfl ?_
    refine z_iload_n hC 5 hl dX1_isSpan_5 rfl 2 rfl ?_
    refine z_icmp_gt hC 6 24 dX1_isSpan_6 rfl (by omega) (by omega) (fun hb2 => ?_) (fun hb2 => ?_)
    · -- 6t
      refine z_iconst hC 24 dX1_isSpan_24 ?_
      -- R25.2
      exact zp_zret hC hQ 25 (0) dX1_isSpan_25 (by rfl) rfl (Or.inr ⟨rfl, by first | assumption | omega⟩)
    · -- 6f
      refine z_iload_n hC 9 hl dX1_isSpan_9 rfl 2 rfl ?_
      refine z_aload_n hC 10 hl dX1_isSpan_10 rfl 0 rfl ?_
      refine zp_get (v := .ref (ad 200)) hC hP 11 in_X1 rfl 4 (by decide) q210 0 rfl (rfl) dX1_isSpan_11 ?_
      refine zp_getN (v := .int (iZ ((n : Int)))) hC hP 14 in_X2 rfl 2 (by decide) q149 11 rfl (by rw [← hFn]; rfl) dX1_isSpan_14 ?_
      refine z_icmp_ge hC 17 24 dX1_isSpan_17 rfl (by omega) (by omega) (fun hb3 => ?_) (fun hb3 => ?_)
      · -- 17t
        refine z_iconst hC 24 dX1_isSpan_24 ?_
        -- R25.3
        exact zp_zret hC hQ 25 (0) dX1_isSpan_25 (by rfl) rfl (Or.inr ⟨rfl, by first | assumption | omega⟩)
      · -- 17f
        refine z_iconst hC 20 dX1_isSpan_20 ?_
        refine z_goto hC 21 25 dX1_isSpan_21 rfl ?_
        -- R25.4
        exact zp_zret hC hQ 25 (1) dX1_isSpan_25 (by rfl) rfl (Or.inl ⟨rfl, by first | assumption | omega⟩)

set_option maxHeartbeats 4000000 in
set_option maxRecDepth 100000 in
theorem u_X1_isPlace (lau : Launch) (s0 : State) (G : zG) (ad : Nat → Nat) (F : Nat → Int) (Ar : Nat → Nat → Int) (kp : Nat → Nat) (pl : Nat → Option Nat) (n : Nat) (q : Int) (hn : n ≤ 120) (hFn : F 200 = (n : Int)) (hr_q : -2147483648 ≤ q ∧ q < 2147483648) : zPur (S := Int) lau yX1_isPlace cX1_isPlace 2 (some .boolean) 1 25 s0 G [.ref (ad 99), .int (iZ (q))] (dW0 ad G F Ar kp pl) (fun (r_ : Int) => some (.int (iZ r_))) (fun (r_ : Int) => ((r_ = 1 ∧ (0 ≤ q ∧ q < (n : Int))) ∨ (r_ = 0 ∧ ¬ (0 ≤ q ∧ q < (n : Int))))) := by
  refine zPur.of (by decide) (Nat.le_of_ble_eq_true rfl) ?_
  intro pg ev s1 mi ar bl me cd ls Q hC hP hl hQ
  have hl : lv_has ls 2 [(0, .ref (ad 99)), (1, .int (iZ (q)))] := hl
  refine z_iload_n hC 0 hl dX1_isPlace_0 rfl 1 rfl ?_
  refine z_i2l hC 1 dX1_isPlace_1 (by omega) ?_
  refine z_lconst (a := 0) hC 2 dX1_isPlace_2 rfl ?_
  refine z_aload_n hC 3 hl dX1_isPlace_3 rfl 0 rfl ?_
  refine zp_get (v := .ref (ad 200)) hC hP 4 in_X1 rfl 4 (by decide) q210 0 rfl (rfl) dX1_isPlace_4 ?_
  refine zp_getN (v := .int (iZ ((n : Int)))) hC hP 7 in_X2 rfl 2 (by decide) q149 11 rfl (by rw [← hFn]; rfl) dX1_isPlace_7 ?_
  refine z_iconst hC 10 dX1_isPlace_10 ?_
  refine z_isub (e := (n : Int) - 1) hC 11 dX1_isPlace_11 rfl ?_
  refine z_i2l hC 12 dX1_isPlace_12 (by omega) ?_
  refine z_st (st' := [.long (lZ (((n : Int) - 1))), .long (lZ (0)), .long (lZ (q))]) (zcons (zleq (by omega)) (zcons rfl (zcons rfl rfl))) ?_
  refine zp_back (zp_runS hC (zS0) hl.1 (zp_nil) 3 (As := [.long (lZ (q)), .long (lZ (0)), .long (lZ (((n : Int) - 1)))]) (rest := []) (u_X1_isIn lau s0 G q 0 ((n : Int) - 1) (by first | assumption | omega) (by first | assumption | omega) (by first | assumption | omega)) (lw_S q303 q304 q89 q305) ⟨by decide, by decide, by decide +kernel⟩ rfl rfl (Nat.le_of_ble_eq_true rfl) ⟨Nat.le_of_ble_eq_true rfl, Nat.le_of_ble_eq_true rfl⟩ ⟨by first | decide | omega, by first | decide | omega⟩ dX1_isPlace_13) (fun r_13 hpost => ?_)
  have hb_13 : (r_13 = 1 ∧ ((0 : Int) ≤ q ∧ q ≤ ((n : Int) - 1))) ∨ (r_13 = 0 ∧ ¬ ((0 : Int) ≤ q ∧ q ≤ ((n : Int) - 1))) := hpost
  refine z_st (st' := [.int (iZ (r_13))]) rfl ?_
  -- R16.1
  exact zp_zret hC hQ 16 (r_13) dX1_isPlace_16 (zbool2 (by omega)) rfl (by first | assumption | omega)

set_option maxHeartbeats 4000000 in
set_option maxRecDepth 100000 in
theorem u_X1_blocks (lau : Launch) (s0 : State) (G : zG) (ad : Nat → Nat) (F : Nat → Int) (Ar : Nat → Nat → Int) (kp : Nat → Nat) (pl : Nat → Option Nat) (n : Nat) (b : Nat) (hn : n ≤ 120) (hFn : F 200 = (n : Int)) (hb : 2 ≤ b ∧ b ≤ 20) (hFb : F 7 = (b : Int)) : zPur (S := Unit) lau yX1_blocks cX1_blocks 1 (some .int) 0 0 s0 G [.ref (ad 99)] (dW0 ad G F Ar kp pl) (fun (_ : Unit) => some (.int (iZ (((zdiv (n + b - 1) b : Nat) : Int))))) (fun (_ : Unit) => True) := by
  refine zPur.of (by decide) (Nat.le_of_ble_eq_true rfl) ?_
  intro pg ev s1 mi ar bl me cd ls Q hC hP hl hQ
  have hl : lv_has ls 1 [(0, .ref (ad 99))] := hl
  refine z_aload_n hC 0 hl dX1_blocks_0 rfl 0 rfl ?_
  refine zp_get (v := .ref (ad 200)) hC hP 1 in_X1 rfl 4 (by decide) q210 0 rfl (rfl) dX1_blocks_1 ?_
  refine zp_getN (v := .int (iZ ((n : Int)))) hC hP 4 in_X2 rfl 2 (by decide) q149 11 rfl (by rw [← hFn]; rfl) dX1_blocks_4 ?_
  refine z_aload_n hC 7 hl dX1_blocks_7 rfl 0 rfl ?_
  refine zp_get (v := .int (iZ ((b : Int)))) hC hP 8 in_X1 rfl 7 (by decide) q216 0 rfl (by rw [← hFb]; rfl) dX1_blocks_8 ?_
  refine z_iadd (e := (n : Int) + (b : Int)) hC 11 dX1_blocks_11 rfl ?_
  refine z_iconst hC 12 dX1_blocks_12 ?_
  refine z_isub (e := (n : Int) + (b : Int) - 1) hC 13 dX1_blocks_13 rfl ?_
  refine z_aload_n hC 14 hl dX1_blocks_14 rfl 0 rfl ?_
  refine zp_get (v := .int (iZ ((b : Int)))) hC hP 15 in_X1 rfl 7 (by decide) q216 0 rfl (by rw [← hFb]; rfl) dX1_blocks_15 ?_
  refine z_idiv hC 18 (n + b - 1) (b) dX1_blocks_18 (by omega) (by omega) (by omega) (by omega) ((zdiv (n + b - 1) b)) rfl ?_
  -- R19.1
  exact zp_iret hC hQ 19 (()) dX1_blocks_19 rfl trivial

set_option maxHeartbeats 4000000 in
set_option maxRecDepth 100000 in
theorem u_X1_firstBlock (lau : Launch) (s0 : State) (G : zG) (ad : Nat → Nat) (F : Nat → Int) (Ar : Nat → Nat → Int) (kp : Nat → Nat) (pl : Nat → Option Nat) (b : Nat) (l : Nat) (hb : 2 ≤ b ∧ b ≤ 20) (hFb : F 7 = (b : Int)) (hl_ : l < 200) : zPur (S := Unit) lau yX1_firstBlock cX1_firstBlock 2 (some .int) 0 0 s0 G [.ref (ad 99), .int (iZ ((l : Int)))] (dW0 ad G F Ar kp pl) (fun (_ : Unit) => some (.int (iZ (((zdiv (l + b - 1) b : Nat) : Int))))) (fun (_ : Unit) => True) := by
  refine zPur.of (by decide) (Nat.le_of_ble_eq_true rfl) ?_
  intro pg ev s1 mi ar bl me cd ls Q hC hP hl hQ
  have hl : lv_has ls 2 [(0, .ref (ad 99)), (1, .int (iZ ((l : Int))))] := hl
  refine z_iload_n hC 0 hl dX1_firstBlock_0 rfl 1 rfl ?_
  refine z_aload_n hC 1 hl dX1_firstBlock_1 rfl 0 rfl ?_
  refine zp_get (v := .int (iZ ((b : Int)))) hC hP 2 in_X1 rfl 7 (by decide) q216 0 rfl (by rw [← hFb]; rfl) dX1_firstBlock_2 ?_
  refine z_iadd (e := (l : Int) + (b : Int)) hC 5 dX1_firstBlock_5 rfl ?_
  refine z_iconst hC 6 dX1_firstBlock_6 ?_
  refine z_isub (e := (l : Int) + (b : Int) - 1) hC 7 dX1_firstBlock_7 rfl ?_
  refine z_aload_n hC 8 hl dX1_firstBlock_8 rfl 0 rfl ?_
  refine zp_get (v := .int (iZ ((b : Int)))) hC hP 9 in_X1 rfl 7 (by decide) q216 0 rfl (by rw [← hFb]; rfl) dX1_firstBlock_9 ?_
  refine z_idiv hC 12 (l + b - 1) (b) dX1_firstBlock_12 (by omega) (by omega) (by omega) (by omega) ((zdiv (l + b - 1) b)) rfl ?_
  -- R13.1
  exact zp_iret hC hQ 13 (()) dX1_firstBlock_13 rfl trivial

set_option maxHeartbeats 4000000 in
set_option maxRecDepth 100000 in
theorem u_X1_firstOf (lau : Launch) (s0 : State) (G : zG) (ad : Nat → Nat) (F : Nat → Int) (Ar : Nat → Nat → Int) (kp : Nat → Nat) (pl : Nat → Option Nat) (pr : Nat → Nat) (pa : Nat → Nat) (pm : Nat → Nat) (pf : Nat → Nat → Nat) (n : Nat) (v : Nat → Nat) (y : Nat) (l : Nat) (nw : Nat) (hn : n ≤ 120) (hv : ∀ i, i < n → v i < 1000) (hpl : ∀ y, y < 1000 → (pl y = some (pr y) ∨ (pl y = none ∧ pr y = nw))) (hnw : zNwh s0 nw) (hpc : ∀ y, y < 1000 → PlC n v y (pm y) (pf y)) (hy : y < 1000) (hln : l ≤ n) (hin : 0 < cnt v l n y) : zPur (S := Unit) lau yX1_firstOf cX1_firstOf 3 (some .int) 1 24 s0 G [.ref (ad 99), .int (iZ ((y : Int))), .int (iZ ((l : Int)))] (dP ad G F Ar kp pl pr pa pm pf) (fun (_ : Unit) => some (.int (iZ (((fsP v l y n : Nat) : Int))))) (fun (_ : Unit) => True) := by
  refine zPur.of (by decide) (Nat.le_of_ble_eq_true rfl) ?_
  intro pg ev s1 mi ar bl me cd ls Q hC hP hl hQ
  have hl : lv_has ls 3 [(0, .ref (ad 99)), (1, .int (iZ ((y : Int)))), (2, .int (iZ ((l : Int))))] := hl
  have hmx := PlC_pos (hpc y hy) hin (Nat.le_refl n)
  refine z_aload_n hC 0 hl dX1_firstOf_0 rfl 0 rfl ?_
  refine z_iload_n hC 1 hl dX1_firstOf_1 rfl 1 rfl ?_
  refine zp_back (zp_runV hC (zS0) hl.1 (dP_l hP) 1 (As := [.int (iZ ((y : Int)))]) (rest := []) (u_X1_of lau s0 G ad F Ar kp pl y (pr y) nw (by first | assumption | omega) (by first | assumption | exact hpl _ (by omega)) (by first | assumption | omega)) (lw_V q736 q738 qs17 q89 q739) ⟨rfl, by decide, by decide, by decide +kernel⟩ (q0 := 0) (ci := 1) rfl rfl rfl rfl (Nat.le_of_ble_eq_true rfl) ⟨Nat.le_of_ble_eq_true rfl, Nat.le_of_ble_eq_true rfl⟩ ⟨by first | decide | omega, by first | decide | omega⟩ dX1_firstOf_2) (fun _ hpost => ?_)
  refine z_st (st' := [.ref ((pr y))]) rfl ?_
  refine zp_getN (v := .ref (pa y)) hC (dP_p hP (y := y) (by omega) (by first | assumption | omega)) 5 in_X10 rfl 0 (by decide) q706 0 rfl (rfl) dX1_firstOf_5 ?_
  refine z_aload_n hC 8 hl dX1_firstOf_8 rfl 0 rfl ?_
  refine z_iload_n hC 9 hl dX1_firstOf_9 rfl 1 rfl ?_
  refine zp_back (zp_runV hC (zS0) hl.1 (dP_l hP) 1 (As := [.int (iZ ((y : Int)))]) (rest := [.ref (pa y)]) (u_X1_of lau s0 G ad F Ar kp pl y (pr y) nw (by first | assumption | omega) (by first | assumption | exact hpl _ (by omega)) (by first | assumption | omega)) (lw_V q736 q738 qs17 q89 q739) ⟨rfl, by decide, by decide, by decide +kernel⟩ (q0 := 0) (ci := 1) rfl rfl rfl rfl (Nat.le_of_ble_eq_true rfl) ⟨Nat.le_of_ble_eq_true rfl, Nat.le_of_ble_eq_true rfl⟩ ⟨by first | decide | omega, by first | decide | omega⟩ dX1_firstOf_10) (fun _ hpost => ?_)
  refine z_st (st' := [.ref ((pr y)), .ref (pa y)]) rfl ?_
  refine z_iload_n hC 13 hl dX1_firstOf_13 rfl 2 rfl ?_
  refine zp_back (zp_runV hC (zS0) hl.1 ((dP_p hP (y := y) (by omega) (by first | assumption | omega))) 1 (As := [.int (iZ ((l : Int)))]) (rest := [.ref (pa y)]) (u_X10_ahead lau s0 G (pr y) (pa (y)) (pm (y)) (pf (y)) n v (y) (l : Int) (by first | assumption | omega) (by exact hpc _ (by omega)) (by first | assumption | omega)) (lw_V q764 q747 q748 q110 q749) ⟨rfl, by decide, by decide, by decide +kernel⟩ (q0 := 0) (ci := 9) rfl rfl rfl rfl (Nat.le_of_ble_eq_true rfl) ⟨Nat.le_of_ble_eq_true rfl, Nat.le_of_ble_eq_true rfl⟩ ⟨by first | decide | omega, by first | decide | omega⟩ dX1_firstOf_14) (fun _ hpost => ?_)
  refine z_st (st' := [.int (iZ (((cnt v 0 (plq (l : Int) n) (y) : Nat) : Int))), .ref (pa y)]) rfl ?_
  have hq1 := qlc_first (hpc y hy) hn hin hln
  refine zp_iald (x := ((pf y ((cnt v 0 (plq (l : Int) n) (y))) : Nat) : Int)) hC (dP_p hP (y := y) (by omega) (by first | assumption | omega)) 17 1 ((cnt v 0 (plq (l : Int) n) (y))) rfl (by decide) (by omega) (by omega) (rfl) dX1_firstOf_17 ?_
  -- R18.1
  refine z_st (st' := [.int (iZ (((fsP v l y n : Nat) : Int)))]) (zcons (zieq (by exact hq1.2.2)) rfl) ?_
  exact zp_iret hC hQ 18 (()) dX1_firstOf_18 rfl trivial

set_option maxHeartbeats 4000000 in
set_option maxRecDepth 100000 in
theorem u_X1_lastOf (lau : Launch) (s0 : State) (G : zG) (ad : Nat → Nat) (F : Nat → Int) (Ar : Nat → Nat → Int) (kp : Nat → Nat) (pl : Nat → Option Nat) (pr : Nat → Nat) (pa : Nat → Nat) (pm : Nat → Nat) (pf : Nat → Nat → Nat) (n : Nat) (v : Nat → Nat) (y : Nat) (r : Nat) (nw : Nat) (hn : n ≤ 120) (hv : ∀ i, i < n → v i < 1000) (hpl : ∀ y, y < 1000 → (pl y = some (pr y) ∨ (pl y = none ∧ pr y = nw))) (hnw : zNwh s0 nw) (hpc : ∀ y, y < 1000 → PlC n v y (pm y) (pf y)) (hy : y < 1000) (hrn : r ≤ n) (hin : 0 < cnt v 0 r y) : zPur (S := Unit) lau yX1_lastOf cX1_lastOf 3 (some .int) 1 24 s0 G [.ref (ad 99), .int (iZ ((y : Int))), .int (iZ ((r : Int) - 1))] (dP ad G F Ar kp pl pr pa pm pf) (fun (_ : Unit) => some (.int (iZ (((lsP v y r : Nat) : Int))))) (fun (_ : Unit) => True) := by
  refine zPur.of (by decide) (Nat.le_of_ble_eq_true rfl) ?_
  intro pg ev s1 mi ar bl me cd ls Q hC hP hl hQ
  have hl : lv_has ls 3 [(0, .ref (ad 99)), (1, .int (iZ ((y : Int)))), (2, .int (iZ ((r : Int) - 1)))] := hl
  have hq1 := qlc_last (hpc y hy) hn hin hrn
  have hmx := PlC_pos (hpc y hy) hin hrn
  refine z_aload_n hC 0 hl dX1_lastOf_0 rfl 0 rfl ?_
  refine z_iload_n hC 1 hl dX1_lastOf_1 rfl 1 rfl ?_
  refine zp_back (zp_runV hC (zS0) hl.1 (dP_l hP) 1 (As := [.int (iZ ((y : Int)))]) (rest := []) (u_X1_of lau s0 G ad F Ar kp pl y (pr y) nw (by first | assumption | omega) (by first | assumption | exact hpl _ (by omega)) (by first | assumption | omega)) (lw_V q736 q738 qs17 q89 q739) ⟨rfl, by decide, by decide, by decide +kernel⟩ (q0 := 0) (ci := 1) rfl rfl rfl rfl (Nat.le_of_ble_eq_true rfl) ⟨Nat.le_of_ble_eq_true rfl, Nat.le_of_ble_eq_true rfl⟩ ⟨by first | decide | omega, by first | decide | omega⟩ dX1_lastOf_2) (fun _ hpost => ?_)
  refine z_st (st' := [.ref ((pr y))]) rfl ?_
  refine zp_getN (v := .ref (pa y)) hC (dP_p hP (y := y) (by omega) (by first | assumption | omega)) 5 in_X10 rfl 0 (by decide) q706 0 rfl (rfl) dX1_lastOf_5 ?_
  refine z_aload_n hC 8 hl dX1_lastOf_8 rfl 0 rfl ?_
  refine z_iload_n hC 9 hl dX1_lastOf_9 rfl 1 rfl ?_
  refine zp_back (zp_runV hC (zS0) hl.1 (dP_l hP) 1 (As := [.int (iZ ((y : Int)))]) (rest := [.ref (pa y)]) (u_X1_of lau s0 G ad F Ar kp pl y (pr y) nw (by first | assumption | omega) (by first | assumption | exact hpl _ (by omega)) (by first | assumption | omega)) (lw_V q736 q738 qs17 q89 q739) ⟨rfl, by decide, by decide, by decide +kernel⟩ (q0 := 0) (ci := 1) rfl rfl rfl rfl (Nat.le_of_ble_eq_true rfl) ⟨Nat.le_of_ble_eq_true rfl, Nat.le_of_ble_eq_true rfl⟩ ⟨by first | decide | omega, by first | decide | omega⟩ dX1_lastOf_10) (fun _ hpost => ?_)
  refine z_st (st' := [.ref ((pr y)), .ref (pa y)]) rfl ?_
  refine z_iload_n hC 13 hl dX1_lastOf_13 rfl 2 rfl ?_
  refine z_iconst hC 14 dX1_lastOf_14 ?_
  refine z_iadd (e := (r : Int)) hC 15 dX1_lastOf_15 (by omega) ?_
  refine zp_back (zp_runV hC (zS0) hl.1 ((dP_p hP (y := y) (by omega) (by first | assumption | omega))) 1 (As := [.int (iZ ((r : Int)))]) (rest := [.ref (pa y)]) (u_X10_ahead lau s0 G (pr y) (pa (y)) (pm (y)) (pf (y)) n v (y) (r : Int) (by first | assumption | omega) (by exact hpc _ (by omega)) (by first | assumption | omega)) (lw_V q764 q747 q748 q110 q749) ⟨rfl, by decide, by decide, by decide +kernel⟩ (q0 := 0) (ci := 9) rfl rfl rfl rfl (Nat.le_of_ble_eq_true rfl) ⟨Nat.le_of_ble_eq_true rfl, Nat.le_of_ble_eq_true rfl⟩ ⟨by first | decide | omega, by first | decide | omega⟩ dX1_lastOf_16) (fun _ hpost => ?_)
  refine z_st (st' := [.int (iZ (((cnt v 0 (plq (r : Int) n) (y) : Nat) : Int))), .ref (pa y)]) rfl ?_
  refine z_iconst hC 19 dX1_lastOf_19 ?_
  refine z_isub (e := ((cnt v 0 (plq (r : Int) n) (y) : Nat) : Int) - 1) hC 20 dX1_lastOf_20 rfl ?_
  refine zp_iald (x := ((pf y ((cnt v 0 (plq (r : Int) n) (y)) - 1) : Nat) : Int)) hC (dP_p hP (y := y) (by omega) (by first | assumption | omega)) 21 1 ((cnt v 0 (plq (r : Int) n) (y)) - 1) rfl (by decide) (by omega) (by omega) (rfl) dX1_lastOf_21 ?_
  -- R22.1
  refine z_st (st' := [.int (iZ (((lsP v y r : Nat) : Int)))]) (zcons (zieq (by exact hq1.2.2.2)) rfl) ?_
  exact zp_iret hC hQ 22 (()) dX1_lastOf_22 rfl trivial

set_option maxHeartbeats 4000000 in
set_option maxRecDepth 100000 in
theorem u_X1_told (lau : Launch) (s0 : State) (G : zG) (ad : Nat → Nat) (F : Nat → Int) (Ar : Nat → Nat → Int) (kp : Nat → Nat) (pl : Nat → Option Nat) (pr : Nat → Nat) (pa : Nat → Nat) (pm : Nat → Nat) (pf : Nat → Nat → Nat) (n : Nat) (v : Nat → Nat) (x : Nat) (l : Nat) (r : Nat) (nw : Nat) (q : Int) (hn : n ≤ 120) (hv : ∀ i, i < n → v i < 1000) (hpl : ∀ y, y < 1000 → (pl y = some (pr y) ∨ (pl y = none ∧ pr y = nw))) (hnw : zNwh s0 nw) (hpc : ∀ y, y < 1000 → PlC n v y (pm y) (pf y)) (hlr : l ≤ r) (hrn : r ≤ n) (hr_q : -2147483648 ≤ q ∧ q < 2147483648) (hx : x < 1000) (px : 0 < cnt v l r x) : zPur (S := Unit) lau yX1_told cX1_told 5 (some .int) 2 46 s0 G [.ref (ad 99), .int (iZ ((x : Int))), .int (iZ ((l : Int))), .int (iZ ((r : Int) - 1)), .int (iZ (q))] (dP ad G F Ar kp pl pr pa pm pf) (fun (_ : Unit) => some (.int (iZ ((toldZ v l r x q))))) (fun (_ : Unit) => True) := by
  refine zPur.of (by decide) (Nat.le_of_ble_eq_true rfl) ?_
  intro pg ev s1 mi ar bl me cd ls Q hC hP hl hQ
  have hl : lv_has ls 5 [(0, .ref (ad 99)), (1, .int (iZ ((x : Int)))), (2, .int (iZ ((l : Int)))), (3, .int (iZ ((r : Int) - 1))), (4, .int (iZ (q)))] := hl
  have hmx := PlC_pos (hpc x hx) px hrn
  have px2 : 0 < cnt v l n x := by have q1 := cnt_mono (v := v) (a := l) (x := x) hrn; omega
  have px3 : 0 < cnt v 0 r x := by have q1 := cnt_split (v := v) (x := x) (Nat.zero_le l) hlr; omega
  refine z_iload hC 0 hl dX1_told_0 4 rfl ?_
  refine z_if_ne hC 2 9 dX1_told_2 rfl (by omega) (fun hb1 => ?_) (fun hb1 => ?_)
  · -- 2t
    refine z_iload hC 9 hl dX1_told_9 4 rfl ?_
    refine z_iconst hC 11 dX1_told_11 ?_
    refine z_icmp_ne hC 12 28 dX1_told_12 rfl (by omega) (by omega) (fun hb2 => ?_) (fun hb2 => ?_)
    · -- 12t
      refine z_iload hC 28 hl dX1_told_28 4 rfl ?_
      refine z_iconst hC 30 dX1_told_30 ?_
      refine z_icmp_ne hC 31 43 dX1_told_31 rfl (by omega) (by omega) (fun hb3 => ?_) (fun hb3 => ?_)
      · -- 31t
        refine z_aload_n hC 43 hl dX1_told_43 rfl 0 rfl ?_
        refine z_iload_n hC 44 hl dX1_told_44 rfl 1 rfl ?_
        refine z_iload_n hC 45 hl dX1_told_45 rfl 3 rfl ?_
        refine zp_back (zp_runV hC (zS0) hl.1 (hP) 2 (As := [.int (iZ ((x : Int))), .int (iZ ((r : Int) - 1))]) (rest := []) (u_X1_lastOf lau s0 G ad F Ar kp pl pr pa pm pf n v x r nw (by first | assumption | omega | (unfold toldZ; simp only [*, if_true, if_false]; omega) | (unfold toldZ; (repeat' split) <;> omega)) (by first | assumption | omega | (unfold toldZ; simp only [*, if_true, if_false]; omega) | (unfold toldZ; (repeat' split) <;> omega)) (by first | assumption | omega | (unfold toldZ; simp only [*, if_true, if_false]; omega) | (unfold toldZ; (repeat' split) <;> omega)) (by first | assumption | omega | (unfold toldZ; simp only [*, if_true, if_false]; omega) | (unfold toldZ; (repeat' split) <;> omega)) (by first | assumption | omega | (unfold toldZ; simp only [*, if_true, if_false]; omega) | (unfold toldZ; (repeat' split) <;> omega)) (by first | assumption | omega | (unfold toldZ; simp only [*, if_true, if_false]; omega) | (unfold toldZ; (repeat' split) <;> omega)) (by first | assumption | omega | (unfold toldZ; simp only [*, if_true, if_false]; omega) | (unfold toldZ; (repeat' split) <;> omega)) (by first | assumption | omega | (unfold toldZ; simp only [*, if_true, if_false]; omega) | (unfold toldZ; (repeat' split) <;> omega))) (lw_V q1046 q773 qs19 q89 q774) ⟨rfl, by decide, by decide, by decide +kernel⟩ (q0 := 0) (ci := 1) rfl rfl rfl rfl (Nat.le_of_ble_eq_true rfl) ⟨Nat.le_of_ble_eq_true rfl, Nat.le_of_ble_eq_true rfl⟩ ⟨by first | decide | omega, by first | decide | omega⟩ dX1_told_46) (fun _ hpost => ?_)
        refine z_st (st' := [.int (iZ (((lsP v x r : Nat) : Int)))]) rfl ?_
        -- R49.1
        refine z_st (st' := [.int (iZ ((toldZ v l r x q)))]) (zcons (zieq (by first | assumption | omega | (unfold toldZ; simp only [*, if_true, if_false]; omega) | (unfold toldZ; (repeat' split) <;> omega))) rfl) ?_
        exact zp_iret hC hQ 49 (()) dX1_told_49 rfl trivial
      · -- 31f
        refine z_aload_n hC 34 hl dX1_told_34 rfl 0 rfl ?_
        refine z_iload_n hC 35 hl dX1_told_35 rfl 1 rfl ?_
        refine z_iload_n hC 36 hl dX1_told_36 rfl 2 rfl ?_
        have hfl := fsP_ext hrn px
        refine zp_back (zp_runV hC (zS0) hl.1 (hP) 2 (As := [.int (iZ ((x : Int))), .int (iZ ((l : Int)))]) (rest := []) (u_X1_firstOf lau s0 G ad F Ar kp pl pr pa pm pf n v x l nw (by first | assumption | omega | (unfold toldZ; simp only [*, if_true, if_false]; omega) | (unfold toldZ; (repeat' split) <;> omega)) (by first | assumption | omega | (unfold toldZ; simp only [*, if_true, if_false]; omega) | (unfold toldZ; (repeat' split) <;> omega)) (by first | assumption | omega | (unfold toldZ; simp only [*, if_true, if_false]; omega) | (unfold toldZ; (repeat' split) <;> omega)) (by first | assumption | omega | (unfold toldZ; simp only [*, if_true, if_false]; omega) | (unfold toldZ; (repeat' split) <;> omega)) (by first | assumption | omega | (unfold toldZ; simp only [*, if_true, if_false]; omega) | (unfold toldZ; (repeat' split) <;> omega)) (by first | assumption | omega | (unfold toldZ; simp only [*, if_true, if_false]; omega) | (unfold toldZ; (repeat' split) <;> omega)) (by first | assumption | omega | (unfold toldZ; simp only [*, if_true, if_false]; omega) | (unfold toldZ; (repeat' split) <;> omega)) (by first | assumption | omega | (unfold toldZ; simp only [*, if_true, if_false]; omega) | (unfold toldZ; (repeat' split) <;> omega))) (lw_V q1045 q762 qs18 q89 q763) ⟨rfl, by decide, by decide, by decide +kernel⟩ (q0 := 0) (ci := 1) rfl rfl rfl rfl (Nat.le_of_ble_eq_true rfl) ⟨Nat.le_of_ble_eq_true rfl, Nat.le_of_ble_eq_true rfl⟩ ⟨by first | decide | omega, by first | decide | omega⟩ dX1_told_37) (fun _ hpost => ?_)
        refine z_st (st' := [.int (iZ (((fsP v l x n : Nat) : Int)))]) rfl ?_
        refine z_goto hC 40 49 dX1_told_40 rfl ?_
        -- R49.2
        refine z_st (st' := [.int (iZ ((toldZ v l r x q)))]) (zcons (zieq (by first | assumption | omega | (unfold toldZ; simp only [*, if_true, if_false]; omega) | (unfold toldZ; (repeat' split) <;> omega))) rfl) ?_
        exact zp_iret hC hQ 49 (()) dX1_told_49 rfl trivial
    · -- 12f
      refine z_aload_n hC 15 hl dX1_told_15 rfl 0 rfl ?_
      refine z_iload_n hC 16 hl dX1_told_16 rfl 1 rfl ?_
      refine zp_back (zp_runV hC (zS0) hl.1 (dP_l hP) 1 (As := [.int (iZ ((x : Int)))]) (rest := []) (u_X1_of lau s0 G ad F Ar kp pl x (pr x) nw (by first | assumption | omega | (unfold toldZ; simp only [*, if_true, if_false]; omega) | (unfold toldZ; (repeat' split) <;> omega)) (by first | assumption | exact hpl _ (by omega)) (by first | assumption | omega | (unfold toldZ; simp only [*, if_true, if_false]; omega) | (unfold toldZ; (repeat' split) <;> omega))) (lw_V q736 q738 qs17 q89 q739) ⟨rfl, by decide, by decide, by decide +kernel⟩ (q0 := 0) (ci := 1) rfl rfl rfl rfl (Nat.le_of_ble_eq_true rfl) ⟨Nat.le_of_ble_eq_true rfl, Nat.le_of_ble_eq_true rfl⟩ ⟨by first | decide | omega, by first | decide | omega⟩ dX1_told_17) (fun _ hpost => ?_)
      refine z_st (st' := [.ref ((pr x))]) rfl ?_
      refine z_iload_n hC 20 hl dX1_told_20 rfl 2 rfl ?_
      refine z_iload_n hC 21 hl dX1_told_21 rfl 3 rfl ?_
      refine zp_back (zp_runV hC (zS0) hl.1 ((dP_p hP (y := x) (by omega) (by first | assumption | omega))) 2 (As := [.int (iZ ((l : Int))), .int (iZ ((r : Int) - 1))]) (rest := []) (u_X10_within lau s0 G (pr x) (pa (x)) (pm (x)) (pf (x)) n v (x) l r (by first | assumption | omega | (unfold toldZ; simp only [*, if_true, if_false]; omega) | (unfold toldZ; (repeat' split) <;> omega)) (by exact hpc _ (by omega)) (by first | assumption | omega | (unfold toldZ; simp only [*, if_true, if_false]; omega) | (unfold toldZ; (repeat' split) <;> omega)) (by first | assumption | omega | (unfold toldZ; simp only [*, if_true, if_false]; omega) | (unfold toldZ; (repeat' split) <;> omega))) (lw_V q742 q743 q744 q110 q745) ⟨rfl, by decide, by decide, by decide +kernel⟩ (q0 := 0) (ci := 9) rfl rfl rfl rfl (Nat.le_of_ble_eq_true rfl) ⟨Nat.le_of_ble_eq_true rfl, Nat.le_of_ble_eq_true rfl⟩ ⟨by first | decide | omega, by first | decide | omega⟩ dX1_told_22) (fun _ hpost => ?_)
      refine z_st (st' := [.int (iZ (((cnt v l r (x) : Nat) : Int)))]) rfl ?_
      refine z_goto hC 25 49 dX1_told_25 rfl ?_
      -- R49.3
      refine z_st (st' := [.int (iZ ((toldZ v l r x q)))]) (zcons (zieq (by first | assumption | omega | (unfold toldZ; simp only [*, if_true, if_false]; omega) | (unfold toldZ; (repeat' split) <;> omega))) rfl) ?_
      exact zp_iret hC hQ 49 (()) dX1_told_49 rfl trivial
  · -- 2f
    refine z_iload_n hC 5 hl dX1_told_5 rfl 1 rfl ?_
    refine z_goto hC 6 49 dX1_told_6 rfl ?_
    -- R49.4
    refine z_st (st' := [.int (iZ ((toldZ v l r x q)))]) (zcons (zieq (by first | assumption | omega | (unfold toldZ; simp only [*, if_true, if_false]; omega) | (unfold toldZ; (repeat' split) <;> omega))) rfl) ?_
    exact zp_iret hC hQ 49 (()) dX1_told_49 rfl trivial
