/-! methods of ModeDesk: 45.di -/
set_option maxHeartbeats 4000000 in
set_option maxRecDepth 100000 in
theorem u_X1_refreshed (lau : Launch) (s0 : State) (G : zG) (ad : Nat → Nat) (F : Nat → Int) (Ar : Nat → Nat → Int) (kp : Nat → Nat) (pl : Nat → Option Nat) (z : Int) (hz : F 9 = z) : zPur (S := Unit) lau yX1_refreshed cX1_refreshed 1 (some .int) 0 0 s0 G [.ref (ad 99)] (dW0 ad G F Ar kp pl) (fun (_ : Unit) => some (.int (iZ (z)))) (fun (_ : Unit) => True) := by
  refine zPur.of (by decide) (Nat.le_of_ble_eq_true rfl) ?_
  intro pg ev s1 mi ar bl me cd ls Q hC hP hl hQ
  have hl : lv_has ls 1 [(0, .ref (ad 99))] := hl
  refine z_aload_n hC 0 hl dX1_refreshed_0 rfl 0 rfl ?_
  refine zp_get (v := .int (iZ (z))) hC hP 1 in_X1 rfl 9 (by decide) q219 0 rfl (by rw [← hz]; rfl) dX1_refreshed_1 ?_
  -- R4.1
  exact zp_iret hC hQ 4 (()) dX1_refreshed_4 rfl trivial

set_option maxHeartbeats 4000000 in
set_option maxRecDepth 100000 in
theorem u_X1_fault (lau : Launch) (s0 : State) (G : zG) (ad : Nat → Nat) (F : Nat → Int) (Ar : Nat → Nat → Int) (kp : Nat → Nat) (pl : Nat → Option Nat) (fa : Int) (fp : Int) (q : Int) (hr_q : -2147483648 ≤ q ∧ q < 2147483648) (hfa : F 2 = fa) (hfp : F 3 = fp) : zPur (S := Int) lau yX1_fault cX1_fault 2 (some .int) 0 0 s0 G [.ref (ad 99), .int (iZ (q))] (dW0 ad G F Ar kp pl) (fun (r_ : Int) => some (.int (iZ (r_)))) (fun (r_ : Int) => (r_ = (if q = 0 then fa else if q = 1 then fp else -1))) := by
  refine zPur.of (by decide) (Nat.le_of_ble_eq_true rfl) ?_
  intro pg ev s1 mi ar bl me cd ls Q hC hP hl hQ
  have hl : lv_has ls 2 [(0, .ref (ad 99)), (1, .int (iZ (q)))] := hl
  refine z_iload_n hC 0 hl dX1_fault_0 rfl 1 rfl ?_
  refine z_if_ne hC 1 11 dX1_fault_1 rfl (by omega) (fun hb1 => ?_) (fun hb1 => ?_)
  · -- 1t
    refine z_iload_n hC 11 hl dX1_fault_11 rfl 1 rfl ?_
    refine z_iconst hC 12 dX1_fault_12 ?_
    refine z_icmp_ne hC 13 23 dX1_fault_13 rfl (by omega) (by omega) (fun hb2 => ?_) (fun hb2 => ?_)
    · -- 13t
      refine z_iconst hC 23 dX1_fault_23 ?_
      -- R24.1
      exact zp_iret hC hQ 24 ((-1)) dX1_fault_24 rfl (by first | (rw [if_pos (by omega)]; done) | (rw [if_neg (by omega), if_pos (by omega)]; done) | (rw [if_neg (by omega), if_neg (by omega)]; done))
    · -- 13f
      refine z_aload_n hC 16 hl dX1_fault_16 rfl 0 rfl ?_
      refine zp_get (v := .int (iZ (fp))) hC hP 17 in_X1 rfl 3 (by decide) q209 0 rfl (by rw [← hfp]; rfl) dX1_fault_17 ?_
      refine z_goto hC 20 24 dX1_fault_20 rfl ?_
      -- R24.2
      exact zp_iret hC hQ 24 (fp) dX1_fault_24 rfl (by first | (rw [if_pos (by omega)]; done) | (rw [if_neg (by omega), if_pos (by omega)]; done) | (rw [if_neg (by omega), if_neg (by omega)]; done))
  · -- 1f
    refine z_aload_n hC 4 hl dX1_fault_4 rfl 0 rfl ?_
    refine zp_get (v := .int (iZ (fa))) hC hP 5 in_X1 rfl 2 (by decide) q208 0 rfl (by rw [← hfa]; rfl) dX1_fault_5 ?_
    refine z_goto hC 8 24 dX1_fault_8 rfl ?_
    -- R24.3
    exact zp_iret hC hQ 24 (fa) dX1_fault_24 rfl (by first | (rw [if_pos (by omega)]; done) | (rw [if_neg (by omega), if_pos (by omega)]; done) | (rw [if_neg (by omega), if_neg (by omega)]; done))
