/-! methods of ModeDesk: 43.dg -/
set_option maxHeartbeats 4000000 in
set_option maxRecDepth 100000 in
theorem u_X8_see (lau : Launch) (s0 : State) (G : zG) (ad : Nat → Nat) (F : Nat → Int) (Ar : Nat → Nat → Int) (kp : Nat → Nat) (pl : Nat → Option Nat) (rd : Nat) (rr : Nat) (g : Nat → Int) (wd : Value) (tn : Nat) (k : Nat) (tt : Nat → Nat) (hsz : g 0 = (tn : Int)) (htn : tn ≤ 900) (htp : ∀ i, i < tn → Ar 0 i = sb (tt i)) (htb : ∀ i, i < tn → tt i < 256) (hk : k ≤ 900) : zPur (S := Unit) lau yX8_see cX8_see 2 (some .int) 0 0 s0 G [.ref (rd), .int (iZ ((k : Int)))] (dW0 ad G F Ar kp pl ++ wRd rd rr (ad 99) g wd) (fun (_ : Unit) => some (.int (iZ ((hereZ tt tn k))))) (fun (_ : Unit) => True) := by
  refine zPur.of (by decide) (Nat.le_of_ble_eq_true rfl) ?_
  intro pg ev s1 mi ar bl me cd ls Q hC hP hl hQ
  have hl : lv_has ls 2 [(0, .ref (rd)), (1, .int (iZ ((k : Int))))] := hl
  refine z_iload_n hC 0 hl dX8_see_0 rfl 1 rfl ?_
  refine z_aload_n hC 1 hl dX8_see_1 rfl 0 rfl ?_
  refine zp_get (v := .int (iZ ((tn : Int)))) hC (va_P_r hP) 2 in_X8 rfl 0 (by decide) q314 0 rfl (by rw [← hsz]; rfl) dX8_see_2 ?_
  refine z_icmp_ge hC 5 24 dX8_see_5 rfl (by omega) (by omega) (fun hb1 => ?_) (fun hb1 => ?_)
  · -- 5t
    refine z_iconst hC 24 dX8_see_24 ?_
    -- R25.1
    refine z_st (st' := [.int (iZ ((hereZ tt tn k)))]) (zcons (zieq (by first | exact hereZ_1 (by omega) | exact hereZ_2 (by omega))) rfl) ?_
    exact zp_iret hC hQ 25 (()) dX8_see_25 rfl trivial
  · -- 5f
    refine z_aload_n hC 8 hl dX8_see_8 rfl 0 rfl ?_
    refine zp_get (v := .ref (ad 99)) hC (va_P_r hP) 9 in_X8 rfl 12 (by decide) q330 0 rfl (rfl) dX8_see_9 ?_
    refine zp_getN (v := .ref (ad 0)) hC (va_P_l hP) 12 in_X1 rfl 0 (by decide) q206 0 rfl (rfl) dX8_see_12 ?_
    refine z_iload_n hC 15 hl dX8_see_15 rfl 1 rfl ?_
    refine zp_bald (x := (sb (tt (k)))) hC (va_P_l hP) 16 4 (k) rfl (by decide) (by omega) (by omega) (htp (k) (by omega)) dX8_see_16 ?_
    refine z_sipush hC 17 dX8_see_17 rfl ?_
    refine z_iand (e := ((tt k : Nat) : Int)) hC 20 dX8_see_20 (by exact sb_and (htb k (by omega))) ?_
    refine z_goto hC 21 25 dX8_see_21 rfl ?_
    -- R25.2
    refine z_st (st' := [.int (iZ ((hereZ tt tn k)))]) (zcons (zieq (by first | exact hereZ_1 (by omega) | exact hereZ_2 (by omega))) rfl) ?_
    exact zp_iret hC hQ 25 (()) dX8_see_25 rfl trivial

set_option maxHeartbeats 4000000 in
set_option maxRecDepth 100000 in
theorem u_X8_isSmall (lau : Launch) (s0 : State) (G : zG) (ad : Nat → Nat) (F : Nat → Int) (Ar : Nat → Nat → Int) (kp : Nat → Nat) (pl : Nat → Option Nat) (rd : Nat) (rr : Nat) (g : Nat → Int) (wd : Value) (tn : Nat) (k : Nat) (tt : Nat → Nat) (hsz : g 0 = (tn : Int)) (htn : tn ≤ 900) (htp : ∀ i, i < tn → Ar 0 i = sb (tt i)) (htb : ∀ i, i < tn → tt i < 256) (hk : k ≤ 900) : zPur (S := Int) lau yX8_isSmall cX8_isSmall 2 (some .boolean) 1 25 s0 G [.ref (rd), .int (iZ ((k : Int)))] (dW0 ad G F Ar kp pl ++ wRd rd rr (ad 99) g wd) (fun (r_ : Int) => some (.int (iZ r_))) (fun (r_ : Int) => ((r_ = 1 ∧ (97 ≤ hereZ tt tn k ∧ hereZ tt tn k ≤ 122)) ∨ (r_ = 0 ∧ ¬ (97 ≤ hereZ tt tn k ∧ hereZ tt tn k ≤ 122)))) := by
  refine zPur.of (by decide) (Nat.le_of_ble_eq_true rfl) ?_
  intro pg ev s1 mi ar bl me cd ls Q hC hP hl hQ
  have hl : lv_has ls 2 [(0, .ref (rd)), (1, .int (iZ ((k : Int))))] := hl
  have hhr := hereZ_r (k := k) htb
  refine z_aload_n hC 0 hl dX8_isSmall_0 rfl 0 rfl ?_
  refine z_iload_n hC 1 hl dX8_isSmall_1 rfl 1 rfl ?_
  refine zp_back (zp_runV hC (zS0) hl.1 (hP) 1 (As := [.int (iZ ((k : Int)))]) (rest := []) (u_X8_see lau s0 G ad F Ar kp pl rd rr g wd tn k tt (by first | assumption | omega) (by first | assumption | omega) (by first | assumption | omega) (by first | assumption | omega) (by first | assumption | omega)) (lw_V q366 q368 qs1 q96 q369) ⟨rfl, by decide, by decide, by decide +kernel⟩ (q0 := 60) (ci := 7) rfl rfl rfl rfl (Nat.le_of_ble_eq_true rfl) ⟨Nat.le_of_ble_eq_true rfl, Nat.le_of_ble_eq_true rfl⟩ ⟨by first | decide | omega, by first | decide | omega⟩ dX8_isSmall_2) (fun _ hpost => ?_)
  refine z_st (st' := [.int (iZ ((hereZ tt tn k)))]) rfl ?_
  refine z_i2l hC 5 dX8_isSmall_5 (by omega) ?_
  refine z_ldc2 (a := 97) hC 6 q374 rfl dX8_isSmall_6 ?_
  refine z_ldc2 (a := 122) hC 9 q375 rfl dX8_isSmall_9 ?_
  refine zp_back (zp_runSN hC (zS0) hl.1 (zp_nil) 3 (As := [.long (lZ ((hereZ tt tn k))), .long (lZ (97)), .long (lZ (122))]) (rest := []) (u_X1_isIn lau s0 G (hereZ tt tn k) 97 122 (by first | assumption | omega) (by first | assumption | omega) (by first | assumption | omega)) (lw_meth q305) q376 ⟨q304, q89⟩ ⟨by decide, by decide, by decide +kernel⟩ rfl rfl (Nat.le_of_ble_eq_true rfl) ⟨Nat.le_of_ble_eq_true rfl, Nat.le_of_ble_eq_true rfl⟩ ⟨by first | decide | omega, by first | decide | omega⟩ dX8_isSmall_12) (fun r_12 hpost => ?_)
  have hb_12 : (r_12 = 1 ∧ ((97 : Int) ≤ (hereZ tt tn k) ∧ (hereZ tt tn k) ≤ (122 : Int))) ∨ (r_12 = 0 ∧ ¬ ((97 : Int) ≤ (hereZ tt tn k) ∧ (hereZ tt tn k) ≤ (122 : Int))) := hpost
  refine z_st (st' := [.int (iZ (r_12))]) rfl ?_
  -- R15.1
  exact zp_zret hC hQ 15 (r_12) dX8_isSmall_15 (zbool2 (by omega)) rfl (by first | assumption | omega)

set_option maxHeartbeats 4000000 in
set_option maxRecDepth 100000 in
theorem u_X8_isDigit (lau : Launch) (s0 : State) (G : zG) (ad : Nat → Nat) (F : Nat → Int) (Ar : Nat → Nat → Int) (kp : Nat → Nat) (pl : Nat → Option Nat) (rd : Nat) (rr : Nat) (g : Nat → Int) (wd : Value) (tn : Nat) (k : Nat) (tt : Nat → Nat) (hsz : g 0 = (tn : Int)) (htn : tn ≤ 900) (htp : ∀ i, i < tn → Ar 0 i = sb (tt i)) (htb : ∀ i, i < tn → tt i < 256) (hk : k ≤ 900) : zPur (S := Int) lau yX8_isDigit cX8_isDigit 2 (some .boolean) 1 25 s0 G [.ref (rd), .int (iZ ((k : Int)))] (dW0 ad G F Ar kp pl ++ wRd rd rr (ad 99) g wd) (fun (r_ : Int) => some (.int (iZ r_))) (fun (r_ : Int) => ((r_ = 1 ∧ (48 ≤ hereZ tt tn k ∧ hereZ tt tn k ≤ 57)) ∨ (r_ = 0 ∧ ¬ (48 ≤ hereZ tt tn k ∧ hereZ tt tn k ≤ 57)))) := by
  refine zPur.of (by decide) (Nat.le_of_ble_eq_true rfl) ?_
  intro pg ev s1 mi ar bl me cd ls Q hC hP hl hQ
  have hl : lv_has ls 2 [(0, .ref (rd)), (1, .int (iZ ((k : Int))))] := hl
  have hhr := hereZ_r (k := k) htb
  refine z_aload_n hC 0 hl dX8_isDigit_0 rfl 0 rfl ?_
  refine z_iload_n hC 1 hl dX8_isDigit_1 rfl 1 rfl ?_
  refine zp_back (zp_runV hC (zS0) hl.1 (hP) 1 (As := [.int (iZ ((k : Int)))]) (rest := []) (u_X8_see lau s0 G ad F Ar kp pl rd rr g wd tn k tt (by first | assumption | omega) (by first | assumption | omega) (by first | assumption | omega) (by first | assumption | omega) (by first | assumption | omega)) (lw_V q366 q368 qs1 q96 q369) ⟨rfl, by decide, by decide, by decide +kernel⟩ (q0 := 60) (ci := 7) rfl rfl rfl rfl (Nat.le_of_ble_eq_true rfl) ⟨Nat.le_of_ble_eq_true rfl, Nat.le_of_ble_eq_true rfl⟩ ⟨by first | decide | omega, by first | decide | omega⟩ dX8_isDigit_2) (fun _ hpost => ?_)
  refine z_st (st' := [.int (iZ ((hereZ tt tn k)))]) rfl ?_
  refine z_i2l hC 5 dX8_isDigit_5 (by omega) ?_
  refine z_ldc2 (a := 48) hC 6 q568 rfl dX8_isDigit_6 ?_
  refine z_ldc2 (a := 57) hC 9 q569 rfl dX8_isDigit_9 ?_
  refine zp_back (zp_runSN hC (zS0) hl.1 (zp_nil) 3 (As := [.long (lZ ((hereZ tt tn k))), .long (lZ (48)), .long (lZ (57))]) (rest := []) (u_X1_isIn lau s0 G (hereZ tt tn k) 48 57 (by first | assumption | omega) (by first | assumption | omega) (by first | assumption | omega)) (lw_meth q305) q376 ⟨q304, q89⟩ ⟨by decide, by decide, by decide +kernel⟩ rfl rfl (Nat.le_of_ble_eq_true rfl) ⟨Nat.le_of_ble_eq_true rfl, Nat.le_of_ble_eq_true rfl⟩ ⟨by first | decide | omega, by first | decide | omega⟩ dX8_isDigit_12) (fun r_12 hpost => ?_)
  have hb_12 : (r_12 = 1 ∧ ((48 : Int) ≤ (hereZ tt tn k) ∧ (hereZ tt tn k) ≤ (57 : Int))) ∨ (r_12 = 0 ∧ ¬ ((48 : Int) ≤ (hereZ tt tn k) ∧ (hereZ tt tn k) ≤ (57 : Int))) := hpost
  refine z_st (st' := [.int (iZ (r_12))]) rfl ?_
  -- R15.1
  exact zp_zret hC hQ 15 (r_12) dX8_isDigit_15 (zbool2 (by omega)) rfl (by first | assumption | omega)
