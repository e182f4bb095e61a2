/-! methods of ModeDesk: 37.dc -/
set_option maxHeartbeats 4000000 in
set_option maxRecDepth 100000 in
theorem u_X1_endOf (lau : Launch) (s0 : State) (G : zG) (ad : Nat → Nat) (F : Nat → Int) (Ar : Nat → Nat → Int) (kp : Nat → Nat) (pl : Nat → Option Nat) (n : Nat) (b : Nat) (j : Nat) (hn : n ≤ 120) (hFn : F 200 = (n : Int)) (hb : 2 ≤ b ∧ b ≤ 20) (hFb : F 7 = (b : Int)) (hj : b * j < n) : zPur (S := Unit) lau yX1_endOf cX1_endOf 2 (some .int) 1 13 s0 G [.ref (ad 99), .int (iZ ((j : Int)))] (dW0 ad G F Ar kp pl) (fun (_ : Unit) => some (.int (iZ (((bEnd b j n : Nat) : Int) - 1)))) (fun (_ : Unit) => True) := by
  refine zPur.of (by decide) (Nat.le_of_ble_eq_true rfl) ?_
  intro pg ev s1 mi ar bl me cd ls Q hC hP hl hQ
  have hl : lv_has ls 2 [(0, .ref (ad 99)), (1, .int (iZ ((j : Int))))] := hl
  have hbj := bEnd_b (by omega) hj
  have hj2 : 1 * j ≤ b * j := Nat.mul_le_mul_right j (by omega)
  have hj3 : b * (j + 1) = b * j + b := Nat.mul_succ b j
  refine z_aload_n hC 0 hl dX1_endOf_0 rfl 0 rfl ?_
  refine zp_get (v := .ref (ad 200)) hC hP 1 in_X1 rfl 4 (by decide) q210 0 rfl (rfl) dX1_endOf_1 ?_
  refine zp_getN (v := .int (iZ ((n : Int)))) hC hP 4 in_X2 rfl 2 (by decide) q149 11 rfl (by rw [← hFn]; rfl) dX1_endOf_4 ?_
  refine z_aload_n hC 7 hl dX1_endOf_7 rfl 0 rfl ?_
  refine zp_get (v := .int (iZ ((b : Int)))) hC hP 8 in_X1 rfl 7 (by decide) q216 0 rfl (by rw [← hFb]; rfl) dX1_endOf_8 ?_
  refine z_iload_n hC 11 hl dX1_endOf_11 rfl 1 rfl ?_
  refine z_iconst hC 12 dX1_endOf_12 ?_
  refine z_iadd (e := (j : Int) + 1) hC 13 dX1_endOf_13 rfl ?_
  refine z_imul (e := ((b * (j + 1) : Nat) : Int)) hC 14 dX1_endOf_14 (by push_cast; rfl) ?_
  refine z_min (a := (n : Int)) (b := ((b * (j + 1) : Nat) : Int)) hC hl.1 15 q731 dX1_endOf_15 (by omega) (by omega) ⟨Nat.le_of_ble_eq_true rfl, Nat.le_of_ble_eq_true rfl⟩ ⟨by first | decide | omega, by first | decide | omega⟩ ?_
  have hmm15 := zmin_spec ((n : Int)) (((b * (j + 1) : Nat) : Int))
  refine z_iconst hC 18 dX1_endOf_18 ?_
  refine z_isub (e := (zmin ((n : Int)) (((b * (j + 1) : Nat) : Int))) - 1) hC 19 dX1_endOf_19 rfl ?_
  -- R20.1
  refine z_st (st' := [.int (iZ (((bEnd b j n : Nat) : Int) - 1))]) (zcons (zieq (by first | assumption | omega | (unfold bEnd; split <;> omega))) rfl) ?_
  exact zp_iret hC hQ 20 (()) dX1_endOf_20 rfl trivial

set_option maxHeartbeats 4000000 in
set_option maxRecDepth 100000 in
theorem u_X1_lastBlock (lau : Launch) (s0 : State) (G : zG) (ad : Nat → Nat) (F : Nat → Int) (Ar : Nat → Nat → Int) (kp : Nat → Nat) (pl : Nat → Option Nat) (n : Nat) (b : Nat) (r : Nat) (hn : n ≤ 120) (hFn : F 200 = (n : Int)) (hb : 2 ≤ b ∧ b ≤ 20) (hFb : F 7 = (b : Int)) (hr : r < n) : zPur (S := Unit) lau yX1_lastBlock cX1_lastBlock 2 (some .int) 1 20 s0 G [.ref (ad 99), .int (iZ ((r : Int)))] (dW0 ad G F Ar kp pl) (fun (_ : Unit) => some (.int (iZ ((lbZ n b r))))) (fun (_ : Unit) => True) := by
  refine zPur.of (by decide) (Nat.le_of_ble_eq_true rfl) ?_
  intro pg ev s1 mi ar bl me cd ls Q hC hP hl hQ
  have hl : lv_has ls 2 [(0, .ref (ad 99)), (1, .int (iZ ((r : Int))))] := hl
  refine z_iload_n hC 0 hl dX1_lastBlock_0 rfl 1 rfl ?_
  refine z_aload_n hC 1 hl dX1_lastBlock_1 rfl 0 rfl ?_
  refine zp_get (v := .ref (ad 200)) hC hP 2 in_X1 rfl 4 (by decide) q210 0 rfl (rfl) dX1_lastBlock_2 ?_
  refine zp_getN (v := .int (iZ ((n : Int)))) hC hP 5 in_X2 rfl 2 (by decide) q149 11 rfl (by rw [← hFn]; rfl) dX1_lastBlock_5 ?_
  refine z_iconst hC 8 dX1_lastBlock_8 ?_
  refine z_isub (e := (n : Int) - 1) hC 9 dX1_lastBlock_9 rfl ?_
  refine z_icmp_ne hC 10 22 dX1_lastBlock_10 rfl (by omega) (by omega) (fun hb1 => ?_) (fun hb1 => ?_)
  · -- 10t
    refine z_iload_n hC 22 hl dX1_lastBlock_22 rfl 1 rfl ?_
    refine z_iconst hC 23 dX1_lastBlock_23 ?_
    refine z_iadd (e := (r : Int) + 1) hC 24 dX1_lastBlock_24 rfl ?_
    refine z_aload_n hC 25 hl dX1_lastBlock_25 rfl 0 rfl ?_
    refine zp_get (v := .int (iZ ((b : Int)))) hC hP 26 in_X1 rfl 7 (by decide) q216 0 rfl (by rw [← hFb]; rfl) dX1_lastBlock_26 ?_
    refine z_idiv hC 29 (r + 1) (b) dX1_lastBlock_29 (by omega) (by omega) (by omega) (by omega) ((zdiv (r + 1) b)) rfl ?_
    refine z_iconst hC 30 dX1_lastBlock_30 ?_
    refine z_isub (e := ((zdiv (r + 1) b : Nat) : Int) - 1) hC 31 dX1_lastBlock_31 rfl ?_
    -- R32.1
    refine z_st (st' := [.int (iZ ((lbZ n b r)))]) (zcons (zieq (by first | exact lbZ_1 (by omega) | exact lbZ_2 (by omega))) rfl) ?_
    exact zp_iret hC hQ 32 (()) dX1_lastBlock_32 rfl trivial
  · -- 10f
    refine z_aload_n hC 13 hl dX1_lastBlock_13 rfl 0 rfl ?_
    refine zp_back (zp_runV hC (zS0) hl.1 (hP) 0 (As := []) (rest := []) (u_X1_blocks lau s0 G ad F Ar kp pl n b (by first | assumption | omega) (by first | assumption | omega) (by first | assumption | omega) (by first | assumption | omega)) (lw_V q719 q721 qs13 q89 q722) ⟨rfl, by decide, by decide, by decide +kernel⟩ (q0 := 0) (ci := 1) rfl rfl rfl rfl (Nat.le_of_ble_eq_true rfl) ⟨Nat.le_of_ble_eq_true rfl, Nat.le_of_ble_eq_true rfl⟩ ⟨by first | decide | omega, by first | decide | omega⟩ dX1_lastBlock_14) (fun _ hpost => ?_)
    refine z_st (st' := [.int (iZ (((zdiv (n + b - 1) b : Nat) : Int)))]) rfl ?_
    refine z_iconst hC 17 dX1_lastBlock_17 ?_
    refine z_isub (e := ((zdiv (n + b - 1) b : Nat) : Int) - 1) hC 18 dX1_lastBlock_18 rfl ?_
    refine z_goto hC 19 32 dX1_lastBlock_19 rfl ?_
    -- R32.2
    refine z_st (st' := [.int (iZ ((lbZ n b r)))]) (zcons (zieq (by first | exact lbZ_1 (by omega) | exact lbZ_2 (by omega))) rfl) ?_
    exact zp_iret hC hQ 32 (()) dX1_lastBlock_32 rfl trivial

set_option maxHeartbeats 4000000 in
set_option maxRecDepth 100000 in
theorem u_X1_isTieAhead (lau : Launch) (s0 : State) (G : zG) (ad : Nat → Nat) (F : Nat → Int) (Ar : Nat → Nat → Int) (kp : Nat → Nat) (pl : Nat → Option Nat) (t : Nat) (x : Int) (y : Int) (i : Int) (j : Int) (hFt : F 8 = (t : Int)) (ht : t < 4) (hr_x : -2147483648 ≤ x ∧ x < 2147483648) (hr_y : -2147483648 ≤ y ∧ y < 2147483648) (hr_i : -2147483648 ≤ i ∧ i < 2147483648) (hr_j : -2147483648 ≤ j ∧ j < 2147483648) : zPur (S := Int) lau yX1_isTieAhead cX1_isTieAhead 5 (some .boolean) 0 0 s0 G [.ref (ad 99), .int (iZ (x)), .int (iZ (y)), .int (iZ (i)), .int (iZ (j))] (dW0 ad G F Ar kp pl) (fun (r_ : Int) => some (.int (iZ r_))) (fun (r_ : Int) => ((r_ = 1 ∧ (if t = 0 then i < j else if t = 1 then j < i else if t = 2 then x < y else y < x)) ∨ (r_ = 0 ∧ ¬ (if t = 0 then i < j else if t = 1 then j < i else if t = 2 then x < y else y < x)))) := by
  refine zPur.of (by decide) (Nat.le_of_ble_eq_true rfl) ?_
  intro pg ev s1 mi ar bl me cd ls Q hC hP hl hQ
  have hl : lv_has ls 5 [(0, .ref (ad 99)), (1, .int (iZ (x))), (2, .int (iZ (y))), (3, .int (iZ (i))), (4, .int (iZ (j)))] := hl
  refine z_aload_n hC 0 hl dX1_isTieAhead_0 rfl 0 rfl ?_
  refine zp_get (v := .int (iZ ((t : Int)))) hC hP 1 in_X1 rfl 8 (by decide) q218 0 rfl (by rw [← hFt]; rfl) dX1_isTieAhead_1 ?_
  refine z_if_ne hC 4 21 dX1_isTieAhead_4 rfl (by omega) (fun hb1 => ?_) (fun hb1 => ?_)
  · -- 4t
    refine z_aload_n hC 21 hl dX1_isTieAhead_21 rfl 0 rfl ?_
    refine zp_get (v := .int (iZ ((t : Int)))) hC hP 22 in_X1 rfl 8 (by decide) q218 0 rfl (by rw [← hFt]; rfl) dX1_isTieAhead_22 ?_
    refine z_iconst hC 25 dX1_isTieAhead_25 ?_
    refine z_icmp_ne hC 26 43 dX1_isTieAhead_26 rfl (by omega) (by omega) (fun hb2 => ?_) (fun hb2 => ?_)
    · -- 26t
      refine z_aload_n hC 43 hl dX1_isTieAhead_43 rfl 0 rfl ?_
      refine zp_get (v := .int (iZ ((t : Int)))) hC hP 44 in_X1 rfl 8 (by decide) q218 0 rfl (by rw [← hFt]; rfl) dX1_isTieAhead_44 ?_
      refine z_iconst hC 47 dX1_isTieAhead_47 ?_
      refine z_icmp_ne hC 48 64 dX1_isTieAhead_48 rfl (by omega) (by omega) (fun hb3 => ?_) (fun hb3 => ?_)
      · -- 48t
        refine z_iload_n hC 64 hl dX1_isTieAhead_64 rfl 1 rfl ?_
        refine z_iload_n hC 65 hl dX1_isTieAhead_65 rfl 2 rfl ?_
        refine z_icmp_le hC 66 73 dX1_isTieAhead_66 rfl (by omega) (by omega) (fun hb4 => ?_) (fun hb4 => ?_)
        · -- 66t
          refine z_iconst hC 73 dX1_isTieAhead_73 ?_
          -- R74.1
          exact zp_zret hC hQ 74 (0) dX1_isTieAhead_74 (by rfl) rfl (Or.inr ⟨rfl, by first | omega | ((repeat' split) <;> omega)⟩)
        · -- 66f
          refine z_iconst hC 69 dX1_isTieAhead_69 ?_
          refine z_goto hC 70 74 dX1_isTieAhead_70 rfl ?_
          -- R74.2
          exact zp_zret hC hQ 74 (1) dX1_isTieAhead_74 (by rfl) rfl (Or.inl ⟨rfl, by first | omega | ((repeat' split) <;> omega)⟩)
      · -- 48f
        refine z_iload_n hC 51 hl dX1_isTieAhead_51 rfl 1 rfl ?_
        refine z_iload_n hC 52 hl dX1_isTieAhead_52 rfl 2 rfl ?_
        refine z_icmp_ge hC 53 60 dX1_isTieAhead_53 rfl (by omega) (by omega) (fun hb5 => ?_) (fun hb5 => ?_)
        · -- 53t
          refine z_iconst hC 60 dX1_isTieAhead_60 ?_
          refine z_goto hC 61 74 dX1_isTieAhead_61 rfl ?_
          -- R74.3
          exact zp_zret hC hQ 74 (0) dX1_isTieAhead_74 (by rfl) rfl (Or.inr ⟨rfl, by first | omega | ((repeat' split) <;> omega)⟩)
        · -- 53f
          refine z_iconst hC 56 dX1_isTieAhead_56 ?_
          refine z_goto hC 57 74 dX1_isTieAhead_57 rfl ?_
          -- R74.4
          exact zp_zret hC hQ 74 (1) dX1_isTieAhead_74 (by rfl) rfl (Or.inl ⟨rfl, by first | omega | ((repeat' split) <;> omega)⟩)
    · -- 26f
      refine z_iload_n hC 29 hl dX1_isTieAhead_29 rfl 3 rfl ?_
      refine z_iload hC 30 hl dX1_isTieAhead_30 4 rfl ?_
      refine z_icmp_le hC 32 39 dX1_isTieAhead_32 rfl (by omega) (by omega) (fun hb6 => ?_) (fun hb6 => ?_)
      · -- 32t
        refine z_iconst hC 39 dX1_isTieAhead_39 ?_
        refine z_goto hC 40 74 dX1_isTieAhead_40 rfl ?_
        -- R74.5
        exact zp_zret hC hQ 74 (0) dX1_isTieAhead_74 (by rfl) rfl (Or.inr ⟨rfl, by first | omega | ((repeat' split) <;> omega)⟩)
      · -- 32f
        refine z_iconst hC 35 dX1_isTieAhead_35 ?_
        refine z_goto hC 36 74 dX1_isTieAhead_36 rfl ?_
        -- R74.6
        exact zp_zret hC hQ 74 (1) dX1_isTieAhead_74 (by rfl) rfl (Or.inl ⟨rfl, by first | omega | ((repeat' split) <;> omega)⟩)
  · -- 4f
    refine z_iload_n hC 7 hl dX1_isTieAhead_7 rfl 3 rfl ?_
    refine z_iload hC 8 hl dX1_isTieAhead_8 4 rfl ?_
    refine z_icmp_ge hC 10 17 dX1_isTieAhead_10 rfl (by omega) (by omega) (fun hb7 => ?_) (fun hb7 => ?_)
    · -- 10t
      refine z_iconst hC 17 dX1_isTieAhead_17 ?_
      refine z_goto hC 18 74 dX1_isTieAhead_18 rfl ?_
      -- R74.7
      exact zp_zret hC hQ 74 (0) dX1_isTieAhead_74 (by rfl) rfl (Or.inr ⟨rfl, by first | omega | ((repeat' split) <;> omega)⟩)
    · -- 10f
      refine z_iconst hC 13 dX1_isTieAhead_13 ?_
      refine z_goto hC 14 74 dX1_isTieAhead_14 rfl ?_
      -- R74.8
      exact zp_zret hC hQ 74 (1) dX1_isTieAhead_74 (by rfl) rfl (Or.inl ⟨rfl, by first | omega | ((repeat' split) <;> omega)⟩)

set_option maxHeartbeats 4000000 in
set_option maxRecDepth 100000 in
theorem u_X5_is (lau : Launch) (s0 : State) (G : zG) (a : Nat) (b : Nat) (x : Int) (y : Int) (l : Int) (r : Int) (hr_x : -2147483648 ≤ x ∧ x < 2147483648) (hr_y : -2147483648 ≤ y ∧ y < 2147483648) : zPur (S := Int) lau yX5_is cX5_is 5 (some .boolean) 0 0 s0 G [.ref (a), .int (iZ (x)), .int (iZ (y)), .int (iZ (l)), .int (iZ (r))] ([(a, .inr (5, [.ref (b)]))]) (fun (r_ : Int) => some (.int (iZ r_))) (fun (r_ : Int) => ((r_ = 1 ∧ (x < y)) ∨ (r_ = 0 ∧ ¬ (x < y)))) := by
  refine zPur.of (by decide) (Nat.le_of_ble_eq_true rfl) ?_
  intro pg ev s1 mi ar bl me cd ls Q hC hP hl hQ
  have hl : lv_has ls 5 [(0, .ref (a)), (1, .int (iZ (x))), (2, .int (iZ (y))), (3, .int (iZ (l))), (4, .int (iZ (r)))] := hl
  refine z_iload_n hC 0 hl dX5_is_0 rfl 1 rfl ?_
  refine z_iload_n hC 1 hl dX5_is_1 rfl 2 rfl ?_
  refine z_icmp_ge hC 2 9 dX5_is_2 rfl (by omega) (by omega) (fun hb1 => ?_) (fun hb1 => ?_)
  · -- 2t
    refine z_iconst hC 9 dX5_is_9 ?_
    -- R10.1
    exact zp_zret hC hQ 10 (0) dX5_is_10 (by rfl) rfl (Or.inr ⟨rfl, by first | assumption | omega⟩)
  · -- 2f
    refine z_iconst hC 5 dX5_is_5 ?_
    refine z_goto hC 6 10 dX5_is_6 rfl ?_
    -- R10.2
    exact zp_zret hC hQ 10 (1) dX5_is_10 (by rfl) rfl (Or.inl ⟨rfl, by first | assumption | omega⟩)

set_option maxHeartbeats 4000000 in
set_option maxRecDepth 100000 in
theorem u_X6_is (lau : Launch) (s0 : State) (G : zG) (a : Nat) (b : Nat) (x : Int) (y : Int) (l : Int) (r : Int) (hr_x : -2147483648 ≤ x ∧ x < 2147483648) (hr_y : -2147483648 ≤ y ∧ y < 2147483648) : zPur (S := Int) lau yX6_is cX6_is 5 (some .boolean) 0 0 s0 G [.ref (a), .int (iZ (x)), .int (iZ (y)), .int (iZ (l)), .int (iZ (r))] ([(a, .inr (6, [.ref (b)]))]) (fun (r_ : Int) => some (.int (iZ r_))) (fun (r_ : Int) => ((r_ = 1 ∧ (y < x)) ∨ (r_ = 0 ∧ ¬ (y < x)))) := by
  refine zPur.of (by decide) (Nat.le_of_ble_eq_true rfl) ?_
  intro pg ev s1 mi ar bl me cd ls Q hC hP hl hQ
  have hl : lv_has ls 5 [(0, .ref (a)), (1, .int (iZ (x))), (2, .int (iZ (y))), (3, .int (iZ (l))), (4, .int (iZ (r)))] := hl
  refine z_iload_n hC 0 hl dX6_is_0 rfl 1 rfl ?_
  refine z_iload_n hC 1 hl dX6_is_1 rfl 2 rfl ?_
  refine z_icmp_le hC 2 9 dX6_is_2 rfl (by omega) (by omega) (fun hb1 => ?_) (fun hb1 => ?_)
  · -- 2t
    refine z_iconst hC 9 dX6_is_9 ?_
    -- R10.1
    exact zp_zret hC hQ 10 (0) dX6_is_10 (by rfl) rfl (Or.inr ⟨rfl, by first | assumption | omega⟩)
  · -- 2f
    refine z_iconst hC 5 dX6_is_5 ?_
    refine z_goto hC 6 10 dX6_is_6 rfl ?_
    -- R10.2
    exact zp_zret hC hQ 10 (1) dX6_is_10 (by rfl) rfl (Or.inl ⟨rfl, by first | assumption | omega⟩)

set_option maxHeartbeats 4000000 in
set_option maxRecDepth 100000 in
theorem u_X3_is (lau : Launch) (s0 : State) (G : zG) (ad : Nat → Nat) (F : Nat → Int) (Ar : Nat → Nat → Int) (kp : Nat → Nat) (pl : Nat → Option Nat) (pr : Nat → Nat) (pa : Nat → Nat) (pm : Nat → Nat) (pf : Nat → Nat → Nat) (n : Nat) (v : Nat → Nat) (x : Nat) (y : Nat) (l : Nat) (r : Nat) (nw : Nat) (hn : n ≤ 120) (hv : ∀ i, i < n → v i < 1000) (hpl : ∀ y, y < 1000 → (pl y = some (pr y) ∨ (pl y = none ∧ pr y = nw))) (hnw : zNwh s0 nw) (hpc : ∀ y, y < 1000 → PlC n v y (pm y) (pf y)) (hlr : l ≤ r) (hrn : r ≤ n) (hx : x < 1000) (hy : y < 1000) (px : 0 < cnt v l r x) (py : 0 < cnt v l r y) : zPur (S := Int) lau yX3_is cX3_is 5 (some .boolean) 2 46 s0 G [.ref (ad 301), .int (iZ ((x : Int))), .int (iZ ((y : Int))), .int (iZ ((l : Int))), .int (iZ ((r : Int) - 1))] (dP ad G F Ar kp pl pr pa pm pf) (fun (r_ : Int) => some (.int (iZ r_))) (fun (r_ : Int) => ((r_ = 1 ∧ (fsP v l x r < fsP v l y r)) ∨ (r_ = 0 ∧ ¬ (fsP v l x r < fsP v l y r)))) := by
  refine zPur.of (by decide) (Nat.le_of_ble_eq_true rfl) ?_
  intro pg ev s1 mi ar bl me cd ls Q hC hP hl hQ
  have hl : lv_has ls 5 [(0, .ref (ad 301)), (1, .int (iZ ((x : Int)))), (2, .int (iZ ((y : Int)))), (3, .int (iZ ((l : Int)))), (4, .int (iZ ((r : Int) - 1)))] := hl
  have hfx := fsP_ext hrn px
  have hfy := fsP_ext hrn py
  have cx : 0 < cnt v l n x := by have q1 := cnt_mono (v := v) (a := l) (x := x) hrn; omega
  have cy : 0 < cnt v l n y := by have q1 := cnt_mono (v := v) (a := l) (x := y) hrn; omega
  have bx := fsP_spec px
  have by_ := fsP_spec py
  refine z_aload_n hC 0 hl dX3_is_0 rfl 0 rfl ?_
  refine zp_get (v := .ref (ad 99)) hC (dP_l hP) 1 in_X3 rfl 0 (by decide) q170 56 rfl (rfl) dX3_is_1 ?_
  refine z_iload_n hC 4 hl dX3_is_4 rfl 1 rfl ?_
  refine z_iload_n hC 5 hl dX3_is_5 rfl 3 rfl ?_
  refine zp_back (zp_runVN hC (zS0) hl.1 (hP) 2 (As := [.int (iZ ((x : Int))), .int (iZ ((l : Int)))]) (rest := []) (u_X1_firstOf lau s0 G ad F Ar kp pl pr pa pm pf n v x l nw (by first | assumption | omega) (by first | assumption | omega) (by first | assumption | omega) (by first | assumption | omega) (by first | assumption | omega) (by first | assumption | omega) (by first | assumption | omega) (by first | assumption | omega)) (lw_meth q763) q760 ⟨q762, qs18, q89⟩ ⟨by decide, by decide, by decide +kernel⟩ (q0 := 0) (ci := 1) rfl rfl rfl rfl (Nat.le_of_ble_eq_true rfl) ⟨Nat.le_of_ble_eq_true rfl, Nat.le_of_ble_eq_true rfl⟩ ⟨by first | decide | omega, by first | decide | omega⟩ dX3_is_6) (fun _ hpost => ?_)
  refine z_st (st' := [.int (iZ (((fsP v l x n : Nat) : Int)))]) rfl ?_
  refine z_aload_n hC 9 hl dX3_is_9 rfl 0 rfl ?_
  refine zp_get (v := .ref (ad 99)) hC (dP_l hP) 10 in_X3 rfl 0 (by decide) q170 56 rfl (rfl) dX3_is_10 ?_
  refine z_iload_n hC 13 hl dX3_is_13 rfl 2 rfl ?_
  refine z_iload_n hC 14 hl dX3_is_14 rfl 3 rfl ?_
  refine zp_back (zp_runVN hC (zS0) hl.1 (hP) 2 (As := [.int (iZ ((y : Int))), .int (iZ ((l : Int)))]) (rest := [.int (iZ (((fsP v l x n : Nat) : Int)))]) (u_X1_firstOf lau s0 G ad F Ar kp pl pr pa pm pf n v y l nw (by first | assumption | omega) (by first | assumption | omega) (by first | assumption | omega) (by first | assumption | omega) (by first | assumption | omega) (by first | assumption | omega) (by first | assumption | omega) (by first | assumption | omega)) (lw_meth q763) q760 ⟨q762, qs18, q89⟩ ⟨by decide, by decide, by decide +kernel⟩ (q0 := 0) (ci := 1) rfl rfl rfl rfl (Nat.le_of_ble_eq_true rfl) ⟨Nat.le_of_ble_eq_true rfl, Nat.le_of_ble_eq_true rfl⟩ ⟨by first | decide | omega, by first | decide | omega⟩ dX3_is_15) (fun _ hpost => ?_)
  refine z_st (st' := [.int (iZ (((fsP v l y n : Nat) : Int))), .int (iZ (((fsP v l x n : Nat) : Int)))]) rfl ?_
  refine z_icmp_ge hC 18 25 dX3_is_18 rfl (by omega) (by omega) (fun hb1 => ?_) (fun hb1 => ?_)
  · -- 18t
    refine z_iconst hC 25 dX3_is_25 ?_
    -- R26.1
    exact zp_zret hC hQ 26 (0) dX3_is_26 (by rfl) rfl (Or.inr ⟨rfl, by first | assumption | omega⟩)
  · -- 18f
    refine z_iconst hC 21 dX3_is_21 ?_
    refine z_goto hC 22 26 dX3_is_22 rfl ?_
    -- R26.2
    exact zp_zret hC hQ 26 (1) dX3_is_26 (by rfl) rfl (Or.inl ⟨rfl, by first | assumption | omega⟩)

set_option maxHeartbeats 4000000 in
set_option maxRecDepth 100000 in
theorem u_X4_is (lau : Launch) (s0 : State) (G : zG) (ad : Nat → Nat) (F : Nat → Int) (Ar : Nat → Nat → Int) (kp : Nat → Nat) (pl : Nat → Option Nat) (pr : Nat → Nat) (pa : Nat → Nat) (pm : Nat → Nat) (pf : Nat → Nat → Nat) (n : Nat) (v : Nat → Nat) (x : Nat) (y : Nat) (l : Nat) (r : Nat) (nw : Nat) (hn : n ≤ 120) (hv : ∀ i, i < n → v i < 1000) (hpl : ∀ y, y < 1000 → (pl y = some (pr y) ∨ (pl y = none ∧ pr y = nw))) (hnw : zNwh s0 nw) (hpc : ∀ y, y < 1000 → PlC n v y (pm y) (pf y)) (hlr : l ≤ r) (hrn : r ≤ n) (hx : x < 1000) (hy : y < 1000) (px : 0 < cnt v l r x) (py : 0 < cnt v l r y) : zPur (S := Int) lau yX4_is cX4_is 5 (some .boolean) 2 46 s0 G [.ref (ad 302), .int (iZ ((x : Int))), .int (iZ ((y : Int))), .int (iZ ((l : Int))), .int (iZ ((r : Int) - 1))] (dP ad G F Ar kp pl pr pa pm pf) (fun (r_ : Int) => some (.int (iZ r_))) (fun (r_ : Int) => ((r_ = 1 ∧ (lsP v y r < lsP v x r)) ∨ (r_ = 0 ∧ ¬ (lsP v y r < lsP v x r)))) := by
  refine zPur.of (by decide) (Nat.le_of_ble_eq_true rfl) ?_
  intro pg ev s1 mi ar bl me cd ls Q hC hP hl hQ
  have hl : lv_has ls 5 [(0, .ref (ad 302)), (1, .int (iZ ((x : Int)))), (2, .int (iZ ((y : Int)))), (3, .int (iZ ((l : Int)))), (4, .int (iZ ((r : Int) - 1)))] := hl
  have cx : 0 < cnt v 0 r x := by have q1 := cnt_split (v := v) (x := x) (Nat.zero_le l) hlr; omega
  have cy : 0 < cnt v 0 r y := by have q1 := cnt_split (v := v) (x := y) (Nat.zero_le l) hlr; omega
  have bx := lsP_spec px
  have by_ := lsP_spec py
  refine z_aload_n hC 0 hl dX4_is_0 rfl 0 rfl ?_
  refine zp_get (v := .ref (ad 99)) hC (dP_l hP) 1 in_X4 rfl 0 (by decide) q180 57 rfl (rfl) dX4_is_1 ?_
  refine z_iload_n hC 4 hl dX4_is_4 rfl 1 rfl ?_
  refine z_iload hC 5 hl dX4_is_5 4 rfl ?_
  refine zp_back (zp_runVN hC (zS0) hl.1 (hP) 2 (As := [.int (iZ ((x : Int))), .int (iZ ((r : Int) - 1))]) (rest := []) (u_X1_lastOf lau s0 G ad F Ar kp pl pr pa pm pf n v x r nw (by first | assumption | omega) (by first | assumption | omega) (by first | assumption | omega) (by first | assumption | omega) (by first | assumption | omega) (by first | assumption | omega) (by first | assumption | omega) (by first | assumption | omega)) (lw_meth q774) q771 ⟨q773, qs19, q89⟩ ⟨by decide, by decide, by decide +kernel⟩ (q0 := 0) (ci := 1) rfl rfl rfl rfl (Nat.le_of_ble_eq_true rfl) ⟨Nat.le_of_ble_eq_true rfl, Nat.le_of_ble_eq_true rfl⟩ ⟨by first | decide | omega, by first | decide | omega⟩ dX4_is_7) (fun _ hpost => ?_)
  refine z_st (st' := [.int (iZ (((lsP v x r : Nat) : Int)))]) rfl ?_
  refine z_aload_n hC 10 hl dX4_is_10 rfl 0 rfl ?_
  refine zp_get (v := .ref (ad 99)) hC (dP_l hP) 11 in_X4 rfl 0 (by decide) q180 57 rfl (rfl) dX4_is_11 ?_
  refine z_iload_n hC 14 hl dX4_is_14 rfl 2 rfl ?_
  refine z_iload hC 15 hl dX4_is_15 4 rfl ?_
  refine zp_back (zp_runVN hC (zS0) hl.1 (hP) 2 (As := [.int (iZ ((y : Int))), .int (iZ ((r : Int) - 1))]) (rest := [.int (iZ (((lsP v x r : Nat) : Int)))]) (u_X1_lastOf lau s0 G ad F Ar kp pl pr pa pm pf n v y r nw (by first | assumption | omega) (by first | assumption | omega) (by first | assumption | omega) (by first | assumption | omega) (by first | assumption | omega) (by first | assumption | omega) (by first | assumption | omega) (by first | assumption | omega)) (lw_meth q774) q771 ⟨q773, qs19, q89⟩ ⟨by decide, by decide, by decide +kernel⟩ (q0 := 0) (ci := 1) rfl rfl rfl rfl (Nat.le_of_ble_eq_true rfl) ⟨Nat.le_of_ble_eq_true rfl, Nat.le_of_ble_eq_true rfl⟩ ⟨by first | decide | omega, by first | decide | omega⟩ dX4_is_17) (fun _ hpost => ?_)
  refine z_st (st' := [.int (iZ (((lsP v y r : Nat) : Int))), .int (iZ (((lsP v x r : Nat) : Int)))]) rfl ?_
  refine z_icmp_le hC 20 27 dX4_is_20 rfl (by omega) (by omega) (fun hb1 => ?_) (fun hb1 => ?_)
  · -- 20t
    refine z_iconst hC 27 dX4_is_27 ?_
    -- R28.1
    exact zp_zret hC hQ 28 (0) dX4_is_28 (by rfl) rfl (Or.inr ⟨rfl, by first | assumption | omega⟩)
  · -- 20f
    refine z_iconst hC 23 dX4_is_23 ?_
    refine z_goto hC 24 28 dX4_is_24 rfl ?_
    -- R28.2
    exact zp_zret hC hQ 28 (1) dX4_is_28 (by rfl) rfl (Or.inl ⟨rfl, by first | assumption | omega⟩)
