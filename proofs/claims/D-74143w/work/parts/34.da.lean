/-! methods of ModeDesk: 34.da -/
set_option maxHeartbeats 4000000 in
set_option maxRecDepth 100000 in
theorem u_X10_ahead (lau : Launch) (s0 : State) (G : zG) (p : Nat) (pa : Nat) (x : Nat) (f : Nat → Nat) (n : Nat) (v : Nat → Nat) (y : Nat) (q : Int) (hn : n ≤ 120) (hc : PlC n v y x f) (hr_q : -2147483648 ≤ q ∧ q < 2147483648) : zPur (S := Unit) lau yX10_ahead cX10_ahead 5 (some .int) 0 0 s0 G [.ref (p), .int (iZ (q))] (wPl G p pa x f) (fun (_ : Unit) => some (.int (iZ (((cnt v 0 (plq q n) y : Nat) : Int))))) (fun (_ : Unit) => True) := by
  refine zPur.of (by decide) (Nat.le_of_ble_eq_true rfl) ?_
  intro pg ev s1 mi ar bl me cd ls Q hC hP hl hQ
  have hl : lv_has ls 5 [(0, .ref (p)), (1, .int (iZ (q)))] := hl
  refine z_iconst hC 0 dX10_ahead_0 ?_
  refine z_istore_n (lv' := [(2, .int (iZ (0))), (0, .ref (p)), (1, .int (iZ (q)))]) hC 1 hl dX10_ahead_1 rfl (by decide) rfl (fun ls hl => ?_)
  refine z_aload_n hC 2 hl dX10_ahead_2 rfl 1 rfl ?_
  refine zp_get (v := .int (iZ ((x : Int)))) hC hP 3 in_X10 rfl 1 (by decide) q707 0 rfl (rfl) dX10_ahead_3 ?_
  have hx := qlc_n hc hn
  refine z_istore_n (lv' := [(3, .int (iZ ((x : Int)))), (2, .int (iZ (0))), (0, .ref (p)), (1, .int (iZ (q)))]) hC 6 hl dX10_ahead_6 rfl (by decide) rfl (fun ls hl => ?_)
  have L7 : ∀ (N_ : Nat) (lo : Nat) (hi : Nat) (ls : Array Slot), hi - lo < N_ → (lo ≤ hi) → (hi ≤ x) → (∀ j, j < lo → (f j : Int) < q) → (∀ j, hi ≤ j → j < x → q ≤ (f j : Int)) → lv_has ls 5 [(0, .ref (p)), (1, .int (iZ (q))), (2, .int (iZ ((lo : Int)))), (3, .int (iZ ((hi : Int))))] → W pg lau ev (zRm 0 0 0 0) s1 mi ar bl me cd s1.heap [] 0 0 Q (F0 mi 7 ls []) := by
    intro N_
    induction N_ with
    | zero => intro lo hi ls hd; exact absurd hd (Nat.not_lt_zero _)
    | succ N_ ih7 =>
      intro lo hi ls hd7 i7_1 i7_2 il ih hl
      have hx := qlc_n hc hn
      refine z_iload_n hC 7 hl dX10_ahead_7 rfl 2 rfl ?_
      refine z_iload_n hC 8 hl dX10_ahead_8 rfl 3 rfl ?_
      refine z_icmp_ge hC 9 44 dX10_ahead_9 rfl (by omega) (by omega) (fun hb1 => ?_) (fun hb1 => ?_)
      · -- 9t
        refine z_iload_n hC 44 hl dX10_ahead_44 rfl 2 rfl ?_
        -- R45.1
        refine z_st (st' := [.int (iZ (((cnt v 0 (plq q n) y : Nat) : Int)))]) (zcons (zieq (by exact qlc_end hc hn (by omega) (by omega) il ih)) rfl) ?_
        exact zp_iret hC hQ 45 (()) dX10_ahead_45 rfl trivial
      · -- 9f
        refine z_iload_n hC 12 hl dX10_ahead_12 rfl 2 rfl ?_
        refine z_iload_n hC 13 hl dX10_ahead_13 rfl 3 rfl ?_
        refine z_iadd (e := (lo : Int) + (hi : Int)) hC 14 dX10_ahead_14 rfl ?_
        refine z_iconst hC 15 dX10_ahead_15 ?_
        refine z_idiv hC 16 (lo + hi) (2) dX10_ahead_16 (by omega) (by omega) (by omega) (by omega) (((lo + hi) / 2)) rfl ?_
        refine z_istore (lv' := [(4, .int (iZ ((((lo + hi) / 2 : Nat) : Int)))), (0, .ref (p)), (1, .int (iZ (q))), (2, .int (iZ ((lo : Int)))), (3, .int (iZ ((hi : Int))))]) hC 17 hl dX10_ahead_17 (by decide) rfl (fun ls hl => ?_)
        refine z_aload_n hC 19 hl dX10_ahead_19 rfl 1 rfl ?_
        refine zp_get (v := .ref (pa)) hC hP 20 in_X10 rfl 0 (by decide) q704 0 rfl (rfl) dX10_ahead_20 ?_
        refine z_iload hC 23 hl dX10_ahead_23 0 rfl ?_
        have hfm := qlc_f hc hn (show (lo + hi) / 2 < x by omega)
        refine zp_iald (x := ((f (((lo + hi) / 2)) : Nat) : Int)) hC hP 25 1 (((lo + hi) / 2)) rfl (by decide) (by omega) (by omega) (rfl) dX10_ahead_25 ?_
        refine z_iload_n hC 26 hl dX10_ahead_26 rfl 2 rfl ?_
        refine z_icmp_ge hC 27 38 dX10_ahead_27 rfl (by omega) (by omega) (fun hb2 => ?_) (fun hb2 => ?_)
        · -- 27t
          refine z_iload hC 38 hl dX10_ahead_38 0 rfl ?_
          refine z_istore_n (lv' := [(3, .int (iZ ((((lo + hi) / 2 : Nat) : Int)))), (4, .int (iZ ((((lo + hi) / 2 : Nat) : Int)))), (0, .ref (p)), (1, .int (iZ (q))), (2, .int (iZ ((lo : Int))))]) hC 40 hl dX10_ahead_40 rfl (by decide) rfl (fun ls hl => ?_)
          refine z_goto hC 41 7 dX10_ahead_41 rfl ?_
          -- J7.2
          exact ih7 lo ((lo + hi) / 2) _ (by omega) (by first | assumption | omega) (by first | assumption | omega) (by first | exact il | exact qlc_lo hc (by omega) (by omega) | (intro j hj; omega)) (by first | exact ih | exact qlc_hi hc (by omega) (by omega) | (intro j hj; omega))  (lv_sub hl [2, 3, 4, 0] rfl)
        · -- 27f
          refine z_iload hC 30 hl dX10_ahead_30 0 rfl ?_
          refine z_iconst hC 32 dX10_ahead_32 ?_
          refine z_iadd (e := (((lo + hi) / 2 : Nat) : Int) + 1) hC 33 dX10_ahead_33 rfl ?_
          refine z_istore_n (lv' := [(2, .int (iZ ((((lo + hi) / 2 : Nat) : Int) + 1))), (4, .int (iZ ((((lo + hi) / 2 : Nat) : Int)))), (0, .ref (p)), (1, .int (iZ (q))), (3, .int (iZ ((hi : Int))))]) hC 34 hl dX10_ahead_34 rfl (by decide) rfl (fun ls hl => ?_)
          refine z_goto hC 35 41 dX10_ahead_35 rfl ?_
          refine z_goto hC 41 7 dX10_ahead_41 rfl ?_
          -- J7.3
          exact ih7 (((lo + hi) / 2) + 1) hi _ (by omega) (by first | assumption | omega) (by first | assumption | omega) (by first | exact il | exact qlc_lo hc (by omega) (by omega) | (intro j hj; omega)) (by first | exact ih | exact qlc_hi hc (by omega) (by omega) | (intro j hj; omega))  (z_lv (lv_sub hl [2, 3, 0, 4] rfl) (zcons rfl (zcons rfl (zcons (zpeq (by omega)) (zcons rfl rfl)))))
  -- J7.4
  exact L7 _ 0 x _ (Nat.lt_succ_self _) (by first | assumption | omega) (by first | assumption | omega) (by first | exact il | exact qlc_lo hc (by omega) (by omega) | (intro j hj; omega)) (by first | exact ih | exact qlc_hi hc (by omega) (by omega) | (intro j hj; omega))  (z_lv (lv_sub hl [2, 3, 1, 0] rfl) (zcons rfl (zcons rfl (zcons (zpeq (by omega)) (zcons rfl rfl)))))

set_option maxHeartbeats 4000000 in
set_option maxRecDepth 100000 in
theorem u_X10_within (lau : Launch) (s0 : State) (G : zG) (p : Nat) (pa : Nat) (x : Nat) (f : Nat → Nat) (n : Nat) (v : Nat → Nat) (y : Nat) (l : Nat) (r : Nat) (hn : n ≤ 120) (hc : PlC n v y x f) (hlr : l ≤ r) (hrn : r ≤ n) : zPur (S := Unit) lau yX10_within cX10_within 3 (some .int) 1 24 s0 G [.ref (p), .int (iZ ((l : Int))), .int (iZ ((r : Int) - 1))] (wPl G p pa x f) (fun (_ : Unit) => some (.int (iZ (((cnt v l r y : Nat) : Int))))) (fun (_ : Unit) => True) := by
  refine zPur.of (by decide) (Nat.le_of_ble_eq_true rfl) ?_
  intro pg ev s1 mi ar bl me cd ls Q hC hP hl hQ
  have hl : lv_has ls 3 [(0, .ref (p)), (1, .int (iZ ((l : Int)))), (2, .int (iZ ((r : Int) - 1)))] := hl
  refine z_aload_n hC 0 hl dX10_within_0 rfl 0 rfl ?_
  refine z_iload_n hC 1 hl dX10_within_1 rfl 2 rfl ?_
  refine z_iconst hC 2 dX10_within_2 ?_
  refine z_iadd (e := (r : Int)) hC 3 dX10_within_3 (by omega) ?_
  refine zp_back (zp_runV hC (zS0) hl.1 (hP) 1 (As := [.int (iZ ((r : Int)))]) (rest := []) (u_X10_ahead lau s0 G p pa x f n v y (r : Int) (by first | assumption | omega) (by first | assumption | omega) (by first | assumption | omega)) (lw_V q746 q747 q748 q110 q749) ⟨rfl, by decide, by decide, by decide +kernel⟩ (q0 := 0) (ci := 9) rfl rfl rfl rfl (Nat.le_of_ble_eq_true rfl) ⟨Nat.le_of_ble_eq_true rfl, Nat.le_of_ble_eq_true rfl⟩ ⟨by first | decide | omega, by first | decide | omega⟩ dX10_within_4) (fun _ hpost => ?_)
  refine z_st (st' := [.int (iZ (((cnt v 0 (plq (r : Int) n) y : Nat) : Int)))]) rfl ?_
  refine z_aload_n hC 7 hl dX10_within_7 rfl 0 rfl ?_
  refine z_iload_n hC 8 hl dX10_within_8 rfl 1 rfl ?_
  refine zp_back (zp_runV hC (zS0) hl.1 (hP) 1 (As := [.int (iZ ((l : Int)))]) (rest := [.int (iZ (((cnt v 0 (plq (r : Int) n) y : Nat) : Int)))]) (u_X10_ahead lau s0 G p pa x f n v y (l : Int) (by first | assumption | omega) (by first | assumption | omega) (by first | assumption | omega)) (lw_V q746 q747 q748 q110 q749) ⟨rfl, by decide, by decide, by decide +kernel⟩ (q0 := 0) (ci := 9) rfl rfl rfl rfl (Nat.le_of_ble_eq_true rfl) ⟨Nat.le_of_ble_eq_true rfl, Nat.le_of_ble_eq_true rfl⟩ ⟨by first | decide | omega, by first | decide | omega⟩ dX10_within_9) (fun _ hpost => ?_)
  refine z_st (st' := [.int (iZ (((cnt v 0 (plq (l : Int) n) y : Nat) : Int))), .int (iZ (((cnt v 0 (plq (r : Int) n) y : Nat) : Int)))]) rfl ?_
  refine z_isub (e := ((cnt v 0 (plq (r : Int) n) y : Nat) : Int) - ((cnt v 0 (plq (l : Int) n) y : Nat) : Int)) hC 12 dX10_within_12 rfl ?_
  -- R13.1
  refine z_st (st' := [.int (iZ (((cnt v l r y : Nat) : Int)))]) (zcons (zieq (by exact qlc_in hlr hrn)) rfl) ?_
  exact zp_iret hC hQ 13 (()) dX10_within_13 rfl trivial

set_option maxHeartbeats 4000000 in
set_option maxRecDepth 100000 in
theorem u_X1_isIn (lau : Launch) (s0 : State) (G : zG) (x : Int) (lo : Int) (hi : Int) (hr_x : -2147483648 ≤ x ∧ x < 2147483648) (hr_lo : -2147483648 ≤ lo ∧ lo < 2147483648) (hr_hi : -2147483648 ≤ hi ∧ hi < 2147483648) : zPur (S := Int) lau yX1_isIn cX1_isIn 6 (some .boolean) 0 0 s0 G [.long (lZ (x)), .long (lZ (lo)), .long (lZ (hi))] ([]) (fun (r_ : Int) => some (.int (iZ r_))) (fun (r_ : Int) => ((r_ = 1 ∧ (lo ≤ x ∧ x ≤ hi)) ∨ (r_ = 0 ∧ ¬ (lo ≤ x ∧ x ≤ hi)))) := by
  refine zPur.of (by decide) (Nat.le_of_ble_eq_true rfl) ?_
  intro pg ev s1 mi ar bl me cd ls Q hC hP hl hQ
  have hl : lv_has ls 6 [(0, .long (lZ (x))), (2, .long (lZ (lo))), (4, .long (lZ (hi)))] := hl
  refine z_lload_n hC 0 hl dX1_isIn_0 rfl 0 rfl ?_
  refine z_lload_n hC 1 hl dX1_isIn_1 rfl 1 rfl ?_
  refine z_lcmpZ (a := x) (b := lo) hC 2 dX1_isIn_2 (by omega) (by omega) ?_
  have hcm2 := cmpZ_spec (x) (lo)
  refine z_if_lt hC 3 17 dX1_isIn_3 rfl (by omega) (fun hb1 => ?_) (fun hb1 => ?_)
  · -- 3t
    refine z_iconst hC 17 dX1_isIn_17 ?_
    -- R18.1
    exact zp_zret hC hQ 18 (0) dX1_isIn_18 (by rfl) rfl (Or.inr ⟨rfl, by first | assumption | omega⟩)
  · -- 3f
    refine z_lload_n hC 6 hl dX1_isIn_6 rfl 0 rfl ?_
    refine z_lload hC 7 hl dX1_isIn_7 2 rfl ?_
    refine z_lcmpZ (a := x) (b := hi) hC 9 dX1_isIn_9 (by omega) (by omega) ?_
    have hcm9 := cmpZ_spec (x) (hi)
    refine z_if_gt hC 10 17 dX1_isIn_10 rfl (by omega) (fun hb2 => ?_) (fun hb2 => ?_)
    · -- 10t
      refine z_iconst hC 17 dX1_isIn_17 ?_
      -- R18.2
      exact zp_zret hC hQ 18 (0) dX1_isIn_18 (by rfl) rfl (Or.inr ⟨rfl, by first | assumption | omega⟩)
    · -- 10f
      refine z_iconst hC 13 dX1_isIn_13 ?_
      refine z_goto hC 14 18 dX1_isIn_14 rfl ?_
      -- R18.3
      exact zp_zret hC hQ 18 (1) dX1_isIn_18 (by rfl) rfl (Or.inl ⟨rfl, by first | assumption | omega⟩)

set_option maxHeartbeats 4000000 in
set_option maxRecDepth 100000 in
theorem u_X1_isValue (lau : Launch) (s0 : State) (G : zG) (x : Int) (hr_x : -2147483648 ≤ x ∧ x < 2147483648) : zPur (S := Int) lau yX1_isValue cX1_isValue 1 (some .boolean) 1 25 s0 G [.int (iZ (x))] ([]) (fun (r_ : Int) => some (.int (iZ r_))) (fun (r_ : Int) => ((r_ = 1 ∧ (0 ≤ x ∧ x < 1000)) ∨ (r_ = 0 ∧ ¬ (0 ≤ x ∧ x < 1000)))) := by
  refine zPur.of (by decide) (Nat.le_of_ble_eq_true rfl) ?_
  intro pg ev s1 mi ar bl me cd ls Q hC hP hl hQ
  have hl : lv_has ls 1 [(0, .int (iZ (x)))] := hl
  refine z_iload_n hC 0 hl dX1_isValue_0 rfl 0 rfl ?_
  refine z_i2l hC 1 dX1_isValue_1 (by omega) ?_
  refine z_lconst (a := 0) hC 2 dX1_isValue_2 rfl ?_
  refine z_ldc2 (a := 999) hC 3 q806 rfl dX1_isValue_3 ?_
  refine zp_back (zp_runS hC (zS0) hl.1 (zp_nil) 3 (As := [.long (lZ (x)), .long (lZ (0)), .long (lZ (999))]) (rest := []) (u_X1_isIn lau s0 G x 0 999 (by first | assumption | omega) (by first | assumption | omega) (by first | assumption | omega)) (lw_S q303 q304 q89 q305) ⟨by decide, by decide, by decide +kernel⟩ rfl rfl (Nat.le_of_ble_eq_true rfl) ⟨Nat.le_of_ble_eq_true rfl, Nat.le_of_ble_eq_true rfl⟩ ⟨by first | decide | omega, by first | decide | omega⟩ dX1_isValue_6) (fun r_6 hpost => ?_)
  have hb_6 : (r_6 = 1 ∧ ((0 : Int) ≤ x ∧ x ≤ (999 : Int))) ∨ (r_6 = 0 ∧ ¬ ((0 : Int) ≤ x ∧ x ≤ (999 : Int))) := hpost
  refine z_st (st' := [.int (iZ (r_6))]) rfl ?_
  -- R9.1
  exact zp_zret hC hQ 9 (r_6) dX1_isValue_9 (zbool2 (by omega)) rfl (by first | assumption | omega)
