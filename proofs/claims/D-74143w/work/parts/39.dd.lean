/-! methods of ModeDesk: 39.dd -/
set_option maxHeartbeats 4000000 in
set_option maxRecDepth 100000 in
theorem u_X1_isAhead (lau : Launch) (s0 : State) (G : zG) (ad : Nat → Nat) (F : Nat → Int) (Ar : Nat → Nat → Int) (kp : Nat → Nat) (pl : Nat → Option Nat) (pr : Nat → Nat) (pa : Nat → Nat) (pm : Nat → Nat) (pf : Nat → Nat → Nat) (n : Nat) (v : Nat → Nat) (x : Nat) (y : Nat) (l : Nat) (r : Nat) (t : Nat) (nw : Nat) (hn : n ≤ 120) (hv : ∀ i, i < n → v i < 1000) (hpl : ∀ y, y < 1000 → (pl y = some (pr y) ∨ (pl y = none ∧ pr y = nw))) (hnw : zNwh s0 nw) (hpc : ∀ y, y < 1000 → PlC n v y (pm y) (pf y)) (hlr : l ≤ r) (hrn : r ≤ n) (hx : x < 1000) (hy : y < 1000) (px : 0 < cnt v l r x) (py : 0 < cnt v l r y) (ht : t < 4) : zPur (S := Int) lau yX1_isAhead cX1_isAhead 7 (some .boolean) 3 70 s0 G [.ref (ad 99), .int (iZ ((x : Int))), .int (iZ ((y : Int))), .int (iZ ((l : Int))), .int (iZ ((r : Int) - 1)), .int (iZ ((t : Int)))] (dP ad G F Ar kp pl pr pa pm pf) (fun (r_ : Int) => some (.int (iZ r_))) (fun (r_ : Int) => ((r_ = 1 ∧ (ahd v l r t x y)) ∨ (r_ = 0 ∧ ¬ (ahd v l r t x y)))) := by
  refine zPur.of (by decide) (Nat.le_of_ble_eq_true rfl) ?_
  intro pg ev s1 mi ar bl me cd ls Q hC hP hl hQ
  have hl : lv_has ls 7 [(0, .ref (ad 99)), (1, .int (iZ ((x : Int)))), (2, .int (iZ ((y : Int)))), (3, .int (iZ ((l : Int)))), (4, .int (iZ ((r : Int) - 1))), (5, .int (iZ ((t : Int))))] := hl
  have hmx := PlC_pos (hpc x hx) px hrn
  have hmy := PlC_pos (hpc y hy) py hrn
  have bx := cnt_le v l r x
  have by_ := cnt_le v l r y
  refine z_aload_n hC 0 hl dX1_isAhead_0 rfl 0 rfl ?_
  refine z_iload_n hC 1 hl dX1_isAhead_1 rfl 1 rfl ?_
  refine zp_back (zp_runV hC (zS0) hl.1 (dP_l hP) 1 (As := [.int (iZ ((x : Int)))]) (rest := []) (u_X1_of lau s0 G ad F Ar kp pl x (pr x) nw (by first | assumption | omega) (by first | assumption | exact hpl _ (by omega)) (by first | assumption | omega)) (lw_V q736 q738 qs17 q89 q739) ⟨rfl, by decide, by decide, by decide +kernel⟩ (q0 := 0) (ci := 1) rfl rfl rfl rfl (Nat.le_of_ble_eq_true rfl) ⟨Nat.le_of_ble_eq_true rfl, Nat.le_of_ble_eq_true rfl⟩ ⟨by first | decide | omega, by first | decide | omega⟩ dX1_isAhead_2) (fun _ hpost => ?_)
  refine z_st (st' := [.ref ((pr x))]) rfl ?_
  refine z_iload_n hC 5 hl dX1_isAhead_5 rfl 3 rfl ?_
  refine z_iload hC 6 hl dX1_isAhead_6 4 rfl ?_
  refine zp_back (zp_runV hC (zS0) hl.1 ((dP_p hP (y := x) (by omega) (by first | assumption | omega))) 2 (As := [.int (iZ ((l : Int))), .int (iZ ((r : Int) - 1))]) (rest := []) (u_X10_within lau s0 G (pr x) (pa (x)) (pm (x)) (pf (x)) n v x l r (by first | assumption | omega) (by exact hpc _ (by omega)) (by first | assumption | omega) (by first | assumption | omega)) (lw_V q742 q743 q744 q110 q745) ⟨rfl, by decide, by decide, by decide +kernel⟩ (q0 := 0) (ci := 9) rfl rfl rfl rfl (Nat.le_of_ble_eq_true rfl) ⟨Nat.le_of_ble_eq_true rfl, Nat.le_of_ble_eq_true rfl⟩ ⟨by first | decide | omega, by first | decide | omega⟩ dX1_isAhead_8) (fun _ hpost => ?_)
  refine z_st (st' := [.int (iZ (((cnt v l r x : Nat) : Int)))]) rfl ?_
  refine z_aload_n hC 11 hl dX1_isAhead_11 rfl 0 rfl ?_
  refine z_iload_n hC 12 hl dX1_isAhead_12 rfl 2 rfl ?_
  refine zp_back (zp_runV hC (zS0) hl.1 (dP_l hP) 1 (As := [.int (iZ ((y : Int)))]) (rest := [.int (iZ (((cnt v l r x : Nat) : Int)))]) (u_X1_of lau s0 G ad F Ar kp pl y (pr y) nw (by first | assumption | omega) (by first | assumption | exact hpl _ (by omega)) (by first | assumption | omega)) (lw_V q736 q738 qs17 q89 q739) ⟨rfl, by decide, by decide, by decide +kernel⟩ (q0 := 0) (ci := 1) rfl rfl rfl rfl (Nat.le_of_ble_eq_true rfl) ⟨Nat.le_of_ble_eq_true rfl, Nat.le_of_ble_eq_true rfl⟩ ⟨by first | decide | omega, by first | decide | omega⟩ dX1_isAhead_13) (fun _ hpost => ?_)
  refine z_st (st' := [.ref ((pr y)), .int (iZ (((cnt v l r x : Nat) : Int)))]) rfl ?_
  refine z_iload_n hC 16 hl dX1_isAhead_16 rfl 3 rfl ?_
  refine z_iload hC 17 hl dX1_isAhead_17 4 rfl ?_
  refine zp_back (zp_runV hC (zS0) hl.1 ((dP_p hP (y := y) (by omega) (by first | assumption | omega))) 2 (As := [.int (iZ ((l : Int))), .int (iZ ((r : Int) - 1))]) (rest := [.int (iZ (((cnt v l r x : Nat) : Int)))]) (u_X10_within lau s0 G (pr y) (pa (y)) (pm (y)) (pf (y)) n v y l r (by first | assumption | omega) (by exact hpc _ (by omega)) (by first | assumption | omega) (by first | assumption | omega)) (lw_V q742 q743 q744 q110 q745) ⟨rfl, by decide, by decide, by decide +kernel⟩ (q0 := 0) (ci := 9) rfl rfl rfl rfl (Nat.le_of_ble_eq_true rfl) ⟨Nat.le_of_ble_eq_true rfl, Nat.le_of_ble_eq_true rfl⟩ ⟨by first | decide | omega, by first | decide | omega⟩ dX1_isAhead_19) (fun _ hpost => ?_)
  refine z_st (st' := [.int (iZ (((cnt v l r y : Nat) : Int))), .int (iZ (((cnt v l r x : Nat) : Int)))]) rfl ?_
  refine z_isub (e := ((cnt v l r x : Nat) : Int) - ((cnt v l r y : Nat) : Int)) hC 22 dX1_isAhead_22 rfl ?_
  refine z_istore (lv' := [(6, .int (iZ (((cnt v l r x : Nat) : Int) - ((cnt v l r y : Nat) : Int)))), (0, .ref (ad 99)), (1, .int (iZ ((x : Int)))), (2, .int (iZ ((y : Int)))), (3, .int (iZ ((l : Int)))), (4, .int (iZ ((r : Int) - 1))), (5, .int (iZ ((t : Int))))]) hC 23 hl dX1_isAhead_23 (by decide) rfl (fun ls hl => ?_)
  refine z_iload hC 25 hl dX1_isAhead_25 0 rfl ?_
  refine z_if_eq hC 27 43 dX1_isAhead_27 rfl (by omega) (fun hb1 => ?_) (fun hb1 => ?_)
  · -- 27t
    refine z_iload_n hC 43 hl dX1_isAhead_43 rfl 2 rfl ?_
    refine z_iload_n hC 44 hl dX1_isAhead_44 rfl 3 rfl ?_
    refine z_icmp_eq hC 45 72 dX1_isAhead_45 rfl (by omega) (by omega) (fun hb2 => ?_) (fun hb2 => ?_)
    · -- 45t
      refine z_iconst hC 72 dX1_isAhead_72 ?_
      -- R73.1
      exact zp_zret hC hQ 73 (0) dX1_isAhead_73 (by rfl) rfl (Or.inr ⟨rfl, by first | exact Or.inl (by omega) | exact Or.inr ⟨by omega, by assumption⟩ | exact ahd_eq0 (by omega) | exact ahd_lt0 (by omega) | exact ahd_no (by omega) (by assumption)⟩)
    · -- 45f
      refine z_aload_n hC 48 hl dX1_isAhead_48 rfl 1 rfl ?_
      refine zp_get (v := .ref (ad 11)) hC (dP_l hP) 49 in_X1 rfl 11 (by decide) q221 0 rfl (rfl) dX1_isAhead_49 ?_
      refine z_iload hC 52 hl dX1_isAhead_52 6 rfl ?_
      refine zp_aldq (CN := "ModeDesk$Ahead") (v := .ref (ad (301 + t))) hC (dP_l hP) 54 2 6 (t) rfl rfl (by decide) (by omega) (by omega) rfl dX1_isAhead_54 ?_
      refine z_iload_n hC 55 hl dX1_isAhead_55 rfl 2 rfl ?_
      refine z_iload_n hC 56 hl dX1_isAhead_56 rfl 3 rfl ?_
      refine z_iload_n hC 57 hl dX1_isAhead_57 rfl 4 rfl ?_
      refine z_iload hC 58 hl dX1_isAhead_58 5 rfl ?_
      refine z_rule hC (zS0) hl.1 hP 60 hn hv hpl hnw hpc hlr hrn hx hy px py ht (by decide) ⟨Nat.le_of_ble_eq_true rfl, Nat.le_of_ble_eq_true rfl⟩ ⟨by first | decide | omega, by first | decide | omega⟩ dX1_isAhead_60 (fun r_60 hb_60 => ?_)
      rcases hb_60 with ⟨rfl, hb_60⟩ | ⟨rfl, hb_60⟩
      · -- 60=1
        refine z_if_eq_f hC 65 72 dX1_isAhead_65 rfl (by omega) (by omega) ?_
        refine z_iconst hC 68 dX1_isAhead_68 ?_
        refine z_goto hC 69 73 dX1_isAhead_69 rfl ?_
        -- R73.2
        exact zp_zret hC hQ 73 (1) dX1_isAhead_73 (by rfl) rfl (Or.inl ⟨rfl, by first | exact Or.inl (by omega) | exact Or.inr ⟨by omega, by assumption⟩ | exact ahd_eq0 (by omega) | exact ahd_lt0 (by omega) | exact ahd_no (by omega) (by assumption)⟩)
      · -- 60=0
        refine z_if_eq_t hC 65 72 dX1_isAhead_65 rfl (by omega) (by omega) ?_
        refine z_iconst hC 72 dX1_isAhead_72 ?_
        -- R73.3
        exact zp_zret hC hQ 73 (0) dX1_isAhead_73 (by rfl) rfl (Or.inr ⟨rfl, by first | exact Or.inl (by omega) | exact Or.inr ⟨by omega, by assumption⟩ | exact ahd_eq0 (by omega) | exact ahd_lt0 (by omega) | exact ahd_no (by omega) (by assumption)⟩)
  · -- 27f
    refine z_iload hC 30 hl dX1_isAhead_30 0 rfl ?_
    refine z_if_le hC 32 39 dX1_isAhead_32 rfl (by omega) (fun hb3 => ?_) (fun hb3 => ?_)
    · -- 32t
      refine z_iconst hC 39 dX1_isAhead_39 ?_
      refine z_goto hC 40 73 dX1_isAhead_40 rfl ?_
      -- R73.4
      exact zp_zret hC hQ 73 (0) dX1_isAhead_73 (by rfl) rfl (Or.inr ⟨rfl, by first | exact Or.inl (by omega) | exact Or.inr ⟨by omega, by assumption⟩ | exact ahd_eq0 (by omega) | exact ahd_lt0 (by omega) | exact ahd_no (by omega) (by assumption)⟩)
    · -- 32f
      refine z_iconst hC 35 dX1_isAhead_35 ?_
      refine z_goto hC 36 73 dX1_isAhead_36 rfl ?_
      -- R73.5
      exact zp_zret hC hQ 73 (1) dX1_isAhead_73 (by rfl) rfl (Or.inl ⟨rfl, by first | exact Or.inl (by omega) | exact Or.inr ⟨by omega, by assumption⟩ | exact ahd_eq0 (by omega) | exact ahd_lt0 (by omega) | exact ahd_no (by omega) (by assumption)⟩)
