/-! methods of ModeDeskModel: 12.mb -/
set_option maxHeartbeats 4000000 in
set_option maxRecDepth 100000 in
theorem m_X7_modeOf (lau : Launch) (s0 : State) (G : zG) (sz : Nat) (ad : Nat → Nat) (F : Nat → Int) (Ar : Nat → Nat → Int) (n : Nat) (v : Nat → Nat) (gv : Nat → Int) (l : Nat) (r : Nat) (t : Nat) (hn : n ≤ 120) (hv : ∀ i, i < n → v i < 1000) (hlr : r ≤ n) (hl0 : l < r) (ht : t < 4) : zMet (S := (Nat → Nat) × (Nat → Int) × (Nat → Int) × (Nat → Int) × Nat × (Nat → Nat) × (Nat → Int)) lau yX7_modeOf cX7_modeOf 3 (some .int) 2 46 0 0 s0 G sz [.ref (ad 0), .int (iZ ((l : Int))), .int (iZ ((r : Int) - 1))] (mW ad G (va_up (va_up F 5 ((n : Int))) 7 ((t : Int))) (va_up Ar 3 (cI (n) v gv))) (fun ((o, go, fo, la, k, u, gu) : (Nat → Nat) × (Nat → Int) × (Nat → Int) × (Nat → Int) × Nat × (Nat → Nat) × (Nat → Int)) => some (.int (iZ (((md v l r t : Nat) : Int))))) (fun ((o, go, fo, la, k, u, gu) : (Nat → Nat) × (Nat → Int) × (Nat → Int) × (Nat → Int) × Nat × (Nat → Nat) × (Nat → Int)) => (CO v l r o fo la k u) ∧ (md v l r t < 1000) ∧ (0 < cnt v l r (md v l r t)) ∧ (0 < k)) (fun ((o, go, fo, la, k, u, gu) : (Nat → Nat) × (Nat → Int) × (Nat → Int) × (Nat → Int) × Nat × (Nat → Nat) × (Nat → Int)) => (mW ad G (va_up (va_up (va_up F 5 ((n : Int))) 7 ((t : Int))) 38 ((k : Int))) (va_up (va_up (va_up (va_up (va_up Ar 3 (cI (n) v gv)) 34 (cI (1000) o go)) 35 fo) 36 la) 37 (cI (k) u gu)))) := by
  refine zMet.of (by decide) (Nat.le_of_ble_eq_true rfl) ?_
  intro pg ev s1 mi ar bl me cd ls Q as0 hC hH hl hQ hsz
  generalize s1.heap = H at hH ⊢
  generalize ([] : List Loc) = locs at hH ⊢
  have hl : lv_has ls 3 [(0, .ref (ad 0)), (1, .int (iZ ((l : Int)))), (2, .int (iZ ((r : Int) - 1)))] := hl
  refine z_aload_n hC 0 hl dX7_modeOf_0 rfl 0 rfl ?_
  refine z_iload_n hC 1 hl dX7_modeOf_1 rfl 1 rfl ?_
  refine z_iload_n hC 2 hl dX7_modeOf_2 rfl 2 rfl ?_
  refine z_iconst hC 3 dX7_modeOf_3 ?_
  refine z_same (z_runV hC hH.2.2 hl.1 hH.1 hH.2.1 3 (As := [.int (iZ ((l : Int))), .int (iZ ((r : Int) - 1)), .int (iZ ((-1)))]) (rest := []) (m_X7_counts lau s0 G _ ad (va_up (va_up F 5 ((n : Int))) 7 ((t : Int))) (va_up Ar 3 (cI (n) v gv)) n v gv l r (-1) v (by first | assumption | omega) (by first | assumption | omega) (by first | assumption | omega) (by first | assumption | omega) (by first | assumption | omega) (by exact fun i _ _ => ⟨fun q => by omega, fun _ => rfl⟩)) (lw_V q1764 q1766 qs73 q95 q1767) ⟨rfl, by decide, by decide, by decide +kernel⟩ (q0 := 0) (ci := 0) rfl rfl rfl rfl (Nat.le_of_ble_eq_true rfl) ⟨Nat.le_of_ble_eq_true rfl, Nat.le_of_ble_eq_true rfl⟩ ⟨Nat.le_of_ble_eq_true rfl, Nat.le_of_ble_eq_true rfl⟩ dX7_modeOf_4) hH (fun u_ H locs hpost hH => ?_)
  obtain ⟨o_4, go_4, fo_4, la_4, k_4, u_4, gu_4⟩ := u_
  have pCO_4 : CO v l r o_4 fo_4 la_4 k_4 u_4 := hpost
  have hH : zH s0 s1 G as0 (mW ad G (va_up (va_up (va_up F 5 ((n : Int))) 7 ((t : Int))) 38 ((k_4 : Int))) (va_up (va_up (va_up (va_up (va_up Ar 3 (cI (n) v gv)) 34 (cI (1000) o_4 go_4)) 35 fo_4) 36 la_4) 37 (cI (k_4) u_4 gu_4))) H locs := hH
  refine z_st (st' := []) rfl ?_
  have hk0 := CO_kpos pCO_4 (Nat.le_refl l) hl0 (hv l (by omega))
  refine z_aload_n hC 7 hl dX7_modeOf_7 rfl 0 rfl ?_
  refine z_aload_n hC 8 hl dX7_modeOf_8 rfl 0 rfl ?_
  refine gmW_7 (x := (t : Int)) hC hH 9 rfl dX7_modeOf_9 ?_
  refine z_same (z_runV hC hH.2.2 hl.1 hH.1 hH.2.1 1 (As := [.int (iZ ((t : Int)))]) (rest := []) (m_X7_modeBy lau s0 G _ ad (va_up (va_up (va_up F 5 ((n : Int))) 7 ((t : Int))) 38 ((k_4 : Int))) (va_up (va_up (va_up (va_up (va_up Ar 3 (cI (n) v gv)) 34 (cI (1000) o_4 go_4)) 35 fo_4) 36 la_4) 37 (cI (k_4) u_4 gu_4)) v l r o_4 go_4 fo_4 la_4 k_4 u_4 gu_4 t (by first | assumption | omega) (by first | assumption | omega) (by first | assumption | omega)) (lw_V q1768 q1770 qs74 q95 q1771) ⟨rfl, by decide, by decide, by decide +kernel⟩ (q0 := 0) (ci := 0) rfl rfl rfl rfl (Nat.le_of_ble_eq_true rfl) ⟨Nat.le_of_ble_eq_true rfl, Nat.le_of_ble_eq_true rfl⟩ ⟨Nat.le_of_ble_eq_true rfl, Nat.le_of_ble_eq_true rfl⟩ dX7_modeOf_12) hH (fun r_12 H locs hpost hH => ?_)
  have p1_12 : (k_4 = 0 ∧ r_12 = -1) ∨ (0 < k_4 ∧ r_12 = (md v l r t : Int)) := hpost
  have hH : zH s0 s1 G as0 (mW ad G (va_up (va_up (va_up F 5 ((n : Int))) 7 ((t : Int))) 38 ((k_4 : Int))) (va_up (va_up (va_up (va_up (va_up Ar 3 (cI (n) v gv)) 34 (cI (1000) o_4 go_4)) 35 fo_4) 36 la_4) 37 (cI (k_4) u_4 gu_4))) H locs := hH
  refine z_st (st' := [.int (iZ (r_12))]) rfl ?_
  have hr15 : (r_12) = (md v l r t : Int) := by omega
  -- R15.1
  refine z_st (st' := [.int (iZ (((md v l r t : Nat) : Int)))]) (zcons (zieq (by first | assumption | omega)) rfl) ?_
  exact z_iret hC hH hQ 15 ((o_4, go_4, fo_4, la_4, k_4, u_4, gu_4)) dX7_modeOf_15 rfl ⟨by first | assumption | omega, by exact (md_spec pCO_4.2.2 (by omega)).1, by exact (md_spec pCO_4.2.2 (by omega)).2.1, by first | assumption | omega⟩ rfl (Nat.le_refl _) (Nat.le_refl _)

set_option maxHeartbeats 4000000 in
set_option maxRecDepth 100000 in
theorem m_X7_told (lau : Launch) (s0 : State) (G : zG) (sz : Nat) (ad : Nat → Nat) (F : Nat → Int) (Ar : Nat → Nat → Int) (w : Nat → Nat) (wl : Nat) (wr : Nat) (o : Nat → Nat) (go : Nat → Int) (fo : Nat → Int) (la : Nat → Int) (k : Nat) (u : Nat → Nat) (gu : Nat → Int) (x : Nat) (q : Int) (hCO : CO w wl wr o fo la k u) (hwr : wr ≤ 120) (hr_q : -2147483648 ≤ q ∧ q < 2147483648) (hx : x < 1000) (px : 0 < cnt w wl wr x) : zMet (S := Unit) lau yX7_told cX7_told 3 (some .int) 0 0 0 0 s0 G sz [.ref (ad 0), .int (iZ ((x : Int))), .int (iZ (q))] (mW ad G (va_up F 38 ((k : Int))) (va_up (va_up (va_up (va_up Ar 34 (cI (1000) o go)) 35 fo) 36 la) 37 (cI (k) u gu))) (fun (_ : Unit) => some (.int (iZ ((toldZ w wl wr x q))))) (fun (_ : Unit) => True) (fun (_ : Unit) => (mW ad G (va_up F 38 ((k : Int))) (va_up (va_up (va_up (va_up Ar 34 (cI (1000) o go)) 35 fo) 36 la) 37 (cI (k) u gu)))) := by
  refine zMet.of (by decide) (Nat.le_of_ble_eq_true rfl) ?_
  intro pg ev s1 mi ar bl me cd ls Q as0 hC hH hl hQ hsz
  generalize s1.heap = H at hH ⊢
  generalize ([] : List Loc) = locs at hH ⊢
  have hl : lv_has ls 3 [(0, .ref (ad 0)), (1, .int (iZ ((x : Int)))), (2, .int (iZ (q)))] := hl
  have ho_x := hCO.1 x (by omega)
  have hc_x := cnt_le w wl wr x
  have hf_x := hCO.2.1 x (by omega) px
  have hfs_x := fsP_spec px
  have hls_x := lsP_spec px
  refine z_iload_n hC 0 hl dX7_told_0 rfl 2 rfl ?_
  refine z_if_ne hC 1 8 dX7_told_1 rfl (by omega) (fun hb1 => ?_) (fun hb1 => ?_)
  · -- 1t
    refine z_iload_n hC 8 hl dX7_told_8 rfl 2 rfl ?_
    refine z_iconst hC 9 dX7_told_9 ?_
    refine z_icmp_ne hC 10 22 dX7_told_10 rfl (by omega) (by omega) (fun hb2 => ?_) (fun hb2 => ?_)
    · -- 10t
      refine z_iload_n hC 22 hl dX7_told_22 rfl 2 rfl ?_
      refine z_iconst hC 23 dX7_told_23 ?_
      refine z_icmp_ne hC 24 36 dX7_told_24 rfl (by omega) (by omega) (fun hb3 => ?_) (fun hb3 => ?_)
      · -- 24t
        refine z_aload_n hC 36 hl dX7_told_36 rfl 0 rfl ?_
        refine gmW_36 hC hH 37 dX7_told_37 ?_
        refine z_iload_n hC 40 hl dX7_told_40 rfl 1 rfl ?_
        refine lmW_36 (x := (la x)) hC hH 41 (x) (by omega) (by omega) rfl dX7_told_41 ?_
        -- R42.1
        refine z_st (st' := [.int (iZ ((toldZ w wl wr x q)))]) (zcons (zieq (by first | omega | (unfold toldZ; simp only [*, if_true, if_false]; omega) | (unfold toldZ; (repeat' split) <;> omega))) rfl) ?_
        exact z_iret hC hH hQ 42 (()) dX7_told_42 rfl trivial rfl (Nat.le_refl _) (Nat.le_refl _)
      · -- 24f
        refine z_aload_n hC 27 hl dX7_told_27 rfl 0 rfl ?_
        refine gmW_35 hC hH 28 dX7_told_28 ?_
        refine z_iload_n hC 31 hl dX7_told_31 rfl 1 rfl ?_
        refine lmW_35 (x := (fo x)) hC hH 32 (x) (by omega) (by omega) rfl dX7_told_32 ?_
        refine z_goto hC 33 42 dX7_told_33 rfl ?_
        -- R42.2
        refine z_st (st' := [.int (iZ ((toldZ w wl wr x q)))]) (zcons (zieq (by first | omega | (unfold toldZ; simp only [*, if_true, if_false]; omega) | (unfold toldZ; (repeat' split) <;> omega))) rfl) ?_
        exact z_iret hC hH hQ 42 (()) dX7_told_42 rfl trivial rfl (Nat.le_refl _) (Nat.le_refl _)
    · -- 10f
      refine z_aload_n hC 13 hl dX7_told_13 rfl 0 rfl ?_
      refine gmW_34 hC hH 14 dX7_told_14 ?_
      refine z_iload_n hC 17 hl dX7_told_17 rfl 1 rfl ?_
      refine lmW_34 (x := ((o x : Nat) : Int)) hC hH 18 (x) (by omega) (by omega) (cI_lt (by omega)) dX7_told_18 ?_
      refine z_goto hC 19 42 dX7_told_19 rfl ?_
      -- R42.3
      refine z_st (st' := [.int (iZ ((toldZ w wl wr x q)))]) (zcons (zieq (by first | omega | (unfold toldZ; simp only [*, if_true, if_false]; omega) | (unfold toldZ; (repeat' split) <;> omega))) rfl) ?_
      exact z_iret hC hH hQ 42 (()) dX7_told_42 rfl trivial rfl (Nat.le_refl _) (Nat.le_refl _)
  · -- 1f
    refine z_iload_n hC 4 hl dX7_told_4 rfl 1 rfl ?_
    refine z_goto hC 5 42 dX7_told_5 rfl ?_
    -- R42.4
    refine z_st (st' := [.int (iZ ((toldZ w wl wr x q)))]) (zcons (zieq (by first | omega | (unfold toldZ; simp only [*, if_true, if_false]; omega) | (unfold toldZ; (repeat' split) <;> omega))) rfl) ?_
    exact z_iret hC hH hQ 42 (()) dX7_told_42 rfl trivial rfl (Nat.le_refl _) (Nat.le_refl _)

set_option maxHeartbeats 4000000 in
set_option maxRecDepth 100000 in
theorem m_X7_mode (lau : Launch) (s0 : State) (G : zG) (sz : Nat) (ad : Nat → Nat) (F : Nat → Int) (Ar : Nat → Nat → Int) (n : Nat) (v : Nat → Nat) (gv : Nat → Int) (t : Nat) (l : Int) (r : Int) (q : Int) (hn : n ≤ 120) (hv : ∀ i, i < n → v i < 1000) (ht : t < 4) (hr_l : -2147483648 ≤ l ∧ l < 2147483648) (hr_r : -2147483648 ≤ r ∧ r < 2147483648) (hr_q : -2147483648 ≤ q ∧ q < 2147483648) : zMet (S := Int × (Nat → Int) × (Nat → Nat → Int)) lau yX7_mode cX7_mode 4 (some .int) 3 68 0 0 s0 G sz [.ref (ad 0), .int (iZ (l)), .int (iZ (r)), .int (iZ (q))] (mW ad G (va_up (va_up F 5 ((n : Int))) 7 ((t : Int))) (va_up Ar 3 (cI (n) v gv))) (fun ((r_, F2, A2) : Int × (Nat → Int) × (Nat → Nat → Int)) => some (.int (iZ (r_)))) (fun ((r_, F2, A2) : Int × (Nat → Int) × (Nat → Nat → Int)) => (Sp_mode n v t l r q r_) ∧ (MK (va_up (va_up F 5 ((n : Int))) 7 ((t : Int))) (va_up Ar 3 (cI (n) v gv)) F2 A2)) (fun ((r_, F2, A2) : Int × (Nat → Int) × (Nat → Nat → Int)) => (mW ad G F2 A2)) := by
  refine zMet.of (by decide) (Nat.le_of_ble_eq_true rfl) ?_
  intro pg ev s1 mi ar bl me cd ls Q as0 hC hH hl hQ hsz
  generalize s1.heap = H at hH ⊢
  generalize ([] : List Loc) = locs at hH ⊢
  have hl : lv_has ls 4 [(0, .ref (ad 0)), (1, .int (iZ (l))), (2, .int (iZ (r))), (3, .int (iZ (q)))] := hl
  refine z_aload_n hC 0 hl dX7_mode_0 rfl 0 rfl ?_
  refine z_iconst hC 1 dX7_mode_1 ?_
  refine pmW_0 hC hH 2 dX7_mode_2 (fun H locs hH => ?_)
  have hH : zH s0 s1 G as0 (mW ad G (va_up (va_up (va_up F 0 (0)) 5 ((n : Int))) 7 ((t : Int))) (va_up Ar 3 (cI (n) v gv))) H locs := hH
  refine z_aload_n hC 5 hl dX7_mode_5 rfl 0 rfl ?_
  refine z_iload_n hC 6 hl dX7_mode_6 rfl 1 rfl ?_
  refine z_iload_n hC 7 hl dX7_mode_7 rfl 2 rfl ?_
  refine z_same (z_runV hC hH.2.2 hl.1 hH.1 hH.2.1 2 (As := [.int (iZ (l)), .int (iZ (r))]) (rest := []) (m_X7_isSpan lau s0 G _ ad (va_up (va_up (va_up F 0 (0)) 5 ((n : Int))) 7 ((t : Int))) (va_up Ar 3 (cI (n) v gv)) n l r (by first | assumption | omega) (by first | assumption | omega) (by first | assumption | omega)) (lw_V q1712 q1714 qs68 q95 q1715) ⟨rfl, by decide, by decide, by decide +kernel⟩ (q0 := 0) (ci := 0) rfl rfl rfl rfl (Nat.le_of_ble_eq_true rfl) ⟨Nat.le_of_ble_eq_true rfl, Nat.le_of_ble_eq_true rfl⟩ ⟨Nat.le_of_ble_eq_true rfl, Nat.le_of_ble_eq_true rfl⟩ dX7_mode_8) hH (fun r_8 H locs hpost hH => ?_)
  have hb_8 : (r_8 = 1 ∧ (0 ≤ l ∧ l ≤ r ∧ r < (n : Int))) ∨ (r_8 = 0 ∧ ¬ (0 ≤ l ∧ l ≤ r ∧ r < (n : Int))) := hpost
  have hH : zH s0 s1 G as0 (mW ad G (va_up (va_up (va_up F 0 (0)) 5 ((n : Int))) 7 ((t : Int))) (va_up Ar 3 (cI (n) v gv))) H locs := hH
  refine z_st (st' := [.int (iZ (r_8))]) rfl ?_
  rcases hb_8 with ⟨rfl, hb_8⟩ | ⟨rfl, hb_8⟩
  · -- 8=1
    refine z_if_eq_f hC 11 23 dX7_mode_11 rfl (by omega) (by omega) ?_
    refine z_iload_n hC 14 hl dX7_mode_14 rfl 3 rfl ?_
    refine z_if_lt hC 15 23 dX7_mode_15 rfl (by omega) (fun hb1 => ?_) (fun hb1 => ?_)
    · -- 15t
      refine z_iconst hC 23 dX7_mode_23 ?_
      refine z_goto hC 24 38 dX7_mode_24 rfl ?_
      -- R38.1
      exact z_iret hC hH hQ 38 (((-1), (va_up (va_up (va_up F 0 (0)) 5 ((n : Int))) 7 ((t : Int))), (va_up Ar 3 (cI (n) v gv)))) dX7_mode_38 rfl ⟨by first | (unfold Sp_mode; rw [if_neg (by omega)]) | (unfold Sp_mode; rw [if_pos (by omega)]), by exact ⟨rfl, rfl, rfl, rfl, rfl, rfl, rfl, rfl, rfl, rfl, rfl, rfl, rfl, rfl, rfl, rfl⟩⟩ rfl (Nat.le_refl _) (Nat.le_refl _)
    · -- 15f
      refine z_iload_n hC 18 hl dX7_mode_18 rfl 3 rfl ?_
      refine z_iconst hC 19 dX7_mode_19 ?_
      refine z_icmp_le hC 20 27 dX7_mode_20 rfl (by omega) (by omega) (fun hb2 => ?_) (fun hb2 => ?_)
      · -- 20t
        refine z_aload_n hC 27 hl dX7_mode_27 rfl 0 rfl ?_
        refine z_aload_n hC 28 hl dX7_mode_28 rfl 0 rfl ?_
        refine z_iload_n hC 29 hl dX7_mode_29 rfl 1 rfl ?_
        refine z_iload_n hC 30 hl dX7_mode_30 rfl 2 rfl ?_
        refine z_st (st' := [.int (iZ ((((r + 1).toNat : Nat) : Int) - 1)), .int (iZ ((((l).toNat : Nat) : Int))), .ref (ad 0), .ref (ad 0)]) (zcons (zieq (by omega)) (zcons (zieq (by omega)) rfl)) ?_
        refine z_same (z_runV hC hH.2.2 hl.1 hH.1 hH.2.1 2 (As := [.int (iZ ((((l).toNat : Nat) : Int))), .int (iZ ((((r + 1).toNat : Nat) : Int) - 1))]) (rest := [.ref (ad 0)]) (m_X7_modeOf lau s0 G _ ad (va_up (va_up (va_up F 0 (0)) 5 ((n : Int))) 7 ((t : Int))) (va_up Ar 3 (cI (n) v gv)) n v gv ((l).toNat) ((r + 1).toNat) t (by first | assumption | omega) (by first | assumption | omega) (by first | assumption | omega) (by first | assumption | omega) (by first | assumption | omega)) (lw_V q1760 q1762 qs72 q95 q1763) ⟨rfl, by decide, by decide, by decide +kernel⟩ (q0 := 0) (ci := 0) rfl rfl rfl rfl (Nat.le_of_ble_eq_true rfl) ⟨Nat.le_of_ble_eq_true rfl, Nat.le_of_ble_eq_true rfl⟩ ⟨Nat.le_of_ble_eq_true rfl, Nat.le_of_ble_eq_true rfl⟩ dX7_mode_31) hH (fun u_ H locs hpost hH => ?_)
        obtain ⟨o_31, go_31, fo_31, la_31, k_31, u_31, gu_31⟩ := u_
        obtain ⟨pCO_31, pm1_31, pm2_31, pk_31⟩ : (CO v ((l).toNat) ((r + 1).toNat) o_31 fo_31 la_31 k_31 u_31) ∧ (md v ((l).toNat) ((r + 1).toNat) t < 1000) ∧ (0 < cnt v ((l).toNat) ((r + 1).toNat) (md v ((l).toNat) ((r + 1).toNat) t)) ∧ (0 < k_31) := hpost
        have hH : zH s0 s1 G as0 (mW ad G (va_up (va_up (va_up (va_up F 0 (0)) 5 ((n : Int))) 7 ((t : Int))) 38 ((k_31 : Int))) (va_up (va_up (va_up (va_up (va_up Ar 3 (cI (n) v gv)) 34 (cI (1000) o_31 go_31)) 35 fo_31) 36 la_31) 37 (cI (k_31) u_31 gu_31))) H locs := hH
        refine z_st (st' := [.int (iZ (((md v ((l).toNat) ((r + 1).toNat) t : Nat) : Int))), .ref (ad 0)]) rfl ?_
        refine z_iload_n hC 34 hl dX7_mode_34 rfl 3 rfl ?_
        refine z_same (z_runV hC hH.2.2 hl.1 hH.1 hH.2.1 2 (As := [.int (iZ (((md v ((l).toNat) ((r + 1).toNat) t : Nat) : Int))), .int (iZ (q))]) (rest := []) (m_X7_told lau s0 G _ ad (va_up (va_up (va_up (va_up F 0 (0)) 5 ((n : Int))) 7 ((t : Int))) 38 ((k_31 : Int))) (va_up (va_up (va_up (va_up (va_up Ar 3 (cI (n) v gv)) 34 (cI (1000) o_31 go_31)) 35 fo_31) 36 la_31) 37 (cI (k_31) u_31 gu_31)) v ((l).toNat) ((r + 1).toNat) o_31 go_31 fo_31 la_31 k_31 u_31 gu_31 (md v ((l).toNat) ((r + 1).toNat) t) q (by first | assumption | omega) (by first | assumption | omega) (by first | assumption | omega) (by first | assumption | omega) (by first | assumption | omega)) (lw_V q1776 q1778 qs76 q95 q1779) ⟨rfl, by decide, by decide, by decide +kernel⟩ (q0 := 0) (ci := 0) rfl rfl rfl rfl (Nat.le_of_ble_eq_true rfl) ⟨Nat.le_of_ble_eq_true rfl, Nat.le_of_ble_eq_true rfl⟩ ⟨Nat.le_of_ble_eq_true rfl, Nat.le_of_ble_eq_true rfl⟩ dX7_mode_35) hH (fun _ H locs hpost hH => ?_)
        have hH : zH s0 s1 G as0 (mW ad G (va_up (va_up (va_up (va_up F 0 (0)) 5 ((n : Int))) 7 ((t : Int))) 38 ((k_31 : Int))) (va_up (va_up (va_up (va_up (va_up Ar 3 (cI (n) v gv)) 34 (cI (1000) o_31 go_31)) 35 fo_31) 36 la_31) 37 (cI (k_31) u_31 gu_31))) H locs := hH
        refine z_st (st' := [.int (iZ ((toldZ v ((l).toNat) ((r + 1).toNat) (md v ((l).toNat) ((r + 1).toNat) t) q)))]) rfl ?_
        -- R38.2
        exact z_iret hC hH hQ 38 (((toldZ v ((l).toNat) ((r + 1).toNat) (md v ((l).toNat) ((r + 1).toNat) t) q), (va_up (va_up (va_up (va_up F 0 (0)) 5 ((n : Int))) 7 ((t : Int))) 38 ((k_31 : Int))), (va_up (va_up (va_up (va_up (va_up Ar 3 (cI (n) v gv)) 34 (cI (1000) o_31 go_31)) 35 fo_31) 36 la_31) 37 (cI (k_31) u_31 gu_31)))) dX7_mode_38 rfl ⟨by first | (unfold Sp_mode; rw [if_neg (by omega)]) | (unfold Sp_mode; rw [if_pos (by omega)]), by exact ⟨rfl, rfl, rfl, rfl, rfl, rfl, rfl, rfl, rfl, rfl, rfl, rfl, rfl, rfl, rfl, rfl⟩⟩ rfl (Nat.le_refl _) (Nat.le_refl _)
      · -- 20f
        refine z_iconst hC 23 dX7_mode_23 ?_
        refine z_goto hC 24 38 dX7_mode_24 rfl ?_
        -- R38.3
        exact z_iret hC hH hQ 38 (((-1), (va_up (va_up (va_up F 0 (0)) 5 ((n : Int))) 7 ((t : Int))), (va_up Ar 3 (cI (n) v gv)))) dX7_mode_38 rfl ⟨by first | (unfold Sp_mode; rw [if_neg (by omega)]) | (unfold Sp_mode; rw [if_pos (by omega)]), by exact ⟨rfl, rfl, rfl, rfl, rfl, rfl, rfl, rfl, rfl, rfl, rfl, rfl, rfl, rfl, rfl, rfl⟩⟩ rfl (Nat.le_refl _) (Nat.le_refl _)
  · -- 8=0
    refine z_if_eq_t hC 11 23 dX7_mode_11 rfl (by omega) (by omega) ?_
    refine z_iconst hC 23 dX7_mode_23 ?_
    refine z_goto hC 24 38 dX7_mode_24 rfl ?_
    -- R38.4
    exact z_iret hC hH hQ 38 (((-1), (va_up (va_up (va_up F 0 (0)) 5 ((n : Int))) 7 ((t : Int))), (va_up Ar 3 (cI (n) v gv)))) dX7_mode_38 rfl ⟨by first | (unfold Sp_mode; rw [if_neg (by omega)]) | (unfold Sp_mode; rw [if_pos (by omega)]), by exact ⟨rfl, rfl, rfl, rfl, rfl, rfl, rfl, rfl, rfl, rfl, rfl, rfl, rfl, rfl, rfl, rfl⟩⟩ rfl (Nat.le_refl _) (Nat.le_refl _)

set_option maxHeartbeats 4000000 in
set_option maxRecDepth 100000 in
theorem m_X7_often (lau : Launch) (s0 : State) (G : zG) (sz : Nat) (ad : Nat → Nat) (F : Nat → Int) (Ar : Nat → Nat → Int) (n : Nat) (v : Nat → Nat) (gv : Nat → Int) (t : Nat) (l : Int) (r : Int) (x : Int) (hn : n ≤ 120) (hv : ∀ i, i < n → v i < 1000) (ht : t < 4) (hr_l : -2147483648 ≤ l ∧ l < 2147483648) (hr_r : -2147483648 ≤ r ∧ r < 2147483648) (hr_x : -2147483648 ≤ x ∧ x < 2147483648) : zMet (S := Int × (Nat → Int) × (Nat → Nat → Int)) lau yX7_often cX7_often 4 (some .int) 1 25 0 0 s0 G sz [.ref (ad 0), .int (iZ (l)), .int (iZ (r)), .int (iZ (x))] (mW ad G (va_up (va_up F 5 ((n : Int))) 7 ((t : Int))) (va_up Ar 3 (cI (n) v gv))) (fun ((r_, F2, A2) : Int × (Nat → Int) × (Nat → Nat → Int)) => some (.int (iZ (r_)))) (fun ((r_, F2, A2) : Int × (Nat → Int) × (Nat → Nat → Int)) => (Sp_often n v l r x r_) ∧ (MK (va_up (va_up F 5 ((n : Int))) 7 ((t : Int))) (va_up Ar 3 (cI (n) v gv)) F2 A2)) (fun ((r_, F2, A2) : Int × (Nat → Int) × (Nat → Nat → Int)) => (mW ad G F2 A2)) := by
  refine zMet.of (by decide) (Nat.le_of_ble_eq_true rfl) ?_
  intro pg ev s1 mi ar bl me cd ls Q as0 hC hH hl hQ hsz
  generalize s1.heap = H at hH ⊢
  generalize ([] : List Loc) = locs at hH ⊢
  have hl : lv_has ls 4 [(0, .ref (ad 0)), (1, .int (iZ (l))), (2, .int (iZ (r))), (3, .int (iZ (x)))] := hl
  refine z_aload_n hC 0 hl dX7_often_0 rfl 0 rfl ?_
  refine z_iconst hC 1 dX7_often_1 ?_
  refine pmW_0 hC hH 2 dX7_often_2 (fun H locs hH => ?_)
  have hH : zH s0 s1 G as0 (mW ad G (va_up (va_up (va_up F 0 (0)) 5 ((n : Int))) 7 ((t : Int))) (va_up Ar 3 (cI (n) v gv))) H locs := hH
  refine z_aload_n hC 5 hl dX7_often_5 rfl 0 rfl ?_
  refine z_iload_n hC 6 hl dX7_often_6 rfl 1 rfl ?_
  refine z_iload_n hC 7 hl dX7_often_7 rfl 2 rfl ?_
  refine z_same (z_runV hC hH.2.2 hl.1 hH.1 hH.2.1 2 (As := [.int (iZ (l)), .int (iZ (r))]) (rest := []) (m_X7_isSpan lau s0 G _ ad (va_up (va_up (va_up F 0 (0)) 5 ((n : Int))) 7 ((t : Int))) (va_up Ar 3 (cI (n) v gv)) n l r (by first | assumption | omega) (by first | assumption | omega) (by first | assumption | omega)) (lw_V q1712 q1714 qs68 q95 q1715) ⟨rfl, by decide, by decide, by decide +kernel⟩ (q0 := 0) (ci := 0) rfl rfl rfl rfl (Nat.le_of_ble_eq_true rfl) ⟨Nat.le_of_ble_eq_true rfl, Nat.le_of_ble_eq_true rfl⟩ ⟨Nat.le_of_ble_eq_true rfl, Nat.le_of_ble_eq_true rfl⟩ dX7_often_8) hH (fun r_8 H locs hpost hH => ?_)
  have hb_8 : (r_8 = 1 ∧ (0 ≤ l ∧ l ≤ r ∧ r < (n : Int))) ∨ (r_8 = 0 ∧ ¬ (0 ≤ l ∧ l ≤ r ∧ r < (n : Int))) := hpost
  have hH : zH s0 s1 G as0 (mW ad G (va_up (va_up (va_up F 0 (0)) 5 ((n : Int))) 7 ((t : Int))) (va_up Ar 3 (cI (n) v gv))) H locs := hH
  refine z_st (st' := [.int (iZ (r_8))]) rfl ?_
  rcases hb_8 with ⟨rfl, hb_8⟩ | ⟨rfl, hb_8⟩
  · -- 8=1
    refine z_if_eq_f hC 11 21 dX7_often_11 rfl (by omega) (by omega) ?_
    refine z_iload_n hC 14 hl dX7_often_14 rfl 3 rfl ?_
    refine z_same (z_runS hC hH.2.2 hl.1 hH.1 hH.2.1 1 (As := [.int (iZ (x))]) (rest := []) (m_X7_isValue lau s0 G _ ad (va_up (va_up (va_up F 0 (0)) 5 ((n : Int))) 7 ((t : Int))) (va_up Ar 3 (cI (n) v gv)) x (by first | assumption | omega)) (lw_S q1677 q1678 q95 q1679) ⟨by decide, by decide, by decide +kernel⟩ rfl rfl (Nat.le_of_ble_eq_true rfl) ⟨Nat.le_of_ble_eq_true rfl, Nat.le_of_ble_eq_true rfl⟩ ⟨Nat.le_of_ble_eq_true rfl, Nat.le_of_ble_eq_true rfl⟩ dX7_often_15) hH (fun r_15 H locs hpost hH => ?_)
    have hb_15 : (r_15 = 1 ∧ (0 ≤ x ∧ x < 1000)) ∨ (r_15 = 0 ∧ ¬ (0 ≤ x ∧ x < 1000)) := hpost
    have hH : zH s0 s1 G as0 (mW ad G (va_up (va_up (va_up F 0 (0)) 5 ((n : Int))) 7 ((t : Int))) (va_up Ar 3 (cI (n) v gv))) H locs := hH
    refine z_st (st' := [.int (iZ (r_15))]) rfl ?_
    rcases hb_15 with ⟨rfl, hb_15⟩ | ⟨rfl, hb_15⟩
    · -- 15=1
      refine z_if_ne_t hC 18 25 dX7_often_18 rfl (by omega) (by omega) ?_
      refine z_aload_n hC 25 hl dX7_often_25 rfl 0 rfl ?_
      refine z_iload_n hC 26 hl dX7_often_26 rfl 1 rfl ?_
      refine z_iload_n hC 27 hl dX7_often_27 rfl 2 rfl ?_
      refine z_iload_n hC 28 hl dX7_often_28 rfl 3 rfl ?_
      refine z_st (st' := [.int (iZ ((((x).toNat : Nat) : Int))), .int (iZ ((((r + 1).toNat : Nat) : Int) - 1)), .int (iZ ((((l).toNat : Nat) : Int))), .ref (ad 0)]) (zcons (zieq (by omega)) (zcons (zieq (by omega)) (zcons (zieq (by omega)) rfl))) ?_
      refine z_same (z_runV hC hH.2.2 hl.1 hH.1 hH.2.1 3 (As := [.int (iZ ((((l).toNat : Nat) : Int))), .int (iZ ((((r + 1).toNat : Nat) : Int) - 1)), .int (iZ ((((x).toNat : Nat) : Int)))]) (rest := []) (m_X7_timesIn lau s0 G _ ad (va_up (va_up (va_up F 0 (0)) 5 ((n : Int))) 7 ((t : Int))) (va_up Ar 3 (cI (n) v gv)) n v gv ((l).toNat) ((r + 1).toNat) ((x).toNat) (by first | assumption | omega) (by first | assumption | omega) (by first | assumption | omega) (by first | assumption | omega) (by first | assumption | omega)) (lw_V q1645 q1647 qs58 q95 q1648) ⟨rfl, by decide, by decide, by decide +kernel⟩ (q0 := 0) (ci := 0) rfl rfl rfl rfl (Nat.le_of_ble_eq_true rfl) ⟨Nat.le_of_ble_eq_true rfl, Nat.le_of_ble_eq_true rfl⟩ ⟨Nat.le_of_ble_eq_true rfl, Nat.le_of_ble_eq_true rfl⟩ dX7_often_29) hH (fun _ H locs hpost hH => ?_)
      have hH : zH s0 s1 G as0 (mW ad G (va_up (va_up (va_up F 0 (0)) 5 ((n : Int))) 7 ((t : Int))) (va_up Ar 3 (cI (n) v gv))) H locs := hH
      refine z_st (st' := [.int (iZ (((cnt v ((l).toNat) ((r + 1).toNat) ((x).toNat) : Nat) : Int)))]) rfl ?_
      -- R32.1
      exact z_iret hC hH hQ 32 ((((cnt v ((l).toNat) ((r + 1).toNat) ((x).toNat) : Nat) : Int), (va_up (va_up (va_up F 0 (0)) 5 ((n : Int))) 7 ((t : Int))), (va_up Ar 3 (cI (n) v gv)))) dX7_often_32 rfl ⟨by first | (unfold Sp_often; rw [if_neg (by omega)]) | (unfold Sp_often; rw [if_pos (by omega)]), by exact ⟨rfl, rfl, rfl, rfl, rfl, rfl, rfl, rfl, rfl, rfl, rfl, rfl, rfl, rfl, rfl, rfl⟩⟩ rfl (Nat.le_refl _) (Nat.le_refl _)
    · -- 15=0
      refine z_if_ne_f hC 18 25 dX7_often_18 rfl (by omega) (by omega) ?_
      refine z_iconst hC 21 dX7_often_21 ?_
      refine z_goto hC 22 32 dX7_often_22 rfl ?_
      -- R32.2
      exact z_iret hC hH hQ 32 (((-1), (va_up (va_up (va_up F 0 (0)) 5 ((n : Int))) 7 ((t : Int))), (va_up Ar 3 (cI (n) v gv)))) dX7_often_32 rfl ⟨by first | (unfold Sp_often; rw [if_neg (by omega)]) | (unfold Sp_often; rw [if_pos (by omega)]), by exact ⟨rfl, rfl, rfl, rfl, rfl, rfl, rfl, rfl, rfl, rfl, rfl, rfl, rfl, rfl, rfl, rfl⟩⟩ rfl (Nat.le_refl _) (Nat.le_refl _)
  · -- 8=0
    refine z_if_eq_t hC 11 21 dX7_often_11 rfl (by omega) (by omega) ?_
    refine z_iconst hC 21 dX7_often_21 ?_
    refine z_goto hC 22 32 dX7_often_22 rfl ?_
    -- R32.3
    exact z_iret hC hH hQ 32 (((-1), (va_up (va_up (va_up F 0 (0)) 5 ((n : Int))) 7 ((t : Int))), (va_up Ar 3 (cI (n) v gv)))) dX7_often_32 rfl ⟨by first | (unfold Sp_often; rw [if_neg (by omega)]) | (unfold Sp_often; rw [if_pos (by omega)]), by exact ⟨rfl, rfl, rfl, rfl, rfl, rfl, rfl, rfl, rfl, rfl, rfl, rfl, rfl, rfl, rfl, rfl⟩⟩ rfl (Nat.le_refl _) (Nat.le_refl _)
