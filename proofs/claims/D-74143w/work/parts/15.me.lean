/-! methods of ModeDeskModel: 15.me -/
set_option maxHeartbeats 4000000 in
set_option maxRecDepth 100000 in
theorem m_X7_stands (lau : Launch) (s0 : State) (G : zG) (sz : Nat) (ad : Nat → Nat) (F : Nat → Int) (Ar : Nat → Nat → Int) (w : Nat → Nat) (wl : Nat) (wr : Nat) (o : Nat → Nat) (go : Nat → Int) (fo : Nat → Int) (la : Nat → Int) (k : Nat) (u : Nat → Nat) (gu : Nat → Int) (x : Nat) (hCO : CO w wl wr o fo la k u) (hwr : wr ≤ 119) (hwl : wl ≤ wr) (hx : x < 1000) (hw : w wr = x) : zMet (S := (Nat → Nat) × (Nat → Int) × (Nat → Int) × (Nat → Int) × Nat × (Nat → Nat) × (Nat → Int)) lau yX7_stands cX7_stands 3 (none) 0 0 0 0 s0 G sz [.ref (ad 0), .int (iZ ((x : Int))), .int (iZ ((wr : Int)))] (mW ad G (va_up F 38 ((k : Int))) (va_up (va_up (va_up (va_up Ar 34 (cI (1000) o go)) 35 fo) 36 la) 37 (cI (k) u gu))) (fun ((o2, go2, fo2, la2, k2, u2, gu2) : (Nat → Nat) × (Nat → Int) × (Nat → Int) × (Nat → Int) × Nat × (Nat → Nat) × (Nat → Int)) => (none : Option Value)) (fun ((o2, go2, fo2, la2, k2, u2, gu2) : (Nat → Nat) × (Nat → Int) × (Nat → Int) × (Nat → Int) × Nat × (Nat → Nat) × (Nat → Int)) => (CO w wl (wr + 1) o2 fo2 la2 k2 u2)) (fun ((o2, go2, fo2, la2, k2, u2, gu2) : (Nat → Nat) × (Nat → Int) × (Nat → Int) × (Nat → Int) × Nat × (Nat → Nat) × (Nat → Int)) => (mW ad G (va_up F 38 ((k2 : Int))) (va_up (va_up (va_up (va_up Ar 34 (cI (1000) o2 go2)) 35 fo2) 36 la2) 37 (cI (k2) u2 gu2)))) := by
  refine zMet.of (by decide) (Nat.le_of_ble_eq_true rfl) ?_
  intro pg ev s1 mi ar bl me cd ls Q as0 hC hH hl hQ hsz
  generalize s1.heap = H at hH ⊢
  generalize ([] : List Loc) = locs at hH ⊢
  have hl : lv_has ls 3 [(0, .ref (ad 0)), (1, .int (iZ ((x : Int)))), (2, .int (iZ ((wr : Int))))] := hl
  have hK := hCO.2.2.1
  have ho1 := hCO.1 x hx
  have ho2 := cnt_le w wl wr x
  refine z_aload_n hC 0 hl dX7_stands_0 rfl 0 rfl ?_
  refine gmW_34 hC hH 1 dX7_stands_1 ?_
  refine z_iload_n hC 4 hl dX7_stands_4 rfl 1 rfl ?_
  refine lmW_34 (x := ((o x : Nat) : Int)) hC hH 5 (x) (by omega) (by omega) (cI_lt (by omega)) dX7_stands_5 ?_
  refine z_if_ne hC 6 36 dX7_stands_6 rfl (by omega) (fun hb1 => ?_) (fun hb1 => ?_)
  · -- 6t
    refine z_aload_n hC 36 hl dX7_stands_36 rfl 0 rfl ?_
    refine gmW_36 hC hH 37 dX7_stands_37 ?_
    refine z_iload_n hC 40 hl dX7_stands_40 rfl 1 rfl ?_
    refine z_iload_n hC 41 hl dX7_stands_41 rfl 2 rfl ?_
    refine smW_36 (f' := (va_up la (x) ((wr : Int)))) hC hH 42 (x) (by omega) (by omega) rfl dX7_stands_42 (fun H locs hH => ?_)
    have hH : zH s0 s1 G as0 (mW ad G (va_up F 38 ((k : Int))) (va_up (va_up (va_up (va_up Ar 34 (cI (1000) o go)) 35 fo) 36 (va_up la (x) ((wr : Int)))) 37 (cI (k) u gu))) H locs := hH
    refine z_aload_n hC 43 hl dX7_stands_43 rfl 0 rfl ?_
    refine gmW_34 hC hH 44 dX7_stands_44 ?_
    refine z_iload_n hC 47 hl dX7_stands_47 rfl 1 rfl ?_
    refine z_dup2 hC 48 dX7_stands_48 rfl rfl ?_
    refine lmW_34 (x := ((o x : Nat) : Int)) hC hH 49 (x) (by omega) (by omega) (cI_lt (by omega)) dX7_stands_49 ?_
    refine z_iconst hC 50 dX7_stands_50 ?_
    refine z_iadd (e := ((o x : Nat) : Int) + 1) hC 51 dX7_stands_51 rfl ?_
    refine smW_34 (f' := (cI (1000) (va_up o (x) ((o x) + 1)) go)) hC hH 52 (x) (by omega) (by omega) (by rw [show (((o x : Nat) : Int) + 1 : Int) = (((o x) + 1 : Nat) : Int) from by omega]; exact cI_up (by omega)) dX7_stands_52 (fun H locs hH => ?_)
    have hH : zH s0 s1 G as0 (mW ad G (va_up F 38 ((k : Int))) (va_up (va_up (va_up (va_up Ar 34 (cI (1000) (va_up o (x) ((o x) + 1)) go)) 35 fo) 36 (va_up la (x) ((wr : Int)))) 37 (cI (k) u gu))) H locs := hH
    -- R53.1
    exact z_vret hC hH hQ 53 (((va_up o (x) ((o x) + 1)), go, fo, (va_up la (x) ((wr : Int))), k, u, gu)) dX7_stands_53 rfl (by (try dsimp only); first | exact CO_new hwl hCO hw hx (by omega) | exact CO_old hwl hCO hw hx (by omega)) rfl (Nat.le_refl _) (Nat.le_refl _)
  · -- 6f
    refine z_aload_n hC 9 hl dX7_stands_9 rfl 0 rfl ?_
    refine gmW_35 hC hH 10 dX7_stands_10 ?_
    refine z_iload_n hC 13 hl dX7_stands_13 rfl 1 rfl ?_
    refine z_iload_n hC 14 hl dX7_stands_14 rfl 2 rfl ?_
    refine smW_35 (f' := (va_up fo (x) ((wr : Int)))) hC hH 15 (x) (by omega) (by omega) rfl dX7_stands_15 (fun H locs hH => ?_)
    have hH : zH s0 s1 G as0 (mW ad G (va_up F 38 ((k : Int))) (va_up (va_up (va_up (va_up Ar 34 (cI (1000) o go)) 35 (va_up fo (x) ((wr : Int)))) 36 la) 37 (cI (k) u gu))) H locs := hH
    refine z_aload_n hC 16 hl dX7_stands_16 rfl 0 rfl ?_
    refine gmW_37 hC hH 17 dX7_stands_17 ?_
    refine z_aload_n hC 20 hl dX7_stands_20 rfl 0 rfl ?_
    refine gmW_38 (x := (k : Int)) hC hH 21 rfl dX7_stands_21 ?_
    refine z_iload_n hC 24 hl dX7_stands_24 rfl 1 rfl ?_
    refine smW_37 (f' := (cI (k + 1) (va_up u (k) (x)) gu)) hC hH 25 (k) (by omega) (by omega) (by exact cI_push) dX7_stands_25 (fun H locs hH => ?_)
    have hH : zH s0 s1 G as0 (mW ad G (va_up F 38 ((k : Int))) (va_up (va_up (va_up (va_up Ar 34 (cI (1000) o go)) 35 (va_up fo (x) ((wr : Int)))) 36 la) 37 (cI (k + 1) (va_up u (k) (x)) gu))) H locs := hH
    refine z_aload_n hC 26 hl dX7_stands_26 rfl 0 rfl ?_
    refine z_dup hC 27 dX7_stands_27 rfl ?_
    refine gmW_38 (x := (k : Int)) hC hH 28 rfl dX7_stands_28 ?_
    refine z_iconst hC 31 dX7_stands_31 ?_
    refine z_iadd (e := (k : Int) + 1) hC 32 dX7_stands_32 rfl ?_
    refine pmW_38 hC hH 33 dX7_stands_33 (fun H locs hH => ?_)
    have hH : zH s0 s1 G as0 (mW ad G (va_up F 38 ((k : Int) + 1)) (va_up (va_up (va_up (va_up Ar 34 (cI (1000) o go)) 35 (va_up fo (x) ((wr : Int)))) 36 la) 37 (cI (k + 1) (va_up u (k) (x)) gu))) H locs := hH
    refine z_aload_n hC 36 hl dX7_stands_36 rfl 0 rfl ?_
    refine gmW_36 hC hH 37 dX7_stands_37 ?_
    refine z_iload_n hC 40 hl dX7_stands_40 rfl 1 rfl ?_
    refine z_iload_n hC 41 hl dX7_stands_41 rfl 2 rfl ?_
    refine smW_36 (f' := (va_up la (x) ((wr : Int)))) hC hH 42 (x) (by omega) (by omega) rfl dX7_stands_42 (fun H locs hH => ?_)
    have hH : zH s0 s1 G as0 (mW ad G (va_up F 38 ((k : Int) + 1)) (va_up (va_up (va_up (va_up Ar 34 (cI (1000) o go)) 35 (va_up fo (x) ((wr : Int)))) 36 (va_up la (x) ((wr : Int)))) 37 (cI (k + 1) (va_up u (k) (x)) gu))) H locs := hH
    refine z_aload_n hC 43 hl dX7_stands_43 rfl 0 rfl ?_
    refine gmW_34 hC hH 44 dX7_stands_44 ?_
    refine z_iload_n hC 47 hl dX7_stands_47 rfl 1 rfl ?_
    refine z_dup2 hC 48 dX7_stands_48 rfl rfl ?_
    refine lmW_34 (x := ((o x : Nat) : Int)) hC hH 49 (x) (by omega) (by omega) (cI_lt (by omega)) dX7_stands_49 ?_
    refine z_iconst hC 50 dX7_stands_50 ?_
    refine z_iadd (e := ((o x : Nat) : Int) + 1) hC 51 dX7_stands_51 rfl ?_
    refine smW_34 (f' := (cI (1000) (va_up o (x) ((o x) + 1)) go)) hC hH 52 (x) (by omega) (by omega) (by rw [show (((o x : Nat) : Int) + 1 : Int) = (((o x) + 1 : Nat) : Int) from by omega]; exact cI_up (by omega)) dX7_stands_52 (fun H locs hH => ?_)
    have hH : zH s0 s1 G as0 (mW ad G (va_up F 38 ((k : Int) + 1)) (va_up (va_up (va_up (va_up Ar 34 (cI (1000) (va_up o (x) ((o x) + 1)) go)) 35 (va_up fo (x) ((wr : Int)))) 36 (va_up la (x) ((wr : Int)))) 37 (cI (k + 1) (va_up u (k) (x)) gu))) H locs := hH
    -- R53.2
    rw [show ((k : Int) + 1 : Int) = ((k + 1 : Nat) : Int) from by omega] at hH
    have hH : zH s0 s1 G as0 (mW ad G (va_up F 38 (((k + 1 : Nat) : Int))) (va_up (va_up (va_up (va_up Ar 34 (cI (1000) (va_up o (x) ((o x) + 1)) go)) 35 (va_up fo (x) ((wr : Int)))) 36 (va_up la (x) ((wr : Int)))) 37 (cI (k + 1) (va_up u (k) (x)) gu))) H locs := hH
    exact z_vret hC hH hQ 53 (((va_up o (x) ((o x) + 1)), go, (va_up fo (x) ((wr : Int))), (va_up la (x) ((wr : Int))), (k + 1), (va_up u (k) (x)), gu)) dX7_stands_53 rfl (by (try dsimp only); first | exact CO_new hwl hCO hw hx (by omega) | exact CO_old hwl hCO hw hx (by omega)) rfl (Nat.le_refl _) (Nat.le_refl _)

set_option maxHeartbeats 4000000 in
set_option maxRecDepth 100000 in
theorem m_X7_longer (lau : Launch) (s0 : State) (G : zG) (sz : Nat) (ad : Nat → Nat) (F : Nat → Int) (Ar : Nat → Nat → Int) (n : Nat) (v : Nat → Nat) (gv : Nat → Int) (l : Nat) (r : Nat) (t : Nat) (f38 : Int) (a34 : Nat → Int) (a35 : Nat → Int) (a36 : Nat → Int) (a37 : Nat → Int) (hn : n ≤ 120) (hv : ∀ i, i < n → v i < 1000) (hlr : l ≤ r) (hrn : r < n) (ht : t < 4) (hpre : LG v l r f38 a34 a35 a36 a37) : zMet (S := (Nat → Nat) × (Nat → Int) × (Nat → Int) × (Nat → Int) × Nat × (Nat → Nat) × (Nat → Int)) lau yX7_longer cX7_longer 3 (some .int) 2 46 0 0 s0 G sz [.ref (ad 0), .int (iZ ((l : Int))), .int (iZ ((r : Int)))] (mW ad G (va_up (va_up (va_up F 5 ((n : Int))) 7 ((t : Int))) 38 (f38)) (va_up (va_up (va_up (va_up (va_up Ar 3 (cI (n) v gv)) 34 a34) 35 a35) 36 a36) 37 a37)) (fun ((o, go, fo, la, k, u, gu) : (Nat → Nat) × (Nat → Int) × (Nat → Int) × (Nat → Int) × Nat × (Nat → Nat) × (Nat → Int)) => some (.int (iZ (((md v l (r + 1) t : Nat) : Int))))) (fun ((o, go, fo, la, k, u, gu) : (Nat → Nat) × (Nat → Int) × (Nat → Int) × (Nat → Int) × Nat × (Nat → Nat) × (Nat → Int)) => (CO v l (r + 1) o fo la k u) ∧ (md v l (r + 1) t < 1000)) (fun ((o, go, fo, la, k, u, gu) : (Nat → Nat) × (Nat → Int) × (Nat → Int) × (Nat → Int) × Nat × (Nat → Nat) × (Nat → Int)) => (mW ad G (va_up (va_up (va_up F 5 ((n : Int))) 7 ((t : Int))) 38 ((k : Int))) (va_up (va_up (va_up (va_up (va_up Ar 3 (cI (n) v gv)) 34 (cI (1000) o go)) 35 fo) 36 la) 37 (cI (k) u gu)))) := by
  refine zMet.of (by decide) (Nat.le_of_ble_eq_true rfl) ?_
  intro pg ev s1 mi ar bl me cd ls Q as0 hC hH hl hQ hsz
  generalize s1.heap = H at hH ⊢
  generalize ([] : List Loc) = locs at hH ⊢
  have hl : lv_has ls 3 [(0, .ref (ad 0)), (1, .int (iZ ((l : Int)))), (2, .int (iZ ((r : Int))))] := hl
  refine z_iload_n hC 0 hl dX7_longer_0 rfl 1 rfl ?_
  refine z_iload_n hC 1 hl dX7_longer_1 rfl 2 rfl ?_
  refine z_icmp_ne hC 2 15 dX7_longer_2 rfl (by omega) (by omega) (fun hb1 => ?_) (fun hb1 => ?_)
  · -- 2t
    obtain ⟨o, go, k, u, gu, rfl, rfl, rfl, hCO⟩ := LG_get hpre (by omega)
    have hvr := hv r hrn
    have hK := hCO.2.2.1
    refine z_aload_n hC 15 hl dX7_longer_15 rfl 0 rfl ?_
    refine z_aload_n hC 16 hl dX7_longer_16 rfl 0 rfl ?_
    refine gmW_3 hC hH 17 dX7_longer_17 ?_
    refine z_iload_n hC 20 hl dX7_longer_20 rfl 2 rfl ?_
    refine lmW_3 (x := ((v r : Nat) : Int)) hC hH 21 (r) (by omega) (by omega) (cI_lt (by omega)) dX7_longer_21 ?_
    refine z_iload_n hC 22 hl dX7_longer_22 rfl 2 rfl ?_
    refine z_same (z_runV hC hH.2.2 hl.1 hH.1 hH.2.1 2 (As := [.int (iZ (((v r : Nat) : Int))), .int (iZ ((r : Int)))]) (rest := []) (m_X7_stands lau s0 G _ ad (va_up (va_up (va_up F 5 ((n : Int))) 7 ((t : Int))) 38 ((k : Int))) (va_up (va_up (va_up (va_up (va_up Ar 3 (cI (n) v gv)) 34 (cI (1000) o go)) 35 a35) 36 a36) 37 (cI (k) u gu)) v l r o go a35 a36 k u gu (v r) (by first | assumption | omega) (by first | assumption | omega) (by first | assumption | omega) (by first | assumption | omega) (by rfl)) (lw_V q1876 q1878 qs84 q95 q1879) ⟨rfl, by decide, by decide, by decide +kernel⟩ (q0 := 0) (ci := 0) rfl rfl rfl rfl (Nat.le_of_ble_eq_true rfl) ⟨Nat.le_of_ble_eq_true rfl, Nat.le_of_ble_eq_true rfl⟩ ⟨Nat.le_of_ble_eq_true rfl, Nat.le_of_ble_eq_true rfl⟩ dX7_longer_23) hH (fun u_ H locs hpost hH => ?_)
    obtain ⟨o2_23, go2_23, fo2_23, la2_23, k2_23, u2_23, gu2_23⟩ := u_
    have pCO_23 : CO v l (r + 1) o2_23 fo2_23 la2_23 k2_23 u2_23 := hpost
    have hH : zH s0 s1 G as0 (mW ad G (va_up (va_up (va_up F 5 ((n : Int))) 7 ((t : Int))) 38 ((k2_23 : Int))) (va_up (va_up (va_up (va_up (va_up Ar 3 (cI (n) v gv)) 34 (cI (1000) o2_23 go2_23)) 35 fo2_23) 36 la2_23) 37 (cI (k2_23) u2_23 gu2_23))) H locs := hH
    refine z_st (st' := []) rfl ?_
    have hpk : (0 : Int) < ((k2_23 : Int)) := by first | (have q := CO_kpos pCO_9 (Nat.le_refl l) (show l < r + 1 by omega) (hv l (by omega)); omega) | (have q := CO_kpos pCO_23 (Nat.le_refl l) (show l < r + 1 by omega) (hv l (by omega)); omega)
    refine z_aload_n hC 26 hl dX7_longer_26 rfl 0 rfl ?_
    refine z_aload_n hC 27 hl dX7_longer_27 rfl 0 rfl ?_
    refine gmW_7 (x := (t : Int)) hC hH 28 rfl dX7_longer_28 ?_
    refine z_same (z_runV hC hH.2.2 hl.1 hH.1 hH.2.1 1 (As := [.int (iZ ((t : Int)))]) (rest := []) (m_X7_modeBy lau s0 G _ ad (va_up (va_up (va_up F 5 ((n : Int))) 7 ((t : Int))) 38 ((k2_23 : Int))) (va_up (va_up (va_up (va_up (va_up Ar 3 (cI (n) v gv)) 34 (cI (1000) o2_23 go2_23)) 35 fo2_23) 36 la2_23) 37 (cI (k2_23) u2_23 gu2_23)) v l (r + 1) o2_23 go2_23 fo2_23 la2_23 k2_23 u2_23 gu2_23 t (by first | assumption | omega) (by first | assumption | omega) (by first | assumption | omega)) (lw_V q1768 q1770 qs74 q95 q1771) ⟨rfl, by decide, by decide, by decide +kernel⟩ (q0 := 0) (ci := 0) rfl rfl rfl rfl (Nat.le_of_ble_eq_true rfl) ⟨Nat.le_of_ble_eq_true rfl, Nat.le_of_ble_eq_true rfl⟩ ⟨Nat.le_of_ble_eq_true rfl, Nat.le_of_ble_eq_true rfl⟩ dX7_longer_31) hH (fun r_31 H locs hpost hH => ?_)
    have p1_31 : (k2_23 = 0 ∧ r_31 = -1) ∨ (0 < k2_23 ∧ r_31 = (md v l (r + 1) t : Int)) := hpost
    have hH : zH s0 s1 G as0 (mW ad G (va_up (va_up (va_up F 5 ((n : Int))) 7 ((t : Int))) 38 ((k2_23 : Int))) (va_up (va_up (va_up (va_up (va_up Ar 3 (cI (n) v gv)) 34 (cI (1000) o2_23 go2_23)) 35 fo2_23) 36 la2_23) 37 (cI (k2_23) u2_23 gu2_23))) H locs := hH
    refine z_st (st' := [.int (iZ (r_31))]) rfl ?_
    -- R34.1
    refine z_st (st' := [.int (iZ (((md v l (r + 1) t : Nat) : Int)))]) (zcons (zieq (by first | assumption | omega)) rfl) ?_
    exact z_iret hC hH hQ 34 ((o2_23, go2_23, fo2_23, la2_23, k2_23, u2_23, gu2_23)) dX7_longer_34 rfl ⟨by first | assumption | omega, by exact md_lt_1000 _ _ _ _⟩ rfl (Nat.le_refl _) (Nat.le_refl _)
  · -- 2f
    refine z_aload_n hC 5 hl dX7_longer_5 rfl 0 rfl ?_
    refine z_iload_n hC 6 hl dX7_longer_6 rfl 1 rfl ?_
    refine z_iload_n hC 7 hl dX7_longer_7 rfl 2 rfl ?_
    refine z_iconst hC 8 dX7_longer_8 ?_
    refine z_st (st' := [.int (iZ ((-1))), .int (iZ (((r + 1 : Nat) : Int) - 1)), .int (iZ ((l : Int))), .ref (ad 0)]) (zcons rfl (zcons (zieq (by omega)) (zcons rfl rfl))) ?_
    refine z_same (z_runV hC hH.2.2 hl.1 hH.1 hH.2.1 3 (As := [.int (iZ ((l : Int))), .int (iZ (((r + 1 : Nat) : Int) - 1)), .int (iZ ((-1)))]) (rest := []) (m_X7_counts lau s0 G _ ad (va_up (va_up (va_up F 5 ((n : Int))) 7 ((t : Int))) 38 (f38)) (va_up (va_up (va_up (va_up (va_up Ar 3 (cI (n) v gv)) 34 a34) 35 a35) 36 a36) 37 a37) n v gv l (r + 1) (-1) v (by first | assumption | omega) (by first | assumption | omega) (by first | assumption | omega) (by first | assumption | omega) (by first | assumption | omega) (by exact fun i _ _ => ⟨fun q => by omega, fun _ => rfl⟩)) (lw_V q1764 q1766 qs73 q95 q1767) ⟨rfl, by decide, by decide, by decide +kernel⟩ (q0 := 0) (ci := 0) rfl rfl rfl rfl (Nat.le_of_ble_eq_true rfl) ⟨Nat.le_of_ble_eq_true rfl, Nat.le_of_ble_eq_true rfl⟩ ⟨Nat.le_of_ble_eq_true rfl, Nat.le_of_ble_eq_true rfl⟩ dX7_longer_9) hH (fun u_ H locs hpost hH => ?_)
    obtain ⟨o_9, go_9, fo_9, la_9, k_9, u_9, gu_9⟩ := u_
    have pCO_9 : CO v l (r + 1) o_9 fo_9 la_9 k_9 u_9 := hpost
    have hH : zH s0 s1 G as0 (mW ad G (va_up (va_up (va_up F 5 ((n : Int))) 7 ((t : Int))) 38 ((k_9 : Int))) (va_up (va_up (va_up (va_up (va_up Ar 3 (cI (n) v gv)) 34 (cI (1000) o_9 go_9)) 35 fo_9) 36 la_9) 37 (cI (k_9) u_9 gu_9))) H locs := hH
    refine z_st (st' := []) rfl ?_
    refine z_goto hC 12 26 dX7_longer_12 rfl ?_
    have hpk : (0 : Int) < ((k_9 : Int)) := by first | (have q := CO_kpos pCO_9 (Nat.le_refl l) (show l < r + 1 by omega) (hv l (by omega)); omega) | (have q := CO_kpos pCO_23 (Nat.le_refl l) (show l < r + 1 by omega) (hv l (by omega)); omega)
    refine z_aload_n hC 26 hl dX7_longer_26 rfl 0 rfl ?_
    refine z_aload_n hC 27 hl dX7_longer_27 rfl 0 rfl ?_
    refine gmW_7 (x := (t : Int)) hC hH 28 rfl dX7_longer_28 ?_
    refine z_same (z_runV hC hH.2.2 hl.1 hH.1 hH.2.1 1 (As := [.int (iZ ((t : Int)))]) (rest := []) (m_X7_modeBy lau s0 G _ ad (va_up (va_up (va_up F 5 ((n : Int))) 7 ((t : Int))) 38 ((k_9 : Int))) (va_up (va_up (va_up (va_up (va_up Ar 3 (cI (n) v gv)) 34 (cI (1000) o_9 go_9)) 35 fo_9) 36 la_9) 37 (cI (k_9) u_9 gu_9)) v l (r + 1) o_9 go_9 fo_9 la_9 k_9 u_9 gu_9 t (by first | assumption | omega) (by first | assumption | omega) (by first | assumption | omega)) (lw_V q1768 q1770 qs74 q95 q1771) ⟨rfl, by decide, by decide, by decide +kernel⟩ (q0 := 0) (ci := 0) rfl rfl rfl rfl (Nat.le_of_ble_eq_true rfl) ⟨Nat.le_of_ble_eq_true rfl, Nat.le_of_ble_eq_true rfl⟩ ⟨Nat.le_of_ble_eq_true rfl, Nat.le_of_ble_eq_true rfl⟩ dX7_longer_31) hH (fun r_2 H locs hpost hH => ?_)
    have p1_31 : (k_9 = 0 ∧ r_2 = -1) ∨ (0 < k_9 ∧ r_2 = (md v l (r + 1) t : Int)) := hpost
    have hH : zH s0 s1 G as0 (mW ad G (va_up (va_up (va_up F 5 ((n : Int))) 7 ((t : Int))) 38 ((k_9 : Int))) (va_up (va_up (va_up (va_up (va_up Ar 3 (cI (n) v gv)) 34 (cI (1000) o_9 go_9)) 35 fo_9) 36 la_9) 37 (cI (k_9) u_9 gu_9))) H locs := hH
    refine z_st (st' := [.int (iZ (r_2))]) rfl ?_
    -- R34.2
    refine z_st (st' := [.int (iZ (((md v l (r + 1) t : Nat) : Int)))]) (zcons (zieq (by first | assumption | omega)) rfl) ?_
    exact z_iret hC hH hQ 34 ((o_9, go_9, fo_9, la_9, k_9, u_9, gu_9)) dX7_longer_34 rfl ⟨by first | assumption | omega, by exact md_lt_1000 _ _ _ _⟩ rfl (Nat.le_refl _) (Nat.le_refl _)

set_option maxHeartbeats 4000000 in
set_option maxRecDepth 100000 in
theorem m_X7_spans (lau : Launch) (s0 : State) (G : zG) (sz : Nat) (ad : Nat → Nat) (F : Nat → Int) (Ar : Nat → Nat → Int) (n : Nat) (v : Nat → Nat) (gv : Nat → Int) (t : Nat) (x : Int) (hn : n ≤ 120) (hv : ∀ i, i < n → v i < 1000) (ht : t < 4) (hr_x : -2147483648 ≤ x ∧ x < 2147483648) : zMet (S := Int × (Nat → Int) × (Nat → Nat → Int)) lau yX7_spans cX7_spans 5 (some .int) 3 68 0 0 s0 G sz [.ref (ad 0), .int (iZ (x))] (mW ad G (va_up (va_up F 5 ((n : Int))) 7 ((t : Int))) (va_up Ar 3 (cI (n) v gv))) (fun ((r_, F2, A2) : Int × (Nat → Int) × (Nat → Nat → Int)) => some (.int (iZ (r_)))) (fun ((r_, F2, A2) : Int × (Nat → Int) × (Nat → Nat → Int)) => (Sp_spans n v t x r_) ∧ (MK (va_up (va_up F 5 ((n : Int))) 7 ((t : Int))) (va_up Ar 3 (cI (n) v gv)) F2 A2)) (fun ((r_, F2, A2) : Int × (Nat → Int) × (Nat → Nat → Int)) => (mW ad G F2 A2)) := by
  refine zMet.of (by decide) (Nat.le_of_ble_eq_true rfl) ?_
  intro pg ev s1 mi ar bl me cd ls Q as0 hC hH hl hQ hsz
  generalize s1.heap = H at hH ⊢
  generalize ([] : List Loc) = locs at hH ⊢
  have hl : lv_has ls 5 [(0, .ref (ad 0)), (1, .int (iZ (x)))] := hl
  refine z_aload_n hC 0 hl dX7_spans_0 rfl 0 rfl ?_
  refine z_iconst hC 1 dX7_spans_1 ?_
  refine pmW_0 hC hH 2 dX7_spans_2 (fun H locs hH => ?_)
  have hH : zH s0 s1 G as0 (mW ad G (va_up (va_up (va_up F 0 (0)) 5 ((n : Int))) 7 ((t : Int))) (va_up Ar 3 (cI (n) v gv))) H locs := hH
  refine z_iload_n hC 5 hl dX7_spans_5 rfl 1 rfl ?_
  refine z_same (z_runS hC hH.2.2 hl.1 hH.1 hH.2.1 1 (As := [.int (iZ (x))]) (rest := []) (m_X7_isValue lau s0 G _ ad (va_up (va_up (va_up F 0 (0)) 5 ((n : Int))) 7 ((t : Int))) (va_up Ar 3 (cI (n) v gv)) x (by first | assumption | omega)) (lw_S q1677 q1678 q95 q1679) ⟨by decide, by decide, by decide +kernel⟩ rfl rfl (Nat.le_of_ble_eq_true rfl) ⟨Nat.le_of_ble_eq_true rfl, Nat.le_of_ble_eq_true rfl⟩ ⟨Nat.le_of_ble_eq_true rfl, Nat.le_of_ble_eq_true rfl⟩ dX7_spans_6) hH (fun r_6 H locs hpost hH => ?_)
  have hb_6 : (r_6 = 1 ∧ (0 ≤ x ∧ x < 1000)) ∨ (r_6 = 0 ∧ ¬ (0 ≤ x ∧ x < 1000)) := hpost
  have hH : zH s0 s1 G as0 (mW ad G (va_up (va_up (va_up F 0 (0)) 5 ((n : Int))) 7 ((t : Int))) (va_up Ar 3 (cI (n) v gv))) H locs := hH
  refine z_st (st' := [.int (iZ (r_6))]) rfl ?_
  rcases hb_6 with ⟨rfl, hb_6⟩ | ⟨rfl, hb_6⟩
  · -- 6=1
    refine z_if_ne_t hC 9 14 dX7_spans_9 rfl (by omega) (by omega) ?_
    obtain ⟨x1, rfl⟩ := Int.eq_ofNat_of_zero_le (show 0 ≤ x by omega)
    refine z_iconst hC 14 dX7_spans_14 ?_
    refine z_istore_n (lv' := [(2, .int (iZ (0))), (0, .ref (ad 0)), (1, .int (iZ ((x1 : Int))))]) hC 15 hl dX7_spans_15 rfl (by decide) rfl (fun ls hl => ?_)
    refine z_iconst hC 16 dX7_spans_16 ?_
    refine z_istore_n (lv' := [(3, .int (iZ (0))), (2, .int (iZ (0))), (0, .ref (ad 0)), (1, .int (iZ ((x1 : Int))))]) hC 17 hl dX7_spans_17 rfl (by decide) rfl (fun ls hl => ?_)
    have L18 : ∀ (N_ : Nat) (l : Nat) (c : Nat) (f38 : Int) (a34 : Nat → Int) (a35 : Nat → Int) (a36 : Nat → Int) (a37 : Nat → Int) (H : Heap) (locs : List Loc) (ls : Array Slot), n - l < N_ → (l ≤ n) → (c = sm (fun l => cB (fun r => l ≤ r ∧ md v l (r + 1) t = x1) n) 0 l) → (c ≤ l * 120) → zH s0 s1 G as0 (mW ad G (va_up (va_up (va_up (va_up F 0 (0)) 5 ((n : Int))) 7 ((t : Int))) 38 (f38)) (va_up (va_up (va_up (va_up (va_up Ar 3 (cI (n) v gv)) 34 a34) 35 a35) 36 a36) 37 a37)) H locs → lv_has ls 5 [(0, .ref (ad 0)), (1, .int (iZ ((x1 : Int)))), (2, .int (iZ ((c : Int)))), (3, .int (iZ ((l : Int))))] → W pg lau ev (zRm 3 0 0 68) s1 mi ar bl me cd H locs 0 0 Q (F0 mi 18 ls []) := by
      intro N_
      induction N_ with
      | zero => intro l c f38 a34 a35 a36 a37 H locs ls hd; exact absurd hd (Nat.not_lt_zero _)
      | succ N_ ih18 =>
        intro l c f38 a34 a35 a36 a37 H locs ls hd18 i18_1 ic i18_3 hH hl
        refine z_iload_n hC 18 hl dX7_spans_18 rfl 3 rfl ?_
        refine z_aload_n hC 19 hl dX7_spans_19 rfl 0 rfl ?_
        refine gmW_5 (x := (n : Int)) hC hH 20 rfl dX7_spans_20 ?_
        refine z_icmp_ge hC 23 69 dX7_spans_23 rfl (by omega) (by omega) (fun hb1 => ?_) (fun hb1 => ?_)
        · -- 23t
          have el : (l) = n := by omega
          rw [el] at ic
          refine z_iload_n hC 69 hl dX7_spans_69 rfl 2 rfl ?_
          -- R70.1
          exact z_iret hC hH hQ 70 (((c : Int), (va_up (va_up (va_up (va_up F 0 (0)) 5 ((n : Int))) 7 ((t : Int))) 38 (f38)), (va_up (va_up (va_up (va_up (va_up Ar 3 (cI (n) v gv)) 34 a34) 35 a35) 36 a36) 37 a37))) dX7_spans_70 rfl ⟨by (unfold Sp_spans; rw [if_pos (by omega)]; try simp only [Int.toNat_natCast, zt1]; rw [ic]), by exact ⟨rfl, rfl, rfl, rfl, rfl, rfl, rfl, rfl, rfl, rfl, rfl, rfl, rfl, rfl, rfl, rfl⟩⟩ rfl (Nat.le_refl _) (Nat.le_refl _)
        · -- 23f
          refine z_iload_n hC 26 hl dX7_spans_26 rfl 3 rfl ?_
          refine z_istore (lv' := [(4, .int (iZ ((l : Int)))), (0, .ref (ad 0)), (1, .int (iZ ((x1 : Int)))), (2, .int (iZ ((c : Int)))), (3, .int (iZ ((l : Int))))]) hC 27 hl dX7_spans_27 (by decide) rfl (fun ls hl => ?_)
          have L29 : ∀ (N_ : Nat) (r : Nat) (c2 : Nat) (f38 : Int) (a34 : Nat → Int) (a35 : Nat → Int) (a36 : Nat → Int) (a37 : Nat → Int) (H : Heap) (locs : List Loc) (ls : Array Slot), n - r < N_ → (l ≤ r) → (r ≤ n) → (c2 = c + cB (fun r => l ≤ r ∧ md v l (r + 1) t = x1) r) → (c2 ≤ c + r) → (LG v l r f38 a34 a35 a36 a37) → zH s0 s1 G as0 (mW ad G (va_up (va_up (va_up (va_up F 0 (0)) 5 ((n : Int))) 7 ((t : Int))) 38 (f38)) (va_up (va_up (va_up (va_up (va_up Ar 3 (cI (n) v gv)) 34 a34) 35 a35) 36 a36) 37 a37)) H locs → lv_has ls 5 [(0, .ref (ad 0)), (1, .int (iZ ((x1 : Int)))), (2, .int (iZ ((c2 : Int)))), (3, .int (iZ ((l : Int)))), (4, .int (iZ ((r : Int))))] → W pg lau ev (zRm 3 0 0 68) s1 mi ar bl me cd H locs 0 0 Q (F0 mi 29 ls []) := by
            intro N_
            induction N_ with
            | zero => intro r c2 f38 a34 a35 a36 a37 H locs ls hd; exact absurd hd (Nat.not_lt_zero _)
            | succ N_ ih29 =>
              intro r c2 f38 a34 a35 a36 a37 H locs ls hd29 i29_1 i29_2 i2 i29_4 ilg hH hl
              refine z_iload hC 29 hl dX7_spans_29 4 rfl ?_
              refine z_aload_n hC 31 hl dX7_spans_31 rfl 0 rfl ?_
              refine gmW_5 (x := (n : Int)) hC hH 32 rfl dX7_spans_32 ?_
              refine z_icmp_ge hC 35 63 dX7_spans_35 rfl (by omega) (by omega) (fun hb2 => ?_) (fun hb2 => ?_)
              · -- 35t
                have er : (r) = n := by omega
                rw [er] at i2
                refine z_iinc (lv' := [(3, .int (iZ ((l : Int) + 1))), (0, .ref (ad 0)), (1, .int (iZ ((x1 : Int)))), (2, .int (iZ ((c2 : Int)))), (4, .int (iZ ((r : Int))))]) hC 63 hl dX7_spans_63 3 rfl (by omega) (by decide) rfl (fun ls hl => ?_)
                refine z_goto hC 66 18 dX7_spans_66 rfl ?_
                -- J18.2
                exact ih18 (l + 1) c2 f38 a34 a35 a36 a37 _ _ _ (by omega) (by first | assumption | omega) (by first | rfl | (rw [sm_succ _ (Nat.zero_le _)]; omega)) (by first | assumption | omega) hH (z_lv (lv_sub hl [1, 2, 3, 0] rfl) (zcons rfl (zcons rfl (zcons rfl (zcons (zpeq (by omega)) rfl)))))
              · -- 35f
                refine z_iload_n hC 38 hl dX7_spans_38 rfl 2 rfl ?_
                refine z_aload_n hC 39 hl dX7_spans_39 rfl 0 rfl ?_
                refine z_iload_n hC 40 hl dX7_spans_40 rfl 3 rfl ?_
                refine z_iload hC 41 hl dX7_spans_41 4 rfl ?_
                refine z_same (z_runV hC hH.2.2 hl.1 hH.1 hH.2.1 2 (As := [.int (iZ ((l : Int))), .int (iZ ((r : Int)))]) (rest := [.int (iZ ((c2 : Int)))]) (m_X7_longer lau s0 G _ ad (va_up (va_up (va_up (va_up F 0 (0)) 5 ((n : Int))) 7 ((t : Int))) 38 (f38)) (va_up (va_up (va_up (va_up (va_up Ar 3 (cI (n) v gv)) 34 a34) 35 a35) 36 a36) 37 a37) n v gv l r t f38 a34 a35 a36 a37 (by first | assumption | omega) (by first | assumption | omega) (by first | assumption | omega) (by first | assumption | omega) (by first | assumption | omega) (by exact ilg)) (lw_V q1872 q1874 qs83 q95 q1875) ⟨rfl, by decide, by decide, by decide +kernel⟩ (q0 := 0) (ci := 0) rfl rfl rfl rfl (Nat.le_of_ble_eq_true rfl) ⟨Nat.le_of_ble_eq_true rfl, Nat.le_of_ble_eq_true rfl⟩ ⟨Nat.le_of_ble_eq_true rfl, Nat.le_of_ble_eq_true rfl⟩ dX7_spans_43) hH (fun u_ H locs hpost hH => ?_)
                obtain ⟨o_43, go_43, fo_43, la_43, k_43, u_43, gu_43⟩ := u_
                obtain ⟨pCO_43, pm1_43⟩ : (CO v l (r + 1) o_43 fo_43 la_43 k_43 u_43) ∧ (md v l (r + 1) t < 1000) := hpost
                have hH : zH s0 s1 G as0 (mW ad G (va_up (va_up (va_up (va_up F 0 (0)) 5 ((n : Int))) 7 ((t : Int))) 38 ((k_43 : Int))) (va_up (va_up (va_up (va_up (va_up Ar 3 (cI (n) v gv)) 34 (cI (1000) o_43 go_43)) 35 fo_43) 36 la_43) 37 (cI (k_43) u_43 gu_43))) H locs := hH
                refine z_st (st' := [.int (iZ (((md v l (r + 1) t : Nat) : Int))), .int (iZ ((c2 : Int)))]) rfl ?_
                refine z_iload_n hC 46 hl dX7_spans_46 rfl 1 rfl ?_
                refine z_icmp_ne hC 47 54 dX7_spans_47 rfl (by omega) (by omega) (fun hb3 => ?_) (fun hb3 => ?_)
                · -- 47t
                  refine z_iconst hC 54 dX7_spans_54 ?_
                  refine z_iadd (e := (c2 : Int)) hC 55 dX7_spans_55 (by omega) ?_
                  refine z_istore_n (lv' := [(2, .int (iZ ((c2 : Int)))), (0, .ref (ad 0)), (1, .int (iZ ((x1 : Int)))), (3, .int (iZ ((l : Int)))), (4, .int (iZ ((r : Int))))]) hC 56 hl dX7_spans_56 rfl (by decide) rfl (fun ls hl => ?_)
                  refine z_iinc (lv' := [(4, .int (iZ ((r : Int) + 1))), (2, .int (iZ ((c2 : Int)))), (0, .ref (ad 0)), (1, .int (iZ ((x1 : Int)))), (3, .int (iZ ((l : Int))))]) hC 57 hl dX7_spans_57 4 rfl (by omega) (by decide) rfl (fun ls hl => ?_)
                  refine z_goto hC 60 29 dX7_spans_60 rfl ?_
                  -- J29.3
                  exact ih29 (r + 1) c2 (k_43 : Int) (cI (1000) o_43 go_43) fo_43 la_43 (cI (k_43) u_43 gu_43) _ _ _ (by omega) (by first | assumption | omega) (by first | assumption | omega) (by first | (rw [cB_none (fun j hj h => by omega)]; omega) | exact cB_ait ⟨by omega, by omega⟩ i2 | exact cB_aif (fun q => by have := q.2; omega) i2) (by first | assumption | omega) (by first | exact LG_0 | exact LG_of pCO_43) hH (z_lv (lv_sub hl [2, 3, 1, 4, 0] rfl) (zcons rfl (zcons rfl (zcons rfl (zcons rfl (zcons (zpeq (by omega)) rfl))))))
                · -- 47f
                  refine z_iconst hC 50 dX7_spans_50 ?_
                  refine z_goto hC 51 55 dX7_spans_51 rfl ?_
                  refine z_iadd (e := (c2 : Int) + 1) hC 55 dX7_spans_55 rfl ?_
                  refine z_istore_n (lv' := [(2, .int (iZ ((c2 : Int) + 1))), (0, .ref (ad 0)), (1, .int (iZ ((x1 : Int)))), (3, .int (iZ ((l : Int)))), (4, .int (iZ ((r : Int))))]) hC 56 hl dX7_spans_56 rfl (by decide) rfl (fun ls hl => ?_)
                  refine z_iinc (lv' := [(4, .int (iZ ((r : Int) + 1))), (2, .int (iZ ((c2 : Int) + 1))), (0, .ref (ad 0)), (1, .int (iZ ((x1 : Int)))), (3, .int (iZ ((l : Int))))]) hC 57 hl dX7_spans_57 4 rfl (by omega) (by decide) rfl (fun ls hl => ?_)
                  refine z_goto hC 60 29 dX7_spans_60 rfl ?_
                  -- J29.4
                  exact ih29 (r + 1) (c2 + 1) (k_43 : Int) (cI (1000) o_43 go_43) fo_43 la_43 (cI (k_43) u_43 gu_43) _ _ _ (by omega) (by first | assumption | omega) (by first | assumption | omega) (by first | (rw [cB_none (fun j hj h => by omega)]; omega) | exact cB_ait ⟨by omega, by omega⟩ i2 | exact cB_aif (fun q => by have := q.2; omega) i2) (by first | assumption | omega) (by first | exact LG_0 | exact LG_of pCO_43) hH (z_lv (lv_sub hl [2, 3, 1, 4, 0] rfl) (zcons rfl (zcons rfl (zcons (zpeq (by omega)) (zcons rfl (zcons (zpeq (by omega)) rfl))))))
          -- J29.5
          exact L29 _ l c f38 a34 a35 a36 a37 _ _ _ (Nat.lt_succ_self _) (by first | assumption | omega) (by first | assumption | omega) (by first | (rw [cB_none (fun j hj h => by omega)]; omega) | exact cB_ait ⟨by omega, by omega⟩ i2 | exact cB_aif (fun q => by have := q.2; omega) i2) (by first | assumption | omega) (by first | exact LG_0 | exact LG_of pCO_43) hH (lv_sub hl [1, 2, 3, 4, 0] rfl)
    -- J18.6
    exact L18 _ 0 0 (F 38) (Ar 34) (Ar 35) (Ar 36) (Ar 37) _ _ _ (Nat.lt_succ_self _) (by first | assumption | omega) (by first | rfl | (rw [sm_succ _ (Nat.zero_le _)]; omega)) (by first | assumption | omega) hH (z_lv (lv_sub hl [2, 3, 1, 0] rfl) (zcons rfl (zcons rfl (zcons (zpeq (by omega)) (zcons (zpeq (by omega)) rfl)))))
  · -- 6=0
    refine z_if_ne_f hC 9 14 dX7_spans_9 rfl (by omega) (by omega) ?_
    refine z_iconst hC 12 dX7_spans_12 ?_
    -- R13.7
    exact z_iret hC hH hQ 13 (((-1), (va_up (va_up (va_up F 0 (0)) 5 ((n : Int))) 7 ((t : Int))), (va_up Ar 3 (cI (n) v gv)))) dX7_spans_13 rfl ⟨by first | (unfold Sp_spans; rw [if_neg (by omega)]) | (unfold Sp_spans; rw [if_pos (by omega)]), by exact ⟨rfl, rfl, rfl, rfl, rfl, rfl, rfl, rfl, rfl, rfl, rfl, rfl, rfl, rfl, rfl, rfl⟩⟩ rfl (Nat.le_refl _) (Nat.le_refl _)

set_option maxHeartbeats 4000000 in
set_option maxRecDepth 100000 in
theorem m_X7_longest (lau : Launch) (s0 : State) (G : zG) (sz : Nat) (ad : Nat → Nat) (F : Nat → Int) (Ar : Nat → Nat → Int) (n : Nat) (v : Nat → Nat) (gv : Nat → Int) (t : Nat) (x : Int) (q : Int) (hn : n ≤ 120) (hv : ∀ i, i < n → v i < 1000) (ht : t < 4) (hr_x : -2147483648 ≤ x ∧ x < 2147483648) (hr_q : -2147483648 ≤ q ∧ q < 2147483648) : zMet (S := Int × (Nat → Int) × (Nat → Nat → Int)) lau yX7_longest cX7_longest 7 (some .int) 3 68 0 0 s0 G sz [.ref (ad 0), .int (iZ (x)), .int (iZ (q))] (mW ad G (va_up (va_up F 5 ((n : Int))) 7 ((t : Int))) (va_up Ar 3 (cI (n) v gv))) (fun ((r_, F2, A2) : Int × (Nat → Int) × (Nat → Nat → Int)) => some (.int (iZ (r_)))) (fun ((r_, F2, A2) : Int × (Nat → Int) × (Nat → Nat → Int)) => (Sp_longest n v t x q r_) ∧ (MK (va_up (va_up F 5 ((n : Int))) 7 ((t : Int))) (va_up Ar 3 (cI (n) v gv)) F2 A2)) (fun ((r_, F2, A2) : Int × (Nat → Int) × (Nat → Nat → Int)) => (mW ad G F2 A2)) := by
  refine zMet.of (by decide) (Nat.le_of_ble_eq_true rfl) ?_
  intro pg ev s1 mi ar bl me cd ls Q as0 hC hH hl hQ hsz
  generalize s1.heap = H at hH ⊢
  generalize ([] : List Loc) = locs at hH ⊢
  have hl : lv_has ls 7 [(0, .ref (ad 0)), (1, .int (iZ (x))), (2, .int (iZ (q)))] := hl
  refine z_aload_n hC 0 hl dX7_longest_0 rfl 0 rfl ?_
  refine z_iconst hC 1 dX7_longest_1 ?_
  refine pmW_0 hC hH 2 dX7_longest_2 (fun H locs hH => ?_)
  have hH : zH s0 s1 G as0 (mW ad G (va_up (va_up (va_up F 0 (0)) 5 ((n : Int))) 7 ((t : Int))) (va_up Ar 3 (cI (n) v gv))) H locs := hH
  refine z_iload_n hC 5 hl dX7_longest_5 rfl 1 rfl ?_
  refine z_same (z_runS hC hH.2.2 hl.1 hH.1 hH.2.1 1 (As := [.int (iZ (x))]) (rest := []) (m_X7_isValue lau s0 G _ ad (va_up (va_up (va_up F 0 (0)) 5 ((n : Int))) 7 ((t : Int))) (va_up Ar 3 (cI (n) v gv)) x (by first | assumption | omega)) (lw_S q1677 q1678 q95 q1679) ⟨by decide, by decide, by decide +kernel⟩ rfl rfl (Nat.le_of_ble_eq_true rfl) ⟨Nat.le_of_ble_eq_true rfl, Nat.le_of_ble_eq_true rfl⟩ ⟨Nat.le_of_ble_eq_true rfl, Nat.le_of_ble_eq_true rfl⟩ dX7_longest_6) hH (fun r_6 H locs hpost hH => ?_)
  have hb_6 : (r_6 = 1 ∧ (0 ≤ x ∧ x < 1000)) ∨ (r_6 = 0 ∧ ¬ (0 ≤ x ∧ x < 1000)) := hpost
  have hH : zH s0 s1 G as0 (mW ad G (va_up (va_up (va_up F 0 (0)) 5 ((n : Int))) 7 ((t : Int))) (va_up Ar 3 (cI (n) v gv))) H locs := hH
  refine z_st (st' := [.int (iZ (r_6))]) rfl ?_
  rcases hb_6 with ⟨rfl, hb_6⟩ | ⟨rfl, hb_6⟩
  · -- 6=1
    refine z_if_eq_f hC 9 21 dX7_longest_9 rfl (by omega) (by omega) ?_
    refine z_iload_n hC 12 hl dX7_longest_12 rfl 2 rfl ?_
    refine z_if_lt hC 13 21 dX7_longest_13 rfl (by omega) (fun hb1 => ?_) (fun hb1 => ?_)
    · -- 13t
      refine z_iconst hC 21 dX7_longest_21 ?_
      -- R22.1
      exact z_iret hC hH hQ 22 (((-1), (va_up (va_up (va_up F 0 (0)) 5 ((n : Int))) 7 ((t : Int))), (va_up Ar 3 (cI (n) v gv)))) dX7_longest_22 rfl ⟨by first | (unfold Sp_longest; rw [if_neg (by omega)]) | (unfold Sp_longest; rw [if_pos (by omega)]), by exact ⟨rfl, rfl, rfl, rfl, rfl, rfl, rfl, rfl, rfl, rfl, rfl, rfl, rfl, rfl, rfl, rfl⟩⟩ rfl (Nat.le_refl _) (Nat.le_refl _)
    · -- 13f
      refine z_iload_n hC 16 hl dX7_longest_16 rfl 2 rfl ?_
      refine z_iconst hC 17 dX7_longest_17 ?_
      refine z_icmp_le hC 18 23 dX7_longest_18 rfl (by omega) (by omega) (fun hb2 => ?_) (fun hb2 => ?_)
      · -- 18t
        obtain ⟨x1, rfl⟩ := Int.eq_ofNat_of_zero_le (show 0 ≤ x by omega)
        refine z_bipush hC 23 dX7_longest_23 rfl ?_
        refine z_istore_n (lv' := [(3, .int (iZ ((-2)))), (0, .ref (ad 0)), (1, .int (iZ ((x1 : Int)))), (2, .int (iZ (q)))]) hC 25 hl dX7_longest_25 rfl (by decide) rfl (fun ls hl => ?_)
        refine z_iconst hC 26 dX7_longest_26 ?_
        refine z_istore (lv' := [(4, .int (iZ (0))), (3, .int (iZ ((-2)))), (0, .ref (ad 0)), (1, .int (iZ ((x1 : Int)))), (2, .int (iZ (q)))]) hC 27 hl dX7_longest_27 (by decide) rfl (fun ls hl => ?_)
        refine z_iconst hC 29 dX7_longest_29 ?_
        refine z_istore (lv' := [(5, .int (iZ (0))), (4, .int (iZ (0))), (3, .int (iZ ((-2)))), (0, .ref (ad 0)), (1, .int (iZ ((x1 : Int)))), (2, .int (iZ (q)))]) hC 30 hl dX7_longest_30 (by decide) rfl (fun ls hl => ?_)
        have L32 : ∀ (N_ : Nat) (l : Nat) (bs : Int) (ms : Int) (f38 : Int) (a34 : Nat → Int) (a35 : Nat → Int) (a36 : Nat → Int) (a37 : Nat → Int) (H : Heap) (locs : List Loc) (ls : Array Slot), n - l < N_ → (l ≤ n) → (BS (fun l r => md v l (r + 1) t = x1) n l 0 bs ms) → zH s0 s1 G as0 (mW ad G (va_up (va_up (va_up (va_up F 0 (0)) 5 ((n : Int))) 7 ((t : Int))) 38 (f38)) (va_up (va_up (va_up (va_up (va_up Ar 3 (cI (n) v gv)) 34 a34) 35 a35) 36 a36) 37 a37)) H locs → lv_has ls 7 [(0, .ref (ad 0)), (1, .int (iZ ((x1 : Int)))), (2, .int (iZ (q))), (3, .int (iZ (bs))), (4, .int (iZ (ms))), (5, .int (iZ ((l : Int))))] → W pg lau ev (zRm 3 0 0 68) s1 mi ar bl me cd H locs 0 0 Q (F0 mi 32 ls []) := by
          intro N_
          induction N_ with
          | zero => intro l bs ms f38 a34 a35 a36 a37 H locs ls hd; exact absurd hd (Nat.not_lt_zero _)
          | succ N_ ih32 =>
            intro l bs ms f38 a34 a35 a36 a37 H locs ls hd32 i32_1 ib hH hl
            refine z_iload hC 32 hl dX7_longest_32 5 rfl ?_
            refine z_aload_n hC 34 hl dX7_longest_34 rfl 0 rfl ?_
            refine gmW_5 (x := (n : Int)) hC hH 35 rfl dX7_longest_35 ?_
            refine z_icmp_ge hC 38 105 dX7_longest_38 rfl (by omega) (by omega) (fun hb3 => ?_) (fun hb3 => ?_)
            · -- 38t
              have el : (l) = n := by omega
              rw [el] at ib
              have hbb := BS_b ib
              refine z_iload_n hC 105 hl dX7_longest_105 rfl 3 rfl ?_
              refine z_bipush hC 106 dX7_longest_106 rfl ?_
              refine z_icmp_eq hC 108 115 dX7_longest_108 rfl (by omega) (by omega) (fun hb4 => ?_) (fun hb4 => ?_)
              · -- 108t
                refine z_iload_n hC 115 hl dX7_longest_115 rfl 3 rfl ?_
                refine z_goto hC 116 125 dX7_longest_116 rfl ?_
                -- R125.2
                exact z_iret hC hH hQ 125 ((bs, (va_up (va_up (va_up (va_up F 0 (0)) 5 ((n : Int))) 7 ((t : Int))) 38 (f38)), (va_up (va_up (va_up (va_up (va_up Ar 3 (cI (n) v gv)) 34 a34) 35 a35) 36 a36) 37 a37))) dX7_longest_125 rfl ⟨by (unfold Sp_longest; rw [if_pos (by omega)]; simp only [Int.toNat_natCast]; exact BS_end ib (by first | (left; omega) | (right; refine ⟨by omega, ?_⟩; first | (rw [if_pos (by omega)]; done) | (rw [if_neg (by omega)]; done)))), by exact ⟨rfl, rfl, rfl, rfl, rfl, rfl, rfl, rfl, rfl, rfl, rfl, rfl, rfl, rfl, rfl, rfl⟩⟩ rfl (Nat.le_refl _) (Nat.le_refl _)
              · -- 108f
                refine z_iload_n hC 111 hl dX7_longest_111 rfl 2 rfl ?_
                refine z_if_ne hC 112 119 dX7_longest_112 rfl (by omega) (fun hb5 => ?_) (fun hb5 => ?_)
                · -- 112t
                  refine z_iload_n hC 119 hl dX7_longest_119 rfl 3 rfl ?_
                  refine z_iload hC 120 hl dX7_longest_120 4 rfl ?_
                  refine z_iadd (e := bs + ms) hC 122 dX7_longest_122 rfl ?_
                  refine z_iconst hC 123 dX7_longest_123 ?_
                  refine z_isub (e := bs + ms - 1) hC 124 dX7_longest_124 rfl ?_
                  -- R125.3
                  refine z_st (st' := [.int (iZ ((bs + ms - 1)))]) (zcons (zieq (by first | assumption | omega)) rfl) ?_
                  exact z_iret hC hH hQ 125 ((bs + ms - 1, (va_up (va_up (va_up (va_up F 0 (0)) 5 ((n : Int))) 7 ((t : Int))) 38 (f38)), (va_up (va_up (va_up (va_up (va_up Ar 3 (cI (n) v gv)) 34 a34) 35 a35) 36 a36) 37 a37))) dX7_longest_125 rfl ⟨by (unfold Sp_longest; rw [if_pos (by omega)]; simp only [Int.toNat_natCast]; exact BS_end ib (by first | (left; omega) | (right; refine ⟨by omega, ?_⟩; first | (rw [if_pos (by omega)]; done) | (rw [if_neg (by omega)]; done)))), by exact ⟨rfl, rfl, rfl, rfl, rfl, rfl, rfl, rfl, rfl, rfl, rfl, rfl, rfl, rfl, rfl, rfl⟩⟩ rfl (Nat.le_refl _) (Nat.le_refl _)
                · -- 112f
                  refine z_iload_n hC 115 hl dX7_longest_115 rfl 3 rfl ?_
                  refine z_goto hC 116 125 dX7_longest_116 rfl ?_
                  -- R125.4
                  exact z_iret hC hH hQ 125 ((bs, (va_up (va_up (va_up (va_up F 0 (0)) 5 ((n : Int))) 7 ((t : Int))) 38 (f38)), (va_up (va_up (va_up (va_up (va_up Ar 3 (cI (n) v gv)) 34 a34) 35 a35) 36 a36) 37 a37))) dX7_longest_125 rfl ⟨by (unfold Sp_longest; rw [if_pos (by omega)]; simp only [Int.toNat_natCast]; exact BS_end ib (by first | (left; omega) | (right; refine ⟨by omega, ?_⟩; first | (rw [if_pos (by omega)]; done) | (rw [if_neg (by omega)]; done)))), by exact ⟨rfl, rfl, rfl, rfl, rfl, rfl, rfl, rfl, rfl, rfl, rfl, rfl, rfl, rfl, rfl, rfl⟩⟩ rfl (Nat.le_refl _) (Nat.le_refl _)
            · -- 38f
              refine z_iload hC 41 hl dX7_longest_41 5 rfl ?_
              refine z_istore (lv' := [(6, .int (iZ ((l : Int)))), (0, .ref (ad 0)), (1, .int (iZ ((x1 : Int)))), (2, .int (iZ (q))), (3, .int (iZ (bs))), (4, .int (iZ (ms))), (5, .int (iZ ((l : Int))))]) hC 43 hl dX7_longest_43 (by decide) rfl (fun ls hl => ?_)
              have L45 : ∀ (N_ : Nat) (r : Nat) (b2 : Int) (m2 : Int) (f38 : Int) (a34 : Nat → Int) (a35 : Nat → Int) (a36 : Nat → Int) (a37 : Nat → Int) (H : Heap) (locs : List Loc) (ls : Array Slot), n - r < N_ → (l ≤ r) → (r ≤ n) → (BS (fun l r => md v l (r + 1) t = x1) n l r b2 m2) → (LG v l r f38 a34 a35 a36 a37) → zH s0 s1 G as0 (mW ad G (va_up (va_up (va_up (va_up F 0 (0)) 5 ((n : Int))) 7 ((t : Int))) 38 (f38)) (va_up (va_up (va_up (va_up (va_up Ar 3 (cI (n) v gv)) 34 a34) 35 a35) 36 a36) 37 a37)) H locs → lv_has ls 7 [(0, .ref (ad 0)), (1, .int (iZ ((x1 : Int)))), (2, .int (iZ (q))), (3, .int (iZ (b2))), (4, .int (iZ (m2))), (5, .int (iZ ((l : Int)))), (6, .int (iZ ((r : Int))))] → W pg lau ev (zRm 3 0 0 68) s1 mi ar bl me cd H locs 0 0 Q (F0 mi 45 ls []) := by
                intro N_
                induction N_ with
                | zero => intro r b2 m2 f38 a34 a35 a36 a37 H locs ls hd; exact absurd hd (Nat.not_lt_zero _)
                | succ N_ ih45 =>
                  intro r b2 m2 f38 a34 a35 a36 a37 H locs ls hd45 i45_1 i45_2 ib2 ilg hH hl
                  have hbb := BS_b ib2
                  refine z_iload hC 45 hl dX7_longest_45 6 rfl ?_
                  refine z_aload_n hC 47 hl dX7_longest_47 rfl 0 rfl ?_
                  refine gmW_5 (x := (n : Int)) hC hH 48 rfl dX7_longest_48 ?_
                  refine z_icmp_ge hC 51 99 dX7_longest_51 rfl (by omega) (by omega) (fun hb6 => ?_) (fun hb6 => ?_)
                  · -- 51t
                    have er : (r) = n := by omega
                    rw [er] at ib2
                    refine z_iinc (lv' := [(5, .int (iZ ((l : Int) + 1))), (0, .ref (ad 0)), (1, .int (iZ ((x1 : Int)))), (2, .int (iZ (q))), (3, .int (iZ (b2))), (4, .int (iZ (m2))), (6, .int (iZ ((r : Int))))]) hC 99 hl dX7_longest_99 5 rfl (by omega) (by decide) rfl (fun ls hl => ?_)
                    refine z_goto hC 102 32 dX7_longest_102 rfl ?_
                    -- J32.5
                    exact ih32 (l + 1) b2 m2 f38 a34 a35 a36 a37 _ _ _ (by omega) (by first | assumption | omega) (by first | exact BS_0 | exact BS_next ib2) hH (z_lv (lv_sub hl [1, 2, 3, 4, 5, 0] rfl) (zcons rfl (zcons rfl (zcons rfl (zcons rfl (zcons rfl (zcons (zpeq (by omega)) rfl)))))))
                  · -- 51f
                    refine z_aload_n hC 54 hl dX7_longest_54 rfl 0 rfl ?_
                    refine z_iload hC 55 hl dX7_longest_55 5 rfl ?_
                    refine z_iload hC 57 hl dX7_longest_57 6 rfl ?_
                    refine z_same (z_runV hC hH.2.2 hl.1 hH.1 hH.2.1 2 (As := [.int (iZ ((l : Int))), .int (iZ ((r : Int)))]) (rest := []) (m_X7_longer lau s0 G _ ad (va_up (va_up (va_up (va_up F 0 (0)) 5 ((n : Int))) 7 ((t : Int))) 38 (f38)) (va_up (va_up (va_up (va_up (va_up Ar 3 (cI (n) v gv)) 34 a34) 35 a35) 36 a36) 37 a37) n v gv l r t f38 a34 a35 a36 a37 (by first | assumption | omega) (by first | assumption | omega) (by first | assumption | omega) (by first | assumption | omega) (by first | assumption | omega) (by exact ilg)) (lw_V q1872 q1874 qs83 q95 q1875) ⟨rfl, by decide, by decide, by decide +kernel⟩ (q0 := 0) (ci := 0) rfl rfl rfl rfl (Nat.le_of_ble_eq_true rfl) ⟨Nat.le_of_ble_eq_true rfl, Nat.le_of_ble_eq_true rfl⟩ ⟨Nat.le_of_ble_eq_true rfl, Nat.le_of_ble_eq_true rfl⟩ dX7_longest_59) hH (fun u_ H locs hpost hH => ?_)
                    obtain ⟨o_59, go_59, fo_59, la_59, k_59, u_59, gu_59⟩ := u_
                    obtain ⟨pCO_59, pm1_59⟩ : (CO v l (r + 1) o_59 fo_59 la_59 k_59 u_59) ∧ (md v l (r + 1) t < 1000) := hpost
                    have hH : zH s0 s1 G as0 (mW ad G (va_up (va_up (va_up (va_up F 0 (0)) 5 ((n : Int))) 7 ((t : Int))) 38 ((k_59 : Int))) (va_up (va_up (va_up (va_up (va_up Ar 3 (cI (n) v gv)) 34 (cI (1000) o_59 go_59)) 35 fo_59) 36 la_59) 37 (cI (k_59) u_59 gu_59))) H locs := hH
                    refine z_st (st' := [.int (iZ (((md v l (r + 1) t : Nat) : Int)))]) rfl ?_
                    refine z_iload_n hC 62 hl dX7_longest_62 rfl 1 rfl ?_
                    refine z_icmp_ne hC 63 93 dX7_longest_63 rfl (by omega) (by omega) (fun hb7 => ?_) (fun hb7 => ?_)
                    · -- 63t
                      refine z_iinc (lv' := [(6, .int (iZ ((r : Int) + 1))), (0, .ref (ad 0)), (1, .int (iZ ((x1 : Int)))), (2, .int (iZ (q))), (3, .int (iZ (b2))), (4, .int (iZ (m2))), (5, .int (iZ ((l : Int))))]) hC 93 hl dX7_longest_93 6 rfl (by omega) (by decide) rfl (fun ls hl => ?_)
                      refine z_goto hC 96 45 dX7_longest_96 rfl ?_
                      -- J45.6
                      exact ih45 (r + 1) b2 m2 (k_59 : Int) (cI (1000) o_59 go_59) fo_59 la_59 (cI (k_59) u_59 gu_59) _ _ _ (by omega) (by first | assumption | omega) (by first | assumption | omega) (by first | exact BS_row ib | exact BS_skip ib2 (by omega) (Or.inl (by omega)) | exact BS_skip ib2 (by omega) (Or.inr (by omega)) | exact BS_new ib2 (by omega) (by omega) (by omega) (by omega)) (by first | exact LG_0 | exact LG_of pCO_59) hH (z_lv (lv_sub hl [1, 2, 3, 4, 5, 6, 0] rfl) (zcons rfl (zcons rfl (zcons rfl (zcons rfl (zcons rfl (zcons rfl (zcons (zpeq (by omega)) rfl))))))))
                    · -- 63f
                      refine z_iload hC 66 hl dX7_longest_66 6 rfl ?_
                      refine z_iload hC 68 hl dX7_longest_68 5 rfl ?_
                      refine z_isub (e := (r : Int) - (l : Int)) hC 70 dX7_longest_70 rfl ?_
                      refine z_iconst hC 71 dX7_longest_71 ?_
                      refine z_iadd (e := (r : Int) - (l : Int) + 1) hC 72 dX7_longest_72 rfl ?_
                      refine z_iload hC 73 hl dX7_longest_73 4 rfl ?_
                      refine z_icmp_gt hC 75 81 dX7_longest_75 rfl (by omega) (by omega) (fun hb8 => ?_) (fun hb8 => ?_)
                      · -- 75t
                        refine z_iload hC 81 hl dX7_longest_81 5 rfl ?_
                        refine z_istore_n (lv' := [(3, .int (iZ ((l : Int)))), (0, .ref (ad 0)), (1, .int (iZ ((x1 : Int)))), (2, .int (iZ (q))), (4, .int (iZ (m2))), (5, .int (iZ ((l : Int)))), (6, .int (iZ ((r : Int))))]) hC 83 hl dX7_longest_83 rfl (by decide) rfl (fun ls hl => ?_)
                        refine z_iload hC 84 hl dX7_longest_84 6 rfl ?_
                        refine z_iload hC 86 hl dX7_longest_86 5 rfl ?_
                        refine z_isub (e := (r : Int) - (l : Int)) hC 88 dX7_longest_88 rfl ?_
                        refine z_iconst hC 89 dX7_longest_89 ?_
                        refine z_iadd (e := (r : Int) - (l : Int) + 1) hC 90 dX7_longest_90 rfl ?_
                        refine z_istore (lv' := [(4, .int (iZ ((r : Int) - (l : Int) + 1))), (3, .int (iZ ((l : Int)))), (0, .ref (ad 0)), (1, .int (iZ ((x1 : Int)))), (2, .int (iZ (q))), (5, .int (iZ ((l : Int)))), (6, .int (iZ ((r : Int))))]) hC 91 hl dX7_longest_91 (by decide) rfl (fun ls hl => ?_)
                        refine z_iinc (lv' := [(6, .int (iZ ((r : Int) + 1))), (4, .int (iZ ((r : Int) - (l : Int) + 1))), (3, .int (iZ ((l : Int)))), (0, .ref (ad 0)), (1, .int (iZ ((x1 : Int)))), (2, .int (iZ (q))), (5, .int (iZ ((l : Int))))]) hC 93 hl dX7_longest_93 6 rfl (by omega) (by decide) rfl (fun ls hl => ?_)
                        refine z_goto hC 96 45 dX7_longest_96 rfl ?_
                        -- J45.7
                        exact ih45 (r + 1) (l : Int) ((r : Int) - (l : Int) + 1) (k_59 : Int) (cI (1000) o_59 go_59) fo_59 la_59 (cI (k_59) u_59 gu_59) _ _ _ (by omega) (by first | assumption | omega) (by first | assumption | omega) (by first | exact BS_row ib | exact BS_skip ib2 (by omega) (Or.inl (by omega)) | exact BS_skip ib2 (by omega) (Or.inr (by omega)) | exact BS_new ib2 (by omega) (by omega) (by omega) (by omega)) (by first | exact LG_0 | exact LG_of pCO_59) hH (z_lv (lv_sub hl [3, 4, 5, 2, 1, 6, 0] rfl) (zcons rfl (zcons rfl (zcons rfl (zcons rfl (zcons (zpeq (by omega)) (zcons rfl (zcons (zpeq (by omega)) rfl))))))))
                      · -- 75f
                        refine z_goto hC 78 93 dX7_longest_78 rfl ?_
                        refine z_iinc (lv' := [(6, .int (iZ ((r : Int) + 1))), (0, .ref (ad 0)), (1, .int (iZ ((x1 : Int)))), (2, .int (iZ (q))), (3, .int (iZ (b2))), (4, .int (iZ (m2))), (5, .int (iZ ((l : Int))))]) hC 93 hl dX7_longest_93 6 rfl (by omega) (by decide) rfl (fun ls hl => ?_)
                        refine z_goto hC 96 45 dX7_longest_96 rfl ?_
                        -- J45.8
                        exact ih45 (r + 1) b2 m2 (k_59 : Int) (cI (1000) o_59 go_59) fo_59 la_59 (cI (k_59) u_59 gu_59) _ _ _ (by omega) (by first | assumption | omega) (by first | assumption | omega) (by first | exact BS_row ib | exact BS_skip ib2 (by omega) (Or.inl (by omega)) | exact BS_skip ib2 (by omega) (Or.inr (by omega)) | exact BS_new ib2 (by omega) (by omega) (by omega) (by omega)) (by first | exact LG_0 | exact LG_of pCO_59) hH (z_lv (lv_sub hl [1, 2, 3, 4, 5, 6, 0] rfl) (zcons rfl (zcons rfl (zcons rfl (zcons rfl (zcons rfl (zcons rfl (zcons (zpeq (by omega)) rfl))))))))
              -- J45.9
              exact L45 _ l bs ms f38 a34 a35 a36 a37 _ _ _ (Nat.lt_succ_self _) (by first | assumption | omega) (by first | assumption | omega) (by first | exact BS_row ib | exact BS_skip ib2 (by omega) (Or.inl (by omega)) | exact BS_skip ib2 (by omega) (Or.inr (by omega)) | exact BS_new ib2 (by omega) (by omega) (by omega) (by omega)) (by first | exact LG_0 | exact LG_of pCO_59) hH (lv_sub hl [1, 2, 3, 4, 5, 6, 0] rfl)
        -- J32.10
        exact L32 _ 0 (-2) 0 (F 38) (Ar 34) (Ar 35) (Ar 36) (Ar 37) _ _ _ (Nat.lt_succ_self _) (by first | assumption | omega) (by first | exact BS_0 | exact BS_next ib2) hH (z_lv (lv_sub hl [3, 4, 5, 2, 1, 0] rfl) (zcons rfl (zcons rfl (zcons rfl (zcons rfl (zcons rfl (zcons (zpeq (by omega)) rfl)))))))
      · -- 18f
        refine z_iconst hC 21 dX7_longest_21 ?_
        -- R22.11
        exact z_iret hC hH hQ 22 (((-1), (va_up (va_up (va_up F 0 (0)) 5 ((n : Int))) 7 ((t : Int))), (va_up Ar 3 (cI (n) v gv)))) dX7_longest_22 rfl ⟨by first | (unfold Sp_longest; rw [if_neg (by omega)]) | (unfold Sp_longest; rw [if_pos (by omega)]), by exact ⟨rfl, rfl, rfl, rfl, rfl, rfl, rfl, rfl, rfl, rfl, rfl, rfl, rfl, rfl, rfl, rfl⟩⟩ rfl (Nat.le_refl _) (Nat.le_refl _)
  · -- 6=0
    refine z_if_eq_t hC 9 21 dX7_longest_9 rfl (by omega) (by omega) ?_
    refine z_iconst hC 21 dX7_longest_21 ?_
    -- R22.12
    exact z_iret hC hH hQ 22 (((-1), (va_up (va_up (va_up F 0 (0)) 5 ((n : Int))) 7 ((t : Int))), (va_up Ar 3 (cI (n) v gv)))) dX7_longest_22 rfl ⟨by first | (unfold Sp_longest; rw [if_neg (by omega)]) | (unfold Sp_longest; rw [if_pos (by omega)]), by exact ⟨rfl, rfl, rfl, rfl, rfl, rfl, rfl, rfl, rfl, rfl, rfl, rfl, rfl, rfl, rfl, rfl⟩⟩ rfl (Nat.le_refl _) (Nat.le_refl _)

set_option maxHeartbeats 4000000 in
set_option maxRecDepth 100000 in
theorem m_X7_reign (lau : Launch) (s0 : State) (G : zG) (sz : Nat) (ad : Nat → Nat) (F : Nat → Int) (Ar : Nat → Nat → Int) (n : Nat) (v : Nat → Nat) (gv : Nat → Int) (t : Nat) (x : Int) (q : Int) (hn : n ≤ 120) (hv : ∀ i, i < n → v i < 1000) (ht : t < 4) (hr_x : -2147483648 ≤ x ∧ x < 2147483648) (hr_q : -2147483648 ≤ q ∧ q < 2147483648) : zMet (S := Int × (Nat → Int) × (Nat → Nat → Int)) lau yX7_reign cX7_reign 8 (some .int) 1 20 0 0 s0 G sz [.ref (ad 0), .int (iZ (x)), .int (iZ (q))] (mW ad G (va_up (va_up F 5 ((n : Int))) 7 ((t : Int))) (va_up Ar 3 (cI (n) v gv))) (fun ((r_, F2, A2) : Int × (Nat → Int) × (Nat → Nat → Int)) => some (.int (iZ (r_)))) (fun ((r_, F2, A2) : Int × (Nat → Int) × (Nat → Nat → Int)) => (Sp_reign n v x q r_) ∧ (MK (va_up (va_up F 5 ((n : Int))) 7 ((t : Int))) (va_up Ar 3 (cI (n) v gv)) F2 A2)) (fun ((r_, F2, A2) : Int × (Nat → Int) × (Nat → Nat → Int)) => (mW ad G F2 A2)) := by
  refine zMet.of (by decide) (Nat.le_of_ble_eq_true rfl) ?_
  intro pg ev s1 mi ar bl me cd ls Q as0 hC hH hl hQ hsz
  generalize s1.heap = H at hH ⊢
  generalize ([] : List Loc) = locs at hH ⊢
  have hl : lv_has ls 8 [(0, .ref (ad 0)), (1, .int (iZ (x))), (2, .int (iZ (q)))] := hl
  refine z_aload_n hC 0 hl dX7_reign_0 rfl 0 rfl ?_
  refine z_iconst hC 1 dX7_reign_1 ?_
  refine pmW_0 hC hH 2 dX7_reign_2 (fun H locs hH => ?_)
  have hH : zH s0 s1 G as0 (mW ad G (va_up (va_up (va_up F 0 (0)) 5 ((n : Int))) 7 ((t : Int))) (va_up Ar 3 (cI (n) v gv))) H locs := hH
  refine z_iload_n hC 5 hl dX7_reign_5 rfl 1 rfl ?_
  refine z_same (z_runS hC hH.2.2 hl.1 hH.1 hH.2.1 1 (As := [.int (iZ (x))]) (rest := []) (m_X7_isValue lau s0 G _ ad (va_up (va_up (va_up F 0 (0)) 5 ((n : Int))) 7 ((t : Int))) (va_up Ar 3 (cI (n) v gv)) x (by first | assumption | omega)) (lw_S q1677 q1678 q95 q1679) ⟨by decide, by decide, by decide +kernel⟩ rfl rfl (Nat.le_of_ble_eq_true rfl) ⟨Nat.le_of_ble_eq_true rfl, Nat.le_of_ble_eq_true rfl⟩ ⟨Nat.le_of_ble_eq_true rfl, Nat.le_of_ble_eq_true rfl⟩ dX7_reign_6) hH (fun r_6 H locs hpost hH => ?_)
  have hb_6 : (r_6 = 1 ∧ (0 ≤ x ∧ x < 1000)) ∨ (r_6 = 0 ∧ ¬ (0 ≤ x ∧ x < 1000)) := hpost
  have hH : zH s0 s1 G as0 (mW ad G (va_up (va_up (va_up F 0 (0)) 5 ((n : Int))) 7 ((t : Int))) (va_up Ar 3 (cI (n) v gv))) H locs := hH
  refine z_st (st' := [.int (iZ (r_6))]) rfl ?_
  rcases hb_6 with ⟨rfl, hb_6⟩ | ⟨rfl, hb_6⟩
  · -- 6=1
    refine z_if_eq_f hC 9 21 dX7_reign_9 rfl (by omega) (by omega) ?_
    refine z_iload_n hC 12 hl dX7_reign_12 rfl 2 rfl ?_
    refine z_if_lt hC 13 21 dX7_reign_13 rfl (by omega) (fun hb1 => ?_) (fun hb1 => ?_)
    · -- 13t
      refine z_iconst hC 21 dX7_reign_21 ?_
      -- R22.1
      exact z_iret hC hH hQ 22 (((-1), (va_up (va_up (va_up F 0 (0)) 5 ((n : Int))) 7 ((t : Int))), (va_up Ar 3 (cI (n) v gv)))) dX7_reign_22 rfl ⟨by first | (unfold Sp_reign; rw [if_neg (by omega)]) | (unfold Sp_reign; rw [if_pos (by omega)]), by exact ⟨rfl, rfl, rfl, rfl, rfl, rfl, rfl, rfl, rfl, rfl, rfl, rfl, rfl, rfl, rfl, rfl⟩⟩ rfl (Nat.le_refl _) (Nat.le_refl _)
    · -- 13f
      refine z_iload_n hC 16 hl dX7_reign_16 rfl 2 rfl ?_
      refine z_iconst hC 17 dX7_reign_17 ?_
      refine z_icmp_le hC 18 23 dX7_reign_18 rfl (by omega) (by omega) (fun hb2 => ?_) (fun hb2 => ?_)
      · -- 18t
        obtain ⟨x1, rfl⟩ := Int.eq_ofNat_of_zero_le (show 0 ≤ x by omega)
        refine z_bipush hC 23 dX7_reign_23 rfl ?_
        refine z_istore_n (lv' := [(3, .int (iZ ((-2)))), (0, .ref (ad 0)), (1, .int (iZ ((x1 : Int)))), (2, .int (iZ (q)))]) hC 25 hl dX7_reign_25 rfl (by decide) rfl (fun ls hl => ?_)
        refine z_iconst hC 26 dX7_reign_26 ?_
        refine z_istore (lv' := [(4, .int (iZ (0))), (3, .int (iZ ((-2)))), (0, .ref (ad 0)), (1, .int (iZ ((x1 : Int)))), (2, .int (iZ (q)))]) hC 27 hl dX7_reign_27 (by decide) rfl (fun ls hl => ?_)
        refine z_iconst hC 29 dX7_reign_29 ?_
        refine z_istore (lv' := [(5, .int (iZ (0))), (4, .int (iZ (0))), (3, .int (iZ ((-2)))), (0, .ref (ad 0)), (1, .int (iZ ((x1 : Int)))), (2, .int (iZ (q)))]) hC 30 hl dX7_reign_30 (by decide) rfl (fun ls hl => ?_)
        have L32 : ∀ (N_ : Nat) (l : Nat) (bs : Int) (ms : Int) (H : Heap) (locs : List Loc) (ls : Array Slot), n - l < N_ → (l ≤ n) → (BS (fun l r => r + 1 - l < 2 * cnt v l (r + 1) x1) n l 0 bs ms) → zH s0 s1 G as0 (mW ad G (va_up (va_up (va_up F 0 (0)) 5 ((n : Int))) 7 ((t : Int))) (va_up Ar 3 (cI (n) v gv))) H locs → lv_has ls 8 [(0, .ref (ad 0)), (1, .int (iZ ((x1 : Int)))), (2, .int (iZ (q))), (3, .int (iZ (bs))), (4, .int (iZ (ms))), (5, .int (iZ ((l : Int))))] → W pg lau ev (zRm 1 0 0 20) s1 mi ar bl me cd H locs 0 0 Q (F0 mi 32 ls []) := by
          intro N_
          induction N_ with
          | zero => intro l bs ms H locs ls hd; exact absurd hd (Nat.not_lt_zero _)
          | succ N_ ih32 =>
            intro l bs ms H locs ls hd32 i32_1 ib hH hl
            refine z_iload hC 32 hl dX7_reign_32 5 rfl ?_
            refine z_aload_n hC 34 hl dX7_reign_34 rfl 0 rfl ?_
            refine gmW_5 (x := (n : Int)) hC hH 35 rfl dX7_reign_35 ?_
            refine z_icmp_ge hC 38 131 dX7_reign_38 rfl (by omega) (by omega) (fun hb3 => ?_) (fun hb3 => ?_)
            · -- 38t
              have el : (l) = n := by omega
              rw [el] at ib
              have hbb := BS_b ib
              refine z_iload_n hC 131 hl dX7_reign_131 rfl 3 rfl ?_
              refine z_bipush hC 132 dX7_reign_132 rfl ?_
              refine z_icmp_eq hC 134 141 dX7_reign_134 rfl (by omega) (by omega) (fun hb4 => ?_) (fun hb4 => ?_)
              · -- 134t
                refine z_iload_n hC 141 hl dX7_reign_141 rfl 3 rfl ?_
                refine z_goto hC 142 151 dX7_reign_142 rfl ?_
                -- R151.2
                exact z_iret hC hH hQ 151 ((bs, (va_up (va_up (va_up F 0 (0)) 5 ((n : Int))) 7 ((t : Int))), (va_up Ar 3 (cI (n) v gv)))) dX7_reign_151 rfl ⟨by (unfold Sp_reign; rw [if_pos (by omega)]; simp only [Int.toNat_natCast]; exact BS_end ib (by first | (left; omega) | (right; refine ⟨by omega, ?_⟩; first | (rw [if_pos (by omega)]; done) | (rw [if_neg (by omega)]; done)))), by exact ⟨rfl, rfl, rfl, rfl, rfl, rfl, rfl, rfl, rfl, rfl, rfl, rfl, rfl, rfl, rfl, rfl⟩⟩ rfl (Nat.le_refl _) (Nat.le_refl _)
              · -- 134f
                refine z_iload_n hC 137 hl dX7_reign_137 rfl 2 rfl ?_
                refine z_if_ne hC 138 145 dX7_reign_138 rfl (by omega) (fun hb5 => ?_) (fun hb5 => ?_)
                · -- 138t
                  refine z_iload_n hC 145 hl dX7_reign_145 rfl 3 rfl ?_
                  refine z_iload hC 146 hl dX7_reign_146 4 rfl ?_
                  refine z_iadd (e := bs + ms) hC 148 dX7_reign_148 rfl ?_
                  refine z_iconst hC 149 dX7_reign_149 ?_
                  refine z_isub (e := bs + ms - 1) hC 150 dX7_reign_150 rfl ?_
                  -- R151.3
                  refine z_st (st' := [.int (iZ ((bs + ms - 1)))]) (zcons (zieq (by first | assumption | omega)) rfl) ?_
                  exact z_iret hC hH hQ 151 ((bs + ms - 1, (va_up (va_up (va_up F 0 (0)) 5 ((n : Int))) 7 ((t : Int))), (va_up Ar 3 (cI (n) v gv)))) dX7_reign_151 rfl ⟨by (unfold Sp_reign; rw [if_pos (by omega)]; simp only [Int.toNat_natCast]; exact BS_end ib (by first | (left; omega) | (right; refine ⟨by omega, ?_⟩; first | (rw [if_pos (by omega)]; done) | (rw [if_neg (by omega)]; done)))), by exact ⟨rfl, rfl, rfl, rfl, rfl, rfl, rfl, rfl, rfl, rfl, rfl, rfl, rfl, rfl, rfl, rfl⟩⟩ rfl (Nat.le_refl _) (Nat.le_refl _)
                · -- 138f
                  refine z_iload_n hC 141 hl dX7_reign_141 rfl 3 rfl ?_
                  refine z_goto hC 142 151 dX7_reign_142 rfl ?_
                  -- R151.4
                  exact z_iret hC hH hQ 151 ((bs, (va_up (va_up (va_up F 0 (0)) 5 ((n : Int))) 7 ((t : Int))), (va_up Ar 3 (cI (n) v gv)))) dX7_reign_151 rfl ⟨by (unfold Sp_reign; rw [if_pos (by omega)]; simp only [Int.toNat_natCast]; exact BS_end ib (by first | (left; omega) | (right; refine ⟨by omega, ?_⟩; first | (rw [if_pos (by omega)]; done) | (rw [if_neg (by omega)]; done)))), by exact ⟨rfl, rfl, rfl, rfl, rfl, rfl, rfl, rfl, rfl, rfl, rfl, rfl, rfl, rfl, rfl, rfl⟩⟩ rfl (Nat.le_refl _) (Nat.le_refl _)
            · -- 38f
              refine z_iconst hC 41 dX7_reign_41 ?_
              refine z_istore (lv' := [(6, .int (iZ (0))), (0, .ref (ad 0)), (1, .int (iZ ((x1 : Int)))), (2, .int (iZ (q))), (3, .int (iZ (bs))), (4, .int (iZ (ms))), (5, .int (iZ ((l : Int))))]) hC 42 hl dX7_reign_42 (by decide) rfl (fun ls hl => ?_)
              refine z_iload hC 44 hl dX7_reign_44 6 rfl ?_
              refine z_istore (lv' := [(7, .int (iZ ((l : Int)))), (6, .int (iZ (0))), (0, .ref (ad 0)), (1, .int (iZ ((x1 : Int)))), (2, .int (iZ (q))), (3, .int (iZ (bs))), (4, .int (iZ (ms))), (5, .int (iZ ((l : Int))))]) hC 46 hl dX7_reign_46 (by decide) rfl (fun ls hl => ?_)
              have L48 : ∀ (N_ : Nat) (r : Nat) (b2 : Int) (m2 : Int) (c : Nat) (H : Heap) (locs : List Loc) (ls : Array Slot), n - r < N_ → (l ≤ r) → (r ≤ n) → (BS (fun l r => r + 1 - l < 2 * cnt v l (r + 1) x1) n l r b2 m2) → (c = cnt v l r x1) → (c ≤ r - l) → zH s0 s1 G as0 (mW ad G (va_up (va_up (va_up F 0 (0)) 5 ((n : Int))) 7 ((t : Int))) (va_up Ar 3 (cI (n) v gv))) H locs → lv_has ls 8 [(0, .ref (ad 0)), (1, .int (iZ ((x1 : Int)))), (2, .int (iZ (q))), (3, .int (iZ (b2))), (4, .int (iZ (m2))), (5, .int (iZ ((l : Int)))), (6, .int (iZ ((c : Int)))), (7, .int (iZ ((r : Int))))] → W pg lau ev (zRm 1 0 0 20) s1 mi ar bl me cd H locs 0 0 Q (F0 mi 48 ls []) := by
                intro N_
                induction N_ with
                | zero => intro r b2 m2 c H locs ls hd; exact absurd hd (Nat.not_lt_zero _)
                | succ N_ ih48 =>
                  intro r b2 m2 c H locs ls hd48 i48_1 i48_2 ib2 icn i48_5 hH hl
                  have hbb := BS_b ib2
                  refine z_iload hC 48 hl dX7_reign_48 7 rfl ?_
                  refine z_aload_n hC 50 hl dX7_reign_50 rfl 0 rfl ?_
                  refine gmW_5 (x := (n : Int)) hC hH 51 rfl dX7_reign_51 ?_
                  refine z_icmp_ge hC 54 125 dX7_reign_54 rfl (by omega) (by omega) (fun hb6 => ?_) (fun hb6 => ?_)
                  · -- 54t
                    have er : (r) = n := by omega
                    rw [er] at ib2
                    refine z_iinc (lv' := [(5, .int (iZ ((l : Int) + 1))), (0, .ref (ad 0)), (1, .int (iZ ((x1 : Int)))), (2, .int (iZ (q))), (3, .int (iZ (b2))), (4, .int (iZ (m2))), (6, .int (iZ ((c : Int)))), (7, .int (iZ ((r : Int))))]) hC 125 hl dX7_reign_125 5 rfl (by omega) (by decide) rfl (fun ls hl => ?_)
                    refine z_goto hC 128 32 dX7_reign_128 rfl ?_
                    -- J32.5
                    exact ih32 (l + 1) b2 m2 _ _ _ (by omega) (by first | assumption | omega) (by first | exact BS_0 | exact BS_next ib2) hH (z_lv (lv_sub hl [1, 2, 3, 4, 5, 0] rfl) (zcons rfl (zcons rfl (zcons rfl (zcons rfl (zcons rfl (zcons (zpeq (by omega)) rfl)))))))
                  · -- 54f
                    refine z_iload hC 57 hl dX7_reign_57 6 rfl ?_
                    refine z_aload_n hC 59 hl dX7_reign_59 rfl 0 rfl ?_
                    have hc := cnt_succ v x1 (show l ≤ (r) by omega)
                    have hvr := hv (r) (by omega)
                    refine gmW_3 hC hH 60 dX7_reign_60 ?_
                    refine z_iload hC 63 hl dX7_reign_63 7 rfl ?_
                    refine lmW_3 (x := ((v r : Nat) : Int)) hC hH 65 (r) (by omega) (by omega) (cI_lt (by omega)) dX7_reign_65 ?_
                    refine z_iload_n hC 66 hl dX7_reign_66 rfl 1 rfl ?_
                    refine z_icmp_ne hC 67 74 dX7_reign_67 rfl (by omega) (by omega) (fun hb7 => ?_) (fun hb7 => ?_)
                    · -- 67t
                      refine z_iconst hC 74 dX7_reign_74 ?_
                      refine z_iadd (e := (c : Int)) hC 75 dX7_reign_75 (by omega) ?_
                      refine z_istore (lv' := [(6, .int (iZ ((c : Int)))), (0, .ref (ad 0)), (1, .int (iZ ((x1 : Int)))), (2, .int (iZ (q))), (3, .int (iZ (b2))), (4, .int (iZ (m2))), (5, .int (iZ ((l : Int)))), (7, .int (iZ ((r : Int))))]) hC 76 hl dX7_reign_76 (by decide) rfl (fun ls hl => ?_)
                      have hcc : cnt v l ((r) + 1) x1 = (c) := by split at hc <;> omega
                      refine z_iconst hC 78 dX7_reign_78 ?_
                      refine z_iload hC 79 hl dX7_reign_79 0 rfl ?_
                      refine z_imul (e := 2 * (c : Int)) hC 81 dX7_reign_81 rfl ?_
                      refine z_iload hC 82 hl dX7_reign_82 7 rfl ?_
                      refine z_iload hC 84 hl dX7_reign_84 6 rfl ?_
                      refine z_isub (e := (r : Int) - (l : Int)) hC 86 dX7_reign_86 rfl ?_
                      refine z_iconst hC 87 dX7_reign_87 ?_
                      refine z_iadd (e := (r : Int) - (l : Int) + 1) hC 88 dX7_reign_88 rfl ?_
                      refine z_icmp_le hC 89 119 dX7_reign_89 rfl (by omega) (by omega) (fun hb8 => ?_) (fun hb8 => ?_)
                      · -- 89t
                        refine z_iinc (lv' := [(7, .int (iZ ((r : Int) + 1))), (6, .int (iZ ((c : Int)))), (0, .ref (ad 0)), (1, .int (iZ ((x1 : Int)))), (2, .int (iZ (q))), (3, .int (iZ (b2))), (4, .int (iZ (m2))), (5, .int (iZ ((l : Int))))]) hC 119 hl dX7_reign_119 7 rfl (by omega) (by decide) rfl (fun ls hl => ?_)
                        refine z_goto hC 122 48 dX7_reign_122 rfl ?_
                        -- J48.6
                        exact ih48 (r + 1) b2 m2 c _ _ _ (by omega) (by first | assumption | omega) (by first | assumption | omega) (by first | exact BS_row ib | exact BS_skip ib2 (by omega) (Or.inl (by show ¬ (_ < _) ; omega)) | exact BS_skip ib2 (by omega) (Or.inr (by omega)) | exact BS_new ib2 (by omega) (by omega) (by show _ < _ ; omega) (by omega)) (by first | exact (cnt_0 v (Nat.le_refl _)).symm | (split at hc <;> omega)) (by first | assumption | omega) hH (z_lv (lv_sub hl [2, 3, 4, 5, 6, 7, 1, 0] rfl) (zcons rfl (zcons rfl (zcons rfl (zcons rfl (zcons rfl (zcons rfl (zcons rfl (zcons (zpeq (by omega)) rfl)))))))))
                      · -- 89f
                        refine z_iload hC 92 hl dX7_reign_92 7 rfl ?_
                        refine z_iload hC 94 hl dX7_reign_94 6 rfl ?_
                        refine z_isub (e := (r : Int) - (l : Int)) hC 96 dX7_reign_96 rfl ?_
                        refine z_iconst hC 97 dX7_reign_97 ?_
                        refine z_iadd (e := (r : Int) - (l : Int) + 1) hC 98 dX7_reign_98 rfl ?_
                        refine z_iload hC 99 hl dX7_reign_99 5 rfl ?_
                        refine z_icmp_gt hC 101 107 dX7_reign_101 rfl (by omega) (by omega) (fun hb9 => ?_) (fun hb9 => ?_)
                        · -- 101t
                          refine z_iload hC 107 hl dX7_reign_107 6 rfl ?_
                          refine z_istore_n (lv' := [(3, .int (iZ ((l : Int)))), (6, .int (iZ ((c : Int)))), (0, .ref (ad 0)), (1, .int (iZ ((x1 : Int)))), (2, .int (iZ (q))), (4, .int (iZ (m2))), (5, .int (iZ ((l : Int)))), (7, .int (iZ ((r : Int))))]) hC 109 hl dX7_reign_109 rfl (by decide) rfl (fun ls hl => ?_)
                          refine z_iload hC 110 hl dX7_reign_110 7 rfl ?_
                          refine z_iload hC 112 hl dX7_reign_112 6 rfl ?_
                          refine z_isub (e := (r : Int) - (l : Int)) hC 114 dX7_reign_114 rfl ?_
                          refine z_iconst hC 115 dX7_reign_115 ?_
                          refine z_iadd (e := (r : Int) - (l : Int) + 1) hC 116 dX7_reign_116 rfl ?_
                          refine z_istore (lv' := [(4, .int (iZ ((r : Int) - (l : Int) + 1))), (3, .int (iZ ((l : Int)))), (6, .int (iZ ((c : Int)))), (0, .ref (ad 0)), (1, .int (iZ ((x1 : Int)))), (2, .int (iZ (q))), (5, .int (iZ ((l : Int)))), (7, .int (iZ ((r : Int))))]) hC 117 hl dX7_reign_117 (by decide) rfl (fun ls hl => ?_)
                          refine z_iinc (lv' := [(7, .int (iZ ((r : Int) + 1))), (4, .int (iZ ((r : Int) - (l : Int) + 1))), (3, .int (iZ ((l : Int)))), (6, .int (iZ ((c : Int)))), (0, .ref (ad 0)), (1, .int (iZ ((x1 : Int)))), (2, .int (iZ (q))), (5, .int (iZ ((l : Int))))]) hC 119 hl dX7_reign_119 7 rfl (by omega) (by decide) rfl (fun ls hl => ?_)
                          refine z_goto hC 122 48 dX7_reign_122 rfl ?_
                          -- J48.7
                          exact ih48 (r + 1) (l : Int) ((r : Int) - (l : Int) + 1) c _ _ _ (by omega) (by first | assumption | omega) (by first | assumption | omega) (by first | exact BS_row ib | exact BS_skip ib2 (by omega) (Or.inl (by show ¬ (_ < _) ; omega)) | exact BS_skip ib2 (by omega) (Or.inr (by omega)) | exact BS_new ib2 (by omega) (by omega) (by show _ < _ ; omega) (by omega)) (by first | exact (cnt_0 v (Nat.le_refl _)).symm | (split at hc <;> omega)) (by first | assumption | omega) hH (z_lv (lv_sub hl [4, 5, 6, 2, 1, 7, 3, 0] rfl) (zcons rfl (zcons rfl (zcons rfl (zcons rfl (zcons (zpeq (by omega)) (zcons rfl (zcons rfl (zcons (zpeq (by omega)) rfl)))))))))
                        · -- 101f
                          refine z_goto hC 104 119 dX7_reign_104 rfl ?_
                          refine z_iinc (lv' := [(7, .int (iZ ((r : Int) + 1))), (6, .int (iZ ((c : Int)))), (0, .ref (ad 0)), (1, .int (iZ ((x1 : Int)))), (2, .int (iZ (q))), (3, .int (iZ (b2))), (4, .int (iZ (m2))), (5, .int (iZ ((l : Int))))]) hC 119 hl dX7_reign_119 7 rfl (by omega) (by decide) rfl (fun ls hl => ?_)
                          refine z_goto hC 122 48 dX7_reign_122 rfl ?_
                          -- J48.8
                          exact ih48 (r + 1) b2 m2 c _ _ _ (by omega) (by first | assumption | omega) (by first | assumption | omega) (by first | exact BS_row ib | exact BS_skip ib2 (by omega) (Or.inl (by show ¬ (_ < _) ; omega)) | exact BS_skip ib2 (by omega) (Or.inr (by omega)) | exact BS_new ib2 (by omega) (by omega) (by show _ < _ ; omega) (by omega)) (by first | exact (cnt_0 v (Nat.le_refl _)).symm | (split at hc <;> omega)) (by first | assumption | omega) hH (z_lv (lv_sub hl [2, 3, 4, 5, 6, 7, 1, 0] rfl) (zcons rfl (zcons rfl (zcons rfl (zcons rfl (zcons rfl (zcons rfl (zcons rfl (zcons (zpeq (by omega)) rfl)))))))))
                    · -- 67f
                      refine z_iconst hC 70 dX7_reign_70 ?_
                      refine z_goto hC 71 75 dX7_reign_71 rfl ?_
                      refine z_iadd (e := (c : Int) + 1) hC 75 dX7_reign_75 rfl ?_
                      refine z_istore (lv' := [(6, .int (iZ ((c : Int) + 1))), (0, .ref (ad 0)), (1, .int (iZ ((x1 : Int)))), (2, .int (iZ (q))), (3, .int (iZ (b2))), (4, .int (iZ (m2))), (5, .int (iZ ((l : Int)))), (7, .int (iZ ((r : Int))))]) hC 76 hl dX7_reign_76 (by decide) rfl (fun ls hl => ?_)
                      have hcc : cnt v l ((r) + 1) x1 = (c + 1) := by split at hc <;> omega
                      refine z_iconst hC 78 dX7_reign_78 ?_
                      refine z_iload hC 79 hl dX7_reign_79 0 rfl ?_
                      refine z_imul (e := 2 * (c : Int) + 2) hC 81 dX7_reign_81 (by omega) ?_
                      refine z_iload hC 82 hl dX7_reign_82 7 rfl ?_
                      refine z_iload hC 84 hl dX7_reign_84 6 rfl ?_
                      refine z_isub (e := (r : Int) - (l : Int)) hC 86 dX7_reign_86 rfl ?_
                      refine z_iconst hC 87 dX7_reign_87 ?_
                      refine z_iadd (e := (r : Int) - (l : Int) + 1) hC 88 dX7_reign_88 rfl ?_
                      refine z_icmp_le hC 89 119 dX7_reign_89 rfl (by omega) (by omega) (fun hb10 => ?_) (fun hb10 => ?_)
                      · -- 89t
                        refine z_iinc (lv' := [(7, .int (iZ ((r : Int) + 1))), (6, .int (iZ ((c : Int) + 1))), (0, .ref (ad 0)), (1, .int (iZ ((x1 : Int)))), (2, .int (iZ (q))), (3, .int (iZ (b2))), (4, .int (iZ (m2))), (5, .int (iZ ((l : Int))))]) hC 119 hl dX7_reign_119 7 rfl (by omega) (by decide) rfl (fun ls hl => ?_)
                        refine z_goto hC 122 48 dX7_reign_122 rfl ?_
                        -- J48.9
                        exact ih48 (r + 1) b2 m2 (c + 1) _ _ _ (by omega) (by first | assumption | omega) (by first | assumption | omega) (by first | exact BS_row ib | exact BS_skip ib2 (by omega) (Or.inl (by show ¬ (_ < _) ; omega)) | exact BS_skip ib2 (by omega) (Or.inr (by omega)) | exact BS_new ib2 (by omega) (by omega) (by show _ < _ ; omega) (by omega)) (by first | exact (cnt_0 v (Nat.le_refl _)).symm | (split at hc <;> omega)) (by first | assumption | omega) hH (z_lv (lv_sub hl [2, 3, 4, 5, 6, 7, 1, 0] rfl) (zcons rfl (zcons rfl (zcons rfl (zcons rfl (zcons rfl (zcons rfl (zcons (zpeq (by omega)) (zcons (zpeq (by omega)) rfl)))))))))
                      · -- 89f
                        refine z_iload hC 92 hl dX7_reign_92 7 rfl ?_
                        refine z_iload hC 94 hl dX7_reign_94 6 rfl ?_
                        refine z_isub (e := (r : Int) - (l : Int)) hC 96 dX7_reign_96 rfl ?_
                        refine z_iconst hC 97 dX7_reign_97 ?_
                        refine z_iadd (e := (r : Int) - (l : Int) + 1) hC 98 dX7_reign_98 rfl ?_
                        refine z_iload hC 99 hl dX7_reign_99 5 rfl ?_
                        refine z_icmp_gt hC 101 107 dX7_reign_101 rfl (by omega) (by omega) (fun hb11 => ?_) (fun hb11 => ?_)
                        · -- 101t
                          refine z_iload hC 107 hl dX7_reign_107 6 rfl ?_
                          refine z_istore_n (lv' := [(3, .int (iZ ((l : Int)))), (6, .int (iZ ((c : Int) + 1))), (0, .ref (ad 0)), (1, .int (iZ ((x1 : Int)))), (2, .int (iZ (q))), (4, .int (iZ (m2))), (5, .int (iZ ((l : Int)))), (7, .int (iZ ((r : Int))))]) hC 109 hl dX7_reign_109 rfl (by decide) rfl (fun ls hl => ?_)
                          refine z_iload hC 110 hl dX7_reign_110 7 rfl ?_
                          refine z_iload hC 112 hl dX7_reign_112 6 rfl ?_
                          refine z_isub (e := (r : Int) - (l : Int)) hC 114 dX7_reign_114 rfl ?_
                          refine z_iconst hC 115 dX7_reign_115 ?_
                          refine z_iadd (e := (r : Int) - (l : Int) + 1) hC 116 dX7_reign_116 rfl ?_
                          refine z_istore (lv' := [(4, .int (iZ ((r : Int) - (l : Int) + 1))), (3, .int (iZ ((l : Int)))), (6, .int (iZ ((c : Int) + 1))), (0, .ref (ad 0)), (1, .int (iZ ((x1 : Int)))), (2, .int (iZ (q))), (5, .int (iZ ((l : Int)))), (7, .int (iZ ((r : Int))))]) hC 117 hl dX7_reign_117 (by decide) rfl (fun ls hl => ?_)
                          refine z_iinc (lv' := [(7, .int (iZ ((r : Int) + 1))), (4, .int (iZ ((r : Int) - (l : Int) + 1))), (3, .int (iZ ((l : Int)))), (6, .int (iZ ((c : Int) + 1))), (0, .ref (ad 0)), (1, .int (iZ ((x1 : Int)))), (2, .int (iZ (q))), (5, .int (iZ ((l : Int))))]) hC 119 hl dX7_reign_119 7 rfl (by omega) (by decide) rfl (fun ls hl => ?_)
                          refine z_goto hC 122 48 dX7_reign_122 rfl ?_
                          -- J48.10
                          exact ih48 (r + 1) (l : Int) ((r : Int) - (l : Int) + 1) (c + 1) _ _ _ (by omega) (by first | assumption | omega) (by first | assumption | omega) (by first | exact BS_row ib | exact BS_skip ib2 (by omega) (Or.inl (by show ¬ (_ < _) ; omega)) | exact BS_skip ib2 (by omega) (Or.inr (by omega)) | exact BS_new ib2 (by omega) (by omega) (by show _ < _ ; omega) (by omega)) (by first | exact (cnt_0 v (Nat.le_refl _)).symm | (split at hc <;> omega)) (by first | assumption | omega) hH (z_lv (lv_sub hl [4, 5, 6, 2, 1, 7, 3, 0] rfl) (zcons rfl (zcons rfl (zcons rfl (zcons rfl (zcons (zpeq (by omega)) (zcons rfl (zcons (zpeq (by omega)) (zcons (zpeq (by omega)) rfl)))))))))
                        · -- 101f
                          refine z_goto hC 104 119 dX7_reign_104 rfl ?_
                          refine z_iinc (lv' := [(7, .int (iZ ((r : Int) + 1))), (6, .int (iZ ((c : Int) + 1))), (0, .ref (ad 0)), (1, .int (iZ ((x1 : Int)))), (2, .int (iZ (q))), (3, .int (iZ (b2))), (4, .int (iZ (m2))), (5, .int (iZ ((l : Int))))]) hC 119 hl dX7_reign_119 7 rfl (by omega) (by decide) rfl (fun ls hl => ?_)
                          refine z_goto hC 122 48 dX7_reign_122 rfl ?_
                          -- J48.11
                          exact ih48 (r + 1) b2 m2 (c + 1) _ _ _ (by omega) (by first | assumption | omega) (by first | assumption | omega) (by first | exact BS_row ib | exact BS_skip ib2 (by omega) (Or.inl (by show ¬ (_ < _) ; omega)) | exact BS_skip ib2 (by omega) (Or.inr (by omega)) | exact BS_new ib2 (by omega) (by omega) (by show _ < _ ; omega) (by omega)) (by first | exact (cnt_0 v (Nat.le_refl _)).symm | (split at hc <;> omega)) (by first | assumption | omega) hH (z_lv (lv_sub hl [2, 3, 4, 5, 6, 7, 1, 0] rfl) (zcons rfl (zcons rfl (zcons rfl (zcons rfl (zcons rfl (zcons rfl (zcons (zpeq (by omega)) (zcons (zpeq (by omega)) rfl)))))))))
              -- J48.12
              exact L48 _ l bs ms 0 _ _ _ (Nat.lt_succ_self _) (by first | assumption | omega) (by first | assumption | omega) (by first | exact BS_row ib | exact BS_skip ib2 (by omega) (Or.inl (by show ¬ (_ < _) ; omega)) | exact BS_skip ib2 (by omega) (Or.inr (by omega)) | exact BS_new ib2 (by omega) (by omega) (by show _ < _ ; omega) (by omega)) (by first | exact (cnt_0 v (Nat.le_refl _)).symm | (split at hc <;> omega)) (by first | assumption | omega) hH (z_lv (lv_sub hl [2, 3, 4, 5, 6, 7, 1, 0] rfl) (zcons rfl (zcons rfl (zcons rfl (zcons rfl (zcons rfl (zcons rfl (zcons (zpeq (by omega)) (zcons rfl rfl)))))))))
        -- J32.13
        exact L32 _ 0 (-2) 0 _ _ _ (Nat.lt_succ_self _) (by first | assumption | omega) (by first | exact BS_0 | exact BS_next ib2) hH (z_lv (lv_sub hl [3, 4, 5, 2, 1, 0] rfl) (zcons rfl (zcons rfl (zcons rfl (zcons rfl (zcons rfl (zcons (zpeq (by omega)) rfl)))))))
      · -- 18f
        refine z_iconst hC 21 dX7_reign_21 ?_
        -- R22.14
        exact z_iret hC hH hQ 22 (((-1), (va_up (va_up (va_up F 0 (0)) 5 ((n : Int))) 7 ((t : Int))), (va_up Ar 3 (cI (n) v gv)))) dX7_reign_22 rfl ⟨by first | (unfold Sp_reign; rw [if_neg (by omega)]) | (unfold Sp_reign; rw [if_pos (by omega)]), by exact ⟨rfl, rfl, rfl, rfl, rfl, rfl, rfl, rfl, rfl, rfl, rfl, rfl, rfl, rfl, rfl, rfl⟩⟩ rfl (Nat.le_refl _) (Nat.le_refl _)
  · -- 6=0
    refine z_if_eq_t hC 9 21 dX7_reign_9 rfl (by omega) (by omega) ?_
    refine z_iconst hC 21 dX7_reign_21 ?_
    -- R22.15
    exact z_iret hC hH hQ 22 (((-1), (va_up (va_up (va_up F 0 (0)) 5 ((n : Int))) 7 ((t : Int))), (va_up Ar 3 (cI (n) v gv)))) dX7_reign_22 rfl ⟨by first | (unfold Sp_reign; rw [if_neg (by omega)]) | (unfold Sp_reign; rw [if_pos (by omega)]), by exact ⟨rfl, rfl, rfl, rfl, rfl, rfl, rfl, rfl, rfl, rfl, rfl, rfl, rfl, rfl, rfl, rfl⟩⟩ rfl (Nat.le_refl _) (Nat.le_refl _)
