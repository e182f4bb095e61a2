/-! methods of ModeDeskModel: 99h.te -/
set_option maxHeartbeats 16000000 in
set_option maxRecDepth 100000 in
theorem m_X7_text (lau : Launch) (s0 : State) (G : zG) (sz : Nat) (ad : Nat → Nat) (F : Nat → Int) (Ar : Nat → Nat → Int) (t : Nat → Nat) (tp : Nat) (n : Nat) (b : Nat) (ti : Nat) (un : Nat) (ln : Int) (fr : Int) (ft : Int) (lp : Int) (q : Int) (v : Nat → Nat) (wt : Nat → Nat) (gv : Nat → Int) (gw : Nat → Int) (nv : Nat → Int) (nw9 : Nat → Int) (lq : Nat) (lva : Nat) (hr_q : -2147483648 ≤ q ∧ q < 2147483648) (hlit : zLit s0 "ModeDeskModel" 107 "first last least most row weight block ties " lq lva 44 wC) (hcs : zCS s0) (hsi : zSio s0) (htp : tp ≤ 900) (htq : ∀ i, i < tp → t i < 256) (hn : n ≤ 120) : zMet (S := Int × Nat × Nat × Nat × Nat × Nat × (Nat → Nat) × (Nat → Nat) × Int × Int × Int × Int × (Nat → Int) × (Nat → Nat → Int)) lau yX7_text cX7_text 3 (some .int) 10 215 0 0 s0 G sz [.ref (ad 0), .int (iZ (q))] (mW ad G (va_up (va_up (va_up (va_up (va_up (va_up (va_up (va_up (va_up F 2 ((tp : Int))) 5 ((n : Int))) 6 ((b : Int))) 7 ((ti : Int))) 8 (ln)) 12 ((un : Int))) 13 (fr)) 29 (ft)) 30 (lp)) (va_up (va_up (va_up (va_up (va_up Ar 1 (nA t)) 3 (cI (n) v gv)) 4 (cI (n) wt gw)) 14 nv) 15 nw9)) (fun ((r_, n2, b2, ti2, un2, tp2, v2, w2, ln2, fr2, ft2, lp2, F2, A2) : Int × Nat × Nat × Nat × Nat × Nat × (Nat → Nat) × (Nat → Nat) × Int × Int × Int × Int × (Nat → Int) × (Nat → Nat → Int)) => some (.int (iZ (r_)))) (fun ((r_, n2, b2, ti2, un2, tp2, v2, w2, ln2, fr2, ft2, lp2, F2, A2) : Int × Nat × Nat × Nat × Nat × Nat × (Nat → Nat) × (Nat → Nat) × Int × Int × Int × Int × (Nat → Int) × (Nat → Nat → Int)) => (Sp_text t tp q n v wt b ti ln un fr ft lp r_ n2 v2 w2 b2 ti2 ln2 un2 fr2 ft2 lp2 tp2) ∧ (F2 0 = 0 ∧ F2 2 = (tp2 : Int) ∧ F2 5 = (n2 : Int) ∧ F2 6 = (b2 : Int) ∧ F2 7 = (ti2 : Int) ∧ F2 8 = ln2 ∧ F2 12 = (un2 : Int) ∧ F2 13 = fr2 ∧ F2 29 = ft2 ∧ F2 30 = lp2) ∧ ((∀ i, i < n2 → A2 3 i = (v2 i : Int)) ∧ (∀ i, i < n2 → A2 4 i = (w2 i : Int)) ∧ A2 1 = nA t ∧ A2 9 = (va_up (va_up (va_up (va_up (va_up Ar 1 (nA t)) 3 (cI (n) v gv)) 4 (cI (n) wt gw)) 14 nv) 15 nw9) 9 ∧ A2 10 = (va_up (va_up (va_up (va_up (va_up Ar 1 (nA t)) 3 (cI (n) v gv)) 4 (cI (n) wt gw)) 14 nv) 15 nw9) 10 ∧ A2 11 = (va_up (va_up (va_up (va_up (va_up Ar 1 (nA t)) 3 (cI (n) v gv)) 4 (cI (n) wt gw)) 14 nv) 15 nw9) 11)) (fun ((r_, n2, b2, ti2, un2, tp2, v2, w2, ln2, fr2, ft2, lp2, F2, A2) : Int × Nat × Nat × Nat × Nat × Nat × (Nat → Nat) × (Nat → Nat) × Int × Int × Int × Int × (Nat → Int) × (Nat → Nat → Int)) => (mW ad G F2 A2)) := by
  refine zMet.of (by decide) (Nat.le_of_ble_eq_true rfl) ?_
  intro pg ev s1 mi ar bl me cd ls Q as0 hC hH hl hQ hsz
  generalize s1.heap = H at hH ⊢
  generalize ([] : List Loc) = locs at hH ⊢
  have hl : lv_has ls 3 [(0, .ref (ad 0)), (1, .int (iZ (q)))] := hl
  refine z_aload_n hC 0 hl dX7_text_0 rfl 0 rfl ?_
  refine z_iconst hC 1 dX7_text_1 ?_
  refine pmW_0 hC hH 2 dX7_text_2 (fun H locs hH => ?_)
  have hH : zH s0 s1 G as0 (mW ad G (va_up (va_up (va_up (va_up (va_up (va_up (va_up (va_up (va_up (va_up F 0 (0)) 2 ((tp : Int))) 5 ((n : Int))) 6 ((b : Int))) 7 ((ti : Int))) 8 (ln)) 12 ((un : Int))) 13 (fr)) 29 (ft)) 30 (lp)) (va_up (va_up (va_up (va_up (va_up Ar 1 (nA t)) 3 (cI (n) v gv)) 4 (cI (n) wt gw)) 14 nv) 15 nw9)) H locs := hH
  refine z_iload_n hC 5 hl dX7_text_5 rfl 1 rfl ?_
  refine z_if_lt hC 6 17 dX7_text_6 rfl (by omega) (fun hb1 => ?_) (fun hb1 => ?_)
  · -- 6t
    refine z_bipush hC 17 dX7_text_17 rfl ?_
    -- R19.1
    exact z_iret hC hH hQ 19 (((-2), n, b, ti, un, tp, v, wt, ln, fr, ft, lp, (va_up (va_up (va_up (va_up (va_up (va_up (va_up (va_up (va_up (va_up F 0 (0)) 2 ((tp : Int))) 5 ((n : Int))) 6 ((b : Int))) 7 ((ti : Int))) 8 (ln)) 12 ((un : Int))) 13 (fr)) 29 (ft)) 30 (lp)), (va_up (va_up (va_up (va_up (va_up Ar 1 (nA t)) 3 (cI (n) v gv)) 4 (cI (n) wt gw)) 14 nv) 15 nw9))) dX7_text_19 rfl ⟨by exact Or.inl ⟨by omega, rfl, rfl, rfl, rfl, rfl, rfl, rfl, rfl, rfl, rfl, rfl, rfl⟩, by exact ⟨rfl, rfl, rfl, rfl, rfl, rfl, rfl, rfl, rfl, rfl⟩, by exact ⟨fun i hi => cI_lt hi, fun i hi => cI_lt hi, rfl, rfl, rfl, rfl⟩⟩ rfl (Nat.le_refl _) (Nat.le_refl _)
  · -- 6f
    refine z_iload_n hC 9 hl dX7_text_9 rfl 1 rfl ?_
    refine z_aload_n hC 10 hl dX7_text_10 rfl 0 rfl ?_
    refine gmW_2 (x := (tp : Int)) hC hH 11 rfl dX7_text_11 ?_
    refine z_icmp_le hC 14 20 dX7_text_14 rfl (by omega) (by omega) (fun hb2 => ?_) (fun hb2 => ?_)
    · -- 14t
      obtain ⟨tn, rfl⟩ := Int.eq_ofNat_of_zero_le (show 0 ≤ q by omega)
      refine z_aload_n hC 20 hl dX7_text_20 rfl 0 rfl ?_
      refine z_iconst hC 21 dX7_text_21 ?_
      refine pmW_16 hC hH 22 dX7_text_22 (fun H locs hH => ?_)
      have hH : zH s0 s1 G as0 (mW ad G (va_up (va_up (va_up (va_up (va_up (va_up (va_up (va_up (va_up (va_up (va_up F 0 (0)) 2 ((tp : Int))) 5 ((n : Int))) 6 ((b : Int))) 7 ((ti : Int))) 8 (ln)) 12 ((un : Int))) 13 (fr)) 16 (0)) 29 (ft)) 30 (lp)) (va_up (va_up (va_up (va_up (va_up Ar 1 (nA t)) 3 (cI (n) v gv)) 4 (cI (n) wt gw)) 14 nv) 15 nw9)) H locs := hH
      refine z_aload_n hC 25 hl dX7_text_25 rfl 0 rfl ?_
      refine z_bipush hC 26 dX7_text_26 rfl ?_
      refine pmW_17 hC hH 28 dX7_text_28 (fun H locs hH => ?_)
      have hH : zH s0 s1 G as0 (mW ad G (va_up (va_up (va_up (va_up (va_up (va_up (va_up (va_up (va_up (va_up (va_up (va_up F 0 (0)) 2 ((tp : Int))) 5 ((n : Int))) 6 ((b : Int))) 7 ((ti : Int))) 8 (ln)) 12 ((un : Int))) 13 (fr)) 16 (0)) 17 (8)) 29 (ft)) 30 (lp)) (va_up (va_up (va_up (va_up (va_up Ar 1 (nA t)) 3 (cI (n) v gv)) 4 (cI (n) wt gw)) 14 nv) 15 nw9)) H locs := hH
      refine z_aload_n hC 31 hl dX7_text_31 rfl 0 rfl ?_
      refine z_iconst hC 32 dX7_text_32 ?_
      refine pmW_18 hC hH 33 dX7_text_33 (fun H locs hH => ?_)
      have hH : zH s0 s1 G as0 (mW ad G (va_up (va_up (va_up (va_up (va_up (va_up (va_up (va_up (va_up (va_up (va_up (va_up (va_up F 0 (0)) 2 ((tp : Int))) 5 ((n : Int))) 6 ((b : Int))) 7 ((ti : Int))) 8 (ln)) 12 ((un : Int))) 13 (fr)) 16 (0)) 17 (8)) 18 (0)) 29 (ft)) 30 (lp)) (va_up (va_up (va_up (va_up (va_up Ar 1 (nA t)) 3 (cI (n) v gv)) 4 (cI (n) wt gw)) 14 nv) 15 nw9)) H locs := hH
      refine z_aload_n hC 36 hl dX7_text_36 rfl 0 rfl ?_
      refine z_iconst hC 37 dX7_text_37 ?_
      refine pmW_19 hC hH 38 dX7_text_38 (fun H locs hH => ?_)
      have hH : zH s0 s1 G as0 (mW ad G (va_up (va_up (va_up (va_up (va_up (va_up (va_up (va_up (va_up (va_up (va_up (va_up (va_up (va_up F 0 (0)) 2 ((tp : Int))) 5 ((n : Int))) 6 ((b : Int))) 7 ((ti : Int))) 8 (ln)) 12 ((un : Int))) 13 (fr)) 16 (0)) 17 (8)) 18 (0)) 19 (0)) 29 (ft)) 30 (lp)) (va_up (va_up (va_up (va_up (va_up Ar 1 (nA t)) 3 (cI (n) v gv)) 4 (cI (n) wt gw)) 14 nv) 15 nw9)) H locs := hH
      refine z_aload_n hC 41 hl dX7_text_41 rfl 0 rfl ?_
      refine z_iconst hC 42 dX7_text_42 ?_
      refine pmW_20 hC hH 43 (by omega) dX7_text_43 (fun H locs hH => ?_)
      have hH : zH s0 s1 G as0 (mW ad G (va_up (va_up (va_up (va_up (va_up (va_up (va_up (va_up (va_up (va_up (va_up (va_up (va_up (va_up (va_up F 0 (0)) 2 ((tp : Int))) 5 ((n : Int))) 6 ((b : Int))) 7 ((ti : Int))) 8 (ln)) 12 ((un : Int))) 13 (fr)) 16 (0)) 17 (8)) 18 (0)) 19 (0)) 20 (0)) 29 (ft)) 30 (lp)) (va_up (va_up (va_up (va_up (va_up Ar 1 (nA t)) 3 (cI (n) v gv)) 4 (cI (n) wt gw)) 14 nv) 15 nw9)) H locs := hH
      refine z_aload_n hC 46 hl dX7_text_46 rfl 0 rfl ?_
      refine z_iconst hC 47 dX7_text_47 ?_
      refine pmW_21 hC hH 48 (by omega) dX7_text_48 (fun H locs hH => ?_)
      have hH : zH s0 s1 G as0 (mW ad G (va_up (va_up (va_up (va_up (va_up (va_up (va_up (va_up (va_up (va_up (va_up (va_up (va_up (va_up (va_up (va_up F 0 (0)) 2 ((tp : Int))) 5 ((n : Int))) 6 ((b : Int))) 7 ((ti : Int))) 8 (ln)) 12 ((un : Int))) 13 (fr)) 16 (0)) 17 (8)) 18 (0)) 19 (0)) 20 (0)) 21 (0)) 29 (ft)) 30 (lp)) (va_up (va_up (va_up (va_up (va_up Ar 1 (nA t)) 3 (cI (n) v gv)) 4 (cI (n) wt gw)) 14 nv) 15 nw9)) H locs := hH
      refine z_aload_n hC 51 hl dX7_text_51 rfl 0 rfl ?_
      refine z_iload_n hC 52 hl dX7_text_52 rfl 1 rfl ?_
      refine pmW_22 hC hH 53 dX7_text_53 (fun H locs hH => ?_)
      have hH : zH s0 s1 G as0 (mW ad G (va_up (va_up (va_up (va_up (va_up (va_up (va_up (va_up (va_up (va_up (va_up (va_up (va_up (va_up (va_up (va_up (va_up F 0 (0)) 2 ((tp : Int))) 5 ((n : Int))) 6 ((b : Int))) 7 ((ti : Int))) 8 (ln)) 12 ((un : Int))) 13 (fr)) 16 (0)) 17 (8)) 18 (0)) 19 (0)) 20 (0)) 21 (0)) 22 ((tn : Int))) 29 (ft)) 30 (lp)) (va_up (va_up (va_up (va_up (va_up Ar 1 (nA t)) 3 (cI (n) v gv)) 4 (cI (n) wt gw)) 14 nv) 15 nw9)) H locs := hH
      refine z_aload_n hC 56 hl dX7_text_56 rfl 0 rfl ?_
      refine z_iconst hC 57 dX7_text_57 ?_
      refine pmW_23 hC hH 58 dX7_text_58 (fun H locs hH => ?_)
      have hH : zH s0 s1 G as0 (mW ad G (va_up (va_up (va_up (va_up (va_up (va_up (va_up (va_up (va_up (va_up (va_up (va_up (va_up (va_up (va_up (va_up (va_up (va_up F 0 (0)) 2 ((tp : Int))) 5 ((n : Int))) 6 ((b : Int))) 7 ((ti : Int))) 8 (ln)) 12 ((un : Int))) 13 (fr)) 16 (0)) 17 (8)) 18 (0)) 19 (0)) 20 (0)) 21 (0)) 22 ((tn : Int))) 23 (0)) 29 (ft)) 30 (lp)) (va_up (va_up (va_up (va_up (va_up Ar 1 (nA t)) 3 (cI (n) v gv)) 4 (cI (n) wt gw)) 14 nv) 15 nw9)) H locs := hH
      refine z_aload_n hC 61 hl dX7_text_61 rfl 0 rfl ?_
      refine z_iconst hC 62 dX7_text_62 ?_
      refine pmW_27 hC hH 63 dX7_text_63 (fun H locs hH => ?_)
      have hH : zH s0 s1 G as0 (mW ad G (va_up (va_up (va_up (va_up (va_up (va_up (va_up (va_up (va_up (va_up (va_up (va_up (va_up (va_up (va_up (va_up (va_up (va_up (va_up F 0 (0)) 2 ((tp : Int))) 5 ((n : Int))) 6 ((b : Int))) 7 ((ti : Int))) 8 (ln)) 12 ((un : Int))) 13 (fr)) 16 (0)) 17 (8)) 18 (0)) 19 (0)) 20 (0)) 21 (0)) 22 ((tn : Int))) 23 (0)) 27 (0)) 29 (ft)) 30 (lp)) (va_up (va_up (va_up (va_up (va_up Ar 1 (nA t)) 3 (cI (n) v gv)) 4 (cI (n) wt gw)) 14 nv) 15 nw9)) H locs := hH
      have htn : tn ≤ 900 := by omega
      have htb : ∀ i, i < tn → t i < 256 := fun i hi => htq i (by omega)
      have hcv3 : nv = (cI (0) (fun _ => 0) nv) := by exact cI_self (fun p hp => absurd hp (Nat.not_lt_zero _))
      rw [hcv3] at hH
      have hH : zH s0 s1 G as0 (mW ad G (va_up (va_up (va_up (va_up (va_up (va_up (va_up (va_up (va_up (va_up (va_up (va_up (va_up (va_up (va_up (va_up (va_up (va_up (va_up F 0 (0)) 2 ((tp : Int))) 5 ((n : Int))) 6 ((b : Int))) 7 ((ti : Int))) 8 (ln)) 12 ((un : Int))) 13 (fr)) 16 (0)) 17 (8)) 18 (0)) 19 (0)) 20 (0)) 21 (0)) 22 ((tn : Int))) 23 (0)) 27 (0)) 29 (ft)) 30 (lp)) (va_up (va_up (va_up (va_up (va_up Ar 1 (nA t)) 3 (cI (n) v gv)) 4 (cI (n) wt gw)) 14 (cI (0) (fun _ => 0) nv)) 15 nw9)) H locs := hH
      have hcv4 : nw9 = (cI (0) (fun _ => 0) nw9) := by exact cI_self (fun p hp => absurd hp (Nat.not_lt_zero _))
      rw [hcv4] at hH
      have hH : zH s0 s1 G as0 (mW ad G (va_up (va_up (va_up (va_up (va_up (va_up (va_up (va_up (va_up (va_up (va_up (va_up (va_up (va_up (va_up (va_up (va_up (va_up (va_up F 0 (0)) 2 ((tp : Int))) 5 ((n : Int))) 6 ((b : Int))) 7 ((ti : Int))) 8 (ln)) 12 ((un : Int))) 13 (fr)) 16 (0)) 17 (8)) 18 (0)) 19 (0)) 20 (0)) 21 (0)) 22 ((tn : Int))) 23 (0)) 27 (0)) 29 (ft)) 30 (lp)) (va_up (va_up (va_up (va_up (va_up Ar 1 (nA t)) 3 (cI (n) v gv)) 4 (cI (n) wt gw)) 14 (cI (0) (fun _ => 0) nv)) 15 (cI (0) (fun _ => 0) nw9))) H locs := hH
      refine z_aload_n hC 66 hl dX7_text_66 rfl 0 rfl ?_
      refine z_same (z_runV hC hH.2.2 hl.1 hH.1 hH.2.1 0 (As := []) (rest := []) (m_X7_token lau s0 G _ ad (va_up (va_up (va_up (va_up (va_up (va_up (va_up (va_up (va_up (va_up (va_up (va_up (va_up (va_up (va_up (va_up (va_up (va_up (va_up F 0 (0)) 2 ((tp : Int))) 5 ((n : Int))) 6 ((b : Int))) 7 ((ti : Int))) 8 (ln)) 12 ((un : Int))) 13 (fr)) 16 (0)) 17 (8)) 18 (0)) 19 (0)) 20 (0)) 21 (0)) 22 ((tn : Int))) 23 (0)) 27 (0)) 29 (ft)) 30 (lp)) (va_up (va_up (va_up (va_up (va_up Ar 1 (nA t)) 3 (cI (n) v gv)) 4 (cI (n) wt gw)) 14 (cI (0) (fun _ => 0) nv)) 15 (cI (0) (fun _ => 0) nw9)) t tn lq lva 0 (by first | assumption | omega) (by first | assumption | omega) (by first | assumption | omega) (by first | assumption | omega) (by first | assumption | omega) (by first | assumption | omega)) (lw_V q1559 q1561 qs46 q95 q1562) ⟨rfl, by decide, by decide, by decide +kernel⟩ (q0 := 0) (ci := 0) rfl rfl rfl rfl (Nat.le_of_ble_eq_true rfl) ⟨Nat.le_of_ble_eq_true rfl, Nat.le_of_ble_eq_true rfl⟩ ⟨Nat.le_of_ble_eq_true rfl, Nat.le_of_ble_eq_true rfl⟩ dX7_text_67) hH (fun u_ H locs hpost hH => ?_)
      obtain ⟨so_67, pl_67, vl_67, nx_67, st_67, nu_67⟩ := u_
      obtain ⟨pT_67, pA_67, pB_67⟩ : (TOK t tn 0 so_67 pl_67 vl_67 nx_67) ∧ (TKA tn so_67 pl_67 vl_67 nx_67 st_67 nu_67) ∧ (0 ≤ pl_67) := hpost
      have hH : zH s0 s1 G as0 (mW ad G (va_up (va_up (va_up (va_up (va_up (va_up (va_up (va_up (va_up (va_up (va_up (va_up (va_up (va_up (va_up (va_up (va_up (va_up (va_up (va_up (va_up (va_up F 0 (0)) 2 ((tp : Int))) 5 ((n : Int))) 6 ((b : Int))) 7 ((ti : Int))) 8 (ln)) 12 ((un : Int))) 13 (fr)) 16 (0)) 17 (8)) 18 (0)) 19 (0)) 20 (0)) 21 (0)) 22 ((tn : Int))) 23 ((nx_67 : Int))) 24 ((pl_67 : Int))) 25 (st_67)) 26 (nu_67)) 27 (0)) 29 (ft)) 30 (lp)) (va_up (va_up (va_up (va_up (va_up Ar 1 (nA t)) 3 (cI (n) v gv)) 4 (cI (n) wt gw)) 14 (cI (0) (fun _ => 0) nv)) 15 (cI (0) (fun _ => 0) nw9))) H locs := hH
      refine z_st (st' := []) rfl ?_
      have L70 : ∀ (N_ : Nat) (so9 : Nat) (pl9 : Nat) (vl9 : Nat) (nx9 : Nat) (m9 : Nat) (bl9 : Nat) (ti9 : Nat) (l9 : Nat) (hb9 : Nat) (ht9 : Nat) (fa9 : Nat) (st9 : Int) (nu9 : Int) (fp9 : Int) (v9 : Nat → Nat) (w9 : Nat → Nat) (H : Heap) (locs : List Loc) (ls : Array Slot), (if fa9 = 0 then tn + 2 - pl9 else 0) < N_ → (m9 ≤ 120) → (hb9 ≤ 1) → (ht9 ≤ 1) → (fa9 ≤ 3) → (l9 ≤ 901 ∧ (fa9 = 0 → l9 ≤ pl9)) → (fa9 = 0 → TKA tn so9 pl9 vl9 nx9 st9 nu9 ∧ pl9 ≤ tn) → (TXI t tn ((so9, pl9, vl9, nx9), m9, v9, w9, bl9, ti9, hb9, ht9) l9 fa9 fp9) → zH s0 s1 G as0 (mW ad G (va_up (va_up (va_up (va_up (va_up (va_up (va_up (va_up (va_up (va_up (va_up (va_up (va_up (va_up (va_up (va_up (va_up (va_up (va_up (va_up (va_up (va_up (va_up F 0 (0)) 2 ((tp : Int))) 5 ((n : Int))) 6 ((b : Int))) 7 ((ti : Int))) 8 (ln)) 12 ((un : Int))) 13 (fr)) 16 ((m9 : Int))) 17 ((bl9 : Int))) 18 ((ti9 : Int))) 19 ((l9 : Int))) 20 ((hb9 : Int))) 21 ((ht9 : Int))) 22 ((tn : Int))) 23 ((nx9 : Int))) 24 ((pl9 : Int))) 25 (st9)) 26 (nu9)) 27 ((fa9 : Int))) 28 (fp9)) 29 (ft)) 30 (lp)) (va_up (va_up (va_up (va_up (va_up Ar 1 (nA t)) 3 (cI (n) v gv)) 4 (cI (n) wt gw)) 14 (cI (m9) v9 nv)) 15 (cI (m9) w9 nw9))) H locs → lv_has ls 3 [(0, .ref (ad 0)), (1, .int (iZ ((tn : Int))))] → W pg lau ev (zRm 10 0 0 215) s1 mi ar bl me cd H locs 0 0 Q (F0 mi 70 ls []) := by
        intro N_
        induction N_ with
        | zero => intro so9 pl9 vl9 nx9 m9 bl9 ti9 l9 hb9 ht9 fa9 st9 nu9 fp9 v9 w9 H locs ls hd; exact absurd hd (Nat.not_lt_zero _)
        | succ N_ ih70 =>
          intro so9 pl9 vl9 nx9 m9 bl9 ti9 l9 hb9 ht9 fa9 st9 nu9 fp9 v9 w9 H locs ls hd70 i70_1 i70_2 i70_3 i70_4 il iA iK hH hl
          refine z_aload_n hC 70 hl dX7_text_70 rfl 0 rfl ?_
          refine gmW_27 (x := (fa9 : Int)) hC hH 71 rfl dX7_text_71 ?_
          refine z_if_ne hC 74 92 dX7_text_74 rfl (by omega) (fun hb5 => ?_) (fun hb5 => ?_)
          · -- 74t
            refine z_aload_n hC 92 hl dX7_text_92 rfl 0 rfl ?_
            refine z_iconst hC 93 dX7_text_93 ?_
            refine pmW_2 hC hH 94 dX7_text_94 (fun H locs hH => ?_)
            have hH : zH s0 s1 G as0 (mW ad G (va_up (va_up (va_up (va_up (va_up (va_up (va_up (va_up (va_up (va_up (va_up (va_up (va_up (va_up (va_up (va_up (va_up (va_up (va_up (va_up (va_up (va_up (va_up F 0 (0)) 2 (0)) 5 ((n : Int))) 6 ((b : Int))) 7 ((ti : Int))) 8 (ln)) 12 ((un : Int))) 13 (fr)) 16 ((m9 : Int))) 17 ((bl9 : Int))) 18 ((ti9 : Int))) 19 ((l9 : Int))) 20 ((hb9 : Int))) 21 ((ht9 : Int))) 22 ((tn : Int))) 23 ((nx9 : Int))) 24 ((pl9 : Int))) 25 (st9)) 26 (nu9)) 27 ((fa9 : Int))) 28 (fp9)) 29 (ft)) 30 (lp)) (va_up (va_up (va_up (va_up (va_up Ar 1 (nA t)) 3 (cI (n) v gv)) 4 (cI (n) wt gw)) 14 (cI (m9) v9 nv)) 15 (cI (m9) w9 nw9))) H locs := hH
            refine z_aload_n hC 97 hl dX7_text_97 rfl 0 rfl ?_
            refine z_aload_n hC 98 hl dX7_text_98 rfl 0 rfl ?_
            refine gmW_27 (x := (fa9 : Int)) hC hH 99 rfl dX7_text_99 ?_
            refine pmW_29 hC hH 102 dX7_text_102 (fun H locs hH => ?_)
            have hH : zH s0 s1 G as0 (mW ad G (va_up (va_up (va_up (va_up (va_up (va_up (va_up (va_up (va_up (va_up (va_up (va_up (va_up (va_up (va_up (va_up (va_up (va_up (va_up (va_up (va_up (va_up (va_up F 0 (0)) 2 (0)) 5 ((n : Int))) 6 ((b : Int))) 7 ((ti : Int))) 8 (ln)) 12 ((un : Int))) 13 (fr)) 16 ((m9 : Int))) 17 ((bl9 : Int))) 18 ((ti9 : Int))) 19 ((l9 : Int))) 20 ((hb9 : Int))) 21 ((ht9 : Int))) 22 ((tn : Int))) 23 ((nx9 : Int))) 24 ((pl9 : Int))) 25 (st9)) 26 (nu9)) 27 ((fa9 : Int))) 28 (fp9)) 29 ((fa9 : Int))) 30 (lp)) (va_up (va_up (va_up (va_up (va_up Ar 1 (nA t)) 3 (cI (n) v gv)) 4 (cI (n) wt gw)) 14 (cI (m9) v9 nv)) 15 (cI (m9) w9 nw9))) H locs := hH
            refine z_aload_n hC 105 hl dX7_text_105 rfl 0 rfl ?_
            refine z_aload_n hC 106 hl dX7_text_106 rfl 0 rfl ?_
            refine gmW_27 (x := (fa9 : Int)) hC hH 107 rfl dX7_text_107 ?_
            refine z_if_ne_t hC 110 117 dX7_text_110 rfl (by omega) (by omega) ?_
            refine z_aload_n hC 117 hl dX7_text_117 rfl 0 rfl ?_
            refine gmW_28 (x := fp9) hC hH 118 rfl dX7_text_118 ?_
            refine pmW_30 hC hH 121 dX7_text_121 (fun H locs hH => ?_)
            have hH : zH s0 s1 G as0 (mW ad G (va_up (va_up (va_up (va_up (va_up (va_up (va_up (va_up (va_up (va_up (va_up (va_up (va_up (va_up (va_up (va_up (va_up (va_up (va_up (va_up (va_up (va_up (va_up F 0 (0)) 2 (0)) 5 ((n : Int))) 6 ((b : Int))) 7 ((ti : Int))) 8 (ln)) 12 ((un : Int))) 13 (fr)) 16 ((m9 : Int))) 17 ((bl9 : Int))) 18 ((ti9 : Int))) 19 ((l9 : Int))) 20 ((hb9 : Int))) 21 ((ht9 : Int))) 22 ((tn : Int))) 23 ((nx9 : Int))) 24 ((pl9 : Int))) 25 (st9)) 26 (nu9)) 27 ((fa9 : Int))) 28 (fp9)) 29 ((fa9 : Int))) 30 (fp9)) (va_up (va_up (va_up (va_up (va_up Ar 1 (nA t)) 3 (cI (n) v gv)) 4 (cI (n) wt gw)) 14 (cI (m9) v9 nv)) 15 (cI (m9) w9 nw9))) H locs := hH
            refine z_aload_n hC 124 hl dX7_text_124 rfl 0 rfl ?_
            refine gmW_27 (x := (fa9 : Int)) hC hH 125 rfl dX7_text_125 ?_
            refine z_if_eq_f hC 128 133 dX7_text_128 rfl (by omega) (by omega) ?_
            refine z_iconst hC 131 dX7_text_131 ?_
            -- R132.2
            exact z_iret hC hH hQ 132 (((-1), n, b, ti, un, 0, v, wt, ln, fr, (fa9 : Int), fp9, (va_up (va_up (va_up (va_up (va_up (va_up (va_up (va_up (va_up (va_up (va_up (va_up (va_up (va_up (va_up (va_up (va_up (va_up (va_up (va_up (va_up (va_up (va_up F 0 (0)) 2 (0)) 5 ((n : Int))) 6 ((b : Int))) 7 ((ti : Int))) 8 (ln)) 12 ((un : Int))) 13 (fr)) 16 ((m9 : Int))) 17 ((bl9 : Int))) 18 ((ti9 : Int))) 19 ((l9 : Int))) 20 ((hb9 : Int))) 21 ((ht9 : Int))) 22 ((tn : Int))) 23 ((nx9 : Int))) 24 ((pl9 : Int))) 25 (st9)) 26 (nu9)) 27 ((fa9 : Int))) 28 (fp9)) 29 ((fa9 : Int))) 30 (fp9)), (va_up (va_up (va_up (va_up (va_up Ar 1 (nA t)) 3 (cI (n) v gv)) 4 (cI (n) wt gw)) 14 (cI (m9) v9 nv)) 15 (cI (m9) w9 nw9)))) dX7_text_132 rfl ⟨by (obtain ⟨fq9, e9, hq9⟩ := TXI_er iK (by omega); exact Or.inr ⟨by omega, rfl, Or.inl ⟨fa9, fq9, hq9, rfl, rfl, rfl, rfl, rfl, rfl, rfl, rfl, rfl, rfl, e9⟩⟩), by exact ⟨rfl, rfl, rfl, rfl, rfl, rfl, rfl, rfl, rfl, rfl⟩, by exact ⟨fun i hi => cI_lt hi, fun i hi => cI_lt hi, rfl, rfl, rfl, rfl⟩⟩ rfl (Nat.le_refl _) (Nat.le_refl _)
          · -- 74f
            obtain rfl : fa9 = 0 := by omega
            have iA8 := (iA rfl).1.1
            have iA9 := (iA rfl).1.2.2
            have iA7 := (iA rfl).2
            have iKl := TXI_ok iK rfl
            unfold TSO at iA8
            rw [if_pos rfl] at hd70
            refine z_aload_n hC 77 hl dX7_text_77 rfl 0 rfl ?_
            refine gmW_25 (x := st9) hC hH 78 rfl dX7_text_78 ?_
            refine z_iconst hC 81 dX7_text_81 ?_
            refine z_icmp_eq hC 82 92 dX7_text_82 rfl (by omega) (by omega) (fun hb6 => ?_) (fun hb6 => ?_)
            · -- 82t
              refine z_aload_n hC 92 hl dX7_text_92 rfl 0 rfl ?_
              refine z_iconst hC 93 dX7_text_93 ?_
              refine pmW_2 hC hH 94 dX7_text_94 (fun H locs hH => ?_)
              have hH : zH s0 s1 G as0 (mW ad G (va_up (va_up (va_up (va_up (va_up (va_up (va_up (va_up (va_up (va_up (va_up (va_up (va_up (va_up (va_up (va_up (va_up (va_up (va_up (va_up (va_up (va_up (va_up F 0 (0)) 2 (0)) 5 ((n : Int))) 6 ((b : Int))) 7 ((ti : Int))) 8 (ln)) 12 ((un : Int))) 13 (fr)) 16 ((m9 : Int))) 17 ((bl9 : Int))) 18 ((ti9 : Int))) 19 ((l9 : Int))) 20 ((hb9 : Int))) 21 ((ht9 : Int))) 22 ((tn : Int))) 23 ((nx9 : Int))) 24 ((pl9 : Int))) 25 (st9)) 26 (nu9)) 27 (0)) 28 (fp9)) 29 (ft)) 30 (lp)) (va_up (va_up (va_up (va_up (va_up Ar 1 (nA t)) 3 (cI (n) v gv)) 4 (cI (n) wt gw)) 14 (cI (m9) v9 nv)) 15 (cI (m9) w9 nw9))) H locs := hH
              refine z_aload_n hC 97 hl dX7_text_97 rfl 0 rfl ?_
              refine z_aload_n hC 98 hl dX7_text_98 rfl 0 rfl ?_
              refine gmW_27 (x := 0) hC hH 99 rfl dX7_text_99 ?_
              refine pmW_29 hC hH 102 dX7_text_102 (fun H locs hH => ?_)
              have hH : zH s0 s1 G as0 (mW ad G (va_up (va_up (va_up (va_up (va_up (va_up (va_up (va_up (va_up (va_up (va_up (va_up (va_up (va_up (va_up (va_up (va_up (va_up (va_up (va_up (va_up (va_up (va_up F 0 (0)) 2 (0)) 5 ((n : Int))) 6 ((b : Int))) 7 ((ti : Int))) 8 (ln)) 12 ((un : Int))) 13 (fr)) 16 ((m9 : Int))) 17 ((bl9 : Int))) 18 ((ti9 : Int))) 19 ((l9 : Int))) 20 ((hb9 : Int))) 21 ((ht9 : Int))) 22 ((tn : Int))) 23 ((nx9 : Int))) 24 ((pl9 : Int))) 25 (st9)) 26 (nu9)) 27 (0)) 28 (fp9)) 29 (0)) 30 (lp)) (va_up (va_up (va_up (va_up (va_up Ar 1 (nA t)) 3 (cI (n) v gv)) 4 (cI (n) wt gw)) 14 (cI (m9) v9 nv)) 15 (cI (m9) w9 nw9))) H locs := hH
              refine z_aload_n hC 105 hl dX7_text_105 rfl 0 rfl ?_
              refine z_aload_n hC 106 hl dX7_text_106 rfl 0 rfl ?_
              refine gmW_27 (x := 0) hC hH 107 rfl dX7_text_107 ?_
              refine z_if_ne_f hC 110 117 dX7_text_110 rfl (by omega) (by omega) ?_
              refine z_iconst hC 113 dX7_text_113 ?_
              refine z_goto hC 114 121 dX7_text_114 rfl ?_
              refine pmW_30 hC hH 121 dX7_text_121 (fun H locs hH => ?_)
              have hH : zH s0 s1 G as0 (mW ad G (va_up (va_up (va_up (va_up (va_up (va_up (va_up (va_up (va_up (va_up (va_up (va_up (va_up (va_up (va_up (va_up (va_up (va_up (va_up (va_up (va_up (va_up (va_up F 0 (0)) 2 (0)) 5 ((n : Int))) 6 ((b : Int))) 7 ((ti : Int))) 8 (ln)) 12 ((un : Int))) 13 (fr)) 16 ((m9 : Int))) 17 ((bl9 : Int))) 18 ((ti9 : Int))) 19 ((l9 : Int))) 20 ((hb9 : Int))) 21 ((ht9 : Int))) 22 ((tn : Int))) 23 ((nx9 : Int))) 24 ((pl9 : Int))) 25 (st9)) 26 (nu9)) 27 (0)) 28 (fp9)) 29 (0)) 30 ((-1))) (va_up (va_up (va_up (va_up (va_up Ar 1 (nA t)) 3 (cI (n) v gv)) 4 (cI (n) wt gw)) 14 (cI (m9) v9 nv)) 15 (cI (m9) w9 nw9))) H locs := hH
              refine z_aload_n hC 124 hl dX7_text_124 rfl 0 rfl ?_
              refine gmW_27 (x := 0) hC hH 125 rfl dX7_text_125 ?_
              refine z_if_eq_t hC 128 133 dX7_text_128 rfl (by omega) (by omega) ?_
              refine z_aload_n hC 133 hl dX7_text_133 rfl 0 rfl ?_
              refine z_aload_n hC 134 hl dX7_text_134 rfl 0 rfl ?_
              refine gmW_16 (x := (m9 : Int)) hC hH 135 rfl dX7_text_135 ?_
              refine pmW_5 hC hH 138 dX7_text_138 (fun H locs hH => ?_)
              have hH : zH s0 s1 G as0 (mW ad G (va_up (va_up (va_up (va_up (va_up (va_up (va_up (va_up (va_up (va_up (va_up (va_up (va_up (va_up (va_up (va_up (va_up (va_up (va_up (va_up (va_up (va_up (va_up F 0 (0)) 2 (0)) 5 ((m9 : Int))) 6 ((b : Int))) 7 ((ti : Int))) 8 (ln)) 12 ((un : Int))) 13 (fr)) 16 ((m9 : Int))) 17 ((bl9 : Int))) 18 ((ti9 : Int))) 19 ((l9 : Int))) 20 ((hb9 : Int))) 21 ((ht9 : Int))) 22 ((tn : Int))) 23 ((nx9 : Int))) 24 ((pl9 : Int))) 25 (st9)) 26 (nu9)) 27 (0)) 28 (fp9)) 29 (0)) 30 ((-1))) (va_up (va_up (va_up (va_up (va_up Ar 1 (nA t)) 3 (cI (n) v gv)) 4 (cI (n) wt gw)) 14 (cI (m9) v9 nv)) 15 (cI (m9) w9 nw9))) H locs := hH
              refine z_iconst hC 141 dX7_text_141 ?_
              refine z_istore_n (lv' := [(2, .int (iZ (0))), (0, .ref (ad 0)), (1, .int (iZ ((tn : Int))))]) hC 142 hl dX7_text_142 rfl (by decide) rfl (fun ls hl => ?_)
              have L143 : ∀ (N_ : Nat) (p : Nat) (va : Nat → Int) (wa : Nat → Int) (H : Heap) (locs : List Loc) (ls : Array Slot), m9 - p < N_ → (p ≤ m9) → (∀ i, i < p → va i = (v9 i : Int)) → (∀ i, i < p → wa i = (w9 i : Int)) → zH s0 s1 G as0 (mW ad G (va_up (va_up (va_up (va_up (va_up (va_up (va_up (va_up (va_up (va_up (va_up (va_up (va_up (va_up (va_up (va_up (va_up (va_up (va_up (va_up (va_up (va_up (va_up F 0 (0)) 2 (0)) 5 ((m9 : Int))) 6 ((b : Int))) 7 ((ti : Int))) 8 (ln)) 12 ((un : Int))) 13 (fr)) 16 ((m9 : Int))) 17 ((bl9 : Int))) 18 ((ti9 : Int))) 19 ((l9 : Int))) 20 ((hb9 : Int))) 21 ((ht9 : Int))) 22 ((tn : Int))) 23 ((nx9 : Int))) 24 ((pl9 : Int))) 25 (st9)) 26 (nu9)) 27 (0)) 28 (fp9)) 29 (0)) 30 ((-1))) (va_up (va_up (va_up (va_up (va_up Ar 1 (nA t)) 3 va) 4 wa) 14 (cI (m9) v9 nv)) 15 (cI (m9) w9 nw9))) H locs → lv_has ls 3 [(0, .ref (ad 0)), (2, .int (iZ ((p : Int))))] → W pg lau ev (zRm 10 0 0 215) s1 mi ar bl me cd H locs 0 0 Q (F0 mi 143 ls []) := by
                intro N_
                induction N_ with
                | zero => intro p va wa H locs ls hd; exact absurd hd (Nat.not_lt_zero _)
                | succ N_ ih143 =>
                  intro p va wa H locs ls hd143 i143_1 iv iw hH hl
                  refine z_iload_n hC 143 hl dX7_text_143 rfl 1 rfl ?_
                  refine z_aload_n hC 144 hl dX7_text_144 rfl 0 rfl ?_
                  refine gmW_5 (x := (m9 : Int)) hC hH 145 rfl dX7_text_145 ?_
                  refine z_icmp_ge hC 148 181 dX7_text_148 rfl (by omega) (by omega) (fun hb7 => ?_) (fun hb7 => ?_)
                  · -- 148t
                    have ep9 : p = m9 := by omega
                    rw [ep9] at iv iw
                    refine z_aload_n hC 181 hl dX7_text_181 rfl 0 rfl ?_
                    refine z_aload_n hC 182 hl dX7_text_182 rfl 0 rfl ?_
                    refine gmW_17 (x := (bl9 : Int)) hC hH 183 rfl dX7_text_183 ?_
                    refine pmW_6 hC hH 186 dX7_text_186 (fun H locs hH => ?_)
                    have hH : zH s0 s1 G as0 (mW ad G (va_up (va_up (va_up (va_up (va_up (va_up (va_up (va_up (va_up (va_up (va_up (va_up (va_up (va_up (va_up (va_up (va_up (va_up (va_up (va_up (va_up (va_up (va_up F 0 (0)) 2 (0)) 5 ((m9 : Int))) 6 ((bl9 : Int))) 7 ((ti : Int))) 8 (ln)) 12 ((un : Int))) 13 (fr)) 16 ((m9 : Int))) 17 ((bl9 : Int))) 18 ((ti9 : Int))) 19 ((l9 : Int))) 20 ((hb9 : Int))) 21 ((ht9 : Int))) 22 ((tn : Int))) 23 ((nx9 : Int))) 24 ((pl9 : Int))) 25 (st9)) 26 (nu9)) 27 (0)) 28 (fp9)) 29 (0)) 30 ((-1))) (va_up (va_up (va_up (va_up (va_up Ar 1 (nA t)) 3 va) 4 wa) 14 (cI (m9) v9 nv)) 15 (cI (m9) w9 nw9))) H locs := hH
                    refine z_aload_n hC 189 hl dX7_text_189 rfl 0 rfl ?_
                    refine z_aload_n hC 190 hl dX7_text_190 rfl 0 rfl ?_
                    refine gmW_18 (x := (ti9 : Int)) hC hH 191 rfl dX7_text_191 ?_
                    refine pmW_7 hC hH 194 dX7_text_194 (fun H locs hH => ?_)
                    have hH : zH s0 s1 G as0 (mW ad G (va_up (va_up (va_up (va_up (va_up (va_up (va_up (va_up (va_up (va_up (va_up (va_up (va_up (va_up (va_up (va_up (va_up (va_up (va_up (va_up (va_up (va_up (va_up F 0 (0)) 2 (0)) 5 ((m9 : Int))) 6 ((bl9 : Int))) 7 ((ti9 : Int))) 8 (ln)) 12 ((un : Int))) 13 (fr)) 16 ((m9 : Int))) 17 ((bl9 : Int))) 18 ((ti9 : Int))) 19 ((l9 : Int))) 20 ((hb9 : Int))) 21 ((ht9 : Int))) 22 ((tn : Int))) 23 ((nx9 : Int))) 24 ((pl9 : Int))) 25 (st9)) 26 (nu9)) 27 (0)) 28 (fp9)) 29 (0)) 30 ((-1))) (va_up (va_up (va_up (va_up (va_up Ar 1 (nA t)) 3 va) 4 wa) 14 (cI (m9) v9 nv)) 15 (cI (m9) w9 nw9))) H locs := hH
                    refine z_aload_n hC 197 hl dX7_text_197 rfl 0 rfl ?_
                    refine z_aload_n hC 198 hl dX7_text_198 rfl 0 rfl ?_
                    refine gmW_19 (x := (l9 : Int)) hC hH 199 rfl dX7_text_199 ?_
                    refine pmW_8 hC hH 202 dX7_text_202 (fun H locs hH => ?_)
                    have hH : zH s0 s1 G as0 (mW ad G (va_up (va_up (va_up (va_up (va_up (va_up (va_up (va_up (va_up (va_up (va_up (va_up (va_up (va_up (va_up (va_up (va_up (va_up (va_up (va_up (va_up (va_up (va_up F 0 (0)) 2 (0)) 5 ((m9 : Int))) 6 ((bl9 : Int))) 7 ((ti9 : Int))) 8 ((l9 : Int))) 12 ((un : Int))) 13 (fr)) 16 ((m9 : Int))) 17 ((bl9 : Int))) 18 ((ti9 : Int))) 19 ((l9 : Int))) 20 ((hb9 : Int))) 21 ((ht9 : Int))) 22 ((tn : Int))) 23 ((nx9 : Int))) 24 ((pl9 : Int))) 25 (st9)) 26 (nu9)) 27 (0)) 28 (fp9)) 29 (0)) 30 ((-1))) (va_up (va_up (va_up (va_up (va_up Ar 1 (nA t)) 3 va) 4 wa) 14 (cI (m9) v9 nv)) 15 (cI (m9) w9 nw9))) H locs := hH
                    refine z_aload_n hC 205 hl dX7_text_205 rfl 0 rfl ?_
                    refine z_iconst hC 206 dX7_text_206 ?_
                    refine pmW_12 hC hH 207 dX7_text_207 (fun H locs hH => ?_)
                    have hH : zH s0 s1 G as0 (mW ad G (va_up (va_up (va_up (va_up (va_up (va_up (va_up (va_up (va_up (va_up (va_up (va_up (va_up (va_up (va_up (va_up (va_up (va_up (va_up (va_up (va_up (va_up (va_up F 0 (0)) 2 (0)) 5 ((m9 : Int))) 6 ((bl9 : Int))) 7 ((ti9 : Int))) 8 ((l9 : Int))) 12 (0)) 13 (fr)) 16 ((m9 : Int))) 17 ((bl9 : Int))) 18 ((ti9 : Int))) 19 ((l9 : Int))) 20 ((hb9 : Int))) 21 ((ht9 : Int))) 22 ((tn : Int))) 23 ((nx9 : Int))) 24 ((pl9 : Int))) 25 (st9)) 26 (nu9)) 27 (0)) 28 (fp9)) 29 (0)) 30 ((-1))) (va_up (va_up (va_up (va_up (va_up Ar 1 (nA t)) 3 va) 4 wa) 14 (cI (m9) v9 nv)) 15 (cI (m9) w9 nw9))) H locs := hH
                    refine z_aload_n hC 210 hl dX7_text_210 rfl 0 rfl ?_
                    refine z_bipush hC 211 dX7_text_211 rfl ?_
                    refine pmW_13 hC hH 213 dX7_text_213 (fun H locs hH => ?_)
                    have hH : zH s0 s1 G as0 (mW ad G (va_up (va_up (va_up (va_up (va_up (va_up (va_up (va_up (va_up (va_up (va_up (va_up (va_up (va_up (va_up (va_up (va_up (va_up (va_up (va_up (va_up (va_up (va_up F 0 (0)) 2 (0)) 5 ((m9 : Int))) 6 ((bl9 : Int))) 7 ((ti9 : Int))) 8 ((l9 : Int))) 12 (0)) 13 ((-2))) 16 ((m9 : Int))) 17 ((bl9 : Int))) 18 ((ti9 : Int))) 19 ((l9 : Int))) 20 ((hb9 : Int))) 21 ((ht9 : Int))) 22 ((tn : Int))) 23 ((nx9 : Int))) 24 ((pl9 : Int))) 25 (st9)) 26 (nu9)) 27 (0)) 28 (fp9)) 29 (0)) 30 ((-1))) (va_up (va_up (va_up (va_up (va_up Ar 1 (nA t)) 3 va) 4 wa) 14 (cI (m9) v9 nv)) 15 (cI (m9) w9 nw9))) H locs := hH
                    refine z_aload_n hC 216 hl dX7_text_216 rfl 0 rfl ?_
                    refine gmW_8 (x := (l9 : Int)) hC hH 217 rfl dX7_text_217 ?_
                    -- R220.3
                    exact z_iret hC hH hQ 220 (((l9 : Int), m9, bl9, ti9, 0, 0, v9, w9, (l9 : Int), (-2), 0, (-1), (va_up (va_up (va_up (va_up (va_up (va_up (va_up (va_up (va_up (va_up (va_up (va_up (va_up (va_up (va_up (va_up (va_up (va_up (va_up (va_up (va_up (va_up (va_up F 0 (0)) 2 (0)) 5 ((m9 : Int))) 6 ((bl9 : Int))) 7 ((ti9 : Int))) 8 ((l9 : Int))) 12 (0)) 13 ((-2))) 16 ((m9 : Int))) 17 ((bl9 : Int))) 18 ((ti9 : Int))) 19 ((l9 : Int))) 20 ((hb9 : Int))) 21 ((ht9 : Int))) 22 ((tn : Int))) 23 ((nx9 : Int))) 24 ((pl9 : Int))) 25 (st9)) 26 (nu9)) 27 (0)) 28 (fp9)) 29 (0)) 30 ((-1))), (va_up (va_up (va_up (va_up (va_up Ar 1 (nA t)) 3 va) 4 wa) 14 (cI (m9) v9 nv)) 15 (cI (m9) w9 nw9)))) dX7_text_220 rfl ⟨by exact Or.inr ⟨by omega, rfl, Or.inr ⟨m9, v9, w9, bl9, ti9, l9, iKl _ (PAR_0 (by omega)), rfl, rfl, rfl, rfl, rfl, rfl, rfl, rfl, rfl, rfl, rfl⟩⟩, by exact ⟨rfl, rfl, rfl, rfl, rfl, rfl, rfl, rfl, rfl, rfl⟩, by exact ⟨iv, iw, rfl, rfl, rfl, rfl⟩⟩ rfl (Nat.le_refl _) (Nat.le_refl _)
                  · -- 148f
                    refine z_aload_n hC 151 hl dX7_text_151 rfl 0 rfl ?_
                    refine gmW_3 hC hH 152 dX7_text_152 ?_
                    refine z_iload_n hC 155 hl dX7_text_155 rfl 1 rfl ?_
                    refine z_aload_n hC 156 hl dX7_text_156 rfl 0 rfl ?_
                    refine gmW_14 hC hH 157 dX7_text_157 ?_
                    refine z_iload_n hC 160 hl dX7_text_160 rfl 1 rfl ?_
                    refine lmW_14 (x := ((v9 p : Nat) : Int)) hC hH 161 (p) (by omega) (by omega) (cI_lt (by omega)) dX7_text_161 ?_
                    refine smW_3 (f' := (va_up va (p) (((v9 p : Nat) : Int)))) hC hH 162 (p) (by omega) (by omega) rfl dX7_text_162 (fun H locs hH => ?_)
                    have hH : zH s0 s1 G as0 (mW ad G (va_up (va_up (va_up (va_up (va_up (va_up (va_up (va_up (va_up (va_up (va_up (va_up (va_up (va_up (va_up (va_up (va_up (va_up (va_up (va_up (va_up (va_up (va_up F 0 (0)) 2 (0)) 5 ((m9 : Int))) 6 ((b : Int))) 7 ((ti : Int))) 8 (ln)) 12 ((un : Int))) 13 (fr)) 16 ((m9 : Int))) 17 ((bl9 : Int))) 18 ((ti9 : Int))) 19 ((l9 : Int))) 20 ((hb9 : Int))) 21 ((ht9 : Int))) 22 ((tn : Int))) 23 ((nx9 : Int))) 24 ((pl9 : Int))) 25 (st9)) 26 (nu9)) 27 (0)) 28 (fp9)) 29 (0)) 30 ((-1))) (va_up (va_up (va_up (va_up (va_up Ar 1 (nA t)) 3 (va_up va (p) (((v9 p : Nat) : Int)))) 4 wa) 14 (cI (m9) v9 nv)) 15 (cI (m9) w9 nw9))) H locs := hH
                    refine z_aload_n hC 163 hl dX7_text_163 rfl 0 rfl ?_
                    refine gmW_4 hC hH 164 dX7_text_164 ?_
                    refine z_iload_n hC 167 hl dX7_text_167 rfl 1 rfl ?_
                    refine z_aload_n hC 168 hl dX7_text_168 rfl 0 rfl ?_
                    refine gmW_15 hC hH 169 dX7_text_169 ?_
                    refine z_iload_n hC 172 hl dX7_text_172 rfl 1 rfl ?_
                    refine lmW_15 (x := ((w9 p : Nat) : Int)) hC hH 173 (p) (by omega) (by omega) (cI_lt (by omega)) dX7_text_173 ?_
                    refine smW_4 (f' := (va_up wa (p) (((w9 p : Nat) : Int)))) hC hH 174 (p) (by omega) (by omega) rfl dX7_text_174 (fun H locs hH => ?_)
                    have hH : zH s0 s1 G as0 (mW ad G (va_up (va_up (va_up (va_up (va_up (va_up (va_up (va_up (va_up (va_up (va_up (va_up (va_up (va_up (va_up (va_up (va_up (va_up (va_up (va_up (va_up (va_up (va_up F 0 (0)) 2 (0)) 5 ((m9 : Int))) 6 ((b : Int))) 7 ((ti : Int))) 8 (ln)) 12 ((un : Int))) 13 (fr)) 16 ((m9 : Int))) 17 ((bl9 : Int))) 18 ((ti9 : Int))) 19 ((l9 : Int))) 20 ((hb9 : Int))) 21 ((ht9 : Int))) 22 ((tn : Int))) 23 ((nx9 : Int))) 24 ((pl9 : Int))) 25 (st9)) 26 (nu9)) 27 (0)) 28 (fp9)) 29 (0)) 30 ((-1))) (va_up (va_up (va_up (va_up (va_up Ar 1 (nA t)) 3 (va_up va (p) (((v9 p : Nat) : Int)))) 4 (va_up wa (p) (((w9 p : Nat) : Int)))) 14 (cI (m9) v9 nv)) 15 (cI (m9) w9 nw9))) H locs := hH
                    refine z_iinc (lv' := [(2, .int (iZ ((p : Int) + 1))), (0, .ref (ad 0))]) hC 175 hl dX7_text_175 1 rfl (by omega) (by decide) rfl (fun ls hl => ?_)
                    refine z_goto hC 178 143 dX7_text_178 rfl ?_
                    -- J143.4
                    exact ih143 (p + 1) (va_up va (p) (((v9 p : Nat) : Int))) (va_up wa (p) (((w9 p : Nat) : Int))) _ _ _ (by omega) (by first | assumption | omega) (by first | (intro i hi; omega) | (intro i hi; by_cases e : i = p; (subst e; rw [va_up_self]); (rw [va_up_ne _ _ e]; exact iv i (by omega)))) (by first | (intro i hi; omega) | (intro i hi; by_cases e : i = p; (subst e; rw [va_up_self]); (rw [va_up_ne _ _ e]; exact iw i (by omega)))) hH (z_lv (lv_sub hl [1, 0] rfl) (zcons rfl (zcons (zpeq (by omega)) rfl)))
              -- J143.5
              exact L143 _ 0 (cI (n) v gv) (cI (n) wt gw) _ _ _ (Nat.lt_succ_self _) (by first | assumption | omega) (by first | (intro i hi; omega) | (intro i hi; by_cases e : i = p; (subst e; rw [va_up_self]); (rw [va_up_ne _ _ e]; exact iv i (by omega)))) (by first | (intro i hi; omega) | (intro i hi; by_cases e : i = p; (subst e; rw [va_up_self]); (rw [va_up_ne _ _ e]; exact iw i (by omega)))) hH (z_lv (lv_sub hl [1, 0] rfl) (zcons rfl (zcons (zpeq (by omega)) rfl)))
            · -- 82f
              refine z_aload_n hC 85 hl dX7_text_85 rfl 0 rfl ?_
              refine z_same (z_runV hC hH.2.2 hl.1 hH.1 hH.2.1 0 (As := []) (rest := []) (m_X7_readLine lau s0 G _ ad (va_up (va_up (va_up (va_up (va_up (va_up (va_up (va_up (va_up (va_up (va_up (va_up (va_up (va_up (va_up (va_up (va_up (va_up (va_up (va_up (va_up (va_up (va_up F 0 (0)) 2 ((tp : Int))) 5 ((n : Int))) 6 ((b : Int))) 7 ((ti : Int))) 8 (ln)) 12 ((un : Int))) 13 (fr)) 16 ((m9 : Int))) 17 ((bl9 : Int))) 18 ((ti9 : Int))) 19 ((l9 : Int))) 20 ((hb9 : Int))) 21 ((ht9 : Int))) 22 ((tn : Int))) 23 ((nx9 : Int))) 24 ((pl9 : Int))) 25 (st9)) 26 (nu9)) 27 (0)) 28 (fp9)) 29 (ft)) 30 (lp)) (va_up (va_up (va_up (va_up (va_up Ar 1 (nA t)) 3 (cI (n) v gv)) 4 (cI (n) wt gw)) 14 (cI (m9) v9 nv)) 15 (cI (m9) w9 nw9)) t tn lq lva so9 pl9 vl9 nx9 m9 bl9 ti9 l9 hb9 ht9 st9 nu9 v9 w9 nv nw9 (by first | assumption | omega) (by first | assumption | omega) (by first | assumption | omega) (by first | assumption | omega) (by first | assumption | omega) (by exact (iA rfl).1) (by first | assumption | omega) (by first | assumption | omega) (by first | assumption | omega) (by first | assumption | omega)) (lw_V q1601 q1603 qs49 q95 q1604) ⟨rfl, by decide, by decide, by decide +kernel⟩ (q0 := 0) (ci := 0) rfl rfl rfl rfl (Nat.le_of_ble_eq_true rfl) ⟨Nat.le_of_ble_eq_true rfl, Nat.le_of_ble_eq_true rfl⟩ ⟨Nat.le_of_ble_eq_true rfl, Nat.le_of_ble_eq_true rfl⟩ dX7_text_86) hH (fun u_ H locs hpost hH => ?_)
              obtain ⟨fa_86, so2_86, pl2_86, vl2_86, nx2_86, st2_86, nu2_86, fp_86, m2_86, bl2_86, ti2_86, hb2_86, ht2_86, v2_86, w2_86⟩ := u_
              obtain ⟨pr_86, pk_86, pf_86, pm_86, ph_86⟩ : (OKE (LN2 t tn so9 pl9 vl9 nx9 m9 v9 w9 bl9 ti9 hb9 ht9) fa_86 fp_86 ((so2_86, pl2_86, vl2_86, nx2_86), m2_86, v2_86, w2_86, bl2_86, ti2_86, hb2_86, ht2_86)) ∧ (fa_86 = 0 → TKA tn so2_86 pl2_86 vl2_86 nx2_86 st2_86 nu2_86 ∧ nx9 ≤ pl2_86) ∧ (fa_86 ≤ 3) ∧ (m2_86 ≤ 120) ∧ (hb2_86 ≤ 1 ∧ ht2_86 ≤ 1) := hpost
              have hH : zH s0 s1 G as0 (mW ad G (va_up (va_up (va_up (va_up (va_up (va_up (va_up (va_up (va_up (va_up (va_up (va_up (va_up (va_up (va_up (va_up (va_up (va_up (va_up (va_up (va_up (va_up (va_up F 0 (0)) 2 ((tp : Int))) 5 ((n : Int))) 6 ((b : Int))) 7 ((ti : Int))) 8 (ln)) 12 ((un : Int))) 13 (fr)) 16 ((m2_86 : Int))) 17 ((bl2_86 : Int))) 18 ((ti2_86 : Int))) 19 ((l9 : Int) + 1)) 20 ((hb2_86 : Int))) 21 ((ht2_86 : Int))) 22 ((tn : Int))) 23 ((nx2_86 : Int))) 24 ((pl2_86 : Int))) 25 (st2_86)) 26 (nu2_86)) 27 ((fa_86 : Int))) 28 (fp_86)) 29 (ft)) 30 (lp)) (va_up (va_up (va_up (va_up (va_up Ar 1 (nA t)) 3 (cI (n) v gv)) 4 (cI (n) wt gw)) 14 (cI (m2_86) v2_86 nv)) 15 (cI (m2_86) w2_86 nw9))) H locs := hH
              refine z_st (st' := []) rfl ?_
              refine z_goto hC 89 70 dX7_text_89 rfl ?_
              -- J70.6
              exact ih70 so2_86 pl2_86 vl2_86 nx2_86 m2_86 bl2_86 ti2_86 (l9 + 1) hb2_86 ht2_86 fa_86 st2_86 nu2_86 fp_86 v2_86 w2_86 _ _ _ (by (split <;> rename_i h9; (have h8 := (pk_86 h9).2; omega); omega)) (by first | assumption | omega) (by first | assumption | omega) (by first | assumption | omega) (by first | assumption | omega) (by first | omega | exact ⟨by omega, fun q => by have h8 := pk_86 q; omega⟩) (by first | (intro q; have h7 := pA_67.2.2; exact ⟨pA_67, by omega⟩) | (intro q; have h8 := (pk_86 q).1; have h7 := h8.2.2; exact ⟨h8, by omega⟩)) (by first | exact TXI_0 pT_67 | exact TXI_s iK (by omega) pr_86) (by rw [show ((l9 : Int) + 1 : Int) = ((l9 + 1 : Nat) : Int) from by omega] at hH; exact hH) (lv_sub hl [0, 1] rfl)
      -- J70.7
      exact L70 _ so_67 pl_67 vl_67 nx_67 0 8 0 0 0 0 0 st_67 nu_67 (F 28) (fun _ => 0) (fun _ => 0) _ _ _ (Nat.lt_succ_self _) (by first | assumption | omega) (by first | assumption | omega) (by first | assumption | omega) (by first | assumption | omega) (by first | omega | exact ⟨by omega, fun q => by have h8 := pk_86 q; omega⟩) (by first | (intro q; have h7 := pA_67.2.2; exact ⟨pA_67, by omega⟩) | (intro q; have h8 := (pk_86 q).1; have h7 := h8.2.2; exact ⟨h8, by omega⟩)) (by first | exact TXI_0 pT_67 | exact TXI_s iK (by omega) pr_86) hH (lv_sub hl [0, 1] rfl)
    · -- 14f
      refine z_bipush hC 17 dX7_text_17 rfl ?_
      -- R19.8
      exact z_iret hC hH hQ 19 (((-2), n, b, ti, un, tp, v, wt, ln, fr, ft, lp, (va_up (va_up (va_up (va_up (va_up (va_up (va_up (va_up (va_up (va_up F 0 (0)) 2 ((tp : Int))) 5 ((n : Int))) 6 ((b : Int))) 7 ((ti : Int))) 8 (ln)) 12 ((un : Int))) 13 (fr)) 29 (ft)) 30 (lp)), (va_up (va_up (va_up (va_up (va_up Ar 1 (nA t)) 3 (cI (n) v gv)) 4 (cI (n) wt gw)) 14 nv) 15 nw9))) dX7_text_19 rfl ⟨by exact Or.inl ⟨by omega, rfl, rfl, rfl, rfl, rfl, rfl, rfl, rfl, rfl, rfl, rfl, rfl⟩, by exact ⟨rfl, rfl, rfl, rfl, rfl, rfl, rfl, rfl, rfl, rfl⟩, by exact ⟨fun i hi => cI_lt hi, fun i hi => cI_lt hi, rfl, rfl, rfl, rfl⟩⟩ rfl (Nat.le_refl _) (Nat.le_refl _)
