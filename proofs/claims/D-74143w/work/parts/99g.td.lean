/-! methods of ModeDeskModel: 99g.td -/
set_option maxHeartbeats 16000000 in
set_option maxRecDepth 100000 in
theorem m_X7_readLine (lau : Launch) (s0 : State) (G : zG) (sz : Nat) (ad : Nat → Nat) (F : Nat → Int) (Ar : Nat → Nat → Int) (t : Nat → Nat) (tn : Nat) (lq : Nat) (lva : Nat) (so : Nat) (pl : Nat) (vl : Nat) (nx : Nat) (m : Nat) (bk : Nat) (ti : Nat) (ln : Nat) (hb : Nat) (ht : Nat) (st : Int) (nu : Int) (v : Nat → Nat) (w : Nat → Nat) (gv : Nat → Int) (gw : Nat → Int) (htn : tn ≤ 900) (htb : ∀ i, i < tn → t i < 256) (hlit : zLit s0 "ModeDeskModel" 107 "first last least most row weight block ties " lq lva 44 wC) (hcs : zCS s0) (hsi : zSio s0) (hA : TKA tn so pl vl nx st nu) (hm : m ≤ 120) (hhb : hb ≤ 1) (hht : ht ≤ 1) (hln : ln ≤ 901) : zMet (S := Nat × Nat × Nat × Nat × Nat × Int × Int × Int × Nat × Nat × Nat × Nat × Nat × (Nat → Nat) × (Nat → Nat)) lau yX7_readLine cX7_readLine 2 (none) 9 194 0 0 s0 G sz [.ref (ad 0)] (mW ad G (va_up (va_up (va_up (va_up (va_up (va_up (va_up (va_up (va_up (va_up (va_up (va_up F 16 ((m : Int))) 17 ((bk : Int))) 18 ((ti : Int))) 19 ((ln : Int))) 20 ((hb : Int))) 21 ((ht : Int))) 22 ((tn : Int))) 23 ((nx : Int))) 24 ((pl : Int))) 25 (st)) 26 (nu)) 27 (0)) (va_up (va_up (va_up Ar 1 (nA t)) 14 (cI (m) v gv)) 15 (cI (m) w gw))) (fun ((fa, so2, pl2, vl2, nx2, st2, nu2, fp, m2, bl2, ti2, hb2, ht2, v2, w2) : Nat × Nat × Nat × Nat × Nat × Int × Int × Int × Nat × Nat × Nat × Nat × Nat × (Nat → Nat) × (Nat → Nat)) => (none : Option Value)) (fun ((fa, so2, pl2, vl2, nx2, st2, nu2, fp, m2, bl2, ti2, hb2, ht2, v2, w2) : Nat × Nat × Nat × Nat × Nat × Int × Int × Int × Nat × Nat × Nat × Nat × Nat × (Nat → Nat) × (Nat → Nat)) => (OKE (LN2 t tn so pl vl nx m v w bk ti hb ht) fa fp ((so2, pl2, vl2, nx2), m2, v2, w2, bl2, ti2, hb2, ht2)) ∧ (fa = 0 → TKA tn so2 pl2 vl2 nx2 st2 nu2 ∧ nx ≤ pl2) ∧ (fa ≤ 3) ∧ (m2 ≤ 120) ∧ (hb2 ≤ 1 ∧ ht2 ≤ 1)) (fun ((fa, so2, pl2, vl2, nx2, st2, nu2, fp, m2, bl2, ti2, hb2, ht2, v2, w2) : Nat × Nat × Nat × Nat × Nat × Int × Int × Int × Nat × Nat × Nat × Nat × Nat × (Nat → Nat) × (Nat → Nat)) => (mW ad G (va_up (va_up (va_up (va_up (va_up (va_up (va_up (va_up (va_up (va_up (va_up (va_up (va_up F 16 ((m2 : Int))) 17 ((bl2 : Int))) 18 ((ti2 : Int))) 19 ((ln : Int) + 1)) 20 ((hb2 : Int))) 21 ((ht2 : Int))) 22 ((tn : Int))) 23 ((nx2 : Int))) 24 ((pl2 : Int))) 25 (st2)) 26 (nu2)) 27 ((fa : Int))) 28 (fp)) (va_up (va_up (va_up Ar 1 (nA t)) 14 (cI (m2) v2 gv)) 15 (cI (m2) w2 gw)))) := by
  refine zMet.of (by decide) (Nat.le_of_ble_eq_true rfl) ?_
  intro pg ev s1 mi ar bl me cd ls Q as0 hC hH hl hQ hsz
  generalize s1.heap = H at hH ⊢
  generalize ([] : List Loc) = locs at hH ⊢
  have hl : lv_has ls 2 [(0, .ref (ad 0))] := hl
  have hA0 := hA.1
  have hA1 := hA.2.1.2
  have hA3 := hA.2.2
  unfold TSO at hA0
  refine z_aload_n hC 0 hl dX7_readLine_0 rfl 0 rfl ?_
  refine gmW_25 (x := st) hC hH 1 rfl dX7_readLine_1 ?_
  refine z_if_ne hC 4 14 dX7_readLine_4 rfl (by omega) (fun hb1 => ?_) (fun hb1 => ?_)
  · -- 4t
    refine z_iconst hC 14 dX7_readLine_14 ?_
    refine z_istore_n (lv' := [(1, .int (iZ ((-1)))), (0, .ref (ad 0))]) hC 15 hl dX7_readLine_15 rfl (by decide) rfl (fun ls hl => ?_)
    refine z_iload_n hC 16 hl dX7_readLine_16 rfl 0 rfl ?_
    refine z_iconst hC 17 dX7_readLine_17 ?_
    refine z_icmp_ne_t hC 18 28 dX7_readLine_18 rfl (by omega) (by omega) (by omega) ?_
    refine z_iload_n hC 28 hl dX7_readLine_28 rfl 0 rfl ?_
    refine z_iconst hC 29 dX7_readLine_29 ?_
    refine z_icmp_ne_t hC 30 40 dX7_readLine_30 rfl (by omega) (by omega) (by omega) ?_
    refine z_iload_n hC 40 hl dX7_readLine_40 rfl 0 rfl ?_
    refine z_bipush hC 41 dX7_readLine_41 rfl ?_
    refine z_icmp_ne_t hC 43 53 dX7_readLine_43 rfl (by omega) (by omega) (by omega) ?_
    refine z_iload_n hC 53 hl dX7_readLine_53 rfl 0 rfl ?_
    refine z_bipush hC 54 dX7_readLine_54 rfl ?_
    refine z_icmp_ne_t hC 56 66 dX7_readLine_56 rfl (by omega) (by omega) (by omega) ?_
    refine z_aload_n hC 66 hl dX7_readLine_66 rfl 1 rfl ?_
    refine z_iconst hC 67 dX7_readLine_67 ?_
    refine z_st (st' := [.int (iZ (((1 : Nat) : Int))), .ref (ad 0)]) (zcons (zieq (by omega)) rfl) ?_
    refine z_same (z_runV hC hH.2.2 hl.1 hH.1 hH.2.1 1 (As := [.int (iZ (((1 : Nat) : Int)))]) (rest := []) (m_X7_wrong lau s0 G _ ad (va_up (va_up (va_up (va_up (va_up (va_up (va_up (va_up (va_up (va_up (va_up (va_up F 16 ((m : Int))) 17 ((bk : Int))) 18 ((ti : Int))) 19 ((ln : Int))) 20 ((hb : Int))) 21 ((ht : Int))) 22 ((tn : Int))) 23 ((nx : Int))) 24 ((pl : Int))) 25 (st)) 26 (nu)) 27 (0)) (va_up (va_up (va_up Ar 1 (nA t)) 14 (cI (m) v gv)) 15 (cI (m) w gw)) 1 pl (by first | assumption | omega)) (lw_V q1613 q1615 qs52 q95 q1616) ⟨rfl, by decide, by decide, by decide +kernel⟩ (q0 := 0) (ci := 0) rfl rfl rfl rfl (Nat.le_of_ble_eq_true rfl) ⟨Nat.le_of_ble_eq_true rfl, Nat.le_of_ble_eq_true rfl⟩ ⟨Nat.le_of_ble_eq_true rfl, Nat.le_of_ble_eq_true rfl⟩ dX7_readLine_68) hH (fun _ H locs hpost hH => ?_)
    have hH : zH s0 s1 G as0 (mW ad G (va_up (va_up (va_up (va_up (va_up (va_up (va_up (va_up (va_up (va_up (va_up (va_up (va_up F 16 ((m : Int))) 17 ((bk : Int))) 18 ((ti : Int))) 19 ((ln : Int))) 20 ((hb : Int))) 21 ((ht : Int))) 22 ((tn : Int))) 23 ((nx : Int))) 24 ((pl : Int))) 25 (st)) 26 (nu)) 27 (1)) 28 ((pl : Int))) (va_up (va_up (va_up Ar 1 (nA t)) 14 (cI (m) v gv)) 15 (cI (m) w gw))) H locs := hH
    refine z_st (st' := []) rfl ?_
    refine z_aload_n hC 71 hl dX7_readLine_71 rfl 1 rfl ?_
    refine gmW_27 (x := 1) hC hH 72 rfl dX7_readLine_72 ?_
    refine z_if_ne_t hC 75 91 dX7_readLine_75 rfl (by omega) (by omega) ?_
    refine z_aload_n hC 91 hl dX7_readLine_91 rfl 1 rfl ?_
    refine z_same (z_runV hC hH.2.2 hl.1 hH.1 hH.2.1 0 (As := []) (rest := []) (m_X7_goOn_x lau s0 G _ ad (va_up (va_up (va_up (va_up (va_up (va_up (va_up (va_up (va_up (va_up (va_up (va_up (va_up F 16 ((m : Int))) 17 ((bk : Int))) 18 ((ti : Int))) 19 ((ln : Int))) 20 ((hb : Int))) 21 ((ht : Int))) 22 ((tn : Int))) 23 ((nx : Int))) 24 ((pl : Int))) 25 (st)) 26 (nu)) 27 (1)) 28 ((pl : Int))) (va_up (va_up (va_up Ar 1 (nA t)) 14 (cI (m) v gv)) 15 (cI (m) w gw)) 1 (by first | assumption | omega)) (lw_V q1609 q1611 qs51 q95 q1612) ⟨rfl, by decide, by decide, by decide +kernel⟩ (q0 := 0) (ci := 0) rfl rfl rfl rfl (Nat.le_of_ble_eq_true rfl) ⟨Nat.le_of_ble_eq_true rfl, Nat.le_of_ble_eq_true rfl⟩ ⟨Nat.le_of_ble_eq_true rfl, Nat.le_of_ble_eq_true rfl⟩ dX7_readLine_92) hH (fun _ H locs hpost hH => ?_)
    have hH : zH s0 s1 G as0 (mW ad G (va_up (va_up (va_up (va_up (va_up (va_up (va_up (va_up (va_up (va_up (va_up (va_up (va_up F 16 ((m : Int))) 17 ((bk : Int))) 18 ((ti : Int))) 19 ((ln : Int))) 20 ((hb : Int))) 21 ((ht : Int))) 22 ((tn : Int))) 23 ((nx : Int))) 24 ((pl : Int))) 25 (st)) 26 (nu)) 27 (1)) 28 ((pl : Int))) (va_up (va_up (va_up Ar 1 (nA t)) 14 (cI (m) v gv)) 15 (cI (m) w gw))) H locs := hH
    refine z_st (st' := []) rfl ?_
    refine z_aload_n hC 95 hl dX7_readLine_95 rfl 1 rfl ?_
    refine z_dup hC 96 dX7_readLine_96 rfl ?_
    refine gmW_19 (x := (ln : Int)) hC hH 97 rfl dX7_readLine_97 ?_
    refine z_iconst hC 100 dX7_readLine_100 ?_
    refine z_iadd (e := (ln : Int) + 1) hC 101 dX7_readLine_101 rfl ?_
    refine pmW_19 hC hH 102 dX7_readLine_102 (fun H locs hH => ?_)
    have hH : zH s0 s1 G as0 (mW ad G (va_up (va_up (va_up (va_up (va_up (va_up (va_up (va_up (va_up (va_up (va_up (va_up (va_up F 16 ((m : Int))) 17 ((bk : Int))) 18 ((ti : Int))) 19 ((ln : Int) + 1)) 20 ((hb : Int))) 21 ((ht : Int))) 22 ((tn : Int))) 23 ((nx : Int))) 24 ((pl : Int))) 25 (st)) 26 (nu)) 27 (1)) 28 ((pl : Int))) (va_up (va_up (va_up Ar 1 (nA t)) 14 (cI (m) v gv)) 15 (cI (m) w gw))) H locs := hH
    -- R105.1
    exact z_vret hC hH hQ 105 ((1, 0, pl, 0, nx, st, nu, (pl : Int), m, bk, ti, hb, ht, v, w)) dX7_readLine_105 rfl ⟨by exact OKE_1 (by decide) rfl (LN2_e (LN_x (by omega))), by (intro q; omega), by first | assumption | omega, by first | assumption | omega, by first | assumption | omega⟩ rfl (Nat.le_refl _) (Nat.le_refl _)
  · -- 4f
    refine z_aload_n hC 7 hl dX7_readLine_7 rfl 0 rfl ?_
    refine gmW_26 (x := nu) hC hH 8 rfl dX7_readLine_8 ?_
    refine z_goto hC 11 15 dX7_readLine_11 rfl ?_
    refine z_istore_n (lv' := [(1, .int (iZ (nu))), (0, .ref (ad 0))]) hC 15 hl dX7_readLine_15 rfl (by decide) rfl (fun ls hl => ?_)
    refine z_iload_n hC 16 hl dX7_readLine_16 rfl 0 rfl ?_
    refine z_iconst hC 17 dX7_readLine_17 ?_
    refine z_icmp_ne hC 18 28 dX7_readLine_18 rfl (by omega) (by omega) (fun hb2 => ?_) (fun hb2 => ?_)
    · -- 18t
      refine z_iload_n hC 28 hl dX7_readLine_28 rfl 0 rfl ?_
      refine z_iconst hC 29 dX7_readLine_29 ?_
      refine z_icmp_ne hC 30 40 dX7_readLine_30 rfl (by omega) (by omega) (fun hb3 => ?_) (fun hb3 => ?_)
      · -- 30t
        refine z_iload_n hC 40 hl dX7_readLine_40 rfl 0 rfl ?_
        refine z_bipush hC 41 dX7_readLine_41 rfl ?_
        refine z_icmp_ne hC 43 53 dX7_readLine_43 rfl (by omega) (by omega) (fun hb4 => ?_) (fun hb4 => ?_)
        · -- 43t
          refine z_iload_n hC 53 hl dX7_readLine_53 rfl 0 rfl ?_
          refine z_bipush hC 54 dX7_readLine_54 rfl ?_
          refine z_icmp_ne hC 56 66 dX7_readLine_56 rfl (by omega) (by omega) (fun hb5 => ?_) (fun hb5 => ?_)
          · -- 56t
            refine z_aload_n hC 66 hl dX7_readLine_66 rfl 1 rfl ?_
            refine z_iconst hC 67 dX7_readLine_67 ?_
            refine z_st (st' := [.int (iZ (((1 : Nat) : Int))), .ref (ad 0)]) (zcons (zieq (by omega)) rfl) ?_
            refine z_same (z_runV hC hH.2.2 hl.1 hH.1 hH.2.1 1 (As := [.int (iZ (((1 : Nat) : Int)))]) (rest := []) (m_X7_wrong lau s0 G _ ad (va_up (va_up (va_up (va_up (va_up (va_up (va_up (va_up (va_up (va_up (va_up (va_up F 16 ((m : Int))) 17 ((bk : Int))) 18 ((ti : Int))) 19 ((ln : Int))) 20 ((hb : Int))) 21 ((ht : Int))) 22 ((tn : Int))) 23 ((nx : Int))) 24 ((pl : Int))) 25 (st)) 26 (nu)) 27 (0)) (va_up (va_up (va_up Ar 1 (nA t)) 14 (cI (m) v gv)) 15 (cI (m) w gw)) 1 pl (by first | assumption | omega)) (lw_V q1613 q1615 qs52 q95 q1616) ⟨rfl, by decide, by decide, by decide +kernel⟩ (q0 := 0) (ci := 0) rfl rfl rfl rfl (Nat.le_of_ble_eq_true rfl) ⟨Nat.le_of_ble_eq_true rfl, Nat.le_of_ble_eq_true rfl⟩ ⟨Nat.le_of_ble_eq_true rfl, Nat.le_of_ble_eq_true rfl⟩ dX7_readLine_68) hH (fun _ H locs hpost hH => ?_)
            have hH : zH s0 s1 G as0 (mW ad G (va_up (va_up (va_up (va_up (va_up (va_up (va_up (va_up (va_up (va_up (va_up (va_up (va_up F 16 ((m : Int))) 17 ((bk : Int))) 18 ((ti : Int))) 19 ((ln : Int))) 20 ((hb : Int))) 21 ((ht : Int))) 22 ((tn : Int))) 23 ((nx : Int))) 24 ((pl : Int))) 25 (st)) 26 (nu)) 27 (1)) 28 ((pl : Int))) (va_up (va_up (va_up Ar 1 (nA t)) 14 (cI (m) v gv)) 15 (cI (m) w gw))) H locs := hH
            refine z_st (st' := []) rfl ?_
            refine z_aload_n hC 71 hl dX7_readLine_71 rfl 1 rfl ?_
            refine gmW_27 (x := 1) hC hH 72 rfl dX7_readLine_72 ?_
            refine z_if_ne_t hC 75 91 dX7_readLine_75 rfl (by omega) (by omega) ?_
            refine z_aload_n hC 91 hl dX7_readLine_91 rfl 1 rfl ?_
            refine z_same (z_runV hC hH.2.2 hl.1 hH.1 hH.2.1 0 (As := []) (rest := []) (m_X7_goOn_x lau s0 G _ ad (va_up (va_up (va_up (va_up (va_up (va_up (va_up (va_up (va_up (va_up (va_up (va_up (va_up F 16 ((m : Int))) 17 ((bk : Int))) 18 ((ti : Int))) 19 ((ln : Int))) 20 ((hb : Int))) 21 ((ht : Int))) 22 ((tn : Int))) 23 ((nx : Int))) 24 ((pl : Int))) 25 (st)) 26 (nu)) 27 (1)) 28 ((pl : Int))) (va_up (va_up (va_up Ar 1 (nA t)) 14 (cI (m) v gv)) 15 (cI (m) w gw)) 1 (by first | assumption | omega)) (lw_V q1609 q1611 qs51 q95 q1612) ⟨rfl, by decide, by decide, by decide +kernel⟩ (q0 := 0) (ci := 0) rfl rfl rfl rfl (Nat.le_of_ble_eq_true rfl) ⟨Nat.le_of_ble_eq_true rfl, Nat.le_of_ble_eq_true rfl⟩ ⟨Nat.le_of_ble_eq_true rfl, Nat.le_of_ble_eq_true rfl⟩ dX7_readLine_92) hH (fun _ H locs hpost hH => ?_)
            have hH : zH s0 s1 G as0 (mW ad G (va_up (va_up (va_up (va_up (va_up (va_up (va_up (va_up (va_up (va_up (va_up (va_up (va_up F 16 ((m : Int))) 17 ((bk : Int))) 18 ((ti : Int))) 19 ((ln : Int))) 20 ((hb : Int))) 21 ((ht : Int))) 22 ((tn : Int))) 23 ((nx : Int))) 24 ((pl : Int))) 25 (st)) 26 (nu)) 27 (1)) 28 ((pl : Int))) (va_up (va_up (va_up Ar 1 (nA t)) 14 (cI (m) v gv)) 15 (cI (m) w gw))) H locs := hH
            refine z_st (st' := []) rfl ?_
            refine z_aload_n hC 95 hl dX7_readLine_95 rfl 1 rfl ?_
            refine z_dup hC 96 dX7_readLine_96 rfl ?_
            refine gmW_19 (x := (ln : Int)) hC hH 97 rfl dX7_readLine_97 ?_
            refine z_iconst hC 100 dX7_readLine_100 ?_
            refine z_iadd (e := (ln : Int) + 1) hC 101 dX7_readLine_101 rfl ?_
            refine pmW_19 hC hH 102 dX7_readLine_102 (fun H locs hH => ?_)
            have hH : zH s0 s1 G as0 (mW ad G (va_up (va_up (va_up (va_up (va_up (va_up (va_up (va_up (va_up (va_up (va_up (va_up (va_up F 16 ((m : Int))) 17 ((bk : Int))) 18 ((ti : Int))) 19 ((ln : Int) + 1)) 20 ((hb : Int))) 21 ((ht : Int))) 22 ((tn : Int))) 23 ((nx : Int))) 24 ((pl : Int))) 25 (st)) 26 (nu)) 27 (1)) 28 ((pl : Int))) (va_up (va_up (va_up Ar 1 (nA t)) 14 (cI (m) v gv)) 15 (cI (m) w gw))) H locs := hH
            -- R105.2
            exact z_vret hC hH hQ 105 ((1, 0, pl, 0, nx, st, nu, (pl : Int), m, bk, ti, hb, ht, v, w)) dX7_readLine_105 rfl ⟨by exact OKE_1 (by decide) rfl (LN2_e (LN_x (by omega))), by (intro q; omega), by first | assumption | omega, by first | assumption | omega, by first | assumption | omega⟩ rfl (Nat.le_refl _) (Nat.le_refl _)
          · -- 56f
            refine z_aload_n hC 59 hl dX7_readLine_59 rfl 1 rfl ?_
            refine z_same (z_runV hC hH.2.2 hl.1 hH.1 hH.2.1 0 (As := []) (rest := []) (m_X7_readTies lau s0 G _ ad (va_up (va_up (va_up (va_up (va_up (va_up (va_up (va_up (va_up (va_up (va_up (va_up F 16 ((m : Int))) 17 ((bk : Int))) 18 ((ti : Int))) 19 ((ln : Int))) 20 ((hb : Int))) 21 ((ht : Int))) 22 ((tn : Int))) 23 ((nx : Int))) 24 ((pl : Int))) 25 (st)) 26 (nu)) 27 (0)) (va_up (va_up (va_up Ar 1 (nA t)) 14 (cI (m) v gv)) 15 (cI (m) w gw)) t tn lq lva pl nx ht (by first | assumption | omega) (by first | assumption | omega) (by first | assumption | omega) (by first | assumption | omega) (by first | assumption | omega) (by first | assumption | omega) (by first | assumption | omega)) (lw_V q1629 q1631 qs56 q95 q1632) ⟨rfl, by decide, by decide, by decide +kernel⟩ (q0 := 0) (ci := 0) rfl rfl rfl rfl (Nat.le_of_ble_eq_true rfl) ⟨Nat.le_of_ble_eq_true rfl, Nat.le_of_ble_eq_true rfl⟩ ⟨Nat.le_of_ble_eq_true rfl, Nat.le_of_ble_eq_true rfl⟩ dX7_readLine_60) hH (fun u_ H locs hpost hH => ?_)
            obtain ⟨fa_60, so2_60, pl2_60, vl2_60, nx2_60, st2_60, nu2_60, fp_60, ti2_60⟩ := u_
            obtain ⟨pr_60, pk_60, pf_60, pz_60⟩ : (OKE (TIr t tn pl nx ht) fa_60 fp_60 (ti2_60, so2_60, pl2_60, vl2_60, nx2_60)) ∧ (fa_60 = 0 → TKA tn so2_60 pl2_60 vl2_60 nx2_60 st2_60 nu2_60 ∧ nx ≤ pl2_60) ∧ (fa_60 ≤ 3) ∧ (ti2_60 ≤ 3) := hpost
            have hH : zH s0 s1 G as0 (mW ad G (va_up (va_up (va_up (va_up (va_up (va_up (va_up (va_up (va_up (va_up (va_up (va_up (va_up F 16 ((m : Int))) 17 ((bk : Int))) 18 ((ti2_60 : Int))) 19 ((ln : Int))) 20 ((hb : Int))) 21 (1)) 22 ((tn : Int))) 23 ((nx2_60 : Int))) 24 ((pl2_60 : Int))) 25 (st2_60)) 26 (nu2_60)) 27 ((fa_60 : Int))) 28 (fp_60)) (va_up (va_up (va_up Ar 1 (nA t)) 14 (cI (m) v gv)) 15 (cI (m) w gw))) H locs := hH
            refine z_st (st' := []) rfl ?_
            refine z_goto hC 63 71 dX7_readLine_63 rfl ?_
            refine z_aload_n hC 71 hl dX7_readLine_71 rfl 1 rfl ?_
            refine gmW_27 (x := (fa_60 : Int)) hC hH 72 rfl dX7_readLine_72 ?_
            refine z_if_ne hC 75 91 dX7_readLine_75 rfl (by omega) (fun hb6 => ?_) (fun hb6 => ?_)
            · -- 75t
              refine z_aload_n hC 91 hl dX7_readLine_91 rfl 1 rfl ?_
              refine z_same (z_runV hC hH.2.2 hl.1 hH.1 hH.2.1 0 (As := []) (rest := []) (m_X7_goOn_x lau s0 G _ ad (va_up (va_up (va_up (va_up (va_up (va_up (va_up (va_up (va_up (va_up (va_up (va_up (va_up F 16 ((m : Int))) 17 ((bk : Int))) 18 ((ti2_60 : Int))) 19 ((ln : Int))) 20 ((hb : Int))) 21 (1)) 22 ((tn : Int))) 23 ((nx2_60 : Int))) 24 ((pl2_60 : Int))) 25 (st2_60)) 26 (nu2_60)) 27 ((fa_60 : Int))) 28 (fp_60)) (va_up (va_up (va_up Ar 1 (nA t)) 14 (cI (m) v gv)) 15 (cI (m) w gw)) fa_60 (by first | assumption | omega)) (lw_V q1609 q1611 qs51 q95 q1612) ⟨rfl, by decide, by decide, by decide +kernel⟩ (q0 := 0) (ci := 0) rfl rfl rfl rfl (Nat.le_of_ble_eq_true rfl) ⟨Nat.le_of_ble_eq_true rfl, Nat.le_of_ble_eq_true rfl⟩ ⟨Nat.le_of_ble_eq_true rfl, Nat.le_of_ble_eq_true rfl⟩ dX7_readLine_92) hH (fun _ H locs hpost hH => ?_)
              have hH : zH s0 s1 G as0 (mW ad G (va_up (va_up (va_up (va_up (va_up (va_up (va_up (va_up (va_up (va_up (va_up (va_up (va_up F 16 ((m : Int))) 17 ((bk : Int))) 18 ((ti2_60 : Int))) 19 ((ln : Int))) 20 ((hb : Int))) 21 (1)) 22 ((tn : Int))) 23 ((nx2_60 : Int))) 24 ((pl2_60 : Int))) 25 (st2_60)) 26 (nu2_60)) 27 ((fa_60 : Int))) 28 (fp_60)) (va_up (va_up (va_up Ar 1 (nA t)) 14 (cI (m) v gv)) 15 (cI (m) w gw))) H locs := hH
              refine z_st (st' := []) rfl ?_
              refine z_aload_n hC 95 hl dX7_readLine_95 rfl 1 rfl ?_
              refine z_dup hC 96 dX7_readLine_96 rfl ?_
              refine gmW_19 (x := (ln : Int)) hC hH 97 rfl dX7_readLine_97 ?_
              refine z_iconst hC 100 dX7_readLine_100 ?_
              refine z_iadd (e := (ln : Int) + 1) hC 101 dX7_readLine_101 rfl ?_
              refine pmW_19 hC hH 102 dX7_readLine_102 (fun H locs hH => ?_)
              have hH : zH s0 s1 G as0 (mW ad G (va_up (va_up (va_up (va_up (va_up (va_up (va_up (va_up (va_up (va_up (va_up (va_up (va_up F 16 ((m : Int))) 17 ((bk : Int))) 18 ((ti2_60 : Int))) 19 ((ln : Int) + 1)) 20 ((hb : Int))) 21 (1)) 22 ((tn : Int))) 23 ((nx2_60 : Int))) 24 ((pl2_60 : Int))) 25 (st2_60)) 26 (nu2_60)) 27 ((fa_60 : Int))) 28 (fp_60)) (va_up (va_up (va_up Ar 1 (nA t)) 14 (cI (m) v gv)) 15 (cI (m) w gw))) H locs := hH
              -- R105.3
              exact z_vret hC hH hQ 105 ((fa_60, 0, pl2_60, 0, nx2_60, st2_60, nu2_60, fp_60, m, bk, ti2_60, hb, 1, v, w)) dX7_readLine_105 rfl ⟨by (obtain ⟨fq9, e9, hq9⟩ := OKE_er pr_60 (by omega); exact OKE_1 (by omega) e9 (LN2_e (LN_te (by omega) (by omega) hq9))), by (intro q; omega), by first | assumption | omega, by first | assumption | omega, by first | assumption | omega⟩ rfl (Nat.le_refl _) (Nat.le_refl _)
            · -- 75f
              first | have hk9 := pk_22 (by omega) | have hk9 := pk_34 (by omega) | have hk9 := pk_47 (by omega) | have hk9 := pk_60 (by omega)
              have hk8 := hk9.1.1
              unfold TSO at hk8
              refine z_aload_n hC 78 hl dX7_readLine_78 rfl 1 rfl ?_
              refine gmW_25 (x := st2_60) hC hH 79 rfl dX7_readLine_79 ?_
              refine z_iconst hC 82 dX7_readLine_82 ?_
              refine z_icmp_eq hC 83 91 dX7_readLine_83 rfl (by omega) (by omega) (fun hb7 => ?_) (fun hb7 => ?_)
              · -- 83t
                refine z_aload_n hC 91 hl dX7_readLine_91 rfl 1 rfl ?_
                rw [show ((fa_60 : Int) : Int) = 0 from by omega] at hH
                have hH : zH s0 s1 G as0 (mW ad G (va_up (va_up (va_up (va_up (va_up (va_up (va_up (va_up (va_up (va_up (va_up (va_up (va_up F 16 ((m : Int))) 17 ((bk : Int))) 18 ((ti2_60 : Int))) 19 ((ln : Int))) 20 ((hb : Int))) 21 (1)) 22 ((tn : Int))) 23 ((nx2_60 : Int))) 24 ((pl2_60 : Int))) 25 (st2_60)) 26 (nu2_60)) 27 (0)) 28 (fp_60)) (va_up (va_up (va_up Ar 1 (nA t)) 14 (cI (m) v gv)) 15 (cI (m) w gw))) H locs := hH
                refine z_same (z_runV hC hH.2.2 hl.1 hH.1 hH.2.1 0 (As := []) (rest := []) (m_X7_goOn lau s0 G _ ad (va_up (va_up (va_up (va_up (va_up (va_up (va_up (va_up (va_up (va_up (va_up (va_up (va_up F 16 ((m : Int))) 17 ((bk : Int))) 18 ((ti2_60 : Int))) 19 ((ln : Int))) 20 ((hb : Int))) 21 (1)) 22 ((tn : Int))) 23 ((nx2_60 : Int))) 24 ((pl2_60 : Int))) 25 (st2_60)) 26 (nu2_60)) 27 (0)) 28 (fp_60)) (va_up (va_up (va_up Ar 1 (nA t)) 14 (cI (m) v gv)) 15 (cI (m) w gw)) t tn lq lva nx2_60 (by first | assumption | omega) (by first | assumption | omega) (by first | assumption | omega) (by first | assumption | omega) (by first | assumption | omega) (by (have h7 := hk9.1.2.2; omega))) (lw_V q1609 q1611 qs51 q95 q1612) ⟨rfl, by decide, by decide, by decide +kernel⟩ (q0 := 0) (ci := 0) rfl rfl rfl rfl (Nat.le_of_ble_eq_true rfl) ⟨Nat.le_of_ble_eq_true rfl, Nat.le_of_ble_eq_true rfl⟩ ⟨Nat.le_of_ble_eq_true rfl, Nat.le_of_ble_eq_true rfl⟩ dX7_readLine_92) hH (fun u_ H locs hpost hH => ?_)
                obtain ⟨so_92, pl_92, vl_92, nx_92, st_92, nu_92⟩ := u_
                obtain ⟨pT_92, pA_92, pB_92⟩ : (TOK t tn nx2_60 so_92 pl_92 vl_92 nx_92) ∧ (TKA tn so_92 pl_92 vl_92 nx_92 st_92 nu_92) ∧ (nx2_60 ≤ pl_92) := hpost
                have hH : zH s0 s1 G as0 (mW ad G (va_up (va_up (va_up (va_up (va_up (va_up (va_up (va_up (va_up (va_up (va_up (va_up (va_up F 16 ((m : Int))) 17 ((bk : Int))) 18 ((ti2_60 : Int))) 19 ((ln : Int))) 20 ((hb : Int))) 21 (1)) 22 ((tn : Int))) 23 ((nx_92 : Int))) 24 ((pl_92 : Int))) 25 (st_92)) 26 (nu_92)) 27 (0)) 28 (fp_60)) (va_up (va_up (va_up Ar 1 (nA t)) 14 (cI (m) v gv)) 15 (cI (m) w gw))) H locs := hH
                refine z_st (st' := []) rfl ?_
                refine z_aload_n hC 95 hl dX7_readLine_95 rfl 1 rfl ?_
                refine z_dup hC 96 dX7_readLine_96 rfl ?_
                refine gmW_19 (x := (ln : Int)) hC hH 97 rfl dX7_readLine_97 ?_
                refine z_iconst hC 100 dX7_readLine_100 ?_
                refine z_iadd (e := (ln : Int) + 1) hC 101 dX7_readLine_101 rfl ?_
                refine pmW_19 hC hH 102 dX7_readLine_102 (fun H locs hH => ?_)
                have hH : zH s0 s1 G as0 (mW ad G (va_up (va_up (va_up (va_up (va_up (va_up (va_up (va_up (va_up (va_up (va_up (va_up (va_up F 16 ((m : Int))) 17 ((bk : Int))) 18 ((ti2_60 : Int))) 19 ((ln : Int) + 1)) 20 ((hb : Int))) 21 (1)) 22 ((tn : Int))) 23 ((nx_92 : Int))) 24 ((pl_92 : Int))) 25 (st_92)) 26 (nu_92)) 27 (0)) 28 (fp_60)) (va_up (va_up (va_up Ar 1 (nA t)) 14 (cI (m) v gv)) 15 (cI (m) w gw))) H locs := hH
                -- R105.4
                exact z_vret hC hH hQ 105 ((0, so_92, pl_92, vl_92, nx_92, st_92, nu_92, fp_60, m, bk, ti2_60, hb, 1, v, w)) dX7_readLine_105 rfl ⟨by (have hq9 := OKE_ok pr_60 (by omega); exact OKE_0 rfl (LN2_o (LN_t (by omega) (by omega) hq9) (by omega) pT_92)), by (intro q; have h7 := hk9.1.2.2; exact ⟨pA_92, by omega⟩), by first | assumption | omega, by first | assumption | omega, by first | assumption | omega⟩ rfl (Nat.le_refl _) (Nat.le_refl _)
              · -- 83f
                refine z_aload_n hC 86 hl dX7_readLine_86 rfl 1 rfl ?_
                refine z_iconst hC 87 dX7_readLine_87 ?_
                refine z_st (st' := [.int (iZ (((1 : Nat) : Int))), .ref (ad 0)]) (zcons (zieq (by omega)) rfl) ?_
                rw [show ((fa_60 : Int) : Int) = 0 from by omega] at hH
                have hH : zH s0 s1 G as0 (mW ad G (va_up (va_up (va_up (va_up (va_up (va_up (va_up (va_up (va_up (va_up (va_up (va_up (va_up F 16 ((m : Int))) 17 ((bk : Int))) 18 ((ti2_60 : Int))) 19 ((ln : Int))) 20 ((hb : Int))) 21 (1)) 22 ((tn : Int))) 23 ((nx2_60 : Int))) 24 ((pl2_60 : Int))) 25 (st2_60)) 26 (nu2_60)) 27 (0)) 28 (fp_60)) (va_up (va_up (va_up Ar 1 (nA t)) 14 (cI (m) v gv)) 15 (cI (m) w gw))) H locs := hH
                refine z_same (z_runV hC hH.2.2 hl.1 hH.1 hH.2.1 1 (As := [.int (iZ (((1 : Nat) : Int)))]) (rest := []) (m_X7_wrong lau s0 G _ ad (va_up (va_up (va_up (va_up (va_up (va_up (va_up (va_up (va_up (va_up (va_up (va_up (va_up F 16 ((m : Int))) 17 ((bk : Int))) 18 ((ti2_60 : Int))) 19 ((ln : Int))) 20 ((hb : Int))) 21 (1)) 22 ((tn : Int))) 23 ((nx2_60 : Int))) 24 ((pl2_60 : Int))) 25 (st2_60)) 26 (nu2_60)) 27 (0)) 28 (fp_60)) (va_up (va_up (va_up Ar 1 (nA t)) 14 (cI (m) v gv)) 15 (cI (m) w gw)) 1 pl2_60 (by first | assumption | omega)) (lw_V q1613 q1615 qs52 q95 q1616) ⟨rfl, by decide, by decide, by decide +kernel⟩ (q0 := 0) (ci := 0) rfl rfl rfl rfl (Nat.le_of_ble_eq_true rfl) ⟨Nat.le_of_ble_eq_true rfl, Nat.le_of_ble_eq_true rfl⟩ ⟨Nat.le_of_ble_eq_true rfl, Nat.le_of_ble_eq_true rfl⟩ dX7_readLine_88) hH (fun _ H locs hpost hH => ?_)
                have hH : zH s0 s1 G as0 (mW ad G (va_up (va_up (va_up (va_up (va_up (va_up (va_up (va_up (va_up (va_up (va_up (va_up (va_up F 16 ((m : Int))) 17 ((bk : Int))) 18 ((ti2_60 : Int))) 19 ((ln : Int))) 20 ((hb : Int))) 21 (1)) 22 ((tn : Int))) 23 ((nx2_60 : Int))) 24 ((pl2_60 : Int))) 25 (st2_60)) 26 (nu2_60)) 27 (1)) 28 ((pl2_60 : Int))) (va_up (va_up (va_up Ar 1 (nA t)) 14 (cI (m) v gv)) 15 (cI (m) w gw))) H locs := hH
                refine z_st (st' := []) rfl ?_
                refine z_aload_n hC 91 hl dX7_readLine_91 rfl 1 rfl ?_
                refine z_same (z_runV hC hH.2.2 hl.1 hH.1 hH.2.1 0 (As := []) (rest := []) (m_X7_goOn_x lau s0 G _ ad (va_up (va_up (va_up (va_up (va_up (va_up (va_up (va_up (va_up (va_up (va_up (va_up (va_up F 16 ((m : Int))) 17 ((bk : Int))) 18 ((ti2_60 : Int))) 19 ((ln : Int))) 20 ((hb : Int))) 21 (1)) 22 ((tn : Int))) 23 ((nx2_60 : Int))) 24 ((pl2_60 : Int))) 25 (st2_60)) 26 (nu2_60)) 27 (1)) 28 ((pl2_60 : Int))) (va_up (va_up (va_up Ar 1 (nA t)) 14 (cI (m) v gv)) 15 (cI (m) w gw)) 1 (by first | assumption | omega)) (lw_V q1609 q1611 qs51 q95 q1612) ⟨rfl, by decide, by decide, by decide +kernel⟩ (q0 := 0) (ci := 0) rfl rfl rfl rfl (Nat.le_of_ble_eq_true rfl) ⟨Nat.le_of_ble_eq_true rfl, Nat.le_of_ble_eq_true rfl⟩ ⟨Nat.le_of_ble_eq_true rfl, Nat.le_of_ble_eq_true rfl⟩ dX7_readLine_92) hH (fun _ H locs hpost hH => ?_)
                have hH : zH s0 s1 G as0 (mW ad G (va_up (va_up (va_up (va_up (va_up (va_up (va_up (va_up (va_up (va_up (va_up (va_up (va_up F 16 ((m : Int))) 17 ((bk : Int))) 18 ((ti2_60 : Int))) 19 ((ln : Int))) 20 ((hb : Int))) 21 (1)) 22 ((tn : Int))) 23 ((nx2_60 : Int))) 24 ((pl2_60 : Int))) 25 (st2_60)) 26 (nu2_60)) 27 (1)) 28 ((pl2_60 : Int))) (va_up (va_up (va_up Ar 1 (nA t)) 14 (cI (m) v gv)) 15 (cI (m) w gw))) H locs := hH
                refine z_st (st' := []) rfl ?_
                refine z_aload_n hC 95 hl dX7_readLine_95 rfl 1 rfl ?_
                refine z_dup hC 96 dX7_readLine_96 rfl ?_
                refine gmW_19 (x := (ln : Int)) hC hH 97 rfl dX7_readLine_97 ?_
                refine z_iconst hC 100 dX7_readLine_100 ?_
                refine z_iadd (e := (ln : Int) + 1) hC 101 dX7_readLine_101 rfl ?_
                refine pmW_19 hC hH 102 dX7_readLine_102 (fun H locs hH => ?_)
                have hH : zH s0 s1 G as0 (mW ad G (va_up (va_up (va_up (va_up (va_up (va_up (va_up (va_up (va_up (va_up (va_up (va_up (va_up F 16 ((m : Int))) 17 ((bk : Int))) 18 ((ti2_60 : Int))) 19 ((ln : Int) + 1)) 20 ((hb : Int))) 21 (1)) 22 ((tn : Int))) 23 ((nx2_60 : Int))) 24 ((pl2_60 : Int))) 25 (st2_60)) 26 (nu2_60)) 27 (1)) 28 ((pl2_60 : Int))) (va_up (va_up (va_up Ar 1 (nA t)) 14 (cI (m) v gv)) 15 (cI (m) w gw))) H locs := hH
                -- R105.5
                exact z_vret hC hH hQ 105 ((1, 0, pl2_60, 0, nx2_60, st2_60, nu2_60, (pl2_60 : Int), m, bk, ti2_60, hb, 1, v, w)) dX7_readLine_105 rfl ⟨by (have hq9 := OKE_ok pr_60 (by omega); exact OKE_1 (by decide) rfl (LN2_1 (LN_t (by omega) (by omega) hq9) (by omega))), by (intro q; omega), by first | assumption | omega, by first | assumption | omega, by first | assumption | omega⟩ rfl (Nat.le_refl _) (Nat.le_refl _)
        · -- 43f
          refine z_aload_n hC 46 hl dX7_readLine_46 rfl 1 rfl ?_
          refine z_same (z_runV hC hH.2.2 hl.1 hH.1 hH.2.1 0 (As := []) (rest := []) (m_X7_readBlock lau s0 G _ ad (va_up (va_up (va_up (va_up (va_up (va_up (va_up (va_up (va_up (va_up (va_up (va_up F 16 ((m : Int))) 17 ((bk : Int))) 18 ((ti : Int))) 19 ((ln : Int))) 20 ((hb : Int))) 21 ((ht : Int))) 22 ((tn : Int))) 23 ((nx : Int))) 24 ((pl : Int))) 25 (st)) 26 (nu)) 27 (0)) (va_up (va_up (va_up Ar 1 (nA t)) 14 (cI (m) v gv)) 15 (cI (m) w gw)) t tn lq lva pl nx hb (by first | assumption | omega) (by first | assumption | omega) (by first | assumption | omega) (by first | assumption | omega) (by first | assumption | omega) (by first | assumption | omega) (by first | assumption | omega)) (lw_V q1625 q1627 qs55 q95 q1628) ⟨rfl, by decide, by decide, by decide +kernel⟩ (q0 := 0) (ci := 0) rfl rfl rfl rfl (Nat.le_of_ble_eq_true rfl) ⟨Nat.le_of_ble_eq_true rfl, Nat.le_of_ble_eq_true rfl⟩ ⟨Nat.le_of_ble_eq_true rfl, Nat.le_of_ble_eq_true rfl⟩ dX7_readLine_47) hH (fun u_ H locs hpost hH => ?_)
          obtain ⟨fa_47, so2_47, pl2_47, vl2_47, nx2_47, st2_47, nu2_47, fp_47, bl2_47⟩ := u_
          obtain ⟨pr_47, pk_47, pf_47, pz_47⟩ : (OKE (BLr t tn pl nx hb) fa_47 fp_47 (bl2_47, so2_47, pl2_47, vl2_47, nx2_47)) ∧ (fa_47 = 0 → TKA tn so2_47 pl2_47 vl2_47 nx2_47 st2_47 nu2_47 ∧ nx ≤ pl2_47) ∧ (fa_47 ≤ 3) ∧ (bl2_47 ≤ 20) := hpost
          have hH : zH s0 s1 G as0 (mW ad G (va_up (va_up (va_up (va_up (va_up (va_up (va_up (va_up (va_up (va_up (va_up (va_up (va_up F 16 ((m : Int))) 17 ((bl2_47 : Int))) 18 ((ti : Int))) 19 ((ln : Int))) 20 (1)) 21 ((ht : Int))) 22 ((tn : Int))) 23 ((nx2_47 : Int))) 24 ((pl2_47 : Int))) 25 (st2_47)) 26 (nu2_47)) 27 ((fa_47 : Int))) 28 (fp_47)) (va_up (va_up (va_up Ar 1 (nA t)) 14 (cI (m) v gv)) 15 (cI (m) w gw))) H locs := hH
          refine z_st (st' := []) rfl ?_
          refine z_goto hC 50 71 dX7_readLine_50 rfl ?_
          refine z_aload_n hC 71 hl dX7_readLine_71 rfl 1 rfl ?_
          refine gmW_27 (x := (fa_47 : Int)) hC hH 72 rfl dX7_readLine_72 ?_
          refine z_if_ne hC 75 91 dX7_readLine_75 rfl (by omega) (fun hb8 => ?_) (fun hb8 => ?_)
          · -- 75t
            refine z_aload_n hC 91 hl dX7_readLine_91 rfl 1 rfl ?_
            refine z_same (z_runV hC hH.2.2 hl.1 hH.1 hH.2.1 0 (As := []) (rest := []) (m_X7_goOn_x lau s0 G _ ad (va_up (va_up (va_up (va_up (va_up (va_up (va_up (va_up (va_up (va_up (va_up (va_up (va_up F 16 ((m : Int))) 17 ((bl2_47 : Int))) 18 ((ti : Int))) 19 ((ln : Int))) 20 (1)) 21 ((ht : Int))) 22 ((tn : Int))) 23 ((nx2_47 : Int))) 24 ((pl2_47 : Int))) 25 (st2_47)) 26 (nu2_47)) 27 ((fa_47 : Int))) 28 (fp_47)) (va_up (va_up (va_up Ar 1 (nA t)) 14 (cI (m) v gv)) 15 (cI (m) w gw)) fa_47 (by first | assumption | omega)) (lw_V q1609 q1611 qs51 q95 q1612) ⟨rfl, by decide, by decide, by decide +kernel⟩ (q0 := 0) (ci := 0) rfl rfl rfl rfl (Nat.le_of_ble_eq_true rfl) ⟨Nat.le_of_ble_eq_true rfl, Nat.le_of_ble_eq_true rfl⟩ ⟨Nat.le_of_ble_eq_true rfl, Nat.le_of_ble_eq_true rfl⟩ dX7_readLine_92) hH (fun _ H locs hpost hH => ?_)
            have hH : zH s0 s1 G as0 (mW ad G (va_up (va_up (va_up (va_up (va_up (va_up (va_up (va_up (va_up (va_up (va_up (va_up (va_up F 16 ((m : Int))) 17 ((bl2_47 : Int))) 18 ((ti : Int))) 19 ((ln : Int))) 20 (1)) 21 ((ht : Int))) 22 ((tn : Int))) 23 ((nx2_47 : Int))) 24 ((pl2_47 : Int))) 25 (st2_47)) 26 (nu2_47)) 27 ((fa_47 : Int))) 28 (fp_47)) (va_up (va_up (va_up Ar 1 (nA t)) 14 (cI (m) v gv)) 15 (cI (m) w gw))) H locs := hH
            refine z_st (st' := []) rfl ?_
            refine z_aload_n hC 95 hl dX7_readLine_95 rfl 1 rfl ?_
            refine z_dup hC 96 dX7_readLine_96 rfl ?_
            refine gmW_19 (x := (ln : Int)) hC hH 97 rfl dX7_readLine_97 ?_
            refine z_iconst hC 100 dX7_readLine_100 ?_
            refine z_iadd (e := (ln : Int) + 1) hC 101 dX7_readLine_101 rfl ?_
            refine pmW_19 hC hH 102 dX7_readLine_102 (fun H locs hH => ?_)
            have hH : zH s0 s1 G as0 (mW ad G (va_up (va_up (va_up (va_up (va_up (va_up (va_up (va_up (va_up (va_up (va_up (va_up (va_up F 16 ((m : Int))) 17 ((bl2_47 : Int))) 18 ((ti : Int))) 19 ((ln : Int) + 1)) 20 (1)) 21 ((ht : Int))) 22 ((tn : Int))) 23 ((nx2_47 : Int))) 24 ((pl2_47 : Int))) 25 (st2_47)) 26 (nu2_47)) 27 ((fa_47 : Int))) 28 (fp_47)) (va_up (va_up (va_up Ar 1 (nA t)) 14 (cI (m) v gv)) 15 (cI (m) w gw))) H locs := hH
            -- R105.6
            exact z_vret hC hH hQ 105 ((fa_47, 0, pl2_47, 0, nx2_47, st2_47, nu2_47, fp_47, m, bl2_47, ti, 1, ht, v, w)) dX7_readLine_105 rfl ⟨by (obtain ⟨fq9, e9, hq9⟩ := OKE_er pr_47 (by omega); exact OKE_1 (by omega) e9 (LN2_e (LN_be (by omega) (by omega) hq9))), by (intro q; omega), by first | assumption | omega, by first | assumption | omega, by first | assumption | omega⟩ rfl (Nat.le_refl _) (Nat.le_refl _)
          · -- 75f
            first | have hk9 := pk_22 (by omega) | have hk9 := pk_34 (by omega) | have hk9 := pk_47 (by omega) | have hk9 := pk_60 (by omega)
            have hk8 := hk9.1.1
            unfold TSO at hk8
            refine z_aload_n hC 78 hl dX7_readLine_78 rfl 1 rfl ?_
            refine gmW_25 (x := st2_47) hC hH 79 rfl dX7_readLine_79 ?_
            refine z_iconst hC 82 dX7_readLine_82 ?_
            refine z_icmp_eq hC 83 91 dX7_readLine_83 rfl (by omega) (by omega) (fun hb9 => ?_) (fun hb9 => ?_)
            · -- 83t
              refine z_aload_n hC 91 hl dX7_readLine_91 rfl 1 rfl ?_
              rw [show ((fa_47 : Int) : Int) = 0 from by omega] at hH
              have hH : zH s0 s1 G as0 (mW ad G (va_up (va_up (va_up (va_up (va_up (va_up (va_up (va_up (va_up (va_up (va_up (va_up (va_up F 16 ((m : Int))) 17 ((bl2_47 : Int))) 18 ((ti : Int))) 19 ((ln : Int))) 20 (1)) 21 ((ht : Int))) 22 ((tn : Int))) 23 ((nx2_47 : Int))) 24 ((pl2_47 : Int))) 25 (st2_47)) 26 (nu2_47)) 27 (0)) 28 (fp_47)) (va_up (va_up (va_up Ar 1 (nA t)) 14 (cI (m) v gv)) 15 (cI (m) w gw))) H locs := hH
              refine z_same (z_runV hC hH.2.2 hl.1 hH.1 hH.2.1 0 (As := []) (rest := []) (m_X7_goOn lau s0 G _ ad (va_up (va_up (va_up (va_up (va_up (va_up (va_up (va_up (va_up (va_up (va_up (va_up (va_up F 16 ((m : Int))) 17 ((bl2_47 : Int))) 18 ((ti : Int))) 19 ((ln : Int))) 20 (1)) 21 ((ht : Int))) 22 ((tn : Int))) 23 ((nx2_47 : Int))) 24 ((pl2_47 : Int))) 25 (st2_47)) 26 (nu2_47)) 27 (0)) 28 (fp_47)) (va_up (va_up (va_up Ar 1 (nA t)) 14 (cI (m) v gv)) 15 (cI (m) w gw)) t tn lq lva nx2_47 (by first | assumption | omega) (by first | assumption | omega) (by first | assumption | omega) (by first | assumption | omega) (by first | assumption | omega) (by (have h7 := hk9.1.2.2; omega))) (lw_V q1609 q1611 qs51 q95 q1612) ⟨rfl, by decide, by decide, by decide +kernel⟩ (q0 := 0) (ci := 0) rfl rfl rfl rfl (Nat.le_of_ble_eq_true rfl) ⟨Nat.le_of_ble_eq_true rfl, Nat.le_of_ble_eq_true rfl⟩ ⟨Nat.le_of_ble_eq_true rfl, Nat.le_of_ble_eq_true rfl⟩ dX7_readLine_92) hH (fun u_ H locs hpost hH => ?_)
              obtain ⟨so_10, pl_11, vl_12, nx_13, st_14, nu_15⟩ := u_
              obtain ⟨pT_92, pA_92, pB_92⟩ : (TOK t tn nx2_47 so_10 pl_11 vl_12 nx_13) ∧ (TKA tn so_10 pl_11 vl_12 nx_13 st_14 nu_15) ∧ (nx2_47 ≤ pl_11) := hpost
              have hH : zH s0 s1 G as0 (mW ad G (va_up (va_up (va_up (va_up (va_up (va_up (va_up (va_up (va_up (va_up (va_up (va_up (va_up F 16 ((m : Int))) 17 ((bl2_47 : Int))) 18 ((ti : Int))) 19 ((ln : Int))) 20 (1)) 21 ((ht : Int))) 22 ((tn : Int))) 23 ((nx_13 : Int))) 24 ((pl_11 : Int))) 25 (st_14)) 26 (nu_15)) 27 (0)) 28 (fp_47)) (va_up (va_up (va_up Ar 1 (nA t)) 14 (cI (m) v gv)) 15 (cI (m) w gw))) H locs := hH
              refine z_st (st' := []) rfl ?_
              refine z_aload_n hC 95 hl dX7_readLine_95 rfl 1 rfl ?_
              refine z_dup hC 96 dX7_readLine_96 rfl ?_
              refine gmW_19 (x := (ln : Int)) hC hH 97 rfl dX7_readLine_97 ?_
              refine z_iconst hC 100 dX7_readLine_100 ?_
              refine z_iadd (e := (ln : Int) + 1) hC 101 dX7_readLine_101 rfl ?_
              refine pmW_19 hC hH 102 dX7_readLine_102 (fun H locs hH => ?_)
              have hH : zH s0 s1 G as0 (mW ad G (va_up (va_up (va_up (va_up (va_up (va_up (va_up (va_up (va_up (va_up (va_up (va_up (va_up F 16 ((m : Int))) 17 ((bl2_47 : Int))) 18 ((ti : Int))) 19 ((ln : Int) + 1)) 20 (1)) 21 ((ht : Int))) 22 ((tn : Int))) 23 ((nx_13 : Int))) 24 ((pl_11 : Int))) 25 (st_14)) 26 (nu_15)) 27 (0)) 28 (fp_47)) (va_up (va_up (va_up Ar 1 (nA t)) 14 (cI (m) v gv)) 15 (cI (m) w gw))) H locs := hH
              -- R105.7
              exact z_vret hC hH hQ 105 ((0, so_10, pl_11, vl_12, nx_13, st_14, nu_15, fp_47, m, bl2_47, ti, 1, ht, v, w)) dX7_readLine_105 rfl ⟨by (have hq9 := OKE_ok pr_47 (by omega); exact OKE_0 rfl (LN2_o (LN_b (by omega) (by omega) hq9) (by omega) pT_92)), by (intro q; have h7 := hk9.1.2.2; exact ⟨pA_92, by omega⟩), by first | assumption | omega, by first | assumption | omega, by first | assumption | omega⟩ rfl (Nat.le_refl _) (Nat.le_refl _)
            · -- 83f
              refine z_aload_n hC 86 hl dX7_readLine_86 rfl 1 rfl ?_
              refine z_iconst hC 87 dX7_readLine_87 ?_
              refine z_st (st' := [.int (iZ (((1 : Nat) : Int))), .ref (ad 0)]) (zcons (zieq (by omega)) rfl) ?_
              rw [show ((fa_47 : Int) : Int) = 0 from by omega] at hH
              have hH : zH s0 s1 G as0 (mW ad G (va_up (va_up (va_up (va_up (va_up (va_up (va_up (va_up (va_up (va_up (va_up (va_up (va_up F 16 ((m : Int))) 17 ((bl2_47 : Int))) 18 ((ti : Int))) 19 ((ln : Int))) 20 (1)) 21 ((ht : Int))) 22 ((tn : Int))) 23 ((nx2_47 : Int))) 24 ((pl2_47 : Int))) 25 (st2_47)) 26 (nu2_47)) 27 (0)) 28 (fp_47)) (va_up (va_up (va_up Ar 1 (nA t)) 14 (cI (m) v gv)) 15 (cI (m) w gw))) H locs := hH
              refine z_same (z_runV hC hH.2.2 hl.1 hH.1 hH.2.1 1 (As := [.int (iZ (((1 : Nat) : Int)))]) (rest := []) (m_X7_wrong lau s0 G _ ad (va_up (va_up (va_up (va_up (va_up (va_up (va_up (va_up (va_up (va_up (va_up (va_up (va_up F 16 ((m : Int))) 17 ((bl2_47 : Int))) 18 ((ti : Int))) 19 ((ln : Int))) 20 (1)) 21 ((ht : Int))) 22 ((tn : Int))) 23 ((nx2_47 : Int))) 24 ((pl2_47 : Int))) 25 (st2_47)) 26 (nu2_47)) 27 (0)) 28 (fp_47)) (va_up (va_up (va_up Ar 1 (nA t)) 14 (cI (m) v gv)) 15 (cI (m) w gw)) 1 pl2_47 (by first | assumption | omega)) (lw_V q1613 q1615 qs52 q95 q1616) ⟨rfl, by decide, by decide, by decide +kernel⟩ (q0 := 0) (ci := 0) rfl rfl rfl rfl (Nat.le_of_ble_eq_true rfl) ⟨Nat.le_of_ble_eq_true rfl, Nat.le_of_ble_eq_true rfl⟩ ⟨Nat.le_of_ble_eq_true rfl, Nat.le_of_ble_eq_true rfl⟩ dX7_readLine_88) hH (fun _ H locs hpost hH => ?_)
              have hH : zH s0 s1 G as0 (mW ad G (va_up (va_up (va_up (va_up (va_up (va_up (va_up (va_up (va_up (va_up (va_up (va_up (va_up F 16 ((m : Int))) 17 ((bl2_47 : Int))) 18 ((ti : Int))) 19 ((ln : Int))) 20 (1)) 21 ((ht : Int))) 22 ((tn : Int))) 23 ((nx2_47 : Int))) 24 ((pl2_47 : Int))) 25 (st2_47)) 26 (nu2_47)) 27 (1)) 28 ((pl2_47 : Int))) (va_up (va_up (va_up Ar 1 (nA t)) 14 (cI (m) v gv)) 15 (cI (m) w gw))) H locs := hH
              refine z_st (st' := []) rfl ?_
              refine z_aload_n hC 91 hl dX7_readLine_91 rfl 1 rfl ?_
              refine z_same (z_runV hC hH.2.2 hl.1 hH.1 hH.2.1 0 (As := []) (rest := []) (m_X7_goOn_x lau s0 G _ ad (va_up (va_up (va_up (va_up (va_up (va_up (va_up (va_up (va_up (va_up (va_up (va_up (va_up F 16 ((m : Int))) 17 ((bl2_47 : Int))) 18 ((ti : Int))) 19 ((ln : Int))) 20 (1)) 21 ((ht : Int))) 22 ((tn : Int))) 23 ((nx2_47 : Int))) 24 ((pl2_47 : Int))) 25 (st2_47)) 26 (nu2_47)) 27 (1)) 28 ((pl2_47 : Int))) (va_up (va_up (va_up Ar 1 (nA t)) 14 (cI (m) v gv)) 15 (cI (m) w gw)) 1 (by first | assumption | omega)) (lw_V q1609 q1611 qs51 q95 q1612) ⟨rfl, by decide, by decide, by decide +kernel⟩ (q0 := 0) (ci := 0) rfl rfl rfl rfl (Nat.le_of_ble_eq_true rfl) ⟨Nat.le_of_ble_eq_true rfl, Nat.le_of_ble_eq_true rfl⟩ ⟨Nat.le_of_ble_eq_true rfl, Nat.le_of_ble_eq_true rfl⟩ dX7_readLine_92) hH (fun _ H locs hpost hH => ?_)
              have hH : zH s0 s1 G as0 (mW ad G (va_up (va_up (va_up (va_up (va_up (va_up (va_up (va_up (va_up (va_up (va_up (va_up (va_up F 16 ((m : Int))) 17 ((bl2_47 : Int))) 18 ((ti : Int))) 19 ((ln : Int))) 20 (1)) 21 ((ht : Int))) 22 ((tn : Int))) 23 ((nx2_47 : Int))) 24 ((pl2_47 : Int))) 25 (st2_47)) 26 (nu2_47)) 27 (1)) 28 ((pl2_47 : Int))) (va_up (va_up (va_up Ar 1 (nA t)) 14 (cI (m) v gv)) 15 (cI (m) w gw))) H locs := hH
              refine z_st (st' := []) rfl ?_
              refine z_aload_n hC 95 hl dX7_readLine_95 rfl 1 rfl ?_
              refine z_dup hC 96 dX7_readLine_96 rfl ?_
              refine gmW_19 (x := (ln : Int)) hC hH 97 rfl dX7_readLine_97 ?_
              refine z_iconst hC 100 dX7_readLine_100 ?_
              refine z_iadd (e := (ln : Int) + 1) hC 101 dX7_readLine_101 rfl ?_
              refine pmW_19 hC hH 102 dX7_readLine_102 (fun H locs hH => ?_)
              have hH : zH s0 s1 G as0 (mW ad G (va_up (va_up (va_up (va_up (va_up (va_up (va_up (va_up (va_up (va_up (va_up (va_up (va_up F 16 ((m : Int))) 17 ((bl2_47 : Int))) 18 ((ti : Int))) 19 ((ln : Int) + 1)) 20 (1)) 21 ((ht : Int))) 22 ((tn : Int))) 23 ((nx2_47 : Int))) 24 ((pl2_47 : Int))) 25 (st2_47)) 26 (nu2_47)) 27 (1)) 28 ((pl2_47 : Int))) (va_up (va_up (va_up Ar 1 (nA t)) 14 (cI (m) v gv)) 15 (cI (m) w gw))) H locs := hH
              -- R105.8
              exact z_vret hC hH hQ 105 ((1, 0, pl2_47, 0, nx2_47, st2_47, nu2_47, (pl2_47 : Int), m, bl2_47, ti, 1, ht, v, w)) dX7_readLine_105 rfl ⟨by (have hq9 := OKE_ok pr_47 (by omega); exact OKE_1 (by decide) rfl (LN2_1 (LN_b (by omega) (by omega) hq9) (by omega))), by (intro q; omega), by first | assumption | omega, by first | assumption | omega, by first | assumption | omega⟩ rfl (Nat.le_refl _) (Nat.le_refl _)
      · -- 30f
        refine z_aload_n hC 33 hl dX7_readLine_33 rfl 1 rfl ?_
        refine z_same (z_runV hC hH.2.2 hl.1 hH.1 hH.2.1 0 (As := []) (rest := []) (m_X7_readWeight lau s0 G _ ad (va_up (va_up (va_up (va_up (va_up (va_up (va_up (va_up (va_up (va_up (va_up (va_up F 16 ((m : Int))) 17 ((bk : Int))) 18 ((ti : Int))) 19 ((ln : Int))) 20 ((hb : Int))) 21 ((ht : Int))) 22 ((tn : Int))) 23 ((nx : Int))) 24 ((pl : Int))) 25 (st)) 26 (nu)) 27 (0)) (va_up (va_up (va_up Ar 1 (nA t)) 14 (cI (m) v gv)) 15 (cI (m) w gw)) t tn lq lva nx m w gw (by first | assumption | omega) (by first | assumption | omega) (by first | assumption | omega) (by first | assumption | omega) (by first | assumption | omega) (by first | assumption | omega) (by first | assumption | omega)) (lw_V q1621 q1623 qs54 q95 q1624) ⟨rfl, by decide, by decide, by decide +kernel⟩ (q0 := 0) (ci := 0) rfl rfl rfl rfl (Nat.le_of_ble_eq_true rfl) ⟨Nat.le_of_ble_eq_true rfl, Nat.le_of_ble_eq_true rfl⟩ ⟨Nat.le_of_ble_eq_true rfl, Nat.le_of_ble_eq_true rfl⟩ dX7_readLine_34) hH (fun u_ H locs hpost hH => ?_)
        obtain ⟨fa_34, so2_34, pl2_34, vl2_34, nx2_34, st2_34, nu2_34, fp_34, w2_34⟩ := u_
        obtain ⟨pr_34, pk_34, pf_34⟩ : (OKE (WGr t tn nx m w) fa_34 fp_34 (so2_34, pl2_34, vl2_34, nx2_34, w2_34)) ∧ (fa_34 = 0 → TKA tn so2_34 pl2_34 vl2_34 nx2_34 st2_34 nu2_34 ∧ nx ≤ pl2_34) ∧ (fa_34 ≤ 3) := hpost
        have hH : zH s0 s1 G as0 (mW ad G (va_up (va_up (va_up (va_up (va_up (va_up (va_up (va_up (va_up (va_up (va_up (va_up (va_up F 16 ((m : Int))) 17 ((bk : Int))) 18 ((ti : Int))) 19 ((ln : Int))) 20 ((hb : Int))) 21 ((ht : Int))) 22 ((tn : Int))) 23 ((nx2_34 : Int))) 24 ((pl2_34 : Int))) 25 (st2_34)) 26 (nu2_34)) 27 ((fa_34 : Int))) 28 (fp_34)) (va_up (va_up (va_up Ar 1 (nA t)) 14 (cI (m) v gv)) 15 (cI (m) w2_34 gw))) H locs := hH
        refine z_st (st' := []) rfl ?_
        refine z_goto hC 37 71 dX7_readLine_37 rfl ?_
        refine z_aload_n hC 71 hl dX7_readLine_71 rfl 1 rfl ?_
        refine gmW_27 (x := (fa_34 : Int)) hC hH 72 rfl dX7_readLine_72 ?_
        refine z_if_ne hC 75 91 dX7_readLine_75 rfl (by omega) (fun hb16 => ?_) (fun hb16 => ?_)
        · -- 75t
          refine z_aload_n hC 91 hl dX7_readLine_91 rfl 1 rfl ?_
          refine z_same (z_runV hC hH.2.2 hl.1 hH.1 hH.2.1 0 (As := []) (rest := []) (m_X7_goOn_x lau s0 G _ ad (va_up (va_up (va_up (va_up (va_up (va_up (va_up (va_up (va_up (va_up (va_up (va_up (va_up F 16 ((m : Int))) 17 ((bk : Int))) 18 ((ti : Int))) 19 ((ln : Int))) 20 ((hb : Int))) 21 ((ht : Int))) 22 ((tn : Int))) 23 ((nx2_34 : Int))) 24 ((pl2_34 : Int))) 25 (st2_34)) 26 (nu2_34)) 27 ((fa_34 : Int))) 28 (fp_34)) (va_up (va_up (va_up Ar 1 (nA t)) 14 (cI (m) v gv)) 15 (cI (m) w2_34 gw)) fa_34 (by first | assumption | omega)) (lw_V q1609 q1611 qs51 q95 q1612) ⟨rfl, by decide, by decide, by decide +kernel⟩ (q0 := 0) (ci := 0) rfl rfl rfl rfl (Nat.le_of_ble_eq_true rfl) ⟨Nat.le_of_ble_eq_true rfl, Nat.le_of_ble_eq_true rfl⟩ ⟨Nat.le_of_ble_eq_true rfl, Nat.le_of_ble_eq_true rfl⟩ dX7_readLine_92) hH (fun _ H locs hpost hH => ?_)
          have hH : zH s0 s1 G as0 (mW ad G (va_up (va_up (va_up (va_up (va_up (va_up (va_up (va_up (va_up (va_up (va_up (va_up (va_up F 16 ((m : Int))) 17 ((bk : Int))) 18 ((ti : Int))) 19 ((ln : Int))) 20 ((hb : Int))) 21 ((ht : Int))) 22 ((tn : Int))) 23 ((nx2_34 : Int))) 24 ((pl2_34 : Int))) 25 (st2_34)) 26 (nu2_34)) 27 ((fa_34 : Int))) 28 (fp_34)) (va_up (va_up (va_up Ar 1 (nA t)) 14 (cI (m) v gv)) 15 (cI (m) w2_34 gw))) H locs := hH
          refine z_st (st' := []) rfl ?_
          refine z_aload_n hC 95 hl dX7_readLine_95 rfl 1 rfl ?_
          refine z_dup hC 96 dX7_readLine_96 rfl ?_
          refine gmW_19 (x := (ln : Int)) hC hH 97 rfl dX7_readLine_97 ?_
          refine z_iconst hC 100 dX7_readLine_100 ?_
          refine z_iadd (e := (ln : Int) + 1) hC 101 dX7_readLine_101 rfl ?_
          refine pmW_19 hC hH 102 dX7_readLine_102 (fun H locs hH => ?_)
          have hH : zH s0 s1 G as0 (mW ad G (va_up (va_up (va_up (va_up (va_up (va_up (va_up (va_up (va_up (va_up (va_up (va_up (va_up F 16 ((m : Int))) 17 ((bk : Int))) 18 ((ti : Int))) 19 ((ln : Int) + 1)) 20 ((hb : Int))) 21 ((ht : Int))) 22 ((tn : Int))) 23 ((nx2_34 : Int))) 24 ((pl2_34 : Int))) 25 (st2_34)) 26 (nu2_34)) 27 ((fa_34 : Int))) 28 (fp_34)) (va_up (va_up (va_up Ar 1 (nA t)) 14 (cI (m) v gv)) 15 (cI (m) w2_34 gw))) H locs := hH
          -- R105.9
          exact z_vret hC hH hQ 105 ((fa_34, 0, pl2_34, 0, nx2_34, st2_34, nu2_34, fp_34, m, bk, ti, hb, ht, v, w2_34)) dX7_readLine_105 rfl ⟨by (obtain ⟨fq9, e9, hq9⟩ := OKE_er pr_34 (by omega); exact OKE_1 (by omega) e9 (LN2_e (LN_we (by omega) (by omega) hq9))), by (intro q; omega), by first | assumption | omega, by first | assumption | omega, by first | assumption | omega⟩ rfl (Nat.le_refl _) (Nat.le_refl _)
        · -- 75f
          first | have hk9 := pk_22 (by omega) | have hk9 := pk_34 (by omega) | have hk9 := pk_47 (by omega) | have hk9 := pk_60 (by omega)
          have hk8 := hk9.1.1
          unfold TSO at hk8
          refine z_aload_n hC 78 hl dX7_readLine_78 rfl 1 rfl ?_
          refine gmW_25 (x := st2_34) hC hH 79 rfl dX7_readLine_79 ?_
          refine z_iconst hC 82 dX7_readLine_82 ?_
          refine z_icmp_eq hC 83 91 dX7_readLine_83 rfl (by omega) (by omega) (fun hb17 => ?_) (fun hb17 => ?_)
          · -- 83t
            refine z_aload_n hC 91 hl dX7_readLine_91 rfl 1 rfl ?_
            rw [show ((fa_34 : Int) : Int) = 0 from by omega] at hH
            have hH : zH s0 s1 G as0 (mW ad G (va_up (va_up (va_up (va_up (va_up (va_up (va_up (va_up (va_up (va_up (va_up (va_up (va_up F 16 ((m : Int))) 17 ((bk : Int))) 18 ((ti : Int))) 19 ((ln : Int))) 20 ((hb : Int))) 21 ((ht : Int))) 22 ((tn : Int))) 23 ((nx2_34 : Int))) 24 ((pl2_34 : Int))) 25 (st2_34)) 26 (nu2_34)) 27 (0)) 28 (fp_34)) (va_up (va_up (va_up Ar 1 (nA t)) 14 (cI (m) v gv)) 15 (cI (m) w2_34 gw))) H locs := hH
            refine z_same (z_runV hC hH.2.2 hl.1 hH.1 hH.2.1 0 (As := []) (rest := []) (m_X7_goOn lau s0 G _ ad (va_up (va_up (va_up (va_up (va_up (va_up (va_up (va_up (va_up (va_up (va_up (va_up (va_up F 16 ((m : Int))) 17 ((bk : Int))) 18 ((ti : Int))) 19 ((ln : Int))) 20 ((hb : Int))) 21 ((ht : Int))) 22 ((tn : Int))) 23 ((nx2_34 : Int))) 24 ((pl2_34 : Int))) 25 (st2_34)) 26 (nu2_34)) 27 (0)) 28 (fp_34)) (va_up (va_up (va_up Ar 1 (nA t)) 14 (cI (m) v gv)) 15 (cI (m) w2_34 gw)) t tn lq lva nx2_34 (by first | assumption | omega) (by first | assumption | omega) (by first | assumption | omega) (by first | assumption | omega) (by first | assumption | omega) (by (have h7 := hk9.1.2.2; omega))) (lw_V q1609 q1611 qs51 q95 q1612) ⟨rfl, by decide, by decide, by decide +kernel⟩ (q0 := 0) (ci := 0) rfl rfl rfl rfl (Nat.le_of_ble_eq_true rfl) ⟨Nat.le_of_ble_eq_true rfl, Nat.le_of_ble_eq_true rfl⟩ ⟨Nat.le_of_ble_eq_true rfl, Nat.le_of_ble_eq_true rfl⟩ dX7_readLine_92) hH (fun u_ H locs hpost hH => ?_)
            obtain ⟨so_18, pl_19, vl_20, nx_21, st_22, nu_23⟩ := u_
            obtain ⟨pT_92, pA_92, pB_92⟩ : (TOK t tn nx2_34 so_18 pl_19 vl_20 nx_21) ∧ (TKA tn so_18 pl_19 vl_20 nx_21 st_22 nu_23) ∧ (nx2_34 ≤ pl_19) := hpost
            have hH : zH s0 s1 G as0 (mW ad G (va_up (va_up (va_up (va_up (va_up (va_up (va_up (va_up (va_up (va_up (va_up (va_up (va_up F 16 ((m : Int))) 17 ((bk : Int))) 18 ((ti : Int))) 19 ((ln : Int))) 20 ((hb : Int))) 21 ((ht : Int))) 22 ((tn : Int))) 23 ((nx_21 : Int))) 24 ((pl_19 : Int))) 25 (st_22)) 26 (nu_23)) 27 (0)) 28 (fp_34)) (va_up (va_up (va_up Ar 1 (nA t)) 14 (cI (m) v gv)) 15 (cI (m) w2_34 gw))) H locs := hH
            refine z_st (st' := []) rfl ?_
            refine z_aload_n hC 95 hl dX7_readLine_95 rfl 1 rfl ?_
            refine z_dup hC 96 dX7_readLine_96 rfl ?_
            refine gmW_19 (x := (ln : Int)) hC hH 97 rfl dX7_readLine_97 ?_
            refine z_iconst hC 100 dX7_readLine_100 ?_
            refine z_iadd (e := (ln : Int) + 1) hC 101 dX7_readLine_101 rfl ?_
            refine pmW_19 hC hH 102 dX7_readLine_102 (fun H locs hH => ?_)
            have hH : zH s0 s1 G as0 (mW ad G (va_up (va_up (va_up (va_up (va_up (va_up (va_up (va_up (va_up (va_up (va_up (va_up (va_up F 16 ((m : Int))) 17 ((bk : Int))) 18 ((ti : Int))) 19 ((ln : Int) + 1)) 20 ((hb : Int))) 21 ((ht : Int))) 22 ((tn : Int))) 23 ((nx_21 : Int))) 24 ((pl_19 : Int))) 25 (st_22)) 26 (nu_23)) 27 (0)) 28 (fp_34)) (va_up (va_up (va_up Ar 1 (nA t)) 14 (cI (m) v gv)) 15 (cI (m) w2_34 gw))) H locs := hH
            -- R105.10
            exact z_vret hC hH hQ 105 ((0, so_18, pl_19, vl_20, nx_21, st_22, nu_23, fp_34, m, bk, ti, hb, ht, v, w2_34)) dX7_readLine_105 rfl ⟨by (have hq9 := OKE_ok pr_34 (by omega); exact OKE_0 rfl (LN2_o (LN_w (by omega) (by omega) hq9) (by omega) pT_92)), by (intro q; have h7 := hk9.1.2.2; exact ⟨pA_92, by omega⟩), by first | assumption | omega, by first | assumption | omega, by first | assumption | omega⟩ rfl (Nat.le_refl _) (Nat.le_refl _)
          · -- 83f
            refine z_aload_n hC 86 hl dX7_readLine_86 rfl 1 rfl ?_
            refine z_iconst hC 87 dX7_readLine_87 ?_
            refine z_st (st' := [.int (iZ (((1 : Nat) : Int))), .ref (ad 0)]) (zcons (zieq (by omega)) rfl) ?_
            rw [show ((fa_34 : Int) : Int) = 0 from by omega] at hH
            have hH : zH s0 s1 G as0 (mW ad G (va_up (va_up (va_up (va_up (va_up (va_up (va_up (va_up (va_up (va_up (va_up (va_up (va_up F 16 ((m : Int))) 17 ((bk : Int))) 18 ((ti : Int))) 19 ((ln : Int))) 20 ((hb : Int))) 21 ((ht : Int))) 22 ((tn : Int))) 23 ((nx2_34 : Int))) 24 ((pl2_34 : Int))) 25 (st2_34)) 26 (nu2_34)) 27 (0)) 28 (fp_34)) (va_up (va_up (va_up Ar 1 (nA t)) 14 (cI (m) v gv)) 15 (cI (m) w2_34 gw))) H locs := hH
            refine z_same (z_runV hC hH.2.2 hl.1 hH.1 hH.2.1 1 (As := [.int (iZ (((1 : Nat) : Int)))]) (rest := []) (m_X7_wrong lau s0 G _ ad (va_up (va_up (va_up (va_up (va_up (va_up (va_up (va_up (va_up (va_up (va_up (va_up (va_up F 16 ((m : Int))) 17 ((bk : Int))) 18 ((ti : Int))) 19 ((ln : Int))) 20 ((hb : Int))) 21 ((ht : Int))) 22 ((tn : Int))) 23 ((nx2_34 : Int))) 24 ((pl2_34 : Int))) 25 (st2_34)) 26 (nu2_34)) 27 (0)) 28 (fp_34)) (va_up (va_up (va_up Ar 1 (nA t)) 14 (cI (m) v gv)) 15 (cI (m) w2_34 gw)) 1 pl2_34 (by first | assumption | omega)) (lw_V q1613 q1615 qs52 q95 q1616) ⟨rfl, by decide, by decide, by decide +kernel⟩ (q0 := 0) (ci := 0) rfl rfl rfl rfl (Nat.le_of_ble_eq_true rfl) ⟨Nat.le_of_ble_eq_true rfl, Nat.le_of_ble_eq_true rfl⟩ ⟨Nat.le_of_ble_eq_true rfl, Nat.le_of_ble_eq_true rfl⟩ dX7_readLine_88) hH (fun _ H locs hpost hH => ?_)
            have hH : zH s0 s1 G as0 (mW ad G (va_up (va_up (va_up (va_up (va_up (va_up (va_up (va_up (va_up (va_up (va_up (va_up (va_up F 16 ((m : Int))) 17 ((bk : Int))) 18 ((ti : Int))) 19 ((ln : Int))) 20 ((hb : Int))) 21 ((ht : Int))) 22 ((tn : Int))) 23 ((nx2_34 : Int))) 24 ((pl2_34 : Int))) 25 (st2_34)) 26 (nu2_34)) 27 (1)) 28 ((pl2_34 : Int))) (va_up (va_up (va_up Ar 1 (nA t)) 14 (cI (m) v gv)) 15 (cI (m) w2_34 gw))) H locs := hH
            refine z_st (st' := []) rfl ?_
            refine z_aload_n hC 91 hl dX7_readLine_91 rfl 1 rfl ?_
            refine z_same (z_runV hC hH.2.2 hl.1 hH.1 hH.2.1 0 (As := []) (rest := []) (m_X7_goOn_x lau s0 G _ ad (va_up (va_up (va_up (va_up (va_up (va_up (va_up (va_up (va_up (va_up (va_up (va_up (va_up F 16 ((m : Int))) 17 ((bk : Int))) 18 ((ti : Int))) 19 ((ln : Int))) 20 ((hb : Int))) 21 ((ht : Int))) 22 ((tn : Int))) 23 ((nx2_34 : Int))) 24 ((pl2_34 : Int))) 25 (st2_34)) 26 (nu2_34)) 27 (1)) 28 ((pl2_34 : Int))) (va_up (va_up (va_up Ar 1 (nA t)) 14 (cI (m) v gv)) 15 (cI (m) w2_34 gw)) 1 (by first | assumption | omega)) (lw_V q1609 q1611 qs51 q95 q1612) ⟨rfl, by decide, by decide, by decide +kernel⟩ (q0 := 0) (ci := 0) rfl rfl rfl rfl (Nat.le_of_ble_eq_true rfl) ⟨Nat.le_of_ble_eq_true rfl, Nat.le_of_ble_eq_true rfl⟩ ⟨Nat.le_of_ble_eq_true rfl, Nat.le_of_ble_eq_true rfl⟩ dX7_readLine_92) hH (fun _ H locs hpost hH => ?_)
            have hH : zH s0 s1 G as0 (mW ad G (va_up (va_up (va_up (va_up (va_up (va_up (va_up (va_up (va_up (va_up (va_up (va_up (va_up F 16 ((m : Int))) 17 ((bk : Int))) 18 ((ti : Int))) 19 ((ln : Int))) 20 ((hb : Int))) 21 ((ht : Int))) 22 ((tn : Int))) 23 ((nx2_34 : Int))) 24 ((pl2_34 : Int))) 25 (st2_34)) 26 (nu2_34)) 27 (1)) 28 ((pl2_34 : Int))) (va_up (va_up (va_up Ar 1 (nA t)) 14 (cI (m) v gv)) 15 (cI (m) w2_34 gw))) H locs := hH
            refine z_st (st' := []) rfl ?_
            refine z_aload_n hC 95 hl dX7_readLine_95 rfl 1 rfl ?_
            refine z_dup hC 96 dX7_readLine_96 rfl ?_
            refine gmW_19 (x := (ln : Int)) hC hH 97 rfl dX7_readLine_97 ?_
            refine z_iconst hC 100 dX7_readLine_100 ?_
            refine z_iadd (e := (ln : Int) + 1) hC 101 dX7_readLine_101 rfl ?_
            refine pmW_19 hC hH 102 dX7_readLine_102 (fun H locs hH => ?_)
            have hH : zH s0 s1 G as0 (mW ad G (va_up (va_up (va_up (va_up (va_up (va_up (va_up (va_up (va_up (va_up (va_up (va_up (va_up F 16 ((m : Int))) 17 ((bk : Int))) 18 ((ti : Int))) 19 ((ln : Int) + 1)) 20 ((hb : Int))) 21 ((ht : Int))) 22 ((tn : Int))) 23 ((nx2_34 : Int))) 24 ((pl2_34 : Int))) 25 (st2_34)) 26 (nu2_34)) 27 (1)) 28 ((pl2_34 : Int))) (va_up (va_up (va_up Ar 1 (nA t)) 14 (cI (m) v gv)) 15 (cI (m) w2_34 gw))) H locs := hH
            -- R105.11
            exact z_vret hC hH hQ 105 ((1, 0, pl2_34, 0, nx2_34, st2_34, nu2_34, (pl2_34 : Int), m, bk, ti, hb, ht, v, w2_34)) dX7_readLine_105 rfl ⟨by (have hq9 := OKE_ok pr_34 (by omega); exact OKE_1 (by decide) rfl (LN2_1 (LN_w (by omega) (by omega) hq9) (by omega))), by (intro q; omega), by first | assumption | omega, by first | assumption | omega, by first | assumption | omega⟩ rfl (Nat.le_refl _) (Nat.le_refl _)
    · -- 18f
      refine z_aload_n hC 21 hl dX7_readLine_21 rfl 1 rfl ?_
      refine z_same (z_runV hC hH.2.2 hl.1 hH.1 hH.2.1 0 (As := []) (rest := []) (m_X7_readRow lau s0 G _ ad (va_up (va_up (va_up (va_up (va_up (va_up (va_up (va_up (va_up (va_up (va_up (va_up F 16 ((m : Int))) 17 ((bk : Int))) 18 ((ti : Int))) 19 ((ln : Int))) 20 ((hb : Int))) 21 ((ht : Int))) 22 ((tn : Int))) 23 ((nx : Int))) 24 ((pl : Int))) 25 (st)) 26 (nu)) 27 (0)) (va_up (va_up (va_up Ar 1 (nA t)) 14 (cI (m) v gv)) 15 (cI (m) w gw)) t tn lq lva nx m v w gv gw (by first | assumption | omega) (by first | assumption | omega) (by first | assumption | omega) (by first | assumption | omega) (by first | assumption | omega) (by first | assumption | omega) (by first | assumption | omega)) (lw_V q1605 q1607 qs50 q95 q1608) ⟨rfl, by decide, by decide, by decide +kernel⟩ (q0 := 0) (ci := 0) rfl rfl rfl rfl (Nat.le_of_ble_eq_true rfl) ⟨Nat.le_of_ble_eq_true rfl, Nat.le_of_ble_eq_true rfl⟩ ⟨Nat.le_of_ble_eq_true rfl, Nat.le_of_ble_eq_true rfl⟩ dX7_readLine_22) hH (fun u_ H locs hpost hH => ?_)
      obtain ⟨fa_22, so2_22, pl2_22, vl2_22, nx2_22, st2_22, nu2_22, fp_22, m2_22, v2_22, w2_22⟩ := u_
      obtain ⟨pr_22, pk_22, pf_22, pm_22⟩ : (OKE (RWr t tn nx m v w) fa_22 fp_22 (so2_22, pl2_22, vl2_22, nx2_22, m2_22, v2_22, w2_22)) ∧ (fa_22 = 0 → TKA tn so2_22 pl2_22 vl2_22 nx2_22 st2_22 nu2_22 ∧ nx ≤ pl2_22) ∧ (fa_22 ≤ 3) ∧ (m2_22 ≤ 120) := hpost
      have hH : zH s0 s1 G as0 (mW ad G (va_up (va_up (va_up (va_up (va_up (va_up (va_up (va_up (va_up (va_up (va_up (va_up (va_up F 16 ((m2_22 : Int))) 17 ((bk : Int))) 18 ((ti : Int))) 19 ((ln : Int))) 20 ((hb : Int))) 21 ((ht : Int))) 22 ((tn : Int))) 23 ((nx2_22 : Int))) 24 ((pl2_22 : Int))) 25 (st2_22)) 26 (nu2_22)) 27 ((fa_22 : Int))) 28 (fp_22)) (va_up (va_up (va_up Ar 1 (nA t)) 14 (cI (m2_22) v2_22 gv)) 15 (cI (m2_22) w2_22 gw))) H locs := hH
      refine z_st (st' := []) rfl ?_
      refine z_goto hC 25 71 dX7_readLine_25 rfl ?_
      refine z_aload_n hC 71 hl dX7_readLine_71 rfl 1 rfl ?_
      refine gmW_27 (x := (fa_22 : Int)) hC hH 72 rfl dX7_readLine_72 ?_
      refine z_if_ne hC 75 91 dX7_readLine_75 rfl (by omega) (fun hb24 => ?_) (fun hb24 => ?_)
      · -- 75t
        refine z_aload_n hC 91 hl dX7_readLine_91 rfl 1 rfl ?_
        refine z_same (z_runV hC hH.2.2 hl.1 hH.1 hH.2.1 0 (As := []) (rest := []) (m_X7_goOn_x lau s0 G _ ad (va_up (va_up (va_up (va_up (va_up (va_up (va_up (va_up (va_up (va_up (va_up (va_up (va_up F 16 ((m2_22 : Int))) 17 ((bk : Int))) 18 ((ti : Int))) 19 ((ln : Int))) 20 ((hb : Int))) 21 ((ht : Int))) 22 ((tn : Int))) 23 ((nx2_22 : Int))) 24 ((pl2_22 : Int))) 25 (st2_22)) 26 (nu2_22)) 27 ((fa_22 : Int))) 28 (fp_22)) (va_up (va_up (va_up Ar 1 (nA t)) 14 (cI (m2_22) v2_22 gv)) 15 (cI (m2_22) w2_22 gw)) fa_22 (by first | assumption | omega)) (lw_V q1609 q1611 qs51 q95 q1612) ⟨rfl, by decide, by decide, by decide +kernel⟩ (q0 := 0) (ci := 0) rfl rfl rfl rfl (Nat.le_of_ble_eq_true rfl) ⟨Nat.le_of_ble_eq_true rfl, Nat.le_of_ble_eq_true rfl⟩ ⟨Nat.le_of_ble_eq_true rfl, Nat.le_of_ble_eq_true rfl⟩ dX7_readLine_92) hH (fun _ H locs hpost hH => ?_)
        have hH : zH s0 s1 G as0 (mW ad G (va_up (va_up (va_up (va_up (va_up (va_up (va_up (va_up (va_up (va_up (va_up (va_up (va_up F 16 ((m2_22 : Int))) 17 ((bk : Int))) 18 ((ti : Int))) 19 ((ln : Int))) 20 ((hb : Int))) 21 ((ht : Int))) 22 ((tn : Int))) 23 ((nx2_22 : Int))) 24 ((pl2_22 : Int))) 25 (st2_22)) 26 (nu2_22)) 27 ((fa_22 : Int))) 28 (fp_22)) (va_up (va_up (va_up Ar 1 (nA t)) 14 (cI (m2_22) v2_22 gv)) 15 (cI (m2_22) w2_22 gw))) H locs := hH
        refine z_st (st' := []) rfl ?_
        refine z_aload_n hC 95 hl dX7_readLine_95 rfl 1 rfl ?_
        refine z_dup hC 96 dX7_readLine_96 rfl ?_
        refine gmW_19 (x := (ln : Int)) hC hH 97 rfl dX7_readLine_97 ?_
        refine z_iconst hC 100 dX7_readLine_100 ?_
        refine z_iadd (e := (ln : Int) + 1) hC 101 dX7_readLine_101 rfl ?_
        refine pmW_19 hC hH 102 dX7_readLine_102 (fun H locs hH => ?_)
        have hH : zH s0 s1 G as0 (mW ad G (va_up (va_up (va_up (va_up (va_up (va_up (va_up (va_up (va_up (va_up (va_up (va_up (va_up F 16 ((m2_22 : Int))) 17 ((bk : Int))) 18 ((ti : Int))) 19 ((ln : Int) + 1)) 20 ((hb : Int))) 21 ((ht : Int))) 22 ((tn : Int))) 23 ((nx2_22 : Int))) 24 ((pl2_22 : Int))) 25 (st2_22)) 26 (nu2_22)) 27 ((fa_22 : Int))) 28 (fp_22)) (va_up (va_up (va_up Ar 1 (nA t)) 14 (cI (m2_22) v2_22 gv)) 15 (cI (m2_22) w2_22 gw))) H locs := hH
        -- R105.12
        exact z_vret hC hH hQ 105 ((fa_22, 0, pl2_22, 0, nx2_22, st2_22, nu2_22, fp_22, m2_22, bk, ti, hb, ht, v2_22, w2_22)) dX7_readLine_105 rfl ⟨by (obtain ⟨fq9, e9, hq9⟩ := OKE_er pr_22 (by omega); exact OKE_1 (by omega) e9 (LN2_e (LN_re (by omega) (by omega) hq9))), by (intro q; omega), by first | assumption | omega, by first | assumption | omega, by first | assumption | omega⟩ rfl (Nat.le_refl _) (Nat.le_refl _)
      · -- 75f
        first | have hk9 := pk_22 (by omega) | have hk9 := pk_34 (by omega) | have hk9 := pk_47 (by omega) | have hk9 := pk_60 (by omega)
        have hk8 := hk9.1.1
        unfold TSO at hk8
        refine z_aload_n hC 78 hl dX7_readLine_78 rfl 1 rfl ?_
        refine gmW_25 (x := st2_22) hC hH 79 rfl dX7_readLine_79 ?_
        refine z_iconst hC 82 dX7_readLine_82 ?_
        refine z_icmp_eq hC 83 91 dX7_readLine_83 rfl (by omega) (by omega) (fun hb25 => ?_) (fun hb25 => ?_)
        · -- 83t
          refine z_aload_n hC 91 hl dX7_readLine_91 rfl 1 rfl ?_
          rw [show ((fa_22 : Int) : Int) = 0 from by omega] at hH
          have hH : zH s0 s1 G as0 (mW ad G (va_up (va_up (va_up (va_up (va_up (va_up (va_up (va_up (va_up (va_up (va_up (va_up (va_up F 16 ((m2_22 : Int))) 17 ((bk : Int))) 18 ((ti : Int))) 19 ((ln : Int))) 20 ((hb : Int))) 21 ((ht : Int))) 22 ((tn : Int))) 23 ((nx2_22 : Int))) 24 ((pl2_22 : Int))) 25 (st2_22)) 26 (nu2_22)) 27 (0)) 28 (fp_22)) (va_up (va_up (va_up Ar 1 (nA t)) 14 (cI (m2_22) v2_22 gv)) 15 (cI (m2_22) w2_22 gw))) H locs := hH
          refine z_same (z_runV hC hH.2.2 hl.1 hH.1 hH.2.1 0 (As := []) (rest := []) (m_X7_goOn lau s0 G _ ad (va_up (va_up (va_up (va_up (va_up (va_up (va_up (va_up (va_up (va_up (va_up (va_up (va_up F 16 ((m2_22 : Int))) 17 ((bk : Int))) 18 ((ti : Int))) 19 ((ln : Int))) 20 ((hb : Int))) 21 ((ht : Int))) 22 ((tn : Int))) 23 ((nx2_22 : Int))) 24 ((pl2_22 : Int))) 25 (st2_22)) 26 (nu2_22)) 27 (0)) 28 (fp_22)) (va_up (va_up (va_up Ar 1 (nA t)) 14 (cI (m2_22) v2_22 gv)) 15 (cI (m2_22) w2_22 gw)) t tn lq lva nx2_22 (by first | assumption | omega) (by first | assumption | omega) (by first | assumption | omega) (by first | assumption | omega) (by first | assumption | omega) (by (have h7 := hk9.1.2.2; omega))) (lw_V q1609 q1611 qs51 q95 q1612) ⟨rfl, by decide, by decide, by decide +kernel⟩ (q0 := 0) (ci := 0) rfl rfl rfl rfl (Nat.le_of_ble_eq_true rfl) ⟨Nat.le_of_ble_eq_true rfl, Nat.le_of_ble_eq_true rfl⟩ ⟨Nat.le_of_ble_eq_true rfl, Nat.le_of_ble_eq_true rfl⟩ dX7_readLine_92) hH (fun u_ H locs hpost hH => ?_)
          obtain ⟨so_26, pl_27, vl_28, nx_29, st_30, nu_31⟩ := u_
          obtain ⟨pT_92, pA_92, pB_92⟩ : (TOK t tn nx2_22 so_26 pl_27 vl_28 nx_29) ∧ (TKA tn so_26 pl_27 vl_28 nx_29 st_30 nu_31) ∧ (nx2_22 ≤ pl_27) := hpost
          have hH : zH s0 s1 G as0 (mW ad G (va_up (va_up (va_up (va_up (va_up (va_up (va_up (va_up (va_up (va_up (va_up (va_up (va_up F 16 ((m2_22 : Int))) 17 ((bk : Int))) 18 ((ti : Int))) 19 ((ln : Int))) 20 ((hb : Int))) 21 ((ht : Int))) 22 ((tn : Int))) 23 ((nx_29 : Int))) 24 ((pl_27 : Int))) 25 (st_30)) 26 (nu_31)) 27 (0)) 28 (fp_22)) (va_up (va_up (va_up Ar 1 (nA t)) 14 (cI (m2_22) v2_22 gv)) 15 (cI (m2_22) w2_22 gw))) H locs := hH
          refine z_st (st' := []) rfl ?_
          refine z_aload_n hC 95 hl dX7_readLine_95 rfl 1 rfl ?_
          refine z_dup hC 96 dX7_readLine_96 rfl ?_
          refine gmW_19 (x := (ln : Int)) hC hH 97 rfl dX7_readLine_97 ?_
          refine z_iconst hC 100 dX7_readLine_100 ?_
          refine z_iadd (e := (ln : Int) + 1) hC 101 dX7_readLine_101 rfl ?_
          refine pmW_19 hC hH 102 dX7_readLine_102 (fun H locs hH => ?_)
          have hH : zH s0 s1 G as0 (mW ad G (va_up (va_up (va_up (va_up (va_up (va_up (va_up (va_up (va_up (va_up (va_up (va_up (va_up F 16 ((m2_22 : Int))) 17 ((bk : Int))) 18 ((ti : Int))) 19 ((ln : Int) + 1)) 20 ((hb : Int))) 21 ((ht : Int))) 22 ((tn : Int))) 23 ((nx_29 : Int))) 24 ((pl_27 : Int))) 25 (st_30)) 26 (nu_31)) 27 (0)) 28 (fp_22)) (va_up (va_up (va_up Ar 1 (nA t)) 14 (cI (m2_22) v2_22 gv)) 15 (cI (m2_22) w2_22 gw))) H locs := hH
          -- R105.13
          exact z_vret hC hH hQ 105 ((0, so_26, pl_27, vl_28, nx_29, st_30, nu_31, fp_22, m2_22, bk, ti, hb, ht, v2_22, w2_22)) dX7_readLine_105 rfl ⟨by (have hq9 := OKE_ok pr_22 (by omega); exact OKE_0 rfl (LN2_o (LN_r (by omega) (by omega) hq9) (by omega) pT_92)), by (intro q; have h7 := hk9.1.2.2; exact ⟨pA_92, by omega⟩), by first | assumption | omega, by first | assumption | omega, by first | assumption | omega⟩ rfl (Nat.le_refl _) (Nat.le_refl _)
        · -- 83f
          refine z_aload_n hC 86 hl dX7_readLine_86 rfl 1 rfl ?_
          refine z_iconst hC 87 dX7_readLine_87 ?_
          refine z_st (st' := [.int (iZ (((1 : Nat) : Int))), .ref (ad 0)]) (zcons (zieq (by omega)) rfl) ?_
          rw [show ((fa_22 : Int) : Int) = 0 from by omega] at hH
          have hH : zH s0 s1 G as0 (mW ad G (va_up (va_up (va_up (va_up (va_up (va_up (va_up (va_up (va_up (va_up (va_up (va_up (va_up F 16 ((m2_22 : Int))) 17 ((bk : Int))) 18 ((ti : Int))) 19 ((ln : Int))) 20 ((hb : Int))) 21 ((ht : Int))) 22 ((tn : Int))) 23 ((nx2_22 : Int))) 24 ((pl2_22 : Int))) 25 (st2_22)) 26 (nu2_22)) 27 (0)) 28 (fp_22)) (va_up (va_up (va_up Ar 1 (nA t)) 14 (cI (m2_22) v2_22 gv)) 15 (cI (m2_22) w2_22 gw))) H locs := hH
          refine z_same (z_runV hC hH.2.2 hl.1 hH.1 hH.2.1 1 (As := [.int (iZ (((1 : Nat) : Int)))]) (rest := []) (m_X7_wrong lau s0 G _ ad (va_up (va_up (va_up (va_up (va_up (va_up (va_up (va_up (va_up (va_up (va_up (va_up (va_up F 16 ((m2_22 : Int))) 17 ((bk : Int))) 18 ((ti : Int))) 19 ((ln : Int))) 20 ((hb : Int))) 21 ((ht : Int))) 22 ((tn : Int))) 23 ((nx2_22 : Int))) 24 ((pl2_22 : Int))) 25 (st2_22)) 26 (nu2_22)) 27 (0)) 28 (fp_22)) (va_up (va_up (va_up Ar 1 (nA t)) 14 (cI (m2_22) v2_22 gv)) 15 (cI (m2_22) w2_22 gw)) 1 pl2_22 (by first | assumption | omega)) (lw_V q1613 q1615 qs52 q95 q1616) ⟨rfl, by decide, by decide, by decide +kernel⟩ (q0 := 0) (ci := 0) rfl rfl rfl rfl (Nat.le_of_ble_eq_true rfl) ⟨Nat.le_of_ble_eq_true rfl, Nat.le_of_ble_eq_true rfl⟩ ⟨Nat.le_of_ble_eq_true rfl, Nat.le_of_ble_eq_true rfl⟩ dX7_readLine_88) hH (fun _ H locs hpost hH => ?_)
          have hH : zH s0 s1 G as0 (mW ad G (va_up (va_up (va_up (va_up (va_up (va_up (va_up (va_up (va_up (va_up (va_up (va_up (va_up F 16 ((m2_22 : Int))) 17 ((bk : Int))) 18 ((ti : Int))) 19 ((ln : Int))) 20 ((hb : Int))) 21 ((ht : Int))) 22 ((tn : Int))) 23 ((nx2_22 : Int))) 24 ((pl2_22 : Int))) 25 (st2_22)) 26 (nu2_22)) 27 (1)) 28 ((pl2_22 : Int))) (va_up (va_up (va_up Ar 1 (nA t)) 14 (cI (m2_22) v2_22 gv)) 15 (cI (m2_22) w2_22 gw))) H locs := hH
          refine z_st (st' := []) rfl ?_
          refine z_aload_n hC 91 hl dX7_readLine_91 rfl 1 rfl ?_
          refine z_same (z_runV hC hH.2.2 hl.1 hH.1 hH.2.1 0 (As := []) (rest := []) (m_X7_goOn_x lau s0 G _ ad (va_up (va_up (va_up (va_up (va_up (va_up (va_up (va_up (va_up (va_up (va_up (va_up (va_up F 16 ((m2_22 : Int))) 17 ((bk : Int))) 18 ((ti : Int))) 19 ((ln : Int))) 20 ((hb : Int))) 21 ((ht : Int))) 22 ((tn : Int))) 23 ((nx2_22 : Int))) 24 ((pl2_22 : Int))) 25 (st2_22)) 26 (nu2_22)) 27 (1)) 28 ((pl2_22 : Int))) (va_up (va_up (va_up Ar 1 (nA t)) 14 (cI (m2_22) v2_22 gv)) 15 (cI (m2_22) w2_22 gw)) 1 (by first | assumption | omega)) (lw_V q1609 q1611 qs51 q95 q1612) ⟨rfl, by decide, by decide, by decide +kernel⟩ (q0 := 0) (ci := 0) rfl rfl rfl rfl (Nat.le_of_ble_eq_true rfl) ⟨Nat.le_of_ble_eq_true rfl, Nat.le_of_ble_eq_true rfl⟩ ⟨Nat.le_of_ble_eq_true rfl, Nat.le_of_ble_eq_true rfl⟩ dX7_readLine_92) hH (fun _ H locs hpost hH => ?_)
          have hH : zH s0 s1 G as0 (mW ad G (va_up (va_up (va_up (va_up (va_up (va_up (va_up (va_up (va_up (va_up (va_up (va_up (va_up F 16 ((m2_22 : Int))) 17 ((bk : Int))) 18 ((ti : Int))) 19 ((ln : Int))) 20 ((hb : Int))) 21 ((ht : Int))) 22 ((tn : Int))) 23 ((nx2_22 : Int))) 24 ((pl2_22 : Int))) 25 (st2_22)) 26 (nu2_22)) 27 (1)) 28 ((pl2_22 : Int))) (va_up (va_up (va_up Ar 1 (nA t)) 14 (cI (m2_22) v2_22 gv)) 15 (cI (m2_22) w2_22 gw))) H locs := hH
          refine z_st (st' := []) rfl ?_
          refine z_aload_n hC 95 hl dX7_readLine_95 rfl 1 rfl ?_
          refine z_dup hC 96 dX7_readLine_96 rfl ?_
          refine gmW_19 (x := (ln : Int)) hC hH 97 rfl dX7_readLine_97 ?_
          refine z_iconst hC 100 dX7_readLine_100 ?_
          refine z_iadd (e := (ln : Int) + 1) hC 101 dX7_readLine_101 rfl ?_
          refine pmW_19 hC hH 102 dX7_readLine_102 (fun H locs hH => ?_)
          have hH : zH s0 s1 G as0 (mW ad G (va_up (va_up (va_up (va_up (va_up (va_up (va_up (va_up (va_up (va_up (va_up (va_up (va_up F 16 ((m2_22 : Int))) 17 ((bk : Int))) 18 ((ti : Int))) 19 ((ln : Int) + 1)) 20 ((hb : Int))) 21 ((ht : Int))) 22 ((tn : Int))) 23 ((nx2_22 : Int))) 24 ((pl2_22 : Int))) 25 (st2_22)) 26 (nu2_22)) 27 (1)) 28 ((pl2_22 : Int))) (va_up (va_up (va_up Ar 1 (nA t)) 14 (cI (m2_22) v2_22 gv)) 15 (cI (m2_22) w2_22 gw))) H locs := hH
          -- R105.14
          exact z_vret hC hH hQ 105 ((1, 0, pl2_22, 0, nx2_22, st2_22, nu2_22, (pl2_22 : Int), m2_22, bk, ti, hb, ht, v2_22, w2_22)) dX7_readLine_105 rfl ⟨by (have hq9 := OKE_ok pr_22 (by omega); exact OKE_1 (by decide) rfl (LN2_1 (LN_r (by omega) (by omega) hq9) (by omega))), by (intro q; omega), by first | assumption | omega, by first | assumption | omega, by first | assumption | omega⟩ rfl (Nat.le_refl _) (Nat.le_refl _)
