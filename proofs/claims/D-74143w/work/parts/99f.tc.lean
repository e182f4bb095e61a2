/-! methods of ModeDeskModel: 99f.tc -/
set_option maxHeartbeats 8000000 in
set_option maxRecDepth 100000 in
theorem m_X7_readRow (lau : Launch) (s0 : State) (G : zG) (sz : Nat) (ad : Nat → Nat) (F : Nat → Int) (Ar : Nat → Nat → Int) (t : Nat → Nat) (tn : Nat) (lq : Nat) (lva : Nat) (nx : Nat) (m : Nat) (v : Nat → Nat) (w : Nat → Nat) (gv : Nat → Int) (gw : Nat → Int) (htn : tn ≤ 900) (htb : ∀ i, i < tn → t i < 256) (hlit : zLit s0 "ModeDeskModel" 107 "first last least most row weight block ties " lq lva 44 wC) (hcs : zCS s0) (hsi : zSio s0) (hnx : nx ≤ tn) (hm : m ≤ 120) : zMet (S := Nat × Nat × Nat × Nat × Nat × Int × Int × Int × Nat × (Nat → Nat) × (Nat → Nat)) lau yX7_readRow cX7_readRow 2 (none) 8 172 0 0 s0 G sz [.ref (ad 0)] (mW ad G (va_up (va_up (va_up (va_up F 16 ((m : Int))) 22 ((tn : Int))) 23 ((nx : Int))) 27 (0)) (va_up (va_up (va_up Ar 1 (nA t)) 14 (cI (m) v gv)) 15 (cI (m) w gw))) (fun ((fa, so2, pl2, vl2, nx2, st2, nu2, fp, m2, v2, w2) : Nat × Nat × Nat × Nat × Nat × Int × Int × Int × Nat × (Nat → Nat) × (Nat → Nat)) => (none : Option Value)) (fun ((fa, so2, pl2, vl2, nx2, st2, nu2, fp, m2, v2, w2) : Nat × Nat × Nat × Nat × Nat × Int × Int × Int × Nat × (Nat → Nat) × (Nat → Nat)) => (OKE (RWr t tn nx m v w) fa fp (so2, pl2, vl2, nx2, m2, v2, w2)) ∧ (fa = 0 → TKA tn so2 pl2 vl2 nx2 st2 nu2 ∧ nx ≤ pl2) ∧ (fa ≤ 3) ∧ (m2 ≤ 120)) (fun ((fa, so2, pl2, vl2, nx2, st2, nu2, fp, m2, v2, w2) : Nat × Nat × Nat × Nat × Nat × Int × Int × Int × Nat × (Nat → Nat) × (Nat → Nat)) => (mW ad G (va_up (va_up (va_up (va_up (va_up (va_up (va_up (va_up F 16 ((m2 : Int))) 22 ((tn : Int))) 23 ((nx2 : Int))) 24 ((pl2 : Int))) 25 (st2)) 26 (nu2)) 27 ((fa : Int))) 28 (fp)) (va_up (va_up (va_up Ar 1 (nA t)) 14 (cI (m2) v2 gv)) 15 (cI (m2) w2 gw)))) := by
  refine zMet.of (by decide) (Nat.le_of_ble_eq_true rfl) ?_
  intro pg ev s1 mi ar bl me cd ls Q as0 hC hH hl hQ hsz
  generalize s1.heap = H at hH ⊢
  generalize ([] : List Loc) = locs at hH ⊢
  have hl : lv_has ls 2 [(0, .ref (ad 0))] := hl
  refine z_aload_n hC 0 hl dX7_readRow_0 rfl 0 rfl ?_
  refine z_same (z_runV hC hH.2.2 hl.1 hH.1 hH.2.1 0 (As := []) (rest := []) (m_X7_goOn lau s0 G _ ad (va_up (va_up (va_up (va_up F 16 ((m : Int))) 22 ((tn : Int))) 23 ((nx : Int))) 27 (0)) (va_up (va_up (va_up Ar 1 (nA t)) 14 (cI (m) v gv)) 15 (cI (m) w gw)) t tn lq lva nx (by first | assumption | omega) (by first | assumption | omega) (by first | assumption | omega) (by first | assumption | omega) (by first | assumption | omega) (by first | assumption | omega)) (lw_V q1609 q1611 qs51 q95 q1612) ⟨rfl, by decide, by decide, by decide +kernel⟩ (q0 := 0) (ci := 0) rfl rfl rfl rfl (Nat.le_of_ble_eq_true rfl) ⟨Nat.le_of_ble_eq_true rfl, Nat.le_of_ble_eq_true rfl⟩ ⟨Nat.le_of_ble_eq_true rfl, Nat.le_of_ble_eq_true rfl⟩ dX7_readRow_1) hH (fun u_ H locs hpost hH => ?_)
  obtain ⟨so_1, pl_1, vl_1, nx_1, st_1, nu_1⟩ := u_
  obtain ⟨pT_1, pA_1, pB_1⟩ : (TOK t tn nx so_1 pl_1 vl_1 nx_1) ∧ (TKA tn so_1 pl_1 vl_1 nx_1 st_1 nu_1) ∧ (nx ≤ pl_1) := hpost
  have hH : zH s0 s1 G as0 (mW ad G (va_up (va_up (va_up (va_up (va_up (va_up (va_up F 16 ((m : Int))) 22 ((tn : Int))) 23 ((nx_1 : Int))) 24 ((pl_1 : Int))) 25 (st_1)) 26 (nu_1)) 27 (0)) (va_up (va_up (va_up Ar 1 (nA t)) 14 (cI (m) v gv)) 15 (cI (m) w gw))) H locs := hH
  refine z_st (st' := []) rfl ?_
  have hA0 := pA_1.1
  unfold TSO at hA0
  refine z_aload_n hC 4 hl dX7_readRow_4 rfl 0 rfl ?_
  refine gmW_27 (x := 0) hC hH 5 rfl dX7_readRow_5 ?_
  refine z_if_ne_f hC 8 24 dX7_readRow_8 rfl (by omega) (by omega) ?_
  refine z_aload_n hC 11 hl dX7_readRow_11 rfl 0 rfl ?_
  refine gmW_25 (x := st_1) hC hH 12 rfl dX7_readRow_12 ?_
  refine z_iconst hC 15 dX7_readRow_15 ?_
  refine z_icmp_eq hC 16 24 dX7_readRow_16 rfl (by omega) (by omega) (fun hb1 => ?_) (fun hb1 => ?_)
  · -- 16t
    refine z_aload_n hC 24 hl dX7_readRow_24 rfl 0 rfl ?_
    refine gmW_27 (x := 0) hC hH 25 rfl dX7_readRow_25 ?_
    refine z_if_ne_f hC 28 103 dX7_readRow_28 rfl (by omega) (by omega) ?_
    have L31 : ∀ (N_ : Nat) (so9 : Nat) (pl9 : Nat) (vl9 : Nat) (nx9 : Nat) (m9 : Nat) (st9 : Int) (nu9 : Int) (fp9 : Int) (v9 : Nat → Nat) (w9 : Nat → Nat) (H : Heap) (locs : List Loc) (ls : Array Slot), tn + 1 - pl9 < N_ → (m9 ≤ 120) → (TKA tn so9 pl9 vl9 nx9 st9 nu9) → (nx ≤ pl9) → ((so9 = 2 ∧ ∀ r, ROWr t tn so9 pl9 vl9 nx9 m9 v9 w9 r → ROWr t tn so_1 pl_1 vl_1 nx_1 m v w r) ∨ (so9 ≠ 2 ∧ ROWr t tn so_1 pl_1 vl_1 nx_1 m v w (Sum.inr (so9, pl9, vl9, nx9, m9, v9, w9)))) → zH s0 s1 G as0 (mW ad G (va_up (va_up (va_up (va_up (va_up (va_up (va_up (va_up F 16 ((m9 : Int))) 22 ((tn : Int))) 23 ((nx9 : Int))) 24 ((pl9 : Int))) 25 (st9)) 26 (nu9)) 27 (0)) 28 (fp9)) (va_up (va_up (va_up Ar 1 (nA t)) 14 (cI (m9) v9 gv)) 15 (cI (m9) w9 gw))) H locs → lv_has ls 2 [(0, .ref (ad 0))] → W pg lau ev (zRm 8 0 0 172) s1 mi ar bl me cd H locs 0 0 Q (F0 mi 31 ls []) := by
      intro N_
      induction N_ with
      | zero => intro so9 pl9 vl9 nx9 m9 st9 nu9 fp9 v9 w9 H locs ls hd; exact absurd hd (Nat.not_lt_zero _)
      | succ N_ ih31 =>
        intro so9 pl9 vl9 nx9 m9 st9 nu9 fp9 v9 w9 H locs ls hd31 i31_1 iA ig iK hH hl
        have iA0 := iA.1
        have iA3 := iA.2.2
        unfold TSO at iA0
        refine z_aload_n hC 31 hl dX7_readRow_31 rfl 0 rfl ?_
        refine gmW_25 (x := st9) hC hH 32 rfl dX7_readRow_32 ?_
        refine z_iconst hC 35 dX7_readRow_35 ?_
        refine z_icmp_ne hC 36 103 dX7_readRow_36 rfl (by omega) (by omega) (fun hb2 => ?_) (fun hb2 => ?_)
        · -- 36t
          -- R103.1
          exact z_vret hC hH hQ 103 ((0, so9, pl9, vl9, nx9, st9, nu9, fp9, m9, v9, w9)) dX7_readRow_103 rfl ⟨by exact OKE_0 rfl ⟨so_1, pl_1, vl_1, nx_1, pT_1, (iK.resolve_left (fun q => by omega)).2⟩, by first | (intro q; omega) | exact fun _ => ⟨iA, ig⟩, by first | assumption | omega, by first | assumption | omega⟩ rfl (Nat.le_refl _) (Nat.le_refl _)
        · -- 36f
          have hso9 : so9 = 2 := by omega
          have hKl := iK.resolve_right (fun q => q.1 hso9)
          refine z_aload_n hC 39 hl dX7_readRow_39 rfl 0 rfl ?_
          refine gmW_16 (x := (m9 : Int)) hC hH 40 rfl dX7_readRow_40 ?_
          refine z_bipush hC 43 dX7_readRow_43 rfl ?_
          refine z_icmp_ne hC 45 53 dX7_readRow_45 rfl (by omega) (by omega) (fun hb3 => ?_) (fun hb3 => ?_)
          · -- 45t
            refine z_aload_n hC 53 hl dX7_readRow_53 rfl 0 rfl ?_
            refine z_iconst hC 54 dX7_readRow_54 ?_
            refine z_sipush hC 55 dX7_readRow_55 rfl ?_
            refine z_st (st' := [.int (iZ (((999 : Nat) : Int))), .int (iZ (((0 : Nat) : Int))), .ref (ad 0)]) (zcons (zieq (by omega)) (zcons (zieq (by omega)) rfl)) ?_
            refine z_same (z_runV hC hH.2.2 hl.1 hH.1 hH.2.1 2 (As := [.int (iZ (((0 : Nat) : Int))), .int (iZ (((999 : Nat) : Int)))]) (rest := []) (m_X7_within lau s0 G _ ad (va_up (va_up (va_up (va_up (va_up (va_up (va_up (va_up F 16 ((m9 : Int))) 22 ((tn : Int))) 23 ((nx9 : Int))) 24 ((pl9 : Int))) 25 (st9)) 26 (nu9)) 27 (0)) 28 (fp9)) (va_up (va_up (va_up Ar 1 (nA t)) 14 (cI (m9) v9 gv)) 15 (cI (m9) w9 gw)) t tn lq lva so9 pl9 vl9 nx9 st9 nu9 0 999 (by first | assumption | omega) (by first | assumption | omega) (by first | assumption | omega) (by first | assumption | omega) (by first | assumption | omega) (by first | assumption | omega) (by first | assumption | omega)) (lw_V q1617 q1619 qs53 q95 q1620) ⟨rfl, by decide, by decide, by decide +kernel⟩ (q0 := 0) (ci := 0) rfl rfl rfl rfl (Nat.le_of_ble_eq_true rfl) ⟨Nat.le_of_ble_eq_true rfl, Nat.le_of_ble_eq_true rfl⟩ ⟨Nat.le_of_ble_eq_true rfl, Nat.le_of_ble_eq_true rfl⟩ dX7_readRow_58) hH (fun u_ H locs hpost hH => ?_)
            obtain ⟨z_58, fa_58, so2_58, pl2_58, vl2_58, nx2_58, st2_58, nu2_58, fp_58⟩ := u_
            obtain ⟨pr_58, pk_58, pz_58, pf_58⟩ : (OKE (NUMr t tn 0 999 so9 pl9 vl9 nx9) fa_58 fp_58 (z_58, so2_58, pl2_58, vl2_58, nx2_58)) ∧ (fa_58 = 0 → TKA tn so2_58 pl2_58 vl2_58 nx2_58 st2_58 nu2_58 ∧ nx9 ≤ pl2_58) ∧ (z_58 ≤ 999) ∧ (fa_58 ≤ 3) := hpost
            have hH : zH s0 s1 G as0 (mW ad G (va_up (va_up (va_up (va_up (va_up (va_up (va_up (va_up F 16 ((m9 : Int))) 22 ((tn : Int))) 23 ((nx2_58 : Int))) 24 ((pl2_58 : Int))) 25 (st2_58)) 26 (nu2_58)) 27 ((fa_58 : Int))) 28 (fp_58)) (va_up (va_up (va_up Ar 1 (nA t)) 14 (cI (m9) v9 gv)) 15 (cI (m9) w9 gw))) H locs := hH
            refine z_st (st' := [.int (iZ ((z_58 : Int)))]) rfl ?_
            refine z_istore_n (lv' := [(1, .int (iZ ((z_58 : Int)))), (0, .ref (ad 0))]) hC 61 hl dX7_readRow_61 rfl (by decide) rfl (fun ls hl => ?_)
            refine z_aload_n hC 62 hl dX7_readRow_62 rfl 1 rfl ?_
            refine gmW_27 (x := (fa_58 : Int)) hC hH 63 rfl dX7_readRow_63 ?_
            refine z_if_eq hC 66 70 dX7_readRow_66 rfl (by omega) (fun hb4 => ?_) (fun hb4 => ?_)
            · -- 66t
              have hn9 := OKE_ok pr_58 (by omega)
              have hpk9 := pk_58 (by omega)
              have hpB9 := NUM_pl hn9 (by omega)
              refine z_aload_n hC 70 hl dX7_readRow_70 rfl 1 rfl ?_
              refine gmW_14 hC hH 71 dX7_readRow_71 ?_
              refine z_aload_n hC 74 hl dX7_readRow_74 rfl 1 rfl ?_
              refine gmW_16 (x := (m9 : Int)) hC hH 75 rfl dX7_readRow_75 ?_
              refine z_iload_n hC 78 hl dX7_readRow_78 rfl 0 rfl ?_
              refine smW_14 (f' := (cI (m9 + 1) (va_up v9 (m9) (z_58)) gv)) hC hH 79 (m9) (by omega) (by omega) (by exact cI_push) dX7_readRow_79 (fun H locs hH => ?_)
              have hH : zH s0 s1 G as0 (mW ad G (va_up (va_up (va_up (va_up (va_up (va_up (va_up (va_up F 16 ((m9 : Int))) 22 ((tn : Int))) 23 ((nx2_58 : Int))) 24 ((pl2_58 : Int))) 25 (st2_58)) 26 (nu2_58)) 27 ((fa_58 : Int))) 28 (fp_58)) (va_up (va_up (va_up Ar 1 (nA t)) 14 (cI (m9 + 1) (va_up v9 (m9) (z_58)) gv)) 15 (cI (m9) w9 gw))) H locs := hH
              refine z_aload_n hC 80 hl dX7_readRow_80 rfl 1 rfl ?_
              refine gmW_15 hC hH 81 dX7_readRow_81 ?_
              refine z_aload_n hC 84 hl dX7_readRow_84 rfl 1 rfl ?_
              refine gmW_16 (x := (m9 : Int)) hC hH 85 rfl dX7_readRow_85 ?_
              refine z_iconst hC 88 dX7_readRow_88 ?_
              refine smW_15 (f' := (cI (m9 + 1) (va_up w9 (m9) (1)) gw)) hC hH 89 (m9) (by omega) (by omega) (by rw [show (1 : Int) = ((1 : Nat) : Int) from by omega]; exact cI_push) dX7_readRow_89 (fun H locs hH => ?_)
              have hH : zH s0 s1 G as0 (mW ad G (va_up (va_up (va_up (va_up (va_up (va_up (va_up (va_up F 16 ((m9 : Int))) 22 ((tn : Int))) 23 ((nx2_58 : Int))) 24 ((pl2_58 : Int))) 25 (st2_58)) 26 (nu2_58)) 27 ((fa_58 : Int))) 28 (fp_58)) (va_up (va_up (va_up Ar 1 (nA t)) 14 (cI (m9 + 1) (va_up v9 (m9) (z_58)) gv)) 15 (cI (m9 + 1) (va_up w9 (m9) (1)) gw))) H locs := hH
              refine z_aload_n hC 90 hl dX7_readRow_90 rfl 1 rfl ?_
              refine z_dup hC 91 dX7_readRow_91 rfl ?_
              refine gmW_16 (x := (m9 : Int)) hC hH 92 rfl dX7_readRow_92 ?_
              refine z_iconst hC 95 dX7_readRow_95 ?_
              refine z_iadd (e := (m9 : Int) + 1) hC 96 dX7_readRow_96 rfl ?_
              refine pmW_16 hC hH 97 dX7_readRow_97 (fun H locs hH => ?_)
              have hH : zH s0 s1 G as0 (mW ad G (va_up (va_up (va_up (va_up (va_up (va_up (va_up (va_up F 16 ((m9 : Int) + 1)) 22 ((tn : Int))) 23 ((nx2_58 : Int))) 24 ((pl2_58 : Int))) 25 (st2_58)) 26 (nu2_58)) 27 ((fa_58 : Int))) 28 (fp_58)) (va_up (va_up (va_up Ar 1 (nA t)) 14 (cI (m9 + 1) (va_up v9 (m9) (z_58)) gv)) 15 (cI (m9 + 1) (va_up w9 (m9) (1)) gw))) H locs := hH
              refine z_goto hC 100 24 dX7_readRow_100 rfl ?_
              refine z_aload_n hC 24 hl dX7_readRow_24 rfl 1 rfl ?_
              refine gmW_27 (x := (fa_58 : Int)) hC hH 25 rfl dX7_readRow_25 ?_
              refine z_if_ne_f hC 28 103 dX7_readRow_28 rfl (by omega) (by omega) ?_
              -- J31.2
              exact ih31 so2_58 pl2_58 vl2_58 nx2_58 (m9 + 1) st2_58 nu2_58 fp_58 (va_up v9 (m9) (z_58)) (va_up w9 (m9) (1)) _ _ _ (by omega) (by first | assumption | omega) (by first | exact pA_1 | exact hpk9.1) (by first | exact pB_1 | (have h9 := hpk9.2; omega)) (by first | exact Or.inl ⟨by omega, fun r hr => hr⟩ | exact ROW_nx hKl.2 hso9 (by omega) hn9) (by rw [show ((fa_58 : Int) : Int) = 0 from by omega, show ((m9 : Int) + 1 : Int) = ((m9 + 1 : Nat) : Int) from by omega] at hH; exact hH) (lv_sub hl [1] rfl)
            · -- 66f
              -- R69.3
              exact z_vret hC hH hQ 69 ((fa_58, so2_58, pl2_58, vl2_58, nx2_58, st2_58, nu2_58, fp_58, m9, v9, w9)) dX7_readRow_69 rfl ⟨by (obtain ⟨fq9, e9, hn9⟩ := OKE_er pr_58 (by omega); exact OKE_1 (by omega) e9 ⟨so_1, pl_1, vl_1, nx_1, pT_1, hKl.2 _ (ROW_e3 hso9 (by omega) hn9)⟩), by first | (intro q; omega) | exact fun _ => ⟨iA, ig⟩, by first | assumption | omega, by first | assumption | omega⟩ rfl (Nat.le_refl _) (Nat.le_refl _)
          · -- 45f
            refine z_aload_n hC 48 hl dX7_readRow_48 rfl 0 rfl ?_
            refine z_iconst hC 49 dX7_readRow_49 ?_
            refine z_st (st' := [.int (iZ (((2 : Nat) : Int))), .ref (ad 0)]) (zcons (zieq (by omega)) rfl) ?_
            refine z_same (z_runV hC hH.2.2 hl.1 hH.1 hH.2.1 1 (As := [.int (iZ (((2 : Nat) : Int)))]) (rest := []) (m_X7_wrong lau s0 G _ ad (va_up (va_up (va_up (va_up (va_up (va_up (va_up (va_up F 16 ((m9 : Int))) 22 ((tn : Int))) 23 ((nx9 : Int))) 24 ((pl9 : Int))) 25 (st9)) 26 (nu9)) 27 (0)) 28 (fp9)) (va_up (va_up (va_up Ar 1 (nA t)) 14 (cI (m9) v9 gv)) 15 (cI (m9) w9 gw)) 2 pl9 (by first | assumption | omega)) (lw_V q1613 q1615 qs52 q95 q1616) ⟨rfl, by decide, by decide, by decide +kernel⟩ (q0 := 0) (ci := 0) rfl rfl rfl rfl (Nat.le_of_ble_eq_true rfl) ⟨Nat.le_of_ble_eq_true rfl, Nat.le_of_ble_eq_true rfl⟩ ⟨Nat.le_of_ble_eq_true rfl, Nat.le_of_ble_eq_true rfl⟩ dX7_readRow_50) hH (fun _ H locs hpost hH => ?_)
            have hH : zH s0 s1 G as0 (mW ad G (va_up (va_up (va_up (va_up (va_up (va_up (va_up (va_up F 16 ((m9 : Int))) 22 ((tn : Int))) 23 ((nx9 : Int))) 24 ((pl9 : Int))) 25 (st9)) 26 (nu9)) 27 (2)) 28 ((pl9 : Int))) (va_up (va_up (va_up Ar 1 (nA t)) 14 (cI (m9) v9 gv)) 15 (cI (m9) w9 gw))) H locs := hH
            refine z_st (st' := []) rfl ?_
            refine z_aload_n hC 53 hl dX7_readRow_53 rfl 0 rfl ?_
            refine z_iconst hC 54 dX7_readRow_54 ?_
            refine z_sipush hC 55 dX7_readRow_55 rfl ?_
            refine z_st (st' := [.int (iZ (((999 : Nat) : Int))), .int (iZ (((0 : Nat) : Int))), .ref (ad 0)]) (zcons (zieq (by omega)) (zcons (zieq (by omega)) rfl)) ?_
            refine z_same (z_runV hC hH.2.2 hl.1 hH.1 hH.2.1 2 (As := [.int (iZ (((0 : Nat) : Int))), .int (iZ (((999 : Nat) : Int)))]) (rest := []) (m_X7_within_x lau s0 G _ ad (va_up (va_up (va_up (va_up (va_up (va_up (va_up (va_up F 16 ((m9 : Int))) 22 ((tn : Int))) 23 ((nx9 : Int))) 24 ((pl9 : Int))) 25 (st9)) 26 (nu9)) 27 (2)) 28 ((pl9 : Int))) (va_up (va_up (va_up Ar 1 (nA t)) 14 (cI (m9) v9 gv)) 15 (cI (m9) w9 gw)) 2 0 999 (by first | assumption | omega) (by first | assumption | omega)) (lw_V q1617 q1619 qs53 q95 q1620) ⟨rfl, by decide, by decide, by decide +kernel⟩ (q0 := 0) (ci := 0) rfl rfl rfl rfl (Nat.le_of_ble_eq_true rfl) ⟨Nat.le_of_ble_eq_true rfl, Nat.le_of_ble_eq_true rfl⟩ ⟨Nat.le_of_ble_eq_true rfl, Nat.le_of_ble_eq_true rfl⟩ dX7_readRow_58) hH (fun _ H locs hpost hH => ?_)
            have hH : zH s0 s1 G as0 (mW ad G (va_up (va_up (va_up (va_up (va_up (va_up (va_up (va_up F 16 ((m9 : Int))) 22 ((tn : Int))) 23 ((nx9 : Int))) 24 ((pl9 : Int))) 25 (st9)) 26 (nu9)) 27 (2)) 28 ((pl9 : Int))) (va_up (va_up (va_up Ar 1 (nA t)) 14 (cI (m9) v9 gv)) 15 (cI (m9) w9 gw))) H locs := hH
            refine z_st (st' := [.int (iZ (0))]) rfl ?_
            refine z_istore_n (lv' := [(1, .int (iZ (0))), (0, .ref (ad 0))]) hC 61 hl dX7_readRow_61 rfl (by decide) rfl (fun ls hl => ?_)
            refine z_aload_n hC 62 hl dX7_readRow_62 rfl 1 rfl ?_
            refine gmW_27 (x := 2) hC hH 63 rfl dX7_readRow_63 ?_
            refine z_if_eq_f hC 66 70 dX7_readRow_66 rfl (by omega) (by omega) ?_
            -- R69.4
            exact z_vret hC hH hQ 69 ((2, so9, pl9, vl9, nx9, st9, nu9, (pl9 : Int), m9, v9, w9)) dX7_readRow_69 rfl ⟨by exact OKE_1 (by decide) rfl ⟨so_1, pl_1, vl_1, nx_1, pT_1, hKl.2 _ (ROW_e2 hso9 (by omega))⟩, by first | (intro q; omega) | exact fun _ => ⟨iA, ig⟩, by first | assumption | omega, by first | assumption | omega⟩ rfl (Nat.le_refl _) (Nat.le_refl _)
    -- J31.5
    exact L31 _ so_1 pl_1 vl_1 nx_1 m st_1 nu_1 (F 28) v w _ _ _ (Nat.lt_succ_self _) (by first | assumption | omega) (by first | exact pA_1 | exact hpk9.1) (by first | exact pB_1 | (have h9 := hpk9.2; omega)) (by first | exact Or.inl ⟨by omega, fun r hr => hr⟩ | exact ROW_nx hKl.2 hso9 (by omega) hn9) hH (lv_sub hl [0] rfl)
  · -- 16f
    refine z_aload_n hC 19 hl dX7_readRow_19 rfl 0 rfl ?_
    refine z_iconst hC 20 dX7_readRow_20 ?_
    refine z_st (st' := [.int (iZ (((1 : Nat) : Int))), .ref (ad 0)]) (zcons (zieq (by omega)) rfl) ?_
    refine z_same (z_runV hC hH.2.2 hl.1 hH.1 hH.2.1 1 (As := [.int (iZ (((1 : Nat) : Int)))]) (rest := []) (m_X7_wrong lau s0 G _ ad (va_up (va_up (va_up (va_up (va_up (va_up (va_up F 16 ((m : Int))) 22 ((tn : Int))) 23 ((nx_1 : Int))) 24 ((pl_1 : Int))) 25 (st_1)) 26 (nu_1)) 27 (0)) (va_up (va_up (va_up Ar 1 (nA t)) 14 (cI (m) v gv)) 15 (cI (m) w gw)) 1 pl_1 (by first | assumption | omega)) (lw_V q1613 q1615 qs52 q95 q1616) ⟨rfl, by decide, by decide, by decide +kernel⟩ (q0 := 0) (ci := 0) rfl rfl rfl rfl (Nat.le_of_ble_eq_true rfl) ⟨Nat.le_of_ble_eq_true rfl, Nat.le_of_ble_eq_true rfl⟩ ⟨Nat.le_of_ble_eq_true rfl, Nat.le_of_ble_eq_true rfl⟩ dX7_readRow_21) hH (fun _ H locs hpost hH => ?_)
    have hH : zH s0 s1 G as0 (mW ad G (va_up (va_up (va_up (va_up (va_up (va_up (va_up (va_up F 16 ((m : Int))) 22 ((tn : Int))) 23 ((nx_1 : Int))) 24 ((pl_1 : Int))) 25 (st_1)) 26 (nu_1)) 27 (1)) 28 ((pl_1 : Int))) (va_up (va_up (va_up Ar 1 (nA t)) 14 (cI (m) v gv)) 15 (cI (m) w gw))) H locs := hH
    refine z_st (st' := []) rfl ?_
    refine z_aload_n hC 24 hl dX7_readRow_24 rfl 0 rfl ?_
    refine gmW_27 (x := 1) hC hH 25 rfl dX7_readRow_25 ?_
    refine z_if_ne_t hC 28 103 dX7_readRow_28 rfl (by omega) (by omega) ?_
    -- R103.6
    exact z_vret hC hH hQ 103 ((1, so_1, pl_1, vl_1, nx_1, st_1, nu_1, (pl_1 : Int), m, v, w)) dX7_readRow_103 rfl ⟨by exact OKE_1 (by decide) rfl ⟨so_1, pl_1, vl_1, nx_1, pT_1, ROW_e1 (by omega)⟩, by first | (intro q; omega) | exact fun _ => ⟨iA, ig⟩, by first | assumption | omega, by first | assumption | omega⟩ rfl (Nat.le_refl _) (Nat.le_refl _)

set_option maxHeartbeats 8000000 in
set_option maxRecDepth 100000 in
theorem m_X7_readWeight (lau : Launch) (s0 : State) (G : zG) (sz : Nat) (ad : Nat → Nat) (F : Nat → Int) (Ar : Nat → Nat → Int) (t : Nat → Nat) (tn : Nat) (lq : Nat) (lva : Nat) (nx : Nat) (m : Nat) (w : Nat → Nat) (gw : Nat → Int) (htn : tn ≤ 900) (htb : ∀ i, i < tn → t i < 256) (hlit : zLit s0 "ModeDeskModel" 107 "first last least most row weight block ties " lq lva 44 wC) (hcs : zCS s0) (hsi : zSio s0) (hnx : nx ≤ tn) (hm : m ≤ 120) : zMet (S := Nat × Nat × Nat × Nat × Nat × Int × Int × Int × (Nat → Nat)) lau yX7_readWeight cX7_readWeight 3 (none) 8 172 0 0 s0 G sz [.ref (ad 0)] (mW ad G (va_up (va_up (va_up (va_up F 16 ((m : Int))) 22 ((tn : Int))) 23 ((nx : Int))) 27 (0)) (va_up (va_up Ar 1 (nA t)) 15 (cI (m) w gw))) (fun ((fa, so2, pl2, vl2, nx2, st2, nu2, fp, w2) : Nat × Nat × Nat × Nat × Nat × Int × Int × Int × (Nat → Nat)) => (none : Option Value)) (fun ((fa, so2, pl2, vl2, nx2, st2, nu2, fp, w2) : Nat × Nat × Nat × Nat × Nat × Int × Int × Int × (Nat → Nat)) => (OKE (WGr t tn nx m w) fa fp (so2, pl2, vl2, nx2, w2)) ∧ (fa = 0 → TKA tn so2 pl2 vl2 nx2 st2 nu2 ∧ nx ≤ pl2) ∧ (fa ≤ 3)) (fun ((fa, so2, pl2, vl2, nx2, st2, nu2, fp, w2) : Nat × Nat × Nat × Nat × Nat × Int × Int × Int × (Nat → Nat)) => (mW ad G (va_up (va_up (va_up (va_up (va_up (va_up (va_up (va_up F 16 ((m : Int))) 22 ((tn : Int))) 23 ((nx2 : Int))) 24 ((pl2 : Int))) 25 (st2)) 26 (nu2)) 27 ((fa : Int))) 28 (fp)) (va_up (va_up Ar 1 (nA t)) 15 (cI (m) w2 gw)))) := by
  refine zMet.of (by decide) (Nat.le_of_ble_eq_true rfl) ?_
  intro pg ev s1 mi ar bl me cd ls Q as0 hC hH hl hQ hsz
  generalize s1.heap = H at hH ⊢
  generalize ([] : List Loc) = locs at hH ⊢
  have hl : lv_has ls 3 [(0, .ref (ad 0))] := hl
  refine z_aload_n hC 0 hl dX7_readWeight_0 rfl 0 rfl ?_
  refine z_same (z_runV hC hH.2.2 hl.1 hH.1 hH.2.1 0 (As := []) (rest := []) (m_X7_goOn lau s0 G _ ad (va_up (va_up (va_up (va_up F 16 ((m : Int))) 22 ((tn : Int))) 23 ((nx : Int))) 27 (0)) (va_up (va_up Ar 1 (nA t)) 15 (cI (m) w gw)) t tn lq lva nx (by first | assumption | omega) (by first | assumption | omega) (by first | assumption | omega) (by first | assumption | omega) (by first | assumption | omega) (by omega)) (lw_V q1609 q1611 qs51 q95 q1612) ⟨rfl, by decide, by decide, by decide +kernel⟩ (q0 := 0) (ci := 0) rfl rfl rfl rfl (Nat.le_of_ble_eq_true rfl) ⟨Nat.le_of_ble_eq_true rfl, Nat.le_of_ble_eq_true rfl⟩ ⟨Nat.le_of_ble_eq_true rfl, Nat.le_of_ble_eq_true rfl⟩ dX7_readWeight_1) hH (fun u_ H locs hpost hH => ?_)
  obtain ⟨so_1, pl_1, vl_1, nx_1, st_1, nu_1⟩ := u_
  obtain ⟨pT_1, pA_1, pB_1⟩ : (TOK t tn nx so_1 pl_1 vl_1 nx_1) ∧ (TKA tn so_1 pl_1 vl_1 nx_1 st_1 nu_1) ∧ (nx ≤ pl_1) := hpost
  have hH : zH s0 s1 G as0 (mW ad G (va_up (va_up (va_up (va_up (va_up (va_up (va_up F 16 ((m : Int))) 22 ((tn : Int))) 23 ((nx_1 : Int))) 24 ((pl_1 : Int))) 25 (st_1)) 26 (nu_1)) 27 (0)) (va_up (va_up Ar 1 (nA t)) 15 (cI (m) w gw))) H locs := hH
  refine z_st (st' := []) rfl ?_
  have hA0 := pA_1.1
  have hA3 := pA_1.2.2
  unfold TSO at hA0
  refine z_aload_n hC 4 hl dX7_readWeight_4 rfl 0 rfl ?_
  refine gmW_27 (x := 0) hC hH 5 rfl dX7_readWeight_5 ?_
  refine z_if_ne_f hC 8 35 dX7_readWeight_8 rfl (by omega) (by omega) ?_
  refine z_aload_n hC 11 hl dX7_readWeight_11 rfl 0 rfl ?_
  refine gmW_25 (x := st_1) hC hH 12 rfl dX7_readWeight_12 ?_
  refine z_iconst hC 15 dX7_readWeight_15 ?_
  refine z_icmp_ne hC 16 30 dX7_readWeight_16 rfl (by omega) (by omega) (fun hb1 => ?_) (fun hb1 => ?_)
  · -- 16t
    refine z_aload_n hC 30 hl dX7_readWeight_30 rfl 0 rfl ?_
    refine z_iconst hC 31 dX7_readWeight_31 ?_
    refine z_st (st' := [.int (iZ (((1 : Nat) : Int))), .ref (ad 0)]) (zcons (zieq (by omega)) rfl) ?_
    refine z_same (z_runV hC hH.2.2 hl.1 hH.1 hH.2.1 1 (As := [.int (iZ (((1 : Nat) : Int)))]) (rest := []) (m_X7_wrong lau s0 G _ ad (va_up (va_up (va_up (va_up (va_up (va_up (va_up F 16 ((m : Int))) 22 ((tn : Int))) 23 ((nx_1 : Int))) 24 ((pl_1 : Int))) 25 (st_1)) 26 (nu_1)) 27 (0)) (va_up (va_up Ar 1 (nA t)) 15 (cI (m) w gw)) 1 pl_1 (by first | assumption | omega)) (lw_V q1613 q1615 qs52 q95 q1616) ⟨rfl, by decide, by decide, by decide +kernel⟩ (q0 := 0) (ci := 0) rfl rfl rfl rfl (Nat.le_of_ble_eq_true rfl) ⟨Nat.le_of_ble_eq_true rfl, Nat.le_of_ble_eq_true rfl⟩ ⟨Nat.le_of_ble_eq_true rfl, Nat.le_of_ble_eq_true rfl⟩ dX7_readWeight_32) hH (fun _ H locs hpost hH => ?_)
    have hH : zH s0 s1 G as0 (mW ad G (va_up (va_up (va_up (va_up (va_up (va_up (va_up (va_up F 16 ((m : Int))) 22 ((tn : Int))) 23 ((nx_1 : Int))) 24 ((pl_1 : Int))) 25 (st_1)) 26 (nu_1)) 27 (1)) 28 ((pl_1 : Int))) (va_up (va_up Ar 1 (nA t)) 15 (cI (m) w gw))) H locs := hH
    refine z_st (st' := []) rfl ?_
    refine z_aload_n hC 35 hl dX7_readWeight_35 rfl 0 rfl ?_
    refine gmW_26 (x := nu_1) hC hH 36 rfl dX7_readWeight_36 ?_
    refine z_istore_n (lv' := [(1, .int (iZ (nu_1))), (0, .ref (ad 0))]) hC 39 hl dX7_readWeight_39 rfl (by decide) rfl (fun ls hl => ?_)
    refine z_aload_n hC 40 hl dX7_readWeight_40 rfl 1 rfl ?_
    refine z_same (z_runV hC hH.2.2 hl.1 hH.1 hH.2.1 0 (As := []) (rest := []) (m_X7_goOn_x lau s0 G _ ad (va_up (va_up (va_up (va_up (va_up (va_up (va_up (va_up F 16 ((m : Int))) 22 ((tn : Int))) 23 ((nx_1 : Int))) 24 ((pl_1 : Int))) 25 (st_1)) 26 (nu_1)) 27 (1)) 28 ((pl_1 : Int))) (va_up (va_up Ar 1 (nA t)) 15 (cI (m) w gw)) 1 (by first | assumption | omega)) (lw_V q1609 q1611 qs51 q95 q1612) ⟨rfl, by decide, by decide, by decide +kernel⟩ (q0 := 0) (ci := 0) rfl rfl rfl rfl (Nat.le_of_ble_eq_true rfl) ⟨Nat.le_of_ble_eq_true rfl, Nat.le_of_ble_eq_true rfl⟩ ⟨Nat.le_of_ble_eq_true rfl, Nat.le_of_ble_eq_true rfl⟩ dX7_readWeight_41) hH (fun _ H locs hpost hH => ?_)
    have hH : zH s0 s1 G as0 (mW ad G (va_up (va_up (va_up (va_up (va_up (va_up (va_up (va_up F 16 ((m : Int))) 22 ((tn : Int))) 23 ((nx_1 : Int))) 24 ((pl_1 : Int))) 25 (st_1)) 26 (nu_1)) 27 (1)) 28 ((pl_1 : Int))) (va_up (va_up Ar 1 (nA t)) 15 (cI (m) w gw))) H locs := hH
    refine z_st (st' := []) rfl ?_
    refine z_aload_n hC 44 hl dX7_readWeight_44 rfl 1 rfl ?_
    refine z_iconst hC 45 dX7_readWeight_45 ?_
    refine z_bipush hC 46 dX7_readWeight_46 rfl ?_
    refine z_st (st' := [.int (iZ (((9 : Nat) : Int))), .int (iZ (((1 : Nat) : Int))), .ref (ad 0)]) (zcons (zieq (by omega)) (zcons (zieq (by omega)) rfl)) ?_
    refine z_same (z_runV hC hH.2.2 hl.1 hH.1 hH.2.1 2 (As := [.int (iZ (((1 : Nat) : Int))), .int (iZ (((9 : Nat) : Int)))]) (rest := []) (m_X7_within_x lau s0 G _ ad (va_up (va_up (va_up (va_up (va_up (va_up (va_up (va_up F 16 ((m : Int))) 22 ((tn : Int))) 23 ((nx_1 : Int))) 24 ((pl_1 : Int))) 25 (st_1)) 26 (nu_1)) 27 (1)) 28 ((pl_1 : Int))) (va_up (va_up Ar 1 (nA t)) 15 (cI (m) w gw)) 1 1 9 (by first | assumption | omega) (by first | assumption | omega)) (lw_V q1617 q1619 qs53 q95 q1620) ⟨rfl, by decide, by decide, by decide +kernel⟩ (q0 := 0) (ci := 0) rfl rfl rfl rfl (Nat.le_of_ble_eq_true rfl) ⟨Nat.le_of_ble_eq_true rfl, Nat.le_of_ble_eq_true rfl⟩ ⟨Nat.le_of_ble_eq_true rfl, Nat.le_of_ble_eq_true rfl⟩ dX7_readWeight_48) hH (fun _ H locs hpost hH => ?_)
    have hH : zH s0 s1 G as0 (mW ad G (va_up (va_up (va_up (va_up (va_up (va_up (va_up (va_up F 16 ((m : Int))) 22 ((tn : Int))) 23 ((nx_1 : Int))) 24 ((pl_1 : Int))) 25 (st_1)) 26 (nu_1)) 27 (1)) 28 ((pl_1 : Int))) (va_up (va_up Ar 1 (nA t)) 15 (cI (m) w gw))) H locs := hH
    refine z_st (st' := [.int (iZ (1))]) rfl ?_
    refine z_istore_n (lv' := [(2, .int (iZ (1))), (1, .int (iZ (nu_1))), (0, .ref (ad 0))]) hC 51 hl dX7_readWeight_51 rfl (by decide) rfl (fun ls hl => ?_)
    refine z_aload_n hC 52 hl dX7_readWeight_52 rfl 2 rfl ?_
    refine gmW_27 (x := 1) hC hH 53 rfl dX7_readWeight_53 ?_
    refine z_if_ne_t hC 56 66 dX7_readWeight_56 rfl (by omega) (by omega) ?_
    -- R66.1
    exact z_vret hC hH hQ 66 ((1, so_1, pl_1, vl_1, nx_1, st_1, nu_1, (pl_1 : Int), w)) dX7_readWeight_66 rfl ⟨by exact OKE_1 (by decide) rfl (WGr_1 pT_1 (by omega)), by first | (intro q; omega) | (intro q; have h9 := pk_48 (by omega); have h8 := pA_41.2.2; have h7 := pA_1.2.2; exact ⟨h9.1, by omega⟩), by first | assumption | omega⟩ rfl (Nat.le_refl _) (Nat.le_refl _)
  · -- 16f
    obtain ⟨N9, rfl, hNT⟩ := pA_1.2.1.1 (by have h9 := pA_1.1; unfold TSO at h9; omega)
    refine z_aload_n hC 19 hl dX7_readWeight_19 rfl 0 rfl ?_
    have hNT2 := hNT
    unfold NUMT at hNT2
    refine gmW_26 (x := (N9 : Int)) hC hH 20 rfl dX7_readWeight_20 ?_
    refine z_aload_n hC 23 hl dX7_readWeight_23 rfl 0 rfl ?_
    refine gmW_16 (x := (m : Int)) hC hH 24 rfl dX7_readWeight_24 ?_
    refine z_icmp_lt hC 27 35 dX7_readWeight_27 rfl (by omega) (by omega) (fun hb2 => ?_) (fun hb2 => ?_)
    · -- 27t
      refine z_aload_n hC 35 hl dX7_readWeight_35 rfl 0 rfl ?_
      refine gmW_26 (x := (N9 : Int)) hC hH 36 rfl dX7_readWeight_36 ?_
      refine z_istore_n (lv' := [(1, .int (iZ ((N9 : Int)))), (0, .ref (ad 0))]) hC 39 hl dX7_readWeight_39 rfl (by decide) rfl (fun ls hl => ?_)
      refine z_aload_n hC 40 hl dX7_readWeight_40 rfl 1 rfl ?_
      refine z_same (z_runV hC hH.2.2 hl.1 hH.1 hH.2.1 0 (As := []) (rest := []) (m_X7_goOn lau s0 G _ ad (va_up (va_up (va_up (va_up (va_up (va_up (va_up F 16 ((m : Int))) 22 ((tn : Int))) 23 ((nx_1 : Int))) 24 ((pl_1 : Int))) 25 (st_1)) 26 ((N9 : Int))) 27 (0)) (va_up (va_up Ar 1 (nA t)) 15 (cI (m) w gw)) t tn lq lva nx_1 (by first | assumption | omega) (by first | assumption | omega) (by first | assumption | omega) (by first | assumption | omega) (by first | assumption | omega) (by omega)) (lw_V q1609 q1611 qs51 q95 q1612) ⟨rfl, by decide, by decide, by decide +kernel⟩ (q0 := 0) (ci := 0) rfl rfl rfl rfl (Nat.le_of_ble_eq_true rfl) ⟨Nat.le_of_ble_eq_true rfl, Nat.le_of_ble_eq_true rfl⟩ ⟨Nat.le_of_ble_eq_true rfl, Nat.le_of_ble_eq_true rfl⟩ dX7_readWeight_41) hH (fun u_ H locs hpost hH => ?_)
      obtain ⟨so_41, pl_41, vl_41, nx_41, st_41, nu_41⟩ := u_
      obtain ⟨pT_41, pA_41, pB_41⟩ : (TOK t tn nx_1 so_41 pl_41 vl_41 nx_41) ∧ (TKA tn so_41 pl_41 vl_41 nx_41 st_41 nu_41) ∧ (nx_1 ≤ pl_41) := hpost
      have hH : zH s0 s1 G as0 (mW ad G (va_up (va_up (va_up (va_up (va_up (va_up (va_up F 16 ((m : Int))) 22 ((tn : Int))) 23 ((nx_41 : Int))) 24 ((pl_41 : Int))) 25 (st_41)) 26 (nu_41)) 27 (0)) (va_up (va_up Ar 1 (nA t)) 15 (cI (m) w gw))) H locs := hH
      refine z_st (st' := []) rfl ?_
      refine z_aload_n hC 44 hl dX7_readWeight_44 rfl 1 rfl ?_
      refine z_iconst hC 45 dX7_readWeight_45 ?_
      refine z_bipush hC 46 dX7_readWeight_46 rfl ?_
      refine z_st (st' := [.int (iZ (((9 : Nat) : Int))), .int (iZ (((1 : Nat) : Int))), .ref (ad 0)]) (zcons (zieq (by omega)) (zcons (zieq (by omega)) rfl)) ?_
      refine z_same (z_runV hC hH.2.2 hl.1 hH.1 hH.2.1 2 (As := [.int (iZ (((1 : Nat) : Int))), .int (iZ (((9 : Nat) : Int)))]) (rest := []) (m_X7_within lau s0 G _ ad (va_up (va_up (va_up (va_up (va_up (va_up (va_up F 16 ((m : Int))) 22 ((tn : Int))) 23 ((nx_41 : Int))) 24 ((pl_41 : Int))) 25 (st_41)) 26 (nu_41)) 27 (0)) (va_up (va_up Ar 1 (nA t)) 15 (cI (m) w gw)) t tn lq lva so_41 pl_41 vl_41 nx_41 st_41 nu_41 1 9 (by first | assumption | omega) (by first | assumption | omega) (by first | assumption | omega) (by first | assumption | omega) (by first | assumption | omega) (by first | assumption | omega) (by first | assumption | omega)) (lw_V q1617 q1619 qs53 q95 q1620) ⟨rfl, by decide, by decide, by decide +kernel⟩ (q0 := 0) (ci := 0) rfl rfl rfl rfl (Nat.le_of_ble_eq_true rfl) ⟨Nat.le_of_ble_eq_true rfl, Nat.le_of_ble_eq_true rfl⟩ ⟨Nat.le_of_ble_eq_true rfl, Nat.le_of_ble_eq_true rfl⟩ dX7_readWeight_48) hH (fun u_ H locs hpost hH => ?_)
      obtain ⟨z_48, fa_48, so2_48, pl2_48, vl2_48, nx2_48, st2_48, nu2_48, fp_48⟩ := u_
      obtain ⟨pr_48, pk_48, pz_48, pf_48⟩ : (OKE (NUMr t tn 1 9 so_41 pl_41 vl_41 nx_41) fa_48 fp_48 (z_48, so2_48, pl2_48, vl2_48, nx2_48)) ∧ (fa_48 = 0 → TKA tn so2_48 pl2_48 vl2_48 nx2_48 st2_48 nu2_48 ∧ nx_41 ≤ pl2_48) ∧ (z_48 ≤ 9) ∧ (fa_48 ≤ 3) := hpost
      have hH : zH s0 s1 G as0 (mW ad G (va_up (va_up (va_up (va_up (va_up (va_up (va_up (va_up F 16 ((m : Int))) 22 ((tn : Int))) 23 ((nx2_48 : Int))) 24 ((pl2_48 : Int))) 25 (st2_48)) 26 (nu2_48)) 27 ((fa_48 : Int))) 28 (fp_48)) (va_up (va_up Ar 1 (nA t)) 15 (cI (m) w gw))) H locs := hH
      refine z_st (st' := [.int (iZ ((z_48 : Int)))]) rfl ?_
      refine z_istore_n (lv' := [(2, .int (iZ ((z_48 : Int)))), (1, .int (iZ ((N9 : Int)))), (0, .ref (ad 0))]) hC 51 hl dX7_readWeight_51 rfl (by decide) rfl (fun ls hl => ?_)
      refine z_aload_n hC 52 hl dX7_readWeight_52 rfl 2 rfl ?_
      refine gmW_27 (x := (fa_48 : Int)) hC hH 53 rfl dX7_readWeight_53 ?_
      refine z_if_ne hC 56 66 dX7_readWeight_56 rfl (by omega) (fun hb3 => ?_) (fun hb3 => ?_)
      · -- 56t
        -- R66.2
        exact z_vret hC hH hQ 66 ((fa_48, so2_48, pl2_48, vl2_48, nx2_48, st2_48, nu2_48, fp_48, w)) dX7_readWeight_66 rfl ⟨by (obtain ⟨fq9, e9, hn9⟩ := OKE_er pr_48 (by omega); exact OKE_1 (by omega) e9 (WGr_2 pT_1 (by omega) pT_41 hn9)), by first | (intro q; omega) | (intro q; have h9 := pk_48 (by omega); have h8 := pA_41.2.2; have h7 := pA_1.2.2; exact ⟨h9.1, by omega⟩), by first | assumption | omega⟩ rfl (Nat.le_refl _) (Nat.le_refl _)
      · -- 56f
        have hn9 := OKE_ok pr_48 (by omega)
        refine z_aload_n hC 59 hl dX7_readWeight_59 rfl 2 rfl ?_
        refine gmW_15 hC hH 60 dX7_readWeight_60 ?_
        refine z_iload_n hC 63 hl dX7_readWeight_63 rfl 1 rfl ?_
        refine z_iload_n hC 64 hl dX7_readWeight_64 rfl 0 rfl ?_
        refine smW_15 (f' := (cI (m) (va_up w (N9) (z_48)) gw)) hC hH 65 (N9) (by omega) (by omega) (by exact cI_up (by omega)) dX7_readWeight_65 (fun H locs hH => ?_)
        have hH : zH s0 s1 G as0 (mW ad G (va_up (va_up (va_up (va_up (va_up (va_up (va_up (va_up F 16 ((m : Int))) 22 ((tn : Int))) 23 ((nx2_48 : Int))) 24 ((pl2_48 : Int))) 25 (st2_48)) 26 (nu2_48)) 27 ((fa_48 : Int))) 28 (fp_48)) (va_up (va_up Ar 1 (nA t)) 15 (cI (m) (va_up w (N9) (z_48)) gw))) H locs := hH
        -- R66.3
        exact z_vret hC hH hQ 66 ((fa_48, so2_48, pl2_48, vl2_48, nx2_48, st2_48, nu2_48, fp_48, (va_up w (N9) (z_48)))) dX7_readWeight_66 rfl ⟨by exact OKE_0 (by omega) (WGr_o pT_1 (by omega) pT_41 hn9 (by omega)), by first | (intro q; omega) | (intro q; have h9 := pk_48 (by omega); have h8 := pA_41.2.2; have h7 := pA_1.2.2; exact ⟨h9.1, by omega⟩), by first | assumption | omega⟩ rfl (Nat.le_refl _) (Nat.le_refl _)
    · -- 27f
      refine z_aload_n hC 30 hl dX7_readWeight_30 rfl 0 rfl ?_
      refine z_iconst hC 31 dX7_readWeight_31 ?_
      refine z_st (st' := [.int (iZ (((1 : Nat) : Int))), .ref (ad 0)]) (zcons (zieq (by omega)) rfl) ?_
      refine z_same (z_runV hC hH.2.2 hl.1 hH.1 hH.2.1 1 (As := [.int (iZ (((1 : Nat) : Int)))]) (rest := []) (m_X7_wrong lau s0 G _ ad (va_up (va_up (va_up (va_up (va_up (va_up (va_up F 16 ((m : Int))) 22 ((tn : Int))) 23 ((nx_1 : Int))) 24 ((pl_1 : Int))) 25 (st_1)) 26 ((N9 : Int))) 27 (0)) (va_up (va_up Ar 1 (nA t)) 15 (cI (m) w gw)) 1 pl_1 (by first | assumption | omega)) (lw_V q1613 q1615 qs52 q95 q1616) ⟨rfl, by decide, by decide, by decide +kernel⟩ (q0 := 0) (ci := 0) rfl rfl rfl rfl (Nat.le_of_ble_eq_true rfl) ⟨Nat.le_of_ble_eq_true rfl, Nat.le_of_ble_eq_true rfl⟩ ⟨Nat.le_of_ble_eq_true rfl, Nat.le_of_ble_eq_true rfl⟩ dX7_readWeight_32) hH (fun _ H locs hpost hH => ?_)
      have hH : zH s0 s1 G as0 (mW ad G (va_up (va_up (va_up (va_up (va_up (va_up (va_up (va_up F 16 ((m : Int))) 22 ((tn : Int))) 23 ((nx_1 : Int))) 24 ((pl_1 : Int))) 25 (st_1)) 26 ((N9 : Int))) 27 (1)) 28 ((pl_1 : Int))) (va_up (va_up Ar 1 (nA t)) 15 (cI (m) w gw))) H locs := hH
      refine z_st (st' := []) rfl ?_
      refine z_aload_n hC 35 hl dX7_readWeight_35 rfl 0 rfl ?_
      refine gmW_26 (x := (N9 : Int)) hC hH 36 rfl dX7_readWeight_36 ?_
      refine z_istore_n (lv' := [(1, .int (iZ ((N9 : Int)))), (0, .ref (ad 0))]) hC 39 hl dX7_readWeight_39 rfl (by decide) rfl (fun ls hl => ?_)
      refine z_aload_n hC 40 hl dX7_readWeight_40 rfl 1 rfl ?_
      refine z_same (z_runV hC hH.2.2 hl.1 hH.1 hH.2.1 0 (As := []) (rest := []) (m_X7_goOn_x lau s0 G _ ad (va_up (va_up (va_up (va_up (va_up (va_up (va_up (va_up F 16 ((m : Int))) 22 ((tn : Int))) 23 ((nx_1 : Int))) 24 ((pl_1 : Int))) 25 (st_1)) 26 ((N9 : Int))) 27 (1)) 28 ((pl_1 : Int))) (va_up (va_up Ar 1 (nA t)) 15 (cI (m) w gw)) 1 (by first | assumption | omega)) (lw_V q1609 q1611 qs51 q95 q1612) ⟨rfl, by decide, by decide, by decide +kernel⟩ (q0 := 0) (ci := 0) rfl rfl rfl rfl (Nat.le_of_ble_eq_true rfl) ⟨Nat.le_of_ble_eq_true rfl, Nat.le_of_ble_eq_true rfl⟩ ⟨Nat.le_of_ble_eq_true rfl, Nat.le_of_ble_eq_true rfl⟩ dX7_readWeight_41) hH (fun _ H locs hpost hH => ?_)
      have hH : zH s0 s1 G as0 (mW ad G (va_up (va_up (va_up (va_up (va_up (va_up (va_up (va_up F 16 ((m : Int))) 22 ((tn : Int))) 23 ((nx_1 : Int))) 24 ((pl_1 : Int))) 25 (st_1)) 26 ((N9 : Int))) 27 (1)) 28 ((pl_1 : Int))) (va_up (va_up Ar 1 (nA t)) 15 (cI (m) w gw))) H locs := hH
      refine z_st (st' := []) rfl ?_
      refine z_aload_n hC 44 hl dX7_readWeight_44 rfl 1 rfl ?_
      refine z_iconst hC 45 dX7_readWeight_45 ?_
      refine z_bipush hC 46 dX7_readWeight_46 rfl ?_
      refine z_st (st' := [.int (iZ (((9 : Nat) : Int))), .int (iZ (((1 : Nat) : Int))), .ref (ad 0)]) (zcons (zieq (by omega)) (zcons (zieq (by omega)) rfl)) ?_
      refine z_same (z_runV hC hH.2.2 hl.1 hH.1 hH.2.1 2 (As := [.int (iZ (((1 : Nat) : Int))), .int (iZ (((9 : Nat) : Int)))]) (rest := []) (m_X7_within_x lau s0 G _ ad (va_up (va_up (va_up (va_up (va_up (va_up (va_up (va_up F 16 ((m : Int))) 22 ((tn : Int))) 23 ((nx_1 : Int))) 24 ((pl_1 : Int))) 25 (st_1)) 26 ((N9 : Int))) 27 (1)) 28 ((pl_1 : Int))) (va_up (va_up Ar 1 (nA t)) 15 (cI (m) w gw)) 1 1 9 (by first | assumption | omega) (by first | assumption | omega)) (lw_V q1617 q1619 qs53 q95 q1620) ⟨rfl, by decide, by decide, by decide +kernel⟩ (q0 := 0) (ci := 0) rfl rfl rfl rfl (Nat.le_of_ble_eq_true rfl) ⟨Nat.le_of_ble_eq_true rfl, Nat.le_of_ble_eq_true rfl⟩ ⟨Nat.le_of_ble_eq_true rfl, Nat.le_of_ble_eq_true rfl⟩ dX7_readWeight_48) hH (fun _ H locs hpost hH => ?_)
      have hH : zH s0 s1 G as0 (mW ad G (va_up (va_up (va_up (va_up (va_up (va_up (va_up (va_up F 16 ((m : Int))) 22 ((tn : Int))) 23 ((nx_1 : Int))) 24 ((pl_1 : Int))) 25 (st_1)) 26 ((N9 : Int))) 27 (1)) 28 ((pl_1 : Int))) (va_up (va_up Ar 1 (nA t)) 15 (cI (m) w gw))) H locs := hH
      refine z_st (st' := [.int (iZ (1))]) rfl ?_
      refine z_istore_n (lv' := [(2, .int (iZ (1))), (1, .int (iZ ((N9 : Int)))), (0, .ref (ad 0))]) hC 51 hl dX7_readWeight_51 rfl (by decide) rfl (fun ls hl => ?_)
      refine z_aload_n hC 52 hl dX7_readWeight_52 rfl 2 rfl ?_
      refine gmW_27 (x := 1) hC hH 53 rfl dX7_readWeight_53 ?_
      refine z_if_ne_t hC 56 66 dX7_readWeight_56 rfl (by omega) (by omega) ?_
      -- R66.4
      exact z_vret hC hH hQ 66 ((1, so_1, pl_1, vl_1, nx_1, st_1, (N9 : Int), (pl_1 : Int), w)) dX7_readWeight_66 rfl ⟨by exact OKE_1 (by decide) rfl (WGr_1 pT_1 (by omega)), by first | (intro q; omega) | (intro q; have h9 := pk_48 (by omega); have h8 := pA_41.2.2; have h7 := pA_1.2.2; exact ⟨h9.1, by omega⟩), by first | assumption | omega⟩ rfl (Nat.le_refl _) (Nat.le_refl _)

set_option maxHeartbeats 4000000 in
set_option maxRecDepth 100000 in
theorem m_X7_readBlock (lau : Launch) (s0 : State) (G : zG) (sz : Nat) (ad : Nat → Nat) (F : Nat → Int) (Ar : Nat → Nat → Int) (t : Nat → Nat) (tn : Nat) (lq : Nat) (lva : Nat) (pl : Nat) (nx : Nat) (hb : Nat) (htn : tn ≤ 900) (htb : ∀ i, i < tn → t i < 256) (hlit : zLit s0 "ModeDeskModel" 107 "first last least most row weight block ties " lq lva 44 wC) (hcs : zCS s0) (hsi : zSio s0) (hnx : nx ≤ tn) (hhb : hb ≤ 1) : zMet (S := Nat × Nat × Nat × Nat × Nat × Int × Int × Int × Nat) lau yX7_readBlock cX7_readBlock 1 (none) 8 172 0 0 s0 G sz [.ref (ad 0)] (mW ad G (va_up (va_up (va_up (va_up (va_up F 20 ((hb : Int))) 22 ((tn : Int))) 23 ((nx : Int))) 24 ((pl : Int))) 27 (0)) (va_up Ar 1 (nA t))) (fun ((fa, so2, pl2, vl2, nx2, st2, nu2, fp, bl2) : Nat × Nat × Nat × Nat × Nat × Int × Int × Int × Nat) => (none : Option Value)) (fun ((fa, so2, pl2, vl2, nx2, st2, nu2, fp, bl2) : Nat × Nat × Nat × Nat × Nat × Int × Int × Int × Nat) => (OKE (BLr t tn pl nx hb) fa fp (bl2, so2, pl2, vl2, nx2)) ∧ (fa = 0 → TKA tn so2 pl2 vl2 nx2 st2 nu2 ∧ nx ≤ pl2) ∧ (fa ≤ 3) ∧ (bl2 ≤ 20)) (fun ((fa, so2, pl2, vl2, nx2, st2, nu2, fp, bl2) : Nat × Nat × Nat × Nat × Nat × Int × Int × Int × Nat) => (mW ad G (va_up (va_up (va_up (va_up (va_up (va_up (va_up (va_up (va_up F 17 ((bl2 : Int))) 20 (1)) 22 ((tn : Int))) 23 ((nx2 : Int))) 24 ((pl2 : Int))) 25 (st2)) 26 (nu2)) 27 ((fa : Int))) 28 (fp)) (va_up Ar 1 (nA t)))) := by
  refine zMet.of (by decide) (Nat.le_of_ble_eq_true rfl) ?_
  intro pg ev s1 mi ar bl me cd ls Q as0 hC hH hl hQ hsz
  generalize s1.heap = H at hH ⊢
  generalize ([] : List Loc) = locs at hH ⊢
  have hl : lv_has ls 1 [(0, .ref (ad 0))] := hl
  refine z_aload_n hC 0 hl dX7_readBlock_0 rfl 0 rfl ?_
  refine gmW_20 (x := (hb : Int)) hC hH 1 rfl dX7_readBlock_1 ?_
  refine z_if_eq hC 4 12 dX7_readBlock_4 rfl (by omega) (fun hb1 => ?_) (fun hb1 => ?_)
  · -- 4t
    refine z_aload_n hC 12 hl dX7_readBlock_12 rfl 0 rfl ?_
    refine z_iconst hC 13 dX7_readBlock_13 ?_
    refine pmW_20 hC hH 14 (by omega) dX7_readBlock_14 (fun H locs hH => ?_)
    have hH : zH s0 s1 G as0 (mW ad G (va_up (va_up (va_up (va_up (va_up F 20 (1)) 22 ((tn : Int))) 23 ((nx : Int))) 24 ((pl : Int))) 27 (0)) (va_up Ar 1 (nA t))) H locs := hH
    refine z_aload_n hC 17 hl dX7_readBlock_17 rfl 0 rfl ?_
    refine z_same (z_runV hC hH.2.2 hl.1 hH.1 hH.2.1 0 (As := []) (rest := []) (m_X7_goOn lau s0 G _ ad (va_up (va_up (va_up (va_up (va_up F 20 (1)) 22 ((tn : Int))) 23 ((nx : Int))) 24 ((pl : Int))) 27 (0)) (va_up Ar 1 (nA t)) t tn lq lva nx (by first | assumption | omega) (by first | assumption | omega) (by first | assumption | omega) (by first | assumption | omega) (by first | assumption | omega) (by first | assumption | omega)) (lw_V q1609 q1611 qs51 q95 q1612) ⟨rfl, by decide, by decide, by decide +kernel⟩ (q0 := 0) (ci := 0) rfl rfl rfl rfl (Nat.le_of_ble_eq_true rfl) ⟨Nat.le_of_ble_eq_true rfl, Nat.le_of_ble_eq_true rfl⟩ ⟨Nat.le_of_ble_eq_true rfl, Nat.le_of_ble_eq_true rfl⟩ dX7_readBlock_18) hH (fun u_ H locs hpost hH => ?_)
    obtain ⟨so_18, pl_18, vl_18, nx_18, st_18, nu_18⟩ := u_
    obtain ⟨pT_18, pA_18, pB_18⟩ : (TOK t tn nx so_18 pl_18 vl_18 nx_18) ∧ (TKA tn so_18 pl_18 vl_18 nx_18 st_18 nu_18) ∧ (nx ≤ pl_18) := hpost
    have hH : zH s0 s1 G as0 (mW ad G (va_up (va_up (va_up (va_up (va_up (va_up (va_up F 20 (1)) 22 ((tn : Int))) 23 ((nx_18 : Int))) 24 ((pl_18 : Int))) 25 (st_18)) 26 (nu_18)) 27 (0)) (va_up Ar 1 (nA t))) H locs := hH
    refine z_st (st' := []) rfl ?_
    refine z_aload_n hC 21 hl dX7_readBlock_21 rfl 0 rfl ?_
    refine z_aload_n hC 22 hl dX7_readBlock_22 rfl 0 rfl ?_
    refine z_iconst hC 23 dX7_readBlock_23 ?_
    refine z_bipush hC 24 dX7_readBlock_24 rfl ?_
    refine z_st (st' := [.int (iZ (((20 : Nat) : Int))), .int (iZ (((2 : Nat) : Int))), .ref (ad 0), .ref (ad 0)]) (zcons (zieq (by omega)) (zcons (zieq (by omega)) rfl)) ?_
    refine z_same (z_runV hC hH.2.2 hl.1 hH.1 hH.2.1 2 (As := [.int (iZ (((2 : Nat) : Int))), .int (iZ (((20 : Nat) : Int)))]) (rest := [.ref (ad 0)]) (m_X7_within lau s0 G _ ad (va_up (va_up (va_up (va_up (va_up (va_up (va_up F 20 (1)) 22 ((tn : Int))) 23 ((nx_18 : Int))) 24 ((pl_18 : Int))) 25 (st_18)) 26 (nu_18)) 27 (0)) (va_up Ar 1 (nA t)) t tn lq lva so_18 pl_18 vl_18 nx_18 st_18 nu_18 2 20 (by first | assumption | omega) (by first | assumption | omega) (by first | assumption | omega) (by first | assumption | omega) (by first | assumption | omega) (by first | assumption | omega) (by first | assumption | omega)) (lw_V q1617 q1619 qs53 q95 q1620) ⟨rfl, by decide, by decide, by decide +kernel⟩ (q0 := 0) (ci := 0) rfl rfl rfl rfl (Nat.le_of_ble_eq_true rfl) ⟨Nat.le_of_ble_eq_true rfl, Nat.le_of_ble_eq_true rfl⟩ ⟨Nat.le_of_ble_eq_true rfl, Nat.le_of_ble_eq_true rfl⟩ dX7_readBlock_26) hH (fun u_ H locs hpost hH => ?_)
    obtain ⟨z_26, fa_26, so2_26, pl2_26, vl2_26, nx2_26, st2_26, nu2_26, fp_26⟩ := u_
    obtain ⟨pr_26, pk_26, pz_26, pf_26⟩ : (OKE (NUMr t tn 2 20 so_18 pl_18 vl_18 nx_18) fa_26 fp_26 (z_26, so2_26, pl2_26, vl2_26, nx2_26)) ∧ (fa_26 = 0 → TKA tn so2_26 pl2_26 vl2_26 nx2_26 st2_26 nu2_26 ∧ nx_18 ≤ pl2_26) ∧ (z_26 ≤ 20) ∧ (fa_26 ≤ 3) := hpost
    have hH : zH s0 s1 G as0 (mW ad G (va_up (va_up (va_up (va_up (va_up (va_up (va_up (va_up F 20 (1)) 22 ((tn : Int))) 23 ((nx2_26 : Int))) 24 ((pl2_26 : Int))) 25 (st2_26)) 26 (nu2_26)) 27 ((fa_26 : Int))) 28 (fp_26)) (va_up Ar 1 (nA t))) H locs := hH
    refine z_st (st' := [.int (iZ ((z_26 : Int))), .ref (ad 0)]) rfl ?_
    refine pmW_17 hC hH 29 dX7_readBlock_29 (fun H locs hH => ?_)
    have hH : zH s0 s1 G as0 (mW ad G (va_up (va_up (va_up (va_up (va_up (va_up (va_up (va_up (va_up F 17 ((z_26 : Int))) 20 (1)) 22 ((tn : Int))) 23 ((nx2_26 : Int))) 24 ((pl2_26 : Int))) 25 (st2_26)) 26 (nu2_26)) 27 ((fa_26 : Int))) 28 (fp_26)) (va_up Ar 1 (nA t))) H locs := hH
    -- R32.1
    exact z_vret hC hH hQ 32 ((fa_26, so2_26, pl2_26, vl2_26, nx2_26, st2_26, nu2_26, fp_26, z_26)) dX7_readBlock_32 rfl ⟨by (have hb9 : hb = 0 := (by omega); rcases pr_26 with ⟨e9, q9⟩ | ⟨e9, fq9, e8, q9⟩; exact OKE_0 e9 (Or.inr ⟨hb9, so_18, pl_18, vl_18, nx_18, pT_18, q9⟩); exact OKE_1 e9 e8 (Or.inr ⟨hb9, so_18, pl_18, vl_18, nx_18, pT_18, q9⟩)), by first | (intro q; omega) | (intro q; have h9 := pk_26 (by omega); have h7 := pA_18.2.2; exact ⟨h9.1, by omega⟩), by first | assumption | omega, by first | assumption | omega⟩ rfl (Nat.le_refl _) (Nat.le_refl _)
  · -- 4f
    refine z_aload_n hC 7 hl dX7_readBlock_7 rfl 0 rfl ?_
    refine z_iconst hC 8 dX7_readBlock_8 ?_
    refine z_st (st' := [.int (iZ (((3 : Nat) : Int))), .ref (ad 0)]) (zcons (zieq (by omega)) rfl) ?_
    refine z_same (z_runV hC hH.2.2 hl.1 hH.1 hH.2.1 1 (As := [.int (iZ (((3 : Nat) : Int)))]) (rest := []) (m_X7_wrong lau s0 G _ ad (va_up (va_up (va_up (va_up (va_up F 20 ((hb : Int))) 22 ((tn : Int))) 23 ((nx : Int))) 24 ((pl : Int))) 27 (0)) (va_up Ar 1 (nA t)) 3 pl (by first | assumption | omega)) (lw_V q1613 q1615 qs52 q95 q1616) ⟨rfl, by decide, by decide, by decide +kernel⟩ (q0 := 0) (ci := 0) rfl rfl rfl rfl (Nat.le_of_ble_eq_true rfl) ⟨Nat.le_of_ble_eq_true rfl, Nat.le_of_ble_eq_true rfl⟩ ⟨Nat.le_of_ble_eq_true rfl, Nat.le_of_ble_eq_true rfl⟩ dX7_readBlock_9) hH (fun _ H locs hpost hH => ?_)
    have hH : zH s0 s1 G as0 (mW ad G (va_up (va_up (va_up (va_up (va_up (va_up F 20 ((hb : Int))) 22 ((tn : Int))) 23 ((nx : Int))) 24 ((pl : Int))) 27 (3)) 28 ((pl : Int))) (va_up Ar 1 (nA t))) H locs := hH
    refine z_st (st' := []) rfl ?_
    refine z_aload_n hC 12 hl dX7_readBlock_12 rfl 0 rfl ?_
    refine z_iconst hC 13 dX7_readBlock_13 ?_
    refine pmW_20 hC hH 14 (by omega) dX7_readBlock_14 (fun H locs hH => ?_)
    have hH : zH s0 s1 G as0 (mW ad G (va_up (va_up (va_up (va_up (va_up (va_up F 20 (1)) 22 ((tn : Int))) 23 ((nx : Int))) 24 ((pl : Int))) 27 (3)) 28 ((pl : Int))) (va_up Ar 1 (nA t))) H locs := hH
    refine z_aload_n hC 17 hl dX7_readBlock_17 rfl 0 rfl ?_
    refine z_same (z_runV hC hH.2.2 hl.1 hH.1 hH.2.1 0 (As := []) (rest := []) (m_X7_goOn_x lau s0 G _ ad (va_up (va_up (va_up (va_up (va_up (va_up F 20 (1)) 22 ((tn : Int))) 23 ((nx : Int))) 24 ((pl : Int))) 27 (3)) 28 ((pl : Int))) (va_up Ar 1 (nA t)) 3 (by first | assumption | omega)) (lw_V q1609 q1611 qs51 q95 q1612) ⟨rfl, by decide, by decide, by decide +kernel⟩ (q0 := 0) (ci := 0) rfl rfl rfl rfl (Nat.le_of_ble_eq_true rfl) ⟨Nat.le_of_ble_eq_true rfl, Nat.le_of_ble_eq_true rfl⟩ ⟨Nat.le_of_ble_eq_true rfl, Nat.le_of_ble_eq_true rfl⟩ dX7_readBlock_18) hH (fun _ H locs hpost hH => ?_)
    have hH : zH s0 s1 G as0 (mW ad G (va_up (va_up (va_up (va_up (va_up (va_up F 20 (1)) 22 ((tn : Int))) 23 ((nx : Int))) 24 ((pl : Int))) 27 (3)) 28 ((pl : Int))) (va_up Ar 1 (nA t))) H locs := hH
    refine z_st (st' := []) rfl ?_
    refine z_aload_n hC 21 hl dX7_readBlock_21 rfl 0 rfl ?_
    refine z_aload_n hC 22 hl dX7_readBlock_22 rfl 0 rfl ?_
    refine z_iconst hC 23 dX7_readBlock_23 ?_
    refine z_bipush hC 24 dX7_readBlock_24 rfl ?_
    refine z_st (st' := [.int (iZ (((20 : Nat) : Int))), .int (iZ (((2 : Nat) : Int))), .ref (ad 0), .ref (ad 0)]) (zcons (zieq (by omega)) (zcons (zieq (by omega)) rfl)) ?_
    refine z_same (z_runV hC hH.2.2 hl.1 hH.1 hH.2.1 2 (As := [.int (iZ (((2 : Nat) : Int))), .int (iZ (((20 : Nat) : Int)))]) (rest := [.ref (ad 0)]) (m_X7_within_x lau s0 G _ ad (va_up (va_up (va_up (va_up (va_up (va_up F 20 (1)) 22 ((tn : Int))) 23 ((nx : Int))) 24 ((pl : Int))) 27 (3)) 28 ((pl : Int))) (va_up Ar 1 (nA t)) 3 2 20 (by first | assumption | omega) (by first | assumption | omega)) (lw_V q1617 q1619 qs53 q95 q1620) ⟨rfl, by decide, by decide, by decide +kernel⟩ (q0 := 0) (ci := 0) rfl rfl rfl rfl (Nat.le_of_ble_eq_true rfl) ⟨Nat.le_of_ble_eq_true rfl, Nat.le_of_ble_eq_true rfl⟩ ⟨Nat.le_of_ble_eq_true rfl, Nat.le_of_ble_eq_true rfl⟩ dX7_readBlock_26) hH (fun _ H locs hpost hH => ?_)
    have hH : zH s0 s1 G as0 (mW ad G (va_up (va_up (va_up (va_up (va_up (va_up F 20 (1)) 22 ((tn : Int))) 23 ((nx : Int))) 24 ((pl : Int))) 27 (3)) 28 ((pl : Int))) (va_up Ar 1 (nA t))) H locs := hH
    refine z_st (st' := [.int (iZ (2)), .ref (ad 0)]) rfl ?_
    refine pmW_17 hC hH 29 dX7_readBlock_29 (fun H locs hH => ?_)
    have hH : zH s0 s1 G as0 (mW ad G (va_up (va_up (va_up (va_up (va_up (va_up (va_up F 17 (2)) 20 (1)) 22 ((tn : Int))) 23 ((nx : Int))) 24 ((pl : Int))) 27 (3)) 28 ((pl : Int))) (va_up Ar 1 (nA t))) H locs := hH
    -- R32.2
    exact z_vret hC hH hQ 32 ((3, 0, pl, 0, nx, (F 25), (F 26), (pl : Int), 2)) dX7_readBlock_32 rfl ⟨by exact OKE_1 (by decide) rfl (Or.inl ⟨by omega, rfl⟩), by first | (intro q; omega) | (intro q; have h9 := pk_26 (by omega); have h7 := pA_18.2.2; exact ⟨h9.1, by omega⟩), by first | assumption | omega, by first | assumption | omega⟩ rfl (Nat.le_refl _) (Nat.le_refl _)

set_option maxHeartbeats 4000000 in
set_option maxRecDepth 100000 in
theorem m_X7_readTies (lau : Launch) (s0 : State) (G : zG) (sz : Nat) (ad : Nat → Nat) (F : Nat → Int) (Ar : Nat → Nat → Int) (t : Nat → Nat) (tn : Nat) (lq : Nat) (lva : Nat) (pl : Nat) (nx : Nat) (ht : Nat) (htn : tn ≤ 900) (htb : ∀ i, i < tn → t i < 256) (hlit : zLit s0 "ModeDeskModel" 107 "first last least most row weight block ties " lq lva 44 wC) (hcs : zCS s0) (hsi : zSio s0) (hnx : nx ≤ tn) (hht : ht ≤ 1) : zMet (S := Nat × Nat × Nat × Nat × Nat × Int × Int × Int × Nat) lau yX7_readTies cX7_readTies 1 (none) 7 149 0 0 s0 G sz [.ref (ad 0)] (mW ad G (va_up (va_up (va_up (va_up (va_up F 21 ((ht : Int))) 22 ((tn : Int))) 23 ((nx : Int))) 24 ((pl : Int))) 27 (0)) (va_up Ar 1 (nA t))) (fun ((fa, so2, pl2, vl2, nx2, st2, nu2, fp, ti2) : Nat × Nat × Nat × Nat × Nat × Int × Int × Int × Nat) => (none : Option Value)) (fun ((fa, so2, pl2, vl2, nx2, st2, nu2, fp, ti2) : Nat × Nat × Nat × Nat × Nat × Int × Int × Int × Nat) => (OKE (TIr t tn pl nx ht) fa fp (ti2, so2, pl2, vl2, nx2)) ∧ (fa = 0 → TKA tn so2 pl2 vl2 nx2 st2 nu2 ∧ nx ≤ pl2) ∧ (fa ≤ 3) ∧ (ti2 ≤ 3)) (fun ((fa, so2, pl2, vl2, nx2, st2, nu2, fp, ti2) : Nat × Nat × Nat × Nat × Nat × Int × Int × Int × Nat) => (mW ad G (va_up (va_up (va_up (va_up (va_up (va_up (va_up (va_up (va_up F 18 ((ti2 : Int))) 21 (1)) 22 ((tn : Int))) 23 ((nx2 : Int))) 24 ((pl2 : Int))) 25 (st2)) 26 (nu2)) 27 ((fa : Int))) 28 (fp)) (va_up Ar 1 (nA t)))) := by
  refine zMet.of (by decide) (Nat.le_of_ble_eq_true rfl) ?_
  intro pg ev s1 mi ar bl me cd ls Q as0 hC hH hl hQ hsz
  generalize s1.heap = H at hH ⊢
  generalize ([] : List Loc) = locs at hH ⊢
  have hl : lv_has ls 1 [(0, .ref (ad 0))] := hl
  refine z_aload_n hC 0 hl dX7_readTies_0 rfl 0 rfl ?_
  refine gmW_21 (x := (ht : Int)) hC hH 1 rfl dX7_readTies_1 ?_
  refine z_if_eq hC 4 12 dX7_readTies_4 rfl (by omega) (fun hb1 => ?_) (fun hb1 => ?_)
  · -- 4t
    refine z_aload_n hC 12 hl dX7_readTies_12 rfl 0 rfl ?_
    refine z_iconst hC 13 dX7_readTies_13 ?_
    refine pmW_21 hC hH 14 (by omega) dX7_readTies_14 (fun H locs hH => ?_)
    have hH : zH s0 s1 G as0 (mW ad G (va_up (va_up (va_up (va_up (va_up F 21 (1)) 22 ((tn : Int))) 23 ((nx : Int))) 24 ((pl : Int))) 27 (0)) (va_up Ar 1 (nA t))) H locs := hH
    refine z_aload_n hC 17 hl dX7_readTies_17 rfl 0 rfl ?_
    refine z_same (z_runV hC hH.2.2 hl.1 hH.1 hH.2.1 0 (As := []) (rest := []) (m_X7_goOn lau s0 G _ ad (va_up (va_up (va_up (va_up (va_up F 21 (1)) 22 ((tn : Int))) 23 ((nx : Int))) 24 ((pl : Int))) 27 (0)) (va_up Ar 1 (nA t)) t tn lq lva nx (by first | assumption | omega) (by first | assumption | omega) (by first | assumption | omega) (by first | assumption | omega) (by first | assumption | omega) (by omega)) (lw_V q1609 q1611 qs51 q95 q1612) ⟨rfl, by decide, by decide, by decide +kernel⟩ (q0 := 0) (ci := 0) rfl rfl rfl rfl (Nat.le_of_ble_eq_true rfl) ⟨Nat.le_of_ble_eq_true rfl, Nat.le_of_ble_eq_true rfl⟩ ⟨Nat.le_of_ble_eq_true rfl, Nat.le_of_ble_eq_true rfl⟩ dX7_readTies_18) hH (fun u_ H locs hpost hH => ?_)
    obtain ⟨so_18, pl_18, vl_18, nx_18, st_18, nu_18⟩ := u_
    obtain ⟨pT_18, pA_18, pB_18⟩ : (TOK t tn nx so_18 pl_18 vl_18 nx_18) ∧ (TKA tn so_18 pl_18 vl_18 nx_18 st_18 nu_18) ∧ (nx ≤ pl_18) := hpost
    have hH : zH s0 s1 G as0 (mW ad G (va_up (va_up (va_up (va_up (va_up (va_up (va_up F 21 (1)) 22 ((tn : Int))) 23 ((nx_18 : Int))) 24 ((pl_18 : Int))) 25 (st_18)) 26 (nu_18)) 27 (0)) (va_up Ar 1 (nA t))) H locs := hH
    refine z_st (st' := []) rfl ?_
    refine z_aload_n hC 21 hl dX7_readTies_21 rfl 0 rfl ?_
    refine gmW_27 (x := 0) hC hH 22 rfl dX7_readTies_22 ?_
    refine z_if_ne_f hC 25 55 dX7_readTies_25 rfl (by omega) (by omega) ?_
    have hA0 := pA_18.1
    have hA1 := pA_18.2.1.2
    have hA3 := pA_18.2.2
    unfold TSO at hA0
    refine z_aload_n hC 28 hl dX7_readTies_28 rfl 0 rfl ?_
    refine gmW_25 (x := st_18) hC hH 29 rfl dX7_readTies_29 ?_
    refine z_if_ne hC 32 50 dX7_readTies_32 rfl (by omega) (fun hb2 => ?_) (fun hb2 => ?_)
    · -- 32t
      refine z_aload_n hC 50 hl dX7_readTies_50 rfl 0 rfl ?_
      refine z_iconst hC 51 dX7_readTies_51 ?_
      refine z_st (st' := [.int (iZ (((1 : Nat) : Int))), .ref (ad 0)]) (zcons (zieq (by omega)) rfl) ?_
      refine z_same (z_runV hC hH.2.2 hl.1 hH.1 hH.2.1 1 (As := [.int (iZ (((1 : Nat) : Int)))]) (rest := []) (m_X7_wrong lau s0 G _ ad (va_up (va_up (va_up (va_up (va_up (va_up (va_up F 21 (1)) 22 ((tn : Int))) 23 ((nx_18 : Int))) 24 ((pl_18 : Int))) 25 (st_18)) 26 (nu_18)) 27 (0)) (va_up Ar 1 (nA t)) 1 pl_18 (by first | assumption | omega)) (lw_V q1613 q1615 qs52 q95 q1616) ⟨rfl, by decide, by decide, by decide +kernel⟩ (q0 := 0) (ci := 0) rfl rfl rfl rfl (Nat.le_of_ble_eq_true rfl) ⟨Nat.le_of_ble_eq_true rfl, Nat.le_of_ble_eq_true rfl⟩ ⟨Nat.le_of_ble_eq_true rfl, Nat.le_of_ble_eq_true rfl⟩ dX7_readTies_52) hH (fun _ H locs hpost hH => ?_)
      have hH : zH s0 s1 G as0 (mW ad G (va_up (va_up (va_up (va_up (va_up (va_up (va_up (va_up F 21 (1)) 22 ((tn : Int))) 23 ((nx_18 : Int))) 24 ((pl_18 : Int))) 25 (st_18)) 26 (nu_18)) 27 (1)) 28 ((pl_18 : Int))) (va_up Ar 1 (nA t))) H locs := hH
      refine z_st (st' := []) rfl ?_
      refine z_aload_n hC 55 hl dX7_readTies_55 rfl 0 rfl ?_
      refine z_aload_n hC 56 hl dX7_readTies_56 rfl 0 rfl ?_
      refine gmW_27 (x := 1) hC hH 57 rfl dX7_readTies_57 ?_
      refine z_if_ne_t hC 60 70 dX7_readTies_60 rfl (by omega) (by omega) ?_
      refine z_iconst hC 70 dX7_readTies_70 ?_
      refine pmW_18 hC hH 71 dX7_readTies_71 (fun H locs hH => ?_)
      have hH : zH s0 s1 G as0 (mW ad G (va_up (va_up (va_up (va_up (va_up (va_up (va_up (va_up (va_up F 18 (0)) 21 (1)) 22 ((tn : Int))) 23 ((nx_18 : Int))) 24 ((pl_18 : Int))) 25 (st_18)) 26 (nu_18)) 27 (1)) 28 ((pl_18 : Int))) (va_up Ar 1 (nA t))) H locs := hH
      refine z_aload_n hC 74 hl dX7_readTies_74 rfl 0 rfl ?_
      refine z_same (z_runV hC hH.2.2 hl.1 hH.1 hH.2.1 0 (As := []) (rest := []) (m_X7_goOn_x lau s0 G _ ad (va_up (va_up (va_up (va_up (va_up (va_up (va_up (va_up (va_up F 18 (0)) 21 (1)) 22 ((tn : Int))) 23 ((nx_18 : Int))) 24 ((pl_18 : Int))) 25 (st_18)) 26 (nu_18)) 27 (1)) 28 ((pl_18 : Int))) (va_up Ar 1 (nA t)) 1 (by first | assumption | omega)) (lw_V q1609 q1611 qs51 q95 q1612) ⟨rfl, by decide, by decide, by decide +kernel⟩ (q0 := 0) (ci := 0) rfl rfl rfl rfl (Nat.le_of_ble_eq_true rfl) ⟨Nat.le_of_ble_eq_true rfl, Nat.le_of_ble_eq_true rfl⟩ ⟨Nat.le_of_ble_eq_true rfl, Nat.le_of_ble_eq_true rfl⟩ dX7_readTies_75) hH (fun _ H locs hpost hH => ?_)
      have hH : zH s0 s1 G as0 (mW ad G (va_up (va_up (va_up (va_up (va_up (va_up (va_up (va_up (va_up F 18 (0)) 21 (1)) 22 ((tn : Int))) 23 ((nx_18 : Int))) 24 ((pl_18 : Int))) 25 (st_18)) 26 (nu_18)) 27 (1)) 28 ((pl_18 : Int))) (va_up Ar 1 (nA t))) H locs := hH
      refine z_st (st' := []) rfl ?_
      -- R78.1
      exact z_vret hC hH hQ 78 ((1, so_18, pl_18, vl_18, nx_18, st_18, nu_18, (pl_18 : Int), 0)) dX7_readTies_78 rfl ⟨by exact OKE_1 (by decide) rfl (Or.inr ⟨by omega, so_18, pl_18, vl_18, nx_18, pT_18, Or.inl ⟨by omega, rfl⟩⟩), by first | (intro q; omega) | (intro q; have h7 := pA_18.2.2; exact ⟨pA_75, by omega⟩), by first | assumption | omega, by first | assumption | omega⟩ rfl (Nat.le_refl _) (Nat.le_refl _)
    · -- 32f
      refine z_aload_n hC 35 hl dX7_readTies_35 rfl 0 rfl ?_
      refine gmW_26 (x := nu_18) hC hH 36 rfl dX7_readTies_36 ?_
      refine z_if_lt hC 39 50 dX7_readTies_39 rfl (by omega) (fun hb3 => ?_) (fun hb3 => ?_)
      · -- 39t
        refine z_aload_n hC 50 hl dX7_readTies_50 rfl 0 rfl ?_
        refine z_iconst hC 51 dX7_readTies_51 ?_
        refine z_st (st' := [.int (iZ (((1 : Nat) : Int))), .ref (ad 0)]) (zcons (zieq (by omega)) rfl) ?_
        refine z_same (z_runV hC hH.2.2 hl.1 hH.1 hH.2.1 1 (As := [.int (iZ (((1 : Nat) : Int)))]) (rest := []) (m_X7_wrong lau s0 G _ ad (va_up (va_up (va_up (va_up (va_up (va_up (va_up F 21 (1)) 22 ((tn : Int))) 23 ((nx_18 : Int))) 24 ((pl_18 : Int))) 25 (st_18)) 26 (nu_18)) 27 (0)) (va_up Ar 1 (nA t)) 1 pl_18 (by first | assumption | omega)) (lw_V q1613 q1615 qs52 q95 q1616) ⟨rfl, by decide, by decide, by decide +kernel⟩ (q0 := 0) (ci := 0) rfl rfl rfl rfl (Nat.le_of_ble_eq_true rfl) ⟨Nat.le_of_ble_eq_true rfl, Nat.le_of_ble_eq_true rfl⟩ ⟨Nat.le_of_ble_eq_true rfl, Nat.le_of_ble_eq_true rfl⟩ dX7_readTies_52) hH (fun _ H locs hpost hH => ?_)
        have hH : zH s0 s1 G as0 (mW ad G (va_up (va_up (va_up (va_up (va_up (va_up (va_up (va_up F 21 (1)) 22 ((tn : Int))) 23 ((nx_18 : Int))) 24 ((pl_18 : Int))) 25 (st_18)) 26 (nu_18)) 27 (1)) 28 ((pl_18 : Int))) (va_up Ar 1 (nA t))) H locs := hH
        refine z_st (st' := []) rfl ?_
        refine z_aload_n hC 55 hl dX7_readTies_55 rfl 0 rfl ?_
        refine z_aload_n hC 56 hl dX7_readTies_56 rfl 0 rfl ?_
        refine gmW_27 (x := 1) hC hH 57 rfl dX7_readTies_57 ?_
        refine z_if_ne_t hC 60 70 dX7_readTies_60 rfl (by omega) (by omega) ?_
        refine z_iconst hC 70 dX7_readTies_70 ?_
        refine pmW_18 hC hH 71 dX7_readTies_71 (fun H locs hH => ?_)
        have hH : zH s0 s1 G as0 (mW ad G (va_up (va_up (va_up (va_up (va_up (va_up (va_up (va_up (va_up F 18 (0)) 21 (1)) 22 ((tn : Int))) 23 ((nx_18 : Int))) 24 ((pl_18 : Int))) 25 (st_18)) 26 (nu_18)) 27 (1)) 28 ((pl_18 : Int))) (va_up Ar 1 (nA t))) H locs := hH
        refine z_aload_n hC 74 hl dX7_readTies_74 rfl 0 rfl ?_
        refine z_same (z_runV hC hH.2.2 hl.1 hH.1 hH.2.1 0 (As := []) (rest := []) (m_X7_goOn_x lau s0 G _ ad (va_up (va_up (va_up (va_up (va_up (va_up (va_up (va_up (va_up F 18 (0)) 21 (1)) 22 ((tn : Int))) 23 ((nx_18 : Int))) 24 ((pl_18 : Int))) 25 (st_18)) 26 (nu_18)) 27 (1)) 28 ((pl_18 : Int))) (va_up Ar 1 (nA t)) 1 (by first | assumption | omega)) (lw_V q1609 q1611 qs51 q95 q1612) ⟨rfl, by decide, by decide, by decide +kernel⟩ (q0 := 0) (ci := 0) rfl rfl rfl rfl (Nat.le_of_ble_eq_true rfl) ⟨Nat.le_of_ble_eq_true rfl, Nat.le_of_ble_eq_true rfl⟩ ⟨Nat.le_of_ble_eq_true rfl, Nat.le_of_ble_eq_true rfl⟩ dX7_readTies_75) hH (fun _ H locs hpost hH => ?_)
        have hH : zH s0 s1 G as0 (mW ad G (va_up (va_up (va_up (va_up (va_up (va_up (va_up (va_up (va_up F 18 (0)) 21 (1)) 22 ((tn : Int))) 23 ((nx_18 : Int))) 24 ((pl_18 : Int))) 25 (st_18)) 26 (nu_18)) 27 (1)) 28 ((pl_18 : Int))) (va_up Ar 1 (nA t))) H locs := hH
        refine z_st (st' := []) rfl ?_
        -- R78.2
        exact z_vret hC hH hQ 78 ((1, so_18, pl_18, vl_18, nx_18, st_18, nu_18, (pl_18 : Int), 0)) dX7_readTies_78 rfl ⟨by exact OKE_1 (by decide) rfl (Or.inr ⟨by omega, so_18, pl_18, vl_18, nx_18, pT_18, Or.inl ⟨by omega, rfl⟩⟩), by first | (intro q; omega) | (intro q; have h7 := pA_18.2.2; exact ⟨pA_75, by omega⟩), by first | assumption | omega, by first | assumption | omega⟩ rfl (Nat.le_refl _) (Nat.le_refl _)
      · -- 39f
        refine z_aload_n hC 42 hl dX7_readTies_42 rfl 0 rfl ?_
        refine gmW_26 (x := nu_18) hC hH 43 rfl dX7_readTies_43 ?_
        refine z_iconst hC 46 dX7_readTies_46 ?_
        refine z_icmp_le hC 47 55 dX7_readTies_47 rfl (by omega) (by omega) (fun hb4 => ?_) (fun hb4 => ?_)
        · -- 47t
          refine z_aload_n hC 55 hl dX7_readTies_55 rfl 0 rfl ?_
          refine z_aload_n hC 56 hl dX7_readTies_56 rfl 0 rfl ?_
          refine gmW_27 (x := 0) hC hH 57 rfl dX7_readTies_57 ?_
          refine z_if_ne_f hC 60 70 dX7_readTies_60 rfl (by omega) (by omega) ?_
          obtain rfl : nu_18 = ((vl_18 : Nat) : Int) := (by omega)
          refine z_aload_n hC 63 hl dX7_readTies_63 rfl 0 rfl ?_
          refine gmW_26 (x := (vl_18 : Int)) hC hH 64 rfl dX7_readTies_64 ?_
          refine z_goto hC 67 71 dX7_readTies_67 rfl ?_
          refine pmW_18 hC hH 71 dX7_readTies_71 (fun H locs hH => ?_)
          have hH : zH s0 s1 G as0 (mW ad G (va_up (va_up (va_up (va_up (va_up (va_up (va_up (va_up F 18 ((vl_18 : Int))) 21 (1)) 22 ((tn : Int))) 23 ((nx_18 : Int))) 24 ((pl_18 : Int))) 25 (st_18)) 26 ((vl_18 : Int))) 27 (0)) (va_up Ar 1 (nA t))) H locs := hH
          refine z_aload_n hC 74 hl dX7_readTies_74 rfl 0 rfl ?_
          refine z_same (z_runV hC hH.2.2 hl.1 hH.1 hH.2.1 0 (As := []) (rest := []) (m_X7_goOn lau s0 G _ ad (va_up (va_up (va_up (va_up (va_up (va_up (va_up (va_up F 18 ((vl_18 : Int))) 21 (1)) 22 ((tn : Int))) 23 ((nx_18 : Int))) 24 ((pl_18 : Int))) 25 (st_18)) 26 ((vl_18 : Int))) 27 (0)) (va_up Ar 1 (nA t)) t tn lq lva nx_18 (by first | assumption | omega) (by first | assumption | omega) (by first | assumption | omega) (by first | assumption | omega) (by first | assumption | omega) (by omega)) (lw_V q1609 q1611 qs51 q95 q1612) ⟨rfl, by decide, by decide, by decide +kernel⟩ (q0 := 0) (ci := 0) rfl rfl rfl rfl (Nat.le_of_ble_eq_true rfl) ⟨Nat.le_of_ble_eq_true rfl, Nat.le_of_ble_eq_true rfl⟩ ⟨Nat.le_of_ble_eq_true rfl, Nat.le_of_ble_eq_true rfl⟩ dX7_readTies_75) hH (fun u_ H locs hpost hH => ?_)
          obtain ⟨so_75, pl_75, vl_75, nx_75, st_75, nu_75⟩ := u_
          obtain ⟨pT_75, pA_75, pB_75⟩ : (TOK t tn nx_18 so_75 pl_75 vl_75 nx_75) ∧ (TKA tn so_75 pl_75 vl_75 nx_75 st_75 nu_75) ∧ (nx_18 ≤ pl_75) := hpost
          have hH : zH s0 s1 G as0 (mW ad G (va_up (va_up (va_up (va_up (va_up (va_up (va_up (va_up F 18 ((vl_18 : Int))) 21 (1)) 22 ((tn : Int))) 23 ((nx_75 : Int))) 24 ((pl_75 : Int))) 25 (st_75)) 26 (nu_75)) 27 (0)) (va_up Ar 1 (nA t))) H locs := hH
          refine z_st (st' := []) rfl ?_
          -- R78.3
          exact z_vret hC hH hQ 78 ((0, so_75, pl_75, vl_75, nx_75, st_75, nu_75, (F 28), vl_18)) dX7_readTies_78 rfl ⟨by exact OKE_0 rfl (Or.inr ⟨by omega, so_18, pl_18, vl_18, nx_18, pT_18, Or.inr ⟨by omega, so_75, pl_75, vl_75, nx_75, pT_75, rfl⟩⟩), by first | (intro q; omega) | (intro q; have h7 := pA_18.2.2; exact ⟨pA_75, by omega⟩), by first | assumption | omega, by first | assumption | omega⟩ rfl (Nat.le_refl _) (Nat.le_refl _)
        · -- 47f
          refine z_aload_n hC 50 hl dX7_readTies_50 rfl 0 rfl ?_
          refine z_iconst hC 51 dX7_readTies_51 ?_
          refine z_st (st' := [.int (iZ (((1 : Nat) : Int))), .ref (ad 0)]) (zcons (zieq (by omega)) rfl) ?_
          refine z_same (z_runV hC hH.2.2 hl.1 hH.1 hH.2.1 1 (As := [.int (iZ (((1 : Nat) : Int)))]) (rest := []) (m_X7_wrong lau s0 G _ ad (va_up (va_up (va_up (va_up (va_up (va_up (va_up F 21 (1)) 22 ((tn : Int))) 23 ((nx_18 : Int))) 24 ((pl_18 : Int))) 25 (st_18)) 26 (nu_18)) 27 (0)) (va_up Ar 1 (nA t)) 1 pl_18 (by first | assumption | omega)) (lw_V q1613 q1615 qs52 q95 q1616) ⟨rfl, by decide, by decide, by decide +kernel⟩ (q0 := 0) (ci := 0) rfl rfl rfl rfl (Nat.le_of_ble_eq_true rfl) ⟨Nat.le_of_ble_eq_true rfl, Nat.le_of_ble_eq_true rfl⟩ ⟨Nat.le_of_ble_eq_true rfl, Nat.le_of_ble_eq_true rfl⟩ dX7_readTies_52) hH (fun _ H locs hpost hH => ?_)
          have hH : zH s0 s1 G as0 (mW ad G (va_up (va_up (va_up (va_up (va_up (va_up (va_up (va_up F 21 (1)) 22 ((tn : Int))) 23 ((nx_18 : Int))) 24 ((pl_18 : Int))) 25 (st_18)) 26 (nu_18)) 27 (1)) 28 ((pl_18 : Int))) (va_up Ar 1 (nA t))) H locs := hH
          refine z_st (st' := []) rfl ?_
          refine z_aload_n hC 55 hl dX7_readTies_55 rfl 0 rfl ?_
          refine z_aload_n hC 56 hl dX7_readTies_56 rfl 0 rfl ?_
          refine gmW_27 (x := 1) hC hH 57 rfl dX7_readTies_57 ?_
          refine z_if_ne_t hC 60 70 dX7_readTies_60 rfl (by omega) (by omega) ?_
          refine z_iconst hC 70 dX7_readTies_70 ?_
          refine pmW_18 hC hH 71 dX7_readTies_71 (fun H locs hH => ?_)
          have hH : zH s0 s1 G as0 (mW ad G (va_up (va_up (va_up (va_up (va_up (va_up (va_up (va_up (va_up F 18 (0)) 21 (1)) 22 ((tn : Int))) 23 ((nx_18 : Int))) 24 ((pl_18 : Int))) 25 (st_18)) 26 (nu_18)) 27 (1)) 28 ((pl_18 : Int))) (va_up Ar 1 (nA t))) H locs := hH
          refine z_aload_n hC 74 hl dX7_readTies_74 rfl 0 rfl ?_
          refine z_same (z_runV hC hH.2.2 hl.1 hH.1 hH.2.1 0 (As := []) (rest := []) (m_X7_goOn_x lau s0 G _ ad (va_up (va_up (va_up (va_up (va_up (va_up (va_up (va_up (va_up F 18 (0)) 21 (1)) 22 ((tn : Int))) 23 ((nx_18 : Int))) 24 ((pl_18 : Int))) 25 (st_18)) 26 (nu_18)) 27 (1)) 28 ((pl_18 : Int))) (va_up Ar 1 (nA t)) 1 (by first | assumption | omega)) (lw_V q1609 q1611 qs51 q95 q1612) ⟨rfl, by decide, by decide, by decide +kernel⟩ (q0 := 0) (ci := 0) rfl rfl rfl rfl (Nat.le_of_ble_eq_true rfl) ⟨Nat.le_of_ble_eq_true rfl, Nat.le_of_ble_eq_true rfl⟩ ⟨Nat.le_of_ble_eq_true rfl, Nat.le_of_ble_eq_true rfl⟩ dX7_readTies_75) hH (fun _ H locs hpost hH => ?_)
          have hH : zH s0 s1 G as0 (mW ad G (va_up (va_up (va_up (va_up (va_up (va_up (va_up (va_up (va_up F 18 (0)) 21 (1)) 22 ((tn : Int))) 23 ((nx_18 : Int))) 24 ((pl_18 : Int))) 25 (st_18)) 26 (nu_18)) 27 (1)) 28 ((pl_18 : Int))) (va_up Ar 1 (nA t))) H locs := hH
          refine z_st (st' := []) rfl ?_
          -- R78.4
          exact z_vret hC hH hQ 78 ((1, so_18, pl_18, vl_18, nx_18, st_18, nu_18, (pl_18 : Int), 0)) dX7_readTies_78 rfl ⟨by exact OKE_1 (by decide) rfl (Or.inr ⟨by omega, so_18, pl_18, vl_18, nx_18, pT_18, Or.inl ⟨by omega, rfl⟩⟩), by first | (intro q; omega) | (intro q; have h7 := pA_18.2.2; exact ⟨pA_75, by omega⟩), by first | assumption | omega, by first | assumption | omega⟩ rfl (Nat.le_refl _) (Nat.le_refl _)
  · -- 4f
    refine z_aload_n hC 7 hl dX7_readTies_7 rfl 0 rfl ?_
    refine z_iconst hC 8 dX7_readTies_8 ?_
    refine z_st (st' := [.int (iZ (((3 : Nat) : Int))), .ref (ad 0)]) (zcons (zieq (by omega)) rfl) ?_
    refine z_same (z_runV hC hH.2.2 hl.1 hH.1 hH.2.1 1 (As := [.int (iZ (((3 : Nat) : Int)))]) (rest := []) (m_X7_wrong lau s0 G _ ad (va_up (va_up (va_up (va_up (va_up F 21 ((ht : Int))) 22 ((tn : Int))) 23 ((nx : Int))) 24 ((pl : Int))) 27 (0)) (va_up Ar 1 (nA t)) 3 pl (by first | assumption | omega)) (lw_V q1613 q1615 qs52 q95 q1616) ⟨rfl, by decide, by decide, by decide +kernel⟩ (q0 := 0) (ci := 0) rfl rfl rfl rfl (Nat.le_of_ble_eq_true rfl) ⟨Nat.le_of_ble_eq_true rfl, Nat.le_of_ble_eq_true rfl⟩ ⟨Nat.le_of_ble_eq_true rfl, Nat.le_of_ble_eq_true rfl⟩ dX7_readTies_9) hH (fun _ H locs hpost hH => ?_)
    have hH : zH s0 s1 G as0 (mW ad G (va_up (va_up (va_up (va_up (va_up (va_up F 21 ((ht : Int))) 22 ((tn : Int))) 23 ((nx : Int))) 24 ((pl : Int))) 27 (3)) 28 ((pl : Int))) (va_up Ar 1 (nA t))) H locs := hH
    refine z_st (st' := []) rfl ?_
    refine z_aload_n hC 12 hl dX7_readTies_12 rfl 0 rfl ?_
    refine z_iconst hC 13 dX7_readTies_13 ?_
    refine pmW_21 hC hH 14 (by omega) dX7_readTies_14 (fun H locs hH => ?_)
    have hH : zH s0 s1 G as0 (mW ad G (va_up (va_up (va_up (va_up (va_up (va_up F 21 (1)) 22 ((tn : Int))) 23 ((nx : Int))) 24 ((pl : Int))) 27 (3)) 28 ((pl : Int))) (va_up Ar 1 (nA t))) H locs := hH
    refine z_aload_n hC 17 hl dX7_readTies_17 rfl 0 rfl ?_
    refine z_same (z_runV hC hH.2.2 hl.1 hH.1 hH.2.1 0 (As := []) (rest := []) (m_X7_goOn_x lau s0 G _ ad (va_up (va_up (va_up (va_up (va_up (va_up F 21 (1)) 22 ((tn : Int))) 23 ((nx : Int))) 24 ((pl : Int))) 27 (3)) 28 ((pl : Int))) (va_up Ar 1 (nA t)) 3 (by first | assumption | omega)) (lw_V q1609 q1611 qs51 q95 q1612) ⟨rfl, by decide, by decide, by decide +kernel⟩ (q0 := 0) (ci := 0) rfl rfl rfl rfl (Nat.le_of_ble_eq_true rfl) ⟨Nat.le_of_ble_eq_true rfl, Nat.le_of_ble_eq_true rfl⟩ ⟨Nat.le_of_ble_eq_true rfl, Nat.le_of_ble_eq_true rfl⟩ dX7_readTies_18) hH (fun _ H locs hpost hH => ?_)
    have hH : zH s0 s1 G as0 (mW ad G (va_up (va_up (va_up (va_up (va_up (va_up F 21 (1)) 22 ((tn : Int))) 23 ((nx : Int))) 24 ((pl : Int))) 27 (3)) 28 ((pl : Int))) (va_up Ar 1 (nA t))) H locs := hH
    refine z_st (st' := []) rfl ?_
    refine z_aload_n hC 21 hl dX7_readTies_21 rfl 0 rfl ?_
    refine gmW_27 (x := 3) hC hH 22 rfl dX7_readTies_22 ?_
    refine z_if_ne_t hC 25 55 dX7_readTies_25 rfl (by omega) (by omega) ?_
    refine z_aload_n hC 55 hl dX7_readTies_55 rfl 0 rfl ?_
    refine z_aload_n hC 56 hl dX7_readTies_56 rfl 0 rfl ?_
    refine gmW_27 (x := 3) hC hH 57 rfl dX7_readTies_57 ?_
    refine z_if_ne_t hC 60 70 dX7_readTies_60 rfl (by omega) (by omega) ?_
    refine z_iconst hC 70 dX7_readTies_70 ?_
    refine pmW_18 hC hH 71 dX7_readTies_71 (fun H locs hH => ?_)
    have hH : zH s0 s1 G as0 (mW ad G (va_up (va_up (va_up (va_up (va_up (va_up (va_up F 18 (0)) 21 (1)) 22 ((tn : Int))) 23 ((nx : Int))) 24 ((pl : Int))) 27 (3)) 28 ((pl : Int))) (va_up Ar 1 (nA t))) H locs := hH
    refine z_aload_n hC 74 hl dX7_readTies_74 rfl 0 rfl ?_
    refine z_same (z_runV hC hH.2.2 hl.1 hH.1 hH.2.1 0 (As := []) (rest := []) (m_X7_goOn_x lau s0 G _ ad (va_up (va_up (va_up (va_up (va_up (va_up (va_up F 18 (0)) 21 (1)) 22 ((tn : Int))) 23 ((nx : Int))) 24 ((pl : Int))) 27 (3)) 28 ((pl : Int))) (va_up Ar 1 (nA t)) 3 (by first | assumption | omega)) (lw_V q1609 q1611 qs51 q95 q1612) ⟨rfl, by decide, by decide, by decide +kernel⟩ (q0 := 0) (ci := 0) rfl rfl rfl rfl (Nat.le_of_ble_eq_true rfl) ⟨Nat.le_of_ble_eq_true rfl, Nat.le_of_ble_eq_true rfl⟩ ⟨Nat.le_of_ble_eq_true rfl, Nat.le_of_ble_eq_true rfl⟩ dX7_readTies_75) hH (fun _ H locs hpost hH => ?_)
    have hH : zH s0 s1 G as0 (mW ad G (va_up (va_up (va_up (va_up (va_up (va_up (va_up F 18 (0)) 21 (1)) 22 ((tn : Int))) 23 ((nx : Int))) 24 ((pl : Int))) 27 (3)) 28 ((pl : Int))) (va_up Ar 1 (nA t))) H locs := hH
    refine z_st (st' := []) rfl ?_
    -- R78.5
    exact z_vret hC hH hQ 78 ((3, 0, pl, 0, nx, (F 25), (F 26), (pl : Int), 0)) dX7_readTies_78 rfl ⟨by exact OKE_1 (by decide) rfl (Or.inl ⟨by omega, rfl⟩), by first | (intro q; omega) | (intro q; have h7 := pA_18.2.2; exact ⟨pA_75, by omega⟩), by first | assumption | omega, by first | assumption | omega⟩ rfl (Nat.le_refl _) (Nat.le_refl _)
