/-! methods of ModeDesk that write: 85.er -/
set_option maxHeartbeats 4000000 in
set_option maxRecDepth 100000 in
theorem m_X15_meets (lau : Launch) (s0 : State) (G : zG) (sz : Nat) (ad : Nat → Nat) (F : Nat → Int) (Ar : Nat → Nat → Int) (kp : Nat → Nat) (pl : Nat → Option Nat) (PW : va_W) (x1 : Nat) (w : Nat) (l : Nat) (r : Nat) (y : Nat) (n : Nat) (f : Nat) (hlr : l ≤ r) (hrn : r < n) (hn : n ≤ 120) (hy : y < 1000) (hx : x1 < 1000) (hf : f ≤ 14400) : zMet (S := Nat) lau yX15_meets cX15_meets 4 (none) 0 0 0 0 s0 G sz [.ref (w), .int (iZ ((l : Int))), .int (iZ ((r : Int))), .int (iZ ((y : Int)))] (dW ad G (va_up F 20 ((f : Int))) Ar kp pl (PW ++ [(w, .inr (13, [.ref (ad 99), .int (iZ (x1 : Int)), .ref (ad 99)]))])) (fun (f2 : Nat) => (none : Option Value)) (fun (f2 : Nat) => (f2 = f + if y = x1 then 1 else 0)) (fun (f2 : Nat) => (dW ad G (va_up F 20 ((f2 : Int))) Ar kp pl (PW ++ [(w, .inr (13, [.ref (ad 99), .int (iZ (x1 : Int)), .ref (ad 99)]))]))) := by
  refine zMet.of (by decide) (Nat.le_of_ble_eq_true rfl) ?_
  intro pg ev s1 mi ar bl me cd ls Q as0 hC hH hl hQ hsz
  generalize s1.heap = H at hH ⊢
  generalize ([] : List Loc) = locs at hH ⊢
  have hl : lv_has ls 4 [(0, .ref (w)), (1, .int (iZ ((l : Int)))), (2, .int (iZ ((r : Int)))), (3, .int (iZ ((y : Int))))] := hl
  refine z_aload_n hC 0 hl dX15_meets_0 rfl 0 rfl ?_
  refine zp_get (v := .ref (ad 99)) hC (dW_xP hH.1) 1 in_X15 rfl 2 (by decide) q1187 0 rfl (rfl) dX15_meets_1 ?_
  refine z_dup hC 4 dX15_meets_4 rfl ?_
  refine zp_getN (v := .int (iZ ((f : Int)))) hC (va_P_l hH.1) 5 in_X1 rfl 20 (by decide) q230 0 rfl (rfl) dX15_meets_5 ?_
  refine z_iload_n hC 8 hl dX15_meets_8 rfl 3 rfl ?_
  refine z_aload_n hC 9 hl dX15_meets_9 rfl 0 rfl ?_
  refine zp_get (v := .int (iZ ((x1 : Int)))) hC (dW_xP hH.1) 10 in_X15 rfl 1 (by decide) q1186 0 rfl (rfl) dX15_meets_10 ?_
  refine z_icmp_ne hC 13 20 dX15_meets_13 rfl (by omega) (by omega) (fun hb1 => ?_) (fun hb1 => ?_)
  · -- 13t
    refine z_iconst hC 20 dX15_meets_20 ?_
    refine z_iadd (e := (f : Int)) hC 21 dX15_meets_21 (by omega) ?_
    refine pD_X15_20 hC hH 22 dX15_meets_22 (fun H locs hH => ?_)
    have hH : zH s0 s1 G as0 (dW ad G (va_up F 20 ((f : Int))) Ar kp pl (PW ++ [(w, .inr (13, [.ref (ad 99), .int (iZ (x1 : Int)), .ref (ad 99)]))])) H locs := hH
    -- R25.1
    exact z_vret hC hH hQ 25 (f) dX15_meets_25 rfl (by first | (rw [if_pos (by omega)]) | (rw [if_neg (by omega), Nat.add_zero])) rfl (Nat.le_refl _) (Nat.le_refl _)
  · -- 13f
    refine z_iconst hC 16 dX15_meets_16 ?_
    refine z_goto hC 17 21 dX15_meets_17 rfl ?_
    refine z_iadd (e := (f : Int) + 1) hC 21 dX15_meets_21 rfl ?_
    refine pD_X15_20 hC hH 22 dX15_meets_22 (fun H locs hH => ?_)
    have hH : zH s0 s1 G as0 (dW ad G (va_up F 20 ((f : Int) + 1)) Ar kp pl (PW ++ [(w, .inr (13, [.ref (ad 99), .int (iZ (x1 : Int)), .ref (ad 99)]))])) H locs := hH
    -- R25.2
    rw [show ((f : Int) + 1 : Int) = ((f + 1 : Nat) : Int) from by omega] at hH
    have hH : zH s0 s1 G as0 (dW ad G (va_up F 20 (((f + 1 : Nat) : Int))) Ar kp pl (PW ++ [(w, .inr (13, [.ref (ad 99), .int (iZ (x1 : Int)), .ref (ad 99)]))])) H locs := hH
    exact z_vret hC hH hQ 25 ((f + 1)) dX15_meets_25 rfl (by first | (rw [if_pos (by omega)]) | (rw [if_neg (by omega), Nat.add_zero])) rfl (Nat.le_refl _) (Nat.le_refl _)

set_option maxHeartbeats 8000000 in
set_option maxRecDepth 100000 in
theorem m_X14_goes_X15 (lau : Launch) (s0 : State) (G : zG) (sz : Nat) (ad : Nat → Nat) (F : Nat → Int) (Ar : Nat → Nat → Int) (kp : Nat → Nat) (pl : Nat → Option Nat) (PW : va_W) (n : Nat) (v : Nat → Nat) (pr : Nat → Nat) (pa : Nat → Nat) (pm : Nat → Nat) (pf : Nat → Nat → Nat) (nw : Nat) (t : Nat) (x1 : Nat) (w : Nat) (hn : n ≤ 120) (hFn : F 200 = (n : Int)) (hv : ∀ i, i < n → v i < 1000) (hAv : ∀ i, i < n → Ar 201 i = (v i : Int)) (ht : t < 4) (hFt : F 8 = (t : Int)) (hpl : ∀ y, y < 1000 → (pl y = some (pr y) ∨ (pl y = none ∧ pr y = nw))) (hnw : zNwh s0 nw) (hpc : ∀ y, y < 1000 → PlC n v y (pm y) (pf y)) (hpp : zPool s0 G PW pr pa pm pf) (hx : x1 < 1000) : zMet (S := Nat) lau yX14_goes cX14_goes 4 (some (.object "ModeDesk$Walk")) 4 96 0 0 s0 G sz [.ref (w)] (dW ad G (va_up F 20 (0)) Ar kp pl (PW ++ [(w, .inr (13, [.ref (ad 99), .int (iZ (x1 : Int)), .ref (ad 99)]))])) (fun (f2 : Nat) => some (.ref (w))) (fun (f2 : Nat) => (f2 = sm (fun l => cB (fun r => l ≤ r ∧ md v l (r + 1) t = x1) n) 0 n)) (fun (f2 : Nat) => (dW ad G (va_up F 20 ((f2 : Int))) Ar kp pl (PW ++ [(w, .inr (13, [.ref (ad 99), .int (iZ (x1 : Int)), .ref (ad 99)]))]))) := by
  refine zMet.of (by decide) (Nat.le_of_ble_eq_true rfl) ?_
  intro pg ev s1 mi ar bl me cd ls Q as0 hC hH hl hQ hsz
  generalize s1.heap = H at hH ⊢
  generalize ([] : List Loc) = locs at hH ⊢
  have hl : lv_has ls 4 [(0, .ref (w))] := hl
  have hpp : zPool s0 G (PW ++ [(w, .inr (13, [.ref (ad 99), .int (iZ (x1 : Int)), .ref (ad 99)]))]) pr pa pm pf := zPool_app hpp
  refine z_iconst hC 0 dX14_goes_0 ?_
  refine z_istore_n (lv' := [(1, .int (iZ (0))), (0, .ref (w))]) hC 1 hl dX14_goes_1 rfl (by decide) rfl (fun ls hl => ?_)
  have L2 : ∀ (N_ : Nat) (l : Nat) (c : Nat) (H : Heap) (locs : List Loc) (ls : Array Slot), n - l < N_ → (l ≤ n) → (c = sm (fun l => cB (fun r => l ≤ r ∧ md v l (r + 1) t = x1) n) 0 l) → (c ≤ l * 120) → zH s0 s1 G as0 (dW ad G (va_up F 20 ((c : Int))) Ar kp pl (PW ++ [(w, .inr (13, [.ref (ad 99), .int (iZ (x1 : Int)), .ref (ad 99)]))])) H locs → lv_has ls 4 [(0, .ref (w)), (1, .int (iZ ((l : Int))))] → W pg lau ev (zRm 4 0 0 96) s1 mi ar bl me cd H locs 0 0 Q (F0 mi 2 ls []) := by
    intro N_
    induction N_ with
    | zero => intro l c H locs ls hd; exact absurd hd (Nat.not_lt_zero _)
    | succ N_ ih2 =>
      intro l c H locs ls hd2 i2_1 ic i2_3 hH hl
      refine z_iload_n hC 2 hl dX14_goes_2 rfl 1 rfl ?_
      refine z_aload_n hC 3 hl dX14_goes_3 rfl 0 rfl ?_
      refine zp_get (v := .ref (ad 99)) hC (dW_xP hH.1) 4 in_X15 rfl 0 (by decide) q1188 0 rfl (rfl) dX14_goes_4 ?_
      refine zp_getN (v := .ref (ad 200)) hC (va_P_l hH.1) 7 in_X1 rfl 4 (by decide) q213 0 rfl (rfl) dX14_goes_7 ?_
      refine zp_getN (v := .int (iZ ((n : Int)))) hC (va_P_l hH.1) 10 in_X2 rfl 2 (by decide) q148 11 rfl (by rw [← hFn]; rfl) dX14_goes_10 ?_
      refine z_icmp_ge hC 13 109 dX14_goes_13 rfl (by omega) (by omega) (fun hb1 => ?_) (fun hb1 => ?_)
      · -- 13t
        refine z_aload_n hC 109 hl dX14_goes_109 rfl 0 rfl ?_
        -- R110.1
        exact z_aret hC hH hQ 110 (c) dX14_goes_110 rfl (by (have e9 : l = n := (by omega); rw [e9] at ic; exact ic)) rfl (Nat.le_refl _) (Nat.le_refl _)
      · -- 13f
        have hvl := hv l (by omega)
        refine z_aload_n hC 16 hl dX14_goes_16 rfl 0 rfl ?_
        refine zp_get (v := .ref (ad 99)) hC (dW_xP hH.1) 17 in_X15 rfl 0 (by decide) q1188 0 rfl (rfl) dX14_goes_17 ?_
        refine zp_getN (v := .ref (ad 200)) hC (va_P_l hH.1) 20 in_X1 rfl 4 (by decide) q213 0 rfl (rfl) dX14_goes_20 ?_
        refine zp_getN (v := .ref (ad 201)) hC (va_P_l hH.1) 23 in_X2 rfl 0 (by decide) q140 11 rfl (rfl) dX14_goes_23 ?_
        refine z_iload_n hC 26 hl dX14_goes_26 rfl 1 rfl ?_
        refine zp_iald (f := (Ar 201)) (x := ((v (l) : Nat) : Int)) hC (va_P_l hH.1) 27 12 (l) rfl (by decide) (by omega) (by omega) (hAv (l) (by omega)) dX14_goes_27 ?_
        refine z_istore_n (lv' := [(2, .int (iZ (((v (l) : Nat) : Int)))), (0, .ref (w)), (1, .int (iZ ((l : Int))))]) hC 28 hl dX14_goes_28 rfl (by decide) rfl (fun ls hl => ?_)
        refine z_iload_n hC 29 hl dX14_goes_29 rfl 2 rfl ?_
        refine z_istore_n (lv' := [(3, .int (iZ ((l : Int)))), (2, .int (iZ (((v (l) : Nat) : Int)))), (0, .ref (w)), (1, .int (iZ ((l : Int))))]) hC 30 hl dX14_goes_30 rfl (by decide) rfl (fun ls hl => ?_)
        have L31 : ∀ (N_ : Nat) (r : Nat) (be : Nat) (c2 : Nat) (H : Heap) (locs : List Loc) (ls : Array Slot), n - r < N_ → (l ≤ r) → (r ≤ n) → (be = wkB v t l r) → (c2 = c + cB (fun r => l ≤ r ∧ md v l (r + 1) t = x1) r) → (c2 ≤ c + r) → zH s0 s1 G as0 (dW ad G (va_up F 20 ((c2 : Int))) Ar kp pl (PW ++ [(w, .inr (13, [.ref (ad 99), .int (iZ (x1 : Int)), .ref (ad 99)]))])) H locs → lv_has ls 4 [(0, .ref (w)), (1, .int (iZ ((l : Int)))), (2, .int (iZ ((be : Int)))), (3, .int (iZ ((r : Int))))] → W pg lau ev (zRm 4 0 0 96) s1 mi ar bl me cd H locs 0 0 Q (F0 mi 31 ls []) := by
          intro N_
          induction N_ with
          | zero => intro r be c2 H locs ls hd; exact absurd hd (Nat.not_lt_zero _)
          | succ N_ ih31 =>
            intro r be c2 H locs ls hd31 i31_1 i31_2 ibe i2 ib hH hl
            refine z_iload_n hC 31 hl dX14_goes_31 rfl 3 rfl ?_
            refine z_aload_n hC 32 hl dX14_goes_32 rfl 0 rfl ?_
            refine zp_get (v := .ref (ad 99)) hC (dW_xP hH.1) 33 in_X15 rfl 0 (by decide) q1188 0 rfl (rfl) dX14_goes_33 ?_
            refine zp_getN (v := .ref (ad 200)) hC (va_P_l hH.1) 36 in_X1 rfl 4 (by decide) q213 0 rfl (rfl) dX14_goes_36 ?_
            refine zp_getN (v := .int (iZ ((n : Int)))) hC (va_P_l hH.1) 39 in_X2 rfl 2 (by decide) q148 11 rfl (by rw [← hFn]; rfl) dX14_goes_39 ?_
            refine z_icmp_ge hC 42 103 dX14_goes_42 rfl (by omega) (by omega) (fun hb2 => ?_) (fun hb2 => ?_)
            · -- 42t
              refine z_iinc (lv' := [(1, .int (iZ ((l : Int) + 1))), (0, .ref (w)), (2, .int (iZ ((be : Int)))), (3, .int (iZ ((r : Int))))]) hC 103 hl dX14_goes_103 1 rfl (by omega) (by decide) rfl (fun ls hl => ?_)
              refine z_goto hC 106 2 dX14_goes_106 rfl ?_
              -- J2.2
              exact ih2 (l + 1) c2 _ _ _ (by omega) (by first | assumption | omega) (by first | rfl | (rw [sm_succ _ (Nat.zero_le _), ← ic, ← show r = n by omega]; exact i2)) (by first | assumption | omega) hH (z_lv (lv_sub hl [1, 0] rfl) (zcons rfl (zcons (zpeq (by omega)) rfl)))
            · -- 42f
              have hvr := hv r (by omega)
              have hvl := hv l (by omega)
              have hbe := wkB_lt (t := t) (r := r) hvl
              have hbp := wkB_p (t := t) (fun i hi => hv i (by omega)) (show l ≤ r by omega)
              refine z_aload_n hC 45 hl dX14_goes_45 rfl 0 rfl ?_
              refine zp_get (v := .ref (ad 99)) hC (dW_xP hH.1) 46 in_X15 rfl 0 (by decide) q1188 0 rfl (rfl) dX14_goes_46 ?_
              refine z_aload_n hC 49 hl dX14_goes_49 rfl 0 rfl ?_
              refine zp_get (v := .ref (ad 99)) hC (dW_xP hH.1) 50 in_X15 rfl 0 (by decide) q1188 0 rfl (rfl) dX14_goes_50 ?_
              refine zp_getN (v := .ref (ad 200)) hC (va_P_l hH.1) 53 in_X1 rfl 4 (by decide) q213 0 rfl (rfl) dX14_goes_53 ?_
              refine zp_getN (v := .ref (ad 201)) hC (va_P_l hH.1) 56 in_X2 rfl 0 (by decide) q140 11 rfl (rfl) dX14_goes_56 ?_
              refine z_iload_n hC 59 hl dX14_goes_59 rfl 3 rfl ?_
              refine zp_iald (f := (Ar 201)) (x := ((v (r) : Nat) : Int)) hC (va_P_l hH.1) 60 12 (r) rfl (by decide) (by omega) (by omega) (hAv (r) (by omega)) dX14_goes_60 ?_
              refine z_iload_n hC 61 hl dX14_goes_61 rfl 2 rfl ?_
              refine z_iload_n hC 62 hl dX14_goes_62 rfl 1 rfl ?_
              refine z_iload_n hC 63 hl dX14_goes_63 rfl 3 rfl ?_
              refine z_aload_n hC 64 hl dX14_goes_64 rfl 0 rfl ?_
              refine zp_get (v := .ref (ad 99)) hC (dW_xP hH.1) 65 in_X15 rfl 0 (by decide) q1188 0 rfl (rfl) dX14_goes_65 ?_
              refine zp_getN (v := .int (iZ ((t : Int)))) hC (va_P_l hH.1) 68 in_X1 rfl 8 (by decide) q217 0 rfl (by rw [← hFt]; rfl) dX14_goes_68 ?_
              refine z_st (st' := [.int (iZ ((t : Int))), .int (iZ (((r + 1 : Nat) : Int) - 1)), .int (iZ ((l : Int))), .int (iZ ((be : Int))), .int (iZ (((v (r) : Nat) : Int))), .ref (ad 99)]) (zcons rfl (zcons (zieq (by omega)) (zcons rfl (zcons rfl (zcons rfl rfl))))) ?_
              refine zp_back (zp_runVN hC (hH.2.2) hl.1 (dP_of hH hpp) 5 (As := [.int (iZ (((v (r) : Nat) : Int))), .int (iZ ((be : Int))), .int (iZ ((l : Int))), .int (iZ (((r + 1 : Nat) : Int) - 1)), .int (iZ ((t : Int)))]) (rest := []) (u_X1_isAhead lau s0 G ad (va_up F 20 ((c2 : Int))) Ar kp pl pr pa pm pf n v (v (r)) be l (r + 1) t nw (by first | exact hn | assumption | omega) (by first | exact hv | assumption | omega) (by first | exact hpl | assumption | omega) (by first | exact hnw | assumption | omega) (by first | exact hpc | assumption | omega) (by omega) (by first | exact hrn | assumption | omega) (by first | assumption | omega) (by first | assumption | omega) (by exact cnt_in (by omega) (by omega)) (by (rw [ibe]; exact hbp)) (by first | exact ht | assumption | omega)) (lw_meth q735) q1202 ⟨q734, qs16, q89⟩ ⟨by decide, by decide, by decide +kernel⟩ (q0 := 0) (ci := 1) rfl rfl rfl rfl (Nat.le_of_ble_eq_true rfl) ⟨Nat.le_of_ble_eq_true rfl, Nat.le_of_ble_eq_true rfl⟩ ⟨by first | decide | omega, by first | decide | omega⟩ dX14_goes_71) (fun r_71 hpost => ?_)
              have hb_71 : (r_71 = 1 ∧ (ahd v l (r + 1) t (v (r)) be)) ∨ (r_71 = 0 ∧ ¬ (ahd v l (r + 1) t (v (r)) be)) := hpost
              refine z_st (st' := [.int (iZ (r_71))]) rfl ?_
              rcases hb_71 with ⟨rfl, hb_71⟩ | ⟨rfl, hb_71⟩
              · -- 71=1
                refine z_if_eq_f hC 74 90 dX14_goes_74 rfl (by omega) (by omega) ?_
                refine z_aload_n hC 77 hl dX14_goes_77 rfl 0 rfl ?_
                refine zp_get (v := .ref (ad 99)) hC (dW_xP hH.1) 78 in_X15 rfl 0 (by decide) q1188 0 rfl (rfl) dX14_goes_78 ?_
                refine zp_getN (v := .ref (ad 200)) hC (va_P_l hH.1) 81 in_X1 rfl 4 (by decide) q213 0 rfl (rfl) dX14_goes_81 ?_
                refine zp_getN (v := .ref (ad 201)) hC (va_P_l hH.1) 84 in_X2 rfl 0 (by decide) q140 11 rfl (rfl) dX14_goes_84 ?_
                refine z_iload_n hC 87 hl dX14_goes_87 rfl 3 rfl ?_
                refine zp_iald (f := (Ar 201)) (x := ((v (r) : Nat) : Int)) hC (va_P_l hH.1) 88 12 (r) rfl (by decide) (by omega) (by omega) (hAv (r) (by omega)) dX14_goes_88 ?_
                refine z_istore_n (lv' := [(2, .int (iZ (((v (r) : Nat) : Int)))), (0, .ref (w)), (1, .int (iZ ((l : Int)))), (3, .int (iZ ((r : Int))))]) hC 89 hl dX14_goes_89 rfl (by decide) rfl (fun ls hl => ?_)
                have hmd9 : ((v (r))) = wkB v t l (r + 1) := by first | (exact wkB_t (fun i hi => hv i (by omega)) (by omega) (by rw [← ibe]; exact hb_71)) | (rw [ibe]; exact wkB_f (fun i hi => hv i (by omega)) (by omega) (by rw [← ibe]; exact hb_71))
                have hmd8 := wkB_s (v := v) (t := t) (show l ≤ r by omega)
                have hmd7 := md_lt_1000 v l (r + 1) t
                refine z_aload_n hC 90 hl dX14_goes_90 rfl 1 rfl ?_
                refine z_iload_n hC 91 hl dX14_goes_91 rfl 2 rfl ?_
                refine z_iload_n hC 92 hl dX14_goes_92 rfl 3 rfl ?_
                refine z_iload_n hC 93 hl dX14_goes_93 rfl 0 rfl ?_
                refine z_same (z_runA (owner := "ModeDesk$Walk") hC hH.2.2 hl.1 hH.1 hH.2.1 3 (As := [.int (iZ ((l : Int))), .int (iZ ((r : Int))), .int (iZ (((v (r) : Nat) : Int)))]) (rest := []) (m_X15_meets lau s0 G _ ad (va_up F 20 ((c2 : Int))) Ar kp pl PW x1 w l r (v (r)) n c2 (by first | exact hlr | assumption | omega) (by first | exact hrn | assumption | omega) (by first | exact hn | assumption | omega) (by first | assumption | omega) (by first | assumption | omega) (by first | assumption | omega)) (lw_U q1203 q1205 q1206 q1207 q122 q1208) q1204 ⟨by decide, by decide, by decide +kernel⟩ (q0 := 60 + PW.length) (ci := 13) dW_x rfl rfl rfl (Nat.le_of_ble_eq_true rfl) ⟨Nat.le_of_ble_eq_true rfl, Nat.le_of_ble_eq_true rfl⟩ ⟨Nat.le_of_ble_eq_true rfl, Nat.le_of_ble_eq_true rfl⟩ dX14_goes_94) hH (fun f2_94 H locs hpost hH => ?_)
                have pm_94 : f2_94 = c2 + if (v (r)) = x1 then 1 else 0 := hpost
                have hH : zH s0 s1 G as0 (dW ad G (va_up F 20 ((f2_94 : Int))) Ar kp pl (PW ++ [(w, .inr (13, [.ref (ad 99), .int (iZ (x1 : Int)), .ref (ad 99)]))])) H locs := hH
                refine z_st (st' := []) rfl ?_
                refine z_iinc (lv' := [(3, .int (iZ ((r : Int) + 1))), (2, .int (iZ (((v (r) : Nat) : Int)))), (0, .ref (w)), (1, .int (iZ ((l : Int))))]) hC 97 hl dX14_goes_97 3 rfl (by omega) (by decide) rfl (fun ls hl => ?_)
                refine z_goto hC 100 31 dX14_goes_100 rfl ?_
                -- J31.3
                exact ih31 (r + 1) (v (r)) f2_94 _ _ _ (by omega) (by first | assumption | omega) (by first | assumption | omega) (by first | exact wkB_0.symm | exact hmd9) (by first | (rw [cB_none (fun j hj h => by omega)]; rfl) | (rw [pm_94, hmd9, hmd8]; split <;> rename_i q9; exact cB_ait ⟨by omega, q9⟩ i2; exact cB_aif (fun q => q9 q.2) i2)) (by first | omega | (rw [pm_94]; split <;> omega)) hH (z_lv (lv_sub hl [2, 3, 1, 0] rfl) (zcons rfl (zcons rfl (zcons rfl (zcons (zpeq (by omega)) rfl)))))
              · -- 71=0
                refine z_if_eq_t hC 74 90 dX14_goes_74 rfl (by omega) (by omega) ?_
                have hmd9 : (be) = wkB v t l (r + 1) := by first | (exact wkB_t (fun i hi => hv i (by omega)) (by omega) (by rw [← ibe]; exact hb_71)) | (rw [ibe]; exact wkB_f (fun i hi => hv i (by omega)) (by omega) (by rw [← ibe]; exact hb_71))
                have hmd8 := wkB_s (v := v) (t := t) (show l ≤ r by omega)
                have hmd7 := md_lt_1000 v l (r + 1) t
                refine z_aload_n hC 90 hl dX14_goes_90 rfl 0 rfl ?_
                refine z_iload_n hC 91 hl dX14_goes_91 rfl 1 rfl ?_
                refine z_iload_n hC 92 hl dX14_goes_92 rfl 3 rfl ?_
                refine z_iload_n hC 93 hl dX14_goes_93 rfl 2 rfl ?_
                refine z_same (z_runA (owner := "ModeDesk$Walk") hC hH.2.2 hl.1 hH.1 hH.2.1 3 (As := [.int (iZ ((l : Int))), .int (iZ ((r : Int))), .int (iZ ((be : Int)))]) (rest := []) (m_X15_meets lau s0 G _ ad (va_up F 20 ((c2 : Int))) Ar kp pl PW x1 w l r be n c2 (by first | exact hlr | assumption | omega) (by first | exact hrn | assumption | omega) (by first | exact hn | assumption | omega) (by first | assumption | omega) (by first | assumption | omega) (by first | assumption | omega)) (lw_U q1203 q1205 q1206 q1207 q122 q1208) q1204 ⟨by decide, by decide, by decide +kernel⟩ (q0 := 60 + PW.length) (ci := 13) dW_x rfl rfl rfl (Nat.le_of_ble_eq_true rfl) ⟨Nat.le_of_ble_eq_true rfl, Nat.le_of_ble_eq_true rfl⟩ ⟨Nat.le_of_ble_eq_true rfl, Nat.le_of_ble_eq_true rfl⟩ dX14_goes_94) hH (fun f2_3 H locs hpost hH => ?_)
                have pm_94 : f2_3 = c2 + if be = x1 then 1 else 0 := hpost
                have hH : zH s0 s1 G as0 (dW ad G (va_up F 20 ((f2_3 : Int))) Ar kp pl (PW ++ [(w, .inr (13, [.ref (ad 99), .int (iZ (x1 : Int)), .ref (ad 99)]))])) H locs := hH
                refine z_st (st' := []) rfl ?_
                refine z_iinc (lv' := [(3, .int (iZ ((r : Int) + 1))), (0, .ref (w)), (1, .int (iZ ((l : Int)))), (2, .int (iZ ((be : Int))))]) hC 97 hl dX14_goes_97 3 rfl (by omega) (by decide) rfl (fun ls hl => ?_)
                refine z_goto hC 100 31 dX14_goes_100 rfl ?_
                -- J31.4
                exact ih31 (r + 1) be f2_3 _ _ _ (by omega) (by first | assumption | omega) (by first | assumption | omega) (by first | exact wkB_0.symm | exact hmd9) (by first | (rw [cB_none (fun j hj h => by omega)]; rfl) | (rw [pm_94, hmd9, hmd8]; split <;> rename_i q9; exact cB_ait ⟨by omega, q9⟩ i2; exact cB_aif (fun q => q9 q.2) i2)) (by first | omega | (rw [pm_94]; split <;> omega)) hH (z_lv (lv_sub hl [1, 2, 3, 0] rfl) (zcons rfl (zcons rfl (zcons rfl (zcons (zpeq (by omega)) rfl)))))
        -- J31.5
        exact L31 _ l (v (l)) c _ _ _ (Nat.lt_succ_self _) (by first | assumption | omega) (by first | assumption | omega) (by first | exact wkB_0.symm | exact hmd9) (by first | (rw [cB_none (fun j hj h => by omega)]; rfl) | (rw [pm_94, hmd9, hmd8]; split <;> rename_i q9; exact cB_ait ⟨by omega, q9⟩ i2; exact cB_aif (fun q => q9 q.2) i2)) (by first | omega | (rw [pm_94]; split <;> omega)) hH (lv_sub hl [2, 3, 1, 0] rfl)
  -- J2.6
  exact L2 _ 0 0 _ _ _ (Nat.lt_succ_self _) (by first | assumption | omega) (by first | rfl | (rw [sm_succ _ (Nat.zero_le _), ← ic, ← show r = n by omega]; exact i2)) (by first | assumption | omega) (by rw [show (0 : Int) = ((0 : Nat) : Int) from by omega] at hH; exact hH) (z_lv (lv_sub hl [1, 0] rfl) (zcons rfl (zcons (zpeq (by omega)) rfl)))

set_option maxHeartbeats 4000000 in
set_option maxRecDepth 100000 in
theorem m_X16_meets (lau : Launch) (s0 : State) (G : zG) (sz : Nat) (ad : Nat → Nat) (F : Nat → Int) (Ar : Nat → Nat → Int) (kp : Nat → Nat) (pl : Nat → Option Nat) (PW : va_W) (x1 : Nat) (w : Nat) (l : Nat) (r : Nat) (y : Nat) (n : Nat) (f : Int) (fl : Int) (fr : Int) (hlr : l ≤ r) (hrn : r < n) (hn : n ≤ 120) (hy : y < 1000) (hx : x1 < 1000) (hf : 0 ≤ f ∧ f ≤ 120) : zMet (S := Int × Int × Int) lau yX16_meets cX16_meets 4 (none) 0 0 0 0 s0 G sz [.ref (w), .int (iZ ((l : Int))), .int (iZ ((r : Int))), .int (iZ ((y : Int)))] (dW ad G (va_up (va_up (va_up F 20 (f)) 21 (fl)) 22 (fr)) Ar kp pl (PW ++ [(w, .inr (14, [.ref (ad 99), .int (iZ (x1 : Int)), .ref (ad 99)]))])) (fun ((f2, fl2, fr2) : Int × Int × Int) => (none : Option Value)) (fun ((f2, fl2, fr2) : Int × Int × Int) => (WMT (y = x1 ∧ f < (r : Int) - l + 1) l r f fl fr f2 fl2 fr2)) (fun ((f2, fl2, fr2) : Int × Int × Int) => (dW ad G (va_up (va_up (va_up F 20 (f2)) 21 (fl2)) 22 (fr2)) Ar kp pl (PW ++ [(w, .inr (14, [.ref (ad 99), .int (iZ (x1 : Int)), .ref (ad 99)]))]))) := by
  refine zMet.of (by decide) (Nat.le_of_ble_eq_true rfl) ?_
  intro pg ev s1 mi ar bl me cd ls Q as0 hC hH hl hQ hsz
  generalize s1.heap = H at hH ⊢
  generalize ([] : List Loc) = locs at hH ⊢
  have hl : lv_has ls 4 [(0, .ref (w)), (1, .int (iZ ((l : Int)))), (2, .int (iZ ((r : Int)))), (3, .int (iZ ((y : Int))))] := hl
  refine z_iload_n hC 0 hl dX16_meets_0 rfl 3 rfl ?_
  refine z_aload_n hC 1 hl dX16_meets_1 rfl 0 rfl ?_
  refine zp_get (v := .int (iZ ((x1 : Int)))) hC (dW_xP hH.1) 2 in_X16 rfl 1 (by decide) q1227 0 rfl (rfl) dX16_meets_2 ?_
  refine z_icmp_ne hC 5 23 dX16_meets_5 rfl (by omega) (by omega) (fun hb1 => ?_) (fun hb1 => ?_)
  · -- 5t
    -- R23.1
    exact z_vret hC hH hQ 23 ((f, fl, fr)) dX16_meets_23 rfl (by (try dsimp only); first | exact Or.inl ⟨⟨by omega, by omega⟩, by omega, rfl, rfl⟩ | exact Or.inr ⟨by omega, rfl, rfl, rfl⟩) rfl (Nat.le_refl _) (Nat.le_refl _)
  · -- 5f
    refine z_iload_n hC 8 hl dX16_meets_8 rfl 2 rfl ?_
    refine z_iload_n hC 9 hl dX16_meets_9 rfl 1 rfl ?_
    refine z_isub (e := (r : Int) - (l : Int)) hC 10 dX16_meets_10 rfl ?_
    refine z_iconst hC 11 dX16_meets_11 ?_
    refine z_iadd (e := (r : Int) - (l : Int) + 1) hC 12 dX16_meets_12 rfl ?_
    refine z_aload_n hC 13 hl dX16_meets_13 rfl 0 rfl ?_
    refine zp_get (v := .ref (ad 99)) hC (dW_xP hH.1) 14 in_X16 rfl 2 (by decide) q1228 0 rfl (rfl) dX16_meets_14 ?_
    refine zp_getN (v := .int (iZ (f))) hC (va_P_l hH.1) 17 in_X1 rfl 20 (by decide) q231 0 rfl (rfl) dX16_meets_17 ?_
    refine z_icmp_gt hC 20 24 dX16_meets_20 rfl (by omega) (by omega) (fun hb2 => ?_) (fun hb2 => ?_)
    · -- 20t
      refine z_aload_n hC 24 hl dX16_meets_24 rfl 0 rfl ?_
      refine zp_get (v := .ref (ad 99)) hC (dW_xP hH.1) 25 in_X16 rfl 2 (by decide) q1228 0 rfl (rfl) dX16_meets_25 ?_
      refine z_iload_n hC 28 hl dX16_meets_28 rfl 2 rfl ?_
      refine z_iload_n hC 29 hl dX16_meets_29 rfl 1 rfl ?_
      refine z_isub (e := (r : Int) - (l : Int)) hC 30 dX16_meets_30 rfl ?_
      refine z_iconst hC 31 dX16_meets_31 ?_
      refine z_iadd (e := (r : Int) - (l : Int) + 1) hC 32 dX16_meets_32 rfl ?_
      refine pD_X16_20 hC hH 33 dX16_meets_33 (fun H locs hH => ?_)
      have hH : zH s0 s1 G as0 (dW ad G (va_up (va_up (va_up F 20 ((r : Int) - (l : Int) + 1)) 21 (fl)) 22 (fr)) Ar kp pl (PW ++ [(w, .inr (14, [.ref (ad 99), .int (iZ (x1 : Int)), .ref (ad 99)]))])) H locs := hH
      refine z_aload_n hC 36 hl dX16_meets_36 rfl 0 rfl ?_
      refine zp_get (v := .ref (ad 99)) hC (dW_xP hH.1) 37 in_X16 rfl 2 (by decide) q1228 0 rfl (rfl) dX16_meets_37 ?_
      refine z_iload_n hC 40 hl dX16_meets_40 rfl 1 rfl ?_
      refine pD_X16_21 hC hH 41 dX16_meets_41 (fun H locs hH => ?_)
      have hH : zH s0 s1 G as0 (dW ad G (va_up (va_up (va_up F 20 ((r : Int) - (l : Int) + 1)) 21 ((l : Int))) 22 (fr)) Ar kp pl (PW ++ [(w, .inr (14, [.ref (ad 99), .int (iZ (x1 : Int)), .ref (ad 99)]))])) H locs := hH
      refine z_aload_n hC 44 hl dX16_meets_44 rfl 0 rfl ?_
      refine zp_get (v := .ref (ad 99)) hC (dW_xP hH.1) 45 in_X16 rfl 2 (by decide) q1228 0 rfl (rfl) dX16_meets_45 ?_
      refine z_iload_n hC 48 hl dX16_meets_48 rfl 2 rfl ?_
      refine pD_X16_22 hC hH 49 dX16_meets_49 (fun H locs hH => ?_)
      have hH : zH s0 s1 G as0 (dW ad G (va_up (va_up (va_up F 20 ((r : Int) - (l : Int) + 1)) 21 ((l : Int))) 22 ((r : Int))) Ar kp pl (PW ++ [(w, .inr (14, [.ref (ad 99), .int (iZ (x1 : Int)), .ref (ad 99)]))])) H locs := hH
      -- R52.2
      exact z_vret hC hH hQ 52 (((r : Int) - (l : Int) + 1, (l : Int), (r : Int))) dX16_meets_52 rfl (by (try dsimp only); first | exact Or.inl ⟨⟨by omega, by omega⟩, by omega, rfl, rfl⟩ | exact Or.inr ⟨by omega, rfl, rfl, rfl⟩) rfl (Nat.le_refl _) (Nat.le_refl _)
    · -- 20f
      -- R23.3
      exact z_vret hC hH hQ 23 ((f, fl, fr)) dX16_meets_23 rfl (by (try dsimp only); first | exact Or.inl ⟨⟨by omega, by omega⟩, by omega, rfl, rfl⟩ | exact Or.inr ⟨by omega, rfl, rfl, rfl⟩) rfl (Nat.le_refl _) (Nat.le_refl _)

set_option maxHeartbeats 8000000 in
set_option maxRecDepth 100000 in
theorem m_X14_goes_X16 (lau : Launch) (s0 : State) (G : zG) (sz : Nat) (ad : Nat → Nat) (F : Nat → Int) (Ar : Nat → Nat → Int) (kp : Nat → Nat) (pl : Nat → Option Nat) (PW : va_W) (n : Nat) (v : Nat → Nat) (pr : Nat → Nat) (pa : Nat → Nat) (pm : Nat → Nat) (pf : Nat → Nat → Nat) (nw : Nat) (t : Nat) (x1 : Nat) (w : Nat) (gl : Int) (gr : Int) (hn : n ≤ 120) (hFn : F 200 = (n : Int)) (hv : ∀ i, i < n → v i < 1000) (hAv : ∀ i, i < n → Ar 201 i = (v i : Int)) (ht : t < 4) (hFt : F 8 = (t : Int)) (hpl : ∀ y, y < 1000 → (pl y = some (pr y) ∨ (pl y = none ∧ pr y = nw))) (hnw : zNwh s0 nw) (hpc : ∀ y, y < 1000 → PlC n v y (pm y) (pf y)) (hpp : zPool s0 G PW pr pa pm pf) (hx : x1 < 1000) : zMet (S := Int × Int × Int) lau yX14_goes cX14_goes 4 (some (.object "ModeDesk$Walk")) 4 96 0 0 s0 G sz [.ref (w)] (dW ad G (va_up (va_up (va_up F 20 (0)) 21 (gl)) 22 (gr)) Ar kp pl (PW ++ [(w, .inr (14, [.ref (ad 99), .int (iZ (x1 : Int)), .ref (ad 99)]))])) (fun ((f2, fl2, fr2) : Int × Int × Int) => some (.ref (w))) (fun ((f2, fl2, fr2) : Int × Int × Int) => (WK (fun l r => md v l (r + 1) t = x1) n n 0 f2 fl2 fr2)) (fun ((f2, fl2, fr2) : Int × Int × Int) => (dW ad G (va_up (va_up (va_up F 20 (f2)) 21 (fl2)) 22 (fr2)) Ar kp pl (PW ++ [(w, .inr (14, [.ref (ad 99), .int (iZ (x1 : Int)), .ref (ad 99)]))]))) := by
  refine zMet.of (by decide) (Nat.le_of_ble_eq_true rfl) ?_
  intro pg ev s1 mi ar bl me cd ls Q as0 hC hH hl hQ hsz
  generalize s1.heap = H at hH ⊢
  generalize ([] : List Loc) = locs at hH ⊢
  have hl : lv_has ls 4 [(0, .ref (w))] := hl
  have hpp : zPool s0 G (PW ++ [(w, .inr (14, [.ref (ad 99), .int (iZ (x1 : Int)), .ref (ad 99)]))]) pr pa pm pf := zPool_app hpp
  refine z_iconst hC 0 dX14_goes_0 ?_
  refine z_istore_n (lv' := [(1, .int (iZ (0))), (0, .ref (w))]) hC 1 hl dX14_goes_1 rfl (by decide) rfl (fun ls hl => ?_)
  have L2 : ∀ (N_ : Nat) (l : Nat) (f : Int) (fl : Int) (fr : Int) (H : Heap) (locs : List Loc) (ls : Array Slot), n - l < N_ → (l ≤ n) → (WK (fun l r => md v l (r + 1) t = x1) n l 0 f fl fr) → zH s0 s1 G as0 (dW ad G (va_up (va_up (va_up F 20 (f)) 21 (fl)) 22 (fr)) Ar kp pl (PW ++ [(w, .inr (14, [.ref (ad 99), .int (iZ (x1 : Int)), .ref (ad 99)]))])) H locs → lv_has ls 4 [(0, .ref (w)), (1, .int (iZ ((l : Int))))] → W pg lau ev (zRm 4 0 0 96) s1 mi ar bl me cd H locs 0 0 Q (F0 mi 2 ls []) := by
    intro N_
    induction N_ with
    | zero => intro l f fl fr H locs ls hd; exact absurd hd (Nat.not_lt_zero _)
    | succ N_ ih2 =>
      intro l f fl fr H locs ls hd2 i2_1 iw hH hl
      have hwb := WK_b iw
      refine z_iload_n hC 2 hl dX14_goes_2 rfl 1 rfl ?_
      refine z_aload_n hC 3 hl dX14_goes_3 rfl 0 rfl ?_
      refine zp_get (v := .ref (ad 99)) hC (dW_xP hH.1) 4 in_X16 rfl 0 (by decide) q1188 0 rfl (rfl) dX14_goes_4 ?_
      refine zp_getN (v := .ref (ad 200)) hC (va_P_l hH.1) 7 in_X1 rfl 4 (by decide) q213 0 rfl (rfl) dX14_goes_7 ?_
      refine zp_getN (v := .int (iZ ((n : Int)))) hC (va_P_l hH.1) 10 in_X2 rfl 2 (by decide) q148 11 rfl (by rw [← hFn]; rfl) dX14_goes_10 ?_
      refine z_icmp_ge hC 13 109 dX14_goes_13 rfl (by omega) (by omega) (fun hb1 => ?_) (fun hb1 => ?_)
      · -- 13t
        refine z_aload_n hC 109 hl dX14_goes_109 rfl 0 rfl ?_
        -- R110.1
        exact z_aret hC hH hQ 110 ((f, fl, fr)) dX14_goes_110 rfl (by (try dsimp only); (rw [show l = n by omega] at iw; exact iw)) rfl (Nat.le_refl _) (Nat.le_refl _)
      · -- 13f
        have hvl := hv l (by omega)
        refine z_aload_n hC 16 hl dX14_goes_16 rfl 0 rfl ?_
        refine zp_get (v := .ref (ad 99)) hC (dW_xP hH.1) 17 in_X16 rfl 0 (by decide) q1188 0 rfl (rfl) dX14_goes_17 ?_
        refine zp_getN (v := .ref (ad 200)) hC (va_P_l hH.1) 20 in_X1 rfl 4 (by decide) q213 0 rfl (rfl) dX14_goes_20 ?_
        refine zp_getN (v := .ref (ad 201)) hC (va_P_l hH.1) 23 in_X2 rfl 0 (by decide) q140 11 rfl (rfl) dX14_goes_23 ?_
        refine z_iload_n hC 26 hl dX14_goes_26 rfl 1 rfl ?_
        refine zp_iald (f := (Ar 201)) (x := ((v (l) : Nat) : Int)) hC (va_P_l hH.1) 27 12 (l) rfl (by decide) (by omega) (by omega) (hAv (l) (by omega)) dX14_goes_27 ?_
        refine z_istore_n (lv' := [(2, .int (iZ (((v (l) : Nat) : Int)))), (0, .ref (w)), (1, .int (iZ ((l : Int))))]) hC 28 hl dX14_goes_28 rfl (by decide) rfl (fun ls hl => ?_)
        refine z_iload_n hC 29 hl dX14_goes_29 rfl 2 rfl ?_
        refine z_istore_n (lv' := [(3, .int (iZ ((l : Int)))), (2, .int (iZ (((v (l) : Nat) : Int)))), (0, .ref (w)), (1, .int (iZ ((l : Int))))]) hC 30 hl dX14_goes_30 rfl (by decide) rfl (fun ls hl => ?_)
        have L31 : ∀ (N_ : Nat) (r : Nat) (be : Nat) (g : Int) (gL : Int) (gR : Int) (H : Heap) (locs : List Loc) (ls : Array Slot), n - r < N_ → (l ≤ r) → (r ≤ n) → (be = wkB v t l r) → (WK (fun l r => md v l (r + 1) t = x1) n l r g gL gR) → zH s0 s1 G as0 (dW ad G (va_up (va_up (va_up F 20 (g)) 21 (gL)) 22 (gR)) Ar kp pl (PW ++ [(w, .inr (14, [.ref (ad 99), .int (iZ (x1 : Int)), .ref (ad 99)]))])) H locs → lv_has ls 4 [(0, .ref (w)), (1, .int (iZ ((l : Int)))), (2, .int (iZ ((be : Int)))), (3, .int (iZ ((r : Int))))] → W pg lau ev (zRm 4 0 0 96) s1 mi ar bl me cd H locs 0 0 Q (F0 mi 31 ls []) := by
          intro N_
          induction N_ with
          | zero => intro r be g gL gR H locs ls hd; exact absurd hd (Nat.not_lt_zero _)
          | succ N_ ih31 =>
            intro r be g gL gR H locs ls hd31 i31_1 i31_2 ibe iv hH hl
            have hwb2 := WK_b iv
            refine z_iload_n hC 31 hl dX14_goes_31 rfl 3 rfl ?_
            refine z_aload_n hC 32 hl dX14_goes_32 rfl 0 rfl ?_
            refine zp_get (v := .ref (ad 99)) hC (dW_xP hH.1) 33 in_X16 rfl 0 (by decide) q1188 0 rfl (rfl) dX14_goes_33 ?_
            refine zp_getN (v := .ref (ad 200)) hC (va_P_l hH.1) 36 in_X1 rfl 4 (by decide) q213 0 rfl (rfl) dX14_goes_36 ?_
            refine zp_getN (v := .int (iZ ((n : Int)))) hC (va_P_l hH.1) 39 in_X2 rfl 2 (by decide) q148 11 rfl (by rw [← hFn]; rfl) dX14_goes_39 ?_
            refine z_icmp_ge hC 42 103 dX14_goes_42 rfl (by omega) (by omega) (fun hb2 => ?_) (fun hb2 => ?_)
            · -- 42t
              refine z_iinc (lv' := [(1, .int (iZ ((l : Int) + 1))), (0, .ref (w)), (2, .int (iZ ((be : Int)))), (3, .int (iZ ((r : Int))))]) hC 103 hl dX14_goes_103 1 rfl (by omega) (by decide) rfl (fun ls hl => ?_)
              refine z_goto hC 106 2 dX14_goes_106 rfl ?_
              -- J2.2
              exact ih2 (l + 1) g gL gR _ _ _ (by omega) (by first | assumption | omega) (by first | exact WK_0 | exact WK_next iv (by omega)) hH (z_lv (lv_sub hl [1, 0] rfl) (zcons rfl (zcons (zpeq (by omega)) rfl)))
            · -- 42f
              have hvr := hv r (by omega)
              have hvl := hv l (by omega)
              have hbe := wkB_lt (t := t) (r := r) hvl
              have hbp := wkB_p (t := t) (fun i hi => hv i (by omega)) (show l ≤ r by omega)
              refine z_aload_n hC 45 hl dX14_goes_45 rfl 0 rfl ?_
              refine zp_get (v := .ref (ad 99)) hC (dW_xP hH.1) 46 in_X16 rfl 0 (by decide) q1188 0 rfl (rfl) dX14_goes_46 ?_
              refine z_aload_n hC 49 hl dX14_goes_49 rfl 0 rfl ?_
              refine zp_get (v := .ref (ad 99)) hC (dW_xP hH.1) 50 in_X16 rfl 0 (by decide) q1188 0 rfl (rfl) dX14_goes_50 ?_
              refine zp_getN (v := .ref (ad 200)) hC (va_P_l hH.1) 53 in_X1 rfl 4 (by decide) q213 0 rfl (rfl) dX14_goes_53 ?_
              refine zp_getN (v := .ref (ad 201)) hC (va_P_l hH.1) 56 in_X2 rfl 0 (by decide) q140 11 rfl (rfl) dX14_goes_56 ?_
              refine z_iload_n hC 59 hl dX14_goes_59 rfl 3 rfl ?_
              refine zp_iald (f := (Ar 201)) (x := ((v (r) : Nat) : Int)) hC (va_P_l hH.1) 60 12 (r) rfl (by decide) (by omega) (by omega) (hAv (r) (by omega)) dX14_goes_60 ?_
              refine z_iload_n hC 61 hl dX14_goes_61 rfl 2 rfl ?_
              refine z_iload_n hC 62 hl dX14_goes_62 rfl 1 rfl ?_
              refine z_iload_n hC 63 hl dX14_goes_63 rfl 3 rfl ?_
              refine z_aload_n hC 64 hl dX14_goes_64 rfl 0 rfl ?_
              refine zp_get (v := .ref (ad 99)) hC (dW_xP hH.1) 65 in_X16 rfl 0 (by decide) q1188 0 rfl (rfl) dX14_goes_65 ?_
              refine zp_getN (v := .int (iZ ((t : Int)))) hC (va_P_l hH.1) 68 in_X1 rfl 8 (by decide) q217 0 rfl (by rw [← hFt]; rfl) dX14_goes_68 ?_
              refine z_st (st' := [.int (iZ ((t : Int))), .int (iZ (((r + 1 : Nat) : Int) - 1)), .int (iZ ((l : Int))), .int (iZ ((be : Int))), .int (iZ (((v (r) : Nat) : Int))), .ref (ad 99)]) (zcons rfl (zcons (zieq (by omega)) (zcons rfl (zcons rfl (zcons rfl rfl))))) ?_
              refine zp_back (zp_runVN hC (hH.2.2) hl.1 (dP_of hH hpp) 5 (As := [.int (iZ (((v (r) : Nat) : Int))), .int (iZ ((be : Int))), .int (iZ ((l : Int))), .int (iZ (((r + 1 : Nat) : Int) - 1)), .int (iZ ((t : Int)))]) (rest := []) (u_X1_isAhead lau s0 G ad (va_up (va_up (va_up F 20 (g)) 21 (gL)) 22 (gR)) Ar kp pl pr pa pm pf n v (v (r)) be l (r + 1) t nw (by first | exact hn | assumption | omega) (by first | exact hv | assumption | omega) (by first | exact hpl | assumption | omega) (by first | exact hnw | assumption | omega) (by first | exact hpc | assumption | omega) (by omega) (by first | exact hrn | assumption | omega) (by first | assumption | omega) (by first | assumption | omega) (by exact cnt_in (by omega) (by omega)) (by (rw [ibe]; exact hbp)) (by first | exact ht | assumption | omega)) (lw_meth q735) q1202 ⟨q734, qs16, q89⟩ ⟨by decide, by decide, by decide +kernel⟩ (q0 := 0) (ci := 1) rfl rfl rfl rfl (Nat.le_of_ble_eq_true rfl) ⟨Nat.le_of_ble_eq_true rfl, Nat.le_of_ble_eq_true rfl⟩ ⟨by first | decide | omega, by first | decide | omega⟩ dX14_goes_71) (fun r_71 hpost => ?_)
              have hb_71 : (r_71 = 1 ∧ (ahd v l (r + 1) t (v (r)) be)) ∨ (r_71 = 0 ∧ ¬ (ahd v l (r + 1) t (v (r)) be)) := hpost
              refine z_st (st' := [.int (iZ (r_71))]) rfl ?_
              rcases hb_71 with ⟨rfl, hb_71⟩ | ⟨rfl, hb_71⟩
              · -- 71=1
                refine z_if_eq_f hC 74 90 dX14_goes_74 rfl (by omega) (by omega) ?_
                refine z_aload_n hC 77 hl dX14_goes_77 rfl 0 rfl ?_
                refine zp_get (v := .ref (ad 99)) hC (dW_xP hH.1) 78 in_X16 rfl 0 (by decide) q1188 0 rfl (rfl) dX14_goes_78 ?_
                refine zp_getN (v := .ref (ad 200)) hC (va_P_l hH.1) 81 in_X1 rfl 4 (by decide) q213 0 rfl (rfl) dX14_goes_81 ?_
                refine zp_getN (v := .ref (ad 201)) hC (va_P_l hH.1) 84 in_X2 rfl 0 (by decide) q140 11 rfl (rfl) dX14_goes_84 ?_
                refine z_iload_n hC 87 hl dX14_goes_87 rfl 3 rfl ?_
                refine zp_iald (f := (Ar 201)) (x := ((v (r) : Nat) : Int)) hC (va_P_l hH.1) 88 12 (r) rfl (by decide) (by omega) (by omega) (hAv (r) (by omega)) dX14_goes_88 ?_
                refine z_istore_n (lv' := [(2, .int (iZ (((v (r) : Nat) : Int)))), (0, .ref (w)), (1, .int (iZ ((l : Int)))), (3, .int (iZ ((r : Int))))]) hC 89 hl dX14_goes_89 rfl (by decide) rfl (fun ls hl => ?_)
                have hmd9 : ((v (r))) = wkB v t l (r + 1) := by first | (exact wkB_t (fun i hi => hv i (by omega)) (by omega) (by rw [← ibe]; exact hb_71)) | (rw [ibe]; exact wkB_f (fun i hi => hv i (by omega)) (by omega) (by rw [← ibe]; exact hb_71))
                have hmd8 := wkB_s (v := v) (t := t) (show l ≤ r by omega)
                have hmd7 := md_lt_1000 v l (r + 1) t
                refine z_aload_n hC 90 hl dX14_goes_90 rfl 1 rfl ?_
                refine z_iload_n hC 91 hl dX14_goes_91 rfl 2 rfl ?_
                refine z_iload_n hC 92 hl dX14_goes_92 rfl 3 rfl ?_
                refine z_iload_n hC 93 hl dX14_goes_93 rfl 0 rfl ?_
                refine z_same (z_runA (owner := "ModeDesk$Walk") hC hH.2.2 hl.1 hH.1 hH.2.1 3 (As := [.int (iZ ((l : Int))), .int (iZ ((r : Int))), .int (iZ (((v (r) : Nat) : Int)))]) (rest := []) (m_X16_meets lau s0 G _ ad (va_up (va_up (va_up F 20 (g)) 21 (gL)) 22 (gR)) Ar kp pl PW x1 w l r (v (r)) n g gL gR (by first | exact hlr | assumption | omega) (by first | exact hrn | assumption | omega) (by first | exact hn | assumption | omega) (by first | assumption | omega) (by first | assumption | omega) (by first | assumption | omega)) (lw_U q1203 q1205 q1209 q1210 q123 q1211) q1204 ⟨by decide, by decide, by decide +kernel⟩ (q0 := 60 + PW.length) (ci := 14) dW_x rfl rfl rfl (Nat.le_of_ble_eq_true rfl) ⟨Nat.le_of_ble_eq_true rfl, Nat.le_of_ble_eq_true rfl⟩ ⟨Nat.le_of_ble_eq_true rfl, Nat.le_of_ble_eq_true rfl⟩ dX14_goes_94) hH (fun u_ H locs hpost hH => ?_)
                obtain ⟨f2_94, fl2_94, fr2_94⟩ := u_
                have pw_94 : WMT ((v (r)) = x1 ∧ g < (r : Int) - l + 1) l r g gL gR f2_94 fl2_94 fr2_94 := hpost
                have hH : zH s0 s1 G as0 (dW ad G (va_up (va_up (va_up F 20 (f2_94)) 21 (fl2_94)) 22 (fr2_94)) Ar kp pl (PW ++ [(w, .inr (14, [.ref (ad 99), .int (iZ (x1 : Int)), .ref (ad 99)]))])) H locs := hH
                refine z_st (st' := []) rfl ?_
                refine z_iinc (lv' := [(3, .int (iZ ((r : Int) + 1))), (2, .int (iZ (((v (r) : Nat) : Int)))), (0, .ref (w)), (1, .int (iZ ((l : Int))))]) hC 97 hl dX14_goes_97 3 rfl (by omega) (by decide) rfl (fun ls hl => ?_)
                refine z_goto hC 100 31 dX14_goes_100 rfl ?_
                -- J31.3
                exact ih31 (r + 1) (v (r)) f2_94 fl2_94 fr2_94 _ _ _ (by omega) (by first | assumption | omega) (by first | assumption | omega) (by first | exact wkB_0.symm | exact hmd9) (by first | exact WK_row iw | exact WK_s iv (by omega) (by omega) pw_94 (by rw [hmd9, hmd8])) hH (z_lv (lv_sub hl [2, 3, 1, 0] rfl) (zcons rfl (zcons rfl (zcons rfl (zcons (zpeq (by omega)) rfl)))))
              · -- 71=0
                refine z_if_eq_t hC 74 90 dX14_goes_74 rfl (by omega) (by omega) ?_
                have hmd9 : (be) = wkB v t l (r + 1) := by first | (exact wkB_t (fun i hi => hv i (by omega)) (by omega) (by rw [← ibe]; exact hb_71)) | (rw [ibe]; exact wkB_f (fun i hi => hv i (by omega)) (by omega) (by rw [← ibe]; exact hb_71))
                have hmd8 := wkB_s (v := v) (t := t) (show l ≤ r by omega)
                have hmd7 := md_lt_1000 v l (r + 1) t
                refine z_aload_n hC 90 hl dX14_goes_90 rfl 0 rfl ?_
                refine z_iload_n hC 91 hl dX14_goes_91 rfl 1 rfl ?_
                refine z_iload_n hC 92 hl dX14_goes_92 rfl 3 rfl ?_
                refine z_iload_n hC 93 hl dX14_goes_93 rfl 2 rfl ?_
                refine z_same (z_runA (owner := "ModeDesk$Walk") hC hH.2.2 hl.1 hH.1 hH.2.1 3 (As := [.int (iZ ((l : Int))), .int (iZ ((r : Int))), .int (iZ ((be : Int)))]) (rest := []) (m_X16_meets lau s0 G _ ad (va_up (va_up (va_up F 20 (g)) 21 (gL)) 22 (gR)) Ar kp pl PW x1 w l r be n g gL gR (by first | exact hlr | assumption | omega) (by first | exact hrn | assumption | omega) (by first | exact hn | assumption | omega) (by first | assumption | omega) (by first | assumption | omega) (by first | assumption | omega)) (lw_U q1203 q1205 q1209 q1210 q123 q1211) q1204 ⟨by decide, by decide, by decide +kernel⟩ (q0 := 60 + PW.length) (ci := 14) dW_x rfl rfl rfl (Nat.le_of_ble_eq_true rfl) ⟨Nat.le_of_ble_eq_true rfl, Nat.le_of_ble_eq_true rfl⟩ ⟨Nat.le_of_ble_eq_true rfl, Nat.le_of_ble_eq_true rfl⟩ dX14_goes_94) hH (fun u_ H locs hpost hH => ?_)
                obtain ⟨f2_3, fl2_4, fr2_5⟩ := u_
                have pw_94 : WMT (be = x1 ∧ g < (r : Int) - l + 1) l r g gL gR f2_3 fl2_4 fr2_5 := hpost
                have hH : zH s0 s1 G as0 (dW ad G (va_up (va_up (va_up F 20 (f2_3)) 21 (fl2_4)) 22 (fr2_5)) Ar kp pl (PW ++ [(w, .inr (14, [.ref (ad 99), .int (iZ (x1 : Int)), .ref (ad 99)]))])) H locs := hH
                refine z_st (st' := []) rfl ?_
                refine z_iinc (lv' := [(3, .int (iZ ((r : Int) + 1))), (0, .ref (w)), (1, .int (iZ ((l : Int)))), (2, .int (iZ ((be : Int))))]) hC 97 hl dX14_goes_97 3 rfl (by omega) (by decide) rfl (fun ls hl => ?_)
                refine z_goto hC 100 31 dX14_goes_100 rfl ?_
                -- J31.4
                exact ih31 (r + 1) be f2_3 fl2_4 fr2_5 _ _ _ (by omega) (by first | assumption | omega) (by first | assumption | omega) (by first | exact wkB_0.symm | exact hmd9) (by first | exact WK_row iw | exact WK_s iv (by omega) (by omega) pw_94 (by rw [hmd9, hmd8])) hH (z_lv (lv_sub hl [1, 2, 3, 0] rfl) (zcons rfl (zcons rfl (zcons rfl (zcons (zpeq (by omega)) rfl)))))
        -- J31.5
        exact L31 _ l (v (l)) f fl fr _ _ _ (Nat.lt_succ_self _) (by first | assumption | omega) (by first | assumption | omega) (by first | exact wkB_0.symm | exact hmd9) (by first | exact WK_row iw | exact WK_s iv (by omega) (by omega) pw_94 (by rw [hmd9, hmd8])) hH (lv_sub hl [2, 3, 1, 0] rfl)
  -- J2.6
  exact L2 _ 0 0 gl gr _ _ _ (Nat.lt_succ_self _) (by first | assumption | omega) (by first | exact WK_0 | exact WK_next iv (by omega)) hH (z_lv (lv_sub hl [1, 0] rfl) (zcons rfl (zcons (zpeq (by omega)) rfl)))

set_option maxHeartbeats 4000000 in
set_option maxRecDepth 100000 in
theorem m_X17_meets (lau : Launch) (s0 : State) (G : zG) (sz : Nat) (ad : Nat → Nat) (F : Nat → Int) (Ar : Nat → Nat → Int) (kp : Nat → Nat) (pl : Nat → Option Nat) (PW : va_W) (n : Nat) (v : Nat → Nat) (pr : Nat → Nat) (pa : Nat → Nat) (pm : Nat → Nat) (pf : Nat → Nat → Nat) (nw : Nat) (x1 : Nat) (w : Nat) (l : Nat) (r : Nat) (y : Nat) (f : Int) (fl : Int) (fr : Int) (hn : n ≤ 120) (hFn : F 200 = (n : Int)) (hv : ∀ i, i < n → v i < 1000) (hAv : ∀ i, i < n → Ar 201 i = (v i : Int)) (hpl : ∀ y, y < 1000 → (pl y = some (pr y) ∨ (pl y = none ∧ pr y = nw))) (hnw : zNwh s0 nw) (hpc : ∀ y, y < 1000 → PlC n v y (pm y) (pf y)) (hpp : zPool s0 G PW pr pa pm pf) (hlr : l ≤ r) (hrn : r < n) (hy : y < 1000) (hx : x1 < 1000) (hf : 0 ≤ f ∧ f ≤ 120) : zMet (S := Int × Int × Int) lau yX17_meets cX17_meets 4 (none) 2 46 0 0 s0 G sz [.ref (w), .int (iZ ((l : Int))), .int (iZ ((r : Int))), .int (iZ ((y : Int)))] (dW ad G (va_up (va_up (va_up F 20 (f)) 21 (fl)) 22 (fr)) Ar kp pl (PW ++ [(w, .inr (15, [.ref (ad 99), .int (iZ (x1 : Int)), .ref (ad 99)]))])) (fun ((f2, fl2, fr2) : Int × Int × Int) => (none : Option Value)) (fun ((f2, fl2, fr2) : Int × Int × Int) => (WMT (y = x1 ∧ f < (r : Int) - l + 1 ∧ r + 1 - l < 2 * cnt v l (r + 1) x1) l r f fl fr f2 fl2 fr2)) (fun ((f2, fl2, fr2) : Int × Int × Int) => (dW ad G (va_up (va_up (va_up F 20 (f2)) 21 (fl2)) 22 (fr2)) Ar kp pl (PW ++ [(w, .inr (15, [.ref (ad 99), .int (iZ (x1 : Int)), .ref (ad 99)]))]))) := by
  refine zMet.of (by decide) (Nat.le_of_ble_eq_true rfl) ?_
  intro pg ev s1 mi ar bl me cd ls Q as0 hC hH hl hQ hsz
  generalize s1.heap = H at hH ⊢
  generalize ([] : List Loc) = locs at hH ⊢
  have hl : lv_has ls 4 [(0, .ref (w)), (1, .int (iZ ((l : Int)))), (2, .int (iZ ((r : Int)))), (3, .int (iZ ((y : Int))))] := hl
  have hpp : zPool s0 G (PW ++ [(w, .inr (15, [.ref (ad 99), .int (iZ (x1 : Int)), .ref (ad 99)]))]) pr pa pm pf := zPool_app hpp
  have hcl := cnt_le v l (r + 1) x1
  refine z_iload_n hC 0 hl dX17_meets_0 rfl 3 rfl ?_
  refine z_aload_n hC 1 hl dX17_meets_1 rfl 0 rfl ?_
  refine zp_get (v := .int (iZ ((x1 : Int)))) hC (dW_xP hH.1) 2 in_X17 rfl 1 (by decide) q1309 0 rfl (rfl) dX17_meets_2 ?_
  refine z_icmp_ne hC 5 49 dX17_meets_5 rfl (by omega) (by omega) (fun hb1 => ?_) (fun hb1 => ?_)
  · -- 5t
    -- R49.1
    exact z_vret hC hH hQ 49 ((f, fl, fr)) dX17_meets_49 rfl (by (try dsimp only); first | exact Or.inl ⟨⟨by omega, by omega, by omega⟩, by omega, rfl, rfl⟩ | exact Or.inr ⟨by omega, rfl, rfl, rfl⟩) rfl (Nat.le_refl _) (Nat.le_refl _)
  · -- 5f
    refine z_iload_n hC 8 hl dX17_meets_8 rfl 2 rfl ?_
    refine z_iload_n hC 9 hl dX17_meets_9 rfl 1 rfl ?_
    refine z_isub (e := (r : Int) - (l : Int)) hC 10 dX17_meets_10 rfl ?_
    refine z_iconst hC 11 dX17_meets_11 ?_
    refine z_iadd (e := (r : Int) - (l : Int) + 1) hC 12 dX17_meets_12 rfl ?_
    refine z_aload_n hC 13 hl dX17_meets_13 rfl 0 rfl ?_
    refine zp_get (v := .ref (ad 99)) hC (dW_xP hH.1) 14 in_X17 rfl 2 (by decide) q1310 0 rfl (rfl) dX17_meets_14 ?_
    refine zp_getN (v := .int (iZ (f))) hC (va_P_l hH.1) 17 in_X1 rfl 20 (by decide) q232 0 rfl (rfl) dX17_meets_17 ?_
    refine z_icmp_le hC 20 49 dX17_meets_20 rfl (by omega) (by omega) (fun hb2 => ?_) (fun hb2 => ?_)
    · -- 20t
      -- R49.2
      exact z_vret hC hH hQ 49 ((f, fl, fr)) dX17_meets_49 rfl (by (try dsimp only); first | exact Or.inl ⟨⟨by omega, by omega, by omega⟩, by omega, rfl, rfl⟩ | exact Or.inr ⟨by omega, rfl, rfl, rfl⟩) rfl (Nat.le_refl _) (Nat.le_refl _)
    · -- 20f
      refine z_iconst hC 23 dX17_meets_23 ?_
      refine z_aload_n hC 24 hl dX17_meets_24 rfl 0 rfl ?_
      refine zp_get (v := .ref (ad 99)) hC (dW_xP hH.1) 25 in_X17 rfl 2 (by decide) q1310 0 rfl (rfl) dX17_meets_25 ?_
      refine z_aload_n hC 28 hl dX17_meets_28 rfl 0 rfl ?_
      refine zp_get (v := .int (iZ ((x1 : Int)))) hC (dW_xP hH.1) 29 in_X17 rfl 1 (by decide) q1309 0 rfl (rfl) dX17_meets_29 ?_
      refine zp_back (zp_runVN hC (hH.2.2) hl.1 (va_P_l hH.1) 1 (As := [.int (iZ ((x1 : Int)))]) (rest := [.int (iZ (2))]) (u_X1_of lau s0 G ad (va_up (va_up (va_up F 20 (f)) 21 (fl)) 22 (fr)) Ar kp pl x1 (pr x1) nw (by first | assumption | omega) (by first | exact hpl | (first | assumption | exact hpl _ (by omega)) | assumption | omega) (by first | exact hnw | assumption | omega)) (lw_meth q739) q1215 ⟨q738, qs17, q89⟩ ⟨by decide, by decide, by decide +kernel⟩ (q0 := 0) (ci := 1) rfl rfl rfl rfl (Nat.le_of_ble_eq_true rfl) ⟨Nat.le_of_ble_eq_true rfl, Nat.le_of_ble_eq_true rfl⟩ ⟨by first | decide | omega, by first | decide | omega⟩ dX17_meets_32) (fun _ hpost => ?_)
      refine z_st (st' := [.ref ((pr x1)), .int (iZ (2))]) rfl ?_
      refine z_iload_n hC 35 hl dX17_meets_35 rfl 1 rfl ?_
      refine z_iload_n hC 36 hl dX17_meets_36 rfl 2 rfl ?_
      refine z_st (st' := [.int (iZ (((r + 1 : Nat) : Int) - 1)), .int (iZ ((l : Int))), .ref ((pr x1)), .int (iZ (2))]) (zcons (zieq (by omega)) (zcons rfl rfl)) ?_
      refine zp_back (zw_run hC (hH.2.2) hl.1 ((dWp hH hpp (y := x1) (by omega))) 2 (As := [.int (iZ ((l : Int))), .int (iZ (((r + 1 : Nat) : Int) - 1))]) (rest := [.int (iZ (2))]) (u_X10_within lau s0 G (pr x1) (pa (x1)) (pm (x1)) (pf (x1)) n v (x1) l (r + 1) (by first | exact hn | assumption | omega) (by exact hpc _ (by omega)) (by first | exact hlr | assumption | omega) (by first | exact hrn | assumption | omega)) (fun hx0 hO0 => u_X10_within_nw lau s0 G (pr x1) (pa (x1)) (pm (x1)) (pf (x1)) n v (x1) l (r + 1) (by first | exact hn | assumption | omega) (by exact hpc _ (by omega)) (by first | exact hlr | assumption | omega) (by first | exact hrn | assumption | omega) hx0 hO0) (lw_V q1216 q743 q744 q110 q745) ⟨rfl, by decide, by decide, by decide +kernel⟩ rfl rfl (Nat.le_of_ble_eq_true rfl) ⟨Nat.le_of_ble_eq_true rfl, Nat.le_of_ble_eq_true rfl⟩ ⟨by first | decide | omega, by first | decide | omega⟩ dX17_meets_37) (fun _ hpost => ?_)
      refine z_st (st' := [.int (iZ (((cnt v l (r + 1) (x1) : Nat) : Int))), .int (iZ (2))]) rfl ?_
      refine z_imul (e := 2 * ((cnt v l (r + 1) (x1) : Nat) : Int)) hC 40 dX17_meets_40 rfl ?_
      refine z_iload_n hC 41 hl dX17_meets_41 rfl 2 rfl ?_
      refine z_iload_n hC 42 hl dX17_meets_42 rfl 1 rfl ?_
      refine z_isub (e := (r : Int) - (l : Int)) hC 43 dX17_meets_43 rfl ?_
      refine z_iconst hC 44 dX17_meets_44 ?_
      refine z_iadd (e := (r : Int) - (l : Int) + 1) hC 45 dX17_meets_45 rfl ?_
      refine z_icmp_gt hC 46 50 dX17_meets_46 rfl (by omega) (by omega) (fun hb3 => ?_) (fun hb3 => ?_)
      · -- 46t
        refine z_aload_n hC 50 hl dX17_meets_50 rfl 0 rfl ?_
        refine zp_get (v := .ref (ad 99)) hC (dW_xP hH.1) 51 in_X17 rfl 2 (by decide) q1310 0 rfl (rfl) dX17_meets_51 ?_
        refine z_iload_n hC 54 hl dX17_meets_54 rfl 2 rfl ?_
        refine z_iload_n hC 55 hl dX17_meets_55 rfl 1 rfl ?_
        refine z_isub (e := (r : Int) - (l : Int)) hC 56 dX17_meets_56 rfl ?_
        refine z_iconst hC 57 dX17_meets_57 ?_
        refine z_iadd (e := (r : Int) - (l : Int) + 1) hC 58 dX17_meets_58 rfl ?_
        refine pD_X17_20 hC hH 59 dX17_meets_59 (fun H locs hH => ?_)
        have hH : zH s0 s1 G as0 (dW ad G (va_up (va_up (va_up F 20 ((r : Int) - (l : Int) + 1)) 21 (fl)) 22 (fr)) Ar kp pl (PW ++ [(w, .inr (15, [.ref (ad 99), .int (iZ (x1 : Int)), .ref (ad 99)]))])) H locs := hH
        refine z_aload_n hC 62 hl dX17_meets_62 rfl 0 rfl ?_
        refine zp_get (v := .ref (ad 99)) hC (dW_xP hH.1) 63 in_X17 rfl 2 (by decide) q1310 0 rfl (rfl) dX17_meets_63 ?_
        refine z_iload_n hC 66 hl dX17_meets_66 rfl 1 rfl ?_
        refine pD_X17_21 hC hH 67 dX17_meets_67 (fun H locs hH => ?_)
        have hH : zH s0 s1 G as0 (dW ad G (va_up (va_up (va_up F 20 ((r : Int) - (l : Int) + 1)) 21 ((l : Int))) 22 (fr)) Ar kp pl (PW ++ [(w, .inr (15, [.ref (ad 99), .int (iZ (x1 : Int)), .ref (ad 99)]))])) H locs := hH
        refine z_aload_n hC 70 hl dX17_meets_70 rfl 0 rfl ?_
        refine zp_get (v := .ref (ad 99)) hC (dW_xP hH.1) 71 in_X17 rfl 2 (by decide) q1310 0 rfl (rfl) dX17_meets_71 ?_
        refine z_iload_n hC 74 hl dX17_meets_74 rfl 2 rfl ?_
        refine pD_X17_22 hC hH 75 dX17_meets_75 (fun H locs hH => ?_)
        have hH : zH s0 s1 G as0 (dW ad G (va_up (va_up (va_up F 20 ((r : Int) - (l : Int) + 1)) 21 ((l : Int))) 22 ((r : Int))) Ar kp pl (PW ++ [(w, .inr (15, [.ref (ad 99), .int (iZ (x1 : Int)), .ref (ad 99)]))])) H locs := hH
        -- R78.3
        exact z_vret hC hH hQ 78 (((r : Int) - (l : Int) + 1, (l : Int), (r : Int))) dX17_meets_78 rfl (by (try dsimp only); first | exact Or.inl ⟨⟨by omega, by omega, by omega⟩, by omega, rfl, rfl⟩ | exact Or.inr ⟨by omega, rfl, rfl, rfl⟩) rfl (Nat.le_refl _) (Nat.le_refl _)
      · -- 46f
        -- R49.4
        exact z_vret hC hH hQ 49 ((f, fl, fr)) dX17_meets_49 rfl (by (try dsimp only); first | exact Or.inl ⟨⟨by omega, by omega, by omega⟩, by omega, rfl, rfl⟩ | exact Or.inr ⟨by omega, rfl, rfl, rfl⟩) rfl (Nat.le_refl _) (Nat.le_refl _)

set_option maxHeartbeats 8000000 in
set_option maxRecDepth 100000 in
theorem m_X14_goes_X17 (lau : Launch) (s0 : State) (G : zG) (sz : Nat) (ad : Nat → Nat) (F : Nat → Int) (Ar : Nat → Nat → Int) (kp : Nat → Nat) (pl : Nat → Option Nat) (PW : va_W) (n : Nat) (v : Nat → Nat) (pr : Nat → Nat) (pa : Nat → Nat) (pm : Nat → Nat) (pf : Nat → Nat → Nat) (nw : Nat) (t : Nat) (x1 : Nat) (w : Nat) (gl : Int) (gr : Int) (hn : n ≤ 120) (hFn : F 200 = (n : Int)) (hv : ∀ i, i < n → v i < 1000) (hAv : ∀ i, i < n → Ar 201 i = (v i : Int)) (ht : t < 4) (hFt : F 8 = (t : Int)) (hpl : ∀ y, y < 1000 → (pl y = some (pr y) ∨ (pl y = none ∧ pr y = nw))) (hnw : zNwh s0 nw) (hpc : ∀ y, y < 1000 → PlC n v y (pm y) (pf y)) (hpp : zPool s0 G PW pr pa pm pf) (hx : x1 < 1000) : zMet (S := Int × Int × Int) lau yX14_goes cX14_goes 4 (some (.object "ModeDesk$Walk")) 4 96 0 0 s0 G sz [.ref (w)] (dW ad G (va_up (va_up (va_up F 20 (0)) 21 (gl)) 22 (gr)) Ar kp pl (PW ++ [(w, .inr (15, [.ref (ad 99), .int (iZ (x1 : Int)), .ref (ad 99)]))])) (fun ((f2, fl2, fr2) : Int × Int × Int) => some (.ref (w))) (fun ((f2, fl2, fr2) : Int × Int × Int) => (WK (fun l r => r + 1 - l < 2 * cnt v l (r + 1) x1) n n 0 f2 fl2 fr2)) (fun ((f2, fl2, fr2) : Int × Int × Int) => (dW ad G (va_up (va_up (va_up F 20 (f2)) 21 (fl2)) 22 (fr2)) Ar kp pl (PW ++ [(w, .inr (15, [.ref (ad 99), .int (iZ (x1 : Int)), .ref (ad 99)]))]))) := by
  refine zMet.of (by decide) (Nat.le_of_ble_eq_true rfl) ?_
  intro pg ev s1 mi ar bl me cd ls Q as0 hC hH hl hQ hsz
  generalize s1.heap = H at hH ⊢
  generalize ([] : List Loc) = locs at hH ⊢
  have hl : lv_has ls 4 [(0, .ref (w))] := hl
  have hpp : zPool s0 G (PW ++ [(w, .inr (15, [.ref (ad 99), .int (iZ (x1 : Int)), .ref (ad 99)]))]) pr pa pm pf := zPool_app hpp
  refine z_iconst hC 0 dX14_goes_0 ?_
  refine z_istore_n (lv' := [(1, .int (iZ (0))), (0, .ref (w))]) hC 1 hl dX14_goes_1 rfl (by decide) rfl (fun ls hl => ?_)
  have L2 : ∀ (N_ : Nat) (l : Nat) (f : Int) (fl : Int) (fr : Int) (H : Heap) (locs : List Loc) (ls : Array Slot), n - l < N_ → (l ≤ n) → (WK (fun l r => r + 1 - l < 2 * cnt v l (r + 1) x1) n l 0 f fl fr) → zH s0 s1 G as0 (dW ad G (va_up (va_up (va_up F 20 (f)) 21 (fl)) 22 (fr)) Ar kp pl (PW ++ [(w, .inr (15, [.ref (ad 99), .int (iZ (x1 : Int)), .ref (ad 99)]))])) H locs → lv_has ls 4 [(0, .ref (w)), (1, .int (iZ ((l : Int))))] → W pg lau ev (zRm 4 0 0 96) s1 mi ar bl me cd H locs 0 0 Q (F0 mi 2 ls []) := by
    intro N_
    induction N_ with
    | zero => intro l f fl fr H locs ls hd; exact absurd hd (Nat.not_lt_zero _)
    | succ N_ ih2 =>
      intro l f fl fr H locs ls hd2 i2_1 iw hH hl
      have hwb := WK_b iw
      refine z_iload_n hC 2 hl dX14_goes_2 rfl 1 rfl ?_
      refine z_aload_n hC 3 hl dX14_goes_3 rfl 0 rfl ?_
      refine zp_get (v := .ref (ad 99)) hC (dW_xP hH.1) 4 in_X17 rfl 0 (by decide) q1188 0 rfl (rfl) dX14_goes_4 ?_
      refine zp_getN (v := .ref (ad 200)) hC (va_P_l hH.1) 7 in_X1 rfl 4 (by decide) q213 0 rfl (rfl) dX14_goes_7 ?_
      refine zp_getN (v := .int (iZ ((n : Int)))) hC (va_P_l hH.1) 10 in_X2 rfl 2 (by decide) q148 11 rfl (by rw [← hFn]; rfl) dX14_goes_10 ?_
      refine z_icmp_ge hC 13 109 dX14_goes_13 rfl (by omega) (by omega) (fun hb1 => ?_) (fun hb1 => ?_)
      · -- 13t
        refine z_aload_n hC 109 hl dX14_goes_109 rfl 0 rfl ?_
        -- R110.1
        exact z_aret hC hH hQ 110 ((f, fl, fr)) dX14_goes_110 rfl (by (try dsimp only); (rw [show l = n by omega] at iw; exact iw)) rfl (Nat.le_refl _) (Nat.le_refl _)
      · -- 13f
        have hvl := hv l (by omega)
        refine z_aload_n hC 16 hl dX14_goes_16 rfl 0 rfl ?_
        refine zp_get (v := .ref (ad 99)) hC (dW_xP hH.1) 17 in_X17 rfl 0 (by decide) q1188 0 rfl (rfl) dX14_goes_17 ?_
        refine zp_getN (v := .ref (ad 200)) hC (va_P_l hH.1) 20 in_X1 rfl 4 (by decide) q213 0 rfl (rfl) dX14_goes_20 ?_
        refine zp_getN (v := .ref (ad 201)) hC (va_P_l hH.1) 23 in_X2 rfl 0 (by decide) q140 11 rfl (rfl) dX14_goes_23 ?_
        refine z_iload_n hC 26 hl dX14_goes_26 rfl 1 rfl ?_
        refine zp_iald (f := (Ar 201)) (x := ((v (l) : Nat) : Int)) hC (va_P_l hH.1) 27 12 (l) rfl (by decide) (by omega) (by omega) (hAv (l) (by omega)) dX14_goes_27 ?_
        refine z_istore_n (lv' := [(2, .int (iZ (((v (l) : Nat) : Int)))), (0, .ref (w)), (1, .int (iZ ((l : Int))))]) hC 28 hl dX14_goes_28 rfl (by decide) rfl (fun ls hl => ?_)
        refine z_iload_n hC 29 hl dX14_goes_29 rfl 2 rfl ?_
        refine z_istore_n (lv' := [(3, .int (iZ ((l : Int)))), (2, .int (iZ (((v (l) : Nat) : Int)))), (0, .ref (w)), (1, .int (iZ ((l : Int))))]) hC 30 hl dX14_goes_30 rfl (by decide) rfl (fun ls hl => ?_)
        have L31 : ∀ (N_ : Nat) (r : Nat) (be : Nat) (g : Int) (gL : Int) (gR : Int) (H : Heap) (locs : List Loc) (ls : Array Slot), n - r < N_ → (l ≤ r) → (r ≤ n) → (be = wkB v t l r) → (WK (fun l r => r + 1 - l < 2 * cnt v l (r + 1) x1) n l r g gL gR) → zH s0 s1 G as0 (dW ad G (va_up (va_up (va_up F 20 (g)) 21 (gL)) 22 (gR)) Ar kp pl (PW ++ [(w, .inr (15, [.ref (ad 99), .int (iZ (x1 : Int)), .ref (ad 99)]))])) H locs → lv_has ls 4 [(0, .ref (w)), (1, .int (iZ ((l : Int)))), (2, .int (iZ ((be : Int)))), (3, .int (iZ ((r : Int))))] → W pg lau ev (zRm 4 0 0 96) s1 mi ar bl me cd H locs 0 0 Q (F0 mi 31 ls []) := by
          intro N_
          induction N_ with
          | zero => intro r be g gL gR H locs ls hd; exact absurd hd (Nat.not_lt_zero _)
          | succ N_ ih31 =>
            intro r be g gL gR H locs ls hd31 i31_1 i31_2 ibe iv hH hl
            have hwb2 := WK_b iv
            refine z_iload_n hC 31 hl dX14_goes_31 rfl 3 rfl ?_
            refine z_aload_n hC 32 hl dX14_goes_32 rfl 0 rfl ?_
            refine zp_get (v := .ref (ad 99)) hC (dW_xP hH.1) 33 in_X17 rfl 0 (by decide) q1188 0 rfl (rfl) dX14_goes_33 ?_
            refine zp_getN (v := .ref (ad 200)) hC (va_P_l hH.1) 36 in_X1 rfl 4 (by decide) q213 0 rfl (rfl) dX14_goes_36 ?_
            refine zp_getN (v := .int (iZ ((n : Int)))) hC (va_P_l hH.1) 39 in_X2 rfl 2 (by decide) q148 11 rfl (by rw [← hFn]; rfl) dX14_goes_39 ?_
            refine z_icmp_ge hC 42 103 dX14_goes_42 rfl (by omega) (by omega) (fun hb2 => ?_) (fun hb2 => ?_)
            · -- 42t
              refine z_iinc (lv' := [(1, .int (iZ ((l : Int) + 1))), (0, .ref (w)), (2, .int (iZ ((be : Int)))), (3, .int (iZ ((r : Int))))]) hC 103 hl dX14_goes_103 1 rfl (by omega) (by decide) rfl (fun ls hl => ?_)
              refine z_goto hC 106 2 dX14_goes_106 rfl ?_
              -- J2.2
              exact ih2 (l + 1) g gL gR _ _ _ (by omega) (by first | assumption | omega) (by first | exact WK_0 | exact WK_next iv (by omega)) hH (z_lv (lv_sub hl [1, 0] rfl) (zcons rfl (zcons (zpeq (by omega)) rfl)))
            · -- 42f
              have hvr := hv r (by omega)
              have hvl := hv l (by omega)
              have hbe := wkB_lt (t := t) (r := r) hvl
              have hbp := wkB_p (t := t) (fun i hi => hv i (by omega)) (show l ≤ r by omega)
              refine z_aload_n hC 45 hl dX14_goes_45 rfl 0 rfl ?_
              refine zp_get (v := .ref (ad 99)) hC (dW_xP hH.1) 46 in_X17 rfl 0 (by decide) q1188 0 rfl (rfl) dX14_goes_46 ?_
              refine z_aload_n hC 49 hl dX14_goes_49 rfl 0 rfl ?_
              refine zp_get (v := .ref (ad 99)) hC (dW_xP hH.1) 50 in_X17 rfl 0 (by decide) q1188 0 rfl (rfl) dX14_goes_50 ?_
              refine zp_getN (v := .ref (ad 200)) hC (va_P_l hH.1) 53 in_X1 rfl 4 (by decide) q213 0 rfl (rfl) dX14_goes_53 ?_
              refine zp_getN (v := .ref (ad 201)) hC (va_P_l hH.1) 56 in_X2 rfl 0 (by decide) q140 11 rfl (rfl) dX14_goes_56 ?_
              refine z_iload_n hC 59 hl dX14_goes_59 rfl 3 rfl ?_
              refine zp_iald (f := (Ar 201)) (x := ((v (r) : Nat) : Int)) hC (va_P_l hH.1) 60 12 (r) rfl (by decide) (by omega) (by omega) (hAv (r) (by omega)) dX14_goes_60 ?_
              refine z_iload_n hC 61 hl dX14_goes_61 rfl 2 rfl ?_
              refine z_iload_n hC 62 hl dX14_goes_62 rfl 1 rfl ?_
              refine z_iload_n hC 63 hl dX14_goes_63 rfl 3 rfl ?_
              refine z_aload_n hC 64 hl dX14_goes_64 rfl 0 rfl ?_
              refine zp_get (v := .ref (ad 99)) hC (dW_xP hH.1) 65 in_X17 rfl 0 (by decide) q1188 0 rfl (rfl) dX14_goes_65 ?_
              refine zp_getN (v := .int (iZ ((t : Int)))) hC (va_P_l hH.1) 68 in_X1 rfl 8 (by decide) q217 0 rfl (by rw [← hFt]; rfl) dX14_goes_68 ?_
              refine z_st (st' := [.int (iZ ((t : Int))), .int (iZ (((r + 1 : Nat) : Int) - 1)), .int (iZ ((l : Int))), .int (iZ ((be : Int))), .int (iZ (((v (r) : Nat) : Int))), .ref (ad 99)]) (zcons rfl (zcons (zieq (by omega)) (zcons rfl (zcons rfl (zcons rfl rfl))))) ?_
              refine zp_back (zp_runVN hC (hH.2.2) hl.1 (dP_of hH hpp) 5 (As := [.int (iZ (((v (r) : Nat) : Int))), .int (iZ ((be : Int))), .int (iZ ((l : Int))), .int (iZ (((r + 1 : Nat) : Int) - 1)), .int (iZ ((t : Int)))]) (rest := []) (u_X1_isAhead lau s0 G ad (va_up (va_up (va_up F 20 (g)) 21 (gL)) 22 (gR)) Ar kp pl pr pa pm pf n v (v (r)) be l (r + 1) t nw (by first | exact hn | assumption | omega) (by first | exact hv | assumption | omega) (by first | exact hpl | assumption | omega) (by first | exact hnw | assumption | omega) (by first | exact hpc | assumption | omega) (by omega) (by first | exact hrn | assumption | omega) (by first | assumption | omega) (by first | assumption | omega) (by exact cnt_in (by omega) (by omega)) (by (rw [ibe]; exact hbp)) (by first | exact ht | assumption | omega)) (lw_meth q735) q1202 ⟨q734, qs16, q89⟩ ⟨by decide, by decide, by decide +kernel⟩ (q0 := 0) (ci := 1) rfl rfl rfl rfl (Nat.le_of_ble_eq_true rfl) ⟨Nat.le_of_ble_eq_true rfl, Nat.le_of_ble_eq_true rfl⟩ ⟨by first | decide | omega, by first | decide | omega⟩ dX14_goes_71) (fun r_71 hpost => ?_)
              have hb_71 : (r_71 = 1 ∧ (ahd v l (r + 1) t (v (r)) be)) ∨ (r_71 = 0 ∧ ¬ (ahd v l (r + 1) t (v (r)) be)) := hpost
              refine z_st (st' := [.int (iZ (r_71))]) rfl ?_
              rcases hb_71 with ⟨rfl, hb_71⟩ | ⟨rfl, hb_71⟩
              · -- 71=1
                refine z_if_eq_f hC 74 90 dX14_goes_74 rfl (by omega) (by omega) ?_
                refine z_aload_n hC 77 hl dX14_goes_77 rfl 0 rfl ?_
                refine zp_get (v := .ref (ad 99)) hC (dW_xP hH.1) 78 in_X17 rfl 0 (by decide) q1188 0 rfl (rfl) dX14_goes_78 ?_
                refine zp_getN (v := .ref (ad 200)) hC (va_P_l hH.1) 81 in_X1 rfl 4 (by decide) q213 0 rfl (rfl) dX14_goes_81 ?_
                refine zp_getN (v := .ref (ad 201)) hC (va_P_l hH.1) 84 in_X2 rfl 0 (by decide) q140 11 rfl (rfl) dX14_goes_84 ?_
                refine z_iload_n hC 87 hl dX14_goes_87 rfl 3 rfl ?_
                refine zp_iald (f := (Ar 201)) (x := ((v (r) : Nat) : Int)) hC (va_P_l hH.1) 88 12 (r) rfl (by decide) (by omega) (by omega) (hAv (r) (by omega)) dX14_goes_88 ?_
                refine z_istore_n (lv' := [(2, .int (iZ (((v (r) : Nat) : Int)))), (0, .ref (w)), (1, .int (iZ ((l : Int)))), (3, .int (iZ ((r : Int))))]) hC 89 hl dX14_goes_89 rfl (by decide) rfl (fun ls hl => ?_)
                have hmd9 : ((v (r))) = wkB v t l (r + 1) := by first | (exact wkB_t (fun i hi => hv i (by omega)) (by omega) (by rw [← ibe]; exact hb_71)) | (rw [ibe]; exact wkB_f (fun i hi => hv i (by omega)) (by omega) (by rw [← ibe]; exact hb_71))
                have hmd8 := wkB_s (v := v) (t := t) (show l ≤ r by omega)
                have hmd7 := md_lt_1000 v l (r + 1) t
                refine z_aload_n hC 90 hl dX14_goes_90 rfl 1 rfl ?_
                refine z_iload_n hC 91 hl dX14_goes_91 rfl 2 rfl ?_
                refine z_iload_n hC 92 hl dX14_goes_92 rfl 3 rfl ?_
                refine z_iload_n hC 93 hl dX14_goes_93 rfl 0 rfl ?_
                refine z_same (z_runA (owner := "ModeDesk$Walk") hC hH.2.2 hl.1 hH.1 hH.2.1 3 (As := [.int (iZ ((l : Int))), .int (iZ ((r : Int))), .int (iZ (((v (r) : Nat) : Int)))]) (rest := []) (m_X17_meets lau s0 G _ ad (va_up (va_up (va_up F 20 (g)) 21 (gL)) 22 (gR)) Ar kp pl PW n v pr pa pm pf nw x1 w l r (v (r)) g gL gR (by first | exact hn | assumption | omega) (by first | exact hFn | assumption | omega) (by first | exact hv | assumption | omega) (by first | exact hAv | assumption | omega) (by first | exact hpl | assumption | omega) (by first | exact hnw | assumption | omega) (by first | exact hpc | assumption | omega) (by first | exact hpp | assumption | omega) (by first | exact hlr | assumption | omega) (by first | exact hrn | assumption | omega) (by first | assumption | omega) (by first | assumption | omega) (by first | assumption | omega)) (lw_U q1203 q1205 q1212 q1213 q124 q1214) q1204 ⟨by decide, by decide, by decide +kernel⟩ (q0 := 60 + PW.length) (ci := 15) dW_x rfl rfl rfl (Nat.le_of_ble_eq_true rfl) ⟨Nat.le_of_ble_eq_true rfl, Nat.le_of_ble_eq_true rfl⟩ ⟨Nat.le_of_ble_eq_true rfl, Nat.le_of_ble_eq_true rfl⟩ dX14_goes_94) hH (fun u_ H locs hpost hH => ?_)
                obtain ⟨f2_94, fl2_94, fr2_94⟩ := u_
                have pw_94 : WMT ((v (r)) = x1 ∧ g < (r : Int) - l + 1 ∧ r + 1 - l < 2 * cnt v l (r + 1) x1) l r g gL gR f2_94 fl2_94 fr2_94 := hpost
                have hH : zH s0 s1 G as0 (dW ad G (va_up (va_up (va_up F 20 (f2_94)) 21 (fl2_94)) 22 (fr2_94)) Ar kp pl (PW ++ [(w, .inr (15, [.ref (ad 99), .int (iZ (x1 : Int)), .ref (ad 99)]))])) H locs := hH
                refine z_st (st' := []) rfl ?_
                refine z_iinc (lv' := [(3, .int (iZ ((r : Int) + 1))), (2, .int (iZ (((v (r) : Nat) : Int)))), (0, .ref (w)), (1, .int (iZ ((l : Int))))]) hC 97 hl dX14_goes_97 3 rfl (by omega) (by decide) rfl (fun ls hl => ?_)
                refine z_goto hC 100 31 dX14_goes_100 rfl ?_
                -- J31.3
                exact ih31 (r + 1) (v (r)) f2_94 fl2_94 fr2_94 _ _ _ (by omega) (by first | assumption | omega) (by first | assumption | omega) (by first | exact wkB_0.symm | exact hmd9) (by first | exact WK_row iw | exact WK_s iv (by omega) (by omega) pw_94 ⟨fun q => ⟨q.2.2, q.2.1⟩, fun q => ⟨by rw [hmd9, hmd8]; exact maj_mode (fun i hi => hv i (by omega)) (by omega) q.1, q.2, q.1⟩⟩) hH (z_lv (lv_sub hl [2, 3, 1, 0] rfl) (zcons rfl (zcons rfl (zcons rfl (zcons (zpeq (by omega)) rfl)))))
              · -- 71=0
                refine z_if_eq_t hC 74 90 dX14_goes_74 rfl (by omega) (by omega) ?_
                have hmd9 : (be) = wkB v t l (r + 1) := by first | (exact wkB_t (fun i hi => hv i (by omega)) (by omega) (by rw [← ibe]; exact hb_71)) | (rw [ibe]; exact wkB_f (fun i hi => hv i (by omega)) (by omega) (by rw [← ibe]; exact hb_71))
                have hmd8 := wkB_s (v := v) (t := t) (show l ≤ r by omega)
                have hmd7 := md_lt_1000 v l (r + 1) t
                refine z_aload_n hC 90 hl dX14_goes_90 rfl 0 rfl ?_
                refine z_iload_n hC 91 hl dX14_goes_91 rfl 1 rfl ?_
                refine z_iload_n hC 92 hl dX14_goes_92 rfl 3 rfl ?_
                refine z_iload_n hC 93 hl dX14_goes_93 rfl 2 rfl ?_
                refine z_same (z_runA (owner := "ModeDesk$Walk") hC hH.2.2 hl.1 hH.1 hH.2.1 3 (As := [.int (iZ ((l : Int))), .int (iZ ((r : Int))), .int (iZ ((be : Int)))]) (rest := []) (m_X17_meets lau s0 G _ ad (va_up (va_up (va_up F 20 (g)) 21 (gL)) 22 (gR)) Ar kp pl PW n v pr pa pm pf nw x1 w l r be g gL gR (by first | exact hn | assumption | omega) (by first | exact hFn | assumption | omega) (by first | exact hv | assumption | omega) (by first | exact hAv | assumption | omega) (by first | exact hpl | assumption | omega) (by first | exact hnw | assumption | omega) (by first | exact hpc | assumption | omega) (by first | exact hpp | assumption | omega) (by first | exact hlr | assumption | omega) (by first | exact hrn | assumption | omega) (by first | assumption | omega) (by first | assumption | omega) (by first | assumption | omega)) (lw_U q1203 q1205 q1212 q1213 q124 q1214) q1204 ⟨by decide, by decide, by decide +kernel⟩ (q0 := 60 + PW.length) (ci := 15) dW_x rfl rfl rfl (Nat.le_of_ble_eq_true rfl) ⟨Nat.le_of_ble_eq_true rfl, Nat.le_of_ble_eq_true rfl⟩ ⟨Nat.le_of_ble_eq_true rfl, Nat.le_of_ble_eq_true rfl⟩ dX14_goes_94) hH (fun u_ H locs hpost hH => ?_)
                obtain ⟨f2_3, fl2_4, fr2_5⟩ := u_
                have pw_94 : WMT (be = x1 ∧ g < (r : Int) - l + 1 ∧ r + 1 - l < 2 * cnt v l (r + 1) x1) l r g gL gR f2_3 fl2_4 fr2_5 := hpost
                have hH : zH s0 s1 G as0 (dW ad G (va_up (va_up (va_up F 20 (f2_3)) 21 (fl2_4)) 22 (fr2_5)) Ar kp pl (PW ++ [(w, .inr (15, [.ref (ad 99), .int (iZ (x1 : Int)), .ref (ad 99)]))])) H locs := hH
                refine z_st (st' := []) rfl ?_
                refine z_iinc (lv' := [(3, .int (iZ ((r : Int) + 1))), (0, .ref (w)), (1, .int (iZ ((l : Int)))), (2, .int (iZ ((be : Int))))]) hC 97 hl dX14_goes_97 3 rfl (by omega) (by decide) rfl (fun ls hl => ?_)
                refine z_goto hC 100 31 dX14_goes_100 rfl ?_
                -- J31.4
                exact ih31 (r + 1) be f2_3 fl2_4 fr2_5 _ _ _ (by omega) (by first | assumption | omega) (by first | assumption | omega) (by first | exact wkB_0.symm | exact hmd9) (by first | exact WK_row iw | exact WK_s iv (by omega) (by omega) pw_94 ⟨fun q => ⟨q.2.2, q.2.1⟩, fun q => ⟨by rw [hmd9, hmd8]; exact maj_mode (fun i hi => hv i (by omega)) (by omega) q.1, q.2, q.1⟩⟩) hH (z_lv (lv_sub hl [1, 2, 3, 0] rfl) (zcons rfl (zcons rfl (zcons rfl (zcons (zpeq (by omega)) rfl)))))
        -- J31.5
        exact L31 _ l (v (l)) f fl fr _ _ _ (Nat.lt_succ_self _) (by first | assumption | omega) (by first | assumption | omega) (by first | exact wkB_0.symm | exact hmd9) (by first | exact WK_row iw | exact WK_s iv (by omega) (by omega) pw_94 ⟨fun q => ⟨q.2.2, q.2.1⟩, fun q => ⟨by rw [hmd9, hmd8]; exact maj_mode (fun i hi => hv i (by omega)) (by omega) q.1, q.2, q.1⟩⟩) hH (lv_sub hl [2, 3, 1, 0] rfl)
  -- J2.6
  exact L2 _ 0 0 gl gr _ _ _ (Nat.lt_succ_self _) (by first | assumption | omega) (by first | exact WK_0 | exact WK_next iv (by omega)) hH (z_lv (lv_sub hl [1, 0] rfl) (zcons rfl (zcons (zpeq (by omega)) rfl)))
