/-! methods of ModeDeskModel: 16.mf -/
set_option maxHeartbeats 4000000 in
set_option maxRecDepth 100000 in
theorem m_X7_nextTo (lau : Launch) (s0 : State) (G : zG) (sz : Nat) (ad : Nat → Nat) (F : Nat → Int) (Ar : Nat → Nat → Int) (n : Nat) (v : Nat → Nat) (gv : Nat → Int) (p : Nat) (d : Int) (hn : n ≤ 120) (hv : ∀ i, i < n → v i < 1000) (hp : p < n) (hd : d = 1 ∨ d = -1) : zMet (S := Int) lau yX7_nextTo cX7_nextTo 4 (some .int) 1 21 0 0 s0 G sz [.ref (ad 0), .int (iZ ((p : Int))), .int (iZ (d))] (mW ad G (va_up F 5 ((n : Int))) (va_up Ar 3 (cI (n) v gv))) (fun (r : Int) => some (.int (iZ (r)))) (fun (r : Int) => (r = nxR v n (p + 1) p (v p) d)) (fun (r : Int) => (mW ad G (va_up F 5 ((n : Int))) (va_up Ar 3 (cI (n) v gv)))) := by
  refine zMet.of (by decide) (Nat.le_of_ble_eq_true rfl) ?_
  intro pg ev s1 mi ar bl me cd ls Q as0 hC hH hl hQ hsz
  generalize s1.heap = H at hH ⊢
  generalize ([] : List Loc) = locs at hH ⊢
  have hl : lv_has ls 4 [(0, .ref (ad 0)), (1, .int (iZ ((p : Int)))), (2, .int (iZ (d)))] := hl
  refine z_iload_n hC 0 hl dX7_nextTo_0 rfl 1 rfl ?_
  refine z_iload_n hC 1 hl dX7_nextTo_1 rfl 2 rfl ?_
  refine z_iadd (e := (p : Int) + d) hC 2 dX7_nextTo_2 rfl ?_
  refine z_istore_n (lv' := [(3, .int (iZ ((p : Int) + d))), (0, .ref (ad 0)), (1, .int (iZ ((p : Int)))), (2, .int (iZ (d)))]) hC 3 hl dX7_nextTo_3 rfl (by decide) rfl (fun ls hl => ?_)
  have L4 : ∀ (N_ : Nat) (q : Int) (H : Heap) (locs : List Loc) (ls : Array Slot), nxm n d q < N_ → (NXI v n (p + 1) p (v p) d q) → zH s0 s1 G as0 (mW ad G (va_up F 5 ((n : Int))) (va_up Ar 3 (cI (n) v gv))) H locs → lv_has ls 4 [(0, .ref (ad 0)), (1, .int (iZ ((p : Int)))), (2, .int (iZ (d))), (3, .int (iZ (q)))] → W pg lau ev (zRm 1 0 0 21) s1 mi ar bl me cd H locs 0 0 Q (F0 mi 4 ls []) := by
    intro N_
    induction N_ with
    | zero => intro q H locs ls hd; exact absurd hd (Nat.not_lt_zero _)
    | succ N_ ih4 =>
      intro q H locs ls hd4 iq hH hl
      have hqb := NXI_b iq (by omega)
      refine z_aload_n hC 4 hl dX7_nextTo_4 rfl 0 rfl ?_
      refine z_iload_n hC 5 hl dX7_nextTo_5 rfl 3 rfl ?_
      refine z_same (z_runV hC hH.2.2 hl.1 hH.1 hH.2.1 1 (As := [.int (iZ (q))]) (rest := []) (m_X7_isPlace lau s0 G _ ad (va_up F 5 ((n : Int))) (va_up Ar 3 (cI (n) v gv)) n q (by first | assumption | omega) (by first | assumption | omega)) (lw_V q1641 q1643 qs57 q95 q1644) ⟨rfl, by decide, by decide, by decide +kernel⟩ (q0 := 0) (ci := 0) rfl rfl rfl rfl (Nat.le_of_ble_eq_true rfl) ⟨Nat.le_of_ble_eq_true rfl, Nat.le_of_ble_eq_true rfl⟩ ⟨Nat.le_of_ble_eq_true rfl, Nat.le_of_ble_eq_true rfl⟩ dX7_nextTo_6) hH (fun r_6 H locs hpost hH => ?_)
      have hb_6 : (r_6 = 1 ∧ (0 ≤ q ∧ q < (n : Int))) ∨ (r_6 = 0 ∧ ¬ (0 ≤ q ∧ q < (n : Int))) := hpost
      have hH : zH s0 s1 G as0 (mW ad G (va_up F 5 ((n : Int))) (va_up Ar 3 (cI (n) v gv))) H locs := hH
      refine z_st (st' := [.int (iZ (r_6))]) rfl ?_
      rcases hb_6 with ⟨rfl, hb_6⟩ | ⟨rfl, hb_6⟩
      · -- 6=1
        refine z_if_eq_f hC 9 34 dX7_nextTo_9 rfl (by omega) (by omega) ?_
        obtain ⟨q1, rfl⟩ := Int.eq_ofNat_of_zero_le (show 0 ≤ q by omega)
        have hvp := hv p hp
        have hvq := hv q1 (by omega)
        refine z_aload_n hC 12 hl dX7_nextTo_12 rfl 0 rfl ?_
        refine gmW_3 hC hH 13 dX7_nextTo_13 ?_
        refine z_iload_n hC 16 hl dX7_nextTo_16 rfl 3 rfl ?_
        refine lmW_3 (x := ((v q1 : Nat) : Int)) hC hH 17 (q1) (by omega) (by omega) (cI_lt (by omega)) dX7_nextTo_17 ?_
        refine z_aload_n hC 18 hl dX7_nextTo_18 rfl 0 rfl ?_
        refine gmW_3 hC hH 19 dX7_nextTo_19 ?_
        refine z_iload_n hC 22 hl dX7_nextTo_22 rfl 1 rfl ?_
        refine lmW_3 (x := ((v p : Nat) : Int)) hC hH 23 (p) (by omega) (by omega) (cI_lt (by omega)) dX7_nextTo_23 ?_
        refine z_icmp_eq hC 24 34 dX7_nextTo_24 rfl (by omega) (by omega) (fun hb1 => ?_) (fun hb1 => ?_)
        · -- 24t
          refine z_aload_n hC 34 hl dX7_nextTo_34 rfl 0 rfl ?_
          refine z_iload_n hC 35 hl dX7_nextTo_35 rfl 3 rfl ?_
          refine z_same (z_runV hC hH.2.2 hl.1 hH.1 hH.2.1 1 (As := [.int (iZ ((q1 : Int)))]) (rest := []) (m_X7_isPlace lau s0 G _ ad (va_up F 5 ((n : Int))) (va_up Ar 3 (cI (n) v gv)) n (q1 : Int) (by first | assumption | omega) (by first | assumption | omega)) (lw_V q1641 q1643 qs57 q95 q1644) ⟨rfl, by decide, by decide, by decide +kernel⟩ (q0 := 0) (ci := 0) rfl rfl rfl rfl (Nat.le_of_ble_eq_true rfl) ⟨Nat.le_of_ble_eq_true rfl, Nat.le_of_ble_eq_true rfl⟩ ⟨Nat.le_of_ble_eq_true rfl, Nat.le_of_ble_eq_true rfl⟩ dX7_nextTo_36) hH (fun r_36 H locs hpost hH => ?_)
          have hb_36 : (r_36 = 1 ∧ (0 ≤ (q1 : Int) ∧ (q1 : Int) < (n : Int))) ∨ (r_36 = 0 ∧ ¬ (0 ≤ (q1 : Int) ∧ (q1 : Int) < (n : Int))) := hpost
          have hH : zH s0 s1 G as0 (mW ad G (va_up F 5 ((n : Int))) (va_up Ar 3 (cI (n) v gv))) H locs := hH
          refine z_st (st' := [.int (iZ (r_36))]) rfl ?_
          rcases hb_36 with ⟨rfl, hb_36⟩ | ⟨rfl, hb_36⟩
          · -- 36=1
            refine z_if_eq_f hC 39 46 dX7_nextTo_39 rfl (by omega) (by omega) ?_
            refine z_iload_n hC 42 hl dX7_nextTo_42 rfl 3 rfl ?_
            refine z_goto hC 43 48 dX7_nextTo_43 rfl ?_
            -- R48.1
            exact z_iret hC hH hQ 48 ((q1 : Int)) dX7_nextTo_48 rfl (by first | exact NXI_hit iq (by omega) (by omega) (by omega) | exact NXI_none iq (by omega) (by omega) | (exfalso; omega)) rfl (Nat.le_refl _) (Nat.le_refl _)
          · -- 36=0
            refine z_if_eq_t hC 39 46 dX7_nextTo_39 rfl (by omega) (by omega) ?_
            refine z_bipush hC 46 dX7_nextTo_46 rfl ?_
            -- R48.2
            exact z_iret hC hH hQ 48 ((-2)) dX7_nextTo_48 rfl (by first | exact NXI_hit iq (by omega) (by omega) (by omega) | exact NXI_none iq (by omega) (by omega) | (exfalso; omega)) rfl (Nat.le_refl _) (Nat.le_refl _)
        · -- 24f
          refine z_iload_n hC 27 hl dX7_nextTo_27 rfl 3 rfl ?_
          refine z_iload_n hC 28 hl dX7_nextTo_28 rfl 2 rfl ?_
          refine z_iadd (e := (q1 : Int) + d) hC 29 dX7_nextTo_29 rfl ?_
          refine z_istore_n (lv' := [(3, .int (iZ ((q1 : Int) + d))), (0, .ref (ad 0)), (1, .int (iZ ((p : Int)))), (2, .int (iZ (d)))]) hC 30 hl dX7_nextTo_30 rfl (by decide) rfl (fun ls hl => ?_)
          refine z_goto hC 31 4 dX7_nextTo_31 rfl ?_
          -- J4.3
          exact ih4 ((q1 : Int) + d) _ _ _ (by have := nxm_step hd (show (0 : Int) ≤ q1 by omega) (show (q1 : Int) < n by omega); omega) (by first | exact NXI_n0 hp hd | exact NXI_step iq (by omega) (by omega)) hH (z_lv (lv_sub hl [1, 2, 3, 0] rfl) (zcons rfl (zcons rfl (zcons rfl (zcons (zpeq (by omega)) rfl)))))
      · -- 6=0
        refine z_if_eq_t hC 9 34 dX7_nextTo_9 rfl (by omega) (by omega) ?_
        refine z_aload_n hC 34 hl dX7_nextTo_34 rfl 0 rfl ?_
        refine z_iload_n hC 35 hl dX7_nextTo_35 rfl 3 rfl ?_
        refine z_same (z_runV hC hH.2.2 hl.1 hH.1 hH.2.1 1 (As := [.int (iZ (q))]) (rest := []) (m_X7_isPlace lau s0 G _ ad (va_up F 5 ((n : Int))) (va_up Ar 3 (cI (n) v gv)) n q (by first | assumption | omega) (by first | assumption | omega)) (lw_V q1641 q1643 qs57 q95 q1644) ⟨rfl, by decide, by decide, by decide +kernel⟩ (q0 := 0) (ci := 0) rfl rfl rfl rfl (Nat.le_of_ble_eq_true rfl) ⟨Nat.le_of_ble_eq_true rfl, Nat.le_of_ble_eq_true rfl⟩ ⟨Nat.le_of_ble_eq_true rfl, Nat.le_of_ble_eq_true rfl⟩ dX7_nextTo_36) hH (fun r_2 H locs hpost hH => ?_)
        have hb_36 : (r_2 = 1 ∧ (0 ≤ q ∧ q < (n : Int))) ∨ (r_2 = 0 ∧ ¬ (0 ≤ q ∧ q < (n : Int))) := hpost
        have hH : zH s0 s1 G as0 (mW ad G (va_up F 5 ((n : Int))) (va_up Ar 3 (cI (n) v gv))) H locs := hH
        refine z_st (st' := [.int (iZ (r_2))]) rfl ?_
        rcases hb_36 with ⟨rfl, hb_36⟩ | ⟨rfl, hb_36⟩
        · -- 36=1
          refine z_if_eq_f hC 39 46 dX7_nextTo_39 rfl (by omega) (by omega) ?_
          refine z_iload_n hC 42 hl dX7_nextTo_42 rfl 3 rfl ?_
          refine z_goto hC 43 48 dX7_nextTo_43 rfl ?_
          -- R48.4
          exact z_iret hC hH hQ 48 (q) dX7_nextTo_48 rfl (by first | exact NXI_hit iq (by omega) (by omega) (by omega) | exact NXI_none iq (by omega) (by omega) | (exfalso; omega)) rfl (Nat.le_refl _) (Nat.le_refl _)
        · -- 36=0
          refine z_if_eq_t hC 39 46 dX7_nextTo_39 rfl (by omega) (by omega) ?_
          refine z_bipush hC 46 dX7_nextTo_46 rfl ?_
          -- R48.5
          exact z_iret hC hH hQ 48 ((-2)) dX7_nextTo_48 rfl (by first | exact NXI_hit iq (by omega) (by omega) (by omega) | exact NXI_none iq (by omega) (by omega) | (exfalso; omega)) rfl (Nat.le_refl _) (Nat.le_refl _)
  -- J4.6
  exact L4 _ ((p : Int) + d) _ _ _ (Nat.lt_succ_self _) (by first | exact NXI_n0 hp hd | exact NXI_step iq (by omega) (by omega)) hH (z_lv (lv_sub hl [1, 2, 3, 0] rfl) (zcons rfl (zcons rfl (zcons rfl (zcons (zpeq (by omega)) rfl)))))

set_option maxHeartbeats 4000000 in
set_option maxRecDepth 100000 in
theorem m_X7_follow (lau : Launch) (s0 : State) (G : zG) (sz : Nat) (ad : Nat → Nat) (F : Nat → Int) (Ar : Nat → Nat → Int) (n : Nat) (v : Nat → Nat) (gv : Nat → Int) (t : Nat) (x : Int) (p : Int) (bk : Int) (hn : n ≤ 120) (hv : ∀ i, i < n → v i < 1000) (ht : t < 4) (hr_x : -2147483648 ≤ x ∧ x < 2147483648) (hr_p : -2147483648 ≤ p ∧ p < 2147483648) (hr_bk : -2147483648 ≤ bk ∧ bk < 2147483648) : zMet (S := Int × (Nat → Int) × (Nat → Nat → Int)) lau yX7_follow cX7_follow 5 (some .int) 1 21 0 0 s0 G sz [.ref (ad 0), .int (iZ (x)), .int (iZ (p)), .int (iZ (bk))] (mW ad G (va_up (va_up F 5 ((n : Int))) 7 ((t : Int))) (va_up Ar 3 (cI (n) v gv))) (fun ((r_, F2, A2) : Int × (Nat → Int) × (Nat → Nat → Int)) => some (.int (iZ (r_)))) (fun ((r_, F2, A2) : Int × (Nat → Int) × (Nat → Nat → Int)) => (Sp_follow n v x p bk r_) ∧ (MK (va_up (va_up F 5 ((n : Int))) 7 ((t : Int))) (va_up Ar 3 (cI (n) v gv)) F2 A2)) (fun ((r_, F2, A2) : Int × (Nat → Int) × (Nat → Nat → Int)) => (mW ad G F2 A2)) := by
  refine zMet.of (by decide) (Nat.le_of_ble_eq_true rfl) ?_
  intro pg ev s1 mi ar bl me cd ls Q as0 hC hH hl hQ hsz
  generalize s1.heap = H at hH ⊢
  generalize ([] : List Loc) = locs at hH ⊢
  have hl : lv_has ls 5 [(0, .ref (ad 0)), (1, .int (iZ (x))), (2, .int (iZ (p))), (3, .int (iZ (bk)))] := hl
  refine z_aload_n hC 0 hl dX7_follow_0 rfl 0 rfl ?_
  refine z_iconst hC 1 dX7_follow_1 ?_
  refine pmW_0 hC hH 2 dX7_follow_2 (fun H locs hH => ?_)
  have hH : zH s0 s1 G as0 (mW ad G (va_up (va_up (va_up F 0 (0)) 5 ((n : Int))) 7 ((t : Int))) (va_up Ar 3 (cI (n) v gv))) H locs := hH
  refine z_iload_n hC 5 hl dX7_follow_5 rfl 1 rfl ?_
  refine z_same (z_runS hC hH.2.2 hl.1 hH.1 hH.2.1 1 (As := [.int (iZ (x))]) (rest := []) (m_X7_isValue lau s0 G _ ad (va_up (va_up (va_up F 0 (0)) 5 ((n : Int))) 7 ((t : Int))) (va_up Ar 3 (cI (n) v gv)) x (by first | assumption | omega)) (lw_S q1677 q1678 q95 q1679) ⟨by decide, by decide, by decide +kernel⟩ rfl rfl (Nat.le_of_ble_eq_true rfl) ⟨Nat.le_of_ble_eq_true rfl, Nat.le_of_ble_eq_true rfl⟩ ⟨Nat.le_of_ble_eq_true rfl, Nat.le_of_ble_eq_true rfl⟩ dX7_follow_6) hH (fun r_6 H locs hpost hH => ?_)
  have hb_6 : (r_6 = 1 ∧ (0 ≤ x ∧ x < 1000)) ∨ (r_6 = 0 ∧ ¬ (0 ≤ x ∧ x < 1000)) := hpost
  have hH : zH s0 s1 G as0 (mW ad G (va_up (va_up (va_up F 0 (0)) 5 ((n : Int))) 7 ((t : Int))) (va_up Ar 3 (cI (n) v gv))) H locs := hH
  refine z_st (st' := [.int (iZ (r_6))]) rfl ?_
  rcases hb_6 with ⟨rfl, hb_6⟩ | ⟨rfl, hb_6⟩
  · -- 6=1
    refine z_if_eq_f hC 9 20 dX7_follow_9 rfl (by omega) (by omega) ?_
    refine z_aload_n hC 12 hl dX7_follow_12 rfl 0 rfl ?_
    refine z_iload_n hC 13 hl dX7_follow_13 rfl 2 rfl ?_
    refine z_same (z_runV hC hH.2.2 hl.1 hH.1 hH.2.1 1 (As := [.int (iZ (p))]) (rest := []) (m_X7_isPlace lau s0 G _ ad (va_up (va_up (va_up F 0 (0)) 5 ((n : Int))) 7 ((t : Int))) (va_up Ar 3 (cI (n) v gv)) n p (by first | assumption | omega) (by first | assumption | omega)) (lw_V q1641 q1643 qs57 q95 q1644) ⟨rfl, by decide, by decide, by decide +kernel⟩ (q0 := 0) (ci := 0) rfl rfl rfl rfl (Nat.le_of_ble_eq_true rfl) ⟨Nat.le_of_ble_eq_true rfl, Nat.le_of_ble_eq_true rfl⟩ ⟨Nat.le_of_ble_eq_true rfl, Nat.le_of_ble_eq_true rfl⟩ dX7_follow_14) hH (fun r_14 H locs hpost hH => ?_)
    have hb_14 : (r_14 = 1 ∧ (0 ≤ p ∧ p < (n : Int))) ∨ (r_14 = 0 ∧ ¬ (0 ≤ p ∧ p < (n : Int))) := hpost
    have hH : zH s0 s1 G as0 (mW ad G (va_up (va_up (va_up F 0 (0)) 5 ((n : Int))) 7 ((t : Int))) (va_up Ar 3 (cI (n) v gv))) H locs := hH
    refine z_st (st' := [.int (iZ (r_14))]) rfl ?_
    rcases hb_14 with ⟨rfl, hb_14⟩ | ⟨rfl, hb_14⟩
    · -- 14=1
      refine z_if_ne_t hC 17 22 dX7_follow_17 rfl (by omega) (by omega) ?_
      obtain ⟨x1, rfl⟩ := Int.eq_ofNat_of_zero_le (show 0 ≤ x by omega)
      obtain ⟨p1, rfl⟩ := Int.eq_ofNat_of_zero_le (show 0 ≤ p by omega)
      refine z_iload_n hC 22 hl dX7_follow_22 rfl 2 rfl ?_
      refine z_istore (lv' := [(4, .int (iZ ((p1 : Int)))), (0, .ref (ad 0)), (1, .int (iZ ((x1 : Int)))), (2, .int (iZ ((p1 : Int)))), (3, .int (iZ (bk)))]) hC 23 hl dX7_follow_23 (by decide) rfl (fun ls hl => ?_)
      have L25 : ∀ (N_ : Nat) (q : Int) (H : Heap) (locs : List Loc) (ls : Array Slot), nxm n (if bk = 0 then 1 else -1) q < N_ → (NXI v n p1 (p1 + 1) x1 (if bk = 0 then 1 else -1) q) → zH s0 s1 G as0 (mW ad G (va_up (va_up (va_up F 0 (0)) 5 ((n : Int))) 7 ((t : Int))) (va_up Ar 3 (cI (n) v gv))) H locs → lv_has ls 5 [(0, .ref (ad 0)), (1, .int (iZ ((x1 : Int)))), (2, .int (iZ ((p1 : Int)))), (3, .int (iZ (bk))), (4, .int (iZ (q)))] → W pg lau ev (zRm 1 0 0 21) s1 mi ar bl me cd H locs 0 0 Q (F0 mi 25 ls []) := by
        intro N_
        induction N_ with
        | zero => intro q H locs ls hd; exact absurd hd (Nat.not_lt_zero _)
        | succ N_ ih25 =>
          intro q H locs ls hd25 iq hH hl
          have hqb := NXI_b iq (by omega)
          refine z_aload_n hC 25 hl dX7_follow_25 rfl 0 rfl ?_
          refine z_iload hC 26 hl dX7_follow_26 4 rfl ?_
          refine z_same (z_runV hC hH.2.2 hl.1 hH.1 hH.2.1 1 (As := [.int (iZ (q))]) (rest := []) (m_X7_isPlace lau s0 G _ ad (va_up (va_up (va_up F 0 (0)) 5 ((n : Int))) 7 ((t : Int))) (va_up Ar 3 (cI (n) v gv)) n q (by first | assumption | omega) (by first | assumption | omega)) (lw_V q1641 q1643 qs57 q95 q1644) ⟨rfl, by decide, by decide, by decide +kernel⟩ (q0 := 0) (ci := 0) rfl rfl rfl rfl (Nat.le_of_ble_eq_true rfl) ⟨Nat.le_of_ble_eq_true rfl, Nat.le_of_ble_eq_true rfl⟩ ⟨Nat.le_of_ble_eq_true rfl, Nat.le_of_ble_eq_true rfl⟩ dX7_follow_28) hH (fun r_28 H locs hpost hH => ?_)
          have hb_28 : (r_28 = 1 ∧ (0 ≤ q ∧ q < (n : Int))) ∨ (r_28 = 0 ∧ ¬ (0 ≤ q ∧ q < (n : Int))) := hpost
          have hH : zH s0 s1 G as0 (mW ad G (va_up (va_up (va_up F 0 (0)) 5 ((n : Int))) 7 ((t : Int))) (va_up Ar 3 (cI (n) v gv))) H locs := hH
          refine z_st (st' := [.int (iZ (r_28))]) rfl ?_
          rcases hb_28 with ⟨rfl, hb_28⟩ | ⟨rfl, hb_28⟩
          · -- 28=1
            refine z_if_eq_f hC 31 62 dX7_follow_31 rfl (by omega) (by omega) ?_
            obtain ⟨q1, rfl⟩ := Int.eq_ofNat_of_zero_le (show 0 ≤ q by omega)
            have hvq := hv q1 (by omega)
            refine z_aload_n hC 34 hl dX7_follow_34 rfl 0 rfl ?_
            refine gmW_3 hC hH 35 dX7_follow_35 ?_
            refine z_iload hC 38 hl dX7_follow_38 4 rfl ?_
            refine lmW_3 (x := ((v q1 : Nat) : Int)) hC hH 40 (q1) (by omega) (by omega) (cI_lt (by omega)) dX7_follow_40 ?_
            refine z_iload_n hC 41 hl dX7_follow_41 rfl 1 rfl ?_
            refine z_icmp_eq hC 42 62 dX7_follow_42 rfl (by omega) (by omega) (fun hb1 => ?_) (fun hb1 => ?_)
            · -- 42t
              refine z_aload_n hC 62 hl dX7_follow_62 rfl 0 rfl ?_
              refine z_iload hC 63 hl dX7_follow_63 4 rfl ?_
              refine z_same (z_runV hC hH.2.2 hl.1 hH.1 hH.2.1 1 (As := [.int (iZ ((q1 : Int)))]) (rest := []) (m_X7_isPlace lau s0 G _ ad (va_up (va_up (va_up F 0 (0)) 5 ((n : Int))) 7 ((t : Int))) (va_up Ar 3 (cI (n) v gv)) n (q1 : Int) (by first | assumption | omega) (by first | assumption | omega)) (lw_V q1641 q1643 qs57 q95 q1644) ⟨rfl, by decide, by decide, by decide +kernel⟩ (q0 := 0) (ci := 0) rfl rfl rfl rfl (Nat.le_of_ble_eq_true rfl) ⟨Nat.le_of_ble_eq_true rfl, Nat.le_of_ble_eq_true rfl⟩ ⟨Nat.le_of_ble_eq_true rfl, Nat.le_of_ble_eq_true rfl⟩ dX7_follow_65) hH (fun r_65 H locs hpost hH => ?_)
              have hb_65 : (r_65 = 1 ∧ (0 ≤ (q1 : Int) ∧ (q1 : Int) < (n : Int))) ∨ (r_65 = 0 ∧ ¬ (0 ≤ (q1 : Int) ∧ (q1 : Int) < (n : Int))) := hpost
              have hH : zH s0 s1 G as0 (mW ad G (va_up (va_up (va_up F 0 (0)) 5 ((n : Int))) 7 ((t : Int))) (va_up Ar 3 (cI (n) v gv))) H locs := hH
              refine z_st (st' := [.int (iZ (r_65))]) rfl ?_
              rcases hb_65 with ⟨rfl, hb_65⟩ | ⟨rfl, hb_65⟩
              · -- 65=1
                refine z_if_eq_f hC 68 76 dX7_follow_68 rfl (by omega) (by omega) ?_
                refine z_iload hC 71 hl dX7_follow_71 4 rfl ?_
                refine z_goto hC 73 78 dX7_follow_73 rfl ?_
                -- R78.1
                exact z_iret hC hH hQ 78 (((q1 : Int), (va_up (va_up (va_up F 0 (0)) 5 ((n : Int))) 7 ((t : Int))), (va_up Ar 3 (cI (n) v gv)))) dX7_follow_78 rfl ⟨by (unfold Sp_follow; rw [if_pos (by omega)]; simp only [Int.toNat_natCast, zt1]; rw [← nxR_bk]; first | exact NXI_hit iq (by omega) (by omega) (by omega) | exact NXI_none iq (by omega) (by omega) | (exfalso; omega)), by exact ⟨rfl, rfl, rfl, rfl, rfl, rfl, rfl, rfl, rfl, rfl, rfl, rfl, rfl, rfl, rfl, rfl⟩⟩ rfl (Nat.le_refl _) (Nat.le_refl _)
              · -- 65=0
                refine z_if_eq_t hC 68 76 dX7_follow_68 rfl (by omega) (by omega) ?_
                refine z_bipush hC 76 dX7_follow_76 rfl ?_
                -- R78.2
                exact z_iret hC hH hQ 78 (((-2), (va_up (va_up (va_up F 0 (0)) 5 ((n : Int))) 7 ((t : Int))), (va_up Ar 3 (cI (n) v gv)))) dX7_follow_78 rfl ⟨by (unfold Sp_follow; rw [if_pos (by omega)]; simp only [Int.toNat_natCast, zt1]; rw [← nxR_bk]; first | exact NXI_hit iq (by omega) (by omega) (by omega) | exact NXI_none iq (by omega) (by omega) | (exfalso; omega)), by exact ⟨rfl, rfl, rfl, rfl, rfl, rfl, rfl, rfl, rfl, rfl, rfl, rfl, rfl, rfl, rfl, rfl⟩⟩ rfl (Nat.le_refl _) (Nat.le_refl _)
            · -- 42f
              refine z_iload hC 45 hl dX7_follow_45 4 rfl ?_
              refine z_iload_n hC 47 hl dX7_follow_47 rfl 3 rfl ?_
              refine z_if_eq hC 48 55 dX7_follow_48 rfl (by omega) (fun hb2 => ?_) (fun hb2 => ?_)
              · -- 48t
                refine z_iconst hC 55 dX7_follow_55 ?_
                refine z_iadd (e := (q1 : Int) + 1) hC 56 dX7_follow_56 rfl ?_
                refine z_istore (lv' := [(4, .int (iZ ((q1 : Int) + 1))), (0, .ref (ad 0)), (1, .int (iZ ((x1 : Int)))), (2, .int (iZ ((p1 : Int)))), (3, .int (iZ (bk)))]) hC 57 hl dX7_follow_57 (by decide) rfl (fun ls hl => ?_)
                refine z_goto hC 59 25 dX7_follow_59 rfl ?_
                -- J25.3
                exact ih25 ((q1 : Int) + 1) _ _ _ (by first | (have := nxm_d1 (by assumption) (show (0 : Int) ≤ q1 by omega) (show (q1 : Int) < n by omega); omega) | (have := nxm_d2 (by assumption) (show (0 : Int) ≤ q1 by omega) (show (q1 : Int) < n by omega); omega)) (by first | exact NXI_f0 (by omega) | exact NXI_s1 (by assumption) iq (by omega) (by omega) | exact NXI_s2 (by assumption) iq (by omega) (by omega)) hH (z_lv (lv_sub hl [1, 2, 3, 4, 0] rfl) (zcons rfl (zcons rfl (zcons rfl (zcons rfl (zcons (zpeq (by omega)) rfl))))))
              · -- 48f
                refine z_iconst hC 51 dX7_follow_51 ?_
                refine z_goto hC 52 56 dX7_follow_52 rfl ?_
                refine z_iadd (e := (q1 : Int) - 1) hC 56 dX7_follow_56 (by omega) ?_
                refine z_istore (lv' := [(4, .int (iZ ((q1 : Int) - 1))), (0, .ref (ad 0)), (1, .int (iZ ((x1 : Int)))), (2, .int (iZ ((p1 : Int)))), (3, .int (iZ (bk)))]) hC 57 hl dX7_follow_57 (by decide) rfl (fun ls hl => ?_)
                refine z_goto hC 59 25 dX7_follow_59 rfl ?_
                -- J25.4
                exact ih25 ((q1 : Int) - 1) _ _ _ (by first | (have := nxm_d1 (by assumption) (show (0 : Int) ≤ q1 by omega) (show (q1 : Int) < n by omega); omega) | (have := nxm_d2 (by assumption) (show (0 : Int) ≤ q1 by omega) (show (q1 : Int) < n by omega); omega)) (by first | exact NXI_f0 (by omega) | exact NXI_s1 (by assumption) iq (by omega) (by omega) | exact NXI_s2 (by assumption) iq (by omega) (by omega)) hH (z_lv (lv_sub hl [1, 2, 3, 4, 0] rfl) (zcons rfl (zcons rfl (zcons rfl (zcons rfl (zcons (zpeq (by omega)) rfl))))))
          · -- 28=0
            refine z_if_eq_t hC 31 62 dX7_follow_31 rfl (by omega) (by omega) ?_
            refine z_aload_n hC 62 hl dX7_follow_62 rfl 0 rfl ?_
            refine z_iload hC 63 hl dX7_follow_63 4 rfl ?_
            refine z_same (z_runV hC hH.2.2 hl.1 hH.1 hH.2.1 1 (As := [.int (iZ (q))]) (rest := []) (m_X7_isPlace lau s0 G _ ad (va_up (va_up (va_up F 0 (0)) 5 ((n : Int))) 7 ((t : Int))) (va_up Ar 3 (cI (n) v gv)) n q (by first | assumption | omega) (by first | assumption | omega)) (lw_V q1641 q1643 qs57 q95 q1644) ⟨rfl, by decide, by decide, by decide +kernel⟩ (q0 := 0) (ci := 0) rfl rfl rfl rfl (Nat.le_of_ble_eq_true rfl) ⟨Nat.le_of_ble_eq_true rfl, Nat.le_of_ble_eq_true rfl⟩ ⟨Nat.le_of_ble_eq_true rfl, Nat.le_of_ble_eq_true rfl⟩ dX7_follow_65) hH (fun r_3 H locs hpost hH => ?_)
            have hb_65 : (r_3 = 1 ∧ (0 ≤ q ∧ q < (n : Int))) ∨ (r_3 = 0 ∧ ¬ (0 ≤ q ∧ q < (n : Int))) := hpost
            have hH : zH s0 s1 G as0 (mW ad G (va_up (va_up (va_up F 0 (0)) 5 ((n : Int))) 7 ((t : Int))) (va_up Ar 3 (cI (n) v gv))) H locs := hH
            refine z_st (st' := [.int (iZ (r_3))]) rfl ?_
            rcases hb_65 with ⟨rfl, hb_65⟩ | ⟨rfl, hb_65⟩
            · -- 65=1
              refine z_if_eq_f hC 68 76 dX7_follow_68 rfl (by omega) (by omega) ?_
              refine z_iload hC 71 hl dX7_follow_71 4 rfl ?_
              refine z_goto hC 73 78 dX7_follow_73 rfl ?_
              -- R78.5
              exact z_iret hC hH hQ 78 ((q, (va_up (va_up (va_up F 0 (0)) 5 ((n : Int))) 7 ((t : Int))), (va_up Ar 3 (cI (n) v gv)))) dX7_follow_78 rfl ⟨by (unfold Sp_follow; rw [if_pos (by omega)]; simp only [Int.toNat_natCast, zt1]; rw [← nxR_bk]; first | exact NXI_hit iq (by omega) (by omega) (by omega) | exact NXI_none iq (by omega) (by omega) | (exfalso; omega)), by exact ⟨rfl, rfl, rfl, rfl, rfl, rfl, rfl, rfl, rfl, rfl, rfl, rfl, rfl, rfl, rfl, rfl⟩⟩ rfl (Nat.le_refl _) (Nat.le_refl _)
            · -- 65=0
              refine z_if_eq_t hC 68 76 dX7_follow_68 rfl (by omega) (by omega) ?_
              refine z_bipush hC 76 dX7_follow_76 rfl ?_
              -- R78.6
              exact z_iret hC hH hQ 78 (((-2), (va_up (va_up (va_up F 0 (0)) 5 ((n : Int))) 7 ((t : Int))), (va_up Ar 3 (cI (n) v gv)))) dX7_follow_78 rfl ⟨by (unfold Sp_follow; rw [if_pos (by omega)]; simp only [Int.toNat_natCast, zt1]; rw [← nxR_bk]; first | exact NXI_hit iq (by omega) (by omega) (by omega) | exact NXI_none iq (by omega) (by omega) | (exfalso; omega)), by exact ⟨rfl, rfl, rfl, rfl, rfl, rfl, rfl, rfl, rfl, rfl, rfl, rfl, rfl, rfl, rfl, rfl⟩⟩ rfl (Nat.le_refl _) (Nat.le_refl _)
      -- J25.7
      exact L25 _ (p1 : Int) _ _ _ (Nat.lt_succ_self _) (by first | exact NXI_f0 (by omega) | exact NXI_s1 (by assumption) iq (by omega) (by omega) | exact NXI_s2 (by assumption) iq (by omega) (by omega)) hH (lv_sub hl [1, 2, 3, 4, 0] rfl)
    · -- 14=0
      refine z_if_ne_f hC 17 22 dX7_follow_17 rfl (by omega) (by omega) ?_
      refine z_iconst hC 20 dX7_follow_20 ?_
      -- R21.8
      exact z_iret hC hH hQ 21 (((-1), (va_up (va_up (va_up F 0 (0)) 5 ((n : Int))) 7 ((t : Int))), (va_up Ar 3 (cI (n) v gv)))) dX7_follow_21 rfl ⟨by first | (unfold Sp_follow; rw [if_neg (by omega)]) | (unfold Sp_follow; rw [if_pos (by omega)]), by exact ⟨rfl, rfl, rfl, rfl, rfl, rfl, rfl, rfl, rfl, rfl, rfl, rfl, rfl, rfl, rfl, rfl⟩⟩ rfl (Nat.le_refl _) (Nat.le_refl _)
  · -- 6=0
    refine z_if_eq_t hC 9 20 dX7_follow_9 rfl (by omega) (by omega) ?_
    refine z_iconst hC 20 dX7_follow_20 ?_
    -- R21.9
    exact z_iret hC hH hQ 21 (((-1), (va_up (va_up (va_up F 0 (0)) 5 ((n : Int))) 7 ((t : Int))), (va_up Ar 3 (cI (n) v gv)))) dX7_follow_21 rfl ⟨by first | (unfold Sp_follow; rw [if_neg (by omega)]) | (unfold Sp_follow; rw [if_pos (by omega)]), by exact ⟨rfl, rfl, rfl, rfl, rfl, rfl, rfl, rfl, rfl, rfl, rfl, rfl, rfl, rfl, rfl, rfl⟩⟩ rfl (Nat.le_refl _) (Nat.le_refl _)

set_option maxHeartbeats 4000000 in
set_option maxRecDepth 100000 in
theorem m_X7_lead (lau : Launch) (s0 : State) (G : zG) (sz : Nat) (ad : Nat → Nat) (F : Nat → Int) (Ar : Nat → Nat → Int) (n : Nat) (v : Nat → Nat) (gv : Nat → Int) (t : Nat) (l : Int) (r : Int) (hn : n ≤ 120) (hv : ∀ i, i < n → v i < 1000) (ht : t < 4) (hr_l : -2147483648 ≤ l ∧ l < 2147483648) (hr_r : -2147483648 ≤ r ∧ r < 2147483648) : zMet (S := Int × (Nat → Int) × (Nat → Nat → Int)) lau yX7_lead cX7_lead 4 (some .int) 3 70 0 0 s0 G sz [.ref (ad 0), .int (iZ (l)), .int (iZ (r))] (mW ad G (va_up (va_up F 5 ((n : Int))) 7 ((t : Int))) (va_up Ar 3 (cI (n) v gv))) (fun ((r_, F2, A2) : Int × (Nat → Int) × (Nat → Nat → Int)) => some (.int (iZ (r_)))) (fun ((r_, F2, A2) : Int × (Nat → Int) × (Nat → Nat → Int)) => (Sp_lead n v t l r r_) ∧ (MK (va_up (va_up F 5 ((n : Int))) 7 ((t : Int))) (va_up Ar 3 (cI (n) v gv)) F2 A2)) (fun ((r_, F2, A2) : Int × (Nat → Int) × (Nat → Nat → Int)) => (mW ad G F2 A2)) := by
  refine zMet.of (by decide) (Nat.le_of_ble_eq_true rfl) ?_
  intro pg ev s1 mi ar bl me cd ls Q as0 hC hH hl hQ hsz
  generalize s1.heap = H at hH ⊢
  generalize ([] : List Loc) = locs at hH ⊢
  have hl : lv_has ls 4 [(0, .ref (ad 0)), (1, .int (iZ (l))), (2, .int (iZ (r)))] := hl
  refine z_aload_n hC 0 hl dX7_lead_0 rfl 0 rfl ?_
  refine z_iconst hC 1 dX7_lead_1 ?_
  refine pmW_0 hC hH 2 dX7_lead_2 (fun H locs hH => ?_)
  have hH : zH s0 s1 G as0 (mW ad G (va_up (va_up (va_up F 0 (0)) 5 ((n : Int))) 7 ((t : Int))) (va_up Ar 3 (cI (n) v gv))) H locs := hH
  refine z_aload_n hC 5 hl dX7_lead_5 rfl 0 rfl ?_
  refine z_iload_n hC 6 hl dX7_lead_6 rfl 1 rfl ?_
  refine z_iload_n hC 7 hl dX7_lead_7 rfl 2 rfl ?_
  refine z_same (z_runV hC hH.2.2 hl.1 hH.1 hH.2.1 2 (As := [.int (iZ (l)), .int (iZ (r))]) (rest := []) (m_X7_isSpan lau s0 G _ ad (va_up (va_up (va_up F 0 (0)) 5 ((n : Int))) 7 ((t : Int))) (va_up Ar 3 (cI (n) v gv)) n l r (by first | assumption | omega) (by first | assumption | omega) (by first | assumption | omega)) (lw_V q1712 q1714 qs68 q95 q1715) ⟨rfl, by decide, by decide, by decide +kernel⟩ (q0 := 0) (ci := 0) rfl rfl rfl rfl (Nat.le_of_ble_eq_true rfl) ⟨Nat.le_of_ble_eq_true rfl, Nat.le_of_ble_eq_true rfl⟩ ⟨Nat.le_of_ble_eq_true rfl, Nat.le_of_ble_eq_true rfl⟩ dX7_lead_8) hH (fun r_8 H locs hpost hH => ?_)
  have hb_8 : (r_8 = 1 ∧ (0 ≤ l ∧ l ≤ r ∧ r < (n : Int))) ∨ (r_8 = 0 ∧ ¬ (0 ≤ l ∧ l ≤ r ∧ r < (n : Int))) := hpost
  have hH : zH s0 s1 G as0 (mW ad G (va_up (va_up (va_up F 0 (0)) 5 ((n : Int))) 7 ((t : Int))) (va_up Ar 3 (cI (n) v gv))) H locs := hH
  refine z_st (st' := [.int (iZ (r_8))]) rfl ?_
  rcases hb_8 with ⟨rfl, hb_8⟩ | ⟨rfl, hb_8⟩
  · -- 8=1
    refine z_if_ne_t hC 11 16 dX7_lead_11 rfl (by omega) (by omega) ?_
    obtain ⟨l1, rfl⟩ := Int.eq_ofNat_of_zero_le (show 0 ≤ l by omega)
    obtain ⟨r1, rfl⟩ := Int.eq_ofNat_of_zero_le (show 0 ≤ r by omega)
    refine z_aload_n hC 16 hl dX7_lead_16 rfl 0 rfl ?_
    refine z_iload_n hC 17 hl dX7_lead_17 rfl 1 rfl ?_
    refine z_iload_n hC 18 hl dX7_lead_18 rfl 2 rfl ?_
    refine z_iconst hC 19 dX7_lead_19 ?_
    refine z_st (st' := [.int (iZ ((-1))), .int (iZ (((r1 + 1 : Nat) : Int) - 1)), .int (iZ ((l1 : Int))), .ref (ad 0)]) (zcons rfl (zcons (zieq (by omega)) (zcons rfl rfl))) ?_
    refine z_same (z_runV hC hH.2.2 hl.1 hH.1 hH.2.1 3 (As := [.int (iZ ((l1 : Int))), .int (iZ (((r1 + 1 : Nat) : Int) - 1)), .int (iZ ((-1)))]) (rest := []) (m_X7_counts lau s0 G _ ad (va_up (va_up (va_up F 0 (0)) 5 ((n : Int))) 7 ((t : Int))) (va_up Ar 3 (cI (n) v gv)) n v gv l1 (r1 + 1) (-1) v (by first | assumption | omega) (by first | assumption | omega) (by first | assumption | omega) (by first | assumption | omega) (by first | assumption | omega) (by exact fun i _ _ => ⟨fun q => by omega, fun _ => rfl⟩)) (lw_V q1764 q1766 qs73 q95 q1767) ⟨rfl, by decide, by decide, by decide +kernel⟩ (q0 := 0) (ci := 0) rfl rfl rfl rfl (Nat.le_of_ble_eq_true rfl) ⟨Nat.le_of_ble_eq_true rfl, Nat.le_of_ble_eq_true rfl⟩ ⟨Nat.le_of_ble_eq_true rfl, Nat.le_of_ble_eq_true rfl⟩ dX7_lead_20) hH (fun u_ H locs hpost hH => ?_)
    obtain ⟨o_20, go_20, fo_20, la_20, k_20, u_20, gu_20⟩ := u_
    have pCO_20 : CO v l1 (r1 + 1) o_20 fo_20 la_20 k_20 u_20 := hpost
    have hH : zH s0 s1 G as0 (mW ad G (va_up (va_up (va_up (va_up F 0 (0)) 5 ((n : Int))) 7 ((t : Int))) 38 ((k_20 : Int))) (va_up (va_up (va_up (va_up (va_up Ar 3 (cI (n) v gv)) 34 (cI (1000) o_20 go_20)) 35 fo_20) 36 la_20) 37 (cI (k_20) u_20 gu_20))) H locs := hH
    refine z_st (st' := []) rfl ?_
    have hof := fun i h => ofR_spec (t := t) pCO_20.2.2 (i := i) h
    have hds := EN_dst pCO_20.2.2
    have hkk := pCO_20.2.2.1
    have hk0 := CO_kpos pCO_20 (Nat.le_refl l1) (by omega) (hv l1 (by omega))
    have hof0 := hof 0 hk0
    have ho0 := pCO_20.1 _ hof0.1
    have hc0 := cnt_le v l1 (r1 + 1) (ofR v l1 (r1 + 1) t 0)
    have hc1 := cnt_le v l1 (r1 + 1) (ofR v l1 (r1 + 1) t 1)
    refine z_aload_n hC 23 hl dX7_lead_23 rfl 0 rfl ?_
    refine z_iconst hC 24 dX7_lead_24 ?_
    refine z_aload_n hC 25 hl dX7_lead_25 rfl 0 rfl ?_
    refine gmW_7 (x := (t : Int)) hC hH 26 rfl dX7_lead_26 ?_
    refine z_same (z_runV hC hH.2.2 hl.1 hH.1 hH.2.1 2 (As := [.int (iZ (1)), .int (iZ ((t : Int)))]) (rest := []) (m_X7_ofRank lau s0 G _ ad (va_up (va_up (va_up (va_up F 0 (0)) 5 ((n : Int))) 7 ((t : Int))) 38 ((k_20 : Int))) (va_up (va_up (va_up (va_up (va_up Ar 3 (cI (n) v gv)) 34 (cI (1000) o_20 go_20)) 35 fo_20) 36 la_20) 37 (cI (k_20) u_20 gu_20)) v l1 (r1 + 1) o_20 go_20 fo_20 la_20 k_20 u_20 gu_20 1 t (by first | assumption | omega) (by first | assumption | omega) (by first | assumption | omega) (by first | assumption | omega)) (lw_V q1784 q1786 qs77 q95 q1787) ⟨rfl, by decide, by decide, by decide +kernel⟩ (q0 := 0) (ci := 0) rfl rfl rfl rfl (Nat.le_of_ble_eq_true rfl) ⟨Nat.le_of_ble_eq_true rfl, Nat.le_of_ble_eq_true rfl⟩ ⟨Nat.le_of_ble_eq_true rfl, Nat.le_of_ble_eq_true rfl⟩ dX7_lead_29) hH (fun r_29 H locs hpost hH => ?_)
    have p1_29 : (0 ≤ (1 : Int) ∧ (1 : Int) < k_20 ∧ r_29 = (ofR v l1 (r1 + 1) t (1 : Int).toNat : Int)) ∨ (¬ (0 ≤ (1 : Int) ∧ (1 : Int) < k_20) ∧ r_29 = -1) := hpost
    have hH : zH s0 s1 G as0 (mW ad G (va_up (va_up (va_up (va_up F 0 (0)) 5 ((n : Int))) 7 ((t : Int))) 38 ((k_20 : Int))) (va_up (va_up (va_up (va_up (va_up Ar 3 (cI (n) v gv)) 34 (cI (1000) o_20 go_20)) 35 fo_20) 36 la_20) 37 (cI (k_20) u_20 gu_20))) H locs := hH
    refine z_st (st' := [.int (iZ (r_29))]) rfl ?_
    have hrr : -2147483648 ≤ r_29 ∧ r_29 < 2147483648 := by rcases p1_29 with ⟨_, q2, q3⟩ | ⟨_, q3⟩; (· have := (hof 1 (by omega)).1; have q4 : r_29 = ((ofR v l1 (r1 + 1) t 1 : Nat) : Int) := q3; omega); (· omega)
    refine z_istore_n (lv' := [(3, .int (iZ (r_29))), (0, .ref (ad 0)), (1, .int (iZ ((l1 : Int)))), (2, .int (iZ ((r1 : Int))))]) hC 32 hl dX7_lead_32 rfl (by decide) rfl (fun ls hl => ?_)
    refine z_aload_n hC 33 hl dX7_lead_33 rfl 1 rfl ?_
    refine gmW_34 hC hH 34 dX7_lead_34 ?_
    refine z_aload_n hC 37 hl dX7_lead_37 rfl 1 rfl ?_
    refine z_iconst hC 38 dX7_lead_38 ?_
    refine z_aload_n hC 39 hl dX7_lead_39 rfl 1 rfl ?_
    refine gmW_7 (x := (t : Int)) hC hH 40 rfl dX7_lead_40 ?_
    refine z_same (z_runV hC hH.2.2 hl.1 hH.1 hH.2.1 2 (As := [.int (iZ (0)), .int (iZ ((t : Int)))]) (rest := [.ref (ad 34)]) (m_X7_ofRank lau s0 G _ ad (va_up (va_up (va_up (va_up F 0 (0)) 5 ((n : Int))) 7 ((t : Int))) 38 ((k_20 : Int))) (va_up (va_up (va_up (va_up (va_up Ar 3 (cI (n) v gv)) 34 (cI (1000) o_20 go_20)) 35 fo_20) 36 la_20) 37 (cI (k_20) u_20 gu_20)) v l1 (r1 + 1) o_20 go_20 fo_20 la_20 k_20 u_20 gu_20 0 t (by first | assumption | omega) (by first | assumption | omega) (by first | assumption | omega) (by first | assumption | omega)) (lw_V q1784 q1786 qs77 q95 q1787) ⟨rfl, by decide, by decide, by decide +kernel⟩ (q0 := 0) (ci := 0) rfl rfl rfl rfl (Nat.le_of_ble_eq_true rfl) ⟨Nat.le_of_ble_eq_true rfl, Nat.le_of_ble_eq_true rfl⟩ ⟨Nat.le_of_ble_eq_true rfl, Nat.le_of_ble_eq_true rfl⟩ dX7_lead_43) hH (fun r_43 H locs hpost hH => ?_)
    have p1_43 : (0 ≤ (0 : Int) ∧ (0 : Int) < k_20 ∧ r_43 = (ofR v l1 (r1 + 1) t (0 : Int).toNat : Int)) ∨ (¬ (0 ≤ (0 : Int) ∧ (0 : Int) < k_20) ∧ r_43 = -1) := hpost
    have hH : zH s0 s1 G as0 (mW ad G (va_up (va_up (va_up (va_up F 0 (0)) 5 ((n : Int))) 7 ((t : Int))) 38 ((k_20 : Int))) (va_up (va_up (va_up (va_up (va_up Ar 3 (cI (n) v gv)) 34 (cI (1000) o_20 go_20)) 35 fo_20) 36 la_20) 37 (cI (k_20) u_20 gu_20))) H locs := hH
    refine z_st (st' := [.int (iZ (r_43)), .ref (ad 34)]) rfl ?_
    obtain rfl : r_43 = ((ofR v l1 (r1 + 1) t 0 : Nat) : Int) := (p1_43.resolve_right (fun q => by omega)).2.2
    refine lmW_34 (x := ((o_20 (ofR v l1 (r1 + 1) t 0) : Nat) : Int)) hC hH 46 ((ofR v l1 (r1 + 1) t 0)) (by omega) (by omega) (cI_lt (by omega)) dX7_lead_46 ?_
    refine z_iload_n hC 47 hl dX7_lead_47 rfl 0 rfl ?_
    refine z_iconst hC 48 dX7_lead_48 ?_
    refine z_icmp_ne hC 49 56 dX7_lead_49 rfl (by omega) (by omega) (fun hb1 => ?_) (fun hb1 => ?_)
    · -- 49t
      obtain rfl : r_29 = ((ofR v l1 (r1 + 1) t 1 : Nat) : Int) := (p1_29.resolve_right (fun q => by omega)).2.2
      have hof1 := hof 1 (by omega)
      have ho1 := pCO_20.1 _ hof1.1
      refine z_aload_n hC 56 hl dX7_lead_56 rfl 1 rfl ?_
      refine gmW_34 hC hH 57 dX7_lead_57 ?_
      refine z_iload_n hC 60 hl dX7_lead_60 rfl 0 rfl ?_
      refine lmW_34 (x := ((o_20 (ofR v l1 (r1 + 1) t 1) : Nat) : Int)) hC hH 61 ((ofR v l1 (r1 + 1) t 1)) (by omega) (by omega) (cI_lt (by omega)) dX7_lead_61 ?_
      refine z_isub (e := ((o_20 (ofR v l1 (r1 + 1) t 0) : Nat) : Int) - ((o_20 (ofR v l1 (r1 + 1) t 1) : Nat) : Int)) hC 62 dX7_lead_62 rfl ?_
      -- R63.1
      refine z_st (st' := [.int (iZ ((((o_20 (ofR v l1 (r1 + 1) t 0) : Nat) : Int) - ((o_20 (ofR v l1 (r1 + 1) t 1) : Nat) : Int))))]) (zcons (zieq (by first | assumption | omega)) rfl) ?_
      exact z_iret hC hH hQ 63 ((((o_20 (ofR v l1 (r1 + 1) t 0) : Nat) : Int) - ((o_20 (ofR v l1 (r1 + 1) t 1) : Nat) : Int), (va_up (va_up (va_up (va_up F 0 (0)) 5 ((n : Int))) 7 ((t : Int))) 38 ((k_20 : Int))), (va_up (va_up (va_up (va_up (va_up Ar 3 (cI (n) v gv)) 34 (cI (1000) o_20 go_20)) 35 fo_20) 36 la_20) 37 (cI (k_20) u_20 gu_20)))) dX7_lead_63 rfl ⟨by (unfold Sp_lead; rw [if_pos (by omega)]; simp only [Int.toNat_natCast, zt1]; first | (rw [if_pos (by omega)]; omega) | (rw [if_neg (by omega)]; omega)), by exact ⟨rfl, rfl, rfl, rfl, rfl, rfl, rfl, rfl, rfl, rfl, rfl, rfl, rfl, rfl, rfl, rfl⟩⟩ rfl (Nat.le_refl _) (Nat.le_refl _)
    · -- 49f
      refine z_iconst hC 52 dX7_lead_52 ?_
      refine z_goto hC 53 62 dX7_lead_53 rfl ?_
      refine z_isub (e := ((o_20 (ofR v l1 (r1 + 1) t 0) : Nat) : Int)) hC 62 dX7_lead_62 (by omega) ?_
      -- R63.2
      exact z_iret hC hH hQ 63 ((((o_20 (ofR v l1 (r1 + 1) t 0) : Nat) : Int), (va_up (va_up (va_up (va_up F 0 (0)) 5 ((n : Int))) 7 ((t : Int))) 38 ((k_20 : Int))), (va_up (va_up (va_up (va_up (va_up Ar 3 (cI (n) v gv)) 34 (cI (1000) o_20 go_20)) 35 fo_20) 36 la_20) 37 (cI (k_20) u_20 gu_20)))) dX7_lead_63 rfl ⟨by (unfold Sp_lead; rw [if_pos (by omega)]; simp only [Int.toNat_natCast, zt1]; first | (rw [if_pos (by omega)]; omega) | (rw [if_neg (by omega)]; omega)), by exact ⟨rfl, rfl, rfl, rfl, rfl, rfl, rfl, rfl, rfl, rfl, rfl, rfl, rfl, rfl, rfl, rfl⟩⟩ rfl (Nat.le_refl _) (Nat.le_refl _)
  · -- 8=0
    refine z_if_ne_f hC 11 16 dX7_lead_11 rfl (by omega) (by omega) ?_
    refine z_iconst hC 14 dX7_lead_14 ?_
    -- R15.3
    exact z_iret hC hH hQ 15 (((-1), (va_up (va_up (va_up F 0 (0)) 5 ((n : Int))) 7 ((t : Int))), (va_up Ar 3 (cI (n) v gv)))) dX7_lead_15 rfl ⟨by first | (unfold Sp_lead; rw [if_neg (by omega)]) | (unfold Sp_lead; rw [if_pos (by omega)]), by exact ⟨rfl, rfl, rfl, rfl, rfl, rfl, rfl, rfl, rfl, rfl, rfl, rfl, rfl, rfl, rfl, rfl⟩⟩ rfl (Nat.le_refl _) (Nat.le_refl _)

set_option maxHeartbeats 4000000 in
set_option maxRecDepth 100000 in
theorem m_X7_rarest (lau : Launch) (s0 : State) (G : zG) (sz : Nat) (ad : Nat → Nat) (F : Nat → Int) (Ar : Nat → Nat → Int) (n : Nat) (v : Nat → Nat) (gv : Nat → Int) (t : Nat) (l : Int) (r : Int) (q : Int) (hn : n ≤ 120) (hv : ∀ i, i < n → v i < 1000) (ht : t < 4) (hr_l : -2147483648 ≤ l ∧ l < 2147483648) (hr_r : -2147483648 ≤ r ∧ r < 2147483648) (hr_q : -2147483648 ≤ q ∧ q < 2147483648) : zMet (S := Int × (Nat → Int) × (Nat → Nat → Int)) lau yX7_rarest cX7_rarest 4 (some .int) 3 70 0 0 s0 G sz [.ref (ad 0), .int (iZ (l)), .int (iZ (r)), .int (iZ (q))] (mW ad G (va_up (va_up F 5 ((n : Int))) 7 ((t : Int))) (va_up Ar 3 (cI (n) v gv))) (fun ((r_, F2, A2) : Int × (Nat → Int) × (Nat → Nat → Int)) => some (.int (iZ (r_)))) (fun ((r_, F2, A2) : Int × (Nat → Int) × (Nat → Nat → Int)) => (Sp_rarest n v t l r q r_) ∧ (MK (va_up (va_up F 5 ((n : Int))) 7 ((t : Int))) (va_up Ar 3 (cI (n) v gv)) F2 A2)) (fun ((r_, F2, A2) : Int × (Nat → Int) × (Nat → Nat → Int)) => (mW ad G F2 A2)) := by
  refine zMet.of (by decide) (Nat.le_of_ble_eq_true rfl) ?_
  intro pg ev s1 mi ar bl me cd ls Q as0 hC hH hl hQ hsz
  generalize s1.heap = H at hH ⊢
  generalize ([] : List Loc) = locs at hH ⊢
  have hl : lv_has ls 4 [(0, .ref (ad 0)), (1, .int (iZ (l))), (2, .int (iZ (r))), (3, .int (iZ (q)))] := hl
  refine z_aload_n hC 0 hl dX7_rarest_0 rfl 0 rfl ?_
  refine z_iconst hC 1 dX7_rarest_1 ?_
  refine pmW_0 hC hH 2 dX7_rarest_2 (fun H locs hH => ?_)
  have hH : zH s0 s1 G as0 (mW ad G (va_up (va_up (va_up F 0 (0)) 5 ((n : Int))) 7 ((t : Int))) (va_up Ar 3 (cI (n) v gv))) H locs := hH
  refine z_aload_n hC 5 hl dX7_rarest_5 rfl 0 rfl ?_
  refine z_iload_n hC 6 hl dX7_rarest_6 rfl 1 rfl ?_
  refine z_iload_n hC 7 hl dX7_rarest_7 rfl 2 rfl ?_
  refine z_same (z_runV hC hH.2.2 hl.1 hH.1 hH.2.1 2 (As := [.int (iZ (l)), .int (iZ (r))]) (rest := []) (m_X7_isSpan lau s0 G _ ad (va_up (va_up (va_up F 0 (0)) 5 ((n : Int))) 7 ((t : Int))) (va_up Ar 3 (cI (n) v gv)) n l r (by first | assumption | omega) (by first | assumption | omega) (by first | assumption | omega)) (lw_V q1712 q1714 qs68 q95 q1715) ⟨rfl, by decide, by decide, by decide +kernel⟩ (q0 := 0) (ci := 0) rfl rfl rfl rfl (Nat.le_of_ble_eq_true rfl) ⟨Nat.le_of_ble_eq_true rfl, Nat.le_of_ble_eq_true rfl⟩ ⟨Nat.le_of_ble_eq_true rfl, Nat.le_of_ble_eq_true rfl⟩ dX7_rarest_8) hH (fun r_8 H locs hpost hH => ?_)
  have hb_8 : (r_8 = 1 ∧ (0 ≤ l ∧ l ≤ r ∧ r < (n : Int))) ∨ (r_8 = 0 ∧ ¬ (0 ≤ l ∧ l ≤ r ∧ r < (n : Int))) := hpost
  have hH : zH s0 s1 G as0 (mW ad G (va_up (va_up (va_up F 0 (0)) 5 ((n : Int))) 7 ((t : Int))) (va_up Ar 3 (cI (n) v gv))) H locs := hH
  refine z_st (st' := [.int (iZ (r_8))]) rfl ?_
  rcases hb_8 with ⟨rfl, hb_8⟩ | ⟨rfl, hb_8⟩
  · -- 8=1
    refine z_if_eq_f hC 11 23 dX7_rarest_11 rfl (by omega) (by omega) ?_
    refine z_iload_n hC 14 hl dX7_rarest_14 rfl 3 rfl ?_
    refine z_if_lt hC 15 23 dX7_rarest_15 rfl (by omega) (fun hb1 => ?_) (fun hb1 => ?_)
    · -- 15t
      refine z_iconst hC 23 dX7_rarest_23 ?_
      -- R24.1
      exact z_iret hC hH hQ 24 (((-1), (va_up (va_up (va_up F 0 (0)) 5 ((n : Int))) 7 ((t : Int))), (va_up Ar 3 (cI (n) v gv)))) dX7_rarest_24 rfl ⟨by first | (unfold Sp_rarest; rw [if_neg (by omega)]) | (unfold Sp_rarest; rw [if_pos (by omega)]), by exact ⟨rfl, rfl, rfl, rfl, rfl, rfl, rfl, rfl, rfl, rfl, rfl, rfl, rfl, rfl, rfl, rfl⟩⟩ rfl (Nat.le_refl _) (Nat.le_refl _)
    · -- 15f
      refine z_iload_n hC 18 hl dX7_rarest_18 rfl 3 rfl ?_
      refine z_iconst hC 19 dX7_rarest_19 ?_
      refine z_icmp_le hC 20 25 dX7_rarest_20 rfl (by omega) (by omega) (fun hb2 => ?_) (fun hb2 => ?_)
      · -- 20t
        obtain ⟨l1, rfl⟩ := Int.eq_ofNat_of_zero_le (show 0 ≤ l by omega)
        obtain ⟨r1, rfl⟩ := Int.eq_ofNat_of_zero_le (show 0 ≤ r by omega)
        refine z_aload_n hC 25 hl dX7_rarest_25 rfl 0 rfl ?_
        refine z_iload_n hC 26 hl dX7_rarest_26 rfl 1 rfl ?_
        refine z_iload_n hC 27 hl dX7_rarest_27 rfl 2 rfl ?_
        refine z_iconst hC 28 dX7_rarest_28 ?_
        refine z_st (st' := [.int (iZ ((-1))), .int (iZ (((r1 + 1 : Nat) : Int) - 1)), .int (iZ ((l1 : Int))), .ref (ad 0)]) (zcons rfl (zcons (zieq (by omega)) (zcons rfl rfl))) ?_
        refine z_same (z_runV hC hH.2.2 hl.1 hH.1 hH.2.1 3 (As := [.int (iZ ((l1 : Int))), .int (iZ (((r1 + 1 : Nat) : Int) - 1)), .int (iZ ((-1)))]) (rest := []) (m_X7_counts lau s0 G _ ad (va_up (va_up (va_up F 0 (0)) 5 ((n : Int))) 7 ((t : Int))) (va_up Ar 3 (cI (n) v gv)) n v gv l1 (r1 + 1) (-1) v (by first | assumption | omega) (by first | assumption | omega) (by first | assumption | omega) (by first | assumption | omega) (by first | assumption | omega) (by exact fun i _ _ => ⟨fun q => by omega, fun _ => rfl⟩)) (lw_V q1764 q1766 qs73 q95 q1767) ⟨rfl, by decide, by decide, by decide +kernel⟩ (q0 := 0) (ci := 0) rfl rfl rfl rfl (Nat.le_of_ble_eq_true rfl) ⟨Nat.le_of_ble_eq_true rfl, Nat.le_of_ble_eq_true rfl⟩ ⟨Nat.le_of_ble_eq_true rfl, Nat.le_of_ble_eq_true rfl⟩ dX7_rarest_29) hH (fun u_ H locs hpost hH => ?_)
        obtain ⟨o_29, go_29, fo_29, la_29, k_29, u_29, gu_29⟩ := u_
        have pCO_29 : CO v l1 (r1 + 1) o_29 fo_29 la_29 k_29 u_29 := hpost
        have hH : zH s0 s1 G as0 (mW ad G (va_up (va_up (va_up (va_up F 0 (0)) 5 ((n : Int))) 7 ((t : Int))) 38 ((k_29 : Int))) (va_up (va_up (va_up (va_up (va_up Ar 3 (cI (n) v gv)) 34 (cI (1000) o_29 go_29)) 35 fo_29) 36 la_29) 37 (cI (k_29) u_29 gu_29))) H locs := hH
        refine z_st (st' := []) rfl ?_
        have hof := fun i h => ofR_spec (t := t) pCO_29.2.2 (i := i) h
        have hds := EN_dst pCO_29.2.2
        have hkk := pCO_29.2.2.1
        have hk0 := CO_kpos pCO_29 (Nat.le_refl l1) (by omega) (hv l1 (by omega))
        have hof1 := hof (dst v l1 (r1 + 1) - 1) (by omega)
        refine z_aload_n hC 32 hl dX7_rarest_32 rfl 0 rfl ?_
        refine z_aload_n hC 33 hl dX7_rarest_33 rfl 0 rfl ?_
        refine z_aload_n hC 34 hl dX7_rarest_34 rfl 0 rfl ?_
        refine gmW_38 (x := (k_29 : Int)) hC hH 35 rfl dX7_rarest_35 ?_
        refine z_iconst hC 38 dX7_rarest_38 ?_
        refine z_isub (e := (k_29 : Int) - 1) hC 39 dX7_rarest_39 rfl ?_
        refine z_aload_n hC 40 hl dX7_rarest_40 rfl 0 rfl ?_
        refine gmW_7 (x := (t : Int)) hC hH 41 rfl dX7_rarest_41 ?_
        refine z_st (st' := [.int (iZ ((t : Int))), .int (iZ (((k_29 : Int) - 1))), .ref (ad 0), .ref (ad 0)]) (zcons rfl (zcons (zieq (by omega)) rfl)) ?_
        refine z_same (z_runV hC hH.2.2 hl.1 hH.1 hH.2.1 2 (As := [.int (iZ (((k_29 : Int) - 1))), .int (iZ ((t : Int)))]) (rest := [.ref (ad 0)]) (m_X7_ofRank lau s0 G _ ad (va_up (va_up (va_up (va_up F 0 (0)) 5 ((n : Int))) 7 ((t : Int))) 38 ((k_29 : Int))) (va_up (va_up (va_up (va_up (va_up Ar 3 (cI (n) v gv)) 34 (cI (1000) o_29 go_29)) 35 fo_29) 36 la_29) 37 (cI (k_29) u_29 gu_29)) v l1 (r1 + 1) o_29 go_29 fo_29 la_29 k_29 u_29 gu_29 ((k_29 : Int) - 1) t (by first | assumption | omega) (by first | assumption | omega) (by first | assumption | omega) (by first | assumption | omega)) (lw_V q1784 q1786 qs77 q95 q1787) ⟨rfl, by decide, by decide, by decide +kernel⟩ (q0 := 0) (ci := 0) rfl rfl rfl rfl (Nat.le_of_ble_eq_true rfl) ⟨Nat.le_of_ble_eq_true rfl, Nat.le_of_ble_eq_true rfl⟩ ⟨Nat.le_of_ble_eq_true rfl, Nat.le_of_ble_eq_true rfl⟩ dX7_rarest_44) hH (fun r_44 H locs hpost hH => ?_)
        have p1_44 : (0 ≤ ((k_29 : Int) - 1) ∧ ((k_29 : Int) - 1) < k_29 ∧ r_44 = (ofR v l1 (r1 + 1) t ((k_29 : Int) - 1).toNat : Int)) ∨ (¬ (0 ≤ ((k_29 : Int) - 1) ∧ ((k_29 : Int) - 1) < k_29) ∧ r_44 = -1) := hpost
        have hH : zH s0 s1 G as0 (mW ad G (va_up (va_up (va_up (va_up F 0 (0)) 5 ((n : Int))) 7 ((t : Int))) 38 ((k_29 : Int))) (va_up (va_up (va_up (va_up (va_up Ar 3 (cI (n) v gv)) 34 (cI (1000) o_29 go_29)) 35 fo_29) 36 la_29) 37 (cI (k_29) u_29 gu_29))) H locs := hH
        refine z_st (st' := [.int (iZ (r_44)), .ref (ad 0)]) rfl ?_
        have e47 : ((k_29 : Int) - 1).toNat = dst v l1 (r1 + 1) - 1 := by omega
        rw [e47] at p1_44
        refine z_iload_n hC 47 hl dX7_rarest_47 rfl 3 rfl ?_
        refine z_st (st' := [.int (iZ (q)), .int (iZ (((ofR v l1 (r1 + 1) t (dst v l1 (r1 + 1) - 1) : Nat) : Int))), .ref (ad 0)]) (zcons rfl (zcons (zieq (by omega)) rfl)) ?_
        refine z_same (z_runV hC hH.2.2 hl.1 hH.1 hH.2.1 2 (As := [.int (iZ (((ofR v l1 (r1 + 1) t (dst v l1 (r1 + 1) - 1) : Nat) : Int))), .int (iZ (q))]) (rest := []) (m_X7_told lau s0 G _ ad (va_up (va_up (va_up (va_up F 0 (0)) 5 ((n : Int))) 7 ((t : Int))) 38 ((k_29 : Int))) (va_up (va_up (va_up (va_up (va_up Ar 3 (cI (n) v gv)) 34 (cI (1000) o_29 go_29)) 35 fo_29) 36 la_29) 37 (cI (k_29) u_29 gu_29)) v l1 (r1 + 1) o_29 go_29 fo_29 la_29 k_29 u_29 gu_29 (ofR v l1 (r1 + 1) t (dst v l1 (r1 + 1) - 1)) q (by first | assumption | omega) (by first | assumption | omega) (by first | assumption | omega) (by exact hof1.1) (by exact hof1.2.1)) (lw_V q1776 q1778 qs76 q95 q1779) ⟨rfl, by decide, by decide, by decide +kernel⟩ (q0 := 0) (ci := 0) rfl rfl rfl rfl (Nat.le_of_ble_eq_true rfl) ⟨Nat.le_of_ble_eq_true rfl, Nat.le_of_ble_eq_true rfl⟩ ⟨Nat.le_of_ble_eq_true rfl, Nat.le_of_ble_eq_true rfl⟩ dX7_rarest_48) hH (fun _ H locs hpost hH => ?_)
        have hH : zH s0 s1 G as0 (mW ad G (va_up (va_up (va_up (va_up F 0 (0)) 5 ((n : Int))) 7 ((t : Int))) 38 ((k_29 : Int))) (va_up (va_up (va_up (va_up (va_up Ar 3 (cI (n) v gv)) 34 (cI (1000) o_29 go_29)) 35 fo_29) 36 la_29) 37 (cI (k_29) u_29 gu_29))) H locs := hH
        refine z_st (st' := [.int (iZ ((toldZ v l1 (r1 + 1) (ofR v l1 (r1 + 1) t (dst v l1 (r1 + 1) - 1)) q)))]) rfl ?_
        -- R51.2
        exact z_iret hC hH hQ 51 (((toldZ v l1 (r1 + 1) (ofR v l1 (r1 + 1) t (dst v l1 (r1 + 1) - 1)) q), (va_up (va_up (va_up (va_up F 0 (0)) 5 ((n : Int))) 7 ((t : Int))) 38 ((k_29 : Int))), (va_up (va_up (va_up (va_up (va_up Ar 3 (cI (n) v gv)) 34 (cI (1000) o_29 go_29)) 35 fo_29) 36 la_29) 37 (cI (k_29) u_29 gu_29)))) dX7_rarest_51 rfl ⟨by (unfold Sp_rarest; rw [if_pos (by omega)]; (try simp only [Int.toNat_natCast, zt1]); first | done | trivial | rfl | omega | (rw [if_pos (by omega)]; first | done | trivial | rfl | omega) | (rw [if_neg (by omega)]; first | done | trivial | rfl | omega)), by exact ⟨rfl, rfl, rfl, rfl, rfl, rfl, rfl, rfl, rfl, rfl, rfl, rfl, rfl, rfl, rfl, rfl⟩⟩ rfl (Nat.le_refl _) (Nat.le_refl _)
      · -- 20f
        refine z_iconst hC 23 dX7_rarest_23 ?_
        -- R24.3
        exact z_iret hC hH hQ 24 (((-1), (va_up (va_up (va_up F 0 (0)) 5 ((n : Int))) 7 ((t : Int))), (va_up Ar 3 (cI (n) v gv)))) dX7_rarest_24 rfl ⟨by first | (unfold Sp_rarest; rw [if_neg (by omega)]) | (unfold Sp_rarest; rw [if_pos (by omega)]), by exact ⟨rfl, rfl, rfl, rfl, rfl, rfl, rfl, rfl, rfl, rfl, rfl, rfl, rfl, rfl, rfl, rfl⟩⟩ rfl (Nat.le_refl _) (Nat.le_refl _)
  · -- 8=0
    refine z_if_eq_t hC 11 23 dX7_rarest_11 rfl (by omega) (by omega) ?_
    refine z_iconst hC 23 dX7_rarest_23 ?_
    -- R24.4
    exact z_iret hC hH hQ 24 (((-1), (va_up (va_up (va_up F 0 (0)) 5 ((n : Int))) 7 ((t : Int))), (va_up Ar 3 (cI (n) v gv)))) dX7_rarest_24 rfl ⟨by first | (unfold Sp_rarest; rw [if_neg (by omega)]) | (unfold Sp_rarest; rw [if_pos (by omega)]), by exact ⟨rfl, rfl, rfl, rfl, rfl, rfl, rfl, rfl, rfl, rfl, rfl, rfl, rfl, rfl, rfl, rfl⟩⟩ rfl (Nat.le_refl _) (Nat.le_refl _)

set_option maxHeartbeats 4000000 in
set_option maxRecDepth 100000 in
theorem m_X7_agree (lau : Launch) (s0 : State) (G : zG) (sz : Nat) (ad : Nat → Nat) (F : Nat → Int) (Ar : Nat → Nat → Int) (n : Nat) (v : Nat → Nat) (gv : Nat → Int) (t : Nat) (l : Int) (m : Int) (r : Int) (hn : n ≤ 120) (hv : ∀ i, i < n → v i < 1000) (ht : t < 4) (hr_l : -2147483648 ≤ l ∧ l < 2147483648) (hr_m : -2147483648 ≤ m ∧ m < 2147483648) (hr_r : -2147483648 ≤ r ∧ r < 2147483648) : zMet (S := Int × (Nat → Int) × (Nat → Nat → Int)) lau yX7_agree cX7_agree 5 (some .int) 3 68 0 0 s0 G sz [.ref (ad 0), .int (iZ (l)), .int (iZ (m)), .int (iZ (r))] (mW ad G (va_up (va_up F 5 ((n : Int))) 7 ((t : Int))) (va_up Ar 3 (cI (n) v gv))) (fun ((r_, F2, A2) : Int × (Nat → Int) × (Nat → Nat → Int)) => some (.int (iZ (r_)))) (fun ((r_, F2, A2) : Int × (Nat → Int) × (Nat → Nat → Int)) => (Sp_agree n v t l m r r_) ∧ (MK (va_up (va_up F 5 ((n : Int))) 7 ((t : Int))) (va_up Ar 3 (cI (n) v gv)) F2 A2)) (fun ((r_, F2, A2) : Int × (Nat → Int) × (Nat → Nat → Int)) => (mW ad G F2 A2)) := by
  refine zMet.of (by decide) (Nat.le_of_ble_eq_true rfl) ?_
  intro pg ev s1 mi ar bl me cd ls Q as0 hC hH hl hQ hsz
  generalize s1.heap = H at hH ⊢
  generalize ([] : List Loc) = locs at hH ⊢
  have hl : lv_has ls 5 [(0, .ref (ad 0)), (1, .int (iZ (l))), (2, .int (iZ (m))), (3, .int (iZ (r)))] := hl
  refine z_aload_n hC 0 hl dX7_agree_0 rfl 0 rfl ?_
  refine z_iconst hC 1 dX7_agree_1 ?_
  refine pmW_0 hC hH 2 dX7_agree_2 (fun H locs hH => ?_)
  have hH : zH s0 s1 G as0 (mW ad G (va_up (va_up (va_up F 0 (0)) 5 ((n : Int))) 7 ((t : Int))) (va_up Ar 3 (cI (n) v gv))) H locs := hH
  refine z_aload_n hC 5 hl dX7_agree_5 rfl 0 rfl ?_
  refine z_iload_n hC 6 hl dX7_agree_6 rfl 1 rfl ?_
  refine z_iload_n hC 7 hl dX7_agree_7 rfl 2 rfl ?_
  refine z_same (z_runV hC hH.2.2 hl.1 hH.1 hH.2.1 2 (As := [.int (iZ (l)), .int (iZ (m))]) (rest := []) (m_X7_isSpan lau s0 G _ ad (va_up (va_up (va_up F 0 (0)) 5 ((n : Int))) 7 ((t : Int))) (va_up Ar 3 (cI (n) v gv)) n l m (by first | assumption | omega) (by first | assumption | omega) (by first | assumption | omega)) (lw_V q1712 q1714 qs68 q95 q1715) ⟨rfl, by decide, by decide, by decide +kernel⟩ (q0 := 0) (ci := 0) rfl rfl rfl rfl (Nat.le_of_ble_eq_true rfl) ⟨Nat.le_of_ble_eq_true rfl, Nat.le_of_ble_eq_true rfl⟩ ⟨Nat.le_of_ble_eq_true rfl, Nat.le_of_ble_eq_true rfl⟩ dX7_agree_8) hH (fun r_8 H locs hpost hH => ?_)
  have hb_8 : (r_8 = 1 ∧ (0 ≤ l ∧ l ≤ m ∧ m < (n : Int))) ∨ (r_8 = 0 ∧ ¬ (0 ≤ l ∧ l ≤ m ∧ m < (n : Int))) := hpost
  have hH : zH s0 s1 G as0 (mW ad G (va_up (va_up (va_up F 0 (0)) 5 ((n : Int))) 7 ((t : Int))) (va_up Ar 3 (cI (n) v gv))) H locs := hH
  refine z_st (st' := [.int (iZ (r_8))]) rfl ?_
  rcases hb_8 with ⟨rfl, hb_8⟩ | ⟨rfl, hb_8⟩
  · -- 8=1
    refine z_if_eq_f hC 11 25 dX7_agree_11 rfl (by omega) (by omega) ?_
    refine z_aload_n hC 14 hl dX7_agree_14 rfl 0 rfl ?_
    refine z_iload_n hC 15 hl dX7_agree_15 rfl 2 rfl ?_
    refine z_iconst hC 16 dX7_agree_16 ?_
    refine z_iadd (e := m + 1) hC 17 dX7_agree_17 rfl ?_
    refine z_iload_n hC 18 hl dX7_agree_18 rfl 3 rfl ?_
    refine z_st (st' := [.int (iZ (r)), .int (iZ ((m + 1))), .ref (ad 0)]) (zcons rfl (zcons (zieq (by omega)) rfl)) ?_
    refine z_same (z_runV hC hH.2.2 hl.1 hH.1 hH.2.1 2 (As := [.int (iZ ((m + 1))), .int (iZ (r))]) (rest := []) (m_X7_isSpan lau s0 G _ ad (va_up (va_up (va_up F 0 (0)) 5 ((n : Int))) 7 ((t : Int))) (va_up Ar 3 (cI (n) v gv)) n (m + 1) r (by first | assumption | omega) (by first | assumption | omega) (by first | assumption | omega)) (lw_V q1712 q1714 qs68 q95 q1715) ⟨rfl, by decide, by decide, by decide +kernel⟩ (q0 := 0) (ci := 0) rfl rfl rfl rfl (Nat.le_of_ble_eq_true rfl) ⟨Nat.le_of_ble_eq_true rfl, Nat.le_of_ble_eq_true rfl⟩ ⟨Nat.le_of_ble_eq_true rfl, Nat.le_of_ble_eq_true rfl⟩ dX7_agree_19) hH (fun r_19 H locs hpost hH => ?_)
    have hb_19 : (r_19 = 1 ∧ (0 ≤ (m + 1) ∧ (m + 1) ≤ r ∧ r < (n : Int))) ∨ (r_19 = 0 ∧ ¬ (0 ≤ (m + 1) ∧ (m + 1) ≤ r ∧ r < (n : Int))) := hpost
    have hH : zH s0 s1 G as0 (mW ad G (va_up (va_up (va_up F 0 (0)) 5 ((n : Int))) 7 ((t : Int))) (va_up Ar 3 (cI (n) v gv))) H locs := hH
    refine z_st (st' := [.int (iZ (r_19))]) rfl ?_
    rcases hb_19 with ⟨rfl, hb_19⟩ | ⟨rfl, hb_19⟩
    · -- 19=1
      refine z_if_ne_t hC 22 27 dX7_agree_22 rfl (by omega) (by omega) ?_
      obtain ⟨l1, rfl⟩ := Int.eq_ofNat_of_zero_le (show 0 ≤ l by omega)
      obtain ⟨m1, rfl⟩ := Int.eq_ofNat_of_zero_le (show 0 ≤ m by omega)
      obtain ⟨r1, rfl⟩ := Int.eq_ofNat_of_zero_le (show 0 ≤ r by omega)
      refine z_aload_n hC 27 hl dX7_agree_27 rfl 0 rfl ?_
      refine z_iload_n hC 28 hl dX7_agree_28 rfl 1 rfl ?_
      refine z_iload_n hC 29 hl dX7_agree_29 rfl 2 rfl ?_
      refine z_st (st' := [.int (iZ (((m1 + 1 : Nat) : Int) - 1)), .int (iZ ((l1 : Int))), .ref (ad 0)]) (zcons (zieq (by omega)) (zcons rfl rfl)) ?_
      refine z_same (z_runV hC hH.2.2 hl.1 hH.1 hH.2.1 2 (As := [.int (iZ ((l1 : Int))), .int (iZ (((m1 + 1 : Nat) : Int) - 1))]) (rest := []) (m_X7_modeOf lau s0 G _ ad (va_up (va_up (va_up F 0 (0)) 5 ((n : Int))) 7 ((t : Int))) (va_up Ar 3 (cI (n) v gv)) n v gv l1 (m1 + 1) t (by first | assumption | omega) (by first | assumption | omega) (by first | assumption | omega) (by first | assumption | omega) (by first | assumption | omega)) (lw_V q1760 q1762 qs72 q95 q1763) ⟨rfl, by decide, by decide, by decide +kernel⟩ (q0 := 0) (ci := 0) rfl rfl rfl rfl (Nat.le_of_ble_eq_true rfl) ⟨Nat.le_of_ble_eq_true rfl, Nat.le_of_ble_eq_true rfl⟩ ⟨Nat.le_of_ble_eq_true rfl, Nat.le_of_ble_eq_true rfl⟩ dX7_agree_30) hH (fun u_ H locs hpost hH => ?_)
      obtain ⟨o_30, go_30, fo_30, la_30, k_30, u_30, gu_30⟩ := u_
      obtain ⟨pCO_30, pm1_30, pm2_30, pk_30⟩ : (CO v l1 (m1 + 1) o_30 fo_30 la_30 k_30 u_30) ∧ (md v l1 (m1 + 1) t < 1000) ∧ (0 < cnt v l1 (m1 + 1) (md v l1 (m1 + 1) t)) ∧ (0 < k_30) := hpost
      have hH : zH s0 s1 G as0 (mW ad G (va_up (va_up (va_up (va_up F 0 (0)) 5 ((n : Int))) 7 ((t : Int))) 38 ((k_30 : Int))) (va_up (va_up (va_up (va_up (va_up Ar 3 (cI (n) v gv)) 34 (cI (1000) o_30 go_30)) 35 fo_30) 36 la_30) 37 (cI (k_30) u_30 gu_30))) H locs := hH
      refine z_st (st' := [.int (iZ (((md v l1 (m1 + 1) t : Nat) : Int)))]) rfl ?_
      refine z_istore (lv' := [(4, .int (iZ (((md v l1 (m1 + 1) t : Nat) : Int)))), (0, .ref (ad 0)), (1, .int (iZ ((l1 : Int)))), (2, .int (iZ ((m1 : Int)))), (3, .int (iZ ((r1 : Int))))]) hC 33 hl dX7_agree_33 (by decide) rfl (fun ls hl => ?_)
      refine z_aload_n hC 35 hl dX7_agree_35 rfl 1 rfl ?_
      refine z_iload_n hC 36 hl dX7_agree_36 rfl 3 rfl ?_
      refine z_iconst hC 37 dX7_agree_37 ?_
      refine z_iadd (e := (m1 : Int) + 1) hC 38 dX7_agree_38 rfl ?_
      refine z_iload_n hC 39 hl dX7_agree_39 rfl 4 rfl ?_
      refine z_st (st' := [.int (iZ (((r1 + 1 : Nat) : Int) - 1)), .int (iZ (((m1 + 1 : Nat) : Int))), .ref (ad 0)]) (zcons (zieq (by omega)) (zcons (zieq (by omega)) rfl)) ?_
      refine z_same (z_runV hC hH.2.2 hl.1 hH.1 hH.2.1 2 (As := [.int (iZ (((m1 + 1 : Nat) : Int))), .int (iZ (((r1 + 1 : Nat) : Int) - 1))]) (rest := []) (m_X7_modeOf lau s0 G _ ad (va_up (va_up (va_up (va_up F 0 (0)) 5 ((n : Int))) 7 ((t : Int))) 38 ((k_30 : Int))) (va_up (va_up (va_up (va_up (va_up Ar 3 (cI (n) v gv)) 34 (cI (1000) o_30 go_30)) 35 fo_30) 36 la_30) 37 (cI (k_30) u_30 gu_30)) n v gv (m1 + 1) (r1 + 1) t (by first | assumption | omega) (by first | assumption | omega) (by first | assumption | omega) (by first | assumption | omega) (by first | assumption | omega)) (lw_V q1760 q1762 qs72 q95 q1763) ⟨rfl, by decide, by decide, by decide +kernel⟩ (q0 := 0) (ci := 0) rfl rfl rfl rfl (Nat.le_of_ble_eq_true rfl) ⟨Nat.le_of_ble_eq_true rfl, Nat.le_of_ble_eq_true rfl⟩ ⟨Nat.le_of_ble_eq_true rfl, Nat.le_of_ble_eq_true rfl⟩ dX7_agree_40) hH (fun u_ H locs hpost hH => ?_)
      obtain ⟨o_40, go_40, fo_40, la_40, k_40, u_40, gu_40⟩ := u_
      obtain ⟨pCO_40, pm1_40, pm2_40, pk_40⟩ : (CO v (m1 + 1) (r1 + 1) o_40 fo_40 la_40 k_40 u_40) ∧ (md v (m1 + 1) (r1 + 1) t < 1000) ∧ (0 < cnt v (m1 + 1) (r1 + 1) (md v (m1 + 1) (r1 + 1) t)) ∧ (0 < k_40) := hpost
      have hH : zH s0 s1 G as0 (mW ad G (va_up (va_up (va_up (va_up F 0 (0)) 5 ((n : Int))) 7 ((t : Int))) 38 ((k_40 : Int))) (va_up (va_up (va_up (va_up (va_up Ar 3 (cI (n) v gv)) 34 (cI (1000) o_40 go_40)) 35 fo_40) 36 la_40) 37 (cI (k_40) u_40 gu_40))) H locs := hH
      refine z_st (st' := [.int (iZ (((md v (m1 + 1) (r1 + 1) t : Nat) : Int)))]) rfl ?_
      refine z_iload hC 43 hl dX7_agree_43 0 rfl ?_
      refine z_icmp_ne hC 45 52 dX7_agree_45 rfl (by omega) (by omega) (fun hb1 => ?_) (fun hb1 => ?_)
      · -- 45t
        refine z_iconst hC 52 dX7_agree_52 ?_
        -- R53.1
        exact z_iret hC hH hQ 53 ((0, (va_up (va_up (va_up (va_up F 0 (0)) 5 ((n : Int))) 7 ((t : Int))) 38 ((k_40 : Int))), (va_up (va_up (va_up (va_up (va_up Ar 3 (cI (n) v gv)) 34 (cI (1000) o_40 go_40)) 35 fo_40) 36 la_40) 37 (cI (k_40) u_40 gu_40)))) dX7_agree_53 rfl ⟨by (unfold Sp_agree; rw [if_pos (by omega)]; (try simp only [Int.toNat_natCast, zt1]); first | done | trivial | rfl | omega | (rw [if_pos (by omega)]; first | done | trivial | rfl | omega) | (rw [if_neg (by omega)]; first | done | trivial | rfl | omega)), by exact ⟨rfl, rfl, rfl, rfl, rfl, rfl, rfl, rfl, rfl, rfl, rfl, rfl, rfl, rfl, rfl, rfl⟩⟩ rfl (Nat.le_refl _) (Nat.le_refl _)
      · -- 45f
        refine z_iconst hC 48 dX7_agree_48 ?_
        refine z_goto hC 49 53 dX7_agree_49 rfl ?_
        -- R53.2
        exact z_iret hC hH hQ 53 ((1, (va_up (va_up (va_up (va_up F 0 (0)) 5 ((n : Int))) 7 ((t : Int))) 38 ((k_40 : Int))), (va_up (va_up (va_up (va_up (va_up Ar 3 (cI (n) v gv)) 34 (cI (1000) o_40 go_40)) 35 fo_40) 36 la_40) 37 (cI (k_40) u_40 gu_40)))) dX7_agree_53 rfl ⟨by (unfold Sp_agree; rw [if_pos (by omega)]; (try simp only [Int.toNat_natCast, zt1]); first | done | trivial | rfl | omega | (rw [if_pos (by omega)]; first | done | trivial | rfl | omega) | (rw [if_neg (by omega)]; first | done | trivial | rfl | omega)), by exact ⟨rfl, rfl, rfl, rfl, rfl, rfl, rfl, rfl, rfl, rfl, rfl, rfl, rfl, rfl, rfl, rfl⟩⟩ rfl (Nat.le_refl _) (Nat.le_refl _)
    · -- 19=0
      refine z_if_ne_f hC 22 27 dX7_agree_22 rfl (by omega) (by omega) ?_
      refine z_iconst hC 25 dX7_agree_25 ?_
      -- R26.3
      exact z_iret hC hH hQ 26 (((-1), (va_up (va_up (va_up F 0 (0)) 5 ((n : Int))) 7 ((t : Int))), (va_up Ar 3 (cI (n) v gv)))) dX7_agree_26 rfl ⟨by first | (unfold Sp_agree; rw [if_neg (by omega)]) | (unfold Sp_agree; rw [if_pos (by omega)]), by exact ⟨rfl, rfl, rfl, rfl, rfl, rfl, rfl, rfl, rfl, rfl, rfl, rfl, rfl, rfl, rfl, rfl⟩⟩ rfl (Nat.le_refl _) (Nat.le_refl _)
  · -- 8=0
    refine z_if_eq_t hC 11 25 dX7_agree_11 rfl (by omega) (by omega) ?_
    refine z_iconst hC 25 dX7_agree_25 ?_
    -- R26.4
    exact z_iret hC hH hQ 26 (((-1), (va_up (va_up (va_up F 0 (0)) 5 ((n : Int))) 7 ((t : Int))), (va_up Ar 3 (cI (n) v gv)))) dX7_agree_26 rfl ⟨by first | (unfold Sp_agree; rw [if_neg (by omega)]) | (unfold Sp_agree; rw [if_pos (by omega)]), by exact ⟨rfl, rfl, rfl, rfl, rfl, rfl, rfl, rfl, rfl, rfl, rfl, rfl, rfl, rfl, rfl, rfl⟩⟩ rfl (Nat.le_refl _) (Nat.le_refl _)

set_option maxHeartbeats 4000000 in
set_option maxRecDepth 100000 in
theorem m_X7_peeled (lau : Launch) (s0 : State) (G : zG) (sz : Nat) (ad : Nat → Nat) (F : Nat → Int) (Ar : Nat → Nat → Int) (n : Nat) (v : Nat → Nat) (gv : Nat → Int) (t : Nat) (l : Int) (r : Int) (k0 : Int) (hn : n ≤ 120) (hv : ∀ i, i < n → v i < 1000) (ht : t < 4) (hr_l : -2147483648 ≤ l ∧ l < 2147483648) (hr_r : -2147483648 ≤ r ∧ r < 2147483648) (hr_k0 : -2147483648 ≤ k0 ∧ k0 < 2147483648) : zMet (S := Int × (Nat → Int) × (Nat → Nat → Int)) lau yX7_peeled cX7_peeled 6 (some .int) 3 70 0 0 s0 G sz [.ref (ad 0), .int (iZ (l)), .int (iZ (r)), .int (iZ (k0))] (mW ad G (va_up (va_up F 5 ((n : Int))) 7 ((t : Int))) (va_up Ar 3 (cI (n) v gv))) (fun ((r_, F2, A2) : Int × (Nat → Int) × (Nat → Nat → Int)) => some (.int (iZ (r_)))) (fun ((r_, F2, A2) : Int × (Nat → Int) × (Nat → Nat → Int)) => (Sp_peeled n v t l r k0 r_) ∧ (MK (va_up (va_up F 5 ((n : Int))) 7 ((t : Int))) (va_up Ar 3 (cI (n) v gv)) F2 A2)) (fun ((r_, F2, A2) : Int × (Nat → Int) × (Nat → Nat → Int)) => (mW ad G F2 A2)) := by
  refine zMet.of (by decide) (Nat.le_of_ble_eq_true rfl) ?_
  intro pg ev s1 mi ar bl me cd ls Q as0 hC hH hl hQ hsz
  generalize s1.heap = H at hH ⊢
  generalize ([] : List Loc) = locs at hH ⊢
  have hl : lv_has ls 6 [(0, .ref (ad 0)), (1, .int (iZ (l))), (2, .int (iZ (r))), (3, .int (iZ (k0)))] := hl
  refine z_aload_n hC 0 hl dX7_peeled_0 rfl 0 rfl ?_
  refine z_iconst hC 1 dX7_peeled_1 ?_
  refine pmW_0 hC hH 2 dX7_peeled_2 (fun H locs hH => ?_)
  have hH : zH s0 s1 G as0 (mW ad G (va_up (va_up (va_up F 0 (0)) 5 ((n : Int))) 7 ((t : Int))) (va_up Ar 3 (cI (n) v gv))) H locs := hH
  refine z_aload_n hC 5 hl dX7_peeled_5 rfl 0 rfl ?_
  refine z_iload_n hC 6 hl dX7_peeled_6 rfl 1 rfl ?_
  refine z_iload_n hC 7 hl dX7_peeled_7 rfl 2 rfl ?_
  refine z_same (z_runV hC hH.2.2 hl.1 hH.1 hH.2.1 2 (As := [.int (iZ (l)), .int (iZ (r))]) (rest := []) (m_X7_isSpan lau s0 G _ ad (va_up (va_up (va_up F 0 (0)) 5 ((n : Int))) 7 ((t : Int))) (va_up Ar 3 (cI (n) v gv)) n l r (by first | assumption | omega) (by first | assumption | omega) (by first | assumption | omega)) (lw_V q1712 q1714 qs68 q95 q1715) ⟨rfl, by decide, by decide, by decide +kernel⟩ (q0 := 0) (ci := 0) rfl rfl rfl rfl (Nat.le_of_ble_eq_true rfl) ⟨Nat.le_of_ble_eq_true rfl, Nat.le_of_ble_eq_true rfl⟩ ⟨Nat.le_of_ble_eq_true rfl, Nat.le_of_ble_eq_true rfl⟩ dX7_peeled_8) hH (fun r_8 H locs hpost hH => ?_)
  have hb_8 : (r_8 = 1 ∧ (0 ≤ l ∧ l ≤ r ∧ r < (n : Int))) ∨ (r_8 = 0 ∧ ¬ (0 ≤ l ∧ l ≤ r ∧ r < (n : Int))) := hpost
  have hH : zH s0 s1 G as0 (mW ad G (va_up (va_up (va_up F 0 (0)) 5 ((n : Int))) 7 ((t : Int))) (va_up Ar 3 (cI (n) v gv))) H locs := hH
  refine z_st (st' := [.int (iZ (r_8))]) rfl ?_
  rcases hb_8 with ⟨rfl, hb_8⟩ | ⟨rfl, hb_8⟩
  · -- 8=1
    refine z_if_eq_f hC 11 18 dX7_peeled_11 rfl (by omega) (by omega) ?_
    refine z_iload_n hC 14 hl dX7_peeled_14 rfl 3 rfl ?_
    refine z_if_ge hC 15 20 dX7_peeled_15 rfl (by omega) (fun hb1 => ?_) (fun hb1 => ?_)
    · -- 15t
      obtain ⟨l1, rfl⟩ := Int.eq_ofNat_of_zero_le (show 0 ≤ l by omega)
      obtain ⟨r1, rfl⟩ := Int.eq_ofNat_of_zero_le (show 0 ≤ r by omega)
      obtain ⟨k1, rfl⟩ := Int.eq_ofNat_of_zero_le (show 0 ≤ k0 by omega)
      refine z_aload_n hC 20 hl dX7_peeled_20 rfl 0 rfl ?_
      refine z_iload_n hC 21 hl dX7_peeled_21 rfl 1 rfl ?_
      refine z_iload_n hC 22 hl dX7_peeled_22 rfl 2 rfl ?_
      refine z_iconst hC 23 dX7_peeled_23 ?_
      refine z_st (st' := [.int (iZ ((-1))), .int (iZ (((r1 + 1 : Nat) : Int) - 1)), .int (iZ ((l1 : Int))), .ref (ad 0)]) (zcons rfl (zcons (zieq (by omega)) (zcons rfl rfl))) ?_
      refine z_same (z_runV hC hH.2.2 hl.1 hH.1 hH.2.1 3 (As := [.int (iZ ((l1 : Int))), .int (iZ (((r1 + 1 : Nat) : Int) - 1)), .int (iZ ((-1)))]) (rest := []) (m_X7_counts lau s0 G _ ad (va_up (va_up (va_up F 0 (0)) 5 ((n : Int))) 7 ((t : Int))) (va_up Ar 3 (cI (n) v gv)) n v gv l1 (r1 + 1) (-1) v (by first | assumption | omega) (by first | assumption | omega) (by first | assumption | omega) (by first | assumption | omega) (by first | assumption | omega) (by exact fun i _ _ => ⟨fun q => by omega, fun _ => rfl⟩)) (lw_V q1764 q1766 qs73 q95 q1767) ⟨rfl, by decide, by decide, by decide +kernel⟩ (q0 := 0) (ci := 0) rfl rfl rfl rfl (Nat.le_of_ble_eq_true rfl) ⟨Nat.le_of_ble_eq_true rfl, Nat.le_of_ble_eq_true rfl⟩ ⟨Nat.le_of_ble_eq_true rfl, Nat.le_of_ble_eq_true rfl⟩ dX7_peeled_24) hH (fun u_ H locs hpost hH => ?_)
      obtain ⟨o_24, go_24, fo_24, la_24, k_24, u_24, gu_24⟩ := u_
      have pCO_24 : CO v l1 (r1 + 1) o_24 fo_24 la_24 k_24 u_24 := hpost
      have hH : zH s0 s1 G as0 (mW ad G (va_up (va_up (va_up (va_up F 0 (0)) 5 ((n : Int))) 7 ((t : Int))) 38 ((k_24 : Int))) (va_up (va_up (va_up (va_up (va_up Ar 3 (cI (n) v gv)) 34 (cI (1000) o_24 go_24)) 35 fo_24) 36 la_24) 37 (cI (k_24) u_24 gu_24))) H locs := hH
      refine z_st (st' := []) rfl ?_
      have hof := fun i h => ofR_spec (t := t) pCO_24.2.2 (i := i) h
      have hds := EN_dst pCO_24.2.2
      have hkk := pCO_24.2.2.1
      refine z_iload_n hC 27 hl dX7_peeled_27 rfl 3 rfl ?_
      refine z_aload_n hC 28 hl dX7_peeled_28 rfl 0 rfl ?_
      refine gmW_38 (x := (k_24 : Int)) hC hH 29 rfl dX7_peeled_29 ?_
      refine z_icmp_le hC 32 38 dX7_peeled_32 rfl (by omega) (by omega) (fun hb2 => ?_) (fun hb2 => ?_)
      · -- 32t
        refine z_iload_n hC 38 hl dX7_peeled_38 rfl 2 rfl ?_
        refine z_iload_n hC 39 hl dX7_peeled_39 rfl 1 rfl ?_
        refine z_isub (e := (r1 : Int) - (l1 : Int)) hC 40 dX7_peeled_40 rfl ?_
        refine z_iconst hC 41 dX7_peeled_41 ?_
        refine z_iadd (e := (r1 : Int) - (l1 : Int) + 1) hC 42 dX7_peeled_42 rfl ?_
        refine z_istore (lv' := [(4, .int (iZ ((r1 : Int) - (l1 : Int) + 1))), (0, .ref (ad 0)), (1, .int (iZ ((l1 : Int)))), (2, .int (iZ ((r1 : Int)))), (3, .int (iZ ((k1 : Int))))]) hC 43 hl dX7_peeled_43 (by decide) rfl (fun ls hl => ?_)
        refine z_iconst hC 45 dX7_peeled_45 ?_
        refine z_istore (lv' := [(5, .int (iZ (0))), (4, .int (iZ ((r1 : Int) - (l1 : Int) + 1))), (0, .ref (ad 0)), (1, .int (iZ ((l1 : Int)))), (2, .int (iZ ((r1 : Int)))), (3, .int (iZ ((k1 : Int))))]) hC 46 hl dX7_peeled_46 (by decide) rfl (fun ls hl => ?_)
        have L48 : ∀ (N_ : Nat) (i : Nat) (lf : Int) (H : Heap) (locs : List Loc) (ls : Array Slot), k1 - i < N_ → (i ≤ k1) → (lf = (r1 + 1 : Nat) - (l1 : Int) - (sm (fun i => cnt v l1 (r1 + 1) (ofR v l1 (r1 + 1) t i)) 0 i : Int)) → (-20000 ≤ lf ∧ lf ≤ 121 ∧ -(i : Int) * 120 ≤ lf) → zH s0 s1 G as0 (mW ad G (va_up (va_up (va_up (va_up F 0 (0)) 5 ((n : Int))) 7 ((t : Int))) 38 ((k_24 : Int))) (va_up (va_up (va_up (va_up (va_up Ar 3 (cI (n) v gv)) 34 (cI (1000) o_24 go_24)) 35 fo_24) 36 la_24) 37 (cI (k_24) u_24 gu_24))) H locs → lv_has ls 6 [(0, .ref (ad 0)), (1, .int (iZ ((l1 : Int)))), (2, .int (iZ ((r1 : Int)))), (3, .int (iZ ((k1 : Int)))), (4, .int (iZ (lf))), (5, .int (iZ ((i : Int))))] → W pg lau ev (zRm 3 0 0 70) s1 mi ar bl me cd H locs 0 0 Q (F0 mi 48 ls []) := by
          intro N_
          induction N_ with
          | zero => intro i lf H locs ls hd; exact absurd hd (Nat.not_lt_zero _)
          | succ N_ ih48 =>
            intro i lf H locs ls hd48 i48_1 ilf i48_3 hH hl
            refine z_iload hC 48 hl dX7_peeled_48 5 rfl ?_
            refine z_iload_n hC 50 hl dX7_peeled_50 rfl 3 rfl ?_
            refine z_icmp_ge hC 51 80 dX7_peeled_51 rfl (by omega) (by omega) (fun hb3 => ?_) (fun hb3 => ?_)
            · -- 51t
              have ei : (i) = k1 := by omega
              rw [ei] at ilf
              refine z_iload hC 80 hl dX7_peeled_80 4 rfl ?_
              -- R82.1
              exact z_iret hC hH hQ 82 ((lf, (va_up (va_up (va_up (va_up F 0 (0)) 5 ((n : Int))) 7 ((t : Int))) 38 ((k_24 : Int))), (va_up (va_up (va_up (va_up (va_up Ar 3 (cI (n) v gv)) 34 (cI (1000) o_24 go_24)) 35 fo_24) 36 la_24) 37 (cI (k_24) u_24 gu_24)))) dX7_peeled_82 rfl ⟨by (unfold Sp_peeled; rw [if_pos (by omega)]; (try simp only [Int.toNat_natCast, zt1]); first | done | trivial | rfl | omega | (rw [if_pos (by omega)]; first | done | trivial | rfl | omega) | (rw [if_neg (by omega)]; first | done | trivial | rfl | omega)), by exact ⟨rfl, rfl, rfl, rfl, rfl, rfl, rfl, rfl, rfl, rfl, rfl, rfl, rfl, rfl, rfl, rfl⟩⟩ rfl (Nat.le_refl _) (Nat.le_refl _)
            · -- 51f
              have hof1 := hof (i) (by omega)
              have ho1 := pCO_24.1 _ hof1.1
              have hc1 := cnt_le v l1 (r1 + 1) (ofR v l1 (r1 + 1) t (i))
              refine z_iload hC 54 hl dX7_peeled_54 4 rfl ?_
              refine z_aload_n hC 56 hl dX7_peeled_56 rfl 0 rfl ?_
              refine gmW_34 hC hH 57 dX7_peeled_57 ?_
              refine z_aload_n hC 60 hl dX7_peeled_60 rfl 0 rfl ?_
              refine z_iload hC 61 hl dX7_peeled_61 5 rfl ?_
              refine z_aload_n hC 63 hl dX7_peeled_63 rfl 0 rfl ?_
              refine gmW_7 (x := (t : Int)) hC hH 64 rfl dX7_peeled_64 ?_
              refine z_same (z_runV hC hH.2.2 hl.1 hH.1 hH.2.1 2 (As := [.int (iZ ((i : Int))), .int (iZ ((t : Int)))]) (rest := [.ref (ad 34), .int (iZ (lf))]) (m_X7_ofRank lau s0 G _ ad (va_up (va_up (va_up (va_up F 0 (0)) 5 ((n : Int))) 7 ((t : Int))) 38 ((k_24 : Int))) (va_up (va_up (va_up (va_up (va_up Ar 3 (cI (n) v gv)) 34 (cI (1000) o_24 go_24)) 35 fo_24) 36 la_24) 37 (cI (k_24) u_24 gu_24)) v l1 (r1 + 1) o_24 go_24 fo_24 la_24 k_24 u_24 gu_24 (i : Int) t (by first | assumption | omega) (by first | assumption | omega) (by first | assumption | omega) (by first | assumption | omega)) (lw_V q1784 q1786 qs77 q95 q1787) ⟨rfl, by decide, by decide, by decide +kernel⟩ (q0 := 0) (ci := 0) rfl rfl rfl rfl (Nat.le_of_ble_eq_true rfl) ⟨Nat.le_of_ble_eq_true rfl, Nat.le_of_ble_eq_true rfl⟩ ⟨Nat.le_of_ble_eq_true rfl, Nat.le_of_ble_eq_true rfl⟩ dX7_peeled_67) hH (fun r_67 H locs hpost hH => ?_)
              have p1_67 : (0 ≤ (i : Int) ∧ (i : Int) < k_24 ∧ r_67 = (ofR v l1 (r1 + 1) t (i : Int).toNat : Int)) ∨ (¬ (0 ≤ (i : Int) ∧ (i : Int) < k_24) ∧ r_67 = -1) := hpost
              have hH : zH s0 s1 G as0 (mW ad G (va_up (va_up (va_up (va_up F 0 (0)) 5 ((n : Int))) 7 ((t : Int))) 38 ((k_24 : Int))) (va_up (va_up (va_up (va_up (va_up Ar 3 (cI (n) v gv)) 34 (cI (1000) o_24 go_24)) 35 fo_24) 36 la_24) 37 (cI (k_24) u_24 gu_24))) H locs := hH
              refine z_st (st' := [.int (iZ (r_67)), .ref (ad 34), .int (iZ (lf))]) rfl ?_
              obtain rfl : r_67 = ((ofR v l1 (r1 + 1) t i : Nat) : Int) := (p1_67.resolve_right (fun q => by omega)).2.2
              refine lmW_34 (x := ((o_24 (ofR v l1 (r1 + 1) t i) : Nat) : Int)) hC hH 70 ((ofR v l1 (r1 + 1) t i)) (by omega) (by omega) (cI_lt (by omega)) dX7_peeled_70 ?_
              refine z_isub (e := lf - ((o_24 (ofR v l1 (r1 + 1) t i) : Nat) : Int)) hC 71 dX7_peeled_71 rfl ?_
              refine z_istore (lv' := [(4, .int (iZ (lf - ((o_24 (ofR v l1 (r1 + 1) t i) : Nat) : Int)))), (0, .ref (ad 0)), (1, .int (iZ ((l1 : Int)))), (2, .int (iZ ((r1 : Int)))), (3, .int (iZ ((k1 : Int)))), (5, .int (iZ ((i : Int))))]) hC 72 hl dX7_peeled_72 (by decide) rfl (fun ls hl => ?_)
              refine z_iinc (lv' := [(5, .int (iZ ((i : Int) + 1))), (4, .int (iZ (lf - ((o_24 (ofR v l1 (r1 + 1) t i) : Nat) : Int)))), (0, .ref (ad 0)), (1, .int (iZ ((l1 : Int)))), (2, .int (iZ ((r1 : Int)))), (3, .int (iZ ((k1 : Int))))]) hC 74 hl dX7_peeled_74 5 rfl (by omega) (by decide) rfl (fun ls hl => ?_)
              refine z_goto hC 77 48 dX7_peeled_77 rfl ?_
              -- J48.2
              exact ih48 (i + 1) (lf - ((o_24 (ofR v l1 (r1 + 1) t i) : Nat) : Int)) _ _ _ (by omega) (by first | assumption | omega) (by first | (rw [sm_0 _ (Nat.le_refl 0)]; omega) | (rw [sm_succ _ (Nat.zero_le _)]; omega)) (by first | assumption | omega) hH (z_lv (lv_sub hl [2, 3, 4, 5, 1, 0] rfl) (zcons rfl (zcons rfl (zcons rfl (zcons rfl (zcons (zpeq (by omega)) (zcons (zpeq (by omega)) rfl)))))))
        -- J48.3
        exact L48 _ 0 ((r1 : Int) - (l1 : Int) + 1) _ _ _ (Nat.lt_succ_self _) (by first | assumption | omega) (by first | (rw [sm_0 _ (Nat.le_refl 0)]; omega) | (rw [sm_succ _ (Nat.zero_le _)]; omega)) (by first | assumption | omega) hH (z_lv (lv_sub hl [2, 3, 4, 5, 1, 0] rfl) (zcons rfl (zcons rfl (zcons rfl (zcons rfl (zcons (zpeq (by omega)) (zcons (zpeq (by omega)) rfl)))))))
      · -- 32f
        refine z_bipush hC 35 dX7_peeled_35 rfl ?_
        -- R37.4
        exact z_iret hC hH hQ 37 (((-2), (va_up (va_up (va_up (va_up F 0 (0)) 5 ((n : Int))) 7 ((t : Int))) 38 ((k_24 : Int))), (va_up (va_up (va_up (va_up (va_up Ar 3 (cI (n) v gv)) 34 (cI (1000) o_24 go_24)) 35 fo_24) 36 la_24) 37 (cI (k_24) u_24 gu_24)))) dX7_peeled_37 rfl ⟨by (unfold Sp_peeled; rw [if_pos (by omega)]; (try simp only [Int.toNat_natCast, zt1]); first | done | trivial | rfl | omega | (rw [if_pos (by omega)]; first | done | trivial | rfl | omega) | (rw [if_neg (by omega)]; first | done | trivial | rfl | omega)), by exact ⟨rfl, rfl, rfl, rfl, rfl, rfl, rfl, rfl, rfl, rfl, rfl, rfl, rfl, rfl, rfl, rfl⟩⟩ rfl (Nat.le_refl _) (Nat.le_refl _)
    · -- 15f
      refine z_iconst hC 18 dX7_peeled_18 ?_
      -- R19.5
      exact z_iret hC hH hQ 19 (((-1), (va_up (va_up (va_up F 0 (0)) 5 ((n : Int))) 7 ((t : Int))), (va_up Ar 3 (cI (n) v gv)))) dX7_peeled_19 rfl ⟨by first | (unfold Sp_peeled; rw [if_neg (by omega)]) | (unfold Sp_peeled; rw [if_pos (by omega)]), by exact ⟨rfl, rfl, rfl, rfl, rfl, rfl, rfl, rfl, rfl, rfl, rfl, rfl, rfl, rfl, rfl, rfl⟩⟩ rfl (Nat.le_refl _) (Nat.le_refl _)
  · -- 8=0
    refine z_if_eq_t hC 11 18 dX7_peeled_11 rfl (by omega) (by omega) ?_
    refine z_iconst hC 18 dX7_peeled_18 ?_
    -- R19.6
    exact z_iret hC hH hQ 19 (((-1), (va_up (va_up (va_up F 0 (0)) 5 ((n : Int))) 7 ((t : Int))), (va_up Ar 3 (cI (n) v gv)))) dX7_peeled_19 rfl ⟨by first | (unfold Sp_peeled; rw [if_neg (by omega)]) | (unfold Sp_peeled; rw [if_pos (by omega)]), by exact ⟨rfl, rfl, rfl, rfl, rfl, rfl, rfl, rfl, rfl, rfl, rfl, rfl, rfl, rfl, rfl, rfl⟩⟩ rfl (Nat.le_refl _) (Nat.le_refl _)

set_option maxHeartbeats 4000000 in
set_option maxRecDepth 100000 in
theorem m_X7_ifTies (lau : Launch) (s0 : State) (G : zG) (sz : Nat) (ad : Nat → Nat) (F : Nat → Int) (Ar : Nat → Nat → Int) (n : Nat) (v : Nat → Nat) (gv : Nat → Int) (t : Nat) (ti : Int) (l : Int) (r : Int) (hn : n ≤ 120) (hv : ∀ i, i < n → v i < 1000) (ht : t < 4) (hr_ti : -2147483648 ≤ ti ∧ ti < 2147483648) (hr_l : -2147483648 ≤ l ∧ l < 2147483648) (hr_r : -2147483648 ≤ r ∧ r < 2147483648) : zMet (S := Int × (Nat → Int) × (Nat → Nat → Int)) lau yX7_ifTies cX7_ifTies 4 (some .int) 2 46 0 0 s0 G sz [.ref (ad 0), .int (iZ (ti)), .int (iZ (l)), .int (iZ (r))] (mW ad G (va_up (va_up F 5 ((n : Int))) 7 ((t : Int))) (va_up Ar 3 (cI (n) v gv))) (fun ((r_, F2, A2) : Int × (Nat → Int) × (Nat → Nat → Int)) => some (.int (iZ (r_)))) (fun ((r_, F2, A2) : Int × (Nat → Int) × (Nat → Nat → Int)) => (Sp_ifTies n v ti l r r_) ∧ (MK (va_up (va_up F 5 ((n : Int))) 7 ((t : Int))) (va_up Ar 3 (cI (n) v gv)) F2 A2)) (fun ((r_, F2, A2) : Int × (Nat → Int) × (Nat → Nat → Int)) => (mW ad G F2 A2)) := by
  refine zMet.of (by decide) (Nat.le_of_ble_eq_true rfl) ?_
  intro pg ev s1 mi ar bl me cd ls Q as0 hC hH hl hQ hsz
  generalize s1.heap = H at hH ⊢
  generalize ([] : List Loc) = locs at hH ⊢
  have hl : lv_has ls 4 [(0, .ref (ad 0)), (1, .int (iZ (ti))), (2, .int (iZ (l))), (3, .int (iZ (r)))] := hl
  refine z_aload_n hC 0 hl dX7_ifTies_0 rfl 0 rfl ?_
  refine z_iconst hC 1 dX7_ifTies_1 ?_
  refine pmW_0 hC hH 2 dX7_ifTies_2 (fun H locs hH => ?_)
  have hH : zH s0 s1 G as0 (mW ad G (va_up (va_up (va_up F 0 (0)) 5 ((n : Int))) 7 ((t : Int))) (va_up Ar 3 (cI (n) v gv))) H locs := hH
  refine z_iload_n hC 5 hl dX7_ifTies_5 rfl 1 rfl ?_
  refine z_if_lt hC 6 23 dX7_ifTies_6 rfl (by omega) (fun hb1 => ?_) (fun hb1 => ?_)
  · -- 6t
    refine z_iconst hC 23 dX7_ifTies_23 ?_
    -- R24.1
    exact z_iret hC hH hQ 24 (((-1), (va_up (va_up (va_up F 0 (0)) 5 ((n : Int))) 7 ((t : Int))), (va_up Ar 3 (cI (n) v gv)))) dX7_ifTies_24 rfl ⟨by first | (unfold Sp_ifTies; rw [if_neg (by omega)]) | (unfold Sp_ifTies; rw [if_pos (by omega)]), by exact ⟨rfl, rfl, rfl, rfl, rfl, rfl, rfl, rfl, rfl, rfl, rfl, rfl, rfl, rfl, rfl, rfl⟩⟩ rfl (Nat.le_refl _) (Nat.le_refl _)
  · -- 6f
    refine z_iload_n hC 9 hl dX7_ifTies_9 rfl 1 rfl ?_
    refine z_iconst hC 10 dX7_ifTies_10 ?_
    refine z_icmp_gt hC 11 23 dX7_ifTies_11 rfl (by omega) (by omega) (fun hb2 => ?_) (fun hb2 => ?_)
    · -- 11t
      refine z_iconst hC 23 dX7_ifTies_23 ?_
      -- R24.2
      exact z_iret hC hH hQ 24 (((-1), (va_up (va_up (va_up F 0 (0)) 5 ((n : Int))) 7 ((t : Int))), (va_up Ar 3 (cI (n) v gv)))) dX7_ifTies_24 rfl ⟨by first | (unfold Sp_ifTies; rw [if_neg (by omega)]) | (unfold Sp_ifTies; rw [if_pos (by omega)]), by exact ⟨rfl, rfl, rfl, rfl, rfl, rfl, rfl, rfl, rfl, rfl, rfl, rfl, rfl, rfl, rfl, rfl⟩⟩ rfl (Nat.le_refl _) (Nat.le_refl _)
    · -- 11f
      refine z_aload_n hC 14 hl dX7_ifTies_14 rfl 0 rfl ?_
      refine z_iload_n hC 15 hl dX7_ifTies_15 rfl 2 rfl ?_
      refine z_iload_n hC 16 hl dX7_ifTies_16 rfl 3 rfl ?_
      refine z_same (z_runV hC hH.2.2 hl.1 hH.1 hH.2.1 2 (As := [.int (iZ (l)), .int (iZ (r))]) (rest := []) (m_X7_isSpan lau s0 G _ ad (va_up (va_up (va_up F 0 (0)) 5 ((n : Int))) 7 ((t : Int))) (va_up Ar 3 (cI (n) v gv)) n l r (by first | assumption | omega) (by first | assumption | omega) (by first | assumption | omega)) (lw_V q1712 q1714 qs68 q95 q1715) ⟨rfl, by decide, by decide, by decide +kernel⟩ (q0 := 0) (ci := 0) rfl rfl rfl rfl (Nat.le_of_ble_eq_true rfl) ⟨Nat.le_of_ble_eq_true rfl, Nat.le_of_ble_eq_true rfl⟩ ⟨Nat.le_of_ble_eq_true rfl, Nat.le_of_ble_eq_true rfl⟩ dX7_ifTies_17) hH (fun r_17 H locs hpost hH => ?_)
      have hb_17 : (r_17 = 1 ∧ (0 ≤ l ∧ l ≤ r ∧ r < (n : Int))) ∨ (r_17 = 0 ∧ ¬ (0 ≤ l ∧ l ≤ r ∧ r < (n : Int))) := hpost
      have hH : zH s0 s1 G as0 (mW ad G (va_up (va_up (va_up F 0 (0)) 5 ((n : Int))) 7 ((t : Int))) (va_up Ar 3 (cI (n) v gv))) H locs := hH
      refine z_st (st' := [.int (iZ (r_17))]) rfl ?_
      rcases hb_17 with ⟨rfl, hb_17⟩ | ⟨rfl, hb_17⟩
      · -- 17=1
        refine z_if_ne_t hC 20 25 dX7_ifTies_20 rfl (by omega) (by omega) ?_
        obtain ⟨ti1, rfl⟩ := Int.eq_ofNat_of_zero_le (show 0 ≤ ti by omega)
        obtain ⟨l1, rfl⟩ := Int.eq_ofNat_of_zero_le (show 0 ≤ l by omega)
        obtain ⟨r1, rfl⟩ := Int.eq_ofNat_of_zero_le (show 0 ≤ r by omega)
        refine z_aload_n hC 25 hl dX7_ifTies_25 rfl 0 rfl ?_
        refine z_iload_n hC 26 hl dX7_ifTies_26 rfl 2 rfl ?_
        refine z_iload_n hC 27 hl dX7_ifTies_27 rfl 3 rfl ?_
        refine z_iconst hC 28 dX7_ifTies_28 ?_
        refine z_st (st' := [.int (iZ ((-1))), .int (iZ (((r1 + 1 : Nat) : Int) - 1)), .int (iZ ((l1 : Int))), .ref (ad 0)]) (zcons rfl (zcons (zieq (by omega)) (zcons rfl rfl))) ?_
        refine z_same (z_runV hC hH.2.2 hl.1 hH.1 hH.2.1 3 (As := [.int (iZ ((l1 : Int))), .int (iZ (((r1 + 1 : Nat) : Int) - 1)), .int (iZ ((-1)))]) (rest := []) (m_X7_counts lau s0 G _ ad (va_up (va_up (va_up F 0 (0)) 5 ((n : Int))) 7 ((t : Int))) (va_up Ar 3 (cI (n) v gv)) n v gv l1 (r1 + 1) (-1) v (by first | assumption | omega) (by first | assumption | omega) (by first | assumption | omega) (by first | assumption | omega) (by first | assumption | omega) (by exact fun i _ _ => ⟨fun q => by omega, fun _ => rfl⟩)) (lw_V q1764 q1766 qs73 q95 q1767) ⟨rfl, by decide, by decide, by decide +kernel⟩ (q0 := 0) (ci := 0) rfl rfl rfl rfl (Nat.le_of_ble_eq_true rfl) ⟨Nat.le_of_ble_eq_true rfl, Nat.le_of_ble_eq_true rfl⟩ ⟨Nat.le_of_ble_eq_true rfl, Nat.le_of_ble_eq_true rfl⟩ dX7_ifTies_29) hH (fun u_ H locs hpost hH => ?_)
        obtain ⟨o_29, go_29, fo_29, la_29, k_29, u_29, gu_29⟩ := u_
        have pCO_29 : CO v l1 (r1 + 1) o_29 fo_29 la_29 k_29 u_29 := hpost
        have hH : zH s0 s1 G as0 (mW ad G (va_up (va_up (va_up (va_up F 0 (0)) 5 ((n : Int))) 7 ((t : Int))) 38 ((k_29 : Int))) (va_up (va_up (va_up (va_up (va_up Ar 3 (cI (n) v gv)) 34 (cI (1000) o_29 go_29)) 35 fo_29) 36 la_29) 37 (cI (k_29) u_29 gu_29))) H locs := hH
        refine z_st (st' := []) rfl ?_
        have hk0 := CO_kpos pCO_29 (Nat.le_refl l1) (by omega) (hv l1 (by omega))
        refine z_aload_n hC 32 hl dX7_ifTies_32 rfl 0 rfl ?_
        refine z_iload_n hC 33 hl dX7_ifTies_33 rfl 1 rfl ?_
        refine z_same (z_runV hC hH.2.2 hl.1 hH.1 hH.2.1 1 (As := [.int (iZ ((ti1 : Int)))]) (rest := []) (m_X7_modeBy lau s0 G _ ad (va_up (va_up (va_up (va_up F 0 (0)) 5 ((n : Int))) 7 ((t : Int))) 38 ((k_29 : Int))) (va_up (va_up (va_up (va_up (va_up Ar 3 (cI (n) v gv)) 34 (cI (1000) o_29 go_29)) 35 fo_29) 36 la_29) 37 (cI (k_29) u_29 gu_29)) v l1 (r1 + 1) o_29 go_29 fo_29 la_29 k_29 u_29 gu_29 ti1 (by first | assumption | omega) (by first | assumption | omega) (by first | assumption | omega)) (lw_V q1768 q1770 qs74 q95 q1771) ⟨rfl, by decide, by decide, by decide +kernel⟩ (q0 := 0) (ci := 0) rfl rfl rfl rfl (Nat.le_of_ble_eq_true rfl) ⟨Nat.le_of_ble_eq_true rfl, Nat.le_of_ble_eq_true rfl⟩ ⟨Nat.le_of_ble_eq_true rfl, Nat.le_of_ble_eq_true rfl⟩ dX7_ifTies_34) hH (fun r_34 H locs hpost hH => ?_)
        have p1_34 : (k_29 = 0 ∧ r_34 = -1) ∨ (0 < k_29 ∧ r_34 = (md v l1 (r1 + 1) ti1 : Int)) := hpost
        have hH : zH s0 s1 G as0 (mW ad G (va_up (va_up (va_up (va_up F 0 (0)) 5 ((n : Int))) 7 ((t : Int))) 38 ((k_29 : Int))) (va_up (va_up (va_up (va_up (va_up Ar 3 (cI (n) v gv)) 34 (cI (1000) o_29 go_29)) 35 fo_29) 36 la_29) 37 (cI (k_29) u_29 gu_29))) H locs := hH
        refine z_st (st' := [.int (iZ (r_34))]) rfl ?_
        -- R37.3
        exact z_iret hC hH hQ 37 ((r_34, (va_up (va_up (va_up (va_up F 0 (0)) 5 ((n : Int))) 7 ((t : Int))) 38 ((k_29 : Int))), (va_up (va_up (va_up (va_up (va_up Ar 3 (cI (n) v gv)) 34 (cI (1000) o_29 go_29)) 35 fo_29) 36 la_29) 37 (cI (k_29) u_29 gu_29)))) dX7_ifTies_37 rfl ⟨by (unfold Sp_ifTies; rw [if_pos (by omega)]; (try simp only [Int.toNat_natCast, zt1]); first | done | trivial | rfl | omega | (rw [if_pos (by omega)]; first | done | trivial | rfl | omega) | (rw [if_neg (by omega)]; first | done | trivial | rfl | omega)), by exact ⟨rfl, rfl, rfl, rfl, rfl, rfl, rfl, rfl, rfl, rfl, rfl, rfl, rfl, rfl, rfl, rfl⟩⟩ rfl (Nat.le_refl _) (Nat.le_refl _)
      · -- 17=0
        refine z_if_ne_f hC 20 25 dX7_ifTies_20 rfl (by omega) (by omega) ?_
        refine z_iconst hC 23 dX7_ifTies_23 ?_
        -- R24.4
        exact z_iret hC hH hQ 24 (((-1), (va_up (va_up (va_up F 0 (0)) 5 ((n : Int))) 7 ((t : Int))), (va_up Ar 3 (cI (n) v gv)))) dX7_ifTies_24 rfl ⟨by first | (unfold Sp_ifTies; rw [if_neg (by omega)]) | (unfold Sp_ifTies; rw [if_pos (by omega)]), by exact ⟨rfl, rfl, rfl, rfl, rfl, rfl, rfl, rfl, rfl, rfl, rfl, rfl, rfl, rfl, rfl, rfl⟩⟩ rfl (Nat.le_refl _) (Nat.le_refl _)

set_option maxHeartbeats 4000000 in
set_option maxRecDepth 100000 in
theorem m_X7_ifOut (lau : Launch) (s0 : State) (G : zG) (sz : Nat) (ad : Nat → Nat) (F : Nat → Int) (Ar : Nat → Nat → Int) (n : Nat) (v : Nat → Nat) (gv : Nat → Int) (t : Nat) (p : Int) (l : Int) (r : Int) (hn : n ≤ 120) (hv : ∀ i, i < n → v i < 1000) (ht : t < 4) (hr_p : -2147483648 ≤ p ∧ p < 2147483648) (hr_l : -2147483648 ≤ l ∧ l < 2147483648) (hr_r : -2147483648 ≤ r ∧ r < 2147483648) : zMet (S := Int × (Nat → Int) × (Nat → Nat → Int)) lau yX7_ifOut cX7_ifOut 5 (some .int) 2 46 0 0 s0 G sz [.ref (ad 0), .int (iZ (p)), .int (iZ (l)), .int (iZ (r))] (mW ad G (va_up (va_up F 5 ((n : Int))) 7 ((t : Int))) (va_up Ar 3 (cI (n) v gv))) (fun ((r_, F2, A2) : Int × (Nat → Int) × (Nat → Nat → Int)) => some (.int (iZ (r_)))) (fun ((r_, F2, A2) : Int × (Nat → Int) × (Nat → Nat → Int)) => (Sp_ifOut n v t p l r r_) ∧ (MK (va_up (va_up F 5 ((n : Int))) 7 ((t : Int))) (va_up Ar 3 (cI (n) v gv)) F2 A2)) (fun ((r_, F2, A2) : Int × (Nat → Int) × (Nat → Nat → Int)) => (mW ad G F2 A2)) := by
  refine zMet.of (by decide) (Nat.le_of_ble_eq_true rfl) ?_
  intro pg ev s1 mi ar bl me cd ls Q as0 hC hH hl hQ hsz
  generalize s1.heap = H at hH ⊢
  generalize ([] : List Loc) = locs at hH ⊢
  have hl : lv_has ls 5 [(0, .ref (ad 0)), (1, .int (iZ (p))), (2, .int (iZ (l))), (3, .int (iZ (r)))] := hl
  refine z_aload_n hC 0 hl dX7_ifOut_0 rfl 0 rfl ?_
  refine z_iconst hC 1 dX7_ifOut_1 ?_
  refine pmW_0 hC hH 2 dX7_ifOut_2 (fun H locs hH => ?_)
  have hH : zH s0 s1 G as0 (mW ad G (va_up (va_up (va_up F 0 (0)) 5 ((n : Int))) 7 ((t : Int))) (va_up Ar 3 (cI (n) v gv))) H locs := hH
  refine z_aload_n hC 5 hl dX7_ifOut_5 rfl 0 rfl ?_
  refine z_iload_n hC 6 hl dX7_ifOut_6 rfl 2 rfl ?_
  refine z_iload_n hC 7 hl dX7_ifOut_7 rfl 3 rfl ?_
  refine z_same (z_runV hC hH.2.2 hl.1 hH.1 hH.2.1 2 (As := [.int (iZ (l)), .int (iZ (r))]) (rest := []) (m_X7_isSpan lau s0 G _ ad (va_up (va_up (va_up F 0 (0)) 5 ((n : Int))) 7 ((t : Int))) (va_up Ar 3 (cI (n) v gv)) n l r (by first | assumption | omega) (by first | assumption | omega) (by first | assumption | omega)) (lw_V q1712 q1714 qs68 q95 q1715) ⟨rfl, by decide, by decide, by decide +kernel⟩ (q0 := 0) (ci := 0) rfl rfl rfl rfl (Nat.le_of_ble_eq_true rfl) ⟨Nat.le_of_ble_eq_true rfl, Nat.le_of_ble_eq_true rfl⟩ ⟨Nat.le_of_ble_eq_true rfl, Nat.le_of_ble_eq_true rfl⟩ dX7_ifOut_8) hH (fun r_8 H locs hpost hH => ?_)
  have hb_8 : (r_8 = 1 ∧ (0 ≤ l ∧ l ≤ r ∧ r < (n : Int))) ∨ (r_8 = 0 ∧ ¬ (0 ≤ l ∧ l ≤ r ∧ r < (n : Int))) := hpost
  have hH : zH s0 s1 G as0 (mW ad G (va_up (va_up (va_up F 0 (0)) 5 ((n : Int))) 7 ((t : Int))) (va_up Ar 3 (cI (n) v gv))) H locs := hH
  refine z_st (st' := [.int (iZ (r_8))]) rfl ?_
  rcases hb_8 with ⟨rfl, hb_8⟩ | ⟨rfl, hb_8⟩
  · -- 8=1
    refine z_if_eq_f hC 11 24 dX7_ifOut_11 rfl (by omega) (by omega) ?_
    refine z_iload_n hC 14 hl dX7_ifOut_14 rfl 1 rfl ?_
    refine z_iload_n hC 15 hl dX7_ifOut_15 rfl 2 rfl ?_
    refine z_icmp_lt hC 16 24 dX7_ifOut_16 rfl (by omega) (by omega) (fun hb1 => ?_) (fun hb1 => ?_)
    · -- 16t
      refine z_iconst hC 24 dX7_ifOut_24 ?_
      -- R25.1
      exact z_iret hC hH hQ 25 (((-1), (va_up (va_up (va_up F 0 (0)) 5 ((n : Int))) 7 ((t : Int))), (va_up Ar 3 (cI (n) v gv)))) dX7_ifOut_25 rfl ⟨by first | (unfold Sp_ifOut; rw [if_neg (by omega)]) | (unfold Sp_ifOut; rw [if_pos (by omega)]), by exact ⟨rfl, rfl, rfl, rfl, rfl, rfl, rfl, rfl, rfl, rfl, rfl, rfl, rfl, rfl, rfl, rfl⟩⟩ rfl (Nat.le_refl _) (Nat.le_refl _)
    · -- 16f
      refine z_iload_n hC 19 hl dX7_ifOut_19 rfl 1 rfl ?_
      refine z_iload_n hC 20 hl dX7_ifOut_20 rfl 3 rfl ?_
      refine z_icmp_le hC 21 26 dX7_ifOut_21 rfl (by omega) (by omega) (fun hb2 => ?_) (fun hb2 => ?_)
      · -- 21t
        obtain ⟨l1, rfl⟩ := Int.eq_ofNat_of_zero_le (show 0 ≤ l by omega)
        obtain ⟨r1, rfl⟩ := Int.eq_ofNat_of_zero_le (show 0 ≤ r by omega)
        obtain ⟨p1, rfl⟩ := Int.eq_ofNat_of_zero_le (show 0 ≤ p by omega)
        refine z_aload_n hC 26 hl dX7_ifOut_26 rfl 0 rfl ?_
        refine z_iload_n hC 27 hl dX7_ifOut_27 rfl 2 rfl ?_
        refine z_iload_n hC 28 hl dX7_ifOut_28 rfl 3 rfl ?_
        refine z_iload_n hC 29 hl dX7_ifOut_29 rfl 1 rfl ?_
        refine z_st (st' := [.int (iZ ((p1 : Int))), .int (iZ (((r1 + 1 : Nat) : Int) - 1)), .int (iZ ((l1 : Int))), .ref (ad 0)]) (zcons rfl (zcons (zieq (by omega)) (zcons rfl rfl))) ?_
        refine z_same (z_runV hC hH.2.2 hl.1 hH.1 hH.2.1 3 (As := [.int (iZ ((l1 : Int))), .int (iZ (((r1 + 1 : Nat) : Int) - 1)), .int (iZ ((p1 : Int)))]) (rest := []) (m_X7_counts lau s0 G _ ad (va_up (va_up (va_up F 0 (0)) 5 ((n : Int))) 7 ((t : Int))) (va_up Ar 3 (cI (n) v gv)) n v gv l1 (r1 + 1) (p1 : Int) (va_up v p1 1000) (by first | assumption | omega) (by first | assumption | omega) (by first | assumption | omega) (by first | assumption | omega) (by first | assumption | omega) (by intro i q1 q2; refine ⟨fun q => ?_, fun q => ?_⟩; (· rw [show i = p1 by omega, va_up_self]; exact Nat.le_refl _); (· exact va_up_ne _ _ (by omega)))) (lw_V q1764 q1766 qs73 q95 q1767) ⟨rfl, by decide, by decide, by decide +kernel⟩ (q0 := 0) (ci := 0) rfl rfl rfl rfl (Nat.le_of_ble_eq_true rfl) ⟨Nat.le_of_ble_eq_true rfl, Nat.le_of_ble_eq_true rfl⟩ ⟨Nat.le_of_ble_eq_true rfl, Nat.le_of_ble_eq_true rfl⟩ dX7_ifOut_30) hH (fun u_ H locs hpost hH => ?_)
        obtain ⟨o_30, go_30, fo_30, la_30, k_30, u_30, gu_30⟩ := u_
        have pCO_30 : CO (va_up v p1 1000) l1 (r1 + 1) o_30 fo_30 la_30 k_30 u_30 := hpost
        have hH : zH s0 s1 G as0 (mW ad G (va_up (va_up (va_up (va_up F 0 (0)) 5 ((n : Int))) 7 ((t : Int))) 38 ((k_30 : Int))) (va_up (va_up (va_up (va_up (va_up Ar 3 (cI (n) v gv)) 34 (cI (1000) o_30 go_30)) 35 fo_30) 36 la_30) 37 (cI (k_30) u_30 gu_30))) H locs := hH
        refine z_st (st' := []) rfl ?_
        have hk0 : l1 = r1 ∨ 0 < k_30 := by by_cases e : l1 = r1; (· exact Or.inl e); (· right; by_cases e2 : p1 = l1; (· exact CO_kpos pCO_30 (show l1 ≤ r1 by omega) (by omega) (by rw [va_up_ne _ _ (by omega)]; exact hv r1 (by omega))); (· exact CO_kpos pCO_30 (Nat.le_refl l1) (by omega) (by rw [va_up_ne _ _ (by omega)]; exact hv l1 (by omega))))
        have hk1 : l1 = r1 → k_30 = 0 := fun e => cnt_none_k pCO_30 (fun q q1 q2 => by rw [show q = p1 by omega, va_up_self]; exact Nat.le_refl _)
        have hml := md_lt_1000 (va_up v p1 1000) l1 (r1 + 1) t
        refine z_aload_n hC 33 hl dX7_ifOut_33 rfl 0 rfl ?_
        refine z_aload_n hC 34 hl dX7_ifOut_34 rfl 0 rfl ?_
        refine gmW_7 (x := (t : Int)) hC hH 35 rfl dX7_ifOut_35 ?_
        refine z_same (z_runV hC hH.2.2 hl.1 hH.1 hH.2.1 1 (As := [.int (iZ ((t : Int)))]) (rest := []) (m_X7_modeBy lau s0 G _ ad (va_up (va_up (va_up (va_up F 0 (0)) 5 ((n : Int))) 7 ((t : Int))) 38 ((k_30 : Int))) (va_up (va_up (va_up (va_up (va_up Ar 3 (cI (n) v gv)) 34 (cI (1000) o_30 go_30)) 35 fo_30) 36 la_30) 37 (cI (k_30) u_30 gu_30)) (va_up v p1 1000) l1 (r1 + 1) o_30 go_30 fo_30 la_30 k_30 u_30 gu_30 t (by first | assumption | omega) (by first | assumption | omega) (by first | assumption | omega)) (lw_V q1768 q1770 qs74 q95 q1771) ⟨rfl, by decide, by decide, by decide +kernel⟩ (q0 := 0) (ci := 0) rfl rfl rfl rfl (Nat.le_of_ble_eq_true rfl) ⟨Nat.le_of_ble_eq_true rfl, Nat.le_of_ble_eq_true rfl⟩ ⟨Nat.le_of_ble_eq_true rfl, Nat.le_of_ble_eq_true rfl⟩ dX7_ifOut_38) hH (fun r_38 H locs hpost hH => ?_)
        have p1_38 : (k_30 = 0 ∧ r_38 = -1) ∨ (0 < k_30 ∧ r_38 = (md (va_up v p1 1000) l1 (r1 + 1) t : Int)) := hpost
        have hH : zH s0 s1 G as0 (mW ad G (va_up (va_up (va_up (va_up F 0 (0)) 5 ((n : Int))) 7 ((t : Int))) 38 ((k_30 : Int))) (va_up (va_up (va_up (va_up (va_up Ar 3 (cI (n) v gv)) 34 (cI (1000) o_30 go_30)) 35 fo_30) 36 la_30) 37 (cI (k_30) u_30 gu_30))) H locs := hH
        refine z_st (st' := [.int (iZ (r_38))]) rfl ?_
        refine z_istore (lv' := [(4, .int (iZ (r_38))), (0, .ref (ad 0)), (1, .int (iZ ((p1 : Int)))), (2, .int (iZ ((l1 : Int)))), (3, .int (iZ ((r1 : Int))))]) hC 41 hl dX7_ifOut_41 (by decide) rfl (fun ls hl => ?_)
        refine z_iload hC 43 hl dX7_ifOut_43 0 rfl ?_
        refine z_iconst hC 45 dX7_ifOut_45 ?_
        refine z_icmp_ne hC 46 54 dX7_ifOut_46 rfl (by omega) (by omega) (fun hb3 => ?_) (fun hb3 => ?_)
        · -- 46t
          refine z_iload hC 54 hl dX7_ifOut_54 0 rfl ?_
          -- R56.2
          exact z_iret hC hH hQ 56 ((r_38, (va_up (va_up (va_up (va_up F 0 (0)) 5 ((n : Int))) 7 ((t : Int))) 38 ((k_30 : Int))), (va_up (va_up (va_up (va_up (va_up Ar 3 (cI (n) v gv)) 34 (cI (1000) o_30 go_30)) 35 fo_30) 36 la_30) 37 (cI (k_30) u_30 gu_30)))) dX7_ifOut_56 rfl ⟨by (unfold Sp_ifOut; rw [if_pos (by omega)]; (try simp only [Int.toNat_natCast, zt1]); first | done | trivial | rfl | omega | (rw [if_pos (by omega)]; first | done | trivial | rfl | omega | (rw [if_pos (by omega)]; first | done | trivial | rfl | omega) | (rw [if_neg (by omega)]; first | done | trivial | rfl | omega)) | (rw [if_neg (by omega)]; first | done | trivial | rfl | omega | (rw [if_pos (by omega)]; first | done | trivial | rfl | omega) | (rw [if_neg (by omega)]; first | done | trivial | rfl | omega))), by exact ⟨rfl, rfl, rfl, rfl, rfl, rfl, rfl, rfl, rfl, rfl, rfl, rfl, rfl, rfl, rfl, rfl⟩⟩ rfl (Nat.le_refl _) (Nat.le_refl _)
        · -- 46f
          refine z_bipush hC 49 dX7_ifOut_49 rfl ?_
          refine z_goto hC 51 56 dX7_ifOut_51 rfl ?_
          -- R56.3
          exact z_iret hC hH hQ 56 (((-2), (va_up (va_up (va_up (va_up F 0 (0)) 5 ((n : Int))) 7 ((t : Int))) 38 ((k_30 : Int))), (va_up (va_up (va_up (va_up (va_up Ar 3 (cI (n) v gv)) 34 (cI (1000) o_30 go_30)) 35 fo_30) 36 la_30) 37 (cI (k_30) u_30 gu_30)))) dX7_ifOut_56 rfl ⟨by (unfold Sp_ifOut; rw [if_pos (by omega)]; (try simp only [Int.toNat_natCast, zt1]); first | done | trivial | rfl | omega | (rw [if_pos (by omega)]; first | done | trivial | rfl | omega | (rw [if_pos (by omega)]; first | done | trivial | rfl | omega) | (rw [if_neg (by omega)]; first | done | trivial | rfl | omega)) | (rw [if_neg (by omega)]; first | done | trivial | rfl | omega | (rw [if_pos (by omega)]; first | done | trivial | rfl | omega) | (rw [if_neg (by omega)]; first | done | trivial | rfl | omega))), by exact ⟨rfl, rfl, rfl, rfl, rfl, rfl, rfl, rfl, rfl, rfl, rfl, rfl, rfl, rfl, rfl, rfl⟩⟩ rfl (Nat.le_refl _) (Nat.le_refl _)
      · -- 21f
        refine z_iconst hC 24 dX7_ifOut_24 ?_
        -- R25.4
        exact z_iret hC hH hQ 25 (((-1), (va_up (va_up (va_up F 0 (0)) 5 ((n : Int))) 7 ((t : Int))), (va_up Ar 3 (cI (n) v gv)))) dX7_ifOut_25 rfl ⟨by first | (unfold Sp_ifOut; rw [if_neg (by omega)]) | (unfold Sp_ifOut; rw [if_pos (by omega)]), by exact ⟨rfl, rfl, rfl, rfl, rfl, rfl, rfl, rfl, rfl, rfl, rfl, rfl, rfl, rfl, rfl, rfl⟩⟩ rfl (Nat.le_refl _) (Nat.le_refl _)
  · -- 8=0
    refine z_if_eq_t hC 11 24 dX7_ifOut_11 rfl (by omega) (by omega) ?_
    refine z_iconst hC 24 dX7_ifOut_24 ?_
    -- R25.5
    exact z_iret hC hH hQ 25 (((-1), (va_up (va_up (va_up F 0 (0)) 5 ((n : Int))) 7 ((t : Int))), (va_up Ar 3 (cI (n) v gv)))) dX7_ifOut_25 rfl ⟨by first | (unfold Sp_ifOut; rw [if_neg (by omega)]) | (unfold Sp_ifOut; rw [if_pos (by omega)]), by exact ⟨rfl, rfl, rfl, rfl, rfl, rfl, rfl, rfl, rfl, rfl, rfl, rfl, rfl, rfl, rfl, rfl⟩⟩ rfl (Nat.le_refl _) (Nat.le_refl _)

set_option maxHeartbeats 4000000 in
set_option maxRecDepth 100000 in
theorem m_X7_ifSet (lau : Launch) (s0 : State) (G : zG) (sz : Nat) (ad : Nat → Nat) (F : Nat → Int) (Ar : Nat → Nat → Int) (n : Nat) (v : Nat → Nat) (gv : Nat → Int) (t : Nat) (p : Int) (x : Int) (l : Int) (r : Int) (hn : n ≤ 120) (hv : ∀ i, i < n → v i < 1000) (ht : t < 4) (hr_p : -2147483648 ≤ p ∧ p < 2147483648) (hr_x : -2147483648 ≤ x ∧ x < 2147483648) (hr_l : -2147483648 ≤ l ∧ l < 2147483648) (hr_r : -2147483648 ≤ r ∧ r < 2147483648) : zMet (S := Int × (Nat → Int) × (Nat → Nat → Int)) lau yX7_ifSet cX7_ifSet 7 (some .int) 3 68 0 0 s0 G sz [.ref (ad 0), .int (iZ (p)), .int (iZ (x)), .int (iZ (l)), .int (iZ (r))] (mW ad G (va_up (va_up F 5 ((n : Int))) 7 ((t : Int))) (va_up Ar 3 (cI (n) v gv))) (fun ((r_, F2, A2) : Int × (Nat → Int) × (Nat → Nat → Int)) => some (.int (iZ (r_)))) (fun ((r_, F2, A2) : Int × (Nat → Int) × (Nat → Nat → Int)) => (Sp_ifSet n v t p x l r r_) ∧ (MK (va_up (va_up F 5 ((n : Int))) 7 ((t : Int))) (va_up Ar 3 (cI (n) v gv)) F2 A2)) (fun ((r_, F2, A2) : Int × (Nat → Int) × (Nat → Nat → Int)) => (mW ad G F2 A2)) := by
  refine zMet.of (by decide) (Nat.le_of_ble_eq_true rfl) ?_
  intro pg ev s1 mi ar bl me cd ls Q as0 hC hH hl hQ hsz
  generalize s1.heap = H at hH ⊢
  generalize ([] : List Loc) = locs at hH ⊢
  have hl : lv_has ls 7 [(0, .ref (ad 0)), (1, .int (iZ (p))), (2, .int (iZ (x))), (3, .int (iZ (l))), (4, .int (iZ (r)))] := hl
  refine z_aload_n hC 0 hl dX7_ifSet_0 rfl 0 rfl ?_
  refine z_iconst hC 1 dX7_ifSet_1 ?_
  refine pmW_0 hC hH 2 dX7_ifSet_2 (fun H locs hH => ?_)
  have hH : zH s0 s1 G as0 (mW ad G (va_up (va_up (va_up F 0 (0)) 5 ((n : Int))) 7 ((t : Int))) (va_up Ar 3 (cI (n) v gv))) H locs := hH
  refine z_aload_n hC 5 hl dX7_ifSet_5 rfl 0 rfl ?_
  refine z_iload_n hC 6 hl dX7_ifSet_6 rfl 1 rfl ?_
  refine z_same (z_runV hC hH.2.2 hl.1 hH.1 hH.2.1 1 (As := [.int (iZ (p))]) (rest := []) (m_X7_isPlace lau s0 G _ ad (va_up (va_up (va_up F 0 (0)) 5 ((n : Int))) 7 ((t : Int))) (va_up Ar 3 (cI (n) v gv)) n p (by first | assumption | omega) (by first | assumption | omega)) (lw_V q1641 q1643 qs57 q95 q1644) ⟨rfl, by decide, by decide, by decide +kernel⟩ (q0 := 0) (ci := 0) rfl rfl rfl rfl (Nat.le_of_ble_eq_true rfl) ⟨Nat.le_of_ble_eq_true rfl, Nat.le_of_ble_eq_true rfl⟩ ⟨Nat.le_of_ble_eq_true rfl, Nat.le_of_ble_eq_true rfl⟩ dX7_ifSet_7) hH (fun r_7 H locs hpost hH => ?_)
  have hb_7 : (r_7 = 1 ∧ (0 ≤ p ∧ p < (n : Int))) ∨ (r_7 = 0 ∧ ¬ (0 ≤ p ∧ p < (n : Int))) := hpost
  have hH : zH s0 s1 G as0 (mW ad G (va_up (va_up (va_up F 0 (0)) 5 ((n : Int))) 7 ((t : Int))) (va_up Ar 3 (cI (n) v gv))) H locs := hH
  refine z_st (st' := [.int (iZ (r_7))]) rfl ?_
  rcases hb_7 with ⟨rfl, hb_7⟩ | ⟨rfl, hb_7⟩
  · -- 7=1
    refine z_if_eq_f hC 10 30 dX7_ifSet_10 rfl (by omega) (by omega) ?_
    refine z_iload_n hC 13 hl dX7_ifSet_13 rfl 2 rfl ?_
    refine z_same (z_runS hC hH.2.2 hl.1 hH.1 hH.2.1 1 (As := [.int (iZ (x))]) (rest := []) (m_X7_isValue lau s0 G _ ad (va_up (va_up (va_up F 0 (0)) 5 ((n : Int))) 7 ((t : Int))) (va_up Ar 3 (cI (n) v gv)) x (by first | assumption | omega)) (lw_S q1677 q1678 q95 q1679) ⟨by decide, by decide, by decide +kernel⟩ rfl rfl (Nat.le_of_ble_eq_true rfl) ⟨Nat.le_of_ble_eq_true rfl, Nat.le_of_ble_eq_true rfl⟩ ⟨Nat.le_of_ble_eq_true rfl, Nat.le_of_ble_eq_true rfl⟩ dX7_ifSet_14) hH (fun r_14 H locs hpost hH => ?_)
    have hb_14 : (r_14 = 1 ∧ (0 ≤ x ∧ x < 1000)) ∨ (r_14 = 0 ∧ ¬ (0 ≤ x ∧ x < 1000)) := hpost
    have hH : zH s0 s1 G as0 (mW ad G (va_up (va_up (va_up F 0 (0)) 5 ((n : Int))) 7 ((t : Int))) (va_up Ar 3 (cI (n) v gv))) H locs := hH
    refine z_st (st' := [.int (iZ (r_14))]) rfl ?_
    rcases hb_14 with ⟨rfl, hb_14⟩ | ⟨rfl, hb_14⟩
    · -- 14=1
      refine z_if_eq_f hC 17 30 dX7_ifSet_17 rfl (by omega) (by omega) ?_
      refine z_aload_n hC 20 hl dX7_ifSet_20 rfl 0 rfl ?_
      refine z_iload_n hC 21 hl dX7_ifSet_21 rfl 3 rfl ?_
      refine z_iload hC 22 hl dX7_ifSet_22 4 rfl ?_
      refine z_same (z_runV hC hH.2.2 hl.1 hH.1 hH.2.1 2 (As := [.int (iZ (l)), .int (iZ (r))]) (rest := []) (m_X7_isSpan lau s0 G _ ad (va_up (va_up (va_up F 0 (0)) 5 ((n : Int))) 7 ((t : Int))) (va_up Ar 3 (cI (n) v gv)) n l r (by first | assumption | omega) (by first | assumption | omega) (by first | assumption | omega)) (lw_V q1712 q1714 qs68 q95 q1715) ⟨rfl, by decide, by decide, by decide +kernel⟩ (q0 := 0) (ci := 0) rfl rfl rfl rfl (Nat.le_of_ble_eq_true rfl) ⟨Nat.le_of_ble_eq_true rfl, Nat.le_of_ble_eq_true rfl⟩ ⟨Nat.le_of_ble_eq_true rfl, Nat.le_of_ble_eq_true rfl⟩ dX7_ifSet_24) hH (fun r_24 H locs hpost hH => ?_)
      have hb_24 : (r_24 = 1 ∧ (0 ≤ l ∧ l ≤ r ∧ r < (n : Int))) ∨ (r_24 = 0 ∧ ¬ (0 ≤ l ∧ l ≤ r ∧ r < (n : Int))) := hpost
      have hH : zH s0 s1 G as0 (mW ad G (va_up (va_up (va_up F 0 (0)) 5 ((n : Int))) 7 ((t : Int))) (va_up Ar 3 (cI (n) v gv))) H locs := hH
      refine z_st (st' := [.int (iZ (r_24))]) rfl ?_
      rcases hb_24 with ⟨rfl, hb_24⟩ | ⟨rfl, hb_24⟩
      · -- 24=1
        refine z_if_ne_t hC 27 32 dX7_ifSet_27 rfl (by omega) (by omega) ?_
        obtain ⟨p1, rfl⟩ := Int.eq_ofNat_of_zero_le (show 0 ≤ p by omega)
        obtain ⟨x1, rfl⟩ := Int.eq_ofNat_of_zero_le (show 0 ≤ x by omega)
        obtain ⟨l1, rfl⟩ := Int.eq_ofNat_of_zero_le (show 0 ≤ l by omega)
        obtain ⟨r1, rfl⟩ := Int.eq_ofNat_of_zero_le (show 0 ≤ r by omega)
        refine z_aload_n hC 32 hl dX7_ifSet_32 rfl 0 rfl ?_
        refine gmW_3 hC hH 33 dX7_ifSet_33 ?_
        refine z_iload_n hC 36 hl dX7_ifSet_36 rfl 1 rfl ?_
        refine lmW_3 (x := ((v p1 : Nat) : Int)) hC hH 37 (p1) (by omega) (by omega) (cI_lt (by omega)) dX7_ifSet_37 ?_
        refine z_istore (lv' := [(5, .int (iZ (((v p1 : Nat) : Int)))), (0, .ref (ad 0)), (1, .int (iZ ((p1 : Int)))), (2, .int (iZ ((x1 : Int)))), (3, .int (iZ ((l1 : Int)))), (4, .int (iZ ((r1 : Int))))]) hC 38 hl dX7_ifSet_38 (by decide) rfl (fun ls hl => ?_)
        have hvp := hv p1 (by omega)
        refine z_aload_n hC 40 hl dX7_ifSet_40 rfl 1 rfl ?_
        refine gmW_3 hC hH 41 dX7_ifSet_41 ?_
        refine z_iload_n hC 44 hl dX7_ifSet_44 rfl 2 rfl ?_
        refine z_iload_n hC 45 hl dX7_ifSet_45 rfl 3 rfl ?_
        refine smW_3 (f' := (cI (n) (va_up v (p1) (x1)) gv)) hC hH 46 (p1) (by omega) (by omega) (by exact cI_up (by omega)) dX7_ifSet_46 (fun H locs hH => ?_)
        have hH : zH s0 s1 G as0 (mW ad G (va_up (va_up (va_up F 0 (0)) 5 ((n : Int))) 7 ((t : Int))) (va_up Ar 3 (cI (n) (va_up v (p1) (x1)) gv))) H locs := hH
        refine z_aload_n hC 47 hl dX7_ifSet_47 rfl 1 rfl ?_
        refine z_iload_n hC 48 hl dX7_ifSet_48 rfl 4 rfl ?_
        refine z_iload hC 49 hl dX7_ifSet_49 5 rfl ?_
        refine z_st (st' := [.int (iZ (((r1 + 1 : Nat) : Int) - 1)), .int (iZ ((l1 : Int))), .ref (ad 0)]) (zcons (zieq (by omega)) (zcons rfl rfl)) ?_
        refine z_same (z_runV hC hH.2.2 hl.1 hH.1 hH.2.1 2 (As := [.int (iZ ((l1 : Int))), .int (iZ (((r1 + 1 : Nat) : Int) - 1))]) (rest := []) (m_X7_modeOf lau s0 G _ ad (va_up (va_up (va_up F 0 (0)) 5 ((n : Int))) 7 ((t : Int))) (va_up Ar 3 (cI (n) (va_up v (p1) (x1)) gv)) n (va_up v (p1) (x1)) gv l1 (r1 + 1) t (by first | assumption | omega) (by intro i hi; by_cases e : i = p1; (· rw [e, va_up_self]; omega); (· rw [va_up_ne _ _ e]; exact hv i hi)) (by first | assumption | omega) (by first | assumption | omega) (by first | assumption | omega)) (lw_V q1760 q1762 qs72 q95 q1763) ⟨rfl, by decide, by decide, by decide +kernel⟩ (q0 := 0) (ci := 0) rfl rfl rfl rfl (Nat.le_of_ble_eq_true rfl) ⟨Nat.le_of_ble_eq_true rfl, Nat.le_of_ble_eq_true rfl⟩ ⟨Nat.le_of_ble_eq_true rfl, Nat.le_of_ble_eq_true rfl⟩ dX7_ifSet_51) hH (fun u_ H locs hpost hH => ?_)
        obtain ⟨o_51, go_51, fo_51, la_51, k_51, u_51, gu_51⟩ := u_
        obtain ⟨pCO_51, pm1_51, pm2_51, pk_51⟩ : (CO (va_up v (p1) (x1)) l1 (r1 + 1) o_51 fo_51 la_51 k_51 u_51) ∧ (md (va_up v (p1) (x1)) l1 (r1 + 1) t < 1000) ∧ (0 < cnt (va_up v (p1) (x1)) l1 (r1 + 1) (md (va_up v (p1) (x1)) l1 (r1 + 1) t)) ∧ (0 < k_51) := hpost
        have hH : zH s0 s1 G as0 (mW ad G (va_up (va_up (va_up (va_up F 0 (0)) 5 ((n : Int))) 7 ((t : Int))) 38 ((k_51 : Int))) (va_up (va_up (va_up (va_up (va_up Ar 3 (cI (n) (va_up v (p1) (x1)) gv)) 34 (cI (1000) o_51 go_51)) 35 fo_51) 36 la_51) 37 (cI (k_51) u_51 gu_51))) H locs := hH
        refine z_st (st' := [.int (iZ (((md (va_up v (p1) (x1)) l1 (r1 + 1) t : Nat) : Int)))]) rfl ?_
        refine z_istore (lv' := [(6, .int (iZ (((md (va_up v (p1) (x1)) l1 (r1 + 1) t : Nat) : Int)))), (5, .int (iZ (((v p1 : Nat) : Int)))), (0, .ref (ad 0)), (1, .int (iZ ((p1 : Int)))), (2, .int (iZ ((x1 : Int)))), (3, .int (iZ ((l1 : Int)))), (4, .int (iZ ((r1 : Int))))]) hC 54 hl dX7_ifSet_54 (by decide) rfl (fun ls hl => ?_)
        refine z_aload_n hC 56 hl dX7_ifSet_56 rfl 2 rfl ?_
        refine gmW_3 hC hH 57 dX7_ifSet_57 ?_
        refine z_iload_n hC 60 hl dX7_ifSet_60 rfl 3 rfl ?_
        refine z_iload hC 61 hl dX7_ifSet_61 1 rfl ?_
        refine smW_3 (f' := (cI (n) (va_up (va_up v (p1) (x1)) (p1) ((v p1))) gv)) hC hH 63 (p1) (by omega) (by omega) (by exact cI_up (by omega)) dX7_ifSet_63 (fun H locs hH => ?_)
        have hH : zH s0 s1 G as0 (mW ad G (va_up (va_up (va_up (va_up F 0 (0)) 5 ((n : Int))) 7 ((t : Int))) 38 ((k_51 : Int))) (va_up (va_up (va_up (va_up (va_up Ar 3 (cI (n) (va_up (va_up v (p1) (x1)) (p1) ((v p1))) gv)) 34 (cI (1000) o_51 go_51)) 35 fo_51) 36 la_51) 37 (cI (k_51) u_51 gu_51))) H locs := hH
        have hcv1 : (cI (n) (va_up (va_up v (p1) (x1)) (p1) ((v p1))) gv) = (cI (n) v gv) := by rw [va_up_up]
        rw [hcv1] at hH
        have hH : zH s0 s1 G as0 (mW ad G (va_up (va_up (va_up (va_up F 0 (0)) 5 ((n : Int))) 7 ((t : Int))) 38 ((k_51 : Int))) (va_up (va_up (va_up (va_up (va_up Ar 3 (cI (n) v gv)) 34 (cI (1000) o_51 go_51)) 35 fo_51) 36 la_51) 37 (cI (k_51) u_51 gu_51))) H locs := hH
        refine z_iload hC 64 hl dX7_ifSet_64 0 rfl ?_
        -- R66.1
        exact z_iret hC hH hQ 66 ((((md (va_up v (p1) (x1)) l1 (r1 + 1) t : Nat) : Int), (va_up (va_up (va_up (va_up F 0 (0)) 5 ((n : Int))) 7 ((t : Int))) 38 ((k_51 : Int))), (va_up (va_up (va_up (va_up (va_up Ar 3 (cI (n) v gv)) 34 (cI (1000) o_51 go_51)) 35 fo_51) 36 la_51) 37 (cI (k_51) u_51 gu_51)))) dX7_ifSet_66 rfl ⟨by (unfold Sp_ifSet; rw [if_pos (by omega)]; (try simp only [Int.toNat_natCast, zt1]); first | done | trivial | rfl | omega | (rw [if_pos (by omega)]; first | done | trivial | rfl | omega) | (rw [if_neg (by omega)]; first | done | trivial | rfl | omega)), by exact ⟨rfl, rfl, rfl, rfl, rfl, rfl, rfl, rfl, rfl, rfl, rfl, rfl, rfl, rfl, rfl, rfl⟩⟩ rfl (Nat.le_refl _) (Nat.le_refl _)
      · -- 24=0
        refine z_if_ne_f hC 27 32 dX7_ifSet_27 rfl (by omega) (by omega) ?_
        refine z_iconst hC 30 dX7_ifSet_30 ?_
        -- R31.2
        exact z_iret hC hH hQ 31 (((-1), (va_up (va_up (va_up F 0 (0)) 5 ((n : Int))) 7 ((t : Int))), (va_up Ar 3 (cI (n) v gv)))) dX7_ifSet_31 rfl ⟨by first | (unfold Sp_ifSet; rw [if_neg (by omega)]) | (unfold Sp_ifSet; rw [if_pos (by omega)]), by exact ⟨rfl, rfl, rfl, rfl, rfl, rfl, rfl, rfl, rfl, rfl, rfl, rfl, rfl, rfl, rfl, rfl⟩⟩ rfl (Nat.le_refl _) (Nat.le_refl _)
    · -- 14=0
      refine z_if_eq_t hC 17 30 dX7_ifSet_17 rfl (by omega) (by omega) ?_
      refine z_iconst hC 30 dX7_ifSet_30 ?_
      -- R31.3
      exact z_iret hC hH hQ 31 (((-1), (va_up (va_up (va_up F 0 (0)) 5 ((n : Int))) 7 ((t : Int))), (va_up Ar 3 (cI (n) v gv)))) dX7_ifSet_31 rfl ⟨by first | (unfold Sp_ifSet; rw [if_neg (by omega)]) | (unfold Sp_ifSet; rw [if_pos (by omega)]), by exact ⟨rfl, rfl, rfl, rfl, rfl, rfl, rfl, rfl, rfl, rfl, rfl, rfl, rfl, rfl, rfl, rfl⟩⟩ rfl (Nat.le_refl _) (Nat.le_refl _)
  · -- 7=0
    refine z_if_eq_t hC 10 30 dX7_ifSet_10 rfl (by omega) (by omega) ?_
    refine z_iconst hC 30 dX7_ifSet_30 ?_
    -- R31.4
    exact z_iret hC hH hQ 31 (((-1), (va_up (va_up (va_up F 0 (0)) 5 ((n : Int))) 7 ((t : Int))), (va_up Ar 3 (cI (n) v gv)))) dX7_ifSet_31 rfl ⟨by first | (unfold Sp_ifSet; rw [if_neg (by omega)]) | (unfold Sp_ifSet; rw [if_pos (by omega)]), by exact ⟨rfl, rfl, rfl, rfl, rfl, rfl, rfl, rfl, rfl, rfl, rfl, rfl, rfl, rfl, rfl, rfl⟩⟩ rfl (Nat.le_refl _) (Nat.le_refl _)

set_option maxHeartbeats 4000000 in
set_option maxRecDepth 100000 in
theorem m_X7_gap (lau : Launch) (s0 : State) (G : zG) (sz : Nat) (ad : Nat → Nat) (F : Nat → Int) (Ar : Nat → Nat → Int) (n : Nat) (v : Nat → Nat) (gv : Nat → Int) (t : Nat) (x : Int) (hn : n ≤ 120) (hv : ∀ i, i < n → v i < 1000) (ht : t < 4) (hr_x : -2147483648 ≤ x ∧ x < 2147483648) : zMet (S := Int × (Nat → Int) × (Nat → Nat → Int)) lau yX7_gap cX7_gap 5 (some .int) 1 20 0 0 s0 G sz [.ref (ad 0), .int (iZ (x))] (mW ad G (va_up (va_up F 5 ((n : Int))) 7 ((t : Int))) (va_up Ar 3 (cI (n) v gv))) (fun ((r_, F2, A2) : Int × (Nat → Int) × (Nat → Nat → Int)) => some (.int (iZ (r_)))) (fun ((r_, F2, A2) : Int × (Nat → Int) × (Nat → Nat → Int)) => (Sp_gap n v x r_) ∧ (MK (va_up (va_up F 5 ((n : Int))) 7 ((t : Int))) (va_up Ar 3 (cI (n) v gv)) F2 A2)) (fun ((r_, F2, A2) : Int × (Nat → Int) × (Nat → Nat → Int)) => (mW ad G F2 A2)) := by
  refine zMet.of (by decide) (Nat.le_of_ble_eq_true rfl) ?_
  intro pg ev s1 mi ar bl me cd ls Q as0 hC hH hl hQ hsz
  generalize s1.heap = H at hH ⊢
  generalize ([] : List Loc) = locs at hH ⊢
  have hl : lv_has ls 5 [(0, .ref (ad 0)), (1, .int (iZ (x)))] := hl
  refine z_aload_n hC 0 hl dX7_gap_0 rfl 0 rfl ?_
  refine z_iconst hC 1 dX7_gap_1 ?_
  refine pmW_0 hC hH 2 dX7_gap_2 (fun H locs hH => ?_)
  have hH : zH s0 s1 G as0 (mW ad G (va_up (va_up (va_up F 0 (0)) 5 ((n : Int))) 7 ((t : Int))) (va_up Ar 3 (cI (n) v gv))) H locs := hH
  refine z_iload_n hC 5 hl dX7_gap_5 rfl 1 rfl ?_
  refine z_same (z_runS hC hH.2.2 hl.1 hH.1 hH.2.1 1 (As := [.int (iZ (x))]) (rest := []) (m_X7_isValue lau s0 G _ ad (va_up (va_up (va_up F 0 (0)) 5 ((n : Int))) 7 ((t : Int))) (va_up Ar 3 (cI (n) v gv)) x (by first | assumption | omega)) (lw_S q1677 q1678 q95 q1679) ⟨by decide, by decide, by decide +kernel⟩ rfl rfl (Nat.le_of_ble_eq_true rfl) ⟨Nat.le_of_ble_eq_true rfl, Nat.le_of_ble_eq_true rfl⟩ ⟨Nat.le_of_ble_eq_true rfl, Nat.le_of_ble_eq_true rfl⟩ dX7_gap_6) hH (fun r_6 H locs hpost hH => ?_)
  have hb_6 : (r_6 = 1 ∧ (0 ≤ x ∧ x < 1000)) ∨ (r_6 = 0 ∧ ¬ (0 ≤ x ∧ x < 1000)) := hpost
  have hH : zH s0 s1 G as0 (mW ad G (va_up (va_up (va_up F 0 (0)) 5 ((n : Int))) 7 ((t : Int))) (va_up Ar 3 (cI (n) v gv))) H locs := hH
  refine z_st (st' := [.int (iZ (r_6))]) rfl ?_
  rcases hb_6 with ⟨rfl, hb_6⟩ | ⟨rfl, hb_6⟩
  · -- 6=1
    refine z_if_ne_t hC 9 14 dX7_gap_9 rfl (by omega) (by omega) ?_
    obtain ⟨x1, rfl⟩ := Int.eq_ofNat_of_zero_le (show 0 ≤ x by omega)
    refine z_bipush hC 14 dX7_gap_14 rfl ?_
    refine z_istore_n (lv' := [(2, .int (iZ ((-2)))), (0, .ref (ad 0)), (1, .int (iZ ((x1 : Int))))]) hC 16 hl dX7_gap_16 rfl (by decide) rfl (fun ls hl => ?_)
    refine z_iconst hC 17 dX7_gap_17 ?_
    refine z_istore_n (lv' := [(3, .int (iZ ((-1)))), (2, .int (iZ ((-2)))), (0, .ref (ad 0)), (1, .int (iZ ((x1 : Int))))]) hC 18 hl dX7_gap_18 rfl (by decide) rfl (fun ls hl => ?_)
    refine z_iconst hC 19 dX7_gap_19 ?_
    refine z_istore (lv' := [(4, .int (iZ (0))), (3, .int (iZ ((-1)))), (2, .int (iZ ((-2)))), (0, .ref (ad 0)), (1, .int (iZ ((x1 : Int))))]) hC 20 hl dX7_gap_20 (by decide) rfl (fun ls hl => ?_)
    have L22 : ∀ (N_ : Nat) (p : Nat) (ms : Int) (ws : Int) (H : Heap) (locs : List Loc) (ls : Array Slot), n - p < N_ → (p ≤ n) → (-1 ≤ ws ∧ ws < p) → (-2 ≤ ms ∧ ms ≤ 120) → (ws = gpW v x1 p) → (ms = gpM v x1 p) → zH s0 s1 G as0 (mW ad G (va_up (va_up (va_up F 0 (0)) 5 ((n : Int))) 7 ((t : Int))) (va_up Ar 3 (cI (n) v gv))) H locs → lv_has ls 5 [(0, .ref (ad 0)), (1, .int (iZ ((x1 : Int)))), (2, .int (iZ (ms))), (3, .int (iZ (ws))), (4, .int (iZ ((p : Int))))] → W pg lau ev (zRm 1 0 0 20) s1 mi ar bl me cd H locs 0 0 Q (F0 mi 22 ls []) := by
      intro N_
      induction N_ with
      | zero => intro p ms ws H locs ls hd; exact absurd hd (Nat.not_lt_zero _)
      | succ N_ ih22 =>
        intro p ms ws H locs ls hd22 i22_1 i22_2 i22_3 iw im hH hl
        refine z_iload hC 22 hl dX7_gap_22 4 rfl ?_
        refine z_aload_n hC 24 hl dX7_gap_24 rfl 0 rfl ?_
        refine gmW_5 (x := (n : Int)) hC hH 25 rfl dX7_gap_25 ?_
        refine z_icmp_ge hC 28 72 dX7_gap_28 rfl (by omega) (by omega) (fun hb1 => ?_) (fun hb1 => ?_)
        · -- 28t
          have ep : (p) = n := by omega
          rw [ep] at im
          refine z_iload_n hC 72 hl dX7_gap_72 rfl 2 rfl ?_
          -- R73.1
          exact z_iret hC hH hQ 73 ((ms, (va_up (va_up (va_up F 0 (0)) 5 ((n : Int))) 7 ((t : Int))), (va_up Ar 3 (cI (n) v gv)))) dX7_gap_73 rfl ⟨by (unfold Sp_gap; rw [if_pos (by omega)]; try simp only [Int.toNat_natCast, zt1]; exact im), by exact ⟨rfl, rfl, rfl, rfl, rfl, rfl, rfl, rfl, rfl, rfl, rfl, rfl, rfl, rfl, rfl, rfl⟩⟩ rfl (Nat.le_refl _) (Nat.le_refl _)
        · -- 28f
          refine z_aload_n hC 31 hl dX7_gap_31 rfl 0 rfl ?_
          have hvp := hv (p) (by omega)
          refine gmW_3 hC hH 32 dX7_gap_32 ?_
          refine z_iload hC 35 hl dX7_gap_35 4 rfl ?_
          refine lmW_3 (x := ((v p : Nat) : Int)) hC hH 37 (p) (by omega) (by omega) (cI_lt (by omega)) dX7_gap_37 ?_
          refine z_iload_n hC 38 hl dX7_gap_38 rfl 1 rfl ?_
          refine z_icmp_eq hC 39 45 dX7_gap_39 rfl (by omega) (by omega) (fun hb2 => ?_) (fun hb2 => ?_)
          · -- 39t
            refine z_iload_n hC 45 hl dX7_gap_45 rfl 3 rfl ?_
            refine z_iconst hC 46 dX7_gap_46 ?_
            refine z_icmp_eq hC 47 63 dX7_gap_47 rfl (by omega) (by omega) (fun hb3 => ?_) (fun hb3 => ?_)
            · -- 47t
              refine z_iload hC 63 hl dX7_gap_63 4 rfl ?_
              refine z_istore_n (lv' := [(3, .int (iZ ((p : Int)))), (0, .ref (ad 0)), (1, .int (iZ ((x1 : Int)))), (2, .int (iZ (ms))), (4, .int (iZ ((p : Int))))]) hC 65 hl dX7_gap_65 rfl (by decide) rfl (fun ls hl => ?_)
              refine z_iinc (lv' := [(4, .int (iZ ((p : Int) + 1))), (3, .int (iZ ((p : Int)))), (0, .ref (ad 0)), (1, .int (iZ ((x1 : Int)))), (2, .int (iZ (ms)))]) hC 66 hl dX7_gap_66 4 rfl (by omega) (by decide) rfl (fun ls hl => ?_)
              refine z_goto hC 69 22 dX7_gap_69 rfl ?_
              -- J22.2
              exact ih22 (p + 1) ms (p : Int) _ _ _ (by omega) (by first | assumption | omega) (by first | assumption | omega) (by first | assumption | omega) (by first | rfl | exact (gpW_t (by omega)).symm | (rw [gpW_f (by omega)]; exact iw)) (by first | rfl | (rw [gpM_t ⟨by omega, by omega, by omega⟩]; omega) | (rw [gpM_f (fun q => by have := q.1; have := q.2.1; have := q.2.2; omega)]; exact im)) hH (z_lv (lv_sub hl [2, 3, 4, 1, 0] rfl) (zcons rfl (zcons rfl (zcons rfl (zcons rfl (zcons (zpeq (by omega)) rfl))))))
            · -- 47f
              refine z_iload hC 50 hl dX7_gap_50 4 rfl ?_
              refine z_iload_n hC 52 hl dX7_gap_52 rfl 3 rfl ?_
              refine z_isub (e := (p : Int) - ws) hC 53 dX7_gap_53 rfl ?_
              refine z_iload_n hC 54 hl dX7_gap_54 rfl 2 rfl ?_
              refine z_icmp_le hC 55 63 dX7_gap_55 rfl (by omega) (by omega) (fun hb4 => ?_) (fun hb4 => ?_)
              · -- 55t
                refine z_iload hC 63 hl dX7_gap_63 4 rfl ?_
                refine z_istore_n (lv' := [(3, .int (iZ ((p : Int)))), (0, .ref (ad 0)), (1, .int (iZ ((x1 : Int)))), (2, .int (iZ (ms))), (4, .int (iZ ((p : Int))))]) hC 65 hl dX7_gap_65 rfl (by decide) rfl (fun ls hl => ?_)
                refine z_iinc (lv' := [(4, .int (iZ ((p : Int) + 1))), (3, .int (iZ ((p : Int)))), (0, .ref (ad 0)), (1, .int (iZ ((x1 : Int)))), (2, .int (iZ (ms)))]) hC 66 hl dX7_gap_66 4 rfl (by omega) (by decide) rfl (fun ls hl => ?_)
                refine z_goto hC 69 22 dX7_gap_69 rfl ?_
                -- J22.3
                exact ih22 (p + 1) ms (p : Int) _ _ _ (by omega) (by first | assumption | omega) (by first | assumption | omega) (by first | assumption | omega) (by first | rfl | exact (gpW_t (by omega)).symm | (rw [gpW_f (by omega)]; exact iw)) (by first | rfl | (rw [gpM_t ⟨by omega, by omega, by omega⟩]; omega) | (rw [gpM_f (fun q => by have := q.1; have := q.2.1; have := q.2.2; omega)]; exact im)) hH (z_lv (lv_sub hl [2, 3, 4, 1, 0] rfl) (zcons rfl (zcons rfl (zcons rfl (zcons rfl (zcons (zpeq (by omega)) rfl))))))
              · -- 55f
                refine z_iload hC 58 hl dX7_gap_58 4 rfl ?_
                refine z_iload_n hC 60 hl dX7_gap_60 rfl 3 rfl ?_
                refine z_isub (e := (p : Int) - ws) hC 61 dX7_gap_61 rfl ?_
                refine z_istore_n (lv' := [(2, .int (iZ ((p : Int) - ws))), (0, .ref (ad 0)), (1, .int (iZ ((x1 : Int)))), (3, .int (iZ (ws))), (4, .int (iZ ((p : Int))))]) hC 62 hl dX7_gap_62 rfl (by decide) rfl (fun ls hl => ?_)
                refine z_iload hC 63 hl dX7_gap_63 4 rfl ?_
                refine z_istore_n (lv' := [(3, .int (iZ ((p : Int)))), (2, .int (iZ ((p : Int) - ws))), (0, .ref (ad 0)), (1, .int (iZ ((x1 : Int)))), (4, .int (iZ ((p : Int))))]) hC 65 hl dX7_gap_65 rfl (by decide) rfl (fun ls hl => ?_)
                refine z_iinc (lv' := [(4, .int (iZ ((p : Int) + 1))), (3, .int (iZ ((p : Int)))), (2, .int (iZ ((p : Int) - ws))), (0, .ref (ad 0)), (1, .int (iZ ((x1 : Int))))]) hC 66 hl dX7_gap_66 4 rfl (by omega) (by decide) rfl (fun ls hl => ?_)
                refine z_goto hC 69 22 dX7_gap_69 rfl ?_
                -- J22.4
                exact ih22 (p + 1) ((p : Int) - ws) (p : Int) _ _ _ (by omega) (by first | assumption | omega) (by first | assumption | omega) (by first | assumption | omega) (by first | rfl | exact (gpW_t (by omega)).symm | (rw [gpW_f (by omega)]; exact iw)) (by first | rfl | (rw [gpM_t ⟨by omega, by omega, by omega⟩]; omega) | (rw [gpM_f (fun q => by have := q.1; have := q.2.1; have := q.2.2; omega)]; exact im)) hH (z_lv (lv_sub hl [3, 4, 2, 1, 0] rfl) (zcons rfl (zcons rfl (zcons (zpeq (by omega)) (zcons rfl (zcons (zpeq (by omega)) rfl))))))
          · -- 39f
            refine z_goto hC 42 66 dX7_gap_42 rfl ?_
            refine z_iinc (lv' := [(4, .int (iZ ((p : Int) + 1))), (0, .ref (ad 0)), (1, .int (iZ ((x1 : Int)))), (2, .int (iZ (ms))), (3, .int (iZ (ws)))]) hC 66 hl dX7_gap_66 4 rfl (by omega) (by decide) rfl (fun ls hl => ?_)
            refine z_goto hC 69 22 dX7_gap_69 rfl ?_
            -- J22.5
            exact ih22 (p + 1) ms ws _ _ _ (by omega) (by first | assumption | omega) (by first | assumption | omega) (by first | assumption | omega) (by first | rfl | exact (gpW_t (by omega)).symm | (rw [gpW_f (by omega)]; exact iw)) (by first | rfl | (rw [gpM_t ⟨by omega, by omega, by omega⟩]; omega) | (rw [gpM_f (fun q => by have := q.1; have := q.2.1; have := q.2.2; omega)]; exact im)) hH (z_lv (lv_sub hl [1, 2, 3, 4, 0] rfl) (zcons rfl (zcons rfl (zcons rfl (zcons rfl (zcons (zpeq (by omega)) rfl))))))
    -- J22.6
    exact L22 _ 0 (-2) (-1) _ _ _ (Nat.lt_succ_self _) (by first | assumption | omega) (by first | assumption | omega) (by first | assumption | omega) (by first | rfl | exact (gpW_t (by omega)).symm | (rw [gpW_f (by omega)]; exact iw)) (by first | rfl | (rw [gpM_t ⟨by omega, by omega, by omega⟩]; omega) | (rw [gpM_f (fun q => by have := q.1; have := q.2.1; have := q.2.2; omega)]; exact im)) hH (z_lv (lv_sub hl [3, 4, 2, 1, 0] rfl) (zcons rfl (zcons rfl (zcons rfl (zcons rfl (zcons (zpeq (by omega)) rfl))))))
  · -- 6=0
    refine z_if_ne_f hC 9 14 dX7_gap_9 rfl (by omega) (by omega) ?_
    refine z_iconst hC 12 dX7_gap_12 ?_
    -- R13.7
    exact z_iret hC hH hQ 13 (((-1), (va_up (va_up (va_up F 0 (0)) 5 ((n : Int))) 7 ((t : Int))), (va_up Ar 3 (cI (n) v gv)))) dX7_gap_13 rfl ⟨by first | (unfold Sp_gap; rw [if_neg (by omega)]) | (unfold Sp_gap; rw [if_pos (by omega)]), by exact ⟨rfl, rfl, rfl, rfl, rfl, rfl, rfl, rfl, rfl, rfl, rfl, rfl, rfl, rfl, rfl, rfl⟩⟩ rfl (Nat.le_refl _) (Nat.le_refl _)

set_option maxHeartbeats 4000000 in
set_option maxRecDepth 100000 in
theorem m_X7_wide (lau : Launch) (s0 : State) (G : zG) (sz : Nat) (ad : Nat → Nat) (F : Nat → Int) (Ar : Nat → Nat → Int) (n : Nat) (v : Nat → Nat) (gv : Nat → Int) (t : Nat) (k0 : Int) (hn : n ≤ 120) (hv : ∀ i, i < n → v i < 1000) (ht : t < 4) (hr_k0 : -2147483648 ≤ k0 ∧ k0 < 2147483648) : zMet (S := Int × (Nat → Int) × (Nat → Nat → Int)) lau yX7_wide cX7_wide 5 (some .int) 3 68 0 0 s0 G sz [.ref (ad 0), .int (iZ (k0))] (mW ad G (va_up (va_up F 5 ((n : Int))) 7 ((t : Int))) (va_up Ar 3 (cI (n) v gv))) (fun ((r_, F2, A2) : Int × (Nat → Int) × (Nat → Nat → Int)) => some (.int (iZ (r_)))) (fun ((r_, F2, A2) : Int × (Nat → Int) × (Nat → Nat → Int)) => (Sp_wide n v t k0 r_) ∧ (MK (va_up (va_up F 5 ((n : Int))) 7 ((t : Int))) (va_up Ar 3 (cI (n) v gv)) F2 A2)) (fun ((r_, F2, A2) : Int × (Nat → Int) × (Nat → Nat → Int)) => (mW ad G F2 A2)) := by
  refine zMet.of (by decide) (Nat.le_of_ble_eq_true rfl) ?_
  intro pg ev s1 mi ar bl me cd ls Q as0 hC hH hl hQ hsz
  generalize s1.heap = H at hH ⊢
  generalize ([] : List Loc) = locs at hH ⊢
  have hl : lv_has ls 5 [(0, .ref (ad 0)), (1, .int (iZ (k0)))] := hl
  refine z_aload_n hC 0 hl dX7_wide_0 rfl 0 rfl ?_
  refine z_iconst hC 1 dX7_wide_1 ?_
  refine pmW_0 hC hH 2 dX7_wide_2 (fun H locs hH => ?_)
  have hH : zH s0 s1 G as0 (mW ad G (va_up (va_up (va_up F 0 (0)) 5 ((n : Int))) 7 ((t : Int))) (va_up Ar 3 (cI (n) v gv))) H locs := hH
  refine z_iload_n hC 5 hl dX7_wide_5 rfl 1 rfl ?_
  refine z_iconst hC 6 dX7_wide_6 ?_
  refine z_icmp_ge hC 7 12 dX7_wide_7 rfl (by omega) (by omega) (fun hb1 => ?_) (fun hb1 => ?_)
  · -- 7t
    refine z_iconst hC 12 dX7_wide_12 ?_
    refine z_istore_n (lv' := [(2, .int (iZ (1))), (0, .ref (ad 0)), (1, .int (iZ (k0)))]) hC 13 hl dX7_wide_13 rfl (by decide) rfl (fun ls hl => ?_)
    have L14 : ∀ (N_ : Nat) (w : Nat) (f38 : Int) (a34 : Nat → Int) (a35 : Nat → Int) (a36 : Nat → Int) (a37 : Nat → Int) (H : Heap) (locs : List Loc) (ls : Array Slot), n + 1 - w < N_ → (1 ≤ w) → (w ≤ n + 1) → (∀ w1, 1 ≤ w1 → w1 < w → ¬ WD v t n k0 w1) → zH s0 s1 G as0 (mW ad G (va_up (va_up (va_up (va_up F 0 (0)) 5 ((n : Int))) 7 ((t : Int))) 38 (f38)) (va_up (va_up (va_up (va_up (va_up Ar 3 (cI (n) v gv)) 34 a34) 35 a35) 36 a36) 37 a37)) H locs → lv_has ls 5 [(0, .ref (ad 0)), (1, .int (iZ (k0))), (2, .int (iZ ((w : Int))))] → W pg lau ev (zRm 3 0 0 68) s1 mi ar bl me cd H locs 0 0 Q (F0 mi 14 ls []) := by
      intro N_
      induction N_ with
      | zero => intro w f38 a34 a35 a36 a37 H locs ls hd; exact absurd hd (Nat.not_lt_zero _)
      | succ N_ ih14 =>
        intro w f38 a34 a35 a36 a37 H locs ls hd14 i14_1 i14_2 iw hH hl
        refine z_iload_n hC 14 hl dX7_wide_14 rfl 2 rfl ?_
        refine z_aload_n hC 15 hl dX7_wide_15 rfl 0 rfl ?_
        refine gmW_5 (x := (n : Int)) hC hH 16 rfl dX7_wide_16 ?_
        refine z_icmp_gt hC 19 87 dX7_wide_19 rfl (by omega) (by omega) (fun hb2 => ?_) (fun hb2 => ?_)
        · -- 19t
          refine z_bipush hC 87 dX7_wide_87 rfl ?_
          -- R89.1
          exact z_iret hC hH hQ 89 (((-2), (va_up (va_up (va_up (va_up F 0 (0)) 5 ((n : Int))) 7 ((t : Int))) 38 (f38)), (va_up (va_up (va_up (va_up (va_up Ar 3 (cI (n) v gv)) 34 a34) 35 a35) 36 a36) 37 a37))) dX7_wide_89 rfl ⟨by (unfold Sp_wide; rw [if_pos (by omega)]; exact Or.inr ⟨fun w1 q1 q2 => iw w1 q1 (by omega), rfl⟩), by exact ⟨rfl, rfl, rfl, rfl, rfl, rfl, rfl, rfl, rfl, rfl, rfl, rfl, rfl, rfl, rfl, rfl⟩⟩ rfl (Nat.le_refl _) (Nat.le_refl _)
        · -- 19f
          refine z_iconst hC 22 dX7_wide_22 ?_
          refine z_istore_n (lv' := [(3, .int (iZ (1))), (0, .ref (ad 0)), (1, .int (iZ (k0))), (2, .int (iZ ((w : Int))))]) hC 23 hl dX7_wide_23 rfl (by decide) rfl (fun ls hl => ?_)
          refine z_iconst hC 24 dX7_wide_24 ?_
          refine z_istore (lv' := [(4, .int (iZ (0))), (3, .int (iZ (1))), (0, .ref (ad 0)), (1, .int (iZ (k0))), (2, .int (iZ ((w : Int))))]) hC 25 hl dX7_wide_25 (by decide) rfl (fun ls hl => ?_)
          have L27 : ∀ (N_ : Nat) (l : Nat) (s : Int) (f38 : Int) (a34 : Nat → Int) (a35 : Nat → Int) (a36 : Nat → Int) (a37 : Nat → Int) (H : Heap) (locs : List Loc) (ls : Array Slot), n + 1 - w - l < N_ → (l ≤ n + 1 - w) → (WDl v t n k0 w l s) → zH s0 s1 G as0 (mW ad G (va_up (va_up (va_up (va_up F 0 (0)) 5 ((n : Int))) 7 ((t : Int))) 38 (f38)) (va_up (va_up (va_up (va_up (va_up Ar 3 (cI (n) v gv)) 34 a34) 35 a35) 36 a36) 37 a37)) H locs → lv_has ls 5 [(0, .ref (ad 0)), (1, .int (iZ (k0))), (2, .int (iZ ((w : Int)))), (3, .int (iZ (s))), (4, .int (iZ ((l : Int))))] → W pg lau ev (zRm 3 0 0 68) s1 mi ar bl me cd H locs 0 0 Q (F0 mi 27 ls []) := by
            intro N_
            induction N_ with
            | zero => intro l s f38 a34 a35 a36 a37 H locs ls hd; exact absurd hd (Nat.not_lt_zero _)
            | succ N_ ih27 =>
              intro l s f38 a34 a35 a36 a37 H locs ls hd27 i27_1 il hH hl
              have hsb := WDl_b il
              refine z_iload hC 27 hl dX7_wide_27 4 rfl ?_
              refine z_iload_n hC 29 hl dX7_wide_29 rfl 2 rfl ?_
              refine z_iadd (e := (l : Int) + (w : Int)) hC 30 dX7_wide_30 rfl ?_
              refine z_aload_n hC 31 hl dX7_wide_31 rfl 0 rfl ?_
              refine gmW_5 (x := (n : Int)) hC hH 32 rfl dX7_wide_32 ?_
              refine z_icmp_gt hC 35 75 dX7_wide_35 rfl (by omega) (by omega) (fun hb3 => ?_) (fun hb3 => ?_)
              · -- 35t
                refine z_iload_n hC 75 hl dX7_wide_75 rfl 3 rfl ?_
                refine z_if_eq hC 76 81 dX7_wide_76 rfl (by omega) (fun hb4 => ?_) (fun hb4 => ?_)
                · -- 76t
                  refine z_iinc (lv' := [(2, .int (iZ ((w : Int) + 1))), (0, .ref (ad 0)), (1, .int (iZ (k0))), (3, .int (iZ (s))), (4, .int (iZ ((l : Int))))]) hC 81 hl dX7_wide_81 2 rfl (by omega) (by decide) rfl (fun ls hl => ?_)
                  refine z_goto hC 84 14 dX7_wide_84 rfl ?_
                  -- J14.2
                  exact ih14 (w + 1) f38 a34 a35 a36 a37 _ _ _ (by omega) (by first | assumption | omega) (by first | assumption | omega) (by first | (intro w1 q1 q2; omega) | (intro w1 q1 q2; by_cases e : w1 = w; (· rw [e]; exact WDl_no il (by omega)); (· exact iw w1 q1 (by omega)))) hH (z_lv (lv_sub hl [1, 2, 0] rfl) (zcons rfl (zcons rfl (zcons (zpeq (by omega)) rfl))))
                · -- 76f
                  refine z_iload_n hC 79 hl dX7_wide_79 rfl 2 rfl ?_
                  -- R80.3
                  exact z_iret hC hH hQ 80 (((w : Int), (va_up (va_up (va_up (va_up F 0 (0)) 5 ((n : Int))) 7 ((t : Int))) 38 (f38)), (va_up (va_up (va_up (va_up (va_up Ar 3 (cI (n) v gv)) 34 a34) 35 a35) 36 a36) 37 a37))) dX7_wide_80 rfl ⟨by (unfold Sp_wide; rw [if_pos (by omega)]; exact Or.inl ⟨w, by omega, by omega, WDl_yes il (by omega) (by omega), iw, rfl⟩), by exact ⟨rfl, rfl, rfl, rfl, rfl, rfl, rfl, rfl, rfl, rfl, rfl, rfl, rfl, rfl, rfl, rfl⟩⟩ rfl (Nat.le_refl _) (Nat.le_refl _)
              · -- 35f
                refine z_iload_n hC 38 hl dX7_wide_38 rfl 3 rfl ?_
                refine z_if_eq hC 39 75 dX7_wide_39 rfl (by omega) (fun hb5 => ?_) (fun hb5 => ?_)
                · -- 39t
                  refine z_iload_n hC 75 hl dX7_wide_75 rfl 3 rfl ?_
                  refine z_if_eq hC 76 81 dX7_wide_76 rfl (by omega) (fun hb6 => ?_) (fun hb6 => ?_)
                  · -- 76t
                    refine z_iinc (lv' := [(2, .int (iZ ((w : Int) + 1))), (0, .ref (ad 0)), (1, .int (iZ (k0))), (3, .int (iZ (s))), (4, .int (iZ ((l : Int))))]) hC 81 hl dX7_wide_81 2 rfl (by omega) (by decide) rfl (fun ls hl => ?_)
                    refine z_goto hC 84 14 dX7_wide_84 rfl ?_
                    -- J14.4
                    exact ih14 (w + 1) f38 a34 a35 a36 a37 _ _ _ (by omega) (by first | assumption | omega) (by first | assumption | omega) (by first | (intro w1 q1 q2; omega) | (intro w1 q1 q2; by_cases e : w1 = w; (· rw [e]; exact WDl_no il (by omega)); (· exact iw w1 q1 (by omega)))) hH (z_lv (lv_sub hl [1, 2, 0] rfl) (zcons rfl (zcons rfl (zcons (zpeq (by omega)) rfl))))
                  · -- 76f
                    refine z_iload_n hC 79 hl dX7_wide_79 rfl 2 rfl ?_
                    -- R80.5
                    exact z_iret hC hH hQ 80 (((w : Int), (va_up (va_up (va_up (va_up F 0 (0)) 5 ((n : Int))) 7 ((t : Int))) 38 (f38)), (va_up (va_up (va_up (va_up (va_up Ar 3 (cI (n) v gv)) 34 a34) 35 a35) 36 a36) 37 a37))) dX7_wide_80 rfl ⟨by (unfold Sp_wide; rw [if_pos (by omega)]; exact Or.inl ⟨w, by omega, by omega, WDl_yes il (by omega) (by omega), iw, rfl⟩), by exact ⟨rfl, rfl, rfl, rfl, rfl, rfl, rfl, rfl, rfl, rfl, rfl, rfl, rfl, rfl, rfl, rfl⟩⟩ rfl (Nat.le_refl _) (Nat.le_refl _)
                · -- 39f
                  refine z_aload_n hC 42 hl dX7_wide_42 rfl 0 rfl ?_
                  refine gmW_34 hC hH 43 dX7_wide_43 ?_
                  refine z_aload_n hC 46 hl dX7_wide_46 rfl 0 rfl ?_
                  refine z_iload hC 47 hl dX7_wide_47 4 rfl ?_
                  refine z_iload hC 49 hl dX7_wide_49 4 rfl ?_
                  refine z_iload_n hC 51 hl dX7_wide_51 rfl 2 rfl ?_
                  refine z_iadd (e := (l : Int) + (w : Int)) hC 52 dX7_wide_52 rfl ?_
                  refine z_iconst hC 53 dX7_wide_53 ?_
                  refine z_isub (e := (l : Int) + (w : Int) - 1) hC 54 dX7_wide_54 rfl ?_
                  refine z_st (st' := [.int (iZ (((l + w : Nat) : Int) - 1)), .int (iZ ((l : Int))), .ref (ad 0), .ref (ad 34)]) (zcons (zieq (by omega)) (zcons rfl rfl)) ?_
                  refine z_same (z_runV hC hH.2.2 hl.1 hH.1 hH.2.1 2 (As := [.int (iZ ((l : Int))), .int (iZ (((l + w : Nat) : Int) - 1))]) (rest := [.ref (ad 34)]) (m_X7_modeOf lau s0 G _ ad (va_up (va_up (va_up (va_up F 0 (0)) 5 ((n : Int))) 7 ((t : Int))) 38 (f38)) (va_up (va_up (va_up (va_up (va_up Ar 3 (cI (n) v gv)) 34 a34) 35 a35) 36 a36) 37 a37) n v gv l (l + w) t (by first | assumption | omega) (by first | assumption | omega) (by first | assumption | omega) (by first | assumption | omega) (by first | assumption | omega)) (lw_V q1760 q1762 qs72 q95 q1763) ⟨rfl, by decide, by decide, by decide +kernel⟩ (q0 := 0) (ci := 0) rfl rfl rfl rfl (Nat.le_of_ble_eq_true rfl) ⟨Nat.le_of_ble_eq_true rfl, Nat.le_of_ble_eq_true rfl⟩ ⟨Nat.le_of_ble_eq_true rfl, Nat.le_of_ble_eq_true rfl⟩ dX7_wide_55) hH (fun u_ H locs hpost hH => ?_)
                  obtain ⟨o_55, go_55, fo_55, la_55, k_55, u_55, gu_55⟩ := u_
                  obtain ⟨pCO_55, pm1_55, pm2_55, pk_55⟩ : (CO v l (l + w) o_55 fo_55 la_55 k_55 u_55) ∧ (md v l (l + w) t < 1000) ∧ (0 < cnt v l (l + w) (md v l (l + w) t)) ∧ (0 < k_55) := hpost
                  have hH : zH s0 s1 G as0 (mW ad G (va_up (va_up (va_up (va_up F 0 (0)) 5 ((n : Int))) 7 ((t : Int))) 38 ((k_55 : Int))) (va_up (va_up (va_up (va_up (va_up Ar 3 (cI (n) v gv)) 34 (cI (1000) o_55 go_55)) 35 fo_55) 36 la_55) 37 (cI (k_55) u_55 gu_55))) H locs := hH
                  refine z_st (st' := [.int (iZ (((md v l (l + w) t : Nat) : Int))), .ref (ad 34)]) rfl ?_
                  have ho1 := pCO_55.1 (md v l (l + w) t) (by assumption)
                  have hc1 := cnt_le v l (l + w) (md v l (l + w) t)
                  refine lmW_34 (x := ((o_55 (md v l (l + w) t) : Nat) : Int)) hC hH 58 ((md v l (l + w) t)) (by omega) (by omega) (cI_lt (by omega)) dX7_wide_58 ?_
                  refine z_iload_n hC 59 hl dX7_wide_59 rfl 1 rfl ?_
                  refine z_icmp_lt hC 60 67 dX7_wide_60 rfl (by omega) (by omega) (fun hb7 => ?_) (fun hb7 => ?_)
                  · -- 60t
                    refine z_iconst hC 67 dX7_wide_67 ?_
                    refine z_istore_n (lv' := [(3, .int (iZ (0))), (0, .ref (ad 0)), (1, .int (iZ (k0))), (2, .int (iZ ((w : Int)))), (4, .int (iZ ((l : Int))))]) hC 68 hl dX7_wide_68 rfl (by decide) rfl (fun ls hl => ?_)
                    refine z_iinc (lv' := [(4, .int (iZ ((l : Int) + 1))), (3, .int (iZ (0))), (0, .ref (ad 0)), (1, .int (iZ (k0))), (2, .int (iZ ((w : Int))))]) hC 69 hl dX7_wide_69 4 rfl (by omega) (by decide) rfl (fun ls hl => ?_)
                    refine z_goto hC 72 27 dX7_wide_72 rfl ?_
                    -- J27.6
                    exact ih27 (l + 1) 0 (k_55 : Int) (cI (1000) o_55 go_55) fo_55 la_55 (cI (k_55) u_55 gu_55) _ _ _ (by omega) (by first | assumption | omega) (by first | exact WDl_0 | exact WDl_t il (by assumption) (by omega) | exact WDl_f (by omega) (by omega)) hH (z_lv (lv_sub hl [2, 3, 4, 1, 0] rfl) (zcons rfl (zcons rfl (zcons rfl (zcons rfl (zcons (zpeq (by omega)) rfl))))))
                  · -- 60f
                    refine z_iconst hC 63 dX7_wide_63 ?_
                    refine z_goto hC 64 68 dX7_wide_64 rfl ?_
                    refine z_istore_n (lv' := [(3, .int (iZ (1))), (0, .ref (ad 0)), (1, .int (iZ (k0))), (2, .int (iZ ((w : Int)))), (4, .int (iZ ((l : Int))))]) hC 68 hl dX7_wide_68 rfl (by decide) rfl (fun ls hl => ?_)
                    refine z_iinc (lv' := [(4, .int (iZ ((l : Int) + 1))), (3, .int (iZ (1))), (0, .ref (ad 0)), (1, .int (iZ (k0))), (2, .int (iZ ((w : Int))))]) hC 69 hl dX7_wide_69 4 rfl (by omega) (by decide) rfl (fun ls hl => ?_)
                    refine z_goto hC 72 27 dX7_wide_72 rfl ?_
                    -- J27.7
                    exact ih27 (l + 1) 1 (k_55 : Int) (cI (1000) o_55 go_55) fo_55 la_55 (cI (k_55) u_55 gu_55) _ _ _ (by omega) (by first | assumption | omega) (by first | exact WDl_0 | exact WDl_t il (by assumption) (by omega) | exact WDl_f (by omega) (by omega)) hH (z_lv (lv_sub hl [2, 3, 4, 1, 0] rfl) (zcons rfl (zcons rfl (zcons rfl (zcons rfl (zcons (zpeq (by omega)) rfl))))))
          -- J27.8
          exact L27 _ 0 1 f38 a34 a35 a36 a37 _ _ _ (Nat.lt_succ_self _) (by first | assumption | omega) (by first | exact WDl_0 | exact WDl_t il (by assumption) (by omega) | exact WDl_f (by omega) (by omega)) hH (z_lv (lv_sub hl [2, 3, 4, 1, 0] rfl) (zcons rfl (zcons rfl (zcons rfl (zcons rfl (zcons (zpeq (by omega)) rfl))))))
    -- J14.9
    exact L14 _ 1 (F 38) (Ar 34) (Ar 35) (Ar 36) (Ar 37) _ _ _ (Nat.lt_succ_self _) (by first | assumption | omega) (by first | assumption | omega) (by first | (intro w1 q1 q2; omega) | (intro w1 q1 q2; by_cases e : w1 = w; (· rw [e]; exact WDl_no il (by omega)); (· exact iw w1 q1 (by omega)))) hH (z_lv (lv_sub hl [1, 2, 0] rfl) (zcons rfl (zcons rfl (zcons (zpeq (by omega)) rfl))))
  · -- 7f
    refine z_iconst hC 10 dX7_wide_10 ?_
    -- R11.10
    exact z_iret hC hH hQ 11 (((-1), (va_up (va_up (va_up F 0 (0)) 5 ((n : Int))) 7 ((t : Int))), (va_up Ar 3 (cI (n) v gv)))) dX7_wide_11 rfl ⟨by first | (unfold Sp_wide; rw [if_neg (by omega)]) | (unfold Sp_wide; rw [if_pos (by omega)]), by exact ⟨rfl, rfl, rfl, rfl, rfl, rfl, rfl, rfl, rfl, rfl, rfl, rfl, rfl, rfl, rfl, rfl⟩⟩ rfl (Nat.le_refl _) (Nat.le_refl _)

set_option maxHeartbeats 4000000 in
set_option maxRecDepth 100000 in
theorem m_X7_split (lau : Launch) (s0 : State) (G : zG) (sz : Nat) (ad : Nat → Nat) (F : Nat → Int) (Ar : Nat → Nat → Int) (n : Nat) (v : Nat → Nat) (gv : Nat → Int) (t : Nat) (l : Int) (r : Int) (q : Int) (hn : n ≤ 120) (hv : ∀ i, i < n → v i < 1000) (ht : t < 4) (hr_l : -2147483648 ≤ l ∧ l < 2147483648) (hr_r : -2147483648 ≤ r ∧ r < 2147483648) (hr_q : -2147483648 ≤ q ∧ q < 2147483648) : zMet (S := Int × (Nat → Int) × (Nat → Nat → Int)) lau yX7_split cX7_split 8 (some .int) 3 68 0 0 s0 G sz [.ref (ad 0), .int (iZ (l)), .int (iZ (r)), .int (iZ (q))] (mW ad G (va_up (va_up F 5 ((n : Int))) 7 ((t : Int))) (va_up Ar 3 (cI (n) v gv))) (fun ((r_, F2, A2) : Int × (Nat → Int) × (Nat → Nat → Int)) => some (.int (iZ (r_)))) (fun ((r_, F2, A2) : Int × (Nat → Int) × (Nat → Nat → Int)) => (Sp_split n v t l r q r_) ∧ (MK (va_up (va_up F 5 ((n : Int))) 7 ((t : Int))) (va_up Ar 3 (cI (n) v gv)) F2 A2)) (fun ((r_, F2, A2) : Int × (Nat → Int) × (Nat → Nat → Int)) => (mW ad G F2 A2)) := by
  refine zMet.of (by decide) (Nat.le_of_ble_eq_true rfl) ?_
  intro pg ev s1 mi ar bl me cd ls Q as0 hC hH hl hQ hsz
  generalize s1.heap = H at hH ⊢
  generalize ([] : List Loc) = locs at hH ⊢
  have hl : lv_has ls 8 [(0, .ref (ad 0)), (1, .int (iZ (l))), (2, .int (iZ (r))), (3, .int (iZ (q)))] := hl
  refine z_aload_n hC 0 hl dX7_split_0 rfl 0 rfl ?_
  refine z_iconst hC 1 dX7_split_1 ?_
  refine pmW_0 hC hH 2 dX7_split_2 (fun H locs hH => ?_)
  have hH : zH s0 s1 G as0 (mW ad G (va_up (va_up (va_up F 0 (0)) 5 ((n : Int))) 7 ((t : Int))) (va_up Ar 3 (cI (n) v gv))) H locs := hH
  refine z_aload_n hC 5 hl dX7_split_5 rfl 0 rfl ?_
  refine z_iload_n hC 6 hl dX7_split_6 rfl 1 rfl ?_
  refine z_iload_n hC 7 hl dX7_split_7 rfl 2 rfl ?_
  refine z_same (z_runV hC hH.2.2 hl.1 hH.1 hH.2.1 2 (As := [.int (iZ (l)), .int (iZ (r))]) (rest := []) (m_X7_isSpan lau s0 G _ ad (va_up (va_up (va_up F 0 (0)) 5 ((n : Int))) 7 ((t : Int))) (va_up Ar 3 (cI (n) v gv)) n l r (by first | assumption | omega) (by first | assumption | omega) (by first | assumption | omega)) (lw_V q1712 q1714 qs68 q95 q1715) ⟨rfl, by decide, by decide, by decide +kernel⟩ (q0 := 0) (ci := 0) rfl rfl rfl rfl (Nat.le_of_ble_eq_true rfl) ⟨Nat.le_of_ble_eq_true rfl, Nat.le_of_ble_eq_true rfl⟩ ⟨Nat.le_of_ble_eq_true rfl, Nat.le_of_ble_eq_true rfl⟩ dX7_split_8) hH (fun r_8 H locs hpost hH => ?_)
  have hb_8 : (r_8 = 1 ∧ (0 ≤ l ∧ l ≤ r ∧ r < (n : Int))) ∨ (r_8 = 0 ∧ ¬ (0 ≤ l ∧ l ≤ r ∧ r < (n : Int))) := hpost
  have hH : zH s0 s1 G as0 (mW ad G (va_up (va_up (va_up F 0 (0)) 5 ((n : Int))) 7 ((t : Int))) (va_up Ar 3 (cI (n) v gv))) H locs := hH
  refine z_st (st' := [.int (iZ (r_8))]) rfl ?_
  rcases hb_8 with ⟨rfl, hb_8⟩ | ⟨rfl, hb_8⟩
  · -- 8=1
    refine z_if_eq_f hC 11 28 dX7_split_11 rfl (by omega) (by omega) ?_
    refine z_iload_n hC 14 hl dX7_split_14 rfl 1 rfl ?_
    refine z_iload_n hC 15 hl dX7_split_15 rfl 2 rfl ?_
    refine z_icmp_eq hC 16 28 dX7_split_16 rfl (by omega) (by omega) (fun hb1 => ?_) (fun hb1 => ?_)
    · -- 16t
      refine z_iconst hC 28 dX7_split_28 ?_
      -- R29.1
      exact z_iret hC hH hQ 29 (((-1), (va_up (va_up (va_up F 0 (0)) 5 ((n : Int))) 7 ((t : Int))), (va_up Ar 3 (cI (n) v gv)))) dX7_split_29 rfl ⟨by first | (unfold Sp_split; rw [if_neg (by omega)]) | (unfold Sp_split; rw [if_pos (by omega)]), by exact ⟨rfl, rfl, rfl, rfl, rfl, rfl, rfl, rfl, rfl, rfl, rfl, rfl, rfl, rfl, rfl, rfl⟩⟩ rfl (Nat.le_refl _) (Nat.le_refl _)
    · -- 16f
      refine z_iload_n hC 19 hl dX7_split_19 rfl 3 rfl ?_
      refine z_if_lt hC 20 28 dX7_split_20 rfl (by omega) (fun hb2 => ?_) (fun hb2 => ?_)
      · -- 20t
        refine z_iconst hC 28 dX7_split_28 ?_
        -- R29.2
        exact z_iret hC hH hQ 29 (((-1), (va_up (va_up (va_up F 0 (0)) 5 ((n : Int))) 7 ((t : Int))), (va_up Ar 3 (cI (n) v gv)))) dX7_split_29 rfl ⟨by first | (unfold Sp_split; rw [if_neg (by omega)]) | (unfold Sp_split; rw [if_pos (by omega)]), by exact ⟨rfl, rfl, rfl, rfl, rfl, rfl, rfl, rfl, rfl, rfl, rfl, rfl, rfl, rfl, rfl, rfl⟩⟩ rfl (Nat.le_refl _) (Nat.le_refl _)
      · -- 20f
        refine z_iload_n hC 23 hl dX7_split_23 rfl 3 rfl ?_
        refine z_iconst hC 24 dX7_split_24 ?_
        refine z_icmp_le hC 25 30 dX7_split_25 rfl (by omega) (by omega) (fun hb3 => ?_) (fun hb3 => ?_)
        · -- 25t
          obtain ⟨l1, rfl⟩ := Int.eq_ofNat_of_zero_le (show 0 ≤ l by omega)
          obtain ⟨r1, rfl⟩ := Int.eq_ofNat_of_zero_le (show 0 ≤ r by omega)
          refine z_iload_n hC 30 hl dX7_split_30 rfl 1 rfl ?_
          refine z_istore (lv' := [(4, .int (iZ ((l1 : Int)))), (0, .ref (ad 0)), (1, .int (iZ ((l1 : Int)))), (2, .int (iZ ((r1 : Int)))), (3, .int (iZ (q)))]) hC 31 hl dX7_split_31 (by decide) rfl (fun ls hl => ?_)
          refine z_iconst hC 33 dX7_split_33 ?_
          refine z_istore (lv' := [(5, .int (iZ ((-1)))), (4, .int (iZ ((l1 : Int)))), (0, .ref (ad 0)), (1, .int (iZ ((l1 : Int)))), (2, .int (iZ ((r1 : Int)))), (3, .int (iZ (q)))]) hC 34 hl dX7_split_34 (by decide) rfl (fun ls hl => ?_)
          refine z_iload_n hC 36 hl dX7_split_36 rfl 3 rfl ?_
          refine z_istore (lv' := [(6, .int (iZ ((l1 : Int)))), (5, .int (iZ ((-1)))), (4, .int (iZ ((l1 : Int)))), (0, .ref (ad 0)), (1, .int (iZ ((l1 : Int)))), (2, .int (iZ ((r1 : Int)))), (3, .int (iZ (q)))]) hC 37 hl dX7_split_37 (by decide) rfl (fun ls hl => ?_)
          have L39 : ∀ (N_ : Nat) (m : Nat) (b : Nat) (ms : Int) (f38 : Int) (a34 : Nat → Int) (a35 : Nat → Int) (a36 : Nat → Int) (a37 : Nat → Int) (H : Heap) (locs : List Loc) (ls : Array Slot), r1 - m < N_ → (l1 ≤ m) → (m ≤ r1) → (b ≤ r1) → (-1 ≤ ms ∧ ms ≤ 240) → (MX (splF v t l1 (r1 + 1)) l1 m b ms) → zH s0 s1 G as0 (mW ad G (va_up (va_up (va_up (va_up F 0 (0)) 5 ((n : Int))) 7 ((t : Int))) 38 (f38)) (va_up (va_up (va_up (va_up (va_up Ar 3 (cI (n) v gv)) 34 a34) 35 a35) 36 a36) 37 a37)) H locs → lv_has ls 8 [(0, .ref (ad 0)), (1, .int (iZ ((l1 : Int)))), (2, .int (iZ ((r1 : Int)))), (3, .int (iZ (q))), (4, .int (iZ ((b : Int)))), (5, .int (iZ (ms))), (6, .int (iZ ((m : Int))))] → W pg lau ev (zRm 3 0 0 68) s1 mi ar bl me cd H locs 0 0 Q (F0 mi 39 ls []) := by
            intro N_
            induction N_ with
            | zero => intro m b ms f38 a34 a35 a36 a37 H locs ls hd; exact absurd hd (Nat.not_lt_zero _)
            | succ N_ ih39 =>
              intro m b ms f38 a34 a35 a36 a37 H locs ls hd39 i39_1 i39_2 i39_3 i39_4 im hH hl
              refine z_iload hC 39 hl dX7_split_39 6 rfl ?_
              refine z_iload_n hC 41 hl dX7_split_41 rfl 2 rfl ?_
              refine z_icmp_ge hC 42 102 dX7_split_42 rfl (by omega) (by omega) (fun hb4 => ?_) (fun hb4 => ?_)
              · -- 42t
                have em : (m) = r1 := by omega
                rw [em] at im
                refine z_iload_n hC 102 hl dX7_split_102 rfl 3 rfl ?_
                refine z_if_ne hC 103 111 dX7_split_103 rfl (by omega) (fun hb5 => ?_) (fun hb5 => ?_)
                · -- 103t
                  refine z_iload hC 111 hl dX7_split_111 5 rfl ?_
                  -- R113.3
                  exact z_iret hC hH hQ 113 ((ms, (va_up (va_up (va_up (va_up F 0 (0)) 5 ((n : Int))) 7 ((t : Int))) 38 (f38)), (va_up (va_up (va_up (va_up (va_up Ar 3 (cI (n) v gv)) 34 a34) 35 a35) 36 a36) 37 a37))) dX7_split_113 rfl ⟨by (unfold Sp_split; rw [if_pos (by omega)]; simp only [Int.toNat_natCast, zt1]; exact ⟨b, ms, im, by first | (rw [if_pos (by omega)]; done) | (rw [if_neg (by omega)]; done)⟩), by exact ⟨rfl, rfl, rfl, rfl, rfl, rfl, rfl, rfl, rfl, rfl, rfl, rfl, rfl, rfl, rfl, rfl⟩⟩ rfl (Nat.le_refl _) (Nat.le_refl _)
                · -- 103f
                  refine z_iload hC 106 hl dX7_split_106 4 rfl ?_
                  refine z_goto hC 108 113 dX7_split_108 rfl ?_
                  -- R113.4
                  exact z_iret hC hH hQ 113 (((b : Int), (va_up (va_up (va_up (va_up F 0 (0)) 5 ((n : Int))) 7 ((t : Int))) 38 (f38)), (va_up (va_up (va_up (va_up (va_up Ar 3 (cI (n) v gv)) 34 a34) 35 a35) 36 a36) 37 a37))) dX7_split_113 rfl ⟨by (unfold Sp_split; rw [if_pos (by omega)]; simp only [Int.toNat_natCast, zt1]; exact ⟨b, ms, im, by first | (rw [if_pos (by omega)]; done) | (rw [if_neg (by omega)]; done)⟩), by exact ⟨rfl, rfl, rfl, rfl, rfl, rfl, rfl, rfl, rfl, rfl, rfl, rfl, rfl, rfl, rfl, rfl⟩⟩ rfl (Nat.le_refl _) (Nat.le_refl _)
              · -- 42f
                refine z_aload_n hC 45 hl dX7_split_45 rfl 0 rfl ?_
                refine gmW_34 hC hH 46 dX7_split_46 ?_
                refine z_aload_n hC 49 hl dX7_split_49 rfl 0 rfl ?_
                refine z_iload_n hC 50 hl dX7_split_50 rfl 1 rfl ?_
                refine z_iload hC 51 hl dX7_split_51 6 rfl ?_
                refine z_st (st' := [.int (iZ (((m + 1 : Nat) : Int) - 1)), .int (iZ ((l1 : Int))), .ref (ad 0), .ref (ad 34)]) (zcons (zieq (by omega)) (zcons rfl rfl)) ?_
                refine z_same (z_runV hC hH.2.2 hl.1 hH.1 hH.2.1 2 (As := [.int (iZ ((l1 : Int))), .int (iZ (((m + 1 : Nat) : Int) - 1))]) (rest := [.ref (ad 34)]) (m_X7_modeOf lau s0 G _ ad (va_up (va_up (va_up (va_up F 0 (0)) 5 ((n : Int))) 7 ((t : Int))) 38 (f38)) (va_up (va_up (va_up (va_up (va_up Ar 3 (cI (n) v gv)) 34 a34) 35 a35) 36 a36) 37 a37) n v gv l1 (m + 1) t (by first | assumption | omega) (by first | assumption | omega) (by first | assumption | omega) (by first | assumption | omega) (by first | assumption | omega)) (lw_V q1760 q1762 qs72 q95 q1763) ⟨rfl, by decide, by decide, by decide +kernel⟩ (q0 := 0) (ci := 0) rfl rfl rfl rfl (Nat.le_of_ble_eq_true rfl) ⟨Nat.le_of_ble_eq_true rfl, Nat.le_of_ble_eq_true rfl⟩ ⟨Nat.le_of_ble_eq_true rfl, Nat.le_of_ble_eq_true rfl⟩ dX7_split_53) hH (fun u_ H locs hpost hH => ?_)
                obtain ⟨o_53, go_53, fo_53, la_53, k_53, u_53, gu_53⟩ := u_
                obtain ⟨pCO_53, pm1_53, pm2_53, pk_53⟩ : (CO v l1 (m + 1) o_53 fo_53 la_53 k_53 u_53) ∧ (md v l1 (m + 1) t < 1000) ∧ (0 < cnt v l1 (m + 1) (md v l1 (m + 1) t)) ∧ (0 < k_53) := hpost
                have hH : zH s0 s1 G as0 (mW ad G (va_up (va_up (va_up (va_up F 0 (0)) 5 ((n : Int))) 7 ((t : Int))) 38 ((k_53 : Int))) (va_up (va_up (va_up (va_up (va_up Ar 3 (cI (n) v gv)) 34 (cI (1000) o_53 go_53)) 35 fo_53) 36 la_53) 37 (cI (k_53) u_53 gu_53))) H locs := hH
                refine z_st (st' := [.int (iZ (((md v l1 (m + 1) t : Nat) : Int))), .ref (ad 34)]) rfl ?_
                have ho1 := pCO_53.1 (md v l1 (m + 1) t) (by assumption)
                have hc1 := cnt_le v l1 (m + 1) (md v l1 (m + 1) t)
                refine lmW_34 (x := ((o_53 (md v l1 (m + 1) t) : Nat) : Int)) hC hH 56 ((md v l1 (m + 1) t)) (by omega) (by omega) (cI_lt (by omega)) dX7_split_56 ?_
                refine z_istore (lv' := [(7, .int (iZ (((o_53 (md v l1 (m + 1) t) : Nat) : Int)))), (0, .ref (ad 0)), (1, .int (iZ ((l1 : Int)))), (2, .int (iZ ((r1 : Int)))), (3, .int (iZ (q))), (4, .int (iZ ((b : Int)))), (5, .int (iZ (ms))), (6, .int (iZ ((m : Int))))]) hC 57 hl dX7_split_57 (by decide) rfl (fun ls hl => ?_)
                refine z_iload hC 59 hl dX7_split_59 0 rfl ?_
                refine z_aload_n hC 61 hl dX7_split_61 rfl 1 rfl ?_
                refine gmW_34 hC hH 62 dX7_split_62 ?_
                refine z_aload_n hC 65 hl dX7_split_65 rfl 1 rfl ?_
                refine z_iload hC 66 hl dX7_split_66 7 rfl ?_
                refine z_iconst hC 68 dX7_split_68 ?_
                refine z_iadd (e := (m : Int) + 1) hC 69 dX7_split_69 rfl ?_
                refine z_iload_n hC 70 hl dX7_split_70 rfl 3 rfl ?_
                refine z_st (st' := [.int (iZ (((r1 + 1 : Nat) : Int) - 1)), .int (iZ (((m + 1 : Nat) : Int))), .ref (ad 0), .ref (ad 34), .int (iZ (((o_53 (md v l1 (m + 1) t) : Nat) : Int)))]) (zcons (zieq (by omega)) (zcons (zieq (by omega)) rfl)) ?_
                refine z_same (z_runV hC hH.2.2 hl.1 hH.1 hH.2.1 2 (As := [.int (iZ (((m + 1 : Nat) : Int))), .int (iZ (((r1 + 1 : Nat) : Int) - 1))]) (rest := [.ref (ad 34), .int (iZ (((o_53 (md v l1 (m + 1) t) : Nat) : Int)))]) (m_X7_modeOf lau s0 G _ ad (va_up (va_up (va_up (va_up F 0 (0)) 5 ((n : Int))) 7 ((t : Int))) 38 ((k_53 : Int))) (va_up (va_up (va_up (va_up (va_up Ar 3 (cI (n) v gv)) 34 (cI (1000) o_53 go_53)) 35 fo_53) 36 la_53) 37 (cI (k_53) u_53 gu_53)) n v gv (m + 1) (r1 + 1) t (by first | assumption | omega) (by first | assumption | omega) (by first | assumption | omega) (by first | assumption | omega) (by first | assumption | omega)) (lw_V q1760 q1762 qs72 q95 q1763) ⟨rfl, by decide, by decide, by decide +kernel⟩ (q0 := 0) (ci := 0) rfl rfl rfl rfl (Nat.le_of_ble_eq_true rfl) ⟨Nat.le_of_ble_eq_true rfl, Nat.le_of_ble_eq_true rfl⟩ ⟨Nat.le_of_ble_eq_true rfl, Nat.le_of_ble_eq_true rfl⟩ dX7_split_71) hH (fun u_ H locs hpost hH => ?_)
                obtain ⟨o_71, go_71, fo_71, la_71, k_71, u_71, gu_71⟩ := u_
                obtain ⟨pCO_71, pm1_71, pm2_71, pk_71⟩ : (CO v (m + 1) (r1 + 1) o_71 fo_71 la_71 k_71 u_71) ∧ (md v (m + 1) (r1 + 1) t < 1000) ∧ (0 < cnt v (m + 1) (r1 + 1) (md v (m + 1) (r1 + 1) t)) ∧ (0 < k_71) := hpost
                have hH : zH s0 s1 G as0 (mW ad G (va_up (va_up (va_up (va_up F 0 (0)) 5 ((n : Int))) 7 ((t : Int))) 38 ((k_71 : Int))) (va_up (va_up (va_up (va_up (va_up Ar 3 (cI (n) v gv)) 34 (cI (1000) o_71 go_71)) 35 fo_71) 36 la_71) 37 (cI (k_71) u_71 gu_71))) H locs := hH
                refine z_st (st' := [.int (iZ (((md v (m + 1) (r1 + 1) t : Nat) : Int))), .ref (ad 34), .int (iZ (((o_53 (md v l1 (m + 1) t) : Nat) : Int)))]) rfl ?_
                have ho2 := pCO_71.1 (md v (m + 1) (r1 + 1) t) (by assumption)
                have hc2 := cnt_le v (m + 1) (r1 + 1) (md v (m + 1) (r1 + 1) t)
                have hsp : (splF v t l1 (r1 + 1) m : Int) = ((o_53 (md v l1 (m + 1) t) : Nat) : Int) + ((o_71 (md v (m + 1) (r1 + 1) t) : Nat) : Int) := by unfold splF; omega
                refine lmW_34 (x := ((o_71 (md v (m + 1) (r1 + 1) t) : Nat) : Int)) hC hH 74 ((md v (m + 1) (r1 + 1) t)) (by omega) (by omega) (cI_lt (by omega)) dX7_split_74 ?_
                refine z_iadd (e := ((o_53 (md v l1 (m + 1) t) : Nat) : Int) + ((o_71 (md v (m + 1) (r1 + 1) t) : Nat) : Int)) hC 75 dX7_split_75 rfl ?_
                refine z_istore (lv' := [(7, .int (iZ (((o_53 (md v l1 (m + 1) t) : Nat) : Int) + ((o_71 (md v (m + 1) (r1 + 1) t) : Nat) : Int)))), (0, .ref (ad 0)), (1, .int (iZ ((l1 : Int)))), (2, .int (iZ ((r1 : Int)))), (3, .int (iZ (q))), (4, .int (iZ ((b : Int)))), (5, .int (iZ (ms))), (6, .int (iZ ((m : Int))))]) hC 76 hl dX7_split_76 (by decide) rfl (fun ls hl => ?_)
                refine z_iload hC 78 hl dX7_split_78 0 rfl ?_
                refine z_iload hC 80 hl dX7_split_80 6 rfl ?_
                refine z_icmp_gt hC 82 88 dX7_split_82 rfl (by omega) (by omega) (fun hb6 => ?_) (fun hb6 => ?_)
                · -- 82t
                  refine z_iload hC 88 hl dX7_split_88 7 rfl ?_
                  refine z_istore (lv' := [(4, .int (iZ ((m : Int)))), (7, .int (iZ (((o_53 (md v l1 (m + 1) t) : Nat) : Int) + ((o_71 (md v (m + 1) (r1 + 1) t) : Nat) : Int)))), (0, .ref (ad 0)), (1, .int (iZ ((l1 : Int)))), (2, .int (iZ ((r1 : Int)))), (3, .int (iZ (q))), (5, .int (iZ (ms))), (6, .int (iZ ((m : Int))))]) hC 90 hl dX7_split_90 (by decide) rfl (fun ls hl => ?_)
                  refine z_iload hC 92 hl dX7_split_92 1 rfl ?_
                  refine z_istore (lv' := [(5, .int (iZ (((o_53 (md v l1 (m + 1) t) : Nat) : Int) + ((o_71 (md v (m + 1) (r1 + 1) t) : Nat) : Int)))), (4, .int (iZ ((m : Int)))), (7, .int (iZ (((o_53 (md v l1 (m + 1) t) : Nat) : Int) + ((o_71 (md v (m + 1) (r1 + 1) t) : Nat) : Int)))), (0, .ref (ad 0)), (1, .int (iZ ((l1 : Int)))), (2, .int (iZ ((r1 : Int)))), (3, .int (iZ (q))), (6, .int (iZ ((m : Int))))]) hC 94 hl dX7_split_94 (by decide) rfl (fun ls hl => ?_)
                  refine z_iinc (lv' := [(6, .int (iZ ((m : Int) + 1))), (5, .int (iZ (((o_53 (md v l1 (m + 1) t) : Nat) : Int) + ((o_71 (md v (m + 1) (r1 + 1) t) : Nat) : Int)))), (4, .int (iZ ((m : Int)))), (7, .int (iZ (((o_53 (md v l1 (m + 1) t) : Nat) : Int) + ((o_71 (md v (m + 1) (r1 + 1) t) : Nat) : Int)))), (0, .ref (ad 0)), (1, .int (iZ ((l1 : Int)))), (2, .int (iZ ((r1 : Int)))), (3, .int (iZ (q)))]) hC 96 hl dX7_split_96 7 rfl (by omega) (by decide) rfl (fun ls hl => ?_)
                  refine z_goto hC 99 39 dX7_split_99 rfl ?_
                  -- J39.5
                  exact ih39 (m + 1) m (((o_53 (md v l1 (m + 1) t) : Nat) : Int) + ((o_71 (md v (m + 1) (r1 + 1) t) : Nat) : Int)) (k_71 : Int) (cI (1000) o_71 go_71) fo_71 la_71 (cI (k_71) u_71 gu_71) _ _ _ (by omega) (by first | assumption | omega) (by first | assumption | omega) (by first | assumption | omega) (by first | assumption | omega) (by first | exact Or.inl ⟨rfl, rfl, by omega⟩ | exact MX_keep im (by omega) (by omega) | (have q := MX_new im (by omega) (show ms < (splF v t l1 (r1 + 1) m : Int) by omega); rw [hsp] at q; exact q)) hH (z_lv (lv_sub hl [4, 5, 6, 7, 2, 1, 0] rfl) (zcons rfl (zcons rfl (zcons rfl (zcons rfl (zcons rfl (zcons (zpeq (by omega)) (zcons (zpeq (by omega)) rfl))))))))
                · -- 82f
                  refine z_goto hC 85 96 dX7_split_85 rfl ?_
                  refine z_iinc (lv' := [(6, .int (iZ ((m : Int) + 1))), (7, .int (iZ (((o_53 (md v l1 (m + 1) t) : Nat) : Int) + ((o_71 (md v (m + 1) (r1 + 1) t) : Nat) : Int)))), (0, .ref (ad 0)), (1, .int (iZ ((l1 : Int)))), (2, .int (iZ ((r1 : Int)))), (3, .int (iZ (q))), (4, .int (iZ ((b : Int)))), (5, .int (iZ (ms)))]) hC 96 hl dX7_split_96 7 rfl (by omega) (by decide) rfl (fun ls hl => ?_)
                  refine z_goto hC 99 39 dX7_split_99 rfl ?_
                  -- J39.6
                  exact ih39 (m + 1) b ms (k_71 : Int) (cI (1000) o_71 go_71) fo_71 la_71 (cI (k_71) u_71 gu_71) _ _ _ (by omega) (by first | assumption | omega) (by first | assumption | omega) (by first | assumption | omega) (by first | assumption | omega) (by first | exact Or.inl ⟨rfl, rfl, by omega⟩ | exact MX_keep im (by omega) (by omega) | (have q := MX_new im (by omega) (show ms < (splF v t l1 (r1 + 1) m : Int) by omega); rw [hsp] at q; exact q)) hH (z_lv (lv_sub hl [2, 3, 4, 5, 6, 7, 0] rfl) (zcons rfl (zcons rfl (zcons rfl (zcons rfl (zcons rfl (zcons rfl (zcons (zpeq (by omega)) rfl))))))))
          -- J39.7
          exact L39 _ l1 l1 (-1) (F 38) (Ar 34) (Ar 35) (Ar 36) (Ar 37) _ _ _ (Nat.lt_succ_self _) (by first | assumption | omega) (by first | assumption | omega) (by first | assumption | omega) (by first | assumption | omega) (by first | exact Or.inl ⟨rfl, rfl, by omega⟩ | exact MX_keep im (by omega) (by omega) | (have q := MX_new im (by omega) (show ms < (splF v t l1 (r1 + 1) m : Int) by omega); rw [hsp] at q; exact q)) hH (lv_sub hl [3, 4, 5, 6, 2, 1, 0] rfl)
        · -- 25f
          refine z_iconst hC 28 dX7_split_28 ?_
          -- R29.8
          exact z_iret hC hH hQ 29 (((-1), (va_up (va_up (va_up F 0 (0)) 5 ((n : Int))) 7 ((t : Int))), (va_up Ar 3 (cI (n) v gv)))) dX7_split_29 rfl ⟨by first | (unfold Sp_split; rw [if_neg (by omega)]) | (unfold Sp_split; rw [if_pos (by omega)]), by exact ⟨rfl, rfl, rfl, rfl, rfl, rfl, rfl, rfl, rfl, rfl, rfl, rfl, rfl, rfl, rfl, rfl⟩⟩ rfl (Nat.le_refl _) (Nat.le_refl _)
  · -- 8=0
    refine z_if_eq_t hC 11 28 dX7_split_11 rfl (by omega) (by omega) ?_
    refine z_iconst hC 28 dX7_split_28 ?_
    -- R29.9
    exact z_iret hC hH hQ 29 (((-1), (va_up (va_up (va_up F 0 (0)) 5 ((n : Int))) 7 ((t : Int))), (va_up Ar 3 (cI (n) v gv)))) dX7_split_29 rfl ⟨by first | (unfold Sp_split; rw [if_neg (by omega)]) | (unfold Sp_split; rw [if_pos (by omega)]), by exact ⟨rfl, rfl, rfl, rfl, rfl, rfl, rfl, rfl, rfl, rfl, rfl, rfl, rfl, rfl, rfl, rfl⟩⟩ rfl (Nat.le_refl _) (Nat.le_refl _)
