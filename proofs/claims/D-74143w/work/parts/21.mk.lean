/-! methods of ModeDeskModel: 21.mk -/
set_option maxHeartbeats 4000000 in
set_option maxRecDepth 100000 in
theorem m_X7_undo (lau : Launch) (s0 : State) (G : zG) (sz : Nat) (ad : Nat → Nat) (F : Nat → Int) (Ar : Nat → Nat → Int) (n : Nat) (v : Nat → Nat) (gv : Nat → Int) (wt : Nat → Nat) (gw : Nat → Int) (un : Nat) (hm : Nat → Nat) (hvv : Nat → Nat → Nat) (hww : Nat → Nat → Nat) (pv : Nat → Int) (pw : Nat → Int) (pm : Nat → Int) (b : Nat) (fr : Int) (hn : n ≤ 120) (hv : ∀ i, i < n → v i < 1000) (hwt : ∀ i, i < n → 1 ≤ wt i ∧ wt i ≤ 9) (hun : un ≤ 12) (hPA : PAST un pv pw pm hm hvv hww) (hb : 2 ≤ b ∧ b ≤ 20) : zMet (S := Int × Nat × (Nat → Nat) × (Nat → Nat) × Int × (Nat → Int) × (Nat → Int) × (Nat → Int) × (Nat → Int) × Nat × Int) lau yX7_undo cX7_undo 2 (some .int) 4 91 0 0 s0 G sz [.ref (ad 0)] (mW ad G (va_up (va_up (va_up (va_up F 5 ((n : Int))) 6 ((b : Int))) 12 ((un : Int))) 13 (fr)) (va_up (va_up (va_up (va_up (va_up Ar 3 (cI (n) v gv)) 4 (cI (n) wt gw)) 9 pv) 10 pw) 11 pm)) (fun ((r_, n2, v2, w2, tm, tv, tw, gv1, gw1, un2, fr2) : Int × Nat × (Nat → Nat) × (Nat → Nat) × Int × (Nat → Int) × (Nat → Int) × (Nat → Int) × (Nat → Int) × Nat × Int) => some (.int (iZ (r_)))) (fun ((r_, n2, v2, w2, tm, tv, tw, gv1, gw1, un2, fr2) : Int × Nat × (Nat → Nat) × (Nat → Nat) × Int × (Nat → Int) × (Nat → Int) × (Nat → Int) × (Nat → Int) × Nat × Int) => (Sp_undo n v wt b un hm hvv hww fr r_ n2 v2 w2 un2 fr2) ∧ (n2 ≤ 120) ∧ (∀ i, i < n2 → v2 i < 1000) ∧ (∀ i, i < n2 → 1 ≤ w2 i ∧ w2 i ≤ 9) ∧ (PAST un2 pv pw pm hm hvv hww) ∧ (un2 ≤ 12)) (fun ((r_, n2, v2, w2, tm, tv, tw, gv1, gw1, un2, fr2) : Int × Nat × (Nat → Nat) × (Nat → Nat) × Int × (Nat → Int) × (Nat → Int) × (Nat → Int) × (Nat → Int) × Nat × Int) => (mW ad G (va_up (va_up (va_up (va_up (va_up (va_up F 0 (0)) 5 ((n2 : Int))) 6 ((b : Int))) 12 ((un2 : Int))) 13 (fr2)) 33 (tm)) (va_up (va_up (va_up (va_up (va_up (va_up (va_up Ar 3 (cI (n2) v2 gv1)) 4 (cI (n2) w2 gw1)) 9 pv) 10 pw) 11 pm) 31 tv) 32 tw))) := by
  refine zMet.of (by decide) (Nat.le_of_ble_eq_true rfl) ?_
  intro pg ev s1 mi ar bl me cd ls Q as0 hC hH hl hQ hsz
  generalize s1.heap = H at hH ⊢
  generalize ([] : List Loc) = locs at hH ⊢
  have hl : lv_has ls 2 [(0, .ref (ad 0))] := hl
  refine z_aload_n hC 0 hl dX7_undo_0 rfl 0 rfl ?_
  refine z_iconst hC 1 dX7_undo_1 ?_
  refine pmW_0 hC hH 2 dX7_undo_2 (fun H locs hH => ?_)
  have hH : zH s0 s1 G as0 (mW ad G (va_up (va_up (va_up (va_up (va_up F 0 (0)) 5 ((n : Int))) 6 ((b : Int))) 12 ((un : Int))) 13 (fr)) (va_up (va_up (va_up (va_up (va_up Ar 3 (cI (n) v gv)) 4 (cI (n) wt gw)) 9 pv) 10 pw) 11 pm)) H locs := hH
  refine z_aload_n hC 5 hl dX7_undo_5 rfl 0 rfl ?_
  refine gmW_12 (x := (un : Int)) hC hH 6 rfl dX7_undo_6 ?_
  refine z_if_ne hC 9 14 dX7_undo_9 rfl (by omega) (fun hb1 => ?_) (fun hb1 => ?_)
  · -- 9t
    have hpa := hPA (un - 1) (by omega)
    refine z_aload_n hC 14 hl dX7_undo_14 rfl 0 rfl ?_
    refine z_dup hC 15 dX7_undo_15 rfl ?_
    refine gmW_12 (x := (un : Int)) hC hH 16 rfl dX7_undo_16 ?_
    refine z_iconst hC 19 dX7_undo_19 ?_
    refine z_isub (e := (un : Int) - 1) hC 20 dX7_undo_20 rfl ?_
    refine pmW_12 hC hH 21 dX7_undo_21 (fun H locs hH => ?_)
    have hH : zH s0 s1 G as0 (mW ad G (va_up (va_up (va_up (va_up (va_up F 0 (0)) 5 ((n : Int))) 6 ((b : Int))) 12 ((un : Int) - 1)) 13 (fr)) (va_up (va_up (va_up (va_up (va_up Ar 3 (cI (n) v gv)) 4 (cI (n) wt gw)) 9 pv) 10 pw) 11 pm)) H locs := hH
    refine z_aload_n hC 24 hl dX7_undo_24 rfl 0 rfl ?_
    refine z_aload_n hC 25 hl dX7_undo_25 rfl 0 rfl ?_
    refine gmW_11 hC hH 26 dX7_undo_26 ?_
    refine z_aload_n hC 29 hl dX7_undo_29 rfl 0 rfl ?_
    refine gmW_12 (x := (un : Int) - 1) hC hH 30 rfl dX7_undo_30 ?_
    refine lmW_11 (x := (pm (un - 1))) hC hH 33 (un - 1) (by omega) (by omega) rfl dX7_undo_33 ?_
    refine pmW_33 hC hH 34 dX7_undo_34 (fun H locs hH => ?_)
    have hH : zH s0 s1 G as0 (mW ad G (va_up (va_up (va_up (va_up (va_up (va_up F 0 (0)) 5 ((n : Int))) 6 ((b : Int))) 12 ((un : Int) - 1)) 13 (fr)) 33 ((pm (un - 1)))) (va_up (va_up (va_up (va_up (va_up Ar 3 (cI (n) v gv)) 4 (cI (n) wt gw)) 9 pv) 10 pw) 11 pm)) H locs := hH
    have hcv2 : ((pm (un - 1)) : Int) = ((hm (un - 1) : Nat) : Int) := by have := hpa.1; omega
    rw [hcv2] at hH
    have hH : zH s0 s1 G as0 (mW ad G (va_up (va_up (va_up (va_up (va_up (va_up F 0 (0)) 5 ((n : Int))) 6 ((b : Int))) 12 ((un : Int) - 1)) 13 (fr)) 33 (((hm (un - 1) : Nat) : Int))) (va_up (va_up (va_up (va_up (va_up Ar 3 (cI (n) v gv)) 4 (cI (n) wt gw)) 9 pv) 10 pw) 11 pm)) H locs := hH
    refine z_iconst hC 37 dX7_undo_37 ?_
    refine z_istore_n (lv' := [(1, .int (iZ (0))), (0, .ref (ad 0))]) hC 38 hl dX7_undo_38 rfl (by decide) rfl (fun ls hl => ?_)
    have L39 : ∀ (N_ : Nat) (p : Nat) (tv : Nat → Int) (tw : Nat → Int) (H : Heap) (locs : List Loc) (ls : Array Slot), hm (un - 1) - p < N_ → (p ≤ hm (un - 1)) → (∀ j, j < p → tv j = (hvv (un - 1) j : Int)) → (∀ j, j < p → tw j = (hww (un - 1) j : Int)) → zH s0 s1 G as0 (mW ad G (va_up (va_up (va_up (va_up (va_up (va_up F 0 (0)) 5 ((n : Int))) 6 ((b : Int))) 12 ((un : Int) - 1)) 13 (fr)) 33 (((hm (un - 1) : Nat) : Int))) (va_up (va_up (va_up (va_up (va_up (va_up (va_up Ar 3 (cI (n) v gv)) 4 (cI (n) wt gw)) 9 pv) 10 pw) 11 pm) 31 tv) 32 tw)) H locs → lv_has ls 2 [(0, .ref (ad 0)), (1, .int (iZ ((p : Int))))] → W pg lau ev (zRm 4 0 0 91) s1 mi ar bl me cd H locs 0 0 Q (F0 mi 39 ls []) := by
      intro N_
      induction N_ with
      | zero => intro p tv tw H locs ls hd; exact absurd hd (Nat.not_lt_zero _)
      | succ N_ ih39 =>
        intro p tv tw H locs ls hd39 i39_1 it iw hH hl
        refine z_iload_n hC 39 hl dX7_undo_39 rfl 1 rfl ?_
        refine z_aload_n hC 40 hl dX7_undo_40 rfl 0 rfl ?_
        refine gmW_33 (x := ((hm (un - 1) : Nat) : Int)) hC hH 41 rfl dX7_undo_41 ?_
        refine z_icmp_ge hC 44 93 dX7_undo_44 rfl (by omega) (by omega) (fun hb3 => ?_) (fun hb3 => ?_)
        · -- 44t
          have hcv4 : tv = (cI ((hm (un - 1))) (hvv (un - 1)) tv) := by exact cI_self (fun j hj => it j (by omega))
          rw [hcv4] at hH
          have hH : zH s0 s1 G as0 (mW ad G (va_up (va_up (va_up (va_up (va_up (va_up F 0 (0)) 5 ((n : Int))) 6 ((b : Int))) 12 ((un : Int) - 1)) 13 (fr)) 33 (((hm (un - 1) : Nat) : Int))) (va_up (va_up (va_up (va_up (va_up (va_up (va_up Ar 3 (cI (n) v gv)) 4 (cI (n) wt gw)) 9 pv) 10 pw) 11 pm) 31 (cI ((hm (un - 1))) (hvv (un - 1)) tv)) 32 tw)) H locs := hH
          have hcv5 : tw = (cI ((hm (un - 1))) (hww (un - 1)) tw) := by exact cI_self (fun j hj => iw j (by omega))
          rw [hcv5] at hH
          have hH : zH s0 s1 G as0 (mW ad G (va_up (va_up (va_up (va_up (va_up (va_up F 0 (0)) 5 ((n : Int))) 6 ((b : Int))) 12 ((un : Int) - 1)) 13 (fr)) 33 (((hm (un - 1) : Nat) : Int))) (va_up (va_up (va_up (va_up (va_up (va_up (va_up Ar 3 (cI (n) v gv)) 4 (cI (n) wt gw)) 9 pv) 10 pw) 11 pm) 31 (cI ((hm (un - 1))) (hvv (un - 1)) tv)) 32 (cI ((hm (un - 1))) (hww (un - 1)) tw))) H locs := hH
          refine z_aload_n hC 93 hl dX7_undo_93 rfl 0 rfl ?_
          refine z_same (z_runV hC hH.2.2 hl.1 hH.1 hH.2.1 0 (As := []) (rest := []) (m_X7_becomes lau s0 G _ ad (va_up (va_up (va_up (va_up (va_up (va_up F 0 (0)) 5 ((n : Int))) 6 ((b : Int))) 12 ((un : Int) - 1)) 13 (fr)) 33 (((hm (un - 1) : Nat) : Int))) (va_up (va_up (va_up (va_up (va_up (va_up (va_up Ar 3 (cI (n) v gv)) 4 (cI (n) wt gw)) 9 pv) 10 pw) 11 pm) 31 (cI ((hm (un - 1))) (hvv (un - 1)) tv)) 32 (cI ((hm (un - 1))) (hww (un - 1)) tw)) n v gv wt gw (hm (un - 1)) (hvv (un - 1)) (hww (un - 1)) tv tw b (by first | assumption | omega) (by first | assumption | omega) (by first | assumption | omega) (by exact hpa.2.1) (by exact fun i hi => (hpa.2.2 i hi).2.2.1) (by exact fun i hi => (hpa.2.2 i hi).2.2.2) (by first | assumption | omega)) (lw_V q1657 q1659 qs60 q95 q1660) ⟨rfl, by decide, by decide, by decide +kernel⟩ (q0 := 0) (ci := 0) rfl rfl rfl rfl (Nat.le_of_ble_eq_true rfl) ⟨Nat.le_of_ble_eq_true rfl, Nat.le_of_ble_eq_true rfl⟩ ⟨Nat.le_of_ble_eq_true rfl, Nat.le_of_ble_eq_true rfl⟩ dX7_undo_94) hH (fun u_ H locs hpost hH => ?_)
          obtain ⟨gv1_94, gw1_94⟩ := u_
          have hH : zH s0 s1 G as0 (mW ad G (va_up (va_up (va_up (va_up (va_up (va_up F 0 (0)) 5 (((hm (un - 1) : Nat) : Int))) 6 ((b : Int))) 12 ((un : Int) - 1)) 13 (((frs b n v (hm (un - 1)) (hvv (un - 1)) : Nat) : Int))) 33 (((hm (un - 1) : Nat) : Int))) (va_up (va_up (va_up (va_up (va_up (va_up (va_up Ar 3 (cI ((hm (un - 1))) (hvv (un - 1)) gv1_94)) 4 (cI ((hm (un - 1))) (hww (un - 1)) gw1_94)) 9 pv) 10 pw) 11 pm) 31 (cI ((hm (un - 1))) (hvv (un - 1)) tv)) 32 (cI ((hm (un - 1))) (hww (un - 1)) tw))) H locs := hH
          refine z_st (st' := []) rfl ?_
          refine z_aload_n hC 97 hl dX7_undo_97 rfl 0 rfl ?_
          refine gmW_12 (x := (un : Int) - 1) hC hH 98 rfl dX7_undo_98 ?_
          -- R101.1
          rw [show ((un : Int) - 1 : Int) = ((un - 1 : Nat) : Int) from by omega] at hH
          have hH : zH s0 s1 G as0 (mW ad G (va_up (va_up (va_up (va_up (va_up (va_up F 0 (0)) 5 (((hm (un - 1) : Nat) : Int))) 6 ((b : Int))) 12 (((un - 1 : Nat) : Int))) 13 (((frs b n v (hm (un - 1)) (hvv (un - 1)) : Nat) : Int))) 33 (((hm (un - 1) : Nat) : Int))) (va_up (va_up (va_up (va_up (va_up (va_up (va_up Ar 3 (cI ((hm (un - 1))) (hvv (un - 1)) gv1_94)) 4 (cI ((hm (un - 1))) (hww (un - 1)) gw1_94)) 9 pv) 10 pw) 11 pm) 31 (cI ((hm (un - 1))) (hvv (un - 1)) tv)) 32 (cI ((hm (un - 1))) (hww (un - 1)) tw))) H locs := hH
          refine z_st (st' := [.int (iZ (((un : Int) - 1)))]) (zcons (zieq (by first | assumption | omega)) rfl) ?_
          exact z_iret hC hH hQ 101 (((un : Int) - 1, (hm (un - 1)), (hvv (un - 1)), (hww (un - 1)), ((hm (un - 1) : Nat) : Int), (cI ((hm (un - 1))) (hvv (un - 1)) tv), (cI ((hm (un - 1))) (hww (un - 1)) tw), gv1_94, gw1_94, (un - 1), ((frs b n v (hm (un - 1)) (hvv (un - 1)) : Nat) : Int))) dX7_undo_101 rfl ⟨by unfold Sp_undo; first | (rw [if_pos (by omega)]; exact ⟨rfl, rfl, rfl, rfl, by omega, rfl⟩) | (rw [if_neg (by omega)]; exact ⟨by omega, rfl, rfl, rfl, rfl, rfl⟩), by first | omega | exact hpa.2.1, by first | assumption | exact fun i hi => (hpa.2.2 i hi).2.2.1, by first | assumption | exact fun i hi => (hpa.2.2 i hi).2.2.2, by exact PAST_less hPA (by omega), by first | assumption | omega⟩ rfl (Nat.le_refl _) (Nat.le_refl _)
        · -- 44f
          refine z_aload_n hC 47 hl dX7_undo_47 rfl 0 rfl ?_
          refine gmW_31 hC hH 48 dX7_undo_48 ?_
          refine z_iload_n hC 51 hl dX7_undo_51 rfl 1 rfl ?_
          refine z_aload_n hC 52 hl dX7_undo_52 rfl 0 rfl ?_
          refine gmW_9 hC hH 53 dX7_undo_53 ?_
          refine z_bipush hC 56 dX7_undo_56 rfl ?_
          refine z_aload_n hC 58 hl dX7_undo_58 rfl 0 rfl ?_
          refine gmW_12 (x := (un : Int) - 1) hC hH 59 rfl dX7_undo_59 ?_
          refine z_imul (e := 120 * (un : Int) - 120) hC 62 dX7_undo_62 (by omega) ?_
          refine z_iload_n hC 63 hl dX7_undo_63 rfl 1 rfl ?_
          refine z_iadd (e := 120 * (un : Int) + (p : Int) - 120) hC 64 dX7_undo_64 (by omega) ?_
          refine lmW_9 (x := (pv (120 * un + p - 120))) hC hH 65 (120 * un + p - 120) (by omega) (by omega) rfl dX7_undo_65 ?_
          refine smW_31 (f' := (va_up tv (p) ((pv (120 * un + p - 120))))) hC hH 66 (p) (by omega) (by omega) rfl dX7_undo_66 (fun H locs hH => ?_)
          have hH : zH s0 s1 G as0 (mW ad G (va_up (va_up (va_up (va_up (va_up (va_up F 0 (0)) 5 ((n : Int))) 6 ((b : Int))) 12 ((un : Int) - 1)) 13 (fr)) 33 (((hm (un - 1) : Nat) : Int))) (va_up (va_up (va_up (va_up (va_up (va_up (va_up Ar 3 (cI (n) v gv)) 4 (cI (n) wt gw)) 9 pv) 10 pw) 11 pm) 31 (va_up tv (p) ((pv (120 * un + p - 120))))) 32 tw)) H locs := hH
          refine z_aload_n hC 67 hl dX7_undo_67 rfl 0 rfl ?_
          refine gmW_32 hC hH 68 dX7_undo_68 ?_
          refine z_iload_n hC 71 hl dX7_undo_71 rfl 1 rfl ?_
          refine z_aload_n hC 72 hl dX7_undo_72 rfl 0 rfl ?_
          refine gmW_10 hC hH 73 dX7_undo_73 ?_
          refine z_bipush hC 76 dX7_undo_76 rfl ?_
          refine z_aload_n hC 78 hl dX7_undo_78 rfl 0 rfl ?_
          refine gmW_12 (x := (un : Int) - 1) hC hH 79 rfl dX7_undo_79 ?_
          refine z_imul (e := 120 * (un : Int) - 120) hC 82 dX7_undo_82 (by omega) ?_
          refine z_iload_n hC 83 hl dX7_undo_83 rfl 1 rfl ?_
          refine z_iadd (e := 120 * (un : Int) + (p : Int) - 120) hC 84 dX7_undo_84 (by omega) ?_
          refine lmW_10 (x := (pw (120 * un + p - 120))) hC hH 85 (120 * un + p - 120) (by omega) (by omega) rfl dX7_undo_85 ?_
          refine smW_32 (f' := (va_up tw (p) ((pw (120 * un + p - 120))))) hC hH 86 (p) (by omega) (by omega) rfl dX7_undo_86 (fun H locs hH => ?_)
          have hH : zH s0 s1 G as0 (mW ad G (va_up (va_up (va_up (va_up (va_up (va_up F 0 (0)) 5 ((n : Int))) 6 ((b : Int))) 12 ((un : Int) - 1)) 13 (fr)) 33 (((hm (un - 1) : Nat) : Int))) (va_up (va_up (va_up (va_up (va_up (va_up (va_up Ar 3 (cI (n) v gv)) 4 (cI (n) wt gw)) 9 pv) 10 pw) 11 pm) 31 (va_up tv (p) ((pv (120 * un + p - 120))))) 32 (va_up tw (p) ((pw (120 * un + p - 120)))))) H locs := hH
          refine z_iinc (lv' := [(1, .int (iZ ((p : Int) + 1))), (0, .ref (ad 0))]) hC 87 hl dX7_undo_87 1 rfl (by omega) (by decide) rfl (fun ls hl => ?_)
          refine z_goto hC 90 39 dX7_undo_90 rfl ?_
          -- J39.2
          exact ih39 (p + 1) (va_up tv (p) ((pv (120 * un + p - 120)))) (va_up tw (p) ((pw (120 * un + p - 120)))) _ _ _ (by omega) (by first | assumption | omega) (by first | (intro j hj; omega) | exact und_s it (fun q hq => (hpa.2.2 q hq).1) (by omega) (by omega)) (by first | (intro j hj; omega) | exact und_s iw (fun q hq => (hpa.2.2 q hq).2.1) (by omega) (by omega)) hH (z_lv (lv_sub hl [1, 0] rfl) (zcons rfl (zcons (zpeq (by omega)) rfl)))
    -- J39.3
    exact L39 _ 0 (Ar 31) (Ar 32) _ _ _ (Nat.lt_succ_self _) (by first | assumption | omega) (by first | (intro j hj; omega) | exact und_s it (fun q hq => (hpa.2.2 q hq).1) (by omega) (by omega)) (by first | (intro j hj; omega) | exact und_s iw (fun q hq => (hpa.2.2 q hq).2.1) (by omega) (by omega)) hH (z_lv (lv_sub hl [1, 0] rfl) (zcons rfl (zcons (zpeq (by omega)) rfl)))
  · -- 9f
    refine z_iconst hC 12 dX7_undo_12 ?_
    -- R13.4
    exact z_iret hC hH hQ 13 (((-1), n, v, wt, (F 33), (Ar 31), (Ar 32), gv, gw, un, fr)) dX7_undo_13 rfl ⟨by unfold Sp_undo; first | (rw [if_pos (by omega)]; exact ⟨rfl, rfl, rfl, rfl, by omega, rfl⟩) | (rw [if_neg (by omega)]; exact ⟨by omega, rfl, rfl, rfl, rfl, rfl⟩), by first | omega | exact hpa.2.1, by first | assumption | exact fun i hi => (hpa.2.2 i hi).2.2.1, by first | assumption | exact fun i hi => (hpa.2.2 i hi).2.2.2, by exact PAST_less hPA (by omega), by first | assumption | omega⟩ rfl (Nat.le_refl _) (Nat.le_refl _)

set_option maxHeartbeats 4000000 in
set_option maxRecDepth 100000 in
theorem m_X7_sort (lau : Launch) (s0 : State) (G : zG) (sz : Nat) (ad : Nat → Nat) (F : Nat → Int) (Ar : Nat → Nat → Int) (n : Nat) (v : Nat → Nat) (gv : Nat → Int) (wt : Nat → Nat) (gw : Nat → Int) (un : Nat) (hm : Nat → Nat) (hvv : Nat → Nat → Nat) (hww : Nat → Nat → Nat) (pv : Nat → Int) (pw : Nat → Int) (pm : Nat → Int) (b : Nat) (fr : Int) (l : Int) (r : Int) (up : Int) (hn : n ≤ 120) (hv : ∀ i, i < n → v i < 1000) (hwt : ∀ i, i < n → 1 ≤ wt i ∧ wt i ≤ 9) (hun : un ≤ 12) (hPA : PAST un pv pw pm hm hvv hww) (hb : 2 ≤ b ∧ b ≤ 20) (hr_l : -2147483648 ≤ l ∧ l < 2147483648) (hr_r : -2147483648 ≤ r ∧ r < 2147483648) (hr_up : -2147483648 ≤ up ∧ up < 2147483648) : zMet (S := Int × Nat × (Nat → Nat) × (Nat → Nat) × Int × (Nat → Int) × (Nat → Int) × (Nat → Int) × (Nat → Int) × (Nat → Int) × (Nat → Int) × (Nat → Int) × Nat × Int × (Nat → Nat) × (Nat → Nat → Nat) × (Nat → Nat → Nat)) lau yX7_sort cX7_sort 8 (some .int) 6 133 0 0 s0 G sz [.ref (ad 0), .int (iZ (l)), .int (iZ (r)), .int (iZ (up))] (mW ad G (va_up (va_up (va_up (va_up F 5 ((n : Int))) 6 ((b : Int))) 12 ((un : Int))) 13 (fr)) (va_up (va_up (va_up (va_up (va_up Ar 3 (cI (n) v gv)) 4 (cI (n) wt gw)) 9 pv) 10 pw) 11 pm)) (fun ((r_, n2, v2, w2, tm, tv, tw, gv1, gw1, pv2, pw2, pm2, un2, fr2, hm2, hvv2, hww2) : Int × Nat × (Nat → Nat) × (Nat → Nat) × Int × (Nat → Int) × (Nat → Int) × (Nat → Int) × (Nat → Int) × (Nat → Int) × (Nat → Int) × (Nat → Int) × Nat × Int × (Nat → Nat) × (Nat → Nat → Nat) × (Nat → Nat → Nat)) => some (.int (iZ (r_)))) (fun ((r_, n2, v2, w2, tm, tv, tw, gv1, gw1, pv2, pw2, pm2, un2, fr2, hm2, hvv2, hww2) : Int × Nat × (Nat → Nat) × (Nat → Nat) × Int × (Nat → Int) × (Nat → Int) × (Nat → Int) × (Nat → Int) × (Nat → Int) × (Nat → Int) × (Nat → Int) × Nat × Int × (Nat → Nat) × (Nat → Nat → Nat) × (Nat → Nat → Nat)) => (Sp_sort n v wt l r up r_ n2 v2 w2) ∧ (n2 ≤ 120) ∧ (∀ i, i < n2 → v2 i < 1000) ∧ (∀ i, i < n2 → 1 ≤ w2 i ∧ w2 i ≤ 9) ∧ (PAST un2 pv2 pw2 pm2 hm2 hvv2 hww2) ∧ (un2 ≤ 12) ∧ (EDT b n v wt un hm hvv hww fr n2 v2 w2 un2 hm2 hvv2 hww2 fr2)) (fun ((r_, n2, v2, w2, tm, tv, tw, gv1, gw1, pv2, pw2, pm2, un2, fr2, hm2, hvv2, hww2) : Int × Nat × (Nat → Nat) × (Nat → Nat) × Int × (Nat → Int) × (Nat → Int) × (Nat → Int) × (Nat → Int) × (Nat → Int) × (Nat → Int) × (Nat → Int) × Nat × Int × (Nat → Nat) × (Nat → Nat → Nat) × (Nat → Nat → Nat)) => (mW ad G (va_up (va_up (va_up (va_up (va_up (va_up F 0 (0)) 5 ((n2 : Int))) 6 ((b : Int))) 12 ((un2 : Int))) 13 (fr2)) 33 (tm)) (va_up (va_up (va_up (va_up (va_up (va_up (va_up Ar 3 (cI (n2) v2 gv1)) 4 (cI (n2) w2 gw1)) 9 pv2) 10 pw2) 11 pm2) 31 tv) 32 tw))) := by
  refine zMet.of (by decide) (Nat.le_of_ble_eq_true rfl) ?_
  intro pg ev s1 mi ar bl me cd ls Q as0 hC hH hl hQ hsz
  generalize s1.heap = H at hH ⊢
  generalize ([] : List Loc) = locs at hH ⊢
  have hl : lv_has ls 8 [(0, .ref (ad 0)), (1, .int (iZ (l))), (2, .int (iZ (r))), (3, .int (iZ (up)))] := hl
  refine z_aload_n hC 0 hl dX7_sort_0 rfl 0 rfl ?_
  refine z_iconst hC 1 dX7_sort_1 ?_
  refine pmW_0 hC hH 2 dX7_sort_2 (fun H locs hH => ?_)
  have hH : zH s0 s1 G as0 (mW ad G (va_up (va_up (va_up (va_up (va_up F 0 (0)) 5 ((n : Int))) 6 ((b : Int))) 12 ((un : Int))) 13 (fr)) (va_up (va_up (va_up (va_up (va_up Ar 3 (cI (n) v gv)) 4 (cI (n) wt gw)) 9 pv) 10 pw) 11 pm)) H locs := hH
  refine z_aload_n hC 5 hl dX7_sort_5 rfl 0 rfl ?_
  refine z_iload_n hC 6 hl dX7_sort_6 rfl 1 rfl ?_
  refine z_iload_n hC 7 hl dX7_sort_7 rfl 2 rfl ?_
  refine z_same (z_runV hC hH.2.2 hl.1 hH.1 hH.2.1 2 (As := [.int (iZ (l)), .int (iZ (r))]) (rest := []) (m_X7_isSpan lau s0 G _ ad (va_up (va_up (va_up (va_up (va_up F 0 (0)) 5 ((n : Int))) 6 ((b : Int))) 12 ((un : Int))) 13 (fr)) (va_up (va_up (va_up (va_up (va_up Ar 3 (cI (n) v gv)) 4 (cI (n) wt gw)) 9 pv) 10 pw) 11 pm) n l r (by first | assumption | omega) (by first | assumption | omega) (by first | assumption | omega)) (lw_V q1712 q1714 qs68 q95 q1715) ⟨rfl, by decide, by decide, by decide +kernel⟩ (q0 := 0) (ci := 0) rfl rfl rfl rfl (Nat.le_of_ble_eq_true rfl) ⟨Nat.le_of_ble_eq_true rfl, Nat.le_of_ble_eq_true rfl⟩ ⟨Nat.le_of_ble_eq_true rfl, Nat.le_of_ble_eq_true rfl⟩ dX7_sort_8) hH (fun r_8 H locs hpost hH => ?_)
  have hb_8 : (r_8 = 1 ∧ (0 ≤ l ∧ l ≤ r ∧ r < (n : Int))) ∨ (r_8 = 0 ∧ ¬ (0 ≤ l ∧ l ≤ r ∧ r < (n : Int))) := hpost
  have hH : zH s0 s1 G as0 (mW ad G (va_up (va_up (va_up (va_up (va_up F 0 (0)) 5 ((n : Int))) 6 ((b : Int))) 12 ((un : Int))) 13 (fr)) (va_up (va_up (va_up (va_up (va_up Ar 3 (cI (n) v gv)) 4 (cI (n) wt gw)) 9 pv) 10 pw) 11 pm)) H locs := hH
  refine z_st (st' := [.int (iZ (r_8))]) rfl ?_
  rcases hb_8 with ⟨rfl, hb_8⟩ | ⟨rfl, hb_8⟩
  · -- 8=1
    refine z_if_ne_t hC 11 16 dX7_sort_11 rfl (by omega) (by omega) ?_
    obtain ⟨l1, rfl⟩ := Int.eq_ofNat_of_zero_le (show 0 ≤ l by omega)
    obtain ⟨r1, rfl⟩ := Int.eq_ofNat_of_zero_le (show 0 ≤ r by omega)
    refine z_aload_n hC 16 hl dX7_sort_16 rfl 0 rfl ?_
    refine z_same (z_runV hC hH.2.2 hl.1 hH.1 hH.2.1 0 (As := []) (rest := []) (m_X7_begins lau s0 G _ ad (va_up (va_up (va_up (va_up (va_up F 0 (0)) 5 ((n : Int))) 6 ((b : Int))) 12 ((un : Int))) 13 (fr)) (va_up (va_up (va_up (va_up (va_up Ar 3 (cI (n) v gv)) 4 (cI (n) wt gw)) 9 pv) 10 pw) 11 pm) n v gv wt gw (by first | assumption | omega) (by first | assumption | omega) (by first | assumption | omega)) (lw_V q1680 q1682 qs64 q95 q1683) ⟨rfl, by decide, by decide, by decide +kernel⟩ (q0 := 0) (ci := 0) rfl rfl rfl rfl (Nat.le_of_ble_eq_true rfl) ⟨Nat.le_of_ble_eq_true rfl, Nat.le_of_ble_eq_true rfl⟩ ⟨Nat.le_of_ble_eq_true rfl, Nat.le_of_ble_eq_true rfl⟩ dX7_sort_17) hH (fun u_ H locs hpost hH => ?_)
    obtain ⟨gt_17, gtw_17⟩ := u_
    have hH : zH s0 s1 G as0 (mW ad G (va_up (va_up (va_up (va_up (va_up (va_up F 0 (0)) 5 ((n : Int))) 6 ((b : Int))) 12 ((un : Int))) 13 (fr)) 33 ((n : Int))) (va_up (va_up (va_up (va_up (va_up (va_up (va_up Ar 3 (cI (n) v gv)) 4 (cI (n) wt gw)) 9 pv) 10 pw) 11 pm) 31 (cI (n) v gt_17)) 32 (cI (n) wt gtw_17))) H locs := hH
    refine z_st (st' := []) rfl ?_
    refine z_iload_n hC 20 hl dX7_sort_20 rfl 1 rfl ?_
    refine z_istore (lv' := [(4, .int (iZ ((l1 : Int)))), (0, .ref (ad 0)), (1, .int (iZ ((l1 : Int)))), (2, .int (iZ ((r1 : Int)))), (3, .int (iZ (up)))]) hC 21 hl dX7_sort_21 (by decide) rfl (fun ls hl => ?_)
    have L23 : ∀ (N_ : Nat) (p : Nat) (tv : Nat → Nat) (tw : Nat → Nat) (H : Heap) (locs : List Loc) (ls : Array Slot), r1 + 1 - p < N_ → (l1 ≤ p) → (p ≤ r1 + 1) → (SRL v up l1 r1 v tv p) → (SRL v up l1 r1 wt tw p) → zH s0 s1 G as0 (mW ad G (va_up (va_up (va_up (va_up (va_up (va_up F 0 (0)) 5 ((n : Int))) 6 ((b : Int))) 12 ((un : Int))) 13 (fr)) 33 ((n : Int))) (va_up (va_up (va_up (va_up (va_up (va_up (va_up Ar 3 (cI (n) v gv)) 4 (cI (n) wt gw)) 9 pv) 10 pw) 11 pm) 31 (cI (n) tv gt_17)) 32 (cI (n) tw gtw_17))) H locs → lv_has ls 8 [(0, .ref (ad 0)), (1, .int (iZ ((l1 : Int)))), (2, .int (iZ ((r1 : Int)))), (3, .int (iZ (up))), (4, .int (iZ ((p : Int))))] → W pg lau ev (zRm 6 0 0 133) s1 mi ar bl me cd H locs 0 0 Q (F0 mi 23 ls []) := by
      intro N_
      induction N_ with
      | zero => intro p tv tw H locs ls hd; exact absurd hd (Nat.not_lt_zero _)
      | succ N_ ih23 =>
        intro p tv tw H locs ls hd23 i23_1 i23_2 it iw hH hl
        refine z_iload hC 23 hl dX7_sort_23 4 rfl ?_
        refine z_iload_n hC 25 hl dX7_sort_25 rfl 2 rfl ?_
        refine z_icmp_gt hC 26 155 dX7_sort_26 rfl (by omega) (by omega) (fun hb1 => ?_) (fun hb1 => ?_)
        · -- 26t
          have hcv2 : (cI (n) tv gt_17) = (cI (n) (srtF v up l1 r1 v) gt_17) := by exact cI_congr (fun j hj => SRL_e it (by omega) j)
          rw [hcv2] at hH
          have hH : zH s0 s1 G as0 (mW ad G (va_up (va_up (va_up (va_up (va_up (va_up F 0 (0)) 5 ((n : Int))) 6 ((b : Int))) 12 ((un : Int))) 13 (fr)) 33 ((n : Int))) (va_up (va_up (va_up (va_up (va_up (va_up (va_up Ar 3 (cI (n) v gv)) 4 (cI (n) wt gw)) 9 pv) 10 pw) 11 pm) 31 (cI (n) (srtF v up l1 r1 v) gt_17)) 32 (cI (n) tw gtw_17))) H locs := hH
          have hcv3 : (cI (n) tw gtw_17) = (cI (n) (srtF v up l1 r1 wt) gtw_17) := by exact cI_congr (fun j hj => SRL_e iw (by omega) j)
          rw [hcv3] at hH
          have hH : zH s0 s1 G as0 (mW ad G (va_up (va_up (va_up (va_up (va_up (va_up F 0 (0)) 5 ((n : Int))) 6 ((b : Int))) 12 ((un : Int))) 13 (fr)) 33 ((n : Int))) (va_up (va_up (va_up (va_up (va_up (va_up (va_up Ar 3 (cI (n) v gv)) 4 (cI (n) wt gw)) 9 pv) 10 pw) 11 pm) 31 (cI (n) (srtF v up l1 r1 v) gt_17)) 32 (cI (n) (srtF v up l1 r1 wt) gtw_17))) H locs := hH
          refine z_aload_n hC 155 hl dX7_sort_155 rfl 0 rfl ?_
          refine z_same (z_runV hC hH.2.2 hl.1 hH.1 hH.2.1 0 (As := []) (rest := []) (m_X7_done lau s0 G _ ad (va_up (va_up (va_up (va_up (va_up (va_up F 0 (0)) 5 ((n : Int))) 6 ((b : Int))) 12 ((un : Int))) 13 (fr)) 33 ((n : Int))) (va_up (va_up (va_up (va_up (va_up (va_up (va_up Ar 3 (cI (n) v gv)) 4 (cI (n) wt gw)) 9 pv) 10 pw) 11 pm) 31 (cI (n) (srtF v up l1 r1 v) gt_17)) 32 (cI (n) (srtF v up l1 r1 wt) gtw_17)) n v gv wt gw un hm hvv hww pv pw pm b fr (srtF v up l1 r1 v) (srtF v up l1 r1 wt) gt_17 gtw_17 (by first | assumption | omega) (by first | assumption | omega) (by first | assumption | omega) (by first | assumption | omega) (by first | assumption | omega) (by first | assumption | omega) (by exact srtF_old (P := fun x => x < 1000) hv (by omega)) (by exact srtF_old (P := fun x => 1 ≤ x ∧ x ≤ 9) hwt (by omega))) (lw_V q1716 q1718 qs69 q95 q1719) ⟨rfl, by decide, by decide, by decide +kernel⟩ (q0 := 0) (ci := 0) rfl rfl rfl rfl (Nat.le_of_ble_eq_true rfl) ⟨Nat.le_of_ble_eq_true rfl, Nat.le_of_ble_eq_true rfl⟩ ⟨Nat.le_of_ble_eq_true rfl, Nat.le_of_ble_eq_true rfl⟩ dX7_sort_156) hH (fun u_ H locs hpost hH => ?_)
          obtain ⟨gv1_156, gw1_156, pv2_156, pw2_156, pm2_156, un2_156, fr2_156, hm2_156, hvv2_156, hww2_156⟩ := u_
          obtain ⟨pP_156, pU_156, pE_156⟩ : (PAST un2_156 pv2_156 pw2_156 pm2_156 hm2_156 hvv2_156 hww2_156) ∧ (un2_156 ≤ 12) ∧ (EDT b n v wt un hm hvv hww fr n (srtF v up l1 r1 v) (srtF v up l1 r1 wt) un2_156 hm2_156 hvv2_156 hww2_156 fr2_156) := hpost
          have hH : zH s0 s1 G as0 (mW ad G (va_up (va_up (va_up (va_up (va_up (va_up F 0 (0)) 5 ((n : Int))) 6 ((b : Int))) 12 ((un2_156 : Int))) 13 (fr2_156)) 33 ((n : Int))) (va_up (va_up (va_up (va_up (va_up (va_up (va_up Ar 3 (cI (n) (srtF v up l1 r1 v) gv1_156)) 4 (cI (n) (srtF v up l1 r1 wt) gw1_156)) 9 pv2_156) 10 pw2_156) 11 pm2_156) 31 (cI (n) (srtF v up l1 r1 v) gt_17)) 32 (cI (n) (srtF v up l1 r1 wt) gtw_17))) H locs := hH
          refine z_st (st' := [.int (iZ (((oth n v (srtF v up l1 r1 v) : Nat) : Int)))]) rfl ?_
          -- R159.1
          exact z_iret hC hH hQ 159 ((((oth n v (srtF v up l1 r1 v) : Nat) : Int), n, (srtF v up l1 r1 v), (srtF v up l1 r1 wt), (n : Int), (cI (n) (srtF v up l1 r1 v) gt_17), (cI (n) (srtF v up l1 r1 wt) gtw_17), gv1_156, gw1_156, pv2_156, pw2_156, pm2_156, un2_156, fr2_156, hm2_156, hvv2_156, hww2_156)) dX7_sort_159 rfl ⟨by first | (unfold Sp_sort; rw [if_neg (by omega)]; exact ⟨rfl, rfl, rfl, rfl⟩) | (unfold Sp_sort; rw [if_pos (by omega)]; first | exact ⟨rfl, rfl, rfl, rfl⟩ | exact ⟨by omega, rfl, rfl, rfl⟩), by first | assumption | omega, by exact srtF_old (P := fun x => x < 1000) hv (by omega), by exact srtF_old (P := fun x => 1 ≤ x ∧ x ≤ 9) hwt (by omega), by first | assumption | omega, by first | assumption | omega, by first | assumption | omega⟩ rfl (Nat.le_refl _) (Nat.le_refl _)
        · -- 26f
          refine z_iconst hC 29 dX7_sort_29 ?_
          refine z_istore (lv' := [(5, .int (iZ (0))), (0, .ref (ad 0)), (1, .int (iZ ((l1 : Int)))), (2, .int (iZ ((r1 : Int)))), (3, .int (iZ (up))), (4, .int (iZ ((p : Int))))]) hC 30 hl dX7_sort_30 (by decide) rfl (fun ls hl => ?_)
          refine z_iload_n hC 32 hl dX7_sort_32 rfl 2 rfl ?_
          refine z_istore (lv' := [(6, .int (iZ ((l1 : Int)))), (5, .int (iZ (0))), (0, .ref (ad 0)), (1, .int (iZ ((l1 : Int)))), (2, .int (iZ ((r1 : Int)))), (3, .int (iZ (up))), (4, .int (iZ ((p : Int))))]) hC 33 hl dX7_sort_33 (by decide) rfl (fun ls hl => ?_)
          have L35 : ∀ (N_ : Nat) (q : Nat) (a : Nat) (H : Heap) (locs : List Loc) (ls : Array Slot), r1 + 1 - q < N_ → (l1 ≤ q) → (q ≤ r1 + 1) → (a = cB (fun q => l1 ≤ q ∧ bef v up q p) q) → (a ≤ q) → zH s0 s1 G as0 (mW ad G (va_up (va_up (va_up (va_up (va_up (va_up F 0 (0)) 5 ((n : Int))) 6 ((b : Int))) 12 ((un : Int))) 13 (fr)) 33 ((n : Int))) (va_up (va_up (va_up (va_up (va_up (va_up (va_up Ar 3 (cI (n) v gv)) 4 (cI (n) wt gw)) 9 pv) 10 pw) 11 pm) 31 (cI (n) tv gt_17)) 32 (cI (n) tw gtw_17))) H locs → lv_has ls 8 [(0, .ref (ad 0)), (1, .int (iZ ((l1 : Int)))), (2, .int (iZ ((r1 : Int)))), (3, .int (iZ (up))), (4, .int (iZ ((p : Int)))), (5, .int (iZ ((a : Int)))), (6, .int (iZ ((q : Int))))] → W pg lau ev (zRm 6 0 0 133) s1 mi ar bl me cd H locs 0 0 Q (F0 mi 35 ls []) := by
            intro N_
            induction N_ with
            | zero => intro q a H locs ls hd; exact absurd hd (Nat.not_lt_zero _)
            | succ N_ ih35 =>
              intro q a H locs ls hd35 i35_1 i35_2 ia i35_4 hH hl
              refine z_iload hC 35 hl dX7_sort_35 6 rfl ?_
              refine z_iload_n hC 37 hl dX7_sort_37 rfl 2 rfl ?_
              refine z_icmp_gt hC 38 139 dX7_sort_38 rfl (by omega) (by omega) (fun hb4 => ?_) (fun hb4 => ?_)
              · -- 38t
                have eq9 : q = r1 + 1 := by omega
                rw [eq9] at ia
                have hsb : l1 ≤ sPos v up l1 r1 p ∧ sPos v up l1 r1 p ≤ r1 := sPos_b (by omega)
                have hsp : sPos v up l1 r1 p = l1 + a := by rw [ia]; rfl
                refine z_aload_n hC 139 hl dX7_sort_139 rfl 0 rfl ?_
                refine z_iload hC 140 hl dX7_sort_140 4 rfl ?_
                refine z_iload_n hC 142 hl dX7_sort_142 rfl 1 rfl ?_
                refine z_iload hC 143 hl dX7_sort_143 5 rfl ?_
                refine z_iadd (e := (l1 : Int) + (a : Int)) hC 145 dX7_sort_145 rfl ?_
                refine z_st (st' := [.int (iZ (((l1 + a : Nat) : Int))), .int (iZ ((p : Int))), .ref (ad 0)]) (zcons (zieq (by omega)) (zcons rfl rfl)) ?_
                refine z_same (z_runV hC hH.2.2 hl.1 hH.1 hH.2.1 2 (As := [.int (iZ ((p : Int))), .int (iZ (((l1 + a : Nat) : Int)))]) (rest := []) (m_X7_lies lau s0 G _ ad (va_up (va_up (va_up (va_up (va_up (va_up F 0 (0)) 5 ((n : Int))) 6 ((b : Int))) 12 ((un : Int))) 13 (fr)) 33 ((n : Int))) (va_up (va_up (va_up (va_up (va_up (va_up (va_up Ar 3 (cI (n) v gv)) 4 (cI (n) wt gw)) 9 pv) 10 pw) 11 pm) 31 (cI (n) tv gt_17)) 32 (cI (n) tw gtw_17)) n v gv wt gw tv tw gt_17 gtw_17 p (l1 + a) (by first | assumption | omega) (by first | assumption | omega) (by first | assumption | omega)) (lw_V q1728 q1730 qs71 q95 q1731) ⟨rfl, by decide, by decide, by decide +kernel⟩ (q0 := 0) (ci := 0) rfl rfl rfl rfl (Nat.le_of_ble_eq_true rfl) ⟨Nat.le_of_ble_eq_true rfl, Nat.le_of_ble_eq_true rfl⟩ ⟨Nat.le_of_ble_eq_true rfl, Nat.le_of_ble_eq_true rfl⟩ dX7_sort_146) hH (fun _ H locs hpost hH => ?_)
                have hH : zH s0 s1 G as0 (mW ad G (va_up (va_up (va_up (va_up (va_up (va_up F 0 (0)) 5 ((n : Int))) 6 ((b : Int))) 12 ((un : Int))) 13 (fr)) 33 ((n : Int))) (va_up (va_up (va_up (va_up (va_up (va_up (va_up Ar 3 (cI (n) v gv)) 4 (cI (n) wt gw)) 9 pv) 10 pw) 11 pm) 31 (cI (n) (va_up tv (l1 + a) (v p)) gt_17)) 32 (cI (n) (va_up tw (l1 + a) (wt p)) gtw_17))) H locs := hH
                refine z_st (st' := []) rfl ?_
                refine z_iinc (lv' := [(4, .int (iZ ((p : Int) + 1))), (0, .ref (ad 0)), (1, .int (iZ ((l1 : Int)))), (2, .int (iZ ((r1 : Int)))), (3, .int (iZ (up))), (5, .int (iZ ((a : Int)))), (6, .int (iZ ((q : Int))))]) hC 149 hl dX7_sort_149 4 rfl (by omega) (by decide) rfl (fun ls hl => ?_)
                refine z_goto hC 152 23 dX7_sort_152 rfl ?_
                -- J23.2
                exact ih23 (p + 1) (va_up tv (l1 + a) (v p)) (va_up tw (l1 + a) (wt p)) _ _ _ (by omega) (by first | assumption | omega) (by first | assumption | omega) (by first | exact SRL_0 | exact SRL_s it (by omega) (by omega)) (by first | exact SRL_0 | exact SRL_s iw (by omega) (by omega)) hH (z_lv (lv_sub hl [1, 2, 3, 4, 0] rfl) (zcons rfl (zcons rfl (zcons rfl (zcons rfl (zcons (zpeq (by omega)) rfl))))))
              · -- 38f
                refine z_iload_n hC 41 hl dX7_sort_41 rfl 3 rfl ?_
                have hvq := hv q (by omega)
                have hvp := hv p (by omega)
                refine z_if_eq hC 42 70 dX7_sort_42 rfl (by omega) (fun hb5 => ?_) (fun hb5 => ?_)
                · -- 42t
                  refine z_aload_n hC 70 hl dX7_sort_70 rfl 0 rfl ?_
                  refine gmW_3 hC hH 71 dX7_sort_71 ?_
                  refine z_iload hC 74 hl dX7_sort_74 6 rfl ?_
                  refine lmW_3 (x := ((v q : Nat) : Int)) hC hH 76 (q) (by omega) (by omega) (cI_lt (by omega)) dX7_sort_76 ?_
                  refine z_aload_n hC 77 hl dX7_sort_77 rfl 0 rfl ?_
                  refine gmW_3 hC hH 78 dX7_sort_78 ?_
                  refine z_iload hC 81 hl dX7_sort_81 4 rfl ?_
                  refine lmW_3 (x := ((v p : Nat) : Int)) hC hH 83 (p) (by omega) (by omega) (cI_lt (by omega)) dX7_sort_83 ?_
                  refine z_icmp_le hC 84 91 dX7_sort_84 rfl (by omega) (by omega) (fun hb6 => ?_) (fun hb6 => ?_)
                  · -- 84t
                    refine z_iconst hC 91 dX7_sort_91 ?_
                    refine z_istore (lv' := [(7, .int (iZ (0))), (0, .ref (ad 0)), (1, .int (iZ ((l1 : Int)))), (2, .int (iZ ((r1 : Int)))), (3, .int (iZ (up))), (4, .int (iZ ((p : Int)))), (5, .int (iZ ((a : Int)))), (6, .int (iZ ((q : Int))))]) hC 92 hl dX7_sort_92 (by decide) rfl (fun ls hl => ?_)
                    refine z_iload hC 94 hl dX7_sort_94 6 rfl ?_
                    refine z_iload hC 96 hl dX7_sort_96 0 rfl ?_
                    refine z_if_ne_f hC 98 125 dX7_sort_98 rfl (by omega) (by omega) ?_
                    refine z_aload_n hC 101 hl dX7_sort_101 rfl 1 rfl ?_
                    refine gmW_3 hC hH 102 dX7_sort_102 ?_
                    refine z_iload hC 105 hl dX7_sort_105 7 rfl ?_
                    refine lmW_3 (x := ((v q : Nat) : Int)) hC hH 107 (q) (by omega) (by omega) (cI_lt (by omega)) dX7_sort_107 ?_
                    refine z_aload_n hC 108 hl dX7_sort_108 rfl 1 rfl ?_
                    refine gmW_3 hC hH 109 dX7_sort_109 ?_
                    refine z_iload hC 112 hl dX7_sort_112 5 rfl ?_
                    refine lmW_3 (x := ((v p : Nat) : Int)) hC hH 114 (p) (by omega) (by omega) (cI_lt (by omega)) dX7_sort_114 ?_
                    refine z_icmp_ne hC 115 129 dX7_sort_115 rfl (by omega) (by omega) (fun hb7 => ?_) (fun hb7 => ?_)
                    · -- 115t
                      refine z_iconst hC 129 dX7_sort_129 ?_
                      refine z_iadd (e := (a : Int)) hC 130 dX7_sort_130 (by omega) ?_
                      refine z_istore (lv' := [(5, .int (iZ ((a : Int)))), (7, .int (iZ (0))), (0, .ref (ad 0)), (1, .int (iZ ((l1 : Int)))), (2, .int (iZ ((r1 : Int)))), (3, .int (iZ (up))), (4, .int (iZ ((p : Int)))), (6, .int (iZ ((q : Int))))]) hC 131 hl dX7_sort_131 (by decide) rfl (fun ls hl => ?_)
                      refine z_iinc (lv' := [(6, .int (iZ ((q : Int) + 1))), (5, .int (iZ ((a : Int)))), (7, .int (iZ (0))), (0, .ref (ad 0)), (1, .int (iZ ((l1 : Int)))), (2, .int (iZ ((r1 : Int)))), (3, .int (iZ (up))), (4, .int (iZ ((p : Int))))]) hC 133 hl dX7_sort_133 7 rfl (by omega) (by decide) rfl (fun ls hl => ?_)
                      refine z_goto hC 136 35 dX7_sort_136 rfl ?_
                      -- J35.3
                      exact ih35 (q + 1) a _ _ _ (by omega) (by first | assumption | omega) (by first | assumption | omega) (by first | (rw [cB_none (fun j hj h => by have := h.1; omega)]) | exact cB_it ⟨by omega, (by unfold bef; first | (rw [if_pos (by omega)]; omega) | (rw [if_neg (by omega)]; omega))⟩ ia | exact cB_if (fun z => ((by unfold bef; first | (rw [if_pos (by omega)]; omega) | (rw [if_neg (by omega)]; omega)) : ¬ bef v up q p) z.2) ia) (by first | assumption | omega) hH (z_lv (lv_sub hl [3, 4, 5, 6, 7, 1, 0] rfl) (zcons rfl (zcons rfl (zcons rfl (zcons rfl (zcons rfl (zcons rfl (zcons (zpeq (by omega)) rfl))))))))
                    · -- 115f
                      refine z_iload hC 118 hl dX7_sort_118 7 rfl ?_
                      refine z_iload hC 120 hl dX7_sort_120 5 rfl ?_
                      refine z_icmp_ge hC 122 129 dX7_sort_122 rfl (by omega) (by omega) (fun hb8 => ?_) (fun hb8 => ?_)
                      · -- 122t
                        refine z_iconst hC 129 dX7_sort_129 ?_
                        refine z_iadd (e := (a : Int)) hC 130 dX7_sort_130 (by omega) ?_
                        refine z_istore (lv' := [(5, .int (iZ ((a : Int)))), (7, .int (iZ (0))), (0, .ref (ad 0)), (1, .int (iZ ((l1 : Int)))), (2, .int (iZ ((r1 : Int)))), (3, .int (iZ (up))), (4, .int (iZ ((p : Int)))), (6, .int (iZ ((q : Int))))]) hC 131 hl dX7_sort_131 (by decide) rfl (fun ls hl => ?_)
                        refine z_iinc (lv' := [(6, .int (iZ ((q : Int) + 1))), (5, .int (iZ ((a : Int)))), (7, .int (iZ (0))), (0, .ref (ad 0)), (1, .int (iZ ((l1 : Int)))), (2, .int (iZ ((r1 : Int)))), (3, .int (iZ (up))), (4, .int (iZ ((p : Int))))]) hC 133 hl dX7_sort_133 7 rfl (by omega) (by decide) rfl (fun ls hl => ?_)
                        refine z_goto hC 136 35 dX7_sort_136 rfl ?_
                        -- J35.4
                        exact ih35 (q + 1) a _ _ _ (by omega) (by first | assumption | omega) (by first | assumption | omega) (by first | (rw [cB_none (fun j hj h => by have := h.1; omega)]) | exact cB_it ⟨by omega, (by unfold bef; first | (rw [if_pos (by omega)]; omega) | (rw [if_neg (by omega)]; omega))⟩ ia | exact cB_if (fun z => ((by unfold bef; first | (rw [if_pos (by omega)]; omega) | (rw [if_neg (by omega)]; omega)) : ¬ bef v up q p) z.2) ia) (by first | assumption | omega) hH (z_lv (lv_sub hl [3, 4, 5, 6, 7, 1, 0] rfl) (zcons rfl (zcons rfl (zcons rfl (zcons rfl (zcons rfl (zcons rfl (zcons (zpeq (by omega)) rfl))))))))
                      · -- 122f
                        refine z_iconst hC 125 dX7_sort_125 ?_
                        refine z_goto hC 126 130 dX7_sort_126 rfl ?_
                        refine z_iadd (e := (a : Int) + 1) hC 130 dX7_sort_130 rfl ?_
                        refine z_istore (lv' := [(5, .int (iZ ((a : Int) + 1))), (7, .int (iZ (0))), (0, .ref (ad 0)), (1, .int (iZ ((l1 : Int)))), (2, .int (iZ ((r1 : Int)))), (3, .int (iZ (up))), (4, .int (iZ ((p : Int)))), (6, .int (iZ ((q : Int))))]) hC 131 hl dX7_sort_131 (by decide) rfl (fun ls hl => ?_)
                        refine z_iinc (lv' := [(6, .int (iZ ((q : Int) + 1))), (5, .int (iZ ((a : Int) + 1))), (7, .int (iZ (0))), (0, .ref (ad 0)), (1, .int (iZ ((l1 : Int)))), (2, .int (iZ ((r1 : Int)))), (3, .int (iZ (up))), (4, .int (iZ ((p : Int))))]) hC 133 hl dX7_sort_133 7 rfl (by omega) (by decide) rfl (fun ls hl => ?_)
                        refine z_goto hC 136 35 dX7_sort_136 rfl ?_
                        -- J35.5
                        exact ih35 (q + 1) (a + 1) _ _ _ (by omega) (by first | assumption | omega) (by first | assumption | omega) (by first | (rw [cB_none (fun j hj h => by have := h.1; omega)]) | exact cB_it ⟨by omega, (by unfold bef; first | (rw [if_pos (by omega)]; omega) | (rw [if_neg (by omega)]; omega))⟩ ia | exact cB_if (fun z => ((by unfold bef; first | (rw [if_pos (by omega)]; omega) | (rw [if_neg (by omega)]; omega)) : ¬ bef v up q p) z.2) ia) (by first | assumption | omega) hH (z_lv (lv_sub hl [3, 4, 5, 6, 7, 1, 0] rfl) (zcons rfl (zcons rfl (zcons rfl (zcons rfl (zcons rfl (zcons (zpeq (by omega)) (zcons (zpeq (by omega)) rfl))))))))
                  · -- 84f
                    refine z_iconst hC 87 dX7_sort_87 ?_
                    refine z_goto hC 88 92 dX7_sort_88 rfl ?_
                    refine z_istore (lv' := [(7, .int (iZ (1))), (0, .ref (ad 0)), (1, .int (iZ ((l1 : Int)))), (2, .int (iZ ((r1 : Int)))), (3, .int (iZ (up))), (4, .int (iZ ((p : Int)))), (5, .int (iZ ((a : Int)))), (6, .int (iZ ((q : Int))))]) hC 92 hl dX7_sort_92 (by decide) rfl (fun ls hl => ?_)
                    refine z_iload hC 94 hl dX7_sort_94 6 rfl ?_
                    refine z_iload hC 96 hl dX7_sort_96 0 rfl ?_
                    refine z_if_ne_t hC 98 125 dX7_sort_98 rfl (by omega) (by omega) ?_
                    refine z_iconst hC 125 dX7_sort_125 ?_
                    refine z_goto hC 126 130 dX7_sort_126 rfl ?_
                    refine z_iadd (e := (a : Int) + 1) hC 130 dX7_sort_130 rfl ?_
                    refine z_istore (lv' := [(5, .int (iZ ((a : Int) + 1))), (7, .int (iZ (1))), (0, .ref (ad 0)), (1, .int (iZ ((l1 : Int)))), (2, .int (iZ ((r1 : Int)))), (3, .int (iZ (up))), (4, .int (iZ ((p : Int)))), (6, .int (iZ ((q : Int))))]) hC 131 hl dX7_sort_131 (by decide) rfl (fun ls hl => ?_)
                    refine z_iinc (lv' := [(6, .int (iZ ((q : Int) + 1))), (5, .int (iZ ((a : Int) + 1))), (7, .int (iZ (1))), (0, .ref (ad 0)), (1, .int (iZ ((l1 : Int)))), (2, .int (iZ ((r1 : Int)))), (3, .int (iZ (up))), (4, .int (iZ ((p : Int))))]) hC 133 hl dX7_sort_133 7 rfl (by omega) (by decide) rfl (fun ls hl => ?_)
                    refine z_goto hC 136 35 dX7_sort_136 rfl ?_
                    -- J35.6
                    exact ih35 (q + 1) (a + 1) _ _ _ (by omega) (by first | assumption | omega) (by first | assumption | omega) (by first | (rw [cB_none (fun j hj h => by have := h.1; omega)]) | exact cB_it ⟨by omega, (by unfold bef; first | (rw [if_pos (by omega)]; omega) | (rw [if_neg (by omega)]; omega))⟩ ia | exact cB_if (fun z => ((by unfold bef; first | (rw [if_pos (by omega)]; omega) | (rw [if_neg (by omega)]; omega)) : ¬ bef v up q p) z.2) ia) (by first | assumption | omega) hH (z_lv (lv_sub hl [3, 4, 5, 6, 7, 1, 0] rfl) (zcons rfl (zcons rfl (zcons rfl (zcons rfl (zcons rfl (zcons (zpeq (by omega)) (zcons (zpeq (by omega)) rfl))))))))
                · -- 42f
                  refine z_aload_n hC 45 hl dX7_sort_45 rfl 0 rfl ?_
                  refine gmW_3 hC hH 46 dX7_sort_46 ?_
                  refine z_iload hC 49 hl dX7_sort_49 6 rfl ?_
                  refine lmW_3 (x := ((v q : Nat) : Int)) hC hH 51 (q) (by omega) (by omega) (cI_lt (by omega)) dX7_sort_51 ?_
                  refine z_aload_n hC 52 hl dX7_sort_52 rfl 0 rfl ?_
                  refine gmW_3 hC hH 53 dX7_sort_53 ?_
                  refine z_iload hC 56 hl dX7_sort_56 4 rfl ?_
                  refine lmW_3 (x := ((v p : Nat) : Int)) hC hH 58 (p) (by omega) (by omega) (cI_lt (by omega)) dX7_sort_58 ?_
                  refine z_icmp_ge hC 59 66 dX7_sort_59 rfl (by omega) (by omega) (fun hb9 => ?_) (fun hb9 => ?_)
                  · -- 59t
                    refine z_iconst hC 66 dX7_sort_66 ?_
                    refine z_goto hC 67 92 dX7_sort_67 rfl ?_
                    refine z_istore (lv' := [(7, .int (iZ (0))), (0, .ref (ad 0)), (1, .int (iZ ((l1 : Int)))), (2, .int (iZ ((r1 : Int)))), (3, .int (iZ (up))), (4, .int (iZ ((p : Int)))), (5, .int (iZ ((a : Int)))), (6, .int (iZ ((q : Int))))]) hC 92 hl dX7_sort_92 (by decide) rfl (fun ls hl => ?_)
                    refine z_iload hC 94 hl dX7_sort_94 6 rfl ?_
                    refine z_iload hC 96 hl dX7_sort_96 0 rfl ?_
                    refine z_if_ne_f hC 98 125 dX7_sort_98 rfl (by omega) (by omega) ?_
                    refine z_aload_n hC 101 hl dX7_sort_101 rfl 1 rfl ?_
                    refine gmW_3 hC hH 102 dX7_sort_102 ?_
                    refine z_iload hC 105 hl dX7_sort_105 7 rfl ?_
                    refine lmW_3 (x := ((v q : Nat) : Int)) hC hH 107 (q) (by omega) (by omega) (cI_lt (by omega)) dX7_sort_107 ?_
                    refine z_aload_n hC 108 hl dX7_sort_108 rfl 1 rfl ?_
                    refine gmW_3 hC hH 109 dX7_sort_109 ?_
                    refine z_iload hC 112 hl dX7_sort_112 5 rfl ?_
                    refine lmW_3 (x := ((v p : Nat) : Int)) hC hH 114 (p) (by omega) (by omega) (cI_lt (by omega)) dX7_sort_114 ?_
                    refine z_icmp_ne hC 115 129 dX7_sort_115 rfl (by omega) (by omega) (fun hb10 => ?_) (fun hb10 => ?_)
                    · -- 115t
                      refine z_iconst hC 129 dX7_sort_129 ?_
                      refine z_iadd (e := (a : Int)) hC 130 dX7_sort_130 (by omega) ?_
                      refine z_istore (lv' := [(5, .int (iZ ((a : Int)))), (7, .int (iZ (0))), (0, .ref (ad 0)), (1, .int (iZ ((l1 : Int)))), (2, .int (iZ ((r1 : Int)))), (3, .int (iZ (up))), (4, .int (iZ ((p : Int)))), (6, .int (iZ ((q : Int))))]) hC 131 hl dX7_sort_131 (by decide) rfl (fun ls hl => ?_)
                      refine z_iinc (lv' := [(6, .int (iZ ((q : Int) + 1))), (5, .int (iZ ((a : Int)))), (7, .int (iZ (0))), (0, .ref (ad 0)), (1, .int (iZ ((l1 : Int)))), (2, .int (iZ ((r1 : Int)))), (3, .int (iZ (up))), (4, .int (iZ ((p : Int))))]) hC 133 hl dX7_sort_133 7 rfl (by omega) (by decide) rfl (fun ls hl => ?_)
                      refine z_goto hC 136 35 dX7_sort_136 rfl ?_
                      -- J35.7
                      exact ih35 (q + 1) a _ _ _ (by omega) (by first | assumption | omega) (by first | assumption | omega) (by first | (rw [cB_none (fun j hj h => by have := h.1; omega)]) | exact cB_it ⟨by omega, (by unfold bef; first | (rw [if_pos (by omega)]; omega) | (rw [if_neg (by omega)]; omega))⟩ ia | exact cB_if (fun z => ((by unfold bef; first | (rw [if_pos (by omega)]; omega) | (rw [if_neg (by omega)]; omega)) : ¬ bef v up q p) z.2) ia) (by first | assumption | omega) hH (z_lv (lv_sub hl [3, 4, 5, 6, 7, 1, 0] rfl) (zcons rfl (zcons rfl (zcons rfl (zcons rfl (zcons rfl (zcons rfl (zcons (zpeq (by omega)) rfl))))))))
                    · -- 115f
                      refine z_iload hC 118 hl dX7_sort_118 7 rfl ?_
                      refine z_iload hC 120 hl dX7_sort_120 5 rfl ?_
                      refine z_icmp_ge hC 122 129 dX7_sort_122 rfl (by omega) (by omega) (fun hb11 => ?_) (fun hb11 => ?_)
                      · -- 122t
                        refine z_iconst hC 129 dX7_sort_129 ?_
                        refine z_iadd (e := (a : Int)) hC 130 dX7_sort_130 (by omega) ?_
                        refine z_istore (lv' := [(5, .int (iZ ((a : Int)))), (7, .int (iZ (0))), (0, .ref (ad 0)), (1, .int (iZ ((l1 : Int)))), (2, .int (iZ ((r1 : Int)))), (3, .int (iZ (up))), (4, .int (iZ ((p : Int)))), (6, .int (iZ ((q : Int))))]) hC 131 hl dX7_sort_131 (by decide) rfl (fun ls hl => ?_)
                        refine z_iinc (lv' := [(6, .int (iZ ((q : Int) + 1))), (5, .int (iZ ((a : Int)))), (7, .int (iZ (0))), (0, .ref (ad 0)), (1, .int (iZ ((l1 : Int)))), (2, .int (iZ ((r1 : Int)))), (3, .int (iZ (up))), (4, .int (iZ ((p : Int))))]) hC 133 hl dX7_sort_133 7 rfl (by omega) (by decide) rfl (fun ls hl => ?_)
                        refine z_goto hC 136 35 dX7_sort_136 rfl ?_
                        -- J35.8
                        exact ih35 (q + 1) a _ _ _ (by omega) (by first | assumption | omega) (by first | assumption | omega) (by first | (rw [cB_none (fun j hj h => by have := h.1; omega)]) | exact cB_it ⟨by omega, (by unfold bef; first | (rw [if_pos (by omega)]; omega) | (rw [if_neg (by omega)]; omega))⟩ ia | exact cB_if (fun z => ((by unfold bef; first | (rw [if_pos (by omega)]; omega) | (rw [if_neg (by omega)]; omega)) : ¬ bef v up q p) z.2) ia) (by first | assumption | omega) hH (z_lv (lv_sub hl [3, 4, 5, 6, 7, 1, 0] rfl) (zcons rfl (zcons rfl (zcons rfl (zcons rfl (zcons rfl (zcons rfl (zcons (zpeq (by omega)) rfl))))))))
                      · -- 122f
                        refine z_iconst hC 125 dX7_sort_125 ?_
                        refine z_goto hC 126 130 dX7_sort_126 rfl ?_
                        refine z_iadd (e := (a : Int) + 1) hC 130 dX7_sort_130 rfl ?_
                        refine z_istore (lv' := [(5, .int (iZ ((a : Int) + 1))), (7, .int (iZ (0))), (0, .ref (ad 0)), (1, .int (iZ ((l1 : Int)))), (2, .int (iZ ((r1 : Int)))), (3, .int (iZ (up))), (4, .int (iZ ((p : Int)))), (6, .int (iZ ((q : Int))))]) hC 131 hl dX7_sort_131 (by decide) rfl (fun ls hl => ?_)
                        refine z_iinc (lv' := [(6, .int (iZ ((q : Int) + 1))), (5, .int (iZ ((a : Int) + 1))), (7, .int (iZ (0))), (0, .ref (ad 0)), (1, .int (iZ ((l1 : Int)))), (2, .int (iZ ((r1 : Int)))), (3, .int (iZ (up))), (4, .int (iZ ((p : Int))))]) hC 133 hl dX7_sort_133 7 rfl (by omega) (by decide) rfl (fun ls hl => ?_)
                        refine z_goto hC 136 35 dX7_sort_136 rfl ?_
                        -- J35.9
                        exact ih35 (q + 1) (a + 1) _ _ _ (by omega) (by first | assumption | omega) (by first | assumption | omega) (by first | (rw [cB_none (fun j hj h => by have := h.1; omega)]) | exact cB_it ⟨by omega, (by unfold bef; first | (rw [if_pos (by omega)]; omega) | (rw [if_neg (by omega)]; omega))⟩ ia | exact cB_if (fun z => ((by unfold bef; first | (rw [if_pos (by omega)]; omega) | (rw [if_neg (by omega)]; omega)) : ¬ bef v up q p) z.2) ia) (by first | assumption | omega) hH (z_lv (lv_sub hl [3, 4, 5, 6, 7, 1, 0] rfl) (zcons rfl (zcons rfl (zcons rfl (zcons rfl (zcons rfl (zcons (zpeq (by omega)) (zcons (zpeq (by omega)) rfl))))))))
                  · -- 59f
                    refine z_iconst hC 62 dX7_sort_62 ?_
                    refine z_goto hC 63 92 dX7_sort_63 rfl ?_
                    refine z_istore (lv' := [(7, .int (iZ (1))), (0, .ref (ad 0)), (1, .int (iZ ((l1 : Int)))), (2, .int (iZ ((r1 : Int)))), (3, .int (iZ (up))), (4, .int (iZ ((p : Int)))), (5, .int (iZ ((a : Int)))), (6, .int (iZ ((q : Int))))]) hC 92 hl dX7_sort_92 (by decide) rfl (fun ls hl => ?_)
                    refine z_iload hC 94 hl dX7_sort_94 6 rfl ?_
                    refine z_iload hC 96 hl dX7_sort_96 0 rfl ?_
                    refine z_if_ne_t hC 98 125 dX7_sort_98 rfl (by omega) (by omega) ?_
                    refine z_iconst hC 125 dX7_sort_125 ?_
                    refine z_goto hC 126 130 dX7_sort_126 rfl ?_
                    refine z_iadd (e := (a : Int) + 1) hC 130 dX7_sort_130 rfl ?_
                    refine z_istore (lv' := [(5, .int (iZ ((a : Int) + 1))), (7, .int (iZ (1))), (0, .ref (ad 0)), (1, .int (iZ ((l1 : Int)))), (2, .int (iZ ((r1 : Int)))), (3, .int (iZ (up))), (4, .int (iZ ((p : Int)))), (6, .int (iZ ((q : Int))))]) hC 131 hl dX7_sort_131 (by decide) rfl (fun ls hl => ?_)
                    refine z_iinc (lv' := [(6, .int (iZ ((q : Int) + 1))), (5, .int (iZ ((a : Int) + 1))), (7, .int (iZ (1))), (0, .ref (ad 0)), (1, .int (iZ ((l1 : Int)))), (2, .int (iZ ((r1 : Int)))), (3, .int (iZ (up))), (4, .int (iZ ((p : Int))))]) hC 133 hl dX7_sort_133 7 rfl (by omega) (by decide) rfl (fun ls hl => ?_)
                    refine z_goto hC 136 35 dX7_sort_136 rfl ?_
                    -- J35.10
                    exact ih35 (q + 1) (a + 1) _ _ _ (by omega) (by first | assumption | omega) (by first | assumption | omega) (by first | (rw [cB_none (fun j hj h => by have := h.1; omega)]) | exact cB_it ⟨by omega, (by unfold bef; first | (rw [if_pos (by omega)]; omega) | (rw [if_neg (by omega)]; omega))⟩ ia | exact cB_if (fun z => ((by unfold bef; first | (rw [if_pos (by omega)]; omega) | (rw [if_neg (by omega)]; omega)) : ¬ bef v up q p) z.2) ia) (by first | assumption | omega) hH (z_lv (lv_sub hl [3, 4, 5, 6, 7, 1, 0] rfl) (zcons rfl (zcons rfl (zcons rfl (zcons rfl (zcons rfl (zcons (zpeq (by omega)) (zcons (zpeq (by omega)) rfl))))))))
          -- J35.11
          exact L35 _ l1 0 _ _ _ (Nat.lt_succ_self _) (by first | assumption | omega) (by first | assumption | omega) (by first | (rw [cB_none (fun j hj h => by have := h.1; omega)]) | exact cB_it ⟨by omega, (by unfold bef; first | (rw [if_pos (by omega)]; omega) | (rw [if_neg (by omega)]; omega))⟩ ia | exact cB_if (fun z => ((by unfold bef; first | (rw [if_pos (by omega)]; omega) | (rw [if_neg (by omega)]; omega)) : ¬ bef v up q p) z.2) ia) (by first | assumption | omega) hH (z_lv (lv_sub hl [2, 3, 4, 5, 6, 1, 0] rfl) (zcons rfl (zcons rfl (zcons rfl (zcons rfl (zcons rfl (zcons (zpeq (by omega)) (zcons rfl rfl))))))))
    -- J23.12
    exact L23 _ l1 v wt _ _ _ (Nat.lt_succ_self _) (by first | assumption | omega) (by first | assumption | omega) (by first | exact SRL_0 | exact SRL_s it (by omega) (by omega)) (by first | exact SRL_0 | exact SRL_s iw (by omega) (by omega)) hH (lv_sub hl [1, 2, 3, 4, 0] rfl)
  · -- 8=0
    refine z_if_ne_f hC 11 16 dX7_sort_11 rfl (by omega) (by omega) ?_
    refine z_iconst hC 14 dX7_sort_14 ?_
    -- R15.13
    exact z_iret hC hH hQ 15 (((-1), n, v, wt, (F 33), (Ar 31), (Ar 32), gv, gw, pv, pw, pm, un, fr, hm, hvv, hww)) dX7_sort_15 rfl ⟨by first | (unfold Sp_sort; rw [if_neg (by omega)]; exact ⟨rfl, rfl, rfl, rfl⟩) | (unfold Sp_sort; rw [if_pos (by omega)]; first | exact ⟨rfl, rfl, rfl, rfl⟩ | exact ⟨by omega, rfl, rfl, rfl⟩), by first | assumption | omega, by first | assumption | omega, by first | assumption | omega, by exact hPA, by first | assumption | omega, by exact EDT_none⟩ rfl (Nat.le_refl _) (Nat.le_refl _)
