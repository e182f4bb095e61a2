/-! methods of ModeDeskModel: 19.mi -/
set_option maxHeartbeats 4000000 in
set_option maxRecDepth 100000 in
theorem m_X7_begins (lau : Launch) (s0 : State) (G : zG) (sz : Nat) (ad : Nat → Nat) (F : Nat → Int) (Ar : Nat → Nat → Int) (n : Nat) (v : Nat → Nat) (gv : Nat → Int) (wt : Nat → Nat) (gw : Nat → Int) (hn : n ≤ 120) (hv : ∀ i, i < n → v i < 1000) (hwt : ∀ i, i < n → 1 ≤ wt i ∧ wt i ≤ 9) : zMet (S := (Nat → Int) × (Nat → Int)) lau yX7_begins cX7_begins 2 (none) 0 0 0 0 s0 G sz [.ref (ad 0)] (mW ad G (va_up F 5 ((n : Int))) (va_up (va_up Ar 3 (cI (n) v gv)) 4 (cI (n) wt gw))) (fun ((gt, gtw) : (Nat → Int) × (Nat → Int)) => (none : Option Value)) (fun ((gt, gtw) : (Nat → Int) × (Nat → Int)) => True) (fun ((gt, gtw) : (Nat → Int) × (Nat → Int)) => (mW ad G (va_up (va_up F 5 ((n : Int))) 33 ((n : Int))) (va_up (va_up (va_up (va_up Ar 3 (cI (n) v gv)) 4 (cI (n) wt gw)) 31 (cI (n) v gt)) 32 (cI (n) wt gtw)))) := by
  refine zMet.of (by decide) (Nat.le_of_ble_eq_true rfl) ?_
  intro pg ev s1 mi ar bl me cd ls Q as0 hC hH hl hQ hsz
  generalize s1.heap = H at hH ⊢
  generalize ([] : List Loc) = locs at hH ⊢
  have hl : lv_has ls 2 [(0, .ref (ad 0))] := hl
  refine z_aload_n hC 0 hl dX7_begins_0 rfl 0 rfl ?_
  refine z_aload_n hC 1 hl dX7_begins_1 rfl 0 rfl ?_
  refine gmW_5 (x := (n : Int)) hC hH 2 rfl dX7_begins_2 ?_
  refine pmW_33 hC hH 5 dX7_begins_5 (fun H locs hH => ?_)
  have hH : zH s0 s1 G as0 (mW ad G (va_up (va_up F 5 ((n : Int))) 33 ((n : Int))) (va_up (va_up Ar 3 (cI (n) v gv)) 4 (cI (n) wt gw))) H locs := hH
  have hH : zH s0 s1 G as0 (mW ad G (va_up (va_up F 5 ((n : Int))) 33 ((n : Int))) (va_up (va_up (va_up Ar 3 (cI (n) v gv)) 4 (cI (n) wt gw)) 31 (Ar 31))) H locs := hH
  have hcv1 : (Ar 31) = (cI (0) v (Ar 31)) := by exact cI_zero _ _
  rw [hcv1] at hH
  have hH : zH s0 s1 G as0 (mW ad G (va_up (va_up F 5 ((n : Int))) 33 ((n : Int))) (va_up (va_up (va_up Ar 3 (cI (n) v gv)) 4 (cI (n) wt gw)) 31 (cI (0) v (Ar 31)))) H locs := hH
  have hH : zH s0 s1 G as0 (mW ad G (va_up (va_up F 5 ((n : Int))) 33 ((n : Int))) (va_up (va_up (va_up (va_up Ar 3 (cI (n) v gv)) 4 (cI (n) wt gw)) 31 (cI (0) v (Ar 31))) 32 (Ar 32))) H locs := hH
  have hcv2 : (Ar 32) = (cI (0) wt (Ar 32)) := by exact cI_zero _ _
  rw [hcv2] at hH
  have hH : zH s0 s1 G as0 (mW ad G (va_up (va_up F 5 ((n : Int))) 33 ((n : Int))) (va_up (va_up (va_up (va_up Ar 3 (cI (n) v gv)) 4 (cI (n) wt gw)) 31 (cI (0) v (Ar 31))) 32 (cI (0) wt (Ar 32)))) H locs := hH
  refine z_iconst hC 8 dX7_begins_8 ?_
  refine z_istore_n (lv' := [(1, .int (iZ (0))), (0, .ref (ad 0))]) hC 9 hl dX7_begins_9 rfl (by decide) rfl (fun ls hl => ?_)
  have L10 : ∀ (N_ : Nat) (p : Nat) (gt : Nat → Int) (gtw : Nat → Int) (H : Heap) (locs : List Loc) (ls : Array Slot), n - p < N_ → (p ≤ n) → zH s0 s1 G as0 (mW ad G (va_up (va_up F 5 ((n : Int))) 33 ((n : Int))) (va_up (va_up (va_up (va_up Ar 3 (cI (n) v gv)) 4 (cI (n) wt gw)) 31 (cI (p) v gt)) 32 (cI (p) wt gtw))) H locs → lv_has ls 2 [(0, .ref (ad 0)), (1, .int (iZ ((p : Int))))] → W pg lau ev (zRm 0 0 0 0) s1 mi ar bl me cd H locs 0 0 Q (F0 mi 10 ls []) := by
    intro N_
    induction N_ with
    | zero => intro p gt gtw H locs ls hd; exact absurd hd (Nat.not_lt_zero _)
    | succ N_ ih10 =>
      intro p gt gtw H locs ls hd10 i10_1 hH hl
      refine z_iload_n hC 10 hl dX7_begins_10 rfl 1 rfl ?_
      refine z_aload_n hC 11 hl dX7_begins_11 rfl 0 rfl ?_
      refine gmW_5 (x := (n : Int)) hC hH 12 rfl dX7_begins_12 ?_
      refine z_icmp_ge hC 15 48 dX7_begins_15 rfl (by omega) (by omega) (fun hb3 => ?_) (fun hb3 => ?_)
      · -- 15t
        obtain rfl : n = (p) := by omega
        -- R48.1
        exact z_vret hC hH hQ 48 ((gt, gtw)) dX7_begins_48 rfl trivial rfl (Nat.le_refl _) (Nat.le_refl _)
      · -- 15f
        refine z_aload_n hC 18 hl dX7_begins_18 rfl 0 rfl ?_
        refine gmW_31 hC hH 19 dX7_begins_19 ?_
        refine z_iload_n hC 22 hl dX7_begins_22 rfl 1 rfl ?_
        refine z_aload_n hC 23 hl dX7_begins_23 rfl 0 rfl ?_
        refine gmW_3 hC hH 24 dX7_begins_24 ?_
        refine z_iload_n hC 27 hl dX7_begins_27 rfl 1 rfl ?_
        refine lmW_3 (x := ((v p : Nat) : Int)) hC hH 28 (p) (by omega) (by omega) (cI_lt (by omega)) dX7_begins_28 ?_
        refine smW_31 (f' := (cI (p + 1) (va_up v (p) ((v p))) gt)) hC hH 29 (p) (by omega) (by omega) (by exact cI_push) dX7_begins_29 (fun H locs hH => ?_)
        have hH : zH s0 s1 G as0 (mW ad G (va_up (va_up F 5 ((n : Int))) 33 ((n : Int))) (va_up (va_up (va_up (va_up Ar 3 (cI (n) v gv)) 4 (cI (n) wt gw)) 31 (cI (p + 1) (va_up v (p) ((v p))) gt)) 32 (cI (p) wt gtw))) H locs := hH
        refine z_aload_n hC 30 hl dX7_begins_30 rfl 0 rfl ?_
        refine gmW_32 hC hH 31 dX7_begins_31 ?_
        refine z_iload_n hC 34 hl dX7_begins_34 rfl 1 rfl ?_
        refine z_aload_n hC 35 hl dX7_begins_35 rfl 0 rfl ?_
        refine gmW_4 hC hH 36 dX7_begins_36 ?_
        refine z_iload_n hC 39 hl dX7_begins_39 rfl 1 rfl ?_
        refine lmW_4 (x := ((wt p : Nat) : Int)) hC hH 40 (p) (by omega) (by omega) (cI_lt (by omega)) dX7_begins_40 ?_
        refine smW_32 (f' := (cI (p + 1) (va_up wt (p) ((wt p))) gtw)) hC hH 41 (p) (by omega) (by omega) (by exact cI_push) dX7_begins_41 (fun H locs hH => ?_)
        have hH : zH s0 s1 G as0 (mW ad G (va_up (va_up F 5 ((n : Int))) 33 ((n : Int))) (va_up (va_up (va_up (va_up Ar 3 (cI (n) v gv)) 4 (cI (n) wt gw)) 31 (cI (p + 1) (va_up v (p) ((v p))) gt)) 32 (cI (p + 1) (va_up wt (p) ((wt p))) gtw))) H locs := hH
        have hcv4 : (cI (p + 1) (va_up v (p) ((v p))) gt) = (cI (p + 1) v gt) := by rw [va_up_idN]
        rw [hcv4] at hH
        have hH : zH s0 s1 G as0 (mW ad G (va_up (va_up F 5 ((n : Int))) 33 ((n : Int))) (va_up (va_up (va_up (va_up Ar 3 (cI (n) v gv)) 4 (cI (n) wt gw)) 31 (cI (p + 1) v gt)) 32 (cI (p + 1) (va_up wt (p) ((wt p))) gtw))) H locs := hH
        have hcv5 : (cI (p + 1) (va_up wt (p) ((wt p))) gtw) = (cI (p + 1) wt gtw) := by rw [va_up_idN]
        rw [hcv5] at hH
        have hH : zH s0 s1 G as0 (mW ad G (va_up (va_up F 5 ((n : Int))) 33 ((n : Int))) (va_up (va_up (va_up (va_up Ar 3 (cI (n) v gv)) 4 (cI (n) wt gw)) 31 (cI (p + 1) v gt)) 32 (cI (p + 1) wt gtw))) H locs := hH
        refine z_iinc (lv' := [(1, .int (iZ ((p : Int) + 1))), (0, .ref (ad 0))]) hC 42 hl dX7_begins_42 1 rfl (by omega) (by decide) rfl (fun ls hl => ?_)
        refine z_goto hC 45 10 dX7_begins_45 rfl ?_
        -- J10.2
        exact ih10 (p + 1) gt gtw _ _ _ (by omega) (by first | assumption | omega) hH (z_lv (lv_sub hl [1, 0] rfl) (zcons rfl (zcons (zpeq (by omega)) rfl)))
  -- J10.3
  exact L10 _ 0 (Ar 31) (Ar 32) _ _ _ (Nat.lt_succ_self _) (by first | assumption | omega) hH (z_lv (lv_sub hl [1, 0] rfl) (zcons rfl (zcons (zpeq (by omega)) rfl)))

set_option maxHeartbeats 4000000 in
set_option maxRecDepth 100000 in
theorem m_X7_others (lau : Launch) (s0 : State) (G : zG) (sz : Nat) (ad : Nat → Nat) (F : Nat → Int) (Ar : Nat → Nat → Int) (n : Nat) (v : Nat → Nat) (gv : Nat → Int) (v2 : Nat → Nat) (gt : Nat → Int) (hn : n ≤ 120) (hv : ∀ i, i < n → v i < 1000) (hv2 : ∀ i, i < n → v2 i < 1000) : zMet (S := Unit) lau yX7_others cX7_others 3 (some .int) 0 0 0 0 s0 G sz [.ref (ad 0)] (mW ad G (va_up F 5 ((n : Int))) (va_up (va_up Ar 3 (cI (n) v gv)) 31 (cI (n) v2 gt))) (fun (_ : Unit) => some (.int (iZ (((cB (fun p => v2 p ≠ v p) n : Nat) : Int))))) (fun (_ : Unit) => (cB (fun p => v2 p ≠ v p) n ≤ 120)) (fun (_ : Unit) => (mW ad G (va_up F 5 ((n : Int))) (va_up (va_up Ar 3 (cI (n) v gv)) 31 (cI (n) v2 gt)))) := by
  refine zMet.of (by decide) (Nat.le_of_ble_eq_true rfl) ?_
  intro pg ev s1 mi ar bl me cd ls Q as0 hC hH hl hQ hsz
  generalize s1.heap = H at hH ⊢
  generalize ([] : List Loc) = locs at hH ⊢
  have hl : lv_has ls 3 [(0, .ref (ad 0))] := hl
  refine z_iconst hC 0 dX7_others_0 ?_
  refine z_istore_n (lv' := [(1, .int (iZ (0))), (0, .ref (ad 0))]) hC 1 hl dX7_others_1 rfl (by decide) rfl (fun ls hl => ?_)
  refine z_iconst hC 2 dX7_others_2 ?_
  refine z_istore_n (lv' := [(2, .int (iZ (0))), (1, .int (iZ (0))), (0, .ref (ad 0))]) hC 3 hl dX7_others_3 rfl (by decide) rfl (fun ls hl => ?_)
  have L4 : ∀ (N_ : Nat) (p : Nat) (c : Nat) (H : Heap) (locs : List Loc) (ls : Array Slot), n - p < N_ → (p ≤ n) → (c ≤ p) → (c = cB (fun p => v2 p ≠ v p) p) → zH s0 s1 G as0 (mW ad G (va_up F 5 ((n : Int))) (va_up (va_up Ar 3 (cI (n) v gv)) 31 (cI (n) v2 gt))) H locs → lv_has ls 3 [(0, .ref (ad 0)), (1, .int (iZ ((c : Int)))), (2, .int (iZ ((p : Int))))] → W pg lau ev (zRm 0 0 0 0) s1 mi ar bl me cd H locs 0 0 Q (F0 mi 4 ls []) := by
    intro N_
    induction N_ with
    | zero => intro p c H locs ls hd; exact absurd hd (Nat.not_lt_zero _)
    | succ N_ ih4 =>
      intro p c H locs ls hd4 i4_1 i4_2 ic hH hl
      refine z_iload_n hC 4 hl dX7_others_4 rfl 2 rfl ?_
      refine z_aload_n hC 5 hl dX7_others_5 rfl 0 rfl ?_
      refine gmW_5 (x := (n : Int)) hC hH 6 rfl dX7_others_6 ?_
      refine z_icmp_ge hC 9 41 dX7_others_9 rfl (by omega) (by omega) (fun hb1 => ?_) (fun hb1 => ?_)
      · -- 9t
        obtain rfl : n = (p) := by omega
        refine z_iload_n hC 41 hl dX7_others_41 rfl 1 rfl ?_
        -- R42.1
        refine z_st (st' := [.int (iZ (((cB (fun p => v2 p ≠ v p) n : Nat) : Int)))]) (zcons (zieq (by first | assumption | omega)) rfl) ?_
        exact z_iret hC hH hQ 42 (()) dX7_others_42 rfl (by exact Nat.le_trans (cB_le _ _) hn) rfl (Nat.le_refl _) (Nat.le_refl _)
      · -- 9f
        refine z_iload_n hC 12 hl dX7_others_12 rfl 1 rfl ?_
        refine z_aload_n hC 13 hl dX7_others_13 rfl 0 rfl ?_
        have h1 := hv (p) (by omega)
        have h2 := hv2 (p) (by omega)
        refine gmW_31 hC hH 14 dX7_others_14 ?_
        refine z_iload_n hC 17 hl dX7_others_17 rfl 2 rfl ?_
        refine lmW_31 (x := ((v2 p : Nat) : Int)) hC hH 18 (p) (by omega) (by omega) (cI_lt (by omega)) dX7_others_18 ?_
        refine z_aload_n hC 19 hl dX7_others_19 rfl 0 rfl ?_
        refine gmW_3 hC hH 20 dX7_others_20 ?_
        refine z_iload_n hC 23 hl dX7_others_23 rfl 2 rfl ?_
        refine lmW_3 (x := ((v p : Nat) : Int)) hC hH 24 (p) (by omega) (by omega) (cI_lt (by omega)) dX7_others_24 ?_
        refine z_icmp_ne hC 25 32 dX7_others_25 rfl (by omega) (by omega) (fun hb2 => ?_) (fun hb2 => ?_)
        · -- 25t
          refine z_iconst hC 32 dX7_others_32 ?_
          refine z_iadd (e := (c : Int) + 1) hC 33 dX7_others_33 rfl ?_
          refine z_istore_n (lv' := [(1, .int (iZ ((c : Int) + 1))), (0, .ref (ad 0)), (2, .int (iZ ((p : Int))))]) hC 34 hl dX7_others_34 rfl (by decide) rfl (fun ls hl => ?_)
          refine z_iinc (lv' := [(2, .int (iZ ((p : Int) + 1))), (1, .int (iZ ((c : Int) + 1))), (0, .ref (ad 0))]) hC 35 hl dX7_others_35 2 rfl (by omega) (by decide) rfl (fun ls hl => ?_)
          refine z_goto hC 38 4 dX7_others_38 rfl ?_
          -- J4.2
          exact ih4 (p + 1) (c + 1) _ _ _ (by omega) (by first | assumption | omega) (by first | assumption | omega) (by first | rfl | exact cB_it (by omega) ic | exact cB_if (by omega) ic) hH (z_lv (lv_sub hl [2, 1, 0] rfl) (zcons rfl (zcons (zpeq (by omega)) (zcons (zpeq (by omega)) rfl))))
        · -- 25f
          refine z_iconst hC 28 dX7_others_28 ?_
          refine z_goto hC 29 33 dX7_others_29 rfl ?_
          refine z_iadd (e := (c : Int)) hC 33 dX7_others_33 (by omega) ?_
          refine z_istore_n (lv' := [(1, .int (iZ ((c : Int)))), (0, .ref (ad 0)), (2, .int (iZ ((p : Int))))]) hC 34 hl dX7_others_34 rfl (by decide) rfl (fun ls hl => ?_)
          refine z_iinc (lv' := [(2, .int (iZ ((p : Int) + 1))), (1, .int (iZ ((c : Int)))), (0, .ref (ad 0))]) hC 35 hl dX7_others_35 2 rfl (by omega) (by decide) rfl (fun ls hl => ?_)
          refine z_goto hC 38 4 dX7_others_38 rfl ?_
          -- J4.3
          exact ih4 (p + 1) c _ _ _ (by omega) (by first | assumption | omega) (by first | assumption | omega) (by first | rfl | exact cB_it (by omega) ic | exact cB_if (by omega) ic) hH (z_lv (lv_sub hl [2, 1, 0] rfl) (zcons rfl (zcons rfl (zcons (zpeq (by omega)) rfl))))
  -- J4.4
  exact L4 _ 0 0 _ _ _ (Nat.lt_succ_self _) (by first | assumption | omega) (by first | assumption | omega) (by first | rfl | exact cB_it (by omega) ic | exact cB_if (by omega) ic) hH (z_lv (lv_sub hl [2, 1, 0] rfl) (zcons rfl (zcons (zpeq (by omega)) (zcons (zpeq (by omega)) rfl))))

set_option maxHeartbeats 4000000 in
set_option maxRecDepth 100000 in
theorem m_X7_isOther (lau : Launch) (s0 : State) (G : zG) (sz : Nat) (ad : Nat → Nat) (F : Nat → Int) (Ar : Nat → Nat → Int) (n : Nat) (v : Nat → Nat) (gv : Nat → Int) (wt : Nat → Nat) (gw : Nat → Int) (n2 : Nat) (v2 : Nat → Nat) (w2 : Nat → Nat) (gt : Nat → Int) (gtw : Nat → Int) (hn : n ≤ 120) (hv : ∀ i, i < n → v i < 1000) (hwt : ∀ i, i < n → 1 ≤ wt i ∧ wt i ≤ 9) (hn2 : n2 ≤ 120) (hv2 : ∀ i, i < n2 → v2 i < 1000) (hw2 : ∀ i, i < n2 → 1 ≤ w2 i ∧ w2 i ≤ 9) : zMet (S := Int) lau yX7_isOther cX7_isOther 2 (some .boolean) 0 0 0 0 s0 G sz [.ref (ad 0)] (mW ad G (va_up (va_up F 5 ((n : Int))) 33 ((n2 : Int))) (va_up (va_up (va_up (va_up Ar 3 (cI (n) v gv)) 4 (cI (n) wt gw)) 31 (cI (n2) v2 gt)) 32 (cI (n2) w2 gtw))) (fun (r_ : Int) => some (.int (iZ r_))) (fun (r_ : Int) => ((r_ = 1 ∧ (¬ sameR n v wt n2 v2 w2)) ∨ (r_ = 0 ∧ ¬ (¬ sameR n v wt n2 v2 w2)))) (fun (r_ : Int) => (mW ad G (va_up (va_up F 5 ((n : Int))) 33 ((n2 : Int))) (va_up (va_up (va_up (va_up Ar 3 (cI (n) v gv)) 4 (cI (n) wt gw)) 31 (cI (n2) v2 gt)) 32 (cI (n2) w2 gtw)))) := by
  refine zMet.of (by decide) (Nat.le_of_ble_eq_true rfl) ?_
  intro pg ev s1 mi ar bl me cd ls Q as0 hC hH hl hQ hsz
  generalize s1.heap = H at hH ⊢
  generalize ([] : List Loc) = locs at hH ⊢
  have hl : lv_has ls 2 [(0, .ref (ad 0))] := hl
  refine z_aload_n hC 0 hl dX7_isOther_0 rfl 0 rfl ?_
  refine gmW_33 (x := (n2 : Int)) hC hH 1 rfl dX7_isOther_1 ?_
  refine z_aload_n hC 4 hl dX7_isOther_4 rfl 0 rfl ?_
  refine gmW_5 (x := (n : Int)) hC hH 5 rfl dX7_isOther_5 ?_
  refine z_icmp_eq hC 8 13 dX7_isOther_8 rfl (by omega) (by omega) (fun hb1 => ?_) (fun hb1 => ?_)
  · -- 8t
    refine z_iconst hC 13 dX7_isOther_13 ?_
    refine z_istore_n (lv' := [(1, .int (iZ (0))), (0, .ref (ad 0))]) hC 14 hl dX7_isOther_14 rfl (by decide) rfl (fun ls hl => ?_)
    have L15 : ∀ (N_ : Nat) (p : Nat) (H : Heap) (locs : List Loc) (ls : Array Slot), n - p < N_ → (p ≤ n) → (∀ q, q < p → v2 q = v q ∧ w2 q = wt q) → zH s0 s1 G as0 (mW ad G (va_up (va_up F 5 ((n : Int))) 33 ((n2 : Int))) (va_up (va_up (va_up (va_up Ar 3 (cI (n) v gv)) 4 (cI (n) wt gw)) 31 (cI (n2) v2 gt)) 32 (cI (n2) w2 gtw))) H locs → lv_has ls 2 [(0, .ref (ad 0)), (1, .int (iZ ((p : Int))))] → W pg lau ev (zRm 0 0 0 0) s1 mi ar bl me cd H locs 0 0 Q (F0 mi 15 ls []) := by
      intro N_
      induction N_ with
      | zero => intro p H locs ls hd; exact absurd hd (Nat.not_lt_zero _)
      | succ N_ ih15 =>
        intro p H locs ls hd15 i15_1 ip hH hl
        refine z_iload_n hC 15 hl dX7_isOther_15 rfl 1 rfl ?_
        refine z_aload_n hC 16 hl dX7_isOther_16 rfl 0 rfl ?_
        refine gmW_5 (x := (n : Int)) hC hH 17 rfl dX7_isOther_17 ?_
        refine z_icmp_ge hC 20 61 dX7_isOther_20 rfl (by omega) (by omega) (fun hb2 => ?_) (fun hb2 => ?_)
        · -- 20t
          refine z_iconst hC 61 dX7_isOther_61 ?_
          -- R62.1
          exact z_zret hC hH hQ 62 (0) dX7_isOther_62 (by rfl) rfl (Or.inr ⟨rfl, by exact fun q => q ⟨by omega, fun j hj => ip j (by omega)⟩⟩) rfl (Nat.le_refl _) (Nat.le_refl _)
        · -- 20f
          refine z_aload_n hC 23 hl dX7_isOther_23 rfl 0 rfl ?_
          have h1 := hv (p) (by omega)
          have h2 := hv2 (p) (by omega)
          have h3 := hwt (p) (by omega)
          have h4 := hw2 (p) (by omega)
          refine gmW_31 hC hH 24 dX7_isOther_24 ?_
          refine z_iload_n hC 27 hl dX7_isOther_27 rfl 1 rfl ?_
          refine lmW_31 (x := ((v2 p : Nat) : Int)) hC hH 28 (p) (by omega) (by omega) (cI_lt (by omega)) dX7_isOther_28 ?_
          refine z_aload_n hC 29 hl dX7_isOther_29 rfl 0 rfl ?_
          refine gmW_3 hC hH 30 dX7_isOther_30 ?_
          refine z_iload_n hC 33 hl dX7_isOther_33 rfl 1 rfl ?_
          refine lmW_3 (x := ((v p : Nat) : Int)) hC hH 34 (p) (by omega) (by omega) (cI_lt (by omega)) dX7_isOther_34 ?_
          refine z_icmp_ne hC 35 53 dX7_isOther_35 rfl (by omega) (by omega) (fun hb3 => ?_) (fun hb3 => ?_)
          · -- 35t
            refine z_iconst hC 53 dX7_isOther_53 ?_
            -- R54.2
            exact z_zret hC hH hQ 54 (1) dX7_isOther_54 (by rfl) rfl (Or.inl ⟨rfl, by exact fun q => by have := q.2 p (by omega); omega⟩) rfl (Nat.le_refl _) (Nat.le_refl _)
          · -- 35f
            refine z_aload_n hC 38 hl dX7_isOther_38 rfl 0 rfl ?_
            refine gmW_32 hC hH 39 dX7_isOther_39 ?_
            refine z_iload_n hC 42 hl dX7_isOther_42 rfl 1 rfl ?_
            refine lmW_32 (x := ((w2 p : Nat) : Int)) hC hH 43 (p) (by omega) (by omega) (cI_lt (by omega)) dX7_isOther_43 ?_
            refine z_aload_n hC 44 hl dX7_isOther_44 rfl 0 rfl ?_
            refine gmW_4 hC hH 45 dX7_isOther_45 ?_
            refine z_iload_n hC 48 hl dX7_isOther_48 rfl 1 rfl ?_
            refine lmW_4 (x := ((wt p : Nat) : Int)) hC hH 49 (p) (by omega) (by omega) (cI_lt (by omega)) dX7_isOther_49 ?_
            refine z_icmp_eq hC 50 55 dX7_isOther_50 rfl (by omega) (by omega) (fun hb4 => ?_) (fun hb4 => ?_)
            · -- 50t
              refine z_iinc (lv' := [(1, .int (iZ ((p : Int) + 1))), (0, .ref (ad 0))]) hC 55 hl dX7_isOther_55 1 rfl (by omega) (by decide) rfl (fun ls hl => ?_)
              refine z_goto hC 58 15 dX7_isOther_58 rfl ?_
              -- J15.3
              exact ih15 (p + 1) _ _ _ (by omega) (by first | assumption | omega) (by first | (intro q hq; omega) | (intro q hq; by_cases e : q = p; (· subst e; exact ⟨by omega, by omega⟩); (· exact ip q (by omega)))) hH (z_lv (lv_sub hl [1, 0] rfl) (zcons rfl (zcons (zpeq (by omega)) rfl)))
            · -- 50f
              refine z_iconst hC 53 dX7_isOther_53 ?_
              -- R54.4
              exact z_zret hC hH hQ 54 (1) dX7_isOther_54 (by rfl) rfl (Or.inl ⟨rfl, by exact fun q => by have := q.2 p (by omega); omega⟩) rfl (Nat.le_refl _) (Nat.le_refl _)
    -- J15.5
    exact L15 _ 0 _ _ _ (Nat.lt_succ_self _) (by first | assumption | omega) (by first | (intro q hq; omega) | (intro q hq; by_cases e : q = p; (· subst e; exact ⟨by omega, by omega⟩); (· exact ip q (by omega)))) hH (z_lv (lv_sub hl [1, 0] rfl) (zcons rfl (zcons (zpeq (by omega)) rfl)))
  · -- 8f
    refine z_iconst hC 11 dX7_isOther_11 ?_
    -- R12.6
    exact z_zret hC hH hQ 12 (1) dX7_isOther_12 (by rfl) rfl (Or.inl ⟨rfl, by exact fun q => by have := q.1; omega⟩) rfl (Nat.le_refl _) (Nat.le_refl _)

set_option maxHeartbeats 4000000 in
set_option maxRecDepth 100000 in
theorem m_X7_isFresh (lau : Launch) (s0 : State) (G : zG) (sz : Nat) (ad : Nat → Nat) (F : Nat → Int) (Ar : Nat → Nat → Int) (n : Nat) (v : Nat → Nat) (gv : Nat → Int) (n2 : Nat) (v2 : Nat → Nat) (gt : Nat → Int) (b : Nat) (j : Nat) (hn : n ≤ 120) (hv : ∀ i, i < n → v i < 1000) (hn2 : n2 ≤ 120) (hv2 : ∀ i, i < n2 → v2 i < 1000) (hj : j ≤ 120) (hb : 2 ≤ b ∧ b ≤ 20) : zMet (S := Int) lau yX7_isFresh cX7_isFresh 3 (some .boolean) 1 23 0 0 s0 G sz [.ref (ad 0), .int (iZ ((j : Int)))] (mW ad G (va_up (va_up (va_up F 5 ((n : Int))) 6 ((b : Int))) 33 ((n2 : Int))) (va_up (va_up Ar 3 (cI (n) v gv)) 31 (cI (n2) v2 gt))) (fun (r_ : Int) => some (.int (iZ r_))) (fun (r_ : Int) => ((r_ = 1 ∧ (FR b n v n2 v2 j)) ∨ (r_ = 0 ∧ ¬ (FR b n v n2 v2 j)))) (fun (r_ : Int) => (mW ad G (va_up (va_up (va_up F 5 ((n : Int))) 6 ((b : Int))) 33 ((n2 : Int))) (va_up (va_up Ar 3 (cI (n) v gv)) 31 (cI (n2) v2 gt)))) := by
  refine zMet.of (by decide) (Nat.le_of_ble_eq_true rfl) ?_
  intro pg ev s1 mi ar bl me cd ls Q as0 hC hH hl hQ hsz
  generalize s1.heap = H at hH ⊢
  generalize ([] : List Loc) = locs at hH ⊢
  have hl : lv_has ls 3 [(0, .ref (ad 0)), (1, .int (iZ ((j : Int))))] := hl
  have hbj := Nat.mul_le_mul hb.2 hj
  refine z_aload_n hC 0 hl dX7_isFresh_0 rfl 0 rfl ?_
  refine z_iload_n hC 1 hl dX7_isFresh_1 rfl 1 rfl ?_
  refine z_aload_n hC 2 hl dX7_isFresh_2 rfl 0 rfl ?_
  refine gmW_33 (x := (n2 : Int)) hC hH 3 rfl dX7_isFresh_3 ?_
  refine z_same (z_runV hC hH.2.2 hl.1 hH.1 hH.2.1 2 (As := [.int (iZ ((j : Int))), .int (iZ ((n2 : Int)))]) (rest := []) (m_X7_placesOf lau s0 G _ ad (va_up (va_up (va_up F 5 ((n : Int))) 6 ((b : Int))) 33 ((n2 : Int))) (va_up (va_up Ar 3 (cI (n) v gv)) 31 (cI (n2) v2 gt)) b j n2 (by first | assumption | omega) (by first | assumption | omega) (by first | assumption | omega)) (lw_V q1669 q1671 qs63 q95 q1672) ⟨rfl, by decide, by decide, by decide +kernel⟩ (q0 := 0) (ci := 0) rfl rfl rfl rfl (Nat.le_of_ble_eq_true rfl) ⟨Nat.le_of_ble_eq_true rfl, Nat.le_of_ble_eq_true rfl⟩ ⟨Nat.le_of_ble_eq_true rfl, Nat.le_of_ble_eq_true rfl⟩ dX7_isFresh_6) hH (fun _ H locs hpost hH => ?_)
  have hH : zH s0 s1 G as0 (mW ad G (va_up (va_up (va_up F 5 ((n : Int))) 6 ((b : Int))) 33 ((n2 : Int))) (va_up (va_up Ar 3 (cI (n) v gv)) 31 (cI (n2) v2 gt))) H locs := hH
  refine z_st (st' := [.int (iZ (((plc b j n2 : Nat) : Int)))]) rfl ?_
  refine z_aload_n hC 9 hl dX7_isFresh_9 rfl 0 rfl ?_
  refine z_iload_n hC 10 hl dX7_isFresh_10 rfl 1 rfl ?_
  refine z_aload_n hC 11 hl dX7_isFresh_11 rfl 0 rfl ?_
  refine gmW_5 (x := (n : Int)) hC hH 12 rfl dX7_isFresh_12 ?_
  refine z_same (z_runV hC hH.2.2 hl.1 hH.1 hH.2.1 2 (As := [.int (iZ ((j : Int))), .int (iZ ((n : Int)))]) (rest := [.int (iZ (((plc b j n2 : Nat) : Int)))]) (m_X7_placesOf lau s0 G _ ad (va_up (va_up (va_up F 5 ((n : Int))) 6 ((b : Int))) 33 ((n2 : Int))) (va_up (va_up Ar 3 (cI (n) v gv)) 31 (cI (n2) v2 gt)) b j n (by first | assumption | omega) (by first | assumption | omega) (by first | assumption | omega)) (lw_V q1669 q1671 qs63 q95 q1672) ⟨rfl, by decide, by decide, by decide +kernel⟩ (q0 := 0) (ci := 0) rfl rfl rfl rfl (Nat.le_of_ble_eq_true rfl) ⟨Nat.le_of_ble_eq_true rfl, Nat.le_of_ble_eq_true rfl⟩ ⟨Nat.le_of_ble_eq_true rfl, Nat.le_of_ble_eq_true rfl⟩ dX7_isFresh_15) hH (fun _ H locs hpost hH => ?_)
  have hH : zH s0 s1 G as0 (mW ad G (va_up (va_up (va_up F 5 ((n : Int))) 6 ((b : Int))) 33 ((n2 : Int))) (va_up (va_up Ar 3 (cI (n) v gv)) 31 (cI (n2) v2 gt))) H locs := hH
  refine z_st (st' := [.int (iZ (((plc b j n : Nat) : Int))), .int (iZ (((plc b j n2 : Nat) : Int)))]) rfl ?_
  have hp1 : plc b j n2 ≤ n2 := by unfold plc; split <;> omega
  have hp2 : plc b j n ≤ n := by unfold plc; split <;> omega
  refine z_icmp_ge hC 18 23 dX7_isFresh_18 rfl (by omega) (by omega) (fun hb1 => ?_) (fun hb1 => ?_)
  · -- 18t
    refine z_aload_n hC 23 hl dX7_isFresh_23 rfl 0 rfl ?_
    refine gmW_6 (x := (b : Int)) hC hH 24 rfl dX7_isFresh_24 ?_
    refine z_iload_n hC 27 hl dX7_isFresh_27 rfl 1 rfl ?_
    refine z_imul (e := ((b * j : Nat) : Int)) hC 28 dX7_isFresh_28 (by push_cast; rfl) ?_
    refine z_istore_n (lv' := [(2, .int (iZ (((b * j : Nat) : Int)))), (0, .ref (ad 0)), (1, .int (iZ ((j : Int))))]) hC 29 hl dX7_isFresh_29 rfl (by decide) rfl (fun ls hl => ?_)
    have L30 : ∀ (N_ : Nat) (p : Nat) (H : Heap) (locs : List Loc) (ls : Array Slot), b * j + b - p < N_ → (b * j ≤ p) → (p ≤ b * j + b) → (∀ q, b * j ≤ q → q < p → q < n2 → q < n ∧ v2 q = v q) → zH s0 s1 G as0 (mW ad G (va_up (va_up (va_up F 5 ((n : Int))) 6 ((b : Int))) 33 ((n2 : Int))) (va_up (va_up Ar 3 (cI (n) v gv)) 31 (cI (n2) v2 gt))) H locs → lv_has ls 3 [(0, .ref (ad 0)), (1, .int (iZ ((j : Int)))), (2, .int (iZ ((p : Int))))] → W pg lau ev (zRm 1 0 0 23) s1 mi ar bl me cd H locs 0 0 Q (F0 mi 30 ls []) := by
      intro N_
      induction N_ with
      | zero => intro p H locs ls hd; exact absurd hd (Nat.not_lt_zero _)
      | succ N_ ih30 =>
        intro p H locs ls hd30 i30_1 i30_2 ip hH hl
        refine z_iload_n hC 30 hl dX7_isFresh_30 rfl 2 rfl ?_
        refine z_aload_n hC 31 hl dX7_isFresh_31 rfl 0 rfl ?_
        refine gmW_6 (x := (b : Int)) hC hH 32 rfl dX7_isFresh_32 ?_
        refine z_iload_n hC 35 hl dX7_isFresh_35 rfl 1 rfl ?_
        refine z_imul (e := ((b * j : Nat) : Int)) hC 36 dX7_isFresh_36 (by push_cast; rfl) ?_
        refine z_aload_n hC 37 hl dX7_isFresh_37 rfl 0 rfl ?_
        refine gmW_6 (x := (b : Int)) hC hH 38 rfl dX7_isFresh_38 ?_
        refine z_iadd (e := ((b * j : Nat) : Int) + (b : Int)) hC 41 dX7_isFresh_41 rfl ?_
        refine z_icmp_ge hC 42 84 dX7_isFresh_42 rfl (by omega) (by omega) (fun hb2 => ?_) (fun hb2 => ?_)
        · -- 42t
          refine z_iconst hC 84 dX7_isFresh_84 ?_
          -- R85.1
          exact z_zret hC hH hQ 85 (0) dX7_isFresh_85 (by rfl) rfl (Or.inr ⟨rfl, by exact fun q => by rcases q with q | ⟨q, q1, q2, q3, q4⟩; (· omega); (· have := ip q q1 (by omega) q3; omega)⟩) rfl (Nat.le_refl _) (Nat.le_refl _)
        · -- 42f
          refine z_iload_n hC 45 hl dX7_isFresh_45 rfl 2 rfl ?_
          refine z_aload_n hC 46 hl dX7_isFresh_46 rfl 0 rfl ?_
          refine gmW_33 (x := (n2 : Int)) hC hH 47 rfl dX7_isFresh_47 ?_
          refine z_icmp_ge hC 50 84 dX7_isFresh_50 rfl (by omega) (by omega) (fun hb3 => ?_) (fun hb3 => ?_)
          · -- 50t
            refine z_iconst hC 84 dX7_isFresh_84 ?_
            -- R85.2
            exact z_zret hC hH hQ 85 (0) dX7_isFresh_85 (by rfl) rfl (Or.inr ⟨rfl, by exact fun q => by rcases q with q | ⟨q, q1, q2, q3, q4⟩; (· omega); (· have := ip q q1 (by omega) q3; omega)⟩) rfl (Nat.le_refl _) (Nat.le_refl _)
          · -- 50f
            refine z_iload_n hC 53 hl dX7_isFresh_53 rfl 2 rfl ?_
            refine z_aload_n hC 54 hl dX7_isFresh_54 rfl 0 rfl ?_
            refine gmW_5 (x := (n : Int)) hC hH 55 rfl dX7_isFresh_55 ?_
            refine z_icmp_ge hC 58 76 dX7_isFresh_58 rfl (by omega) (by omega) (fun hb4 => ?_) (fun hb4 => ?_)
            · -- 58t
              refine z_iconst hC 76 dX7_isFresh_76 ?_
              -- R77.3
              exact z_zret hC hH hQ 77 (1) dX7_isFresh_77 (by rfl) rfl (Or.inl ⟨rfl, by exact Or.inr ⟨p, by omega, by omega, by omega, by omega⟩⟩) rfl (Nat.le_refl _) (Nat.le_refl _)
            · -- 58f
              refine z_aload_n hC 61 hl dX7_isFresh_61 rfl 0 rfl ?_
              have h1 := hv2 (p) (by omega)
              have h2 := hv (p) (by omega)
              refine gmW_31 hC hH 62 dX7_isFresh_62 ?_
              refine z_iload_n hC 65 hl dX7_isFresh_65 rfl 2 rfl ?_
              refine lmW_31 (x := ((v2 p : Nat) : Int)) hC hH 66 (p) (by omega) (by omega) (cI_lt (by omega)) dX7_isFresh_66 ?_
              refine z_aload_n hC 67 hl dX7_isFresh_67 rfl 0 rfl ?_
              refine gmW_3 hC hH 68 dX7_isFresh_68 ?_
              refine z_iload_n hC 71 hl dX7_isFresh_71 rfl 2 rfl ?_
              refine lmW_3 (x := ((v p : Nat) : Int)) hC hH 72 (p) (by omega) (by omega) (cI_lt (by omega)) dX7_isFresh_72 ?_
              refine z_icmp_eq hC 73 78 dX7_isFresh_73 rfl (by omega) (by omega) (fun hb5 => ?_) (fun hb5 => ?_)
              · -- 73t
                refine z_iinc (lv' := [(2, .int (iZ ((p : Int) + 1))), (0, .ref (ad 0)), (1, .int (iZ ((j : Int))))]) hC 78 hl dX7_isFresh_78 2 rfl (by omega) (by decide) rfl (fun ls hl => ?_)
                refine z_goto hC 81 30 dX7_isFresh_81 rfl ?_
                -- J30.4
                exact ih30 (p + 1) _ _ _ (by omega) (by first | assumption | omega) (by first | assumption | omega) (by first | (intro q q1 q2; omega) | (intro q q1 q2 q3; by_cases e : q = p; (· subst e; exact ⟨by omega, by omega⟩); (· exact ip q q1 (by omega) q3))) hH (z_lv (lv_sub hl [1, 2, 0] rfl) (zcons rfl (zcons rfl (zcons (zpeq (by omega)) rfl))))
              · -- 73f
                refine z_iconst hC 76 dX7_isFresh_76 ?_
                -- R77.5
                exact z_zret hC hH hQ 77 (1) dX7_isFresh_77 (by rfl) rfl (Or.inl ⟨rfl, by exact Or.inr ⟨p, by omega, by omega, by omega, by omega⟩⟩) rfl (Nat.le_refl _) (Nat.le_refl _)
    -- J30.6
    exact L30 _ (b * j) _ _ _ (Nat.lt_succ_self _) (by first | assumption | omega) (by first | assumption | omega) (by first | (intro q q1 q2; omega) | (intro q q1 q2 q3; by_cases e : q = p; (· subst e; exact ⟨by omega, by omega⟩); (· exact ip q q1 (by omega) q3))) hH (lv_sub hl [1, 2, 0] rfl)
  · -- 18f
    refine z_iconst hC 21 dX7_isFresh_21 ?_
    -- R22.7
    exact z_zret hC hH hQ 22 (1) dX7_isFresh_22 (by rfl) rfl (Or.inl ⟨rfl, by exact Or.inl (by omega)⟩) rfl (Nat.le_refl _) (Nat.le_refl _)

set_option maxHeartbeats 4000000 in
set_option maxRecDepth 100000 in
theorem m_X7_freshPairs (lau : Launch) (s0 : State) (G : zG) (sz : Nat) (ad : Nat → Nat) (F : Nat → Int) (Ar : Nat → Nat → Int) (n : Nat) (v : Nat → Nat) (gv : Nat → Int) (n2 : Nat) (v2 : Nat → Nat) (gt : Nat → Int) (b : Nat) (hn : n ≤ 120) (hv : ∀ i, i < n → v i < 1000) (hn2 : n2 ≤ 120) (hv2 : ∀ i, i < n2 → v2 i < 1000) (hb : 2 ≤ b ∧ b ≤ 20) : zMet (S := Unit) lau yX7_freshPairs cX7_freshPairs 6 (some .int) 2 45 0 0 s0 G sz [.ref (ad 0)] (mW ad G (va_up (va_up (va_up F 5 ((n : Int))) 6 ((b : Int))) 33 ((n2 : Int))) (va_up (va_up Ar 3 (cI (n) v gv)) 31 (cI (n2) v2 gt))) (fun (_ : Unit) => some (.int (iZ (((frs b n v n2 v2 : Nat) : Int))))) (fun (_ : Unit) => (frs b n v n2 v2 ≤ 120 * 120)) (fun (_ : Unit) => (mW ad G (va_up (va_up (va_up F 5 ((n : Int))) 6 ((b : Int))) 33 ((n2 : Int))) (va_up (va_up Ar 3 (cI (n) v gv)) 31 (cI (n2) v2 gt)))) := by
  refine zMet.of (by decide) (Nat.le_of_ble_eq_true rfl) ?_
  intro pg ev s1 mi ar bl me cd ls Q as0 hC hH hl hQ hsz
  generalize s1.heap = H at hH ⊢
  generalize ([] : List Loc) = locs at hH ⊢
  have hl : lv_has ls 6 [(0, .ref (ad 0))] := hl
  have hkb := blk_le hb.1 hn2
  refine z_aload_n hC 0 hl dX7_freshPairs_0 rfl 0 rfl ?_
  refine gmW_33 (x := (n2 : Int)) hC hH 1 rfl dX7_freshPairs_1 ?_
  refine z_aload_n hC 4 hl dX7_freshPairs_4 rfl 0 rfl ?_
  refine gmW_6 (x := (b : Int)) hC hH 5 rfl dX7_freshPairs_5 ?_
  refine z_iadd (e := (n2 : Int) + (b : Int)) hC 8 dX7_freshPairs_8 rfl ?_
  refine z_iconst hC 9 dX7_freshPairs_9 ?_
  refine z_isub (e := (n2 : Int) + (b : Int) - 1) hC 10 dX7_freshPairs_10 rfl ?_
  refine z_aload_n hC 11 hl dX7_freshPairs_11 rfl 0 rfl ?_
  refine gmW_6 (x := (b : Int)) hC hH 12 rfl dX7_freshPairs_12 ?_
  refine z_idiv hC 15 (n2 + b - 1) (b) dX7_freshPairs_15 (by omega) (by omega) (by omega) (by omega) ((zdiv (n2 + b - 1) b)) rfl ?_
  refine z_istore_n (lv' := [(1, .int (iZ (((zdiv (n2 + b - 1) b : Nat) : Int)))), (0, .ref (ad 0))]) hC 16 hl dX7_freshPairs_16 rfl (by decide) rfl (fun ls hl => ?_)
  refine z_iconst hC 17 dX7_freshPairs_17 ?_
  refine z_istore_n (lv' := [(2, .int (iZ (0))), (1, .int (iZ (((zdiv (n2 + b - 1) b : Nat) : Int)))), (0, .ref (ad 0))]) hC 18 hl dX7_freshPairs_18 rfl (by decide) rfl (fun ls hl => ?_)
  refine z_iconst hC 19 dX7_freshPairs_19 ?_
  refine z_istore_n (lv' := [(3, .int (iZ (0))), (2, .int (iZ (0))), (1, .int (iZ (((zdiv (n2 + b - 1) b : Nat) : Int)))), (0, .ref (ad 0))]) hC 20 hl dX7_freshPairs_20 rfl (by decide) rfl (fun ls hl => ?_)
  have L21 : ∀ (N_ : Nat) (i : Nat) (c : Nat) (H : Heap) (locs : List Loc) (ls : Array Slot), zdiv (n2 + b - 1) b - i < N_ → (i ≤ zdiv (n2 + b - 1) b) → (c = sm (fun i => cB (fun j => ∃ i1, i ≤ i1 ∧ i1 ≤ j ∧ FR b n v n2 v2 i1) (zdiv (n2 + b - 1) b)) 0 i) → (c ≤ i * 120) → zH s0 s1 G as0 (mW ad G (va_up (va_up (va_up F 5 ((n : Int))) 6 ((b : Int))) 33 ((n2 : Int))) (va_up (va_up Ar 3 (cI (n) v gv)) 31 (cI (n2) v2 gt))) H locs → lv_has ls 6 [(0, .ref (ad 0)), (1, .int (iZ (((zdiv (n2 + b - 1) b : Nat) : Int)))), (2, .int (iZ ((c : Int)))), (3, .int (iZ ((i : Int))))] → W pg lau ev (zRm 2 0 0 45) s1 mi ar bl me cd H locs 0 0 Q (F0 mi 21 ls []) := by
    intro N_
    induction N_ with
    | zero => intro i c H locs ls hd; exact absurd hd (Nat.not_lt_zero _)
    | succ N_ ih21 =>
      intro i c H locs ls hd21 i21_1 ic i21_3 hH hl
      refine z_iload_n hC 21 hl dX7_freshPairs_21 rfl 3 rfl ?_
      refine z_iload_n hC 22 hl dX7_freshPairs_22 rfl 1 rfl ?_
      refine z_icmp_ge hC 23 84 dX7_freshPairs_23 rfl (by omega) (by omega) (fun hb1 => ?_) (fun hb1 => ?_)
      · -- 23t
        have ei : i = zdiv (n2 + b - 1) b := by omega
        rw [ei] at ic
        refine z_iload_n hC 84 hl dX7_freshPairs_84 rfl 2 rfl ?_
        -- R85.1
        refine z_st (st' := [.int (iZ (((frs b n v n2 v2 : Nat) : Int)))]) (zcons (zieq (by rw [ic]; rfl)) rfl) ?_
        exact z_iret hC hH hQ 85 (()) dX7_freshPairs_85 rfl (by exact Nat.le_trans (sm_b (M := 120) (fun p => Nat.le_trans (cB_le _ _) hkb)) (Nat.mul_le_mul_right _ hkb)) rfl (Nat.le_refl _) (Nat.le_refl _)
      · -- 23f
        refine z_iconst hC 26 dX7_freshPairs_26 ?_
        refine z_istore (lv' := [(4, .int (iZ (0))), (0, .ref (ad 0)), (1, .int (iZ (((zdiv (n2 + b - 1) b : Nat) : Int)))), (2, .int (iZ ((c : Int)))), (3, .int (iZ ((i : Int))))]) hC 27 hl dX7_freshPairs_27 (by decide) rfl (fun ls hl => ?_)
        refine z_iload_n hC 29 hl dX7_freshPairs_29 rfl 4 rfl ?_
        refine z_istore (lv' := [(5, .int (iZ ((i : Int)))), (4, .int (iZ (0))), (0, .ref (ad 0)), (1, .int (iZ (((zdiv (n2 + b - 1) b : Nat) : Int)))), (2, .int (iZ ((c : Int)))), (3, .int (iZ ((i : Int))))]) hC 30 hl dX7_freshPairs_30 (by decide) rfl (fun ls hl => ?_)
        have L32 : ∀ (N_ : Nat) (j : Nat) (c2 : Nat) (s : Int) (H : Heap) (locs : List Loc) (ls : Array Slot), zdiv (n2 + b - 1) b - j < N_ → (i ≤ j) → (j ≤ zdiv (n2 + b - 1) b) → (c2 = c + cB (fun j => ∃ i1, i ≤ i1 ∧ i1 ≤ j ∧ FR b n v n2 v2 i1) j) → (c2 ≤ c + j) → ((s = 1 ∧ ∃ i1, i ≤ i1 ∧ i1 < j ∧ FR b n v n2 v2 i1) ∨ (s = 0 ∧ ∀ i1, i ≤ i1 → i1 < j → ¬ FR b n v n2 v2 i1)) → zH s0 s1 G as0 (mW ad G (va_up (va_up (va_up F 5 ((n : Int))) 6 ((b : Int))) 33 ((n2 : Int))) (va_up (va_up Ar 3 (cI (n) v gv)) 31 (cI (n2) v2 gt))) H locs → lv_has ls 6 [(0, .ref (ad 0)), (1, .int (iZ (((zdiv (n2 + b - 1) b : Nat) : Int)))), (2, .int (iZ ((c2 : Int)))), (3, .int (iZ ((i : Int)))), (4, .int (iZ (s))), (5, .int (iZ ((j : Int))))] → W pg lau ev (zRm 2 0 0 45) s1 mi ar bl me cd H locs 0 0 Q (F0 mi 32 ls []) := by
          intro N_
          induction N_ with
          | zero => intro j c2 s H locs ls hd; exact absurd hd (Nat.not_lt_zero _)
          | succ N_ ih32 =>
            intro j c2 s H locs ls hd32 i32_1 i32_2 i2 i32_4 is_ hH hl
            have hsb : s = 0 ∨ s = 1 := is_.elim (fun q => Or.inr q.1) (fun q => Or.inl q.1)
            refine z_iload hC 32 hl dX7_freshPairs_32 5 rfl ?_
            refine z_iload_n hC 34 hl dX7_freshPairs_34 rfl 1 rfl ?_
            refine z_icmp_ge hC 35 78 dX7_freshPairs_35 rfl (by omega) (by omega) (fun hb2 => ?_) (fun hb2 => ?_)
            · -- 35t
              have ej : j = zdiv (n2 + b - 1) b := by omega
              rw [ej] at i2
              refine z_iinc (lv' := [(3, .int (iZ ((i : Int) + 1))), (0, .ref (ad 0)), (1, .int (iZ (((zdiv (n2 + b - 1) b : Nat) : Int)))), (2, .int (iZ ((c2 : Int)))), (4, .int (iZ (s))), (5, .int (iZ ((j : Int))))]) hC 78 hl dX7_freshPairs_78 3 rfl (by omega) (by decide) rfl (fun ls hl => ?_)
              refine z_goto hC 81 21 dX7_freshPairs_81 rfl ?_
              -- J21.2
              exact ih21 (i + 1) c2 _ _ _ (by omega) (by first | assumption | omega) (by first | rfl | (rw [sm_succ _ (Nat.zero_le _)]; omega)) (by first | assumption | omega) hH (z_lv (lv_sub hl [1, 2, 3, 0] rfl) (zcons rfl (zcons rfl (zcons rfl (zcons (zpeq (by omega)) rfl)))))
            · -- 35f
              refine z_iload hC 38 hl dX7_freshPairs_38 4 rfl ?_
              refine z_if_ne hC 40 52 dX7_freshPairs_40 rfl (by omega) (fun hb3 => ?_) (fun hb3 => ?_)
              · -- 40t
                refine z_iconst hC 52 dX7_freshPairs_52 ?_
                refine z_goto hC 53 57 dX7_freshPairs_53 rfl ?_
                refine z_istore (lv' := [(4, .int (iZ (1))), (0, .ref (ad 0)), (1, .int (iZ (((zdiv (n2 + b - 1) b : Nat) : Int)))), (2, .int (iZ ((c2 : Int)))), (3, .int (iZ ((i : Int)))), (5, .int (iZ ((j : Int))))]) hC 57 hl dX7_freshPairs_57 (by decide) rfl (fun ls hl => ?_)
                refine z_iload_n hC 59 hl dX7_freshPairs_59 rfl 3 rfl ?_
                refine z_iload hC 60 hl dX7_freshPairs_60 0 rfl ?_
                refine z_if_eq_f hC 62 69 dX7_freshPairs_62 rfl (by omega) (by omega) ?_
                refine z_iconst hC 65 dX7_freshPairs_65 ?_
                refine z_goto hC 66 70 dX7_freshPairs_66 rfl ?_
                refine z_iadd (e := (c2 : Int) + 1) hC 70 dX7_freshPairs_70 rfl ?_
                refine z_istore_n (lv' := [(2, .int (iZ ((c2 : Int) + 1))), (4, .int (iZ (1))), (0, .ref (ad 0)), (1, .int (iZ (((zdiv (n2 + b - 1) b : Nat) : Int)))), (3, .int (iZ ((i : Int)))), (5, .int (iZ ((j : Int))))]) hC 71 hl dX7_freshPairs_71 rfl (by decide) rfl (fun ls hl => ?_)
                refine z_iinc (lv' := [(5, .int (iZ ((j : Int) + 1))), (2, .int (iZ ((c2 : Int) + 1))), (4, .int (iZ (1))), (0, .ref (ad 0)), (1, .int (iZ (((zdiv (n2 + b - 1) b : Nat) : Int)))), (3, .int (iZ ((i : Int))))]) hC 72 hl dX7_freshPairs_72 5 rfl (by omega) (by decide) rfl (fun ls hl => ?_)
                refine z_goto hC 75 32 dX7_freshPairs_75 rfl ?_
                -- J32.3
                exact ih32 (j + 1) (c2 + 1) 1 _ _ _ (by omega) (by first | assumption | omega) (by first | assumption | omega) (by first | (rw [cB_none (fun j hj h => by obtain ⟨q, q1, q2, q3⟩ := h; omega)]; omega) | exact cB_ait (fr_1 is_ (by omega) (by first | (left; omega) | (right; assumption))) i2 | exact cB_aif (fr_0 is_ (by omega) (by assumption)) i2) (by first | assumption | omega) (by first | exact Or.inr ⟨rfl, fun i1 q1 q2 => by omega⟩ | exact fr_s1 is_ (by omega) (by first | (left; omega) | (right; assumption)) | exact fr_s0 is_ (by omega) (by assumption)) hH (z_lv (lv_sub hl [3, 4, 1, 5, 2, 0] rfl) (zcons rfl (zcons rfl (zcons (zpeq (by omega)) (zcons rfl (zcons rfl (zcons (zpeq (by omega)) rfl)))))))
              · -- 40f
                refine z_aload_n hC 43 hl dX7_freshPairs_43 rfl 0 rfl ?_
                refine z_iload hC 44 hl dX7_freshPairs_44 5 rfl ?_
                refine z_same (z_runV hC hH.2.2 hl.1 hH.1 hH.2.1 1 (As := [.int (iZ ((j : Int)))]) (rest := []) (m_X7_isFresh lau s0 G _ ad (va_up (va_up (va_up F 5 ((n : Int))) 6 ((b : Int))) 33 ((n2 : Int))) (va_up (va_up Ar 3 (cI (n) v gv)) 31 (cI (n2) v2 gt)) n v gv n2 v2 gt b j (by first | assumption | omega) (by first | assumption | omega) (by first | assumption | omega) (by first | assumption | omega) (by first | assumption | omega) (by first | assumption | omega)) (lw_V q1665 q1667 qs62 q95 q1668) ⟨rfl, by decide, by decide, by decide +kernel⟩ (q0 := 0) (ci := 0) rfl rfl rfl rfl (Nat.le_of_ble_eq_true rfl) ⟨Nat.le_of_ble_eq_true rfl, Nat.le_of_ble_eq_true rfl⟩ ⟨Nat.le_of_ble_eq_true rfl, Nat.le_of_ble_eq_true rfl⟩ dX7_freshPairs_46) hH (fun r_46 H locs hpost hH => ?_)
                have hb_46 : (r_46 = 1 ∧ (FR b n v n2 v2 j)) ∨ (r_46 = 0 ∧ ¬ (FR b n v n2 v2 j)) := hpost
                have hH : zH s0 s1 G as0 (mW ad G (va_up (va_up (va_up F 5 ((n : Int))) 6 ((b : Int))) 33 ((n2 : Int))) (va_up (va_up Ar 3 (cI (n) v gv)) 31 (cI (n2) v2 gt))) H locs := hH
                refine z_st (st' := [.int (iZ (r_46))]) rfl ?_
                rcases hb_46 with ⟨rfl, hb_46⟩ | ⟨rfl, hb_46⟩
                · -- 46=1
                  refine z_if_eq_f hC 49 56 dX7_freshPairs_49 rfl (by omega) (by omega) ?_
                  refine z_iconst hC 52 dX7_freshPairs_52 ?_
                  refine z_goto hC 53 57 dX7_freshPairs_53 rfl ?_
                  refine z_istore (lv' := [(4, .int (iZ (1))), (0, .ref (ad 0)), (1, .int (iZ (((zdiv (n2 + b - 1) b : Nat) : Int)))), (2, .int (iZ ((c2 : Int)))), (3, .int (iZ ((i : Int)))), (5, .int (iZ ((j : Int))))]) hC 57 hl dX7_freshPairs_57 (by decide) rfl (fun ls hl => ?_)
                  refine z_iload_n hC 59 hl dX7_freshPairs_59 rfl 3 rfl ?_
                  refine z_iload hC 60 hl dX7_freshPairs_60 0 rfl ?_
                  refine z_if_eq_f hC 62 69 dX7_freshPairs_62 rfl (by omega) (by omega) ?_
                  refine z_iconst hC 65 dX7_freshPairs_65 ?_
                  refine z_goto hC 66 70 dX7_freshPairs_66 rfl ?_
                  refine z_iadd (e := (c2 : Int) + 1) hC 70 dX7_freshPairs_70 rfl ?_
                  refine z_istore_n (lv' := [(2, .int (iZ ((c2 : Int) + 1))), (4, .int (iZ (1))), (0, .ref (ad 0)), (1, .int (iZ (((zdiv (n2 + b - 1) b : Nat) : Int)))), (3, .int (iZ ((i : Int)))), (5, .int (iZ ((j : Int))))]) hC 71 hl dX7_freshPairs_71 rfl (by decide) rfl (fun ls hl => ?_)
                  refine z_iinc (lv' := [(5, .int (iZ ((j : Int) + 1))), (2, .int (iZ ((c2 : Int) + 1))), (4, .int (iZ (1))), (0, .ref (ad 0)), (1, .int (iZ (((zdiv (n2 + b - 1) b : Nat) : Int)))), (3, .int (iZ ((i : Int))))]) hC 72 hl dX7_freshPairs_72 5 rfl (by omega) (by decide) rfl (fun ls hl => ?_)
                  refine z_goto hC 75 32 dX7_freshPairs_75 rfl ?_
                  -- J32.4
                  exact ih32 (j + 1) (c2 + 1) 1 _ _ _ (by omega) (by first | assumption | omega) (by first | assumption | omega) (by first | (rw [cB_none (fun j hj h => by obtain ⟨q, q1, q2, q3⟩ := h; omega)]; omega) | exact cB_ait (fr_1 is_ (by omega) (by first | (left; omega) | (right; assumption))) i2 | exact cB_aif (fr_0 is_ (by omega) (by assumption)) i2) (by first | assumption | omega) (by first | exact Or.inr ⟨rfl, fun i1 q1 q2 => by omega⟩ | exact fr_s1 is_ (by omega) (by first | (left; omega) | (right; assumption)) | exact fr_s0 is_ (by omega) (by assumption)) hH (z_lv (lv_sub hl [3, 4, 1, 5, 2, 0] rfl) (zcons rfl (zcons rfl (zcons (zpeq (by omega)) (zcons rfl (zcons rfl (zcons (zpeq (by omega)) rfl)))))))
                · -- 46=0
                  refine z_if_eq_t hC 49 56 dX7_freshPairs_49 rfl (by omega) (by omega) ?_
                  refine z_iconst hC 56 dX7_freshPairs_56 ?_
                  refine z_istore (lv' := [(4, .int (iZ (0))), (0, .ref (ad 0)), (1, .int (iZ (((zdiv (n2 + b - 1) b : Nat) : Int)))), (2, .int (iZ ((c2 : Int)))), (3, .int (iZ ((i : Int)))), (5, .int (iZ ((j : Int))))]) hC 57 hl dX7_freshPairs_57 (by decide) rfl (fun ls hl => ?_)
                  refine z_iload_n hC 59 hl dX7_freshPairs_59 rfl 3 rfl ?_
                  refine z_iload hC 60 hl dX7_freshPairs_60 0 rfl ?_
                  refine z_if_eq_t hC 62 69 dX7_freshPairs_62 rfl (by omega) (by omega) ?_
                  refine z_iconst hC 69 dX7_freshPairs_69 ?_
                  refine z_iadd (e := (c2 : Int)) hC 70 dX7_freshPairs_70 (by omega) ?_
                  refine z_istore_n (lv' := [(2, .int (iZ ((c2 : Int)))), (4, .int (iZ (0))), (0, .ref (ad 0)), (1, .int (iZ (((zdiv (n2 + b - 1) b : Nat) : Int)))), (3, .int (iZ ((i : Int)))), (5, .int (iZ ((j : Int))))]) hC 71 hl dX7_freshPairs_71 rfl (by decide) rfl (fun ls hl => ?_)
                  refine z_iinc (lv' := [(5, .int (iZ ((j : Int) + 1))), (2, .int (iZ ((c2 : Int)))), (4, .int (iZ (0))), (0, .ref (ad 0)), (1, .int (iZ (((zdiv (n2 + b - 1) b : Nat) : Int)))), (3, .int (iZ ((i : Int))))]) hC 72 hl dX7_freshPairs_72 5 rfl (by omega) (by decide) rfl (fun ls hl => ?_)
                  refine z_goto hC 75 32 dX7_freshPairs_75 rfl ?_
                  -- J32.5
                  exact ih32 (j + 1) c2 0 _ _ _ (by omega) (by first | assumption | omega) (by first | assumption | omega) (by first | (rw [cB_none (fun j hj h => by obtain ⟨q, q1, q2, q3⟩ := h; omega)]; omega) | exact cB_ait (fr_1 is_ (by omega) (by first | (left; omega) | (right; assumption))) i2 | exact cB_aif (fr_0 is_ (by omega) (by assumption)) i2) (by first | assumption | omega) (by first | exact Or.inr ⟨rfl, fun i1 q1 q2 => by omega⟩ | exact fr_s1 is_ (by omega) (by first | (left; omega) | (right; assumption)) | exact fr_s0 is_ (by omega) (by assumption)) hH (z_lv (lv_sub hl [3, 4, 1, 5, 2, 0] rfl) (zcons rfl (zcons rfl (zcons rfl (zcons rfl (zcons rfl (zcons (zpeq (by omega)) rfl)))))))
        -- J32.6
        exact L32 _ i c 0 _ _ _ (Nat.lt_succ_self _) (by first | assumption | omega) (by first | assumption | omega) (by first | (rw [cB_none (fun j hj h => by obtain ⟨q, q1, q2, q3⟩ := h; omega)]; omega) | exact cB_ait (fr_1 is_ (by omega) (by first | (left; omega) | (right; assumption))) i2 | exact cB_aif (fr_0 is_ (by omega) (by assumption)) i2) (by first | assumption | omega) (by first | exact Or.inr ⟨rfl, fun i1 q1 q2 => by omega⟩ | exact fr_s1 is_ (by omega) (by first | (left; omega) | (right; assumption)) | exact fr_s0 is_ (by omega) (by assumption)) hH (lv_sub hl [2, 3, 4, 5, 1, 0] rfl)
  -- J21.7
  exact L21 _ 0 0 _ _ _ (Nat.lt_succ_self _) (by first | assumption | omega) (by first | rfl | (rw [sm_succ _ (Nat.zero_le _)]; omega)) (by first | assumption | omega) hH (z_lv (lv_sub hl [3, 2, 1, 0] rfl) (zcons rfl (zcons rfl (zcons (zpeq (by omega)) (zcons (zpeq (by omega)) rfl)))))

set_option maxHeartbeats 4000000 in
set_option maxRecDepth 100000 in
theorem m_X7_becomes (lau : Launch) (s0 : State) (G : zG) (sz : Nat) (ad : Nat → Nat) (F : Nat → Int) (Ar : Nat → Nat → Int) (n : Nat) (v : Nat → Nat) (gv : Nat → Int) (wt : Nat → Nat) (gw : Nat → Int) (n2 : Nat) (v2 : Nat → Nat) (w2 : Nat → Nat) (gt : Nat → Int) (gtw : Nat → Int) (b : Nat) (hn : n ≤ 120) (hv : ∀ i, i < n → v i < 1000) (hwt : ∀ i, i < n → 1 ≤ wt i ∧ wt i ≤ 9) (hn2 : n2 ≤ 120) (hv2 : ∀ i, i < n2 → v2 i < 1000) (hw2 : ∀ i, i < n2 → 1 ≤ w2 i ∧ w2 i ≤ 9) (hb : 2 ≤ b ∧ b ≤ 20) : zMet (S := (Nat → Int) × (Nat → Int)) lau yX7_becomes cX7_becomes 2 (none) 3 70 0 0 s0 G sz [.ref (ad 0)] (mW ad G (va_up (va_up (va_up F 5 ((n : Int))) 6 ((b : Int))) 33 ((n2 : Int))) (va_up (va_up (va_up (va_up Ar 3 (cI (n) v gv)) 4 (cI (n) wt gw)) 31 (cI (n2) v2 gt)) 32 (cI (n2) w2 gtw))) (fun ((gv1, gw1) : (Nat → Int) × (Nat → Int)) => (none : Option Value)) (fun ((gv1, gw1) : (Nat → Int) × (Nat → Int)) => True) (fun ((gv1, gw1) : (Nat → Int) × (Nat → Int)) => (mW ad G (va_up (va_up (va_up (va_up F 5 ((n2 : Int))) 6 ((b : Int))) 13 (((frs b n v n2 v2 : Nat) : Int))) 33 ((n2 : Int))) (va_up (va_up (va_up (va_up Ar 3 (cI (n2) v2 gv1)) 4 (cI (n2) w2 gw1)) 31 (cI (n2) v2 gt)) 32 (cI (n2) w2 gtw)))) := by
  refine zMet.of (by decide) (Nat.le_of_ble_eq_true rfl) ?_
  intro pg ev s1 mi ar bl me cd ls Q as0 hC hH hl hQ hsz
  generalize s1.heap = H at hH ⊢
  generalize ([] : List Loc) = locs at hH ⊢
  have hl : lv_has ls 2 [(0, .ref (ad 0))] := hl
  refine z_aload_n hC 0 hl dX7_becomes_0 rfl 0 rfl ?_
  refine z_aload_n hC 1 hl dX7_becomes_1 rfl 0 rfl ?_
  refine z_same (z_runV hC hH.2.2 hl.1 hH.1 hH.2.1 0 (As := []) (rest := [.ref (ad 0)]) (m_X7_freshPairs lau s0 G _ ad (va_up (va_up (va_up F 5 ((n : Int))) 6 ((b : Int))) 33 ((n2 : Int))) (va_up (va_up (va_up (va_up Ar 3 (cI (n) v gv)) 4 (cI (n) wt gw)) 31 (cI (n2) v2 gt)) 32 (cI (n2) w2 gtw)) n v gv n2 v2 gt b (by first | assumption | omega) (by first | assumption | omega) (by first | assumption | omega) (by first | assumption | omega) (by first | assumption | omega)) (lw_V q1661 q1663 qs61 q95 q1664) ⟨rfl, by decide, by decide, by decide +kernel⟩ (q0 := 0) (ci := 0) rfl rfl rfl rfl (Nat.le_of_ble_eq_true rfl) ⟨Nat.le_of_ble_eq_true rfl, Nat.le_of_ble_eq_true rfl⟩ ⟨Nat.le_of_ble_eq_true rfl, Nat.le_of_ble_eq_true rfl⟩ dX7_becomes_2) hH (fun _ H locs hpost hH => ?_)
  have pb_2 : frs b n v n2 v2 ≤ 120 * 120 := hpost
  have hH : zH s0 s1 G as0 (mW ad G (va_up (va_up (va_up F 5 ((n : Int))) 6 ((b : Int))) 33 ((n2 : Int))) (va_up (va_up (va_up (va_up Ar 3 (cI (n) v gv)) 4 (cI (n) wt gw)) 31 (cI (n2) v2 gt)) 32 (cI (n2) w2 gtw))) H locs := hH
  refine z_st (st' := [.int (iZ (((frs b n v n2 v2 : Nat) : Int))), .ref (ad 0)]) rfl ?_
  refine pmW_13 hC hH 5 dX7_becomes_5 (fun H locs hH => ?_)
  have hH : zH s0 s1 G as0 (mW ad G (va_up (va_up (va_up (va_up F 5 ((n : Int))) 6 ((b : Int))) 13 (((frs b n v n2 v2 : Nat) : Int))) 33 ((n2 : Int))) (va_up (va_up (va_up (va_up Ar 3 (cI (n) v gv)) 4 (cI (n) wt gw)) 31 (cI (n2) v2 gt)) 32 (cI (n2) w2 gtw))) H locs := hH
  refine z_aload_n hC 8 hl dX7_becomes_8 rfl 0 rfl ?_
  refine z_aload_n hC 9 hl dX7_becomes_9 rfl 0 rfl ?_
  refine gmW_33 (x := (n2 : Int)) hC hH 10 rfl dX7_becomes_10 ?_
  refine pmW_5 hC hH 13 dX7_becomes_13 (fun H locs hH => ?_)
  have hH : zH s0 s1 G as0 (mW ad G (va_up (va_up (va_up (va_up F 5 ((n2 : Int))) 6 ((b : Int))) 13 (((frs b n v n2 v2 : Nat) : Int))) 33 ((n2 : Int))) (va_up (va_up (va_up (va_up Ar 3 (cI (n) v gv)) 4 (cI (n) wt gw)) 31 (cI (n2) v2 gt)) 32 (cI (n2) w2 gtw))) H locs := hH
  have hcv1 : (cI (n) v gv) = (cI (0) v2 (cI (n) v gv)) := by exact cI_zero _ _
  rw [hcv1] at hH
  have hH : zH s0 s1 G as0 (mW ad G (va_up (va_up (va_up (va_up F 5 ((n2 : Int))) 6 ((b : Int))) 13 (((frs b n v n2 v2 : Nat) : Int))) 33 ((n2 : Int))) (va_up (va_up (va_up (va_up Ar 3 (cI (0) v2 (cI (n) v gv))) 4 (cI (n) wt gw)) 31 (cI (n2) v2 gt)) 32 (cI (n2) w2 gtw))) H locs := hH
  have hcv2 : (cI (n) wt gw) = (cI (0) w2 (cI (n) wt gw)) := by exact cI_zero _ _
  rw [hcv2] at hH
  have hH : zH s0 s1 G as0 (mW ad G (va_up (va_up (va_up (va_up F 5 ((n2 : Int))) 6 ((b : Int))) 13 (((frs b n v n2 v2 : Nat) : Int))) 33 ((n2 : Int))) (va_up (va_up (va_up (va_up Ar 3 (cI (0) v2 (cI (n) v gv))) 4 (cI (0) w2 (cI (n) wt gw))) 31 (cI (n2) v2 gt)) 32 (cI (n2) w2 gtw))) H locs := hH
  refine z_iconst hC 16 dX7_becomes_16 ?_
  refine z_istore_n (lv' := [(1, .int (iZ (0))), (0, .ref (ad 0))]) hC 17 hl dX7_becomes_17 rfl (by decide) rfl (fun ls hl => ?_)
  have L18 : ∀ (N_ : Nat) (p : Nat) (gv1 : Nat → Int) (gw1 : Nat → Int) (H : Heap) (locs : List Loc) (ls : Array Slot), n2 - p < N_ → (p ≤ n2) → zH s0 s1 G as0 (mW ad G (va_up (va_up (va_up (va_up F 5 ((n2 : Int))) 6 ((b : Int))) 13 (((frs b n v n2 v2 : Nat) : Int))) 33 ((n2 : Int))) (va_up (va_up (va_up (va_up Ar 3 (cI (p) v2 gv1)) 4 (cI (p) w2 gw1)) 31 (cI (n2) v2 gt)) 32 (cI (n2) w2 gtw))) H locs → lv_has ls 2 [(0, .ref (ad 0)), (1, .int (iZ ((p : Int))))] → W pg lau ev (zRm 3 0 0 70) s1 mi ar bl me cd H locs 0 0 Q (F0 mi 18 ls []) := by
    intro N_
    induction N_ with
    | zero => intro p gv1 gw1 H locs ls hd; exact absurd hd (Nat.not_lt_zero _)
    | succ N_ ih18 =>
      intro p gv1 gw1 H locs ls hd18 i18_1 hH hl
      refine z_iload_n hC 18 hl dX7_becomes_18 rfl 1 rfl ?_
      refine z_aload_n hC 19 hl dX7_becomes_19 rfl 0 rfl ?_
      refine gmW_5 (x := (n2 : Int)) hC hH 20 rfl dX7_becomes_20 ?_
      refine z_icmp_ge hC 23 56 dX7_becomes_23 rfl (by omega) (by omega) (fun hb3 => ?_) (fun hb3 => ?_)
      · -- 23t
        obtain rfl : n2 = (p) := by omega
        -- R56.1
        exact z_vret hC hH hQ 56 ((gv1, gw1)) dX7_becomes_56 rfl trivial rfl (Nat.le_refl _) (Nat.le_refl _)
      · -- 23f
        refine z_aload_n hC 26 hl dX7_becomes_26 rfl 0 rfl ?_
        refine gmW_3 hC hH 27 dX7_becomes_27 ?_
        refine z_iload_n hC 30 hl dX7_becomes_30 rfl 1 rfl ?_
        refine z_aload_n hC 31 hl dX7_becomes_31 rfl 0 rfl ?_
        refine gmW_31 hC hH 32 dX7_becomes_32 ?_
        refine z_iload_n hC 35 hl dX7_becomes_35 rfl 1 rfl ?_
        refine lmW_31 (x := ((v2 p : Nat) : Int)) hC hH 36 (p) (by omega) (by omega) (cI_lt (by omega)) dX7_becomes_36 ?_
        refine smW_3 (f' := (cI (p + 1) (va_up v2 (p) ((v2 p))) gv1)) hC hH 37 (p) (by omega) (by omega) (by exact cI_push) dX7_becomes_37 (fun H locs hH => ?_)
        have hH : zH s0 s1 G as0 (mW ad G (va_up (va_up (va_up (va_up F 5 ((n2 : Int))) 6 ((b : Int))) 13 (((frs b n v n2 v2 : Nat) : Int))) 33 ((n2 : Int))) (va_up (va_up (va_up (va_up Ar 3 (cI (p + 1) (va_up v2 (p) ((v2 p))) gv1)) 4 (cI (p) w2 gw1)) 31 (cI (n2) v2 gt)) 32 (cI (n2) w2 gtw))) H locs := hH
        refine z_aload_n hC 38 hl dX7_becomes_38 rfl 0 rfl ?_
        refine gmW_4 hC hH 39 dX7_becomes_39 ?_
        refine z_iload_n hC 42 hl dX7_becomes_42 rfl 1 rfl ?_
        refine z_aload_n hC 43 hl dX7_becomes_43 rfl 0 rfl ?_
        refine gmW_32 hC hH 44 dX7_becomes_44 ?_
        refine z_iload_n hC 47 hl dX7_becomes_47 rfl 1 rfl ?_
        refine lmW_32 (x := ((w2 p : Nat) : Int)) hC hH 48 (p) (by omega) (by omega) (cI_lt (by omega)) dX7_becomes_48 ?_
        refine smW_4 (f' := (cI (p + 1) (va_up w2 (p) ((w2 p))) gw1)) hC hH 49 (p) (by omega) (by omega) (by exact cI_push) dX7_becomes_49 (fun H locs hH => ?_)
        have hH : zH s0 s1 G as0 (mW ad G (va_up (va_up (va_up (va_up F 5 ((n2 : Int))) 6 ((b : Int))) 13 (((frs b n v n2 v2 : Nat) : Int))) 33 ((n2 : Int))) (va_up (va_up (va_up (va_up Ar 3 (cI (p + 1) (va_up v2 (p) ((v2 p))) gv1)) 4 (cI (p + 1) (va_up w2 (p) ((w2 p))) gw1)) 31 (cI (n2) v2 gt)) 32 (cI (n2) w2 gtw))) H locs := hH
        have hcv4 : (cI (p + 1) (va_up v2 (p) ((v2 p))) gv1) = (cI (p + 1) v2 gv1) := by rw [va_up_idN]
        rw [hcv4] at hH
        have hH : zH s0 s1 G as0 (mW ad G (va_up (va_up (va_up (va_up F 5 ((n2 : Int))) 6 ((b : Int))) 13 (((frs b n v n2 v2 : Nat) : Int))) 33 ((n2 : Int))) (va_up (va_up (va_up (va_up Ar 3 (cI (p + 1) v2 gv1)) 4 (cI (p + 1) (va_up w2 (p) ((w2 p))) gw1)) 31 (cI (n2) v2 gt)) 32 (cI (n2) w2 gtw))) H locs := hH
        have hcv5 : (cI (p + 1) (va_up w2 (p) ((w2 p))) gw1) = (cI (p + 1) w2 gw1) := by rw [va_up_idN]
        rw [hcv5] at hH
        have hH : zH s0 s1 G as0 (mW ad G (va_up (va_up (va_up (va_up F 5 ((n2 : Int))) 6 ((b : Int))) 13 (((frs b n v n2 v2 : Nat) : Int))) 33 ((n2 : Int))) (va_up (va_up (va_up (va_up Ar 3 (cI (p + 1) v2 gv1)) 4 (cI (p + 1) w2 gw1)) 31 (cI (n2) v2 gt)) 32 (cI (n2) w2 gtw))) H locs := hH
        refine z_iinc (lv' := [(1, .int (iZ ((p : Int) + 1))), (0, .ref (ad 0))]) hC 50 hl dX7_becomes_50 1 rfl (by omega) (by decide) rfl (fun ls hl => ?_)
        refine z_goto hC 53 18 dX7_becomes_53 rfl ?_
        -- J18.2
        exact ih18 (p + 1) gv1 gw1 _ _ _ (by omega) (by first | assumption | omega) hH (z_lv (lv_sub hl [1, 0] rfl) (zcons rfl (zcons (zpeq (by omega)) rfl)))
  -- J18.3
  exact L18 _ 0 (cI (n) v gv) (cI (n) wt gw) _ _ _ (Nat.lt_succ_self _) (by first | assumption | omega) hH (z_lv (lv_sub hl [1, 0] rfl) (zcons rfl (zcons (zpeq (by omega)) rfl)))

set_option maxHeartbeats 4000000 in
set_option maxRecDepth 100000 in
theorem m_X7_copies (lau : Launch) (s0 : State) (G : zG) (sz : Nat) (ad : Nat → Nat) (F : Nat → Int) (Ar : Nat → Nat → Int) (f : Nat) (t : Nat) (pv : Nat → Int) (pw : Nat → Int) (pm : Nat → Int) (hf : f < 12) (ht1 : t < 12) (hft : f ≠ t) : zMet (S := (Nat → Int) × (Nat → Int)) lau yX7_copies cX7_copies 4 (none) 0 0 0 0 s0 G sz [.ref (ad 0), .int (iZ ((f : Int))), .int (iZ ((t : Int)))] (mW ad G F (va_up (va_up (va_up Ar 9 pv) 10 pw) 11 pm)) (fun ((pv2, pw2) : (Nat → Int) × (Nat → Int)) => (none : Option Value)) (fun ((pv2, pw2) : (Nat → Int) × (Nat → Int)) => (CPY pv pv2 f t) ∧ (CPY pw pw2 f t)) (fun ((pv2, pw2) : (Nat → Int) × (Nat → Int)) => (mW ad G F (va_up (va_up (va_up Ar 9 pv2) 10 pw2) 11 (va_up pm t (pm f))))) := by
  refine zMet.of (by decide) (Nat.le_of_ble_eq_true rfl) ?_
  intro pg ev s1 mi ar bl me cd ls Q as0 hC hH hl hQ hsz
  generalize s1.heap = H at hH ⊢
  generalize ([] : List Loc) = locs at hH ⊢
  have hl : lv_has ls 4 [(0, .ref (ad 0)), (1, .int (iZ ((f : Int)))), (2, .int (iZ ((t : Int))))] := hl
  refine z_iconst hC 0 dX7_copies_0 ?_
  refine z_istore_n (lv' := [(3, .int (iZ (0))), (0, .ref (ad 0)), (1, .int (iZ ((f : Int)))), (2, .int (iZ ((t : Int))))]) hC 1 hl dX7_copies_1 rfl (by decide) rfl (fun ls hl => ?_)
  have L2 : ∀ (N_ : Nat) (p : Nat) (pv2 : Nat → Int) (pw2 : Nat → Int) (H : Heap) (locs : List Loc) (ls : Array Slot), 120 - p < N_ → (p ≤ 120) → (CPYl pv pv2 f t p) → (CPYl pw pw2 f t p) → zH s0 s1 G as0 (mW ad G F (va_up (va_up (va_up Ar 9 pv2) 10 pw2) 11 pm)) H locs → lv_has ls 4 [(0, .ref (ad 0)), (1, .int (iZ ((f : Int)))), (2, .int (iZ ((t : Int)))), (3, .int (iZ ((p : Int))))] → W pg lau ev (zRm 0 0 0 0) s1 mi ar bl me cd H locs 0 0 Q (F0 mi 2 ls []) := by
    intro N_
    induction N_ with
    | zero => intro p pv2 pw2 H locs ls hd; exact absurd hd (Nat.not_lt_zero _)
    | succ N_ ih2 =>
      intro p pv2 pw2 H locs ls hd2 i2_1 i1 i2 hH hl
      refine z_iload_n hC 2 hl dX7_copies_2 rfl 3 rfl ?_
      refine z_bipush hC 3 dX7_copies_3 rfl ?_
      refine z_icmp_ge hC 5 58 dX7_copies_5 rfl (by omega) (by omega) (fun hb1 => ?_) (fun hb1 => ?_)
      · -- 5t
        have ep : p = 120 := by omega
        rw [ep] at i1 i2
        refine z_aload_n hC 58 hl dX7_copies_58 rfl 0 rfl ?_
        refine gmW_11 hC hH 59 dX7_copies_59 ?_
        refine z_iload_n hC 62 hl dX7_copies_62 rfl 2 rfl ?_
        refine z_aload_n hC 63 hl dX7_copies_63 rfl 0 rfl ?_
        refine gmW_11 hC hH 64 dX7_copies_64 ?_
        refine z_iload_n hC 67 hl dX7_copies_67 rfl 1 rfl ?_
        refine lmW_11 (x := (pm f)) hC hH 68 (f) (by omega) (by omega) rfl dX7_copies_68 ?_
        refine smW_11 (f' := (va_up pm (t) ((pm f)))) hC hH 69 (t) (by omega) (by omega) rfl dX7_copies_69 (fun H locs hH => ?_)
        have hH : zH s0 s1 G as0 (mW ad G F (va_up (va_up (va_up Ar 9 pv2) 10 pw2) 11 (va_up pm (t) ((pm f))))) H locs := hH
        -- R70.1
        exact z_vret hC hH hQ 70 ((pv2, pw2)) dX7_copies_70 rfl ⟨by first | assumption | omega, by first | assumption | omega⟩ rfl (Nat.le_refl _) (Nat.le_refl _)
      · -- 5f
        refine z_aload_n hC 8 hl dX7_copies_8 rfl 0 rfl ?_
        refine gmW_9 hC hH 9 dX7_copies_9 ?_
        refine z_bipush hC 12 dX7_copies_12 rfl ?_
        refine z_iload_n hC 14 hl dX7_copies_14 rfl 2 rfl ?_
        refine z_imul (e := 120 * (t : Int)) hC 15 dX7_copies_15 rfl ?_
        refine z_iload_n hC 16 hl dX7_copies_16 rfl 3 rfl ?_
        refine z_iadd (e := 120 * (t : Int) + (p : Int)) hC 17 dX7_copies_17 rfl ?_
        refine z_aload_n hC 18 hl dX7_copies_18 rfl 0 rfl ?_
        refine gmW_9 hC hH 19 dX7_copies_19 ?_
        refine z_bipush hC 22 dX7_copies_22 rfl ?_
        refine z_iload_n hC 24 hl dX7_copies_24 rfl 1 rfl ?_
        refine z_imul (e := 120 * (f : Int)) hC 25 dX7_copies_25 rfl ?_
        refine z_iload_n hC 26 hl dX7_copies_26 rfl 3 rfl ?_
        refine z_iadd (e := 120 * (f : Int) + (p : Int)) hC 27 dX7_copies_27 rfl ?_
        refine lmW_9 (x := (pv2 (120 * f + p))) hC hH 28 (120 * f + p) (by omega) (by omega) rfl dX7_copies_28 ?_
        refine smW_9 (f' := (va_up pv2 (120 * t + p) ((pv2 (120 * f + p))))) hC hH 29 (120 * t + p) (by omega) (by omega) rfl dX7_copies_29 (fun H locs hH => ?_)
        have hH : zH s0 s1 G as0 (mW ad G F (va_up (va_up (va_up Ar 9 (va_up pv2 (120 * t + p) ((pv2 (120 * f + p))))) 10 pw2) 11 pm)) H locs := hH
        refine z_aload_n hC 30 hl dX7_copies_30 rfl 0 rfl ?_
        refine gmW_10 hC hH 31 dX7_copies_31 ?_
        refine z_bipush hC 34 dX7_copies_34 rfl ?_
        refine z_iload_n hC 36 hl dX7_copies_36 rfl 2 rfl ?_
        refine z_imul (e := 120 * (t : Int)) hC 37 dX7_copies_37 rfl ?_
        refine z_iload_n hC 38 hl dX7_copies_38 rfl 3 rfl ?_
        refine z_iadd (e := 120 * (t : Int) + (p : Int)) hC 39 dX7_copies_39 rfl ?_
        refine z_aload_n hC 40 hl dX7_copies_40 rfl 0 rfl ?_
        refine gmW_10 hC hH 41 dX7_copies_41 ?_
        refine z_bipush hC 44 dX7_copies_44 rfl ?_
        refine z_iload_n hC 46 hl dX7_copies_46 rfl 1 rfl ?_
        refine z_imul (e := 120 * (f : Int)) hC 47 dX7_copies_47 rfl ?_
        refine z_iload_n hC 48 hl dX7_copies_48 rfl 3 rfl ?_
        refine z_iadd (e := 120 * (f : Int) + (p : Int)) hC 49 dX7_copies_49 rfl ?_
        refine lmW_10 (x := (pw2 (120 * f + p))) hC hH 50 (120 * f + p) (by omega) (by omega) rfl dX7_copies_50 ?_
        refine smW_10 (f' := (va_up pw2 (120 * t + p) ((pw2 (120 * f + p))))) hC hH 51 (120 * t + p) (by omega) (by omega) rfl dX7_copies_51 (fun H locs hH => ?_)
        have hH : zH s0 s1 G as0 (mW ad G F (va_up (va_up (va_up Ar 9 (va_up pv2 (120 * t + p) ((pv2 (120 * f + p))))) 10 (va_up pw2 (120 * t + p) ((pw2 (120 * f + p))))) 11 pm)) H locs := hH
        refine z_iinc (lv' := [(3, .int (iZ ((p : Int) + 1))), (0, .ref (ad 0)), (1, .int (iZ ((f : Int)))), (2, .int (iZ ((t : Int))))]) hC 52 hl dX7_copies_52 3 rfl (by omega) (by decide) rfl (fun ls hl => ?_)
        refine z_goto hC 55 2 dX7_copies_55 rfl ?_
        -- J2.2
        exact ih2 (p + 1) (va_up pv2 (120 * t + p) ((pv2 (120 * f + p)))) (va_up pw2 (120 * t + p) ((pw2 (120 * f + p)))) _ _ _ (by omega) (by first | assumption | omega) (by first | exact CPYl_0 | exact CPYl_s hft (by omega) i1 rfl) (by first | exact CPYl_0 | exact CPYl_s hft (by omega) i2 rfl) hH (z_lv (lv_sub hl [1, 2, 3, 0] rfl) (zcons rfl (zcons rfl (zcons rfl (zcons (zpeq (by omega)) rfl)))))
  -- J2.3
  exact L2 _ 0 pv pw _ _ _ (Nat.lt_succ_self _) (by first | assumption | omega) (by first | exact CPYl_0 | exact CPYl_s hft (by omega) i1 rfl) (by first | exact CPYl_0 | exact CPYl_s hft (by omega) i2 rfl) hH (z_lv (lv_sub hl [1, 2, 3, 0] rfl) (zcons rfl (zcons rfl (zcons rfl (zcons (zpeq (by omega)) rfl)))))
