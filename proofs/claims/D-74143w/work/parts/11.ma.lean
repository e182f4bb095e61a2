/-! methods of ModeDeskModel: 11.ma -/
set_option maxHeartbeats 4000000 in
set_option maxRecDepth 100000 in
theorem m_X7_isValue (lau : Launch) (s0 : State) (G : zG) (sz : Nat) (ad : Nat → Nat) (F : Nat → Int) (Ar : Nat → Nat → Int) (x : Int) (hr_x : -2147483648 ≤ x ∧ x < 2147483648) : zMet (S := Int) lau yX7_isValue cX7_isValue 1 (some .boolean) 0 0 0 0 s0 G sz [.int (iZ (x))] (mW ad G F Ar) (fun (r_ : Int) => some (.int (iZ r_))) (fun (r_ : Int) => ((r_ = 1 ∧ (0 ≤ x ∧ x < 1000)) ∨ (r_ = 0 ∧ ¬ (0 ≤ x ∧ x < 1000)))) (fun (r_ : Int) => (mW ad G F Ar)) := by
  refine zMet.of (by decide) (Nat.le_of_ble_eq_true rfl) ?_
  intro pg ev s1 mi ar bl me cd ls Q as0 hC hH hl hQ hsz
  generalize s1.heap = H at hH ⊢
  generalize ([] : List Loc) = locs at hH ⊢
  have hl : lv_has ls 1 [(0, .int (iZ (x)))] := hl
  refine z_iload_n hC 0 hl dX7_isValue_0 rfl 0 rfl ?_
  refine z_if_lt hC 1 15 dX7_isValue_1 rfl (by omega) (fun hb1 => ?_) (fun hb1 => ?_)
  · -- 1t
    refine z_iconst hC 15 dX7_isValue_15 ?_
    -- R16.1
    exact z_zret hC hH hQ 16 (0) dX7_isValue_16 (by rfl) rfl (Or.inr ⟨rfl, by first | assumption | omega⟩) rfl (Nat.le_refl _) (Nat.le_refl _)
  · -- 1f
    refine z_iload_n hC 4 hl dX7_isValue_4 rfl 0 rfl ?_
    refine z_sipush hC 5 dX7_isValue_5 rfl ?_
    refine z_icmp_ge hC 8 15 dX7_isValue_8 rfl (by omega) (by omega) (fun hb2 => ?_) (fun hb2 => ?_)
    · -- 8t
      refine z_iconst hC 15 dX7_isValue_15 ?_
      -- R16.2
      exact z_zret hC hH hQ 16 (0) dX7_isValue_16 (by rfl) rfl (Or.inr ⟨rfl, by first | assumption | omega⟩) rfl (Nat.le_refl _) (Nat.le_refl _)
    · -- 8f
      refine z_iconst hC 11 dX7_isValue_11 ?_
      refine z_goto hC 12 16 dX7_isValue_12 rfl ?_
      -- R16.3
      exact z_zret hC hH hQ 16 (1) dX7_isValue_16 (by rfl) rfl (Or.inl ⟨rfl, by first | assumption | omega⟩) rfl (Nat.le_refl _) (Nat.le_refl _)

set_option maxHeartbeats 4000000 in
set_option maxRecDepth 100000 in
theorem m_X7_isPlace (lau : Launch) (s0 : State) (G : zG) (sz : Nat) (ad : Nat → Nat) (F : Nat → Int) (Ar : Nat → Nat → Int) (n : Nat) (p : Int) (hr_p : -2147483648 ≤ p ∧ p < 2147483648) (hn : n ≤ 120) : zMet (S := Int) lau yX7_isPlace cX7_isPlace 2 (some .boolean) 0 0 0 0 s0 G sz [.ref (ad 0), .int (iZ (p))] (mW ad G (va_up F 5 ((n : Int))) Ar) (fun (r_ : Int) => some (.int (iZ r_))) (fun (r_ : Int) => ((r_ = 1 ∧ (0 ≤ p ∧ p < (n : Int))) ∨ (r_ = 0 ∧ ¬ (0 ≤ p ∧ p < (n : Int))))) (fun (r_ : Int) => (mW ad G (va_up F 5 ((n : Int))) Ar)) := by
  refine zMet.of (by decide) (Nat.le_of_ble_eq_true rfl) ?_
  intro pg ev s1 mi ar bl me cd ls Q as0 hC hH hl hQ hsz
  generalize s1.heap = H at hH ⊢
  generalize ([] : List Loc) = locs at hH ⊢
  have hl : lv_has ls 2 [(0, .ref (ad 0)), (1, .int (iZ (p)))] := hl
  refine z_iload_n hC 0 hl dX7_isPlace_0 rfl 1 rfl ?_
  refine z_if_lt hC 1 16 dX7_isPlace_1 rfl (by omega) (fun hb1 => ?_) (fun hb1 => ?_)
  · -- 1t
    refine z_iconst hC 16 dX7_isPlace_16 ?_
    -- R17.1
    exact z_zret hC hH hQ 17 (0) dX7_isPlace_17 (by rfl) rfl (Or.inr ⟨rfl, by first | assumption | omega⟩) rfl (Nat.le_refl _) (Nat.le_refl _)
  · -- 1f
    refine z_iload_n hC 4 hl dX7_isPlace_4 rfl 1 rfl ?_
    refine z_aload_n hC 5 hl dX7_isPlace_5 rfl 0 rfl ?_
    refine gmW_5 (x := (n : Int)) hC hH 6 rfl dX7_isPlace_6 ?_
    refine z_icmp_ge hC 9 16 dX7_isPlace_9 rfl (by omega) (by omega) (fun hb2 => ?_) (fun hb2 => ?_)
    · -- 9t
      refine z_iconst hC 16 dX7_isPlace_16 ?_
      -- R17.2
      exact z_zret hC hH hQ 17 (0) dX7_isPlace_17 (by rfl) rfl (Or.inr ⟨rfl, by first | assumption | omega⟩) rfl (Nat.le_refl _) (Nat.le_refl _)
    · -- 9f
      refine z_iconst hC 12 dX7_isPlace_12 ?_
      refine z_goto hC 13 17 dX7_isPlace_13 rfl ?_
      -- R17.3
      exact z_zret hC hH hQ 17 (1) dX7_isPlace_17 (by rfl) rfl (Or.inl ⟨rfl, by first | assumption | omega⟩) rfl (Nat.le_refl _) (Nat.le_refl _)

set_option maxHeartbeats 4000000 in
set_option maxRecDepth 100000 in
theorem m_X7_isSpan (lau : Launch) (s0 : State) (G : zG) (sz : Nat) (ad : Nat → Nat) (F : Nat → Int) (Ar : Nat → Nat → Int) (n : Nat) (l : Int) (r : Int) (hr_l : -2147483648 ≤ l ∧ l < 2147483648) (hr_r : -2147483648 ≤ r ∧ r < 2147483648) (hn : n ≤ 120) : zMet (S := Int) lau yX7_isSpan cX7_isSpan 3 (some .boolean) 0 0 0 0 s0 G sz [.ref (ad 0), .int (iZ (l)), .int (iZ (r))] (mW ad G (va_up F 5 ((n : Int))) Ar) (fun (r_ : Int) => some (.int (iZ r_))) (fun (r_ : Int) => ((r_ = 1 ∧ (0 ≤ l ∧ l ≤ r ∧ r < (n : Int))) ∨ (r_ = 0 ∧ ¬ (0 ≤ l ∧ l ≤ r ∧ r < (n : Int))))) (fun (r_ : Int) => (mW ad G (va_up F 5 ((n : Int))) Ar)) := by
  refine zMet.of (by decide) (Nat.le_of_ble_eq_true rfl) ?_
  intro pg ev s1 mi ar bl me cd ls Q as0 hC hH hl hQ hsz
  generalize s1.heap = H at hH ⊢
  generalize ([] : List Loc) = locs at hH ⊢
  have hl : lv_has ls 3 [(0, .ref (ad 0)), (1, .int (iZ (l))), (2, .int (iZ (r)))] := hl
  refine z_iload_n hC 0 hl dX7_isSpan_0 rfl 1 rfl ?_
  refine z_if_lt hC 1 21 dX7_isSpan_1 rfl (by omega) (fun hb1 => ?_) (fun hb1 => ?_)
  · -- 1t
    refine z_iconst hC 21 dX7_isSpan_21 ?_
    -- R22.1
    exact z_zret hC hH hQ 22 (0) dX7_isSpan_22 (by rfl) rfl (Or.inr ⟨rfl, by first | assumption | omega⟩) rfl (Nat.le_refl _) (Nat.le_refl _)
  · -- 1f
    refine z_iload_n hC 4 hl dX7_isSpan_4 rfl 1 rfl ?_
    refine z_iload_n hC 5 hl dX7_isSpan_5 rfl 2 rfl ?_
    refine z_icmp_gt hC 6 21 dX7_isSpan_6 rfl (by omega) (by omega) (fun hb2 => ?_) (fun hb2 => ?_)
    · -- 6t
      refine z_iconst hC 21 dX7_isSpan_21 ?_
      -- R22.2
      exact z_zret hC hH hQ 22 (0) dX7_isSpan_22 (by rfl) rfl (Or.inr ⟨rfl, by first | assumption | omega⟩) rfl (Nat.le_refl _) (Nat.le_refl _)
    · -- 6f
      refine z_iload_n hC 9 hl dX7_isSpan_9 rfl 2 rfl ?_
      refine z_aload_n hC 10 hl dX7_isSpan_10 rfl 0 rfl ?_
      refine gmW_5 (x := (n : Int)) hC hH 11 rfl dX7_isSpan_11 ?_
      refine z_icmp_ge hC 14 21 dX7_isSpan_14 rfl (by omega) (by omega) (fun hb3 => ?_) (fun hb3 => ?_)
      · -- 14t
        refine z_iconst hC 21 dX7_isSpan_21 ?_
        -- R22.3
        exact z_zret hC hH hQ 22 (0) dX7_isSpan_22 (by rfl) rfl (Or.inr ⟨rfl, by first | assumption | omega⟩) rfl (Nat.le_refl _) (Nat.le_refl _)
      · -- 14f
        refine z_iconst hC 17 dX7_isSpan_17 ?_
        refine z_goto hC 18 22 dX7_isSpan_18 rfl ?_
        -- R22.4
        exact z_zret hC hH hQ 22 (1) dX7_isSpan_22 (by rfl) rfl (Or.inl ⟨rfl, by first | assumption | omega⟩) rfl (Nat.le_refl _) (Nat.le_refl _)

set_option maxHeartbeats 4000000 in
set_option maxRecDepth 100000 in
theorem m_X7_timesIn (lau : Launch) (s0 : State) (G : zG) (sz : Nat) (ad : Nat → Nat) (F : Nat → Int) (Ar : Nat → Nat → Int) (n : Nat) (v : Nat → Nat) (gv : Nat → Int) (l : Nat) (r : Nat) (x : Nat) (hn : n ≤ 120) (hv : ∀ i, i < n → v i < 1000) (hlr : r ≤ n) (hl0 : l ≤ r) (hx : x < 1000) : zMet (S := Unit) lau yX7_timesIn cX7_timesIn 6 (some .int) 0 0 0 0 s0 G sz [.ref (ad 0), .int (iZ ((l : Int))), .int (iZ ((r : Int) - 1)), .int (iZ ((x : Int)))] (mW ad G F (va_up Ar 3 (cI (n) v gv))) (fun (_ : Unit) => some (.int (iZ (((cnt v l r x : Nat) : Int))))) (fun (_ : Unit) => True) (fun (_ : Unit) => (mW ad G F (va_up Ar 3 (cI (n) v gv)))) := by
  refine zMet.of (by decide) (Nat.le_of_ble_eq_true rfl) ?_
  intro pg ev s1 mi ar bl me cd ls Q as0 hC hH hl hQ hsz
  generalize s1.heap = H at hH ⊢
  generalize ([] : List Loc) = locs at hH ⊢
  have hl : lv_has ls 6 [(0, .ref (ad 0)), (1, .int (iZ ((l : Int)))), (2, .int (iZ ((r : Int) - 1))), (3, .int (iZ ((x : Int))))] := hl
  refine z_iconst hC 0 dX7_timesIn_0 ?_
  refine z_istore (lv' := [(4, .int (iZ (0))), (0, .ref (ad 0)), (1, .int (iZ ((l : Int)))), (2, .int (iZ ((r : Int) - 1))), (3, .int (iZ ((x : Int))))]) hC 1 hl dX7_timesIn_1 (by decide) rfl (fun ls hl => ?_)
  refine z_iload_n hC 3 hl dX7_timesIn_3 rfl 2 rfl ?_
  refine z_istore (lv' := [(5, .int (iZ ((l : Int)))), (4, .int (iZ (0))), (0, .ref (ad 0)), (1, .int (iZ ((l : Int)))), (2, .int (iZ ((r : Int) - 1))), (3, .int (iZ ((x : Int))))]) hC 4 hl dX7_timesIn_4 (by decide) rfl (fun ls hl => ?_)
  have L6 : ∀ (N_ : Nat) (p : Nat) (c : Nat) (H : Heap) (locs : List Loc) (ls : Array Slot), r - p < N_ → (l ≤ p) → (p ≤ r) → (c = cnt v l p x) → (c ≤ p) → zH s0 s1 G as0 (mW ad G F (va_up Ar 3 (cI (n) v gv))) H locs → lv_has ls 6 [(0, .ref (ad 0)), (1, .int (iZ ((l : Int)))), (2, .int (iZ ((r : Int) - 1))), (3, .int (iZ ((x : Int)))), (4, .int (iZ ((c : Int)))), (5, .int (iZ ((p : Int))))] → W pg lau ev (zRm 0 0 0 0) s1 mi ar bl me cd H locs 0 0 Q (F0 mi 6 ls []) := by
    intro N_
    induction N_ with
    | zero => intro p c H locs ls hd; exact absurd hd (Nat.not_lt_zero _)
    | succ N_ ih6 =>
      intro p c H locs ls hd6 i6_1 i6_2 ik i6_4 hH hl
      refine z_iload hC 6 hl dX7_timesIn_6 5 rfl ?_
      refine z_iload_n hC 8 hl dX7_timesIn_8 rfl 2 rfl ?_
      refine z_icmp_gt hC 9 39 dX7_timesIn_9 rfl (by omega) (by omega) (fun hb1 => ?_) (fun hb1 => ?_)
      · -- 9t
        obtain rfl : r = (p) := by omega
        refine z_iload hC 39 hl dX7_timesIn_39 4 rfl ?_
        -- R41.1
        refine z_st (st' := [.int (iZ (((cnt v l r x : Nat) : Int)))]) (zcons (zieq (by first | assumption | omega)) rfl) ?_
        exact z_iret hC hH hQ 41 (()) dX7_timesIn_41 rfl trivial rfl (Nat.le_refl _) (Nat.le_refl _)
      · -- 9f
        refine z_iload hC 12 hl dX7_timesIn_12 4 rfl ?_
        refine z_aload_n hC 14 hl dX7_timesIn_14 rfl 0 rfl ?_
        have hc := cnt_succ v x (show l ≤ (p) by omega)
        have hvp := hv (p) (by omega)
        refine gmW_3 hC hH 15 dX7_timesIn_15 ?_
        refine z_iload hC 18 hl dX7_timesIn_18 5 rfl ?_
        refine lmW_3 (x := ((v p : Nat) : Int)) hC hH 20 (p) (by omega) (by omega) (cI_lt (by omega)) dX7_timesIn_20 ?_
        refine z_iload_n hC 21 hl dX7_timesIn_21 rfl 3 rfl ?_
        refine z_icmp_ne hC 22 29 dX7_timesIn_22 rfl (by omega) (by omega) (fun hb2 => ?_) (fun hb2 => ?_)
        · -- 22t
          refine z_iconst hC 29 dX7_timesIn_29 ?_
          refine z_iadd (e := (c : Int)) hC 30 dX7_timesIn_30 (by omega) ?_
          refine z_istore (lv' := [(4, .int (iZ ((c : Int)))), (0, .ref (ad 0)), (1, .int (iZ ((l : Int)))), (2, .int (iZ ((r : Int) - 1))), (3, .int (iZ ((x : Int)))), (5, .int (iZ ((p : Int))))]) hC 31 hl dX7_timesIn_31 (by decide) rfl (fun ls hl => ?_)
          refine z_iinc (lv' := [(5, .int (iZ ((p : Int) + 1))), (4, .int (iZ ((c : Int)))), (0, .ref (ad 0)), (1, .int (iZ ((l : Int)))), (2, .int (iZ ((r : Int) - 1))), (3, .int (iZ ((x : Int))))]) hC 33 hl dX7_timesIn_33 5 rfl (by omega) (by decide) rfl (fun ls hl => ?_)
          refine z_goto hC 36 6 dX7_timesIn_36 rfl ?_
          -- J6.2
          exact ih6 (p + 1) c _ _ _ (by omega) (by first | assumption | omega) (by first | assumption | omega) (by first | (split at hc <;> omega) | exact (cnt_0 v (Nat.le_refl _)).symm) (by first | assumption | omega) hH (z_lv (lv_sub hl [2, 3, 4, 5, 1, 0] rfl) (zcons rfl (zcons rfl (zcons rfl (zcons rfl (zcons rfl (zcons (zpeq (by omega)) rfl)))))))
        · -- 22f
          refine z_iconst hC 25 dX7_timesIn_25 ?_
          refine z_goto hC 26 30 dX7_timesIn_26 rfl ?_
          refine z_iadd (e := (c : Int) + 1) hC 30 dX7_timesIn_30 rfl ?_
          refine z_istore (lv' := [(4, .int (iZ ((c : Int) + 1))), (0, .ref (ad 0)), (1, .int (iZ ((l : Int)))), (2, .int (iZ ((r : Int) - 1))), (3, .int (iZ ((x : Int)))), (5, .int (iZ ((p : Int))))]) hC 31 hl dX7_timesIn_31 (by decide) rfl (fun ls hl => ?_)
          refine z_iinc (lv' := [(5, .int (iZ ((p : Int) + 1))), (4, .int (iZ ((c : Int) + 1))), (0, .ref (ad 0)), (1, .int (iZ ((l : Int)))), (2, .int (iZ ((r : Int) - 1))), (3, .int (iZ ((x : Int))))]) hC 33 hl dX7_timesIn_33 5 rfl (by omega) (by decide) rfl (fun ls hl => ?_)
          refine z_goto hC 36 6 dX7_timesIn_36 rfl ?_
          -- J6.3
          exact ih6 (p + 1) (c + 1) _ _ _ (by omega) (by first | assumption | omega) (by first | assumption | omega) (by first | (split at hc <;> omega) | exact (cnt_0 v (Nat.le_refl _)).symm) (by first | assumption | omega) hH (z_lv (lv_sub hl [2, 3, 4, 5, 1, 0] rfl) (zcons rfl (zcons rfl (zcons rfl (zcons rfl (zcons (zpeq (by omega)) (zcons (zpeq (by omega)) rfl)))))))
  -- J6.4
  exact L6 _ l 0 _ _ _ (Nat.lt_succ_self _) (by first | assumption | omega) (by first | assumption | omega) (by first | (split at hc <;> omega) | exact (cnt_0 v (Nat.le_refl _)).symm) (by first | assumption | omega) hH (z_lv (lv_sub hl [2, 3, 4, 5, 1, 0] rfl) (zcons rfl (zcons rfl (zcons rfl (zcons rfl (zcons (zpeq (by omega)) (zcons rfl rfl)))))))

set_option maxHeartbeats 4000000 in
set_option maxRecDepth 100000 in
theorem m_X7_counts (lau : Launch) (s0 : State) (G : zG) (sz : Nat) (ad : Nat → Nat) (F : Nat → Int) (Ar : Nat → Nat → Int) (n : Nat) (v : Nat → Nat) (gv : Nat → Int) (l : Nat) (r : Nat) (bt : Int) (w : Nat → Nat) (hn : n ≤ 120) (hv : ∀ i, i < n → v i < 1000) (hlr : r ≤ n) (hl0 : l ≤ r) (hr_bt : -2147483648 ≤ bt ∧ bt < 2147483648) (hw : ∀ i, l ≤ i → i < r → ((i : Int) = bt → 1000 ≤ w i) ∧ ((i : Int) ≠ bt → w i = v i)) : zMet (S := (Nat → Nat) × (Nat → Int) × (Nat → Int) × (Nat → Int) × Nat × (Nat → Nat) × (Nat → Int)) lau yX7_counts cX7_counts 6 (none) 0 0 0 0 s0 G sz [.ref (ad 0), .int (iZ ((l : Int))), .int (iZ ((r : Int) - 1)), .int (iZ (bt))] (mW ad G F (va_up Ar 3 (cI (n) v gv))) (fun ((o, go, fo, la, k, u, gu) : (Nat → Nat) × (Nat → Int) × (Nat → Int) × (Nat → Int) × Nat × (Nat → Nat) × (Nat → Int)) => (none : Option Value)) (fun ((o, go, fo, la, k, u, gu) : (Nat → Nat) × (Nat → Int) × (Nat → Int) × (Nat → Int) × Nat × (Nat → Nat) × (Nat → Int)) => (CO w l r o fo la k u)) (fun ((o, go, fo, la, k, u, gu) : (Nat → Nat) × (Nat → Int) × (Nat → Int) × (Nat → Int) × Nat × (Nat → Nat) × (Nat → Int)) => (mW ad G (va_up F 38 ((k : Int))) (va_up (va_up (va_up (va_up (va_up Ar 3 (cI (n) v gv)) 34 (cI (1000) o go)) 35 fo) 36 la) 37 (cI (k) u gu)))) := by
  refine zMet.of (by decide) (Nat.le_of_ble_eq_true rfl) ?_
  intro pg ev s1 mi ar bl me cd ls Q as0 hC hH hl hQ hsz
  generalize s1.heap = H at hH ⊢
  generalize ([] : List Loc) = locs at hH ⊢
  have hl : lv_has ls 6 [(0, .ref (ad 0)), (1, .int (iZ ((l : Int)))), (2, .int (iZ ((r : Int) - 1))), (3, .int (iZ (bt)))] := hl
  refine z_iconst hC 0 dX7_counts_0 ?_
  refine z_istore (lv' := [(4, .int (iZ (0))), (0, .ref (ad 0)), (1, .int (iZ ((l : Int)))), (2, .int (iZ ((r : Int) - 1))), (3, .int (iZ (bt)))]) hC 1 hl dX7_counts_1 (by decide) rfl (fun ls hl => ?_)
  have L3 : ∀ (N_ : Nat) (i : Nat) (a : Nat → Int) (H : Heap) (locs : List Loc) (ls : Array Slot), 1000 - i < N_ → (i ≤ 1000) → (∀ j, j < i → a j = 0) → zH s0 s1 G as0 (mW ad G F (va_up (va_up Ar 3 (cI (n) v gv)) 34 a)) H locs → lv_has ls 6 [(0, .ref (ad 0)), (1, .int (iZ ((l : Int)))), (2, .int (iZ ((r : Int) - 1))), (3, .int (iZ (bt))), (4, .int (iZ ((i : Int))))] → W pg lau ev (zRm 0 0 0 0) s1 mi ar bl me cd H locs 0 0 Q (F0 mi 3 ls []) := by
    intro N_
    induction N_ with
    | zero => intro i a H locs ls hd; exact absurd hd (Nat.not_lt_zero _)
    | succ N_ ih3 =>
      intro i a H locs ls hd3 i3_1 iz hH hl
      refine z_iload hC 3 hl dX7_counts_3 4 rfl ?_
      refine z_sipush hC 5 dX7_counts_5 rfl ?_
      refine z_icmp_ge hC 8 25 dX7_counts_8 rfl (by omega) (by omega) (fun hb1 => ?_) (fun hb1 => ?_)
      · -- 8t
        have hcv2 : a = (cI (1000) (fun _ => 0) a) := by exact cI_self (fun p hp => iz p (by omega))
        rw [hcv2] at hH
        have hH : zH s0 s1 G as0 (mW ad G F (va_up (va_up Ar 3 (cI (n) v gv)) 34 (cI (1000) (fun _ => 0) a))) H locs := hH
        refine z_aload_n hC 25 hl dX7_counts_25 rfl 0 rfl ?_
        refine z_iconst hC 26 dX7_counts_26 ?_
        refine pmW_38 hC hH 27 dX7_counts_27 (fun H locs hH => ?_)
        have hH : zH s0 s1 G as0 (mW ad G (va_up F 38 (0)) (va_up (va_up Ar 3 (cI (n) v gv)) 34 (cI (1000) (fun _ => 0) a))) H locs := hH
        refine z_iload_n hC 30 hl dX7_counts_30 rfl 1 rfl ?_
        have hH : zH s0 s1 G as0 (mW ad G (va_up F 38 (0)) (va_up (va_up (va_up Ar 3 (cI (n) v gv)) 34 (cI (1000) (fun _ => 0) a)) 37 (Ar 37))) H locs := hH
        have hcv3 : (Ar 37) = (cI (0) (fun _ => 0) (Ar 37)) := by exact cI_self (fun p hp => absurd hp (Nat.not_lt_zero _))
        rw [hcv3] at hH
        have hH : zH s0 s1 G as0 (mW ad G (va_up F 38 (0)) (va_up (va_up (va_up Ar 3 (cI (n) v gv)) 34 (cI (1000) (fun _ => 0) a)) 37 (cI (0) (fun _ => 0) (Ar 37)))) H locs := hH
        refine z_istore (lv' := [(4, .int (iZ ((l : Int)))), (0, .ref (ad 0)), (1, .int (iZ ((l : Int)))), (2, .int (iZ ((r : Int) - 1))), (3, .int (iZ (bt)))]) hC 31 hl dX7_counts_31 (by decide) rfl (fun ls hl => ?_)
        have L33 : ∀ (N_ : Nat) (p : Nat) (o : Nat → Nat) (go : Nat → Int) (fo : Nat → Int) (la : Nat → Int) (k : Nat) (u : Nat → Nat) (gu : Nat → Int) (H : Heap) (locs : List Loc) (ls : Array Slot), r - p < N_ → (l ≤ p) → (p ≤ r) → (CO w l p o fo la k u) → zH s0 s1 G as0 (mW ad G (va_up F 38 ((k : Int))) (va_up (va_up (va_up (va_up (va_up Ar 3 (cI (n) v gv)) 34 (cI (1000) o go)) 35 fo) 36 la) 37 (cI (k) u gu))) H locs → lv_has ls 6 [(0, .ref (ad 0)), (1, .int (iZ ((l : Int)))), (2, .int (iZ ((r : Int) - 1))), (3, .int (iZ (bt))), (4, .int (iZ ((p : Int))))] → W pg lau ev (zRm 0 0 0 0) s1 mi ar bl me cd H locs 0 0 Q (F0 mi 33 ls []) := by
          intro N_
          induction N_ with
          | zero => intro p o go fo la k u gu H locs ls hd; exact absurd hd (Nat.not_lt_zero _)
          | succ N_ ih33 =>
            intro p o go fo la k u gu H locs ls hd33 i33_1 i33_2 iCO hH hl
            have hK := iCO.2.2.1
            refine z_iload hC 33 hl dX7_counts_33 4 rfl ?_
            refine z_iload_n hC 35 hl dX7_counts_35 rfl 2 rfl ?_
            refine z_icmp_gt hC 36 123 dX7_counts_36 rfl (by omega) (by omega) (fun hb4 => ?_) (fun hb4 => ?_)
            · -- 36t
              obtain rfl : r = (p) := by omega
              -- R123.1
              exact z_vret hC hH hQ 123 ((o, go, fo, la, k, u, gu)) dX7_counts_123 rfl (by (try dsimp only); first | assumption | omega) rfl (Nat.le_refl _) (Nat.le_refl _)
            · -- 36f
              have hwp := hw (p) (by omega) (by omega)
              have hvp := hv (p) (by omega)
              refine z_iload hC 39 hl dX7_counts_39 4 rfl ?_
              refine z_iload_n hC 41 hl dX7_counts_41 rfl 3 rfl ?_
              refine z_icmp_ne hC 42 48 dX7_counts_42 rfl (by omega) (by omega) (fun hb5 => ?_) (fun hb5 => ?_)
              · -- 42t
                refine z_aload_n hC 48 hl dX7_counts_48 rfl 0 rfl ?_
                refine gmW_3 hC hH 49 dX7_counts_49 ?_
                refine z_iload hC 52 hl dX7_counts_52 4 rfl ?_
                refine lmW_3 (x := ((v p : Nat) : Int)) hC hH 54 (p) (by omega) (by omega) (cI_lt (by omega)) dX7_counts_54 ?_
                refine z_istore (lv' := [(5, .int (iZ (((v p : Nat) : Int)))), (0, .ref (ad 0)), (1, .int (iZ ((l : Int)))), (2, .int (iZ ((r : Int) - 1))), (3, .int (iZ (bt))), (4, .int (iZ ((p : Int))))]) hC 55 hl dX7_counts_55 (by decide) rfl (fun ls hl => ?_)
                refine z_aload_n hC 57 hl dX7_counts_57 rfl 1 rfl ?_
                have ho1 := iCO.1 (v (p)) (by omega)
                have ho2 := cnt_le w l (p) (v (p))
                refine gmW_34 hC hH 58 dX7_counts_58 ?_
                refine z_iload hC 61 hl dX7_counts_61 0 rfl ?_
                refine lmW_34 (x := ((o (v p) : Nat) : Int)) hC hH 63 ((v p)) (by omega) (by omega) (cI_lt (by omega)) dX7_counts_63 ?_
                refine z_if_ne hC 64 97 dX7_counts_64 rfl (by omega) (fun hb6 => ?_) (fun hb6 => ?_)
                · -- 64t
                  refine z_aload_n hC 97 hl dX7_counts_97 rfl 1 rfl ?_
                  refine gmW_36 hC hH 98 dX7_counts_98 ?_
                  refine z_iload hC 101 hl dX7_counts_101 0 rfl ?_
                  refine z_iload hC 103 hl dX7_counts_103 5 rfl ?_
                  refine smW_36 (f' := (va_up la ((v p)) ((p : Int)))) hC hH 105 ((v p)) (by omega) (by omega) rfl dX7_counts_105 (fun H locs hH => ?_)
                  have hH : zH s0 s1 G as0 (mW ad G (va_up F 38 ((k : Int))) (va_up (va_up (va_up (va_up (va_up Ar 3 (cI (n) v gv)) 34 (cI (1000) o go)) 35 fo) 36 (va_up la ((v p)) ((p : Int)))) 37 (cI (k) u gu))) H locs := hH
                  refine z_aload_n hC 106 hl dX7_counts_106 rfl 1 rfl ?_
                  refine gmW_34 hC hH 107 dX7_counts_107 ?_
                  refine z_iload hC 110 hl dX7_counts_110 0 rfl ?_
                  refine z_dup2 hC 112 dX7_counts_112 rfl rfl ?_
                  refine lmW_34 (x := ((o (v p) : Nat) : Int)) hC hH 113 ((v p)) (by omega) (by omega) (cI_lt (by omega)) dX7_counts_113 ?_
                  refine z_iconst hC 114 dX7_counts_114 ?_
                  refine z_iadd (e := ((o (v p) : Nat) : Int) + 1) hC 115 dX7_counts_115 rfl ?_
                  refine smW_34 (f' := (cI (1000) (va_up o ((v p)) ((o (v p)) + 1)) go)) hC hH 116 ((v p)) (by omega) (by omega) (by rw [show (((o (v p) : Nat) : Int) + 1 : Int) = (((o (v p)) + 1 : Nat) : Int) from by omega]; exact cI_up (by omega)) dX7_counts_116 (fun H locs hH => ?_)
                  have hH : zH s0 s1 G as0 (mW ad G (va_up F 38 ((k : Int))) (va_up (va_up (va_up (va_up (va_up Ar 3 (cI (n) v gv)) 34 (cI (1000) (va_up o ((v p)) ((o (v p)) + 1)) go)) 35 fo) 36 (va_up la ((v p)) ((p : Int)))) 37 (cI (k) u gu))) H locs := hH
                  refine z_iinc (lv' := [(4, .int (iZ ((p : Int) + 1))), (5, .int (iZ (((v p : Nat) : Int)))), (0, .ref (ad 0)), (1, .int (iZ ((l : Int)))), (2, .int (iZ ((r : Int) - 1))), (3, .int (iZ (bt)))]) hC 117 hl dX7_counts_117 5 rfl (by omega) (by decide) rfl (fun ls hl => ?_)
                  refine z_goto hC 120 33 dX7_counts_120 rfl ?_
                  -- J33.2
                  exact ih33 (p + 1) (va_up o ((v p)) ((o (v p)) + 1)) go fo (va_up la ((v p)) ((p : Int))) k u gu _ _ _ (by omega) (by first | assumption | omega) (by first | assumption | omega) (by first | exact CO_0 (Nat.le_refl _) (fun _ _ => rfl) | exact CO_new (by omega) iCO (hwp.2 (by omega)) hvp (by omega) | exact CO_old (by omega) iCO (hwp.2 (by omega)) hvp (by omega) | exact CO_skip (by omega) iCO (hwp.1 (by omega))) hH (z_lv (lv_sub hl [2, 3, 4, 5, 0] rfl) (zcons rfl (zcons rfl (zcons rfl (zcons rfl (zcons (zpeq (by omega)) rfl))))))
                · -- 64f
                  refine z_aload_n hC 67 hl dX7_counts_67 rfl 1 rfl ?_
                  refine gmW_35 hC hH 68 dX7_counts_68 ?_
                  refine z_iload hC 71 hl dX7_counts_71 0 rfl ?_
                  refine z_iload hC 73 hl dX7_counts_73 5 rfl ?_
                  refine smW_35 (f' := (va_up fo ((v p)) ((p : Int)))) hC hH 75 ((v p)) (by omega) (by omega) rfl dX7_counts_75 (fun H locs hH => ?_)
                  have hH : zH s0 s1 G as0 (mW ad G (va_up F 38 ((k : Int))) (va_up (va_up (va_up (va_up (va_up Ar 3 (cI (n) v gv)) 34 (cI (1000) o go)) 35 (va_up fo ((v p)) ((p : Int)))) 36 la) 37 (cI (k) u gu))) H locs := hH
                  refine z_aload_n hC 76 hl dX7_counts_76 rfl 1 rfl ?_
                  refine gmW_37 hC hH 77 dX7_counts_77 ?_
                  refine z_aload_n hC 80 hl dX7_counts_80 rfl 1 rfl ?_
                  refine gmW_38 (x := (k : Int)) hC hH 81 rfl dX7_counts_81 ?_
                  refine z_iload hC 84 hl dX7_counts_84 0 rfl ?_
                  refine smW_37 (f' := (cI (k + 1) (va_up u (k) ((v p))) gu)) hC hH 86 (k) (by omega) (by omega) (by exact cI_push) dX7_counts_86 (fun H locs hH => ?_)
                  have hH : zH s0 s1 G as0 (mW ad G (va_up F 38 ((k : Int))) (va_up (va_up (va_up (va_up (va_up Ar 3 (cI (n) v gv)) 34 (cI (1000) o go)) 35 (va_up fo ((v p)) ((p : Int)))) 36 la) 37 (cI (k + 1) (va_up u (k) ((v p))) gu))) H locs := hH
                  refine z_aload_n hC 87 hl dX7_counts_87 rfl 1 rfl ?_
                  refine z_dup hC 88 dX7_counts_88 rfl ?_
                  refine gmW_38 (x := (k : Int)) hC hH 89 rfl dX7_counts_89 ?_
                  refine z_iconst hC 92 dX7_counts_92 ?_
                  refine z_iadd (e := (k : Int) + 1) hC 93 dX7_counts_93 rfl ?_
                  refine pmW_38 hC hH 94 dX7_counts_94 (fun H locs hH => ?_)
                  have hH : zH s0 s1 G as0 (mW ad G (va_up F 38 ((k : Int) + 1)) (va_up (va_up (va_up (va_up (va_up Ar 3 (cI (n) v gv)) 34 (cI (1000) o go)) 35 (va_up fo ((v p)) ((p : Int)))) 36 la) 37 (cI (k + 1) (va_up u (k) ((v p))) gu))) H locs := hH
                  refine z_aload_n hC 97 hl dX7_counts_97 rfl 1 rfl ?_
                  refine gmW_36 hC hH 98 dX7_counts_98 ?_
                  refine z_iload hC 101 hl dX7_counts_101 0 rfl ?_
                  refine z_iload hC 103 hl dX7_counts_103 5 rfl ?_
                  refine smW_36 (f' := (va_up la ((v p)) ((p : Int)))) hC hH 105 ((v p)) (by omega) (by omega) rfl dX7_counts_105 (fun H locs hH => ?_)
                  have hH : zH s0 s1 G as0 (mW ad G (va_up F 38 ((k : Int) + 1)) (va_up (va_up (va_up (va_up (va_up Ar 3 (cI (n) v gv)) 34 (cI (1000) o go)) 35 (va_up fo ((v p)) ((p : Int)))) 36 (va_up la ((v p)) ((p : Int)))) 37 (cI (k + 1) (va_up u (k) ((v p))) gu))) H locs := hH
                  refine z_aload_n hC 106 hl dX7_counts_106 rfl 1 rfl ?_
                  refine gmW_34 hC hH 107 dX7_counts_107 ?_
                  refine z_iload hC 110 hl dX7_counts_110 0 rfl ?_
                  refine z_dup2 hC 112 dX7_counts_112 rfl rfl ?_
                  refine lmW_34 (x := ((o (v p) : Nat) : Int)) hC hH 113 ((v p)) (by omega) (by omega) (cI_lt (by omega)) dX7_counts_113 ?_
                  refine z_iconst hC 114 dX7_counts_114 ?_
                  refine z_iadd (e := ((o (v p) : Nat) : Int) + 1) hC 115 dX7_counts_115 rfl ?_
                  refine smW_34 (f' := (cI (1000) (va_up o ((v p)) ((o (v p)) + 1)) go)) hC hH 116 ((v p)) (by omega) (by omega) (by rw [show (((o (v p) : Nat) : Int) + 1 : Int) = (((o (v p)) + 1 : Nat) : Int) from by omega]; exact cI_up (by omega)) dX7_counts_116 (fun H locs hH => ?_)
                  have hH : zH s0 s1 G as0 (mW ad G (va_up F 38 ((k : Int) + 1)) (va_up (va_up (va_up (va_up (va_up Ar 3 (cI (n) v gv)) 34 (cI (1000) (va_up o ((v p)) ((o (v p)) + 1)) go)) 35 (va_up fo ((v p)) ((p : Int)))) 36 (va_up la ((v p)) ((p : Int)))) 37 (cI (k + 1) (va_up u (k) ((v p))) gu))) H locs := hH
                  refine z_iinc (lv' := [(4, .int (iZ ((p : Int) + 1))), (5, .int (iZ (((v p : Nat) : Int)))), (0, .ref (ad 0)), (1, .int (iZ ((l : Int)))), (2, .int (iZ ((r : Int) - 1))), (3, .int (iZ (bt)))]) hC 117 hl dX7_counts_117 5 rfl (by omega) (by decide) rfl (fun ls hl => ?_)
                  refine z_goto hC 120 33 dX7_counts_120 rfl ?_
                  -- J33.3
                  exact ih33 (p + 1) (va_up o ((v p)) ((o (v p)) + 1)) go (va_up fo ((v p)) ((p : Int))) (va_up la ((v p)) ((p : Int))) (k + 1) (va_up u (k) ((v p))) gu _ _ _ (by omega) (by first | assumption | omega) (by first | assumption | omega) (by first | exact CO_0 (Nat.le_refl _) (fun _ _ => rfl) | exact CO_new (by omega) iCO (hwp.2 (by omega)) hvp (by omega) | exact CO_old (by omega) iCO (hwp.2 (by omega)) hvp (by omega) | exact CO_skip (by omega) iCO (hwp.1 (by omega))) (by rw [show ((k : Int) + 1 : Int) = ((k + 1 : Nat) : Int) from by omega] at hH; exact hH) (z_lv (lv_sub hl [2, 3, 4, 5, 0] rfl) (zcons rfl (zcons rfl (zcons rfl (zcons rfl (zcons (zpeq (by omega)) rfl))))))
              · -- 42f
                refine z_goto hC 45 117 dX7_counts_45 rfl ?_
                refine z_iinc (lv' := [(4, .int (iZ ((p : Int) + 1))), (0, .ref (ad 0)), (1, .int (iZ ((l : Int)))), (2, .int (iZ ((r : Int) - 1))), (3, .int (iZ (bt)))]) hC 117 hl dX7_counts_117 4 rfl (by omega) (by decide) rfl (fun ls hl => ?_)
                refine z_goto hC 120 33 dX7_counts_120 rfl ?_
                -- J33.4
                exact ih33 (p + 1) o go fo la k u gu _ _ _ (by omega) (by first | assumption | omega) (by first | assumption | omega) (by first | exact CO_0 (Nat.le_refl _) (fun _ _ => rfl) | exact CO_new (by omega) iCO (hwp.2 (by omega)) hvp (by omega) | exact CO_old (by omega) iCO (hwp.2 (by omega)) hvp (by omega) | exact CO_skip (by omega) iCO (hwp.1 (by omega))) hH (z_lv (lv_sub hl [1, 2, 3, 4, 0] rfl) (zcons rfl (zcons rfl (zcons rfl (zcons rfl (zcons (zpeq (by omega)) rfl))))))
        -- J33.5
        exact L33 _ l (fun _ => 0) a (Ar 35) (Ar 36) 0 (fun _ => 0) (Ar 37) _ _ _ (Nat.lt_succ_self _) (by first | assumption | omega) (by first | assumption | omega) (by first | exact CO_0 (Nat.le_refl _) (fun _ _ => rfl) | exact CO_new (by omega) iCO (hwp.2 (by omega)) hvp (by omega) | exact CO_old (by omega) iCO (hwp.2 (by omega)) hvp (by omega) | exact CO_skip (by omega) iCO (hwp.1 (by omega))) (by rw [show (0 : Int) = ((0 : Nat) : Int) from by omega] at hH; exact hH) (lv_sub hl [1, 2, 3, 4, 0] rfl)
      · -- 8f
        refine z_aload_n hC 11 hl dX7_counts_11 rfl 0 rfl ?_
        refine gmW_34 hC hH 12 dX7_counts_12 ?_
        refine z_iload hC 15 hl dX7_counts_15 4 rfl ?_
        refine z_iconst hC 17 dX7_counts_17 ?_
        refine smW_34 (f' := (va_up a (i) (0))) hC hH 18 (i) (by omega) (by omega) rfl dX7_counts_18 (fun H locs hH => ?_)
        have hH : zH s0 s1 G as0 (mW ad G F (va_up (va_up Ar 3 (cI (n) v gv)) 34 (va_up a (i) (0)))) H locs := hH
        refine z_iinc (lv' := [(4, .int (iZ ((i : Int) + 1))), (0, .ref (ad 0)), (1, .int (iZ ((l : Int)))), (2, .int (iZ ((r : Int) - 1))), (3, .int (iZ (bt)))]) hC 19 hl dX7_counts_19 4 rfl (by omega) (by decide) rfl (fun ls hl => ?_)
        refine z_goto hC 22 3 dX7_counts_22 rfl ?_
        -- J3.6
        exact ih3 (i + 1) (va_up a (i) (0)) _ _ _ (by omega) (by first | assumption | omega) (by first | (intro j hj; omega) | exact z0_up iz) hH (z_lv (lv_sub hl [1, 2, 3, 4, 0] rfl) (zcons rfl (zcons rfl (zcons rfl (zcons rfl (zcons (zpeq (by omega)) rfl))))))
  -- J3.7
  exact L3 _ 0 (Ar 34) _ _ _ (Nat.lt_succ_self _) (by first | assumption | omega) (by first | (intro j hj; omega) | exact z0_up iz) hH (z_lv (lv_sub hl [1, 2, 3, 4, 0] rfl) (zcons rfl (zcons rfl (zcons rfl (zcons rfl (zcons (zpeq (by omega)) rfl))))))

set_option maxHeartbeats 4000000 in
set_option maxRecDepth 100000 in
theorem m_X7_isAhead (lau : Launch) (s0 : State) (G : zG) (sz : Nat) (ad : Nat → Nat) (F : Nat → Int) (Ar : Nat → Nat → Int) (w : Nat → Nat) (wl : Nat) (wr : Nat) (o : Nat → Nat) (go : Nat → Int) (fo : Nat → Int) (la : Nat → Int) (k : Nat) (u : Nat → Nat) (gu : Nat → Int) (x : Nat) (y : Nat) (t : Nat) (hCO : CO w wl wr o fo la k u) (hwr : wr ≤ 120) (hx : x < 1000) (hy : y < 1000) (px : 0 < cnt w wl wr x) (py : 0 < cnt w wl wr y) (ht : t < 4) : zMet (S := Int) lau yX7_isAhead cX7_isAhead 4 (some .boolean) 0 0 0 0 s0 G sz [.ref (ad 0), .int (iZ ((x : Int))), .int (iZ ((y : Int))), .int (iZ ((t : Int)))] (mW ad G (va_up F 38 ((k : Int))) (va_up (va_up (va_up (va_up Ar 34 (cI (1000) o go)) 35 fo) 36 la) 37 (cI (k) u gu))) (fun (r_ : Int) => some (.int (iZ r_))) (fun (r_ : Int) => ((r_ = 1 ∧ (ahd w wl wr t x y)) ∨ (r_ = 0 ∧ ¬ (ahd w wl wr t x y)))) (fun (r_ : Int) => (mW ad G (va_up F 38 ((k : Int))) (va_up (va_up (va_up (va_up Ar 34 (cI (1000) o go)) 35 fo) 36 la) 37 (cI (k) u gu)))) := by
  refine zMet.of (by decide) (Nat.le_of_ble_eq_true rfl) ?_
  intro pg ev s1 mi ar bl me cd ls Q as0 hC hH hl hQ hsz
  generalize s1.heap = H at hH ⊢
  generalize ([] : List Loc) = locs at hH ⊢
  have hl : lv_has ls 4 [(0, .ref (ad 0)), (1, .int (iZ ((x : Int)))), (2, .int (iZ ((y : Int)))), (3, .int (iZ ((t : Int))))] := hl
  have ho_x := hCO.1 x (by omega)
  have hc_x := cnt_le w wl wr x
  have hf_x := hCO.2.1 x (by omega) px
  have hfs_x := fsP_spec px
  have hls_x := lsP_spec px
  have ho_y := hCO.1 y (by omega)
  have hc_y := cnt_le w wl wr y
  have hf_y := hCO.2.1 y (by omega) py
  have hfs_y := fsP_spec py
  have hls_y := lsP_spec py
  refine z_aload_n hC 0 hl dX7_isAhead_0 rfl 0 rfl ?_
  refine gmW_34 hC hH 1 dX7_isAhead_1 ?_
  refine z_iload_n hC 4 hl dX7_isAhead_4 rfl 1 rfl ?_
  refine lmW_34 (x := ((o x : Nat) : Int)) hC hH 5 (x) (by omega) (by omega) (cI_lt (by omega)) dX7_isAhead_5 ?_
  refine z_aload_n hC 6 hl dX7_isAhead_6 rfl 0 rfl ?_
  refine gmW_34 hC hH 7 dX7_isAhead_7 ?_
  refine z_iload_n hC 10 hl dX7_isAhead_10 rfl 2 rfl ?_
  refine lmW_34 (x := ((o y : Nat) : Int)) hC hH 11 (y) (by omega) (by omega) (cI_lt (by omega)) dX7_isAhead_11 ?_
  refine z_icmp_eq hC 12 36 dX7_isAhead_12 rfl (by omega) (by omega) (fun hb1 => ?_) (fun hb1 => ?_)
  · -- 12t
    refine z_iload_n hC 36 hl dX7_isAhead_36 rfl 3 rfl ?_
    rcases (show ((t : Int) < 0 ∨ 2 < (t : Int)) ∨ (t : Int) = 0 ∨ (t : Int) = 1 ∨ (t : Int) = 2 from by omega) with hs2 | hs2 | hs2 | hs2
    · -- 37:default
      refine z_tsw_out hC 37 117 dX7_isAhead_37 (by omega) hs2 rfl ?_
      refine z_iload_n hC 117 hl dX7_isAhead_117 rfl 1 rfl ?_
      refine z_iload_n hC 118 hl dX7_isAhead_118 rfl 2 rfl ?_
      refine z_icmp_le hC 119 126 dX7_isAhead_119 rfl (by omega) (by omega) (fun hb3 => ?_) (fun hb3 => ?_)
      · -- 119t
        refine z_iconst hC 126 dX7_isAhead_126 ?_
        -- R127.1
        exact z_zret hC hH hQ 127 (0) dX7_isAhead_127 (by rfl) rfl (Or.inr ⟨rfl, by (rw [CO_ahd hCO hx hy px py]; (repeat' split) <;> omega)⟩) rfl (Nat.le_refl _) (Nat.le_refl _)
      · -- 119f
        refine z_iconst hC 122 dX7_isAhead_122 ?_
        refine z_goto hC 123 127 dX7_isAhead_123 rfl ?_
        -- R127.2
        exact z_zret hC hH hQ 127 (1) dX7_isAhead_127 (by rfl) rfl (Or.inl ⟨rfl, by (rw [CO_ahd hCO hx hy px py]; (repeat' split) <;> omega)⟩) rfl (Nat.le_refl _) (Nat.le_refl _)
    · -- 37:0
      refine z_tsw_in hC 37 64 dX7_isAhead_37 (by omega) hs2 (by decide) (by decide) rfl rfl ?_
      refine z_aload_n hC 64 hl dX7_isAhead_64 rfl 0 rfl ?_
      refine gmW_35 hC hH 65 dX7_isAhead_65 ?_
      refine z_iload_n hC 68 hl dX7_isAhead_68 rfl 1 rfl ?_
      refine lmW_35 (x := (fo x)) hC hH 69 (x) (by omega) (by omega) rfl dX7_isAhead_69 ?_
      refine z_aload_n hC 70 hl dX7_isAhead_70 rfl 0 rfl ?_
      refine gmW_35 hC hH 71 dX7_isAhead_71 ?_
      refine z_iload_n hC 74 hl dX7_isAhead_74 rfl 2 rfl ?_
      refine lmW_35 (x := (fo y)) hC hH 75 (y) (by omega) (by omega) rfl dX7_isAhead_75 ?_
      refine z_icmp_ge hC 76 83 dX7_isAhead_76 rfl (by omega) (by omega) (fun hb4 => ?_) (fun hb4 => ?_)
      · -- 76t
        refine z_iconst hC 83 dX7_isAhead_83 ?_
        -- R84.3
        exact z_zret hC hH hQ 84 (0) dX7_isAhead_84 (by rfl) rfl (Or.inr ⟨rfl, by (rw [CO_ahd hCO hx hy px py]; (repeat' split) <;> omega)⟩) rfl (Nat.le_refl _) (Nat.le_refl _)
      · -- 76f
        refine z_iconst hC 79 dX7_isAhead_79 ?_
        refine z_goto hC 80 84 dX7_isAhead_80 rfl ?_
        -- R84.4
        exact z_zret hC hH hQ 84 (1) dX7_isAhead_84 (by rfl) rfl (Or.inl ⟨rfl, by (rw [CO_ahd hCO hx hy px py]; (repeat' split) <;> omega)⟩) rfl (Nat.le_refl _) (Nat.le_refl _)
    · -- 37:1
      refine z_tsw_in hC 37 85 dX7_isAhead_37 (by omega) hs2 (by decide) (by decide) rfl rfl ?_
      refine z_aload_n hC 85 hl dX7_isAhead_85 rfl 0 rfl ?_
      refine gmW_36 hC hH 86 dX7_isAhead_86 ?_
      refine z_iload_n hC 89 hl dX7_isAhead_89 rfl 1 rfl ?_
      refine lmW_36 (x := (la x)) hC hH 90 (x) (by omega) (by omega) rfl dX7_isAhead_90 ?_
      refine z_aload_n hC 91 hl dX7_isAhead_91 rfl 0 rfl ?_
      refine gmW_36 hC hH 92 dX7_isAhead_92 ?_
      refine z_iload_n hC 95 hl dX7_isAhead_95 rfl 2 rfl ?_
      refine lmW_36 (x := (la y)) hC hH 96 (y) (by omega) (by omega) rfl dX7_isAhead_96 ?_
      refine z_icmp_le hC 97 104 dX7_isAhead_97 rfl (by omega) (by omega) (fun hb5 => ?_) (fun hb5 => ?_)
      · -- 97t
        refine z_iconst hC 104 dX7_isAhead_104 ?_
        -- R105.5
        exact z_zret hC hH hQ 105 (0) dX7_isAhead_105 (by rfl) rfl (Or.inr ⟨rfl, by (rw [CO_ahd hCO hx hy px py]; (repeat' split) <;> omega)⟩) rfl (Nat.le_refl _) (Nat.le_refl _)
      · -- 97f
        refine z_iconst hC 100 dX7_isAhead_100 ?_
        refine z_goto hC 101 105 dX7_isAhead_101 rfl ?_
        -- R105.6
        exact z_zret hC hH hQ 105 (1) dX7_isAhead_105 (by rfl) rfl (Or.inl ⟨rfl, by (rw [CO_ahd hCO hx hy px py]; (repeat' split) <;> omega)⟩) rfl (Nat.le_refl _) (Nat.le_refl _)
    · -- 37:2
      refine z_tsw_in hC 37 106 dX7_isAhead_37 (by omega) hs2 (by decide) (by decide) rfl rfl ?_
      refine z_iload_n hC 106 hl dX7_isAhead_106 rfl 1 rfl ?_
      refine z_iload_n hC 107 hl dX7_isAhead_107 rfl 2 rfl ?_
      refine z_icmp_ge hC 108 115 dX7_isAhead_108 rfl (by omega) (by omega) (fun hb6 => ?_) (fun hb6 => ?_)
      · -- 108t
        refine z_iconst hC 115 dX7_isAhead_115 ?_
        -- R116.7
        exact z_zret hC hH hQ 116 (0) dX7_isAhead_116 (by rfl) rfl (Or.inr ⟨rfl, by (rw [CO_ahd hCO hx hy px py]; (repeat' split) <;> omega)⟩) rfl (Nat.le_refl _) (Nat.le_refl _)
      · -- 108f
        refine z_iconst hC 111 dX7_isAhead_111 ?_
        refine z_goto hC 112 116 dX7_isAhead_112 rfl ?_
        -- R116.8
        exact z_zret hC hH hQ 116 (1) dX7_isAhead_116 (by rfl) rfl (Or.inl ⟨rfl, by (rw [CO_ahd hCO hx hy px py]; (repeat' split) <;> omega)⟩) rfl (Nat.le_refl _) (Nat.le_refl _)
  · -- 12f
    refine z_aload_n hC 15 hl dX7_isAhead_15 rfl 0 rfl ?_
    refine gmW_34 hC hH 16 dX7_isAhead_16 ?_
    refine z_iload_n hC 19 hl dX7_isAhead_19 rfl 1 rfl ?_
    refine lmW_34 (x := ((o x : Nat) : Int)) hC hH 20 (x) (by omega) (by omega) (cI_lt (by omega)) dX7_isAhead_20 ?_
    refine z_aload_n hC 21 hl dX7_isAhead_21 rfl 0 rfl ?_
    refine gmW_34 hC hH 22 dX7_isAhead_22 ?_
    refine z_iload_n hC 25 hl dX7_isAhead_25 rfl 2 rfl ?_
    refine lmW_34 (x := ((o y : Nat) : Int)) hC hH 26 (y) (by omega) (by omega) (cI_lt (by omega)) dX7_isAhead_26 ?_
    refine z_icmp_le hC 27 34 dX7_isAhead_27 rfl (by omega) (by omega) (fun hb7 => ?_) (fun hb7 => ?_)
    · -- 27t
      refine z_iconst hC 34 dX7_isAhead_34 ?_
      -- R35.9
      exact z_zret hC hH hQ 35 (0) dX7_isAhead_35 (by rfl) rfl (Or.inr ⟨rfl, by (rw [CO_ahd hCO hx hy px py]; (repeat' split) <;> omega)⟩) rfl (Nat.le_refl _) (Nat.le_refl _)
    · -- 27f
      refine z_iconst hC 30 dX7_isAhead_30 ?_
      refine z_goto hC 31 35 dX7_isAhead_31 rfl ?_
      -- R35.10
      exact z_zret hC hH hQ 35 (1) dX7_isAhead_35 (by rfl) rfl (Or.inl ⟨rfl, by (rw [CO_ahd hCO hx hy px py]; (repeat' split) <;> omega)⟩) rfl (Nat.le_refl _) (Nat.le_refl _)

set_option maxHeartbeats 4000000 in
set_option maxRecDepth 100000 in
theorem m_X7_rankOf (lau : Launch) (s0 : State) (G : zG) (sz : Nat) (ad : Nat → Nat) (F : Nat → Int) (Ar : Nat → Nat → Int) (w : Nat → Nat) (wl : Nat) (wr : Nat) (o : Nat → Nat) (go : Nat → Int) (fo : Nat → Int) (la : Nat → Int) (k : Nat) (u : Nat → Nat) (gu : Nat → Int) (x : Nat) (t : Nat) (hCO : CO w wl wr o fo la k u) (hwr : wr ≤ 120) (hx : x < 1000) (px : 0 < cnt w wl wr x) (ht : t < 4) : zMet (S := Unit) lau yX7_rankOf cX7_rankOf 5 (some .int) 1 23 0 0 s0 G sz [.ref (ad 0), .int (iZ ((x : Int))), .int (iZ ((t : Int)))] (mW ad G (va_up F 38 ((k : Int))) (va_up (va_up (va_up (va_up Ar 34 (cI (1000) o go)) 35 fo) 36 la) 37 (cI (k) u gu))) (fun (_ : Unit) => some (.int (iZ (((rk w wl wr t x : Nat) : Int))))) (fun (_ : Unit) => (rk w wl wr t x ≤ 1000)) (fun (_ : Unit) => (mW ad G (va_up F 38 ((k : Int))) (va_up (va_up (va_up (va_up Ar 34 (cI (1000) o go)) 35 fo) 36 la) 37 (cI (k) u gu)))) := by
  refine zMet.of (by decide) (Nat.le_of_ble_eq_true rfl) ?_
  intro pg ev s1 mi ar bl me cd ls Q as0 hC hH hl hQ hsz
  generalize s1.heap = H at hH ⊢
  generalize ([] : List Loc) = locs at hH ⊢
  have hl : lv_has ls 5 [(0, .ref (ad 0)), (1, .int (iZ ((x : Int)))), (2, .int (iZ ((t : Int))))] := hl
  have hK := hCO.2.2.1
  refine z_iconst hC 0 dX7_rankOf_0 ?_
  refine z_istore_n (lv' := [(3, .int (iZ (0))), (0, .ref (ad 0)), (1, .int (iZ ((x : Int)))), (2, .int (iZ ((t : Int))))]) hC 1 hl dX7_rankOf_1 rfl (by decide) rfl (fun ls hl => ?_)
  refine z_iconst hC 2 dX7_rankOf_2 ?_
  refine z_istore (lv' := [(4, .int (iZ (0))), (3, .int (iZ (0))), (0, .ref (ad 0)), (1, .int (iZ ((x : Int)))), (2, .int (iZ ((t : Int))))]) hC 3 hl dX7_rankOf_3 (by decide) rfl (fun ls hl => ?_)
  have L5 : ∀ (N_ : Nat) (i : Nat) (c : Nat) (H : Heap) (locs : List Loc) (ls : Array Slot), k - i < N_ → (i ≤ k) → (c ≤ i) → (c = cB (fun j => ahd w wl wr t (u j) x) i) → zH s0 s1 G as0 (mW ad G (va_up F 38 ((k : Int))) (va_up (va_up (va_up (va_up Ar 34 (cI (1000) o go)) 35 fo) 36 la) 37 (cI (k) u gu))) H locs → lv_has ls 5 [(0, .ref (ad 0)), (1, .int (iZ ((x : Int)))), (2, .int (iZ ((t : Int)))), (3, .int (iZ ((c : Int)))), (4, .int (iZ ((i : Int))))] → W pg lau ev (zRm 1 0 0 23) s1 mi ar bl me cd H locs 0 0 Q (F0 mi 5 ls []) := by
    intro N_
    induction N_ with
    | zero => intro i c H locs ls hd; exact absurd hd (Nat.not_lt_zero _)
    | succ N_ ih5 =>
      intro i c H locs ls hd5 i5_1 i5_2 ic hH hl
      refine z_iload hC 5 hl dX7_rankOf_5 4 rfl ?_
      refine z_aload_n hC 7 hl dX7_rankOf_7 rfl 0 rfl ?_
      refine gmW_38 (x := (k : Int)) hC hH 8 rfl dX7_rankOf_8 ?_
      refine z_icmp_ge hC 11 55 dX7_rankOf_11 rfl (by omega) (by omega) (fun hb1 => ?_) (fun hb1 => ?_)
      · -- 11t
        obtain rfl : k = (i) := by omega
        have hrk := EN_rk (t := t) (x := x) hCO.2.2
        refine z_iload_n hC 55 hl dX7_rankOf_55 rfl 3 rfl ?_
        -- R56.1
        refine z_st (st' := [.int (iZ (((rk w wl wr t x : Nat) : Int)))]) (zcons (zieq (by first | assumption | omega)) rfl) ?_
        exact z_iret hC hH hQ 56 (()) dX7_rankOf_56 rfl (by exact cB_le _ _) rfl (Nat.le_refl _) (Nat.le_refl _)
      · -- 11f
        refine z_iload_n hC 14 hl dX7_rankOf_14 rfl 3 rfl ?_
        refine z_aload_n hC 15 hl dX7_rankOf_15 rfl 0 rfl ?_
        have hu := hCO.2.2.2.1 (i) (by omega)
        refine gmW_37 hC hH 16 dX7_rankOf_16 ?_
        refine z_iload hC 19 hl dX7_rankOf_19 4 rfl ?_
        refine lmW_37 (x := ((u i : Nat) : Int)) hC hH 21 (i) (by omega) (by omega) (cI_lt (by omega)) dX7_rankOf_21 ?_
        refine z_iload_n hC 22 hl dX7_rankOf_22 rfl 1 rfl ?_
        refine z_icmp_eq hC 23 46 dX7_rankOf_23 rfl (by omega) (by omega) (fun hb2 => ?_) (fun hb2 => ?_)
        · -- 23t
          refine z_iconst hC 46 dX7_rankOf_46 ?_
          refine z_iadd (e := (c : Int)) hC 47 dX7_rankOf_47 (by omega) ?_
          refine z_istore_n (lv' := [(3, .int (iZ ((c : Int)))), (0, .ref (ad 0)), (1, .int (iZ ((x : Int)))), (2, .int (iZ ((t : Int)))), (4, .int (iZ ((i : Int))))]) hC 48 hl dX7_rankOf_48 rfl (by decide) rfl (fun ls hl => ?_)
          refine z_iinc (lv' := [(4, .int (iZ ((i : Int) + 1))), (3, .int (iZ ((c : Int)))), (0, .ref (ad 0)), (1, .int (iZ ((x : Int)))), (2, .int (iZ ((t : Int))))]) hC 49 hl dX7_rankOf_49 4 rfl (by omega) (by decide) rfl (fun ls hl => ?_)
          refine z_goto hC 52 5 dX7_rankOf_52 rfl ?_
          -- J5.2
          exact ih5 (i + 1) c _ _ _ (by omega) (by first | assumption | omega) (by first | assumption | omega) (by first | rfl | exact cB_it (by assumption) ic | exact cB_if (by assumption) ic | exact cB_if (by rw [show u i = x by omega]; exact ahd_irr) ic) hH (z_lv (lv_sub hl [2, 3, 4, 1, 0] rfl) (zcons rfl (zcons rfl (zcons rfl (zcons rfl (zcons (zpeq (by omega)) rfl))))))
        · -- 23f
          refine z_aload_n hC 26 hl dX7_rankOf_26 rfl 0 rfl ?_
          refine z_aload_n hC 27 hl dX7_rankOf_27 rfl 0 rfl ?_
          refine gmW_37 hC hH 28 dX7_rankOf_28 ?_
          refine z_iload hC 31 hl dX7_rankOf_31 4 rfl ?_
          refine lmW_37 (x := ((u i : Nat) : Int)) hC hH 33 (i) (by omega) (by omega) (cI_lt (by omega)) dX7_rankOf_33 ?_
          refine z_iload_n hC 34 hl dX7_rankOf_34 rfl 1 rfl ?_
          refine z_iload_n hC 35 hl dX7_rankOf_35 rfl 2 rfl ?_
          refine z_same (z_runV hC hH.2.2 hl.1 hH.1 hH.2.1 3 (As := [.int (iZ (((u i : Nat) : Int))), .int (iZ ((x : Int))), .int (iZ ((t : Int)))]) (rest := [.int (iZ ((c : Int)))]) (m_X7_isAhead lau s0 G _ ad (va_up F 38 ((k : Int))) (va_up (va_up (va_up (va_up Ar 34 (cI (1000) o go)) 35 fo) 36 la) 37 (cI (k) u gu)) w wl wr o go fo la k u gu (u i) x t (by first | assumption | omega) (by first | assumption | omega) (by exact hu.1) (by first | assumption | omega) (by exact hu.2) (by first | assumption | omega) (by first | assumption | omega)) (lw_V q1772 q1774 qs75 q95 q1775) ⟨rfl, by decide, by decide, by decide +kernel⟩ (q0 := 0) (ci := 0) rfl rfl rfl rfl (Nat.le_of_ble_eq_true rfl) ⟨Nat.le_of_ble_eq_true rfl, Nat.le_of_ble_eq_true rfl⟩ ⟨Nat.le_of_ble_eq_true rfl, Nat.le_of_ble_eq_true rfl⟩ dX7_rankOf_36) hH (fun r_36 H locs hpost hH => ?_)
          have hb_36 : (r_36 = 1 ∧ (ahd w wl wr t (u i) x)) ∨ (r_36 = 0 ∧ ¬ (ahd w wl wr t (u i) x)) := hpost
          have hH : zH s0 s1 G as0 (mW ad G (va_up F 38 ((k : Int))) (va_up (va_up (va_up (va_up Ar 34 (cI (1000) o go)) 35 fo) 36 la) 37 (cI (k) u gu))) H locs := hH
          refine z_st (st' := [.int (iZ (r_36)), .int (iZ ((c : Int)))]) rfl ?_
          rcases hb_36 with ⟨rfl, hb_36⟩ | ⟨rfl, hb_36⟩
          · -- 36=1
            refine z_if_eq_f hC 39 46 dX7_rankOf_39 rfl (by omega) (by omega) ?_
            refine z_iconst hC 42 dX7_rankOf_42 ?_
            refine z_goto hC 43 47 dX7_rankOf_43 rfl ?_
            refine z_iadd (e := (c : Int) + 1) hC 47 dX7_rankOf_47 rfl ?_
            refine z_istore_n (lv' := [(3, .int (iZ ((c : Int) + 1))), (0, .ref (ad 0)), (1, .int (iZ ((x : Int)))), (2, .int (iZ ((t : Int)))), (4, .int (iZ ((i : Int))))]) hC 48 hl dX7_rankOf_48 rfl (by decide) rfl (fun ls hl => ?_)
            refine z_iinc (lv' := [(4, .int (iZ ((i : Int) + 1))), (3, .int (iZ ((c : Int) + 1))), (0, .ref (ad 0)), (1, .int (iZ ((x : Int)))), (2, .int (iZ ((t : Int))))]) hC 49 hl dX7_rankOf_49 4 rfl (by omega) (by decide) rfl (fun ls hl => ?_)
            refine z_goto hC 52 5 dX7_rankOf_52 rfl ?_
            -- J5.3
            exact ih5 (i + 1) (c + 1) _ _ _ (by omega) (by first | assumption | omega) (by first | assumption | omega) (by first | rfl | exact cB_it (by assumption) ic | exact cB_if (by assumption) ic | exact cB_if (by rw [show u i = x by omega]; exact ahd_irr) ic) hH (z_lv (lv_sub hl [2, 3, 4, 1, 0] rfl) (zcons rfl (zcons rfl (zcons rfl (zcons (zpeq (by omega)) (zcons (zpeq (by omega)) rfl))))))
          · -- 36=0
            refine z_if_eq_t hC 39 46 dX7_rankOf_39 rfl (by omega) (by omega) ?_
            refine z_iconst hC 46 dX7_rankOf_46 ?_
            refine z_iadd (e := (c : Int)) hC 47 dX7_rankOf_47 (by omega) ?_
            refine z_istore_n (lv' := [(3, .int (iZ ((c : Int)))), (0, .ref (ad 0)), (1, .int (iZ ((x : Int)))), (2, .int (iZ ((t : Int)))), (4, .int (iZ ((i : Int))))]) hC 48 hl dX7_rankOf_48 rfl (by decide) rfl (fun ls hl => ?_)
            refine z_iinc (lv' := [(4, .int (iZ ((i : Int) + 1))), (3, .int (iZ ((c : Int)))), (0, .ref (ad 0)), (1, .int (iZ ((x : Int)))), (2, .int (iZ ((t : Int))))]) hC 49 hl dX7_rankOf_49 4 rfl (by omega) (by decide) rfl (fun ls hl => ?_)
            refine z_goto hC 52 5 dX7_rankOf_52 rfl ?_
            -- J5.4
            exact ih5 (i + 1) c _ _ _ (by omega) (by first | assumption | omega) (by first | assumption | omega) (by first | rfl | exact cB_it (by assumption) ic | exact cB_if (by assumption) ic | exact cB_if (by rw [show u i = x by omega]; exact ahd_irr) ic) hH (z_lv (lv_sub hl [2, 3, 4, 1, 0] rfl) (zcons rfl (zcons rfl (zcons rfl (zcons rfl (zcons (zpeq (by omega)) rfl))))))
  -- J5.5
  exact L5 _ 0 0 _ _ _ (Nat.lt_succ_self _) (by first | assumption | omega) (by first | assumption | omega) (by first | rfl | exact cB_it (by assumption) ic | exact cB_if (by assumption) ic | exact cB_if (by rw [show u i = x by omega]; exact ahd_irr) ic) hH (z_lv (lv_sub hl [2, 3, 4, 1, 0] rfl) (zcons rfl (zcons rfl (zcons rfl (zcons (zpeq (by omega)) (zcons (zpeq (by omega)) rfl))))))

set_option maxHeartbeats 4000000 in
set_option maxRecDepth 100000 in
theorem m_X7_ofRank (lau : Launch) (s0 : State) (G : zG) (sz : Nat) (ad : Nat → Nat) (F : Nat → Int) (Ar : Nat → Nat → Int) (w : Nat → Nat) (wl : Nat) (wr : Nat) (o : Nat → Nat) (go : Nat → Int) (fo : Nat → Int) (la : Nat → Int) (k : Nat) (u : Nat → Nat) (gu : Nat → Int) (i0 : Int) (t : Nat) (hCO : CO w wl wr o fo la k u) (hwr : wr ≤ 120) (hr_i0 : -2147483648 ≤ i0 ∧ i0 < 2147483648) (ht : t < 4) : zMet (S := Int) lau yX7_ofRank cX7_ofRank 4 (some .int) 2 47 0 0 s0 G sz [.ref (ad 0), .int (iZ (i0)), .int (iZ ((t : Int)))] (mW ad G (va_up F 38 ((k : Int))) (va_up (va_up (va_up (va_up Ar 34 (cI (1000) o go)) 35 fo) 36 la) 37 (cI (k) u gu))) (fun (r : Int) => some (.int (iZ (r)))) (fun (r : Int) => ((0 ≤ i0 ∧ i0 < k ∧ r = (ofR w wl wr t i0.toNat : Int)) ∨ (¬ (0 ≤ i0 ∧ i0 < k) ∧ r = -1))) (fun (r : Int) => (mW ad G (va_up F 38 ((k : Int))) (va_up (va_up (va_up (va_up Ar 34 (cI (1000) o go)) 35 fo) 36 la) 37 (cI (k) u gu)))) := by
  refine zMet.of (by decide) (Nat.le_of_ble_eq_true rfl) ?_
  intro pg ev s1 mi ar bl me cd ls Q as0 hC hH hl hQ hsz
  generalize s1.heap = H at hH ⊢
  generalize ([] : List Loc) = locs at hH ⊢
  have hl : lv_has ls 4 [(0, .ref (ad 0)), (1, .int (iZ (i0))), (2, .int (iZ ((t : Int))))] := hl
  have hK := hCO.2.2.1
  refine z_iconst hC 0 dX7_ofRank_0 ?_
  refine z_istore_n (lv' := [(3, .int (iZ (0))), (0, .ref (ad 0)), (1, .int (iZ (i0))), (2, .int (iZ ((t : Int))))]) hC 1 hl dX7_ofRank_1 rfl (by decide) rfl (fun ls hl => ?_)
  have L2 : ∀ (N_ : Nat) (j : Nat) (H : Heap) (locs : List Loc) (ls : Array Slot), k - j < N_ → (j ≤ k) → (∀ j1, j1 < j → (rk w wl wr t (u j1) : Int) ≠ i0) → zH s0 s1 G as0 (mW ad G (va_up F 38 ((k : Int))) (va_up (va_up (va_up (va_up Ar 34 (cI (1000) o go)) 35 fo) 36 la) 37 (cI (k) u gu))) H locs → lv_has ls 4 [(0, .ref (ad 0)), (1, .int (iZ (i0))), (2, .int (iZ ((t : Int)))), (3, .int (iZ ((j : Int))))] → W pg lau ev (zRm 2 0 0 47) s1 mi ar bl me cd H locs 0 0 Q (F0 mi 2 ls []) := by
    intro N_
    induction N_ with
    | zero => intro j H locs ls hd; exact absurd hd (Nat.not_lt_zero _)
    | succ N_ ih2 =>
      intro j H locs ls hd2 i2_1 ij hH hl
      refine z_iload_n hC 2 hl dX7_ofRank_2 rfl 3 rfl ?_
      refine z_aload_n hC 3 hl dX7_ofRank_3 rfl 0 rfl ?_
      refine gmW_38 (x := (k : Int)) hC hH 4 rfl dX7_ofRank_4 ?_
      refine z_icmp_ge hC 7 38 dX7_ofRank_7 rfl (by omega) (by omega) (fun hb1 => ?_) (fun hb1 => ?_)
      · -- 7t
        obtain rfl : k = (j) := by omega
        refine z_iconst hC 38 dX7_ofRank_38 ?_
        -- R39.1
        exact z_iret hC hH hQ 39 ((-1)) dX7_ofRank_39 rfl (by exact ofR_miss hCO.2.2 ij) rfl (Nat.le_refl _) (Nat.le_refl _)
      · -- 7f
        have hu := hCO.2.2.2.1 (j) (by omega)
        refine z_aload_n hC 10 hl dX7_ofRank_10 rfl 0 rfl ?_
        refine z_aload_n hC 11 hl dX7_ofRank_11 rfl 0 rfl ?_
        refine gmW_37 hC hH 12 dX7_ofRank_12 ?_
        refine z_iload_n hC 15 hl dX7_ofRank_15 rfl 3 rfl ?_
        refine lmW_37 (x := ((u j : Nat) : Int)) hC hH 16 (j) (by omega) (by omega) (cI_lt (by omega)) dX7_ofRank_16 ?_
        refine z_iload_n hC 17 hl dX7_ofRank_17 rfl 2 rfl ?_
        refine z_same (z_runV hC hH.2.2 hl.1 hH.1 hH.2.1 2 (As := [.int (iZ (((u j : Nat) : Int))), .int (iZ ((t : Int)))]) (rest := []) (m_X7_rankOf lau s0 G _ ad (va_up F 38 ((k : Int))) (va_up (va_up (va_up (va_up Ar 34 (cI (1000) o go)) 35 fo) 36 la) 37 (cI (k) u gu)) w wl wr o go fo la k u gu (u j) t (by first | assumption | omega) (by first | assumption | omega) (by exact hu.1) (by exact hu.2) (by first | assumption | omega)) (lw_V q1788 q1790 qs78 q95 q1791) ⟨rfl, by decide, by decide, by decide +kernel⟩ (q0 := 0) (ci := 0) rfl rfl rfl rfl (Nat.le_of_ble_eq_true rfl) ⟨Nat.le_of_ble_eq_true rfl, Nat.le_of_ble_eq_true rfl⟩ ⟨Nat.le_of_ble_eq_true rfl, Nat.le_of_ble_eq_true rfl⟩ dX7_ofRank_18) hH (fun _ H locs hpost hH => ?_)
        have pb_18 : rk w wl wr t (u j) ≤ 1000 := hpost
        have hH : zH s0 s1 G as0 (mW ad G (va_up F 38 ((k : Int))) (va_up (va_up (va_up (va_up Ar 34 (cI (1000) o go)) 35 fo) 36 la) 37 (cI (k) u gu))) H locs := hH
        refine z_st (st' := [.int (iZ (((rk w wl wr t (u j) : Nat) : Int)))]) rfl ?_
        refine z_iload_n hC 21 hl dX7_ofRank_21 rfl 1 rfl ?_
        refine z_icmp_ne hC 22 32 dX7_ofRank_22 rfl (by omega) (by omega) (fun hb2 => ?_) (fun hb2 => ?_)
        · -- 22t
          refine z_iinc (lv' := [(3, .int (iZ ((j : Int) + 1))), (0, .ref (ad 0)), (1, .int (iZ (i0))), (2, .int (iZ ((t : Int))))]) hC 32 hl dX7_ofRank_32 3 rfl (by omega) (by decide) rfl (fun ls hl => ?_)
          refine z_goto hC 35 2 dX7_ofRank_35 rfl ?_
          -- J2.2
          exact ih2 (j + 1) _ _ _ (by omega) (by first | assumption | omega) (by first | (intro j1 hj1; omega) | (intro j1 hj1; by_cases e : j1 = j; (subst e; assumption); exact ij j1 (by omega))) hH (z_lv (lv_sub hl [1, 2, 3, 0] rfl) (zcons rfl (zcons rfl (zcons rfl (zcons (zpeq (by omega)) rfl)))))
        · -- 22f
          refine z_aload_n hC 25 hl dX7_ofRank_25 rfl 0 rfl ?_
          refine gmW_37 hC hH 26 dX7_ofRank_26 ?_
          refine z_iload_n hC 29 hl dX7_ofRank_29 rfl 3 rfl ?_
          refine lmW_37 (x := ((u j : Nat) : Int)) hC hH 30 (j) (by omega) (by omega) (cI_lt (by omega)) dX7_ofRank_30 ?_
          -- R31.3
          exact z_iret hC hH hQ 31 (((u j : Nat) : Int)) dX7_ofRank_31 rfl (by exact ofR_hit hCO.2.2 (by omega) (by omega)) rfl (Nat.le_refl _) (Nat.le_refl _)
  -- J2.4
  exact L2 _ 0 _ _ _ (Nat.lt_succ_self _) (by first | assumption | omega) (by first | (intro j1 hj1; omega) | (intro j1 hj1; by_cases e : j1 = j; (subst e; assumption); exact ij j1 (by omega))) hH (z_lv (lv_sub hl [1, 2, 3, 0] rfl) (zcons rfl (zcons rfl (zcons rfl (zcons (zpeq (by omega)) rfl)))))

set_option maxHeartbeats 4000000 in
set_option maxRecDepth 100000 in
theorem m_X7_modeBy (lau : Launch) (s0 : State) (G : zG) (sz : Nat) (ad : Nat → Nat) (F : Nat → Int) (Ar : Nat → Nat → Int) (w : Nat → Nat) (wl : Nat) (wr : Nat) (o : Nat → Nat) (go : Nat → Int) (fo : Nat → Int) (la : Nat → Int) (k : Nat) (u : Nat → Nat) (gu : Nat → Int) (t : Nat) (hCO : CO w wl wr o fo la k u) (hwr : wr ≤ 120) (ht : t < 4) : zMet (S := Int) lau yX7_modeBy cX7_modeBy 4 (some .int) 1 23 0 0 s0 G sz [.ref (ad 0), .int (iZ ((t : Int)))] (mW ad G (va_up F 38 ((k : Int))) (va_up (va_up (va_up (va_up Ar 34 (cI (1000) o go)) 35 fo) 36 la) 37 (cI (k) u gu))) (fun (r : Int) => some (.int (iZ (r)))) (fun (r : Int) => ((k = 0 ∧ r = -1) ∨ (0 < k ∧ r = (md w wl wr t : Int)))) (fun (r : Int) => (mW ad G (va_up F 38 ((k : Int))) (va_up (va_up (va_up (va_up Ar 34 (cI (1000) o go)) 35 fo) 36 la) 37 (cI (k) u gu)))) := by
  refine zMet.of (by decide) (Nat.le_of_ble_eq_true rfl) ?_
  intro pg ev s1 mi ar bl me cd ls Q as0 hC hH hl hQ hsz
  generalize s1.heap = H at hH ⊢
  generalize ([] : List Loc) = locs at hH ⊢
  have hl : lv_has ls 4 [(0, .ref (ad 0)), (1, .int (iZ ((t : Int))))] := hl
  have hK := hCO.2.2.1
  refine z_iconst hC 0 dX7_modeBy_0 ?_
  refine z_istore_n (lv' := [(2, .int (iZ ((-1)))), (0, .ref (ad 0)), (1, .int (iZ ((t : Int))))]) hC 1 hl dX7_modeBy_1 rfl (by decide) rfl (fun ls hl => ?_)
  refine z_iconst hC 2 dX7_modeBy_2 ?_
  refine z_istore_n (lv' := [(3, .int (iZ (0))), (2, .int (iZ ((-1)))), (0, .ref (ad 0)), (1, .int (iZ ((t : Int))))]) hC 3 hl dX7_modeBy_3 rfl (by decide) rfl (fun ls hl => ?_)
  have L4 : ∀ (N_ : Nat) (b : Int) (i : Nat) (H : Heap) (locs : List Loc) (ls : Array Slot), k - i < N_ → (i ≤ k) → ((i = 0 ∧ b = -1) ∨ ∃ j, j < i ∧ b = (u j : Int) ∧ ∀ j1, j1 < i → u j1 ≠ u j → ahd w wl wr t (u j) (u j1)) → zH s0 s1 G as0 (mW ad G (va_up F 38 ((k : Int))) (va_up (va_up (va_up (va_up Ar 34 (cI (1000) o go)) 35 fo) 36 la) 37 (cI (k) u gu))) H locs → lv_has ls 4 [(0, .ref (ad 0)), (1, .int (iZ ((t : Int)))), (2, .int (iZ (b))), (3, .int (iZ ((i : Int))))] → W pg lau ev (zRm 1 0 0 23) s1 mi ar bl me cd H locs 0 0 Q (F0 mi 4 ls []) := by
    intro N_
    induction N_ with
    | zero => intro b i H locs ls hd; exact absurd hd (Nat.not_lt_zero _)
    | succ N_ ih4 =>
      intro b i H locs ls hd4 i4_1 ib hH hl
      refine z_iload_n hC 4 hl dX7_modeBy_4 rfl 3 rfl ?_
      refine z_aload_n hC 5 hl dX7_modeBy_5 rfl 0 rfl ?_
      refine gmW_38 (x := (k : Int)) hC hH 6 rfl dX7_modeBy_6 ?_
      refine z_icmp_ge hC 9 45 dX7_modeBy_9 rfl (by omega) (by omega) (fun hb1 => ?_) (fun hb1 => ?_)
      · -- 9t
        obtain rfl : k = (i) := by omega
        refine z_iload_n hC 45 hl dX7_modeBy_45 rfl 2 rfl ?_
        -- R46.1
        exact z_iret hC hH hQ 46 (b) dX7_modeBy_46 rfl (by exact mb_end hCO.2.2 ib) rfl (Nat.le_refl _) (Nat.le_refl _)
      · -- 9f
        have hu := hCO.2.2.2.1 (i) (by omega)
        have hbr : -2147483648 ≤ b ∧ b < 2147483648 := by rcases ib with q | ⟨j, q1, q2, -⟩; (· omega); (· have := hCO.2.2.2.1 j (by omega); omega)
        refine z_iload_n hC 12 hl dX7_modeBy_12 rfl 2 rfl ?_
        refine z_iconst hC 13 dX7_modeBy_13 ?_
        refine z_icmp_eq hC 14 32 dX7_modeBy_14 rfl (by omega) (by omega) (fun hb2 => ?_) (fun hb2 => ?_)
        · -- 14t
          refine z_aload_n hC 32 hl dX7_modeBy_32 rfl 0 rfl ?_
          refine gmW_37 hC hH 33 dX7_modeBy_33 ?_
          refine z_iload_n hC 36 hl dX7_modeBy_36 rfl 3 rfl ?_
          refine lmW_37 (x := ((u i : Nat) : Int)) hC hH 37 (i) (by omega) (by omega) (cI_lt (by omega)) dX7_modeBy_37 ?_
          refine z_istore_n (lv' := [(2, .int (iZ (((u i : Nat) : Int)))), (0, .ref (ad 0)), (1, .int (iZ ((t : Int)))), (3, .int (iZ ((i : Int))))]) hC 38 hl dX7_modeBy_38 rfl (by decide) rfl (fun ls hl => ?_)
          refine z_iinc (lv' := [(3, .int (iZ ((i : Int) + 1))), (2, .int (iZ (((u i : Nat) : Int)))), (0, .ref (ad 0)), (1, .int (iZ ((t : Int))))]) hC 39 hl dX7_modeBy_39 3 rfl (by omega) (by decide) rfl (fun ls hl => ?_)
          refine z_goto hC 42 4 dX7_modeBy_42 rfl ?_
          -- J4.2
          exact ih4 ((u i : Nat) : Int) (i + 1) _ _ _ (by omega) (by first | assumption | omega) (by first | exact Or.inl ⟨rfl, rfl⟩ | exact mb_1 ib (by assumption) | exact mb_2 ib2 (by assumption) | exact mb_3 hCO.2.2 (by omega) hjb eb ib2 (by assumption)) hH (z_lv (lv_sub hl [2, 3, 1, 0] rfl) (zcons rfl (zcons rfl (zcons rfl (zcons (zpeq (by omega)) rfl)))))
        · -- 14f
          obtain ⟨jb, hjb, eb, ib2⟩ := mb_get ib (by assumption)
          have hub := hCO.2.2.2.1 jb (by omega)
          refine z_aload_n hC 17 hl dX7_modeBy_17 rfl 0 rfl ?_
          refine z_aload_n hC 18 hl dX7_modeBy_18 rfl 0 rfl ?_
          refine gmW_37 hC hH 19 dX7_modeBy_19 ?_
          refine z_iload_n hC 22 hl dX7_modeBy_22 rfl 3 rfl ?_
          refine lmW_37 (x := ((u i : Nat) : Int)) hC hH 23 (i) (by omega) (by omega) (cI_lt (by omega)) dX7_modeBy_23 ?_
          refine z_iload_n hC 24 hl dX7_modeBy_24 rfl 2 rfl ?_
          refine z_iload_n hC 25 hl dX7_modeBy_25 rfl 1 rfl ?_
          refine z_st (st' := [.int (iZ ((t : Int))), .int (iZ (((u jb : Nat) : Int))), .int (iZ (((u i : Nat) : Int))), .ref (ad 0)]) (zcons rfl (zcons (zieq (by omega)) (zcons rfl rfl))) ?_
          refine z_same (z_runV hC hH.2.2 hl.1 hH.1 hH.2.1 3 (As := [.int (iZ (((u i : Nat) : Int))), .int (iZ (((u jb : Nat) : Int))), .int (iZ ((t : Int)))]) (rest := []) (m_X7_isAhead lau s0 G _ ad (va_up F 38 ((k : Int))) (va_up (va_up (va_up (va_up Ar 34 (cI (1000) o go)) 35 fo) 36 la) 37 (cI (k) u gu)) w wl wr o go fo la k u gu (u i) (u jb) t (by first | assumption | omega) (by first | assumption | omega) (by exact hu.1) (by exact hub.1) (by exact hu.2) (by exact hub.2) (by first | assumption | omega)) (lw_V q1772 q1774 qs75 q95 q1775) ⟨rfl, by decide, by decide, by decide +kernel⟩ (q0 := 0) (ci := 0) rfl rfl rfl rfl (Nat.le_of_ble_eq_true rfl) ⟨Nat.le_of_ble_eq_true rfl, Nat.le_of_ble_eq_true rfl⟩ ⟨Nat.le_of_ble_eq_true rfl, Nat.le_of_ble_eq_true rfl⟩ dX7_modeBy_26) hH (fun r_26 H locs hpost hH => ?_)
          have hb_26 : (r_26 = 1 ∧ (ahd w wl wr t (u i) (u jb))) ∨ (r_26 = 0 ∧ ¬ (ahd w wl wr t (u i) (u jb))) := hpost
          have hH : zH s0 s1 G as0 (mW ad G (va_up F 38 ((k : Int))) (va_up (va_up (va_up (va_up Ar 34 (cI (1000) o go)) 35 fo) 36 la) 37 (cI (k) u gu))) H locs := hH
          refine z_st (st' := [.int (iZ (r_26))]) rfl ?_
          rcases hb_26 with ⟨rfl, hb_26⟩ | ⟨rfl, hb_26⟩
          · -- 26=1
            refine z_if_eq_f hC 29 39 dX7_modeBy_29 rfl (by omega) (by omega) ?_
            refine z_aload_n hC 32 hl dX7_modeBy_32 rfl 0 rfl ?_
            refine gmW_37 hC hH 33 dX7_modeBy_33 ?_
            refine z_iload_n hC 36 hl dX7_modeBy_36 rfl 3 rfl ?_
            refine lmW_37 (x := ((u i : Nat) : Int)) hC hH 37 (i) (by omega) (by omega) (cI_lt (by omega)) dX7_modeBy_37 ?_
            refine z_istore_n (lv' := [(2, .int (iZ (((u i : Nat) : Int)))), (0, .ref (ad 0)), (1, .int (iZ ((t : Int)))), (3, .int (iZ ((i : Int))))]) hC 38 hl dX7_modeBy_38 rfl (by decide) rfl (fun ls hl => ?_)
            refine z_iinc (lv' := [(3, .int (iZ ((i : Int) + 1))), (2, .int (iZ (((u i : Nat) : Int)))), (0, .ref (ad 0)), (1, .int (iZ ((t : Int))))]) hC 39 hl dX7_modeBy_39 3 rfl (by omega) (by decide) rfl (fun ls hl => ?_)
            refine z_goto hC 42 4 dX7_modeBy_42 rfl ?_
            -- J4.3
            exact ih4 ((u i : Nat) : Int) (i + 1) _ _ _ (by omega) (by first | assumption | omega) (by first | exact Or.inl ⟨rfl, rfl⟩ | exact mb_1 ib (by assumption) | exact mb_2 ib2 (by assumption) | exact mb_3 hCO.2.2 (by omega) hjb eb ib2 (by assumption)) hH (z_lv (lv_sub hl [2, 3, 1, 0] rfl) (zcons rfl (zcons rfl (zcons rfl (zcons (zpeq (by omega)) rfl)))))
          · -- 26=0
            refine z_if_eq_t hC 29 39 dX7_modeBy_29 rfl (by omega) (by omega) ?_
            refine z_iinc (lv' := [(3, .int (iZ ((i : Int) + 1))), (0, .ref (ad 0)), (1, .int (iZ ((t : Int)))), (2, .int (iZ (b)))]) hC 39 hl dX7_modeBy_39 3 rfl (by omega) (by decide) rfl (fun ls hl => ?_)
            refine z_goto hC 42 4 dX7_modeBy_42 rfl ?_
            -- J4.4
            exact ih4 b (i + 1) _ _ _ (by omega) (by first | assumption | omega) (by first | exact Or.inl ⟨rfl, rfl⟩ | exact mb_1 ib (by assumption) | exact mb_2 ib2 (by assumption) | exact mb_3 hCO.2.2 (by omega) hjb eb ib2 (by assumption)) hH (z_lv (lv_sub hl [1, 2, 3, 0] rfl) (zcons rfl (zcons rfl (zcons rfl (zcons (zpeq (by omega)) rfl)))))
  -- J4.5
  exact L4 _ (-1) 0 _ _ _ (Nat.lt_succ_self _) (by first | assumption | omega) (by first | exact Or.inl ⟨rfl, rfl⟩ | exact mb_1 ib (by assumption) | exact mb_2 ib2 (by assumption) | exact mb_3 hCO.2.2 (by omega) hjb eb ib2 (by assumption)) hH (z_lv (lv_sub hl [2, 3, 1, 0] rfl) (zcons rfl (zcons rfl (zcons rfl (zcons (zpeq (by omega)) rfl)))))
