/-! methods of ModeDeskModel: 99d.ta -/
set_option maxHeartbeats 4000000 in
set_option maxRecDepth 100000 in
theorem m_X7_here (lau : Launch) (s0 : State) (G : zG) (sz : Nat) (ad : Nat → Nat) (F : Nat → Int) (Ar : Nat → Nat → Int) (t : Nat → Nat) (tn : Nat) (a : Nat) (htn : tn ≤ 900) (htb : ∀ i, i < tn → t i < 256) (ha : a ≤ tn) : zMet (S := Int) lau yX7_here cX7_here 1 (some .int) 0 0 0 0 s0 G sz [.ref (ad 0)] (mW ad G (va_up (va_up F 22 ((tn : Int))) 23 ((a : Int))) (va_up Ar 1 (nA t))) (fun (z : Int) => some (.int (iZ (z)))) (fun (z : Int) => (z = hereZ t tn a) ∧ (-1 ≤ z ∧ z < 256)) (fun (z : Int) => (mW ad G (va_up (va_up F 22 ((tn : Int))) 23 ((a : Int))) (va_up Ar 1 (nA t)))) := by
  refine zMet.of (by decide) (Nat.le_of_ble_eq_true rfl) ?_
  intro pg ev s1 mi ar bl me cd ls Q as0 hC hH hl hQ hsz
  generalize s1.heap = H at hH ⊢
  generalize ([] : List Loc) = locs at hH ⊢
  have hl : lv_has ls 1 [(0, .ref (ad 0))] := hl
  refine z_aload_n hC 0 hl dX7_here_0 rfl 0 rfl ?_
  refine gmW_23 (x := (a : Int)) hC hH 1 rfl dX7_here_1 ?_
  refine z_aload_n hC 4 hl dX7_here_4 rfl 0 rfl ?_
  refine gmW_22 (x := (tn : Int)) hC hH 5 rfl dX7_here_5 ?_
  refine z_icmp_ge hC 8 23 dX7_here_8 rfl (by omega) (by omega) (fun hb1 => ?_) (fun hb1 => ?_)
  · -- 8t
    refine z_iconst hC 23 dX7_here_23 ?_
    -- R24.1
    exact z_iret hC hH hQ 24 ((-1)) dX7_here_24 rfl ⟨by first | exact hereZ_1 (by omega) | exact hereZ_2 (by omega), by first | assumption | omega⟩ rfl (Nat.le_refl _) (Nat.le_refl _)
  · -- 8f
    have htx := htb a (by omega)
    refine z_aload_n hC 11 hl dX7_here_11 rfl 0 rfl ?_
    refine gmW_1 hC hH 12 dX7_here_12 ?_
    refine z_aload_n hC 15 hl dX7_here_15 rfl 0 rfl ?_
    refine gmW_23 (x := (a : Int)) hC hH 16 rfl dX7_here_16 ?_
    refine lmW_1 (x := ((t a : Nat) : Int)) hC hH 19 (a) (by omega) (by omega) rfl dX7_here_19 ?_
    refine z_goto hC 20 24 dX7_here_20 rfl ?_
    -- R24.2
    exact z_iret hC hH hQ 24 (((t a : Nat) : Int)) dX7_here_24 rfl ⟨by first | exact hereZ_1 (by omega) | exact hereZ_2 (by omega), by first | assumption | omega⟩ rfl (Nat.le_refl _) (Nat.le_refl _)

set_option maxHeartbeats 4000000 in
set_option maxRecDepth 100000 in
theorem m_X7_isSmall (lau : Launch) (s0 : State) (G : zG) (sz : Nat) (ad : Nat → Nat) (F : Nat → Int) (Ar : Nat → Nat → Int) (x : Int) (hr_x : -2147483648 ≤ x ∧ x < 2147483648) : zMet (S := Int) lau yX7_isSmall cX7_isSmall 1 (some .boolean) 0 0 0 0 s0 G sz [.int (iZ (x))] (mW ad G F Ar) (fun (r_ : Int) => some (.int (iZ r_))) (fun (r_ : Int) => ((r_ = 1 ∧ (97 ≤ x ∧ x ≤ 122)) ∨ (r_ = 0 ∧ ¬ (97 ≤ x ∧ x ≤ 122)))) (fun (r_ : Int) => (mW ad G F Ar)) := by
  refine zMet.of (by decide) (Nat.le_of_ble_eq_true rfl) ?_
  intro pg ev s1 mi ar bl me cd ls Q as0 hC hH hl hQ hsz
  generalize s1.heap = H at hH ⊢
  generalize ([] : List Loc) = locs at hH ⊢
  have hl : lv_has ls 1 [(0, .int (iZ (x)))] := hl
  refine z_iload_n hC 0 hl dX7_isSmall_0 rfl 0 rfl ?_
  refine z_bipush hC 1 dX7_isSmall_1 rfl ?_
  refine z_icmp_lt hC 3 16 dX7_isSmall_3 rfl (by omega) (by omega) (fun hb1 => ?_) (fun hb1 => ?_)
  · -- 3t
    refine z_iconst hC 16 dX7_isSmall_16 ?_
    -- R17.1
    exact z_zret hC hH hQ 17 (0) dX7_isSmall_17 (by rfl) rfl (Or.inr ⟨rfl, by first | assumption | omega⟩) rfl (Nat.le_refl _) (Nat.le_refl _)
  · -- 3f
    refine z_iload_n hC 6 hl dX7_isSmall_6 rfl 0 rfl ?_
    refine z_bipush hC 7 dX7_isSmall_7 rfl ?_
    refine z_icmp_gt hC 9 16 dX7_isSmall_9 rfl (by omega) (by omega) (fun hb2 => ?_) (fun hb2 => ?_)
    · -- 9t
      refine z_iconst hC 16 dX7_isSmall_16 ?_
      -- R17.2
      exact z_zret hC hH hQ 17 (0) dX7_isSmall_17 (by rfl) rfl (Or.inr ⟨rfl, by first | assumption | omega⟩) rfl (Nat.le_refl _) (Nat.le_refl _)
    · -- 9f
      refine z_iconst hC 12 dX7_isSmall_12 ?_
      refine z_goto hC 13 17 dX7_isSmall_13 rfl ?_
      -- R17.3
      exact z_zret hC hH hQ 17 (1) dX7_isSmall_17 (by rfl) rfl (Or.inl ⟨rfl, by first | assumption | omega⟩) rfl (Nat.le_refl _) (Nat.le_refl _)

set_option maxHeartbeats 4000000 in
set_option maxRecDepth 100000 in
theorem m_X7_isDigit (lau : Launch) (s0 : State) (G : zG) (sz : Nat) (ad : Nat → Nat) (F : Nat → Int) (Ar : Nat → Nat → Int) (x : Int) (hr_x : -2147483648 ≤ x ∧ x < 2147483648) : zMet (S := Int) lau yX7_isDigit cX7_isDigit 1 (some .boolean) 0 0 0 0 s0 G sz [.int (iZ (x))] (mW ad G F Ar) (fun (r_ : Int) => some (.int (iZ r_))) (fun (r_ : Int) => ((r_ = 1 ∧ (48 ≤ x ∧ x ≤ 57)) ∨ (r_ = 0 ∧ ¬ (48 ≤ x ∧ x ≤ 57)))) (fun (r_ : Int) => (mW ad G F Ar)) := by
  refine zMet.of (by decide) (Nat.le_of_ble_eq_true rfl) ?_
  intro pg ev s1 mi ar bl me cd ls Q as0 hC hH hl hQ hsz
  generalize s1.heap = H at hH ⊢
  generalize ([] : List Loc) = locs at hH ⊢
  have hl : lv_has ls 1 [(0, .int (iZ (x)))] := hl
  refine z_iload_n hC 0 hl dX7_isDigit_0 rfl 0 rfl ?_
  refine z_bipush hC 1 dX7_isDigit_1 rfl ?_
  refine z_icmp_lt hC 3 16 dX7_isDigit_3 rfl (by omega) (by omega) (fun hb1 => ?_) (fun hb1 => ?_)
  · -- 3t
    refine z_iconst hC 16 dX7_isDigit_16 ?_
    -- R17.1
    exact z_zret hC hH hQ 17 (0) dX7_isDigit_17 (by rfl) rfl (Or.inr ⟨rfl, by first | assumption | omega⟩) rfl (Nat.le_refl _) (Nat.le_refl _)
  · -- 3f
    refine z_iload_n hC 6 hl dX7_isDigit_6 rfl 0 rfl ?_
    refine z_bipush hC 7 dX7_isDigit_7 rfl ?_
    refine z_icmp_gt hC 9 16 dX7_isDigit_9 rfl (by omega) (by omega) (fun hb2 => ?_) (fun hb2 => ?_)
    · -- 9t
      refine z_iconst hC 16 dX7_isDigit_16 ?_
      -- R17.2
      exact z_zret hC hH hQ 17 (0) dX7_isDigit_17 (by rfl) rfl (Or.inr ⟨rfl, by first | assumption | omega⟩) rfl (Nat.le_refl _) (Nat.le_refl _)
    · -- 9f
      refine z_iconst hC 12 dX7_isDigit_12 ?_
      refine z_goto hC 13 17 dX7_isDigit_13 rfl ?_
      -- R17.3
      exact z_zret hC hH hQ 17 (1) dX7_isDigit_17 (by rfl) rfl (Or.inl ⟨rfl, by first | assumption | omega⟩) rfl (Nat.le_refl _) (Nat.le_refl _)

set_option maxHeartbeats 4000000 in
set_option maxRecDepth 100000 in
theorem m_X7_wordHere (lau : Launch) (s0 : State) (G : zG) (sz : Nat) (ad : Nat → Nat) (F : Nat → Int) (Ar : Nat → Nat → Int) (t : Nat → Nat) (tn : Nat) (lq : Nat) (lva : Nat) (pl : Nat) (e : Nat) (htn : tn ≤ 900) (htb : ∀ i, i < tn → t i < 256) (hlit : zLit s0 "ModeDeskModel" 107 "first last least most row weight block ties " lq lva 44 wC) (hcs : zCS s0) (hsi : zSio s0) (hpe : pl < e) (hen : e ≤ tn) : zMet (S := Nat × Int) lau yX7_wordHere cX7_wordHere 4 (some .int) 4 85 0 0 s0 G sz [.ref (ad 0)] (mW ad G (va_up (va_up F 23 ((e : Int))) 24 ((pl : Int))) (va_up Ar 1 (nA t))) (fun ((x, z) : Nat × Int) => some (.int (iZ (z)))) (fun ((x, z) : Nat × Int) => (wIx t pl e x) ∧ ((x = 8 ∧ z = -1) ∨ (x < 8 ∧ z = (x : Int)))) (fun ((x, z) : Nat × Int) => (mW ad G (va_up (va_up F 23 ((e : Int))) 24 ((pl : Int))) (va_up Ar 1 (nA t)))) := by
  refine zMet.of (by decide) (Nat.le_of_ble_eq_true rfl) ?_
  intro pg ev s1 mi ar bl me cd ls Q as0 hC hH hl hQ hsz
  generalize s1.heap = H at hH ⊢
  generalize ([] : List Loc) = locs at hH ⊢
  have hl : lv_has ls 4 [(0, .ref (ad 0))] := hl
  have hw0 : wO 0 = 0 := rfl
  refine z_iconst hC 0 dX7_wordHere_0 ?_
  refine z_istore_n (lv' := [(1, .int (iZ (0))), (0, .ref (ad 0))]) hC 1 hl dX7_wordHere_1 rfl (by decide) rfl (fun ls hl => ?_)
  refine z_iconst hC 2 dX7_wordHere_2 ?_
  refine z_istore_n (lv' := [(2, .int (iZ (0))), (1, .int (iZ (0))), (0, .ref (ad 0))]) hC 3 hl dX7_wordHere_3 rfl (by decide) rfl (fun ls hl => ?_)
  have L4 : ∀ (N_ : Nat) (k : Nat) (H : Heap) (locs : List Loc) (ls : Array Slot), 8 - k < N_ → (k ≤ 8) → (∀ j, j < k → ¬ wIs t pl e j) → zH s0 s1 G as0 (mW ad G (va_up (va_up F 23 ((e : Int))) 24 ((pl : Int))) (va_up Ar 1 (nA t))) H locs → lv_has ls 4 [(0, .ref (ad 0)), (1, .int (iZ ((k : Int)))), (2, .int (iZ (((wO k : Nat) : Int))))] → W pg lau ev (zRm 4 0 0 85) s1 mi ar bl me cd H locs 0 0 Q (F0 mi 4 ls []) := by
    intro N_
    induction N_ with
    | zero => intro k H locs ls hd; exact absurd hd (Nat.not_lt_zero _)
    | succ N_ ih4 =>
      intro k H locs ls hd4 i4_1 ik hH hl
      have hwo := w_f0 k (by omega)
      refine z_iload_n hC 4 hl dX7_wordHere_4 rfl 2 rfl ?_
      refine zp_ldcS hC 5 hlit.1 dX7_wordHere_5 ?_
      refine zp_back (zp_runVO hC hH.2.2 hl.1 (zO_up hC hlit.2.1) 0 (As := []) (rest := [.int (iZ (((wO k : Nat) : Int)))]) (u_J2_length_s lau s0 G lq lva 44 wC hlit.2 hcs) (lw_V q1575 q1576 q1577 q99 q1578) ⟨rfl, by decide, by decide, by decide +kernel⟩ rfl rfl (Nat.le_of_ble_eq_true rfl) ⟨Nat.le_of_ble_eq_true rfl, Nat.le_of_ble_eq_true rfl⟩ ⟨Nat.le_of_ble_eq_true rfl, Nat.le_of_ble_eq_true rfl⟩ dX7_wordHere_7) (fun _ _ => ?_)
      refine z_st (st' := [.int (iZ (44)), .int (iZ (((wO k : Nat) : Int)))]) rfl ?_
      refine z_icmp_ge hC 10 123 dX7_wordHere_10 rfl (by omega) (by omega) (fun hb1 => ?_) (fun hb1 => ?_)
      · -- 10t
        have hk8 : k = 8 := w_ge8 (by omega) (by omega)
        refine z_iconst hC 123 dX7_wordHere_123 ?_
        -- R124.1
        exact z_iret hC hH hQ 124 ((8, (-1))) dX7_wordHere_124 rfl ⟨by exact Or.inr ⟨rfl, fun j hj => ik j (by omega)⟩, by first | exact Or.inl ⟨rfl, rfl⟩ | exact Or.inr ⟨hk8, rfl⟩⟩ rfl (Nat.le_refl _) (Nat.le_refl _)
      · -- 10f
        have hk8 : k < 8 := w_lt8 (by omega) (by omega)
        have hw9 := w_f1 k hk8
        refine z_iconst hC 13 dX7_wordHere_13 ?_
        refine z_istore_n (lv' := [(3, .int (iZ (0))), (0, .ref (ad 0)), (1, .int (iZ ((k : Int)))), (2, .int (iZ (((wO k : Nat) : Int))))]) hC 14 hl dX7_wordHere_14 rfl (by decide) rfl (fun ls hl => ?_)
        have L15 : ∀ (N_ : Nat) (i : Nat) (H : Heap) (locs : List Loc) (ls : Array Slot), wL k + 1 - i < N_ → (i ≤ wL k) → (∀ j, j < i → t (pl + j) = wC (wO k + j)) → zH s0 s1 G as0 (mW ad G (va_up (va_up F 23 ((e : Int))) 24 ((pl : Int))) (va_up Ar 1 (nA t))) H locs → lv_has ls 4 [(0, .ref (ad 0)), (1, .int (iZ ((k : Int)))), (2, .int (iZ (((wO k : Nat) : Int)))), (3, .int (iZ ((i : Int))))] → W pg lau ev (zRm 4 0 0 85) s1 mi ar bl me cd H locs 0 0 Q (F0 mi 15 ls []) := by
          intro N_
          induction N_ with
          | zero => intro i H locs ls hd; exact absurd hd (Nat.not_lt_zero _)
          | succ N_ ih15 =>
            intro i H locs ls hd15 i15_1 ii hH hl
            have hwi := w_f2 k hk8 i (by omega) (by omega)
            have hwc := w_f3 (wO k + i) (by omega)
            refine zp_ldcS hC 15 hlit.1 dX7_wordHere_15 ?_
            refine z_iload_n hC 17 hl dX7_wordHere_17 rfl 2 rfl ?_
            refine z_iload_n hC 18 hl dX7_wordHere_18 rfl 3 rfl ?_
            refine z_iadd (e := ((wO k : Nat) : Int) + (i : Int)) hC 19 dX7_wordHere_19 rfl ?_
            refine z_st (st' := [.int (iZ ((((wO k) + i : Nat) : Int))), .ref (lq)]) (zcons (zieq (by omega)) rfl) ?_
            refine zp_back (zp_runVO hC hH.2.2 hl.1 (zO_up hC hlit.2.1) 1 (As := [.int (iZ ((((wO k) + i : Nat) : Int)))]) (rest := []) (u_J2_charAt_s lau s0 G lq lva 44 wC hlit.2 hcs hsi ((wO k) + i) (by omega)) (lw_V q1583 q1584 q1585 q99 q1586) ⟨rfl, by decide, by decide, by decide +kernel⟩ rfl rfl (Nat.le_of_ble_eq_true rfl) ⟨Nat.le_of_ble_eq_true rfl, Nat.le_of_ble_eq_true rfl⟩ ⟨Nat.le_of_ble_eq_true rfl, Nat.le_of_ble_eq_true rfl⟩ dX7_wordHere_20) (fun _ _ => ?_)
            refine z_st (st' := [.int (iZ (((wC ((wO k) + i) : Nat) : Int)))]) rfl ?_
            refine z_bipush hC 23 dX7_wordHere_23 rfl ?_
            refine z_icmp_eq hC 25 69 dX7_wordHere_25 rfl (by omega) (by omega) (fun hb2 => ?_) (fun hb2 => ?_)
            · -- 25t
              refine zp_ldcS hC 69 hlit.1 dX7_wordHere_69 ?_
              refine z_iload_n hC 71 hl dX7_wordHere_71 rfl 2 rfl ?_
              refine z_iload_n hC 72 hl dX7_wordHere_72 rfl 3 rfl ?_
              refine z_iadd (e := ((wO k : Nat) : Int) + (i : Int)) hC 73 dX7_wordHere_73 rfl ?_
              refine z_st (st' := [.int (iZ ((((wO k) + i : Nat) : Int))), .ref (lq)]) (zcons (zieq (by omega)) rfl) ?_
              refine zp_back (zp_runVO hC hH.2.2 hl.1 (zO_up hC hlit.2.1) 1 (As := [.int (iZ ((((wO k) + i : Nat) : Int)))]) (rest := []) (u_J2_charAt_s lau s0 G lq lva 44 wC hlit.2 hcs hsi ((wO k) + i) (by omega)) (lw_V q1583 q1584 q1585 q99 q1586) ⟨rfl, by decide, by decide, by decide +kernel⟩ rfl rfl (Nat.le_of_ble_eq_true rfl) ⟨Nat.le_of_ble_eq_true rfl, Nat.le_of_ble_eq_true rfl⟩ ⟨Nat.le_of_ble_eq_true rfl, Nat.le_of_ble_eq_true rfl⟩ dX7_wordHere_74) (fun _ _ => ?_)
              refine z_st (st' := [.int (iZ (((wC ((wO k) + i) : Nat) : Int)))]) rfl ?_
              refine z_bipush hC 77 dX7_wordHere_77 rfl ?_
              refine z_icmp_ne hC 79 97 dX7_wordHere_79 rfl (by omega) (by omega) (fun hb3 => ?_) (fun hb3 => ?_)
              · -- 79t
                have L97 : ∀ (N_ : Nat) (c : Nat) (H : Heap) (locs : List Loc) (ls : Array Slot), wO k + wL k + 1 - c < N_ → (wO k ≤ c) → (c ≤ wO k + wL k) → (¬ wIs t pl e k) → zH s0 s1 G as0 (mW ad G (va_up (va_up F 23 ((e : Int))) 24 ((pl : Int))) (va_up Ar 1 (nA t))) H locs → lv_has ls 4 [(0, .ref (ad 0)), (1, .int (iZ ((k : Int)))), (2, .int (iZ ((c : Int))))] → W pg lau ev (zRm 4 0 0 85) s1 mi ar bl me cd H locs 0 0 Q (F0 mi 97 ls []) := by
                  intro N_
                  induction N_ with
                  | zero => intro c H locs ls hd; exact absurd hd (Nat.not_lt_zero _)
                  | succ N_ ih97 =>
                    intro c H locs ls hd97 i97_1 i97_2 hno hH hl
                    have hwj := w_f2 k hk8 (c - wO k) (by omega) (by omega)
                    have hwd := w_f3 c (by omega)
                    rw [show wO k + (c - wO k) = c by omega] at hwj
                    refine zp_ldcS hC 97 hlit.1 dX7_wordHere_97 ?_
                    refine z_iload_n hC 99 hl dX7_wordHere_99 rfl 2 rfl ?_
                    refine z_st (st' := [.int (iZ (((c : Nat) : Int))), .ref (lq)]) (zcons (zieq (by omega)) rfl) ?_
                    refine zp_back (zp_runVO hC hH.2.2 hl.1 (zO_up hC hlit.2.1) 1 (As := [.int (iZ (((c : Nat) : Int)))]) (rest := []) (u_J2_charAt_s lau s0 G lq lva 44 wC hlit.2 hcs hsi (c) (by omega)) (lw_V q1583 q1584 q1585 q99 q1586) ⟨rfl, by decide, by decide, by decide +kernel⟩ rfl rfl (Nat.le_of_ble_eq_true rfl) ⟨Nat.le_of_ble_eq_true rfl, Nat.le_of_ble_eq_true rfl⟩ ⟨Nat.le_of_ble_eq_true rfl, Nat.le_of_ble_eq_true rfl⟩ dX7_wordHere_100) (fun _ _ => ?_)
                    refine z_st (st' := [.int (iZ (((wC (c) : Nat) : Int)))]) rfl ?_
                    refine z_bipush hC 103 dX7_wordHere_103 rfl ?_
                    refine z_icmp_eq hC 105 114 dX7_wordHere_105 rfl (by omega) (by omega) (fun hb4 => ?_) (fun hb4 => ?_)
                    · -- 105t
                      refine z_iinc (lv' := [(2, .int (iZ ((c : Int) + 1))), (0, .ref (ad 0)), (1, .int (iZ ((k : Int))))]) hC 114 hl dX7_wordHere_114 2 rfl (by omega) (by decide) rfl (fun ls hl => ?_)
                      refine z_iinc (lv' := [(1, .int (iZ ((k : Int) + 1))), (2, .int (iZ ((c : Int) + 1))), (0, .ref (ad 0))]) hC 117 hl dX7_wordHere_117 2 rfl (by omega) (by decide) rfl (fun ls hl => ?_)
                      refine z_goto hC 120 4 dX7_wordHere_120 rfl ?_
                      -- J4.2
                      exact ih4 (k + 1) _ _ _ (by omega) (by first | assumption | omega) (by first | (intro j hj; omega) | (intro j hj; by_cases e9 : j = k; (rw [e9]; exact hno); exact ik j (by omega))) hH (z_lv (lv_sub hl [2, 0, 1] rfl) (zcons rfl (zcons (zpeq (by omega)) (zcons (zpeq (by omega)) rfl))))
                    · -- 105f
                      refine z_iinc (lv' := [(2, .int (iZ ((c : Int) + 1))), (0, .ref (ad 0)), (1, .int (iZ ((k : Int))))]) hC 108 hl dX7_wordHere_108 2 rfl (by omega) (by decide) rfl (fun ls hl => ?_)
                      refine z_goto hC 111 97 dX7_wordHere_111 rfl ?_
                      -- J97.3
                      exact ih97 (c + 1) _ _ _ (by omega) (by first | assumption | omega) (by first | assumption | omega) (by first | exact hno | (intro q; have q1 := q.1; have q2 := q.2 i; omega)) hH (z_lv (lv_sub hl [1, 2, 0] rfl) (zcons rfl (zcons rfl (zcons (zpeq (by omega)) rfl))))
                -- J97.4
                exact L97 _ (wO k) _ _ _ (Nat.lt_succ_self _) (by first | assumption | omega) (by first | assumption | omega) (by first | exact hno | (intro q; have q1 := q.1; have q2 := q.2 i; omega)) hH (lv_sub hl [0, 1, 2] rfl)
              · -- 79f
                refine z_aload_n hC 82 hl dX7_wordHere_82 rfl 0 rfl ?_
                refine gmW_24 (x := (pl : Int)) hC hH 83 rfl dX7_wordHere_83 ?_
                refine z_iload_n hC 86 hl dX7_wordHere_86 rfl 3 rfl ?_
                refine z_iadd (e := (pl : Int) + (i : Int)) hC 87 dX7_wordHere_87 rfl ?_
                refine z_aload_n hC 88 hl dX7_wordHere_88 rfl 0 rfl ?_
                refine gmW_23 (x := (e : Int)) hC hH 89 rfl dX7_wordHere_89 ?_
                refine z_icmp_ne hC 92 97 dX7_wordHere_92 rfl (by omega) (by omega) (fun hb5 => ?_) (fun hb5 => ?_)
                · -- 92t
                  have L97 : ∀ (N_ : Nat) (c : Nat) (H : Heap) (locs : List Loc) (ls : Array Slot), wO k + wL k + 1 - c < N_ → (wO k ≤ c) → (c ≤ wO k + wL k) → (¬ wIs t pl e k) → zH s0 s1 G as0 (mW ad G (va_up (va_up F 23 ((e : Int))) 24 ((pl : Int))) (va_up Ar 1 (nA t))) H locs → lv_has ls 4 [(0, .ref (ad 0)), (1, .int (iZ ((k : Int)))), (2, .int (iZ ((c : Int))))] → W pg lau ev (zRm 4 0 0 85) s1 mi ar bl me cd H locs 0 0 Q (F0 mi 97 ls []) := by
                    intro N_
                    induction N_ with
                    | zero => intro c H locs ls hd; exact absurd hd (Nat.not_lt_zero _)
                    | succ N_ ih97 =>
                      intro c H locs ls hd97 i97_1 i97_2 hno hH hl
                      have hwj := w_f2 k hk8 (c - wO k) (by omega) (by omega)
                      have hwd := w_f3 c (by omega)
                      rw [show wO k + (c - wO k) = c by omega] at hwj
                      refine zp_ldcS hC 97 hlit.1 dX7_wordHere_97 ?_
                      refine z_iload_n hC 99 hl dX7_wordHere_99 rfl 2 rfl ?_
                      refine z_st (st' := [.int (iZ (((c : Nat) : Int))), .ref (lq)]) (zcons (zieq (by omega)) rfl) ?_
                      refine zp_back (zp_runVO hC hH.2.2 hl.1 (zO_up hC hlit.2.1) 1 (As := [.int (iZ (((c : Nat) : Int)))]) (rest := []) (u_J2_charAt_s lau s0 G lq lva 44 wC hlit.2 hcs hsi (c) (by omega)) (lw_V q1583 q1584 q1585 q99 q1586) ⟨rfl, by decide, by decide, by decide +kernel⟩ rfl rfl (Nat.le_of_ble_eq_true rfl) ⟨Nat.le_of_ble_eq_true rfl, Nat.le_of_ble_eq_true rfl⟩ ⟨Nat.le_of_ble_eq_true rfl, Nat.le_of_ble_eq_true rfl⟩ dX7_wordHere_100) (fun _ _ => ?_)
                      refine z_st (st' := [.int (iZ (((wC (c) : Nat) : Int)))]) rfl ?_
                      refine z_bipush hC 103 dX7_wordHere_103 rfl ?_
                      refine z_icmp_eq hC 105 114 dX7_wordHere_105 rfl (by omega) (by omega) (fun hb6 => ?_) (fun hb6 => ?_)
                      · -- 105t
                        refine z_iinc (lv' := [(2, .int (iZ ((c : Int) + 1))), (0, .ref (ad 0)), (1, .int (iZ ((k : Int))))]) hC 114 hl dX7_wordHere_114 2 rfl (by omega) (by decide) rfl (fun ls hl => ?_)
                        refine z_iinc (lv' := [(1, .int (iZ ((k : Int) + 1))), (2, .int (iZ ((c : Int) + 1))), (0, .ref (ad 0))]) hC 117 hl dX7_wordHere_117 2 rfl (by omega) (by decide) rfl (fun ls hl => ?_)
                        refine z_goto hC 120 4 dX7_wordHere_120 rfl ?_
                        -- J4.5
                        exact ih4 (k + 1) _ _ _ (by omega) (by first | assumption | omega) (by first | (intro j hj; omega) | (intro j hj; by_cases e9 : j = k; (rw [e9]; exact hno); exact ik j (by omega))) hH (z_lv (lv_sub hl [2, 0, 1] rfl) (zcons rfl (zcons (zpeq (by omega)) (zcons (zpeq (by omega)) rfl))))
                      · -- 105f
                        refine z_iinc (lv' := [(2, .int (iZ ((c : Int) + 1))), (0, .ref (ad 0)), (1, .int (iZ ((k : Int))))]) hC 108 hl dX7_wordHere_108 2 rfl (by omega) (by decide) rfl (fun ls hl => ?_)
                        refine z_goto hC 111 97 dX7_wordHere_111 rfl ?_
                        -- J97.6
                        exact ih97 (c + 1) _ _ _ (by omega) (by first | assumption | omega) (by first | assumption | omega) (by first | exact hno | (intro q; have q1 := q.1; have q2 := q.2 i; omega)) hH (z_lv (lv_sub hl [1, 2, 0] rfl) (zcons rfl (zcons rfl (zcons (zpeq (by omega)) rfl))))
                  -- J97.7
                  exact L97 _ (wO k) _ _ _ (Nat.lt_succ_self _) (by first | assumption | omega) (by first | assumption | omega) (by first | exact hno | (intro q; have q1 := q.1; have q2 := q.2 i; omega)) hH (lv_sub hl [0, 1, 2] rfl)
                · -- 92f
                  refine z_iload_n hC 95 hl dX7_wordHere_95 rfl 1 rfl ?_
                  -- R96.8
                  exact z_iret hC hH hQ 96 ((k, (k : Int))) dX7_wordHere_96 rfl ⟨by exact Or.inl ⟨hk8, by omega, fun j hj => ii j (by omega)⟩, by first | exact Or.inl ⟨rfl, rfl⟩ | exact Or.inr ⟨hk8, rfl⟩⟩ rfl (Nat.le_refl _) (Nat.le_refl _)
            · -- 25f
              refine z_aload_n hC 28 hl dX7_wordHere_28 rfl 0 rfl ?_
              refine gmW_24 (x := (pl : Int)) hC hH 29 rfl dX7_wordHere_29 ?_
              refine z_iload_n hC 32 hl dX7_wordHere_32 rfl 3 rfl ?_
              refine z_iadd (e := (pl : Int) + (i : Int)) hC 33 dX7_wordHere_33 rfl ?_
              refine z_aload_n hC 34 hl dX7_wordHere_34 rfl 0 rfl ?_
              refine gmW_23 (x := (e : Int)) hC hH 35 rfl dX7_wordHere_35 ?_
              refine z_icmp_ge hC 38 69 dX7_wordHere_38 rfl (by omega) (by omega) (fun hb7 => ?_) (fun hb7 => ?_)
              · -- 38t
                refine zp_ldcS hC 69 hlit.1 dX7_wordHere_69 ?_
                refine z_iload_n hC 71 hl dX7_wordHere_71 rfl 2 rfl ?_
                refine z_iload_n hC 72 hl dX7_wordHere_72 rfl 3 rfl ?_
                refine z_iadd (e := ((wO k : Nat) : Int) + (i : Int)) hC 73 dX7_wordHere_73 rfl ?_
                refine z_st (st' := [.int (iZ ((((wO k) + i : Nat) : Int))), .ref (lq)]) (zcons (zieq (by omega)) rfl) ?_
                refine zp_back (zp_runVO hC hH.2.2 hl.1 (zO_up hC hlit.2.1) 1 (As := [.int (iZ ((((wO k) + i : Nat) : Int)))]) (rest := []) (u_J2_charAt_s lau s0 G lq lva 44 wC hlit.2 hcs hsi ((wO k) + i) (by omega)) (lw_V q1583 q1584 q1585 q99 q1586) ⟨rfl, by decide, by decide, by decide +kernel⟩ rfl rfl (Nat.le_of_ble_eq_true rfl) ⟨Nat.le_of_ble_eq_true rfl, Nat.le_of_ble_eq_true rfl⟩ ⟨Nat.le_of_ble_eq_true rfl, Nat.le_of_ble_eq_true rfl⟩ dX7_wordHere_74) (fun _ _ => ?_)
                refine z_st (st' := [.int (iZ (((wC ((wO k) + i) : Nat) : Int)))]) rfl ?_
                refine z_bipush hC 77 dX7_wordHere_77 rfl ?_
                refine z_icmp_ne hC 79 97 dX7_wordHere_79 rfl (by omega) (by omega) (fun hb8 => ?_) (fun hb8 => ?_)
                · -- 79t
                  have L97 : ∀ (N_ : Nat) (c : Nat) (H : Heap) (locs : List Loc) (ls : Array Slot), wO k + wL k + 1 - c < N_ → (wO k ≤ c) → (c ≤ wO k + wL k) → (¬ wIs t pl e k) → zH s0 s1 G as0 (mW ad G (va_up (va_up F 23 ((e : Int))) 24 ((pl : Int))) (va_up Ar 1 (nA t))) H locs → lv_has ls 4 [(0, .ref (ad 0)), (1, .int (iZ ((k : Int)))), (2, .int (iZ ((c : Int))))] → W pg lau ev (zRm 4 0 0 85) s1 mi ar bl me cd H locs 0 0 Q (F0 mi 97 ls []) := by
                    intro N_
                    induction N_ with
                    | zero => intro c H locs ls hd; exact absurd hd (Nat.not_lt_zero _)
                    | succ N_ ih97 =>
                      intro c H locs ls hd97 i97_1 i97_2 hno hH hl
                      have hwj := w_f2 k hk8 (c - wO k) (by omega) (by omega)
                      have hwd := w_f3 c (by omega)
                      rw [show wO k + (c - wO k) = c by omega] at hwj
                      refine zp_ldcS hC 97 hlit.1 dX7_wordHere_97 ?_
                      refine z_iload_n hC 99 hl dX7_wordHere_99 rfl 2 rfl ?_
                      refine z_st (st' := [.int (iZ (((c : Nat) : Int))), .ref (lq)]) (zcons (zieq (by omega)) rfl) ?_
                      refine zp_back (zp_runVO hC hH.2.2 hl.1 (zO_up hC hlit.2.1) 1 (As := [.int (iZ (((c : Nat) : Int)))]) (rest := []) (u_J2_charAt_s lau s0 G lq lva 44 wC hlit.2 hcs hsi (c) (by omega)) (lw_V q1583 q1584 q1585 q99 q1586) ⟨rfl, by decide, by decide, by decide +kernel⟩ rfl rfl (Nat.le_of_ble_eq_true rfl) ⟨Nat.le_of_ble_eq_true rfl, Nat.le_of_ble_eq_true rfl⟩ ⟨Nat.le_of_ble_eq_true rfl, Nat.le_of_ble_eq_true rfl⟩ dX7_wordHere_100) (fun _ _ => ?_)
                      refine z_st (st' := [.int (iZ (((wC (c) : Nat) : Int)))]) rfl ?_
                      refine z_bipush hC 103 dX7_wordHere_103 rfl ?_
                      refine z_icmp_eq hC 105 114 dX7_wordHere_105 rfl (by omega) (by omega) (fun hb9 => ?_) (fun hb9 => ?_)
                      · -- 105t
                        refine z_iinc (lv' := [(2, .int (iZ ((c : Int) + 1))), (0, .ref (ad 0)), (1, .int (iZ ((k : Int))))]) hC 114 hl dX7_wordHere_114 2 rfl (by omega) (by decide) rfl (fun ls hl => ?_)
                        refine z_iinc (lv' := [(1, .int (iZ ((k : Int) + 1))), (2, .int (iZ ((c : Int) + 1))), (0, .ref (ad 0))]) hC 117 hl dX7_wordHere_117 2 rfl (by omega) (by decide) rfl (fun ls hl => ?_)
                        refine z_goto hC 120 4 dX7_wordHere_120 rfl ?_
                        -- J4.9
                        exact ih4 (k + 1) _ _ _ (by omega) (by first | assumption | omega) (by first | (intro j hj; omega) | (intro j hj; by_cases e9 : j = k; (rw [e9]; exact hno); exact ik j (by omega))) hH (z_lv (lv_sub hl [2, 0, 1] rfl) (zcons rfl (zcons (zpeq (by omega)) (zcons (zpeq (by omega)) rfl))))
                      · -- 105f
                        refine z_iinc (lv' := [(2, .int (iZ ((c : Int) + 1))), (0, .ref (ad 0)), (1, .int (iZ ((k : Int))))]) hC 108 hl dX7_wordHere_108 2 rfl (by omega) (by decide) rfl (fun ls hl => ?_)
                        refine z_goto hC 111 97 dX7_wordHere_111 rfl ?_
                        -- J97.10
                        exact ih97 (c + 1) _ _ _ (by omega) (by first | assumption | omega) (by first | assumption | omega) (by first | exact hno | (intro q; have q1 := q.1; have q2 := q.2 i; omega)) hH (z_lv (lv_sub hl [1, 2, 0] rfl) (zcons rfl (zcons rfl (zcons (zpeq (by omega)) rfl))))
                  -- J97.11
                  exact L97 _ (wO k) _ _ _ (Nat.lt_succ_self _) (by first | assumption | omega) (by first | assumption | omega) (by first | exact hno | (intro q; have q1 := q.1; have q2 := q.2 i; omega)) hH (lv_sub hl [0, 1, 2] rfl)
                · -- 79f
                  refine z_aload_n hC 82 hl dX7_wordHere_82 rfl 0 rfl ?_
                  refine gmW_24 (x := (pl : Int)) hC hH 83 rfl dX7_wordHere_83 ?_
                  refine z_iload_n hC 86 hl dX7_wordHere_86 rfl 3 rfl ?_
                  refine z_iadd (e := (pl : Int) + (i : Int)) hC 87 dX7_wordHere_87 rfl ?_
                  refine z_aload_n hC 88 hl dX7_wordHere_88 rfl 0 rfl ?_
                  refine gmW_23 (x := (e : Int)) hC hH 89 rfl dX7_wordHere_89 ?_
                  refine z_icmp_ne hC 92 97 dX7_wordHere_92 rfl (by omega) (by omega) (fun hb10 => ?_) (fun hb10 => ?_)
                  · -- 92t
                    have L97 : ∀ (N_ : Nat) (c : Nat) (H : Heap) (locs : List Loc) (ls : Array Slot), wO k + wL k + 1 - c < N_ → (wO k ≤ c) → (c ≤ wO k + wL k) → (¬ wIs t pl e k) → zH s0 s1 G as0 (mW ad G (va_up (va_up F 23 ((e : Int))) 24 ((pl : Int))) (va_up Ar 1 (nA t))) H locs → lv_has ls 4 [(0, .ref (ad 0)), (1, .int (iZ ((k : Int)))), (2, .int (iZ ((c : Int))))] → W pg lau ev (zRm 4 0 0 85) s1 mi ar bl me cd H locs 0 0 Q (F0 mi 97 ls []) := by
                      intro N_
                      induction N_ with
                      | zero => intro c H locs ls hd; exact absurd hd (Nat.not_lt_zero _)
                      | succ N_ ih97 =>
                        intro c H locs ls hd97 i97_1 i97_2 hno hH hl
                        have hwj := w_f2 k hk8 (c - wO k) (by omega) (by omega)
                        have hwd := w_f3 c (by omega)
                        rw [show wO k + (c - wO k) = c by omega] at hwj
                        refine zp_ldcS hC 97 hlit.1 dX7_wordHere_97 ?_
                        refine z_iload_n hC 99 hl dX7_wordHere_99 rfl 2 rfl ?_
                        refine z_st (st' := [.int (iZ (((c : Nat) : Int))), .ref (lq)]) (zcons (zieq (by omega)) rfl) ?_
                        refine zp_back (zp_runVO hC hH.2.2 hl.1 (zO_up hC hlit.2.1) 1 (As := [.int (iZ (((c : Nat) : Int)))]) (rest := []) (u_J2_charAt_s lau s0 G lq lva 44 wC hlit.2 hcs hsi (c) (by omega)) (lw_V q1583 q1584 q1585 q99 q1586) ⟨rfl, by decide, by decide, by decide +kernel⟩ rfl rfl (Nat.le_of_ble_eq_true rfl) ⟨Nat.le_of_ble_eq_true rfl, Nat.le_of_ble_eq_true rfl⟩ ⟨Nat.le_of_ble_eq_true rfl, Nat.le_of_ble_eq_true rfl⟩ dX7_wordHere_100) (fun _ _ => ?_)
                        refine z_st (st' := [.int (iZ (((wC (c) : Nat) : Int)))]) rfl ?_
                        refine z_bipush hC 103 dX7_wordHere_103 rfl ?_
                        refine z_icmp_eq hC 105 114 dX7_wordHere_105 rfl (by omega) (by omega) (fun hb11 => ?_) (fun hb11 => ?_)
                        · -- 105t
                          refine z_iinc (lv' := [(2, .int (iZ ((c : Int) + 1))), (0, .ref (ad 0)), (1, .int (iZ ((k : Int))))]) hC 114 hl dX7_wordHere_114 2 rfl (by omega) (by decide) rfl (fun ls hl => ?_)
                          refine z_iinc (lv' := [(1, .int (iZ ((k : Int) + 1))), (2, .int (iZ ((c : Int) + 1))), (0, .ref (ad 0))]) hC 117 hl dX7_wordHere_117 2 rfl (by omega) (by decide) rfl (fun ls hl => ?_)
                          refine z_goto hC 120 4 dX7_wordHere_120 rfl ?_
                          -- J4.12
                          exact ih4 (k + 1) _ _ _ (by omega) (by first | assumption | omega) (by first | (intro j hj; omega) | (intro j hj; by_cases e9 : j = k; (rw [e9]; exact hno); exact ik j (by omega))) hH (z_lv (lv_sub hl [2, 0, 1] rfl) (zcons rfl (zcons (zpeq (by omega)) (zcons (zpeq (by omega)) rfl))))
                        · -- 105f
                          refine z_iinc (lv' := [(2, .int (iZ ((c : Int) + 1))), (0, .ref (ad 0)), (1, .int (iZ ((k : Int))))]) hC 108 hl dX7_wordHere_108 2 rfl (by omega) (by decide) rfl (fun ls hl => ?_)
                          refine z_goto hC 111 97 dX7_wordHere_111 rfl ?_
                          -- J97.13
                          exact ih97 (c + 1) _ _ _ (by omega) (by first | assumption | omega) (by first | assumption | omega) (by first | exact hno | (intro q; have q1 := q.1; have q2 := q.2 i; omega)) hH (z_lv (lv_sub hl [1, 2, 0] rfl) (zcons rfl (zcons rfl (zcons (zpeq (by omega)) rfl))))
                    -- J97.14
                    exact L97 _ (wO k) _ _ _ (Nat.lt_succ_self _) (by first | assumption | omega) (by first | assumption | omega) (by first | exact hno | (intro q; have q1 := q.1; have q2 := q.2 i; omega)) hH (lv_sub hl [0, 1, 2] rfl)
                  · -- 92f
                    refine z_iload_n hC 95 hl dX7_wordHere_95 rfl 1 rfl ?_
                    -- R96.15
                    exact z_iret hC hH hQ 96 ((k, (k : Int))) dX7_wordHere_96 rfl ⟨by exact Or.inl ⟨hk8, by omega, fun j hj => ii j (by omega)⟩, by first | exact Or.inl ⟨rfl, rfl⟩ | exact Or.inr ⟨hk8, rfl⟩⟩ rfl (Nat.le_refl _) (Nat.le_refl _)
              · -- 38f
                have htx := htb (pl + i) (by omega)
                refine z_aload_n hC 41 hl dX7_wordHere_41 rfl 0 rfl ?_
                refine gmW_1 hC hH 42 dX7_wordHere_42 ?_
                refine z_aload_n hC 45 hl dX7_wordHere_45 rfl 0 rfl ?_
                refine gmW_24 (x := (pl : Int)) hC hH 46 rfl dX7_wordHere_46 ?_
                refine z_iload_n hC 49 hl dX7_wordHere_49 rfl 3 rfl ?_
                refine z_iadd (e := (pl : Int) + (i : Int)) hC 50 dX7_wordHere_50 rfl ?_
                refine lmW_1 (x := ((t (pl + i) : Nat) : Int)) hC hH 51 (pl + i) (by omega) (by omega) rfl dX7_wordHere_51 ?_
                refine zp_ldcS hC 52 hlit.1 dX7_wordHere_52 ?_
                refine z_iload_n hC 54 hl dX7_wordHere_54 rfl 2 rfl ?_
                refine z_iload_n hC 55 hl dX7_wordHere_55 rfl 3 rfl ?_
                refine z_iadd (e := ((wO k : Nat) : Int) + (i : Int)) hC 56 dX7_wordHere_56 rfl ?_
                refine z_st (st' := [.int (iZ ((((wO k) + i : Nat) : Int))), .ref (lq), .int (iZ (((t (pl + i) : Nat) : Int)))]) (zcons (zieq (by omega)) rfl) ?_
                refine zp_back (zp_runVO hC hH.2.2 hl.1 (zO_up hC hlit.2.1) 1 (As := [.int (iZ ((((wO k) + i : Nat) : Int)))]) (rest := [.int (iZ (((t (pl + i) : Nat) : Int)))]) (u_J2_charAt_s lau s0 G lq lva 44 wC hlit.2 hcs hsi ((wO k) + i) (by omega)) (lw_V q1583 q1584 q1585 q99 q1586) ⟨rfl, by decide, by decide, by decide +kernel⟩ rfl rfl (Nat.le_of_ble_eq_true rfl) ⟨Nat.le_of_ble_eq_true rfl, Nat.le_of_ble_eq_true rfl⟩ ⟨Nat.le_of_ble_eq_true rfl, Nat.le_of_ble_eq_true rfl⟩ dX7_wordHere_57) (fun _ _ => ?_)
                refine z_st (st' := [.int (iZ (((wC ((wO k) + i) : Nat) : Int))), .int (iZ (((t (pl + i) : Nat) : Int)))]) rfl ?_
                refine z_icmp_ne hC 60 69 dX7_wordHere_60 rfl (by omega) (by omega) (fun hb12 => ?_) (fun hb12 => ?_)
                · -- 60t
                  refine zp_ldcS hC 69 hlit.1 dX7_wordHere_69 ?_
                  refine z_iload_n hC 71 hl dX7_wordHere_71 rfl 2 rfl ?_
                  refine z_iload_n hC 72 hl dX7_wordHere_72 rfl 3 rfl ?_
                  refine z_iadd (e := ((wO k : Nat) : Int) + (i : Int)) hC 73 dX7_wordHere_73 rfl ?_
                  refine z_st (st' := [.int (iZ ((((wO k) + i : Nat) : Int))), .ref (lq)]) (zcons (zieq (by omega)) rfl) ?_
                  refine zp_back (zp_runVO hC hH.2.2 hl.1 (zO_up hC hlit.2.1) 1 (As := [.int (iZ ((((wO k) + i : Nat) : Int)))]) (rest := []) (u_J2_charAt_s lau s0 G lq lva 44 wC hlit.2 hcs hsi ((wO k) + i) (by omega)) (lw_V q1583 q1584 q1585 q99 q1586) ⟨rfl, by decide, by decide, by decide +kernel⟩ rfl rfl (Nat.le_of_ble_eq_true rfl) ⟨Nat.le_of_ble_eq_true rfl, Nat.le_of_ble_eq_true rfl⟩ ⟨Nat.le_of_ble_eq_true rfl, Nat.le_of_ble_eq_true rfl⟩ dX7_wordHere_74) (fun _ _ => ?_)
                  refine z_st (st' := [.int (iZ (((wC ((wO k) + i) : Nat) : Int)))]) rfl ?_
                  refine z_bipush hC 77 dX7_wordHere_77 rfl ?_
                  refine z_icmp_ne hC 79 97 dX7_wordHere_79 rfl (by omega) (by omega) (fun hb13 => ?_) (fun hb13 => ?_)
                  · -- 79t
                    have L97 : ∀ (N_ : Nat) (c : Nat) (H : Heap) (locs : List Loc) (ls : Array Slot), wO k + wL k + 1 - c < N_ → (wO k ≤ c) → (c ≤ wO k + wL k) → (¬ wIs t pl e k) → zH s0 s1 G as0 (mW ad G (va_up (va_up F 23 ((e : Int))) 24 ((pl : Int))) (va_up Ar 1 (nA t))) H locs → lv_has ls 4 [(0, .ref (ad 0)), (1, .int (iZ ((k : Int)))), (2, .int (iZ ((c : Int))))] → W pg lau ev (zRm 4 0 0 85) s1 mi ar bl me cd H locs 0 0 Q (F0 mi 97 ls []) := by
                      intro N_
                      induction N_ with
                      | zero => intro c H locs ls hd; exact absurd hd (Nat.not_lt_zero _)
                      | succ N_ ih97 =>
                        intro c H locs ls hd97 i97_1 i97_2 hno hH hl
                        have hwj := w_f2 k hk8 (c - wO k) (by omega) (by omega)
                        have hwd := w_f3 c (by omega)
                        rw [show wO k + (c - wO k) = c by omega] at hwj
                        refine zp_ldcS hC 97 hlit.1 dX7_wordHere_97 ?_
                        refine z_iload_n hC 99 hl dX7_wordHere_99 rfl 2 rfl ?_
                        refine z_st (st' := [.int (iZ (((c : Nat) : Int))), .ref (lq)]) (zcons (zieq (by omega)) rfl) ?_
                        refine zp_back (zp_runVO hC hH.2.2 hl.1 (zO_up hC hlit.2.1) 1 (As := [.int (iZ (((c : Nat) : Int)))]) (rest := []) (u_J2_charAt_s lau s0 G lq lva 44 wC hlit.2 hcs hsi (c) (by omega)) (lw_V q1583 q1584 q1585 q99 q1586) ⟨rfl, by decide, by decide, by decide +kernel⟩ rfl rfl (Nat.le_of_ble_eq_true rfl) ⟨Nat.le_of_ble_eq_true rfl, Nat.le_of_ble_eq_true rfl⟩ ⟨Nat.le_of_ble_eq_true rfl, Nat.le_of_ble_eq_true rfl⟩ dX7_wordHere_100) (fun _ _ => ?_)
                        refine z_st (st' := [.int (iZ (((wC (c) : Nat) : Int)))]) rfl ?_
                        refine z_bipush hC 103 dX7_wordHere_103 rfl ?_
                        refine z_icmp_eq hC 105 114 dX7_wordHere_105 rfl (by omega) (by omega) (fun hb14 => ?_) (fun hb14 => ?_)
                        · -- 105t
                          refine z_iinc (lv' := [(2, .int (iZ ((c : Int) + 1))), (0, .ref (ad 0)), (1, .int (iZ ((k : Int))))]) hC 114 hl dX7_wordHere_114 2 rfl (by omega) (by decide) rfl (fun ls hl => ?_)
                          refine z_iinc (lv' := [(1, .int (iZ ((k : Int) + 1))), (2, .int (iZ ((c : Int) + 1))), (0, .ref (ad 0))]) hC 117 hl dX7_wordHere_117 2 rfl (by omega) (by decide) rfl (fun ls hl => ?_)
                          refine z_goto hC 120 4 dX7_wordHere_120 rfl ?_
                          -- J4.16
                          exact ih4 (k + 1) _ _ _ (by omega) (by first | assumption | omega) (by first | (intro j hj; omega) | (intro j hj; by_cases e9 : j = k; (rw [e9]; exact hno); exact ik j (by omega))) hH (z_lv (lv_sub hl [2, 0, 1] rfl) (zcons rfl (zcons (zpeq (by omega)) (zcons (zpeq (by omega)) rfl))))
                        · -- 105f
                          refine z_iinc (lv' := [(2, .int (iZ ((c : Int) + 1))), (0, .ref (ad 0)), (1, .int (iZ ((k : Int))))]) hC 108 hl dX7_wordHere_108 2 rfl (by omega) (by decide) rfl (fun ls hl => ?_)
                          refine z_goto hC 111 97 dX7_wordHere_111 rfl ?_
                          -- J97.17
                          exact ih97 (c + 1) _ _ _ (by omega) (by first | assumption | omega) (by first | assumption | omega) (by first | exact hno | (intro q; have q1 := q.1; have q2 := q.2 i; omega)) hH (z_lv (lv_sub hl [1, 2, 0] rfl) (zcons rfl (zcons rfl (zcons (zpeq (by omega)) rfl))))
                    -- J97.18
                    exact L97 _ (wO k) _ _ _ (Nat.lt_succ_self _) (by first | assumption | omega) (by first | assumption | omega) (by first | exact hno | (intro q; have q1 := q.1; have q2 := q.2 i; omega)) hH (lv_sub hl [0, 1, 2] rfl)
                  · -- 79f
                    refine z_aload_n hC 82 hl dX7_wordHere_82 rfl 0 rfl ?_
                    refine gmW_24 (x := (pl : Int)) hC hH 83 rfl dX7_wordHere_83 ?_
                    refine z_iload_n hC 86 hl dX7_wordHere_86 rfl 3 rfl ?_
                    refine z_iadd (e := (pl : Int) + (i : Int)) hC 87 dX7_wordHere_87 rfl ?_
                    refine z_aload_n hC 88 hl dX7_wordHere_88 rfl 0 rfl ?_
                    refine gmW_23 (x := (e : Int)) hC hH 89 rfl dX7_wordHere_89 ?_
                    refine z_icmp_ne hC 92 97 dX7_wordHere_92 rfl (by omega) (by omega) (fun hb15 => ?_) (fun hb15 => ?_)
                    · -- 92t
                      have L97 : ∀ (N_ : Nat) (c : Nat) (H : Heap) (locs : List Loc) (ls : Array Slot), wO k + wL k + 1 - c < N_ → (wO k ≤ c) → (c ≤ wO k + wL k) → (¬ wIs t pl e k) → zH s0 s1 G as0 (mW ad G (va_up (va_up F 23 ((e : Int))) 24 ((pl : Int))) (va_up Ar 1 (nA t))) H locs → lv_has ls 4 [(0, .ref (ad 0)), (1, .int (iZ ((k : Int)))), (2, .int (iZ ((c : Int))))] → W pg lau ev (zRm 4 0 0 85) s1 mi ar bl me cd H locs 0 0 Q (F0 mi 97 ls []) := by
                        intro N_
                        induction N_ with
                        | zero => intro c H locs ls hd; exact absurd hd (Nat.not_lt_zero _)
                        | succ N_ ih97 =>
                          intro c H locs ls hd97 i97_1 i97_2 hno hH hl
                          have hwj := w_f2 k hk8 (c - wO k) (by omega) (by omega)
                          have hwd := w_f3 c (by omega)
                          rw [show wO k + (c - wO k) = c by omega] at hwj
                          refine zp_ldcS hC 97 hlit.1 dX7_wordHere_97 ?_
                          refine z_iload_n hC 99 hl dX7_wordHere_99 rfl 2 rfl ?_
                          refine z_st (st' := [.int (iZ (((c : Nat) : Int))), .ref (lq)]) (zcons (zieq (by omega)) rfl) ?_
                          refine zp_back (zp_runVO hC hH.2.2 hl.1 (zO_up hC hlit.2.1) 1 (As := [.int (iZ (((c : Nat) : Int)))]) (rest := []) (u_J2_charAt_s lau s0 G lq lva 44 wC hlit.2 hcs hsi (c) (by omega)) (lw_V q1583 q1584 q1585 q99 q1586) ⟨rfl, by decide, by decide, by decide +kernel⟩ rfl rfl (Nat.le_of_ble_eq_true rfl) ⟨Nat.le_of_ble_eq_true rfl, Nat.le_of_ble_eq_true rfl⟩ ⟨Nat.le_of_ble_eq_true rfl, Nat.le_of_ble_eq_true rfl⟩ dX7_wordHere_100) (fun _ _ => ?_)
                          refine z_st (st' := [.int (iZ (((wC (c) : Nat) : Int)))]) rfl ?_
                          refine z_bipush hC 103 dX7_wordHere_103 rfl ?_
                          refine z_icmp_eq hC 105 114 dX7_wordHere_105 rfl (by omega) (by omega) (fun hb16 => ?_) (fun hb16 => ?_)
                          · -- 105t
                            refine z_iinc (lv' := [(2, .int (iZ ((c : Int) + 1))), (0, .ref (ad 0)), (1, .int (iZ ((k : Int))))]) hC 114 hl dX7_wordHere_114 2 rfl (by omega) (by decide) rfl (fun ls hl => ?_)
                            refine z_iinc (lv' := [(1, .int (iZ ((k : Int) + 1))), (2, .int (iZ ((c : Int) + 1))), (0, .ref (ad 0))]) hC 117 hl dX7_wordHere_117 2 rfl (by omega) (by decide) rfl (fun ls hl => ?_)
                            refine z_goto hC 120 4 dX7_wordHere_120 rfl ?_
                            -- J4.19
                            exact ih4 (k + 1) _ _ _ (by omega) (by first | assumption | omega) (by first | (intro j hj; omega) | (intro j hj; by_cases e9 : j = k; (rw [e9]; exact hno); exact ik j (by omega))) hH (z_lv (lv_sub hl [2, 0, 1] rfl) (zcons rfl (zcons (zpeq (by omega)) (zcons (zpeq (by omega)) rfl))))
                          · -- 105f
                            refine z_iinc (lv' := [(2, .int (iZ ((c : Int) + 1))), (0, .ref (ad 0)), (1, .int (iZ ((k : Int))))]) hC 108 hl dX7_wordHere_108 2 rfl (by omega) (by decide) rfl (fun ls hl => ?_)
                            refine z_goto hC 111 97 dX7_wordHere_111 rfl ?_
                            -- J97.20
                            exact ih97 (c + 1) _ _ _ (by omega) (by first | assumption | omega) (by first | assumption | omega) (by first | exact hno | (intro q; have q1 := q.1; have q2 := q.2 i; omega)) hH (z_lv (lv_sub hl [1, 2, 0] rfl) (zcons rfl (zcons rfl (zcons (zpeq (by omega)) rfl))))
                      -- J97.21
                      exact L97 _ (wO k) _ _ _ (Nat.lt_succ_self _) (by first | assumption | omega) (by first | assumption | omega) (by first | exact hno | (intro q; have q1 := q.1; have q2 := q.2 i; omega)) hH (lv_sub hl [0, 1, 2] rfl)
                    · -- 92f
                      refine z_iload_n hC 95 hl dX7_wordHere_95 rfl 1 rfl ?_
                      -- R96.22
                      exact z_iret hC hH hQ 96 ((k, (k : Int))) dX7_wordHere_96 rfl ⟨by exact Or.inl ⟨hk8, by omega, fun j hj => ii j (by omega)⟩, by first | exact Or.inl ⟨rfl, rfl⟩ | exact Or.inr ⟨hk8, rfl⟩⟩ rfl (Nat.le_refl _) (Nat.le_refl _)
                · -- 60f
                  refine z_iinc (lv' := [(3, .int (iZ ((i : Int) + 1))), (0, .ref (ad 0)), (1, .int (iZ ((k : Int)))), (2, .int (iZ (((wO k : Nat) : Int))))]) hC 63 hl dX7_wordHere_63 3 rfl (by omega) (by decide) rfl (fun ls hl => ?_)
                  refine z_goto hC 66 15 dX7_wordHere_66 rfl ?_
                  -- J15.23
                  exact ih15 (i + 1) _ _ _ (by omega) (by first | assumption | omega) (by first | (intro j hj; omega) | (intro j hj; by_cases e9 : j = i; (rw [e9]; omega); exact ii j (by omega))) hH (z_lv (lv_sub hl [1, 2, 3, 0] rfl) (zcons rfl (zcons rfl (zcons rfl (zcons (zpeq (by omega)) rfl)))))
        -- J15.24
        exact L15 _ 0 _ _ _ (Nat.lt_succ_self _) (by first | assumption | omega) (by first | (intro j hj; omega) | (intro j hj; by_cases e9 : j = i; (rw [e9]; omega); exact ii j (by omega))) hH (z_lv (lv_sub hl [1, 2, 3, 0] rfl) (zcons rfl (zcons rfl (zcons rfl (zcons (zpeq (by omega)) rfl)))))
  -- J4.25
  exact L4 _ 0 _ _ _ (Nat.lt_succ_self _) (by first | assumption | omega) (by first | (intro j hj; omega) | (intro j hj; by_cases e9 : j = k; (rw [e9]; exact hno); exact ik j (by omega))) hH (z_lv (lv_sub hl [2, 1, 0] rfl) (zcons rfl (zcons (zpeq (by omega)) (zcons (zpeq (by omega)) rfl))))
