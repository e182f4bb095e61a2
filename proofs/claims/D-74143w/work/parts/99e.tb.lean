/-! methods of ModeDeskModel: 99e.tb -/
set_option maxHeartbeats 8000000 in
set_option maxRecDepth 100000 in
theorem m_X7_token (lau : Launch) (s0 : State) (G : zG) (sz : Nat) (ad : Nat → Nat) (F : Nat → Int) (Ar : Nat → Nat → Int) (t : Nat → Nat) (tn : Nat) (lq : Nat) (lva : Nat) (a : Nat) (htn : tn ≤ 900) (htb : ∀ i, i < tn → t i < 256) (hlit : zLit s0 "ModeDeskModel" 107 "first last least most row weight block ties " lq lva 44 wC) (hcs : zCS s0) (hsi : zSio s0) (ha : a ≤ tn) : zMet (S := Nat × Nat × Nat × Nat × Int × Int) lau yX7_token cX7_token 2 (none) 5 108 0 0 s0 G sz [.ref (ad 0)] (mW ad G (va_up (va_up F 22 ((tn : Int))) 23 ((a : Int))) (va_up Ar 1 (nA t))) (fun ((so, pl, vl, nx, st, nu) : Nat × Nat × Nat × Nat × Int × Int) => (none : Option Value)) (fun ((so, pl, vl, nx, st, nu) : Nat × Nat × Nat × Nat × Int × Int) => (TOK t tn a so pl vl nx) ∧ (TKA tn so pl vl nx st nu) ∧ (a ≤ pl)) (fun ((so, pl, vl, nx, st, nu) : Nat × Nat × Nat × Nat × Int × Int) => (mW ad G (va_up (va_up (va_up (va_up (va_up F 22 ((tn : Int))) 23 ((nx : Int))) 24 ((pl : Int))) 25 (st)) 26 (nu)) (va_up Ar 1 (nA t)))) := by
  refine zMet.of (by decide) (Nat.le_of_ble_eq_true rfl) ?_
  intro pg ev s1 mi ar bl me cd ls Q as0 hC hH hl hQ hsz
  generalize s1.heap = H at hH ⊢
  generalize ([] : List Loc) = locs at hH ⊢
  have hl : lv_has ls 2 [(0, .ref (ad 0))] := hl
  have L0 : ∀ (N_ : Nat) (b : Nat) (H : Heap) (locs : List Loc) (ls : Array Slot), tn + 1 - b < N_ → (b ≤ tn) → (SKi tW t tn a b) → zH s0 s1 G as0 (mW ad G (va_up (va_up F 22 ((tn : Int))) 23 ((b : Int))) (va_up Ar 1 (nA t))) H locs → lv_has ls 2 [(0, .ref (ad 0))] → W pg lau ev (zRm 5 0 0 108) s1 mi ar bl me cd H locs 0 0 Q (F0 mi 0 ls []) := by
    intro N_
    induction N_ with
    | zero => intro b H locs ls hd; exact absurd hd (Nat.not_lt_zero _)
    | succ N_ ih0 =>
      intro b H locs ls hd0 i0_1 ib hH hl
      refine z_aload_n hC 0 hl dX7_token_0 rfl 0 rfl ?_
      refine z_same (z_runV hC hH.2.2 hl.1 hH.1 hH.2.1 0 (As := []) (rest := []) (m_X7_here lau s0 G _ ad (va_up (va_up F 22 ((tn : Int))) 23 ((b : Int))) (va_up Ar 1 (nA t)) t tn b (by first | assumption | omega) (by first | assumption | omega) (by first | assumption | omega)) (lw_V q1563 q1565 qs47 q95 q1566) ⟨rfl, by decide, by decide, by decide +kernel⟩ (q0 := 0) (ci := 0) rfl rfl rfl rfl (Nat.le_of_ble_eq_true rfl) ⟨Nat.le_of_ble_eq_true rfl, Nat.le_of_ble_eq_true rfl⟩ ⟨Nat.le_of_ble_eq_true rfl, Nat.le_of_ble_eq_true rfl⟩ dX7_token_1) hH (fun z_1 H locs hpost hH => ?_)
      obtain ⟨pz_1, pr_1⟩ : (z_1 = hereZ t tn b) ∧ (-1 ≤ z_1 ∧ z_1 < 256) := hpost
      have hH : zH s0 s1 G as0 (mW ad G (va_up (va_up F 22 ((tn : Int))) 23 ((b : Int))) (va_up Ar 1 (nA t))) H locs := hH
      refine z_st (st' := [.int (iZ (z_1))]) rfl ?_
      refine z_bipush hC 4 dX7_token_4 rfl ?_
      refine z_icmp_eq hC 6 18 dX7_token_6 rfl (by omega) (by omega) (fun hb1 => ?_) (fun hb1 => ?_)
      · -- 6t
        have hbl : b < tn := hz_lt (t := t) (by omega)
        refine z_aload_n hC 18 hl dX7_token_18 rfl 0 rfl ?_
        refine z_dup hC 19 dX7_token_19 rfl ?_
        refine gmW_23 (x := (b : Int)) hC hH 20 rfl dX7_token_20 ?_
        refine z_iconst hC 23 dX7_token_23 ?_
        refine z_iadd (e := (b : Int) + 1) hC 24 dX7_token_24 rfl ?_
        refine pmW_23 hC hH 25 dX7_token_25 (fun H locs hH => ?_)
        have hH : zH s0 s1 G as0 (mW ad G (va_up (va_up F 22 ((tn : Int))) 23 ((b : Int) + 1)) (va_up Ar 1 (nA t))) H locs := hH
        refine z_goto hC 28 0 dX7_token_28 rfl ?_
        -- J0.1
        exact ih0 (b + 1) _ _ _ (by omega) (by first | assumption | omega) (by first | exact SKi_0 | exact SKi_s ib (Or.inl (by omega)) | exact SKi_s ib (Or.inr (by omega))) (by rw [show ((b : Int) + 1 : Int) = ((b + 1 : Nat) : Int) from by omega] at hH; exact hH) (lv_sub hl [0] rfl)
      · -- 6f
        refine z_aload_n hC 9 hl dX7_token_9 rfl 0 rfl ?_
        refine z_same (z_runV hC hH.2.2 hl.1 hH.1 hH.2.1 0 (As := []) (rest := []) (m_X7_here lau s0 G _ ad (va_up (va_up F 22 ((tn : Int))) 23 ((b : Int))) (va_up Ar 1 (nA t)) t tn b (by first | assumption | omega) (by first | assumption | omega) (by first | assumption | omega)) (lw_V q1563 q1565 qs47 q95 q1566) ⟨rfl, by decide, by decide, by decide +kernel⟩ (q0 := 0) (ci := 0) rfl rfl rfl rfl (Nat.le_of_ble_eq_true rfl) ⟨Nat.le_of_ble_eq_true rfl, Nat.le_of_ble_eq_true rfl⟩ ⟨Nat.le_of_ble_eq_true rfl, Nat.le_of_ble_eq_true rfl⟩ dX7_token_10) hH (fun z_10 H locs hpost hH => ?_)
        obtain ⟨pz_10, pr_10⟩ : (z_10 = hereZ t tn b) ∧ (-1 ≤ z_10 ∧ z_10 < 256) := hpost
        have hH : zH s0 s1 G as0 (mW ad G (va_up (va_up F 22 ((tn : Int))) 23 ((b : Int))) (va_up Ar 1 (nA t))) H locs := hH
        refine z_st (st' := [.int (iZ (z_10))]) rfl ?_
        refine z_bipush hC 13 dX7_token_13 rfl ?_
        refine z_icmp_ne hC 15 31 dX7_token_15 rfl (by omega) (by omega) (fun hb2 => ?_) (fun hb2 => ?_)
        · -- 15t
          have hsk : SKP tW t tn a b := ⟨ib, by unfold tW; omega⟩
          refine z_aload_n hC 31 hl dX7_token_31 rfl 0 rfl ?_
          refine z_aload_n hC 32 hl dX7_token_32 rfl 0 rfl ?_
          refine gmW_23 (x := (b : Int)) hC hH 33 rfl dX7_token_33 ?_
          refine pmW_24 hC hH 36 dX7_token_36 (fun H locs hH => ?_)
          have hH : zH s0 s1 G as0 (mW ad G (va_up (va_up (va_up F 22 ((tn : Int))) 23 ((b : Int))) 24 ((b : Int))) (va_up Ar 1 (nA t))) H locs := hH
          refine z_aload_n hC 39 hl dX7_token_39 rfl 0 rfl ?_
          refine z_same (z_runV hC hH.2.2 hl.1 hH.1 hH.2.1 0 (As := []) (rest := []) (m_X7_here lau s0 G _ ad (va_up (va_up (va_up F 22 ((tn : Int))) 23 ((b : Int))) 24 ((b : Int))) (va_up Ar 1 (nA t)) t tn b (by first | assumption | omega) (by first | assumption | omega) (by first | assumption | omega)) (lw_V q1563 q1565 qs47 q95 q1566) ⟨rfl, by decide, by decide, by decide +kernel⟩ (q0 := 0) (ci := 0) rfl rfl rfl rfl (Nat.le_of_ble_eq_true rfl) ⟨Nat.le_of_ble_eq_true rfl, Nat.le_of_ble_eq_true rfl⟩ ⟨Nat.le_of_ble_eq_true rfl, Nat.le_of_ble_eq_true rfl⟩ dX7_token_40) hH (fun z_40 H locs hpost hH => ?_)
          obtain ⟨pz_40, pr_40⟩ : (z_40 = hereZ t tn b) ∧ (-1 ≤ z_40 ∧ z_40 < 256) := hpost
          have hH : zH s0 s1 G as0 (mW ad G (va_up (va_up (va_up F 22 ((tn : Int))) 23 ((b : Int))) 24 ((b : Int))) (va_up Ar 1 (nA t))) H locs := hH
          refine z_st (st' := [.int (iZ (z_40))]) rfl ?_
          refine z_istore_n (lv' := [(1, .int (iZ (z_40))), (0, .ref (ad 0))]) hC 43 hl dX7_token_43 rfl (by decide) rfl (fun ls hl => ?_)
          refine z_iload_n hC 44 hl dX7_token_44 rfl 0 rfl ?_
          refine z_iconst hC 45 dX7_token_45 ?_
          refine z_icmp_ne hC 46 57 dX7_token_46 rfl (by omega) (by omega) (fun hb3 => ?_) (fun hb3 => ?_)
          · -- 46t
            refine z_iload_n hC 57 hl dX7_token_57 rfl 0 rfl ?_
            refine z_same (z_runS hC hH.2.2 hl.1 hH.1 hH.2.1 1 (As := [.int (iZ (z_40))]) (rest := []) (m_X7_isSmall lau s0 G _ ad (va_up (va_up (va_up F 22 ((tn : Int))) 23 ((b : Int))) 24 ((b : Int))) (va_up Ar 1 (nA t)) z_40 (by first | assumption | omega)) (lw_S q1567 q1568 q95 q1569) ⟨by decide, by decide, by decide +kernel⟩ rfl rfl (Nat.le_of_ble_eq_true rfl) ⟨Nat.le_of_ble_eq_true rfl, Nat.le_of_ble_eq_true rfl⟩ ⟨Nat.le_of_ble_eq_true rfl, Nat.le_of_ble_eq_true rfl⟩ dX7_token_58) hH (fun r_58 H locs hpost hH => ?_)
            have hb_58 : (r_58 = 1 ∧ (97 ≤ z_40 ∧ z_40 ≤ 122)) ∨ (r_58 = 0 ∧ ¬ (97 ≤ z_40 ∧ z_40 ≤ 122)) := hpost
            have hH : zH s0 s1 G as0 (mW ad G (va_up (va_up (va_up F 22 ((tn : Int))) 23 ((b : Int))) 24 ((b : Int))) (va_up Ar 1 (nA t))) H locs := hH
            refine z_st (st' := [.int (iZ (r_58))]) rfl ?_
            rcases hb_58 with ⟨rfl, hb_58⟩ | ⟨rfl, hb_58⟩
            · -- 58=1
              refine z_if_eq_f hC 61 103 dX7_token_61 rfl (by omega) (by omega) ?_
              have L64 : ∀ (N_ : Nat) (e : Nat) (H : Heap) (locs : List Loc) (ls : Array Slot), tn + 1 - e < N_ → (b ≤ e) → (e ≤ tn) → (SKi tS t tn b e) → zH s0 s1 G as0 (mW ad G (va_up (va_up (va_up F 22 ((tn : Int))) 23 ((e : Int))) 24 ((b : Int))) (va_up Ar 1 (nA t))) H locs → lv_has ls 2 [(0, .ref (ad 0)), (1, .int (iZ (z_40)))] → W pg lau ev (zRm 5 0 0 108) s1 mi ar bl me cd H locs 0 0 Q (F0 mi 64 ls []) := by
                intro N_
                induction N_ with
                | zero => intro e H locs ls hd; exact absurd hd (Nat.not_lt_zero _)
                | succ N_ ih64 =>
                  intro e H locs ls hd64 i64_1 i64_2 ie hH hl
                  refine z_aload_n hC 64 hl dX7_token_64 rfl 0 rfl ?_
                  refine z_same (z_runV hC hH.2.2 hl.1 hH.1 hH.2.1 0 (As := []) (rest := []) (m_X7_here lau s0 G _ ad (va_up (va_up (va_up F 22 ((tn : Int))) 23 ((e : Int))) 24 ((b : Int))) (va_up Ar 1 (nA t)) t tn e (by first | assumption | omega) (by first | assumption | omega) (by first | assumption | omega)) (lw_V q1563 q1565 qs47 q95 q1566) ⟨rfl, by decide, by decide, by decide +kernel⟩ (q0 := 0) (ci := 0) rfl rfl rfl rfl (Nat.le_of_ble_eq_true rfl) ⟨Nat.le_of_ble_eq_true rfl, Nat.le_of_ble_eq_true rfl⟩ ⟨Nat.le_of_ble_eq_true rfl, Nat.le_of_ble_eq_true rfl⟩ dX7_token_65) hH (fun z_65 H locs hpost hH => ?_)
                  obtain ⟨pz_65, pr_65⟩ : (z_65 = hereZ t tn e) ∧ (-1 ≤ z_65 ∧ z_65 < 256) := hpost
                  have hH : zH s0 s1 G as0 (mW ad G (va_up (va_up (va_up F 22 ((tn : Int))) 23 ((e : Int))) 24 ((b : Int))) (va_up Ar 1 (nA t))) H locs := hH
                  refine z_st (st' := [.int (iZ (z_65))]) rfl ?_
                  refine z_same (z_runS hC hH.2.2 hl.1 hH.1 hH.2.1 1 (As := [.int (iZ (z_65))]) (rest := []) (m_X7_isSmall lau s0 G _ ad (va_up (va_up (va_up F 22 ((tn : Int))) 23 ((e : Int))) 24 ((b : Int))) (va_up Ar 1 (nA t)) z_65 (by first | assumption | omega)) (lw_S q1567 q1568 q95 q1569) ⟨by decide, by decide, by decide +kernel⟩ rfl rfl (Nat.le_of_ble_eq_true rfl) ⟨Nat.le_of_ble_eq_true rfl, Nat.le_of_ble_eq_true rfl⟩ ⟨Nat.le_of_ble_eq_true rfl, Nat.le_of_ble_eq_true rfl⟩ dX7_token_68) hH (fun r_68 H locs hpost hH => ?_)
                  have hb_68 : (r_68 = 1 ∧ (97 ≤ z_65 ∧ z_65 ≤ 122)) ∨ (r_68 = 0 ∧ ¬ (97 ≤ z_65 ∧ z_65 ≤ 122)) := hpost
                  have hH : zH s0 s1 G as0 (mW ad G (va_up (va_up (va_up F 22 ((tn : Int))) 23 ((e : Int))) 24 ((b : Int))) (va_up Ar 1 (nA t))) H locs := hH
                  refine z_st (st' := [.int (iZ (r_68))]) rfl ?_
                  rcases hb_68 with ⟨rfl, hb_68⟩ | ⟨rfl, hb_68⟩
                  · -- 68=1
                    refine z_if_eq_f hC 71 87 dX7_token_71 rfl (by omega) (by omega) ?_
                    have hel : e < tn := hz_lt (t := t) (by omega)
                    refine z_aload_n hC 74 hl dX7_token_74 rfl 0 rfl ?_
                    refine z_dup hC 75 dX7_token_75 rfl ?_
                    refine gmW_23 (x := (e : Int)) hC hH 76 rfl dX7_token_76 ?_
                    refine z_iconst hC 79 dX7_token_79 ?_
                    refine z_iadd (e := (e : Int) + 1) hC 80 dX7_token_80 rfl ?_
                    refine pmW_23 hC hH 81 dX7_token_81 (fun H locs hH => ?_)
                    have hH : zH s0 s1 G as0 (mW ad G (va_up (va_up (va_up F 22 ((tn : Int))) 23 ((e : Int) + 1)) 24 ((b : Int))) (va_up Ar 1 (nA t))) H locs := hH
                    refine z_goto hC 84 64 dX7_token_84 rfl ?_
                    -- J64.2
                    exact ih64 (e + 1) _ _ _ (by omega) (by first | assumption | omega) (by first | assumption | omega) (by first | exact SKi_0 | exact SKi_s ie (by unfold tS; omega)) (by rw [show ((e : Int) + 1 : Int) = ((e + 1 : Nat) : Int) from by omega] at hH; exact hH) (lv_sub hl [0, 1] rfl)
                  · -- 68=0
                    refine z_if_eq_t hC 71 87 dX7_token_71 rfl (by omega) (by omega) ?_
                    have hse : SKP tS t tn b e := ⟨ie, by unfold tS; omega⟩
                    have hts : tS (hereZ t tn b) := by unfold tS; omega
                    refine z_aload_n hC 87 hl dX7_token_87 rfl 0 rfl ?_
                    refine z_iconst hC 88 dX7_token_88 ?_
                    refine pmW_25 hC hH 89 dX7_token_89 (fun H locs hH => ?_)
                    have hH : zH s0 s1 G as0 (mW ad G (va_up (va_up (va_up (va_up F 22 ((tn : Int))) 23 ((e : Int))) 24 ((b : Int))) 25 (0)) (va_up Ar 1 (nA t))) H locs := hH
                    refine z_aload_n hC 92 hl dX7_token_92 rfl 0 rfl ?_
                    refine z_aload_n hC 93 hl dX7_token_93 rfl 0 rfl ?_
                    refine z_same (z_runV hC hH.2.2 hl.1 hH.1 hH.2.1 0 (As := []) (rest := [.ref (ad 0)]) (m_X7_wordHere lau s0 G _ ad (va_up (va_up (va_up (va_up F 22 ((tn : Int))) 23 ((e : Int))) 24 ((b : Int))) 25 (0)) (va_up Ar 1 (nA t)) t tn lq lva b e (by first | assumption | omega) (by first | assumption | omega) (by first | assumption | omega) (by first | assumption | omega) (by first | assumption | omega) (by exact SKi_lt hse hts) (by first | assumption | omega)) (lw_V q1570 q1572 qs48 q95 q1573) ⟨rfl, by decide, by decide, by decide +kernel⟩ (q0 := 0) (ci := 0) rfl rfl rfl rfl (Nat.le_of_ble_eq_true rfl) ⟨Nat.le_of_ble_eq_true rfl, Nat.le_of_ble_eq_true rfl⟩ ⟨Nat.le_of_ble_eq_true rfl, Nat.le_of_ble_eq_true rfl⟩ dX7_token_94) hH (fun u_ H locs hpost hH => ?_)
                    obtain ⟨x_94, z_94⟩ := u_
                    obtain ⟨px_94, pz_94⟩ : (wIx t b e x_94) ∧ ((x_94 = 8 ∧ z_94 = -1) ∨ (x_94 < 8 ∧ z_94 = (x_94 : Int))) := hpost
                    have hH : zH s0 s1 G as0 (mW ad G (va_up (va_up (va_up (va_up F 22 ((tn : Int))) 23 ((e : Int))) 24 ((b : Int))) 25 (0)) (va_up Ar 1 (nA t))) H locs := hH
                    refine z_st (st' := [.int (iZ (z_94)), .ref (ad 0)]) rfl ?_
                    refine pmW_26 hC hH 97 dX7_token_97 (fun H locs hH => ?_)
                    have hH : zH s0 s1 G as0 (mW ad G (va_up (va_up (va_up (va_up (va_up F 22 ((tn : Int))) 23 ((e : Int))) 24 ((b : Int))) 25 (0)) 26 (z_94)) (va_up Ar 1 (nA t))) H locs := hH
                    refine z_goto hC 100 204 dX7_token_100 rfl ?_
                    -- R204.3
                    exact z_vret hC hH hQ 204 ((1, b, x_94, e, 0, z_94)) dX7_token_204 rfl ⟨by exact TOK_word hsk hts hse px_94, by exact TKA_of (TOK_word hsk hts hse px_94) ha (Or.inr (Or.inl ⟨by decide, by decide, rfl⟩)) (TNU_1 pz_94), by exact (TOK_b (TOK_word hsk hts hse px_94) ha).1⟩ rfl (Nat.le_refl _) (Nat.le_refl _)
              -- J64.4
              exact L64 _ b _ _ _ (Nat.lt_succ_self _) (by first | assumption | omega) (by first | assumption | omega) (by first | exact SKi_0 | exact SKi_s ie (by unfold tS; omega)) hH (lv_sub hl [1, 0] rfl)
            · -- 58=0
              refine z_if_eq_t hC 61 103 dX7_token_61 rfl (by omega) (by omega) ?_
              refine z_iload_n hC 103 hl dX7_token_103 rfl 0 rfl ?_
              refine z_same (z_runS hC hH.2.2 hl.1 hH.1 hH.2.1 1 (As := [.int (iZ (z_40))]) (rest := []) (m_X7_isDigit lau s0 G _ ad (va_up (va_up (va_up F 22 ((tn : Int))) 23 ((b : Int))) 24 ((b : Int))) (va_up Ar 1 (nA t)) z_40 (by first | assumption | omega)) (lw_S q1598 q1599 q95 q1600) ⟨by decide, by decide, by decide +kernel⟩ rfl rfl (Nat.le_of_ble_eq_true rfl) ⟨Nat.le_of_ble_eq_true rfl, Nat.le_of_ble_eq_true rfl⟩ ⟨Nat.le_of_ble_eq_true rfl, Nat.le_of_ble_eq_true rfl⟩ dX7_token_104) hH (fun r_104 H locs hpost hH => ?_)
              have hb_104 : (r_104 = 1 ∧ (48 ≤ z_40 ∧ z_40 ≤ 57)) ∨ (r_104 = 0 ∧ ¬ (48 ≤ z_40 ∧ z_40 ≤ 57)) := hpost
              have hH : zH s0 s1 G as0 (mW ad G (va_up (va_up (va_up F 22 ((tn : Int))) 23 ((b : Int))) 24 ((b : Int))) (va_up Ar 1 (nA t))) H locs := hH
              refine z_st (st' := [.int (iZ (r_104))]) rfl ?_
              rcases hb_104 with ⟨rfl, hb_104⟩ | ⟨rfl, hb_104⟩
              · -- 104=1
                refine z_if_eq_f hC 107 179 dX7_token_107 rfl (by omega) (by omega) ?_
                have htd : tD (hereZ t tn b) := by unfold tD; omega
                refine z_aload_n hC 110 hl dX7_token_110 rfl 1 rfl ?_
                refine z_iconst hC 111 dX7_token_111 ?_
                refine pmW_25 hC hH 112 dX7_token_112 (fun H locs hH => ?_)
                have hH : zH s0 s1 G as0 (mW ad G (va_up (va_up (va_up (va_up F 22 ((tn : Int))) 23 ((b : Int))) 24 ((b : Int))) 25 (1)) (va_up Ar 1 (nA t))) H locs := hH
                refine z_aload_n hC 115 hl dX7_token_115 rfl 1 rfl ?_
                refine z_iconst hC 116 dX7_token_116 ?_
                refine pmW_26 hC hH 117 dX7_token_117 (fun H locs hH => ?_)
                have hH : zH s0 s1 G as0 (mW ad G (va_up (va_up (va_up (va_up (va_up F 22 ((tn : Int))) 23 ((b : Int))) 24 ((b : Int))) 25 (1)) 26 (0)) (va_up Ar 1 (nA t))) H locs := hH
                have L120 : ∀ (N_ : Nat) (e : Nat) (N9 : Nat) (H : Heap) (locs : List Loc) (ls : Array Slot), tn + 1 - e < N_ → (b ≤ e) → (e ≤ tn) → (N9 ≤ 99999) → (SKi tD t tn b e) → (NUMT N9 (numV t b (e - b))) → zH s0 s1 G as0 (mW ad G (va_up (va_up (va_up (va_up (va_up F 22 ((tn : Int))) 23 ((e : Int))) 24 ((b : Int))) 25 (1)) 26 ((N9 : Int))) (va_up Ar 1 (nA t))) H locs → lv_has ls 2 [(0, .ref (ad 0)), (1, .int (iZ (z_40)))] → W pg lau ev (zRm 5 0 0 108) s1 mi ar bl me cd H locs 0 0 Q (F0 mi 120 ls []) := by
                  intro N_
                  induction N_ with
                  | zero => intro e N9 H locs ls hd; exact absurd hd (Nat.not_lt_zero _)
                  | succ N_ ih120 =>
                    intro e N9 H locs ls hd120 i120_1 i120_2 i120_3 ie iN hH hl
                    refine z_aload_n hC 120 hl dX7_token_120 rfl 0 rfl ?_
                    refine z_same (z_runV hC hH.2.2 hl.1 hH.1 hH.2.1 0 (As := []) (rest := []) (m_X7_here lau s0 G _ ad (va_up (va_up (va_up (va_up (va_up F 22 ((tn : Int))) 23 ((e : Int))) 24 ((b : Int))) 25 (1)) 26 ((N9 : Int))) (va_up Ar 1 (nA t)) t tn e (by first | assumption | omega) (by first | assumption | omega) (by first | assumption | omega)) (lw_V q1563 q1565 qs47 q95 q1566) ⟨rfl, by decide, by decide, by decide +kernel⟩ (q0 := 0) (ci := 0) rfl rfl rfl rfl (Nat.le_of_ble_eq_true rfl) ⟨Nat.le_of_ble_eq_true rfl, Nat.le_of_ble_eq_true rfl⟩ ⟨Nat.le_of_ble_eq_true rfl, Nat.le_of_ble_eq_true rfl⟩ dX7_token_121) hH (fun z_121 H locs hpost hH => ?_)
                    obtain ⟨pz_121, pr_121⟩ : (z_121 = hereZ t tn e) ∧ (-1 ≤ z_121 ∧ z_121 < 256) := hpost
                    have hH : zH s0 s1 G as0 (mW ad G (va_up (va_up (va_up (va_up (va_up F 22 ((tn : Int))) 23 ((e : Int))) 24 ((b : Int))) 25 (1)) 26 ((N9 : Int))) (va_up Ar 1 (nA t))) H locs := hH
                    refine z_st (st' := [.int (iZ (z_121))]) rfl ?_
                    refine z_same (z_runS hC hH.2.2 hl.1 hH.1 hH.2.1 1 (As := [.int (iZ (z_121))]) (rest := []) (m_X7_isDigit lau s0 G _ ad (va_up (va_up (va_up (va_up (va_up F 22 ((tn : Int))) 23 ((e : Int))) 24 ((b : Int))) 25 (1)) 26 ((N9 : Int))) (va_up Ar 1 (nA t)) z_121 (by first | assumption | omega)) (lw_S q1598 q1599 q95 q1600) ⟨by decide, by decide, by decide +kernel⟩ rfl rfl (Nat.le_of_ble_eq_true rfl) ⟨Nat.le_of_ble_eq_true rfl, Nat.le_of_ble_eq_true rfl⟩ ⟨Nat.le_of_ble_eq_true rfl, Nat.le_of_ble_eq_true rfl⟩ dX7_token_124) hH (fun r_124 H locs hpost hH => ?_)
                    have hb_124 : (r_124 = 1 ∧ (48 ≤ z_121 ∧ z_121 ≤ 57)) ∨ (r_124 = 0 ∧ ¬ (48 ≤ z_121 ∧ z_121 ≤ 57)) := hpost
                    have hH : zH s0 s1 G as0 (mW ad G (va_up (va_up (va_up (va_up (va_up F 22 ((tn : Int))) 23 ((e : Int))) 24 ((b : Int))) 25 (1)) 26 ((N9 : Int))) (va_up Ar 1 (nA t))) H locs := hH
                    refine z_st (st' := [.int (iZ (r_124))]) rfl ?_
                    rcases hb_124 with ⟨rfl, hb_124⟩ | ⟨rfl, hb_124⟩
                    · -- 124=1
                      refine z_if_eq_f hC 127 204 dX7_token_127 rfl (by omega) (by omega) ?_
                      have hel : e < tn := hz_lt (t := t) (by omega)
                      refine z_aload_n hC 130 hl dX7_token_130 rfl 0 rfl ?_
                      refine z_aload_n hC 131 hl dX7_token_131 rfl 0 rfl ?_
                      refine gmW_26 (x := (N9 : Int)) hC hH 132 rfl dX7_token_132 ?_
                      refine z_sipush hC 135 dX7_token_135 rfl ?_
                      refine z_icmp_le hC 138 148 dX7_token_138 rfl (by omega) (by omega) (fun hb4 => ?_) (fun hb4 => ?_)
                      · -- 138t
                        refine z_bipush hC 148 dX7_token_148 rfl ?_
                        refine z_aload_n hC 150 hl dX7_token_150 rfl 0 rfl ?_
                        refine gmW_26 (x := (N9 : Int)) hC hH 151 rfl dX7_token_151 ?_
                        refine z_imul (e := 10 * (N9 : Int)) hC 154 dX7_token_154 rfl ?_
                        refine z_aload_n hC 155 hl dX7_token_155 rfl 0 rfl ?_
                        refine z_same (z_runV hC hH.2.2 hl.1 hH.1 hH.2.1 0 (As := []) (rest := [.int (iZ (10 * (N9 : Int))), .ref (ad 0)]) (m_X7_here lau s0 G _ ad (va_up (va_up (va_up (va_up (va_up F 22 ((tn : Int))) 23 ((e : Int))) 24 ((b : Int))) 25 (1)) 26 ((N9 : Int))) (va_up Ar 1 (nA t)) t tn e (by first | assumption | omega) (by first | assumption | omega) (by first | assumption | omega)) (lw_V q1563 q1565 qs47 q95 q1566) ⟨rfl, by decide, by decide, by decide +kernel⟩ (q0 := 0) (ci := 0) rfl rfl rfl rfl (Nat.le_of_ble_eq_true rfl) ⟨Nat.le_of_ble_eq_true rfl, Nat.le_of_ble_eq_true rfl⟩ ⟨Nat.le_of_ble_eq_true rfl, Nat.le_of_ble_eq_true rfl⟩ dX7_token_156) hH (fun z_156 H locs hpost hH => ?_)
                        obtain ⟨pz_156, pr_156⟩ : (z_156 = hereZ t tn e) ∧ (-1 ≤ z_156 ∧ z_156 < 256) := hpost
                        have hH : zH s0 s1 G as0 (mW ad G (va_up (va_up (va_up (va_up (va_up F 22 ((tn : Int))) 23 ((e : Int))) 24 ((b : Int))) 25 (1)) 26 ((N9 : Int))) (va_up Ar 1 (nA t))) H locs := hH
                        refine z_st (st' := [.int (iZ (z_156)), .int (iZ (10 * (N9 : Int))), .ref (ad 0)]) rfl ?_
                        obtain ⟨d9, rfl⟩ := Int.eq_ofNat_of_zero_le (show 0 ≤ z_156 by omega)
                        have hd9 : d9 = t (b + (e - b)) := by have h9 := hz_at (t := t) (n := tn) (k := e) (by omega); rw [show b + (e - b) = e by omega]; omega
                        refine z_iadd (e := 10 * (N9 : Int) + (d9 : Int)) hC 159 dX7_token_159 rfl ?_
                        refine z_bipush hC 160 dX7_token_160 rfl ?_
                        refine z_isub (e := 10 * (N9 : Int) + (d9 : Int) - 48) hC 162 dX7_token_162 rfl ?_
                        refine pmW_26 hC hH 163 dX7_token_163 (fun H locs hH => ?_)
                        have hH : zH s0 s1 G as0 (mW ad G (va_up (va_up (va_up (va_up (va_up F 22 ((tn : Int))) 23 ((e : Int))) 24 ((b : Int))) 25 (1)) 26 (10 * (N9 : Int) + (d9 : Int) - 48)) (va_up Ar 1 (nA t))) H locs := hH
                        refine z_aload_n hC 166 hl dX7_token_166 rfl 0 rfl ?_
                        refine z_dup hC 167 dX7_token_167 rfl ?_
                        refine gmW_23 (x := (e : Int)) hC hH 168 rfl dX7_token_168 ?_
                        refine z_iconst hC 171 dX7_token_171 ?_
                        refine z_iadd (e := (e : Int) + 1) hC 172 dX7_token_172 rfl ?_
                        refine pmW_23 hC hH 173 dX7_token_173 (fun H locs hH => ?_)
                        have hH : zH s0 s1 G as0 (mW ad G (va_up (va_up (va_up (va_up (va_up F 22 ((tn : Int))) 23 ((e : Int) + 1)) 24 ((b : Int))) 25 (1)) 26 (10 * (N9 : Int) + (d9 : Int) - 48)) (va_up Ar 1 (nA t))) H locs := hH
                        refine z_goto hC 176 120 dX7_token_176 rfl ?_
                        -- J120.5
                        exact ih120 (e + 1) (10 * N9 + d9 - 48) _ _ _ (by omega) (by first | assumption | omega) (by first | assumption | omega) (by first | assumption | omega) (by first | exact SKi_0 | exact SKi_s ie (by unfold tD; omega)) (by first | (rw [Nat.sub_self]; exact NUMT_0) | (rw [show e + 1 - b = (e - b) + 1 by omega]; first | exact NUMT_k iN (by omega) | exact NUMT_s iN (by omega) hd9 (by omega) (by omega))) (by rw [show ((e : Int) + 1 : Int) = ((e + 1 : Nat) : Int) from by omega, show (10 * (N9 : Int) + (d9 : Int) - 48 : Int) = ((10 * N9 + d9 - 48 : Nat) : Int) from by omega] at hH; exact hH) (lv_sub hl [0, 1] rfl)
                      · -- 138f
                        refine z_aload_n hC 141 hl dX7_token_141 rfl 0 rfl ?_
                        refine gmW_26 (x := (N9 : Int)) hC hH 142 rfl dX7_token_142 ?_
                        refine z_goto hC 145 163 dX7_token_145 rfl ?_
                        refine pmW_26 hC hH 163 dX7_token_163 (fun H locs hH => ?_)
                        have hH : zH s0 s1 G as0 (mW ad G (va_up (va_up (va_up (va_up (va_up F 22 ((tn : Int))) 23 ((e : Int))) 24 ((b : Int))) 25 (1)) 26 ((N9 : Int))) (va_up Ar 1 (nA t))) H locs := hH
                        refine z_aload_n hC 166 hl dX7_token_166 rfl 0 rfl ?_
                        refine z_dup hC 167 dX7_token_167 rfl ?_
                        refine gmW_23 (x := (e : Int)) hC hH 168 rfl dX7_token_168 ?_
                        refine z_iconst hC 171 dX7_token_171 ?_
                        refine z_iadd (e := (e : Int) + 1) hC 172 dX7_token_172 rfl ?_
                        refine pmW_23 hC hH 173 dX7_token_173 (fun H locs hH => ?_)
                        have hH : zH s0 s1 G as0 (mW ad G (va_up (va_up (va_up (va_up (va_up F 22 ((tn : Int))) 23 ((e : Int) + 1)) 24 ((b : Int))) 25 (1)) 26 ((N9 : Int))) (va_up Ar 1 (nA t))) H locs := hH
                        refine z_goto hC 176 120 dX7_token_176 rfl ?_
                        -- J120.6
                        exact ih120 (e + 1) N9 _ _ _ (by omega) (by first | assumption | omega) (by first | assumption | omega) (by first | assumption | omega) (by first | exact SKi_0 | exact SKi_s ie (by unfold tD; omega)) (by first | (rw [Nat.sub_self]; exact NUMT_0) | (rw [show e + 1 - b = (e - b) + 1 by omega]; first | exact NUMT_k iN (by omega) | exact NUMT_s iN (by omega) hd9 (by omega) (by omega))) (by rw [show ((e : Int) + 1 : Int) = ((e + 1 : Nat) : Int) from by omega] at hH; exact hH) (lv_sub hl [0, 1] rfl)
                    · -- 124=0
                      refine z_if_eq_t hC 127 204 dX7_token_127 rfl (by omega) (by omega) ?_
                      -- R204.7
                      exact z_vret hC hH hQ 204 ((2, b, (numV t b (e - b)), e, 1, (N9 : Int))) dX7_token_204 rfl ⟨by exact TOK_num hsk htd ⟨ie, by unfold tD; omega⟩, by exact TKA_of (TOK_num hsk htd ⟨ie, by unfold tD; omega⟩) ha (Or.inr (Or.inl ⟨by decide, by decide, rfl⟩)) (TNU_2 iN), by exact (TOK_b (TOK_num hsk htd ⟨ie, by unfold tD; omega⟩) ha).1⟩ rfl (Nat.le_refl _) (Nat.le_refl _)
                -- J120.8
                exact L120 _ b 0 _ _ _ (Nat.lt_succ_self _) (by first | assumption | omega) (by first | assumption | omega) (by first | assumption | omega) (by first | exact SKi_0 | exact SKi_s ie (by unfold tD; omega)) (by first | (rw [Nat.sub_self]; exact NUMT_0) | (rw [show e + 1 - b = (e - b) + 1 by omega]; first | exact NUMT_k iN (by omega) | exact NUMT_s iN (by omega) hd9 (by omega) (by omega))) hH (lv_sub hl [1, 0] rfl)
              · -- 104=0
                refine z_if_eq_t hC 107 179 dX7_token_107 rfl (by omega) (by omega) ?_
                have hbl : b < tn := hz_lt (t := t) (by omega)
                refine z_aload_n hC 179 hl dX7_token_179 rfl 1 rfl ?_
                refine z_iload_n hC 180 hl dX7_token_180 rfl 0 rfl ?_
                refine z_bipush hC 181 dX7_token_181 rfl ?_
                refine z_icmp_ne hC 183 190 dX7_token_183 rfl (by omega) (by omega) (fun hb5 => ?_) (fun hb5 => ?_)
                · -- 183t
                  refine z_iconst hC 190 dX7_token_190 ?_
                  refine pmW_25 hC hH 191 dX7_token_191 (fun H locs hH => ?_)
                  have hH : zH s0 s1 G as0 (mW ad G (va_up (va_up (va_up (va_up F 22 ((tn : Int))) 23 ((b : Int))) 24 ((b : Int))) 25 (4)) (va_up Ar 1 (nA t))) H locs := hH
                  refine z_aload_n hC 194 hl dX7_token_194 rfl 1 rfl ?_
                  refine z_dup hC 195 dX7_token_195 rfl ?_
                  refine gmW_23 (x := (b : Int)) hC hH 196 rfl dX7_token_196 ?_
                  refine z_iconst hC 199 dX7_token_199 ?_
                  refine z_iadd (e := (b : Int) + 1) hC 200 dX7_token_200 rfl ?_
                  refine pmW_23 hC hH 201 dX7_token_201 (fun H locs hH => ?_)
                  have hH : zH s0 s1 G as0 (mW ad G (va_up (va_up (va_up (va_up F 22 ((tn : Int))) 23 ((b : Int) + 1)) 24 ((b : Int))) 25 (4)) (va_up Ar 1 (nA t))) H locs := hH
                  -- R204.9
                  rw [show ((b : Int) + 1 : Int) = ((b + 1 : Nat) : Int) from by omega] at hH
                  have hH : zH s0 s1 G as0 (mW ad G (va_up (va_up (va_up (va_up F 22 ((tn : Int))) 23 (((b + 1 : Nat) : Int))) 24 ((b : Int))) 25 (4)) (va_up Ar 1 (nA t))) H locs := hH
                  exact z_vret hC hH hQ 204 ((4, b, 0, (b + 1), 4, (F 26))) dX7_token_204 rfl ⟨by exact TOK_none hsk hbl (by unfold tS; omega) (by unfold tD; omega) (by omega), by exact TKA_of (TOK_none hsk hbl (by unfold tS; omega) (by unfold tD; omega) (by omega)) ha (Or.inr (Or.inr ⟨rfl, rfl⟩)) (TNU_0 (by decide) (by decide)), by exact (TOK_b (TOK_none hsk hbl (by unfold tS; omega) (by unfold tD; omega) (by omega)) ha).1⟩ rfl (Nat.le_refl _) (Nat.le_refl _)
                · -- 183f
                  refine z_iconst hC 186 dX7_token_186 ?_
                  refine z_goto hC 187 191 dX7_token_187 rfl ?_
                  refine pmW_25 hC hH 191 dX7_token_191 (fun H locs hH => ?_)
                  have hH : zH s0 s1 G as0 (mW ad G (va_up (va_up (va_up (va_up F 22 ((tn : Int))) 23 ((b : Int))) 24 ((b : Int))) 25 (2)) (va_up Ar 1 (nA t))) H locs := hH
                  refine z_aload_n hC 194 hl dX7_token_194 rfl 1 rfl ?_
                  refine z_dup hC 195 dX7_token_195 rfl ?_
                  refine gmW_23 (x := (b : Int)) hC hH 196 rfl dX7_token_196 ?_
                  refine z_iconst hC 199 dX7_token_199 ?_
                  refine z_iadd (e := (b : Int) + 1) hC 200 dX7_token_200 rfl ?_
                  refine pmW_23 hC hH 201 dX7_token_201 (fun H locs hH => ?_)
                  have hH : zH s0 s1 G as0 (mW ad G (va_up (va_up (va_up (va_up F 22 ((tn : Int))) 23 ((b : Int) + 1)) 24 ((b : Int))) 25 (2)) (va_up Ar 1 (nA t))) H locs := hH
                  -- R204.10
                  rw [show ((b : Int) + 1 : Int) = ((b + 1 : Nat) : Int) from by omega] at hH
                  have hH : zH s0 s1 G as0 (mW ad G (va_up (va_up (va_up (va_up F 22 ((tn : Int))) 23 (((b + 1 : Nat) : Int))) 24 ((b : Int))) 25 (2)) (va_up Ar 1 (nA t))) H locs := hH
                  exact z_vret hC hH hQ 204 ((3, b, 0, (b + 1), 2, (F 26))) dX7_token_204 rfl ⟨by exact TOK_stop hsk hbl (by omega), by exact TKA_of (TOK_stop hsk hbl (by omega)) ha (Or.inr (Or.inl ⟨by decide, by decide, rfl⟩)) (TNU_0 (by decide) (by decide)), by exact (TOK_b (TOK_stop hsk hbl (by omega)) ha).1⟩ rfl (Nat.le_refl _) (Nat.le_refl _)
          · -- 46f
            refine z_aload_n hC 49 hl dX7_token_49 rfl 1 rfl ?_
            refine z_iconst hC 50 dX7_token_50 ?_
            refine pmW_25 hC hH 51 dX7_token_51 (fun H locs hH => ?_)
            have hH : zH s0 s1 G as0 (mW ad G (va_up (va_up (va_up (va_up F 22 ((tn : Int))) 23 ((b : Int))) 24 ((b : Int))) 25 (3)) (va_up Ar 1 (nA t))) H locs := hH
            refine z_goto hC 54 204 dX7_token_54 rfl ?_
            -- R204.11
            exact z_vret hC hH hQ 204 ((0, b, 0, b, 3, (F 26))) dX7_token_204 rfl ⟨by exact TOK_end hsk (hz_end (t := t) (by omega)), by exact TKA_of (TOK_end hsk (hz_end (t := t) (by omega))) ha (Or.inl ⟨rfl, rfl⟩) (TNU_0 (by decide) (by decide)), by exact (TOK_b (TOK_end hsk (hz_end (t := t) (by omega))) ha).1⟩ rfl (Nat.le_refl _) (Nat.le_refl _)
        · -- 15f
          have hbl : b < tn := hz_lt (t := t) (by omega)
          refine z_aload_n hC 18 hl dX7_token_18 rfl 0 rfl ?_
          refine z_dup hC 19 dX7_token_19 rfl ?_
          refine gmW_23 (x := (b : Int)) hC hH 20 rfl dX7_token_20 ?_
          refine z_iconst hC 23 dX7_token_23 ?_
          refine z_iadd (e := (b : Int) + 1) hC 24 dX7_token_24 rfl ?_
          refine pmW_23 hC hH 25 dX7_token_25 (fun H locs hH => ?_)
          have hH : zH s0 s1 G as0 (mW ad G (va_up (va_up F 22 ((tn : Int))) 23 ((b : Int) + 1)) (va_up Ar 1 (nA t))) H locs := hH
          refine z_goto hC 28 0 dX7_token_28 rfl ?_
          -- J0.12
          exact ih0 (b + 1) _ _ _ (by omega) (by first | assumption | omega) (by first | exact SKi_0 | exact SKi_s ib (Or.inl (by omega)) | exact SKi_s ib (Or.inr (by omega))) (by rw [show ((b : Int) + 1 : Int) = ((b + 1 : Nat) : Int) from by omega] at hH; exact hH) (lv_sub hl [0] rfl)
  -- J0.13
  exact L0 _ a _ _ _ (Nat.lt_succ_self _) (by first | assumption | omega) (by first | exact SKi_0 | exact SKi_s ib (Or.inl (by omega)) | exact SKi_s ib (Or.inr (by omega))) hH (lv_sub hl [0] rfl)

set_option maxHeartbeats 4000000 in
set_option maxRecDepth 100000 in
theorem m_X7_wrong (lau : Launch) (s0 : State) (G : zG) (sz : Nat) (ad : Nat → Nat) (F : Nat → Int) (Ar : Nat → Nat → Int) (k : Nat) (pl : Nat) (hk : k ≤ 3) : zMet (S := Unit) lau yX7_wrong cX7_wrong 2 (none) 0 0 0 0 s0 G sz [.ref (ad 0), .int (iZ ((k : Int)))] (mW ad G (va_up (va_up F 24 ((pl : Int))) 27 (0)) Ar) (fun (_ : Unit) => (none : Option Value)) (fun (_ : Unit) => True) (fun (_ : Unit) => (mW ad G (va_up (va_up (va_up F 24 ((pl : Int))) 27 ((k : Int))) 28 ((pl : Int))) Ar)) := by
  refine zMet.of (by decide) (Nat.le_of_ble_eq_true rfl) ?_
  intro pg ev s1 mi ar bl me cd ls Q as0 hC hH hl hQ hsz
  generalize s1.heap = H at hH ⊢
  generalize ([] : List Loc) = locs at hH ⊢
  have hl : lv_has ls 2 [(0, .ref (ad 0)), (1, .int (iZ ((k : Int))))] := hl
  refine z_aload_n hC 0 hl dX7_wrong_0 rfl 0 rfl ?_
  refine gmW_27 (x := 0) hC hH 1 rfl dX7_wrong_1 ?_
  refine z_if_eq_t hC 4 8 dX7_wrong_4 rfl (by omega) (by omega) ?_
  refine z_aload_n hC 8 hl dX7_wrong_8 rfl 0 rfl ?_
  refine z_iload_n hC 9 hl dX7_wrong_9 rfl 1 rfl ?_
  refine pmW_27 hC hH 10 dX7_wrong_10 (fun H locs hH => ?_)
  have hH : zH s0 s1 G as0 (mW ad G (va_up (va_up F 24 ((pl : Int))) 27 ((k : Int))) Ar) H locs := hH
  refine z_aload_n hC 13 hl dX7_wrong_13 rfl 0 rfl ?_
  refine z_aload_n hC 14 hl dX7_wrong_14 rfl 0 rfl ?_
  refine gmW_24 (x := (pl : Int)) hC hH 15 rfl dX7_wrong_15 ?_
  refine pmW_28 hC hH 18 dX7_wrong_18 (fun H locs hH => ?_)
  have hH : zH s0 s1 G as0 (mW ad G (va_up (va_up (va_up F 24 ((pl : Int))) 27 ((k : Int))) 28 ((pl : Int))) Ar) H locs := hH
  -- R21.1
  exact z_vret hC hH hQ 21 (()) dX7_wrong_21 rfl trivial rfl (Nat.le_refl _) (Nat.le_refl _)

set_option maxHeartbeats 4000000 in
set_option maxRecDepth 100000 in
theorem m_X7_goOn (lau : Launch) (s0 : State) (G : zG) (sz : Nat) (ad : Nat → Nat) (F : Nat → Int) (Ar : Nat → Nat → Int) (t : Nat → Nat) (tn : Nat) (lq : Nat) (lva : Nat) (a : Nat) (htn : tn ≤ 900) (htb : ∀ i, i < tn → t i < 256) (hlit : zLit s0 "ModeDeskModel" 107 "first last least most row weight block ties " lq lva 44 wC) (hcs : zCS s0) (hsi : zSio s0) (ha : a ≤ tn) : zMet (S := Nat × Nat × Nat × Nat × Int × Int) lau yX7_goOn cX7_goOn 1 (none) 6 129 0 0 s0 G sz [.ref (ad 0)] (mW ad G (va_up (va_up (va_up F 22 ((tn : Int))) 23 ((a : Int))) 27 (0)) (va_up Ar 1 (nA t))) (fun ((so, pl, vl, nx, st, nu) : Nat × Nat × Nat × Nat × Int × Int) => (none : Option Value)) (fun ((so, pl, vl, nx, st, nu) : Nat × Nat × Nat × Nat × Int × Int) => (TOK t tn a so pl vl nx) ∧ (TKA tn so pl vl nx st nu) ∧ (a ≤ pl)) (fun ((so, pl, vl, nx, st, nu) : Nat × Nat × Nat × Nat × Int × Int) => (mW ad G (va_up (va_up (va_up (va_up (va_up (va_up F 22 ((tn : Int))) 23 ((nx : Int))) 24 ((pl : Int))) 25 (st)) 26 (nu)) 27 (0)) (va_up Ar 1 (nA t)))) := by
  refine zMet.of (by decide) (Nat.le_of_ble_eq_true rfl) ?_
  intro pg ev s1 mi ar bl me cd ls Q as0 hC hH hl hQ hsz
  generalize s1.heap = H at hH ⊢
  generalize ([] : List Loc) = locs at hH ⊢
  have hl : lv_has ls 1 [(0, .ref (ad 0))] := hl
  refine z_aload_n hC 0 hl dX7_goOn_0 rfl 0 rfl ?_
  refine gmW_27 (x := 0) hC hH 1 rfl dX7_goOn_1 ?_
  refine z_if_ne_f hC 4 11 dX7_goOn_4 rfl (by omega) (by omega) ?_
  refine z_aload_n hC 7 hl dX7_goOn_7 rfl 0 rfl ?_
  refine z_same (z_runV hC hH.2.2 hl.1 hH.1 hH.2.1 0 (As := []) (rest := []) (m_X7_token lau s0 G _ ad (va_up (va_up (va_up F 22 ((tn : Int))) 23 ((a : Int))) 27 (0)) (va_up Ar 1 (nA t)) t tn lq lva a (by first | assumption | omega) (by first | assumption | omega) (by first | assumption | omega) (by first | assumption | omega) (by first | assumption | omega) (by first | assumption | omega)) (lw_V q1559 q1561 qs46 q95 q1562) ⟨rfl, by decide, by decide, by decide +kernel⟩ (q0 := 0) (ci := 0) rfl rfl rfl rfl (Nat.le_of_ble_eq_true rfl) ⟨Nat.le_of_ble_eq_true rfl, Nat.le_of_ble_eq_true rfl⟩ ⟨Nat.le_of_ble_eq_true rfl, Nat.le_of_ble_eq_true rfl⟩ dX7_goOn_8) hH (fun u_ H locs hpost hH => ?_)
  obtain ⟨so_8, pl_8, vl_8, nx_8, st_8, nu_8⟩ := u_
  obtain ⟨pT_8, pA_8, pB_8⟩ : (TOK t tn a so_8 pl_8 vl_8 nx_8) ∧ (TKA tn so_8 pl_8 vl_8 nx_8 st_8 nu_8) ∧ (a ≤ pl_8) := hpost
  have hH : zH s0 s1 G as0 (mW ad G (va_up (va_up (va_up (va_up (va_up (va_up F 22 ((tn : Int))) 23 ((nx_8 : Int))) 24 ((pl_8 : Int))) 25 (st_8)) 26 (nu_8)) 27 (0)) (va_up Ar 1 (nA t))) H locs := hH
  refine z_st (st' := []) rfl ?_
  -- R11.1
  exact z_vret hC hH hQ 11 ((so_8, pl_8, vl_8, nx_8, st_8, nu_8)) dX7_goOn_11 rfl ⟨by first | assumption | omega, by first | assumption | omega, by first | assumption | omega⟩ rfl (Nat.le_refl _) (Nat.le_refl _)

set_option maxHeartbeats 4000000 in
set_option maxRecDepth 100000 in
theorem m_X7_goOn_x (lau : Launch) (s0 : State) (G : zG) (sz : Nat) (ad : Nat → Nat) (F : Nat → Int) (Ar : Nat → Nat → Int) (fa : Nat) (hfa : fa ≠ 0 ∧ fa ≤ 3) : zMet (S := Unit) lau yX7_goOn cX7_goOn 1 (none) 0 0 0 0 s0 G sz [.ref (ad 0)] (mW ad G (va_up F 27 ((fa : Int))) Ar) (fun (_ : Unit) => (none : Option Value)) (fun (_ : Unit) => True) (fun (_ : Unit) => (mW ad G (va_up F 27 ((fa : Int))) Ar)) := by
  refine zMet.of (by decide) (Nat.le_of_ble_eq_true rfl) ?_
  intro pg ev s1 mi ar bl me cd ls Q as0 hC hH hl hQ hsz
  generalize s1.heap = H at hH ⊢
  generalize ([] : List Loc) = locs at hH ⊢
  have hl : lv_has ls 1 [(0, .ref (ad 0))] := hl
  refine z_aload_n hC 0 hl dX7_goOn_0 rfl 0 rfl ?_
  refine gmW_27 (x := (fa : Int)) hC hH 1 rfl dX7_goOn_1 ?_
  refine z_if_ne_t hC 4 11 dX7_goOn_4 rfl (by omega) (by omega) ?_
  -- R11.1
  exact z_vret hC hH hQ 11 (()) dX7_goOn_11 rfl trivial rfl (Nat.le_refl _) (Nat.le_refl _)

set_option maxHeartbeats 4000000 in
set_option maxRecDepth 100000 in
theorem m_X7_within (lau : Launch) (s0 : State) (G : zG) (sz : Nat) (ad : Nat → Nat) (F : Nat → Int) (Ar : Nat → Nat → Int) (t : Nat → Nat) (tn : Nat) (lq : Nat) (lva : Nat) (so : Nat) (pl : Nat) (vl : Nat) (nx : Nat) (st : Int) (nu : Int) (lo : Nat) (hi : Nat) (htn : tn ≤ 900) (htb : ∀ i, i < tn → t i < 256) (hlit : zLit s0 "ModeDeskModel" 107 "first last least most row weight block ties " lq lva 44 wC) (hcs : zCS s0) (hsi : zSio s0) (hA : TKA tn so pl vl nx st nu) (hlh : lo ≤ hi ∧ hi ≤ 9999) : zMet (S := Nat × Nat × Nat × Nat × Nat × Nat × Int × Int × Int) lau yX7_within cX7_within 4 (some .int) 7 149 0 0 s0 G sz [.ref (ad 0), .int (iZ ((lo : Int))), .int (iZ ((hi : Int)))] (mW ad G (va_up (va_up (va_up (va_up (va_up (va_up F 22 ((tn : Int))) 23 ((nx : Int))) 24 ((pl : Int))) 25 (st)) 26 (nu)) 27 (0)) (va_up Ar 1 (nA t))) (fun ((z, fa, so2, pl2, vl2, nx2, st2, nu2, fp) : Nat × Nat × Nat × Nat × Nat × Nat × Int × Int × Int) => some (.int (iZ ((z : Int))))) (fun ((z, fa, so2, pl2, vl2, nx2, st2, nu2, fp) : Nat × Nat × Nat × Nat × Nat × Nat × Int × Int × Int) => (OKE (NUMr t tn lo hi so pl vl nx) fa fp (z, so2, pl2, vl2, nx2)) ∧ (fa = 0 → TKA tn so2 pl2 vl2 nx2 st2 nu2 ∧ nx ≤ pl2) ∧ (z ≤ hi) ∧ (fa ≤ 3)) (fun ((z, fa, so2, pl2, vl2, nx2, st2, nu2, fp) : Nat × Nat × Nat × Nat × Nat × Nat × Int × Int × Int) => (mW ad G (va_up (va_up (va_up (va_up (va_up (va_up (va_up F 22 ((tn : Int))) 23 ((nx2 : Int))) 24 ((pl2 : Int))) 25 (st2)) 26 (nu2)) 27 ((fa : Int))) 28 (fp)) (va_up Ar 1 (nA t)))) := by
  refine zMet.of (by decide) (Nat.le_of_ble_eq_true rfl) ?_
  intro pg ev s1 mi ar bl me cd ls Q as0 hC hH hl hQ hsz
  generalize s1.heap = H at hH ⊢
  generalize ([] : List Loc) = locs at hH ⊢
  have hl : lv_has ls 4 [(0, .ref (ad 0)), (1, .int (iZ ((lo : Int)))), (2, .int (iZ ((hi : Int))))] := hl
  have hA0 := hA.1
  have hA3 := hA.2.2.1
  unfold TSO at hA0
  refine z_aload_n hC 0 hl dX7_within_0 rfl 0 rfl ?_
  refine gmW_27 (x := 0) hC hH 1 rfl dX7_within_1 ?_
  refine z_if_ne_f hC 4 20 dX7_within_4 rfl (by omega) (by omega) ?_
  refine z_aload_n hC 7 hl dX7_within_7 rfl 0 rfl ?_
  refine gmW_25 (x := st) hC hH 8 rfl dX7_within_8 ?_
  refine z_iconst hC 11 dX7_within_11 ?_
  refine z_icmp_eq hC 12 20 dX7_within_12 rfl (by omega) (by omega) (fun hb1 => ?_) (fun hb1 => ?_)
  · -- 12t
    refine z_aload_n hC 20 hl dX7_within_20 rfl 0 rfl ?_
    refine gmW_27 (x := 0) hC hH 21 rfl dX7_within_21 ?_
    refine z_if_ne_f hC 24 48 dX7_within_24 rfl (by omega) (by omega) ?_
    obtain ⟨N9, rfl, hNT⟩ := hA.2.1.1 (by omega)
    have hso2 : so = 2 := by omega
    have hNT2 := hNT
    unfold NUMT at hNT2
    refine z_aload_n hC 27 hl dX7_within_27 rfl 0 rfl ?_
    refine gmW_26 (x := (N9 : Int)) hC hH 28 rfl dX7_within_28 ?_
    refine z_iload_n hC 31 hl dX7_within_31 rfl 1 rfl ?_
    refine z_icmp_lt hC 32 43 dX7_within_32 rfl (by omega) (by omega) (fun hb2 => ?_) (fun hb2 => ?_)
    · -- 32t
      refine z_aload_n hC 43 hl dX7_within_43 rfl 0 rfl ?_
      refine z_iconst hC 44 dX7_within_44 ?_
      refine z_st (st' := [.int (iZ (((2 : Nat) : Int))), .ref (ad 0)]) (zcons (zieq (by omega)) rfl) ?_
      refine z_same (z_runV hC hH.2.2 hl.1 hH.1 hH.2.1 1 (As := [.int (iZ (((2 : Nat) : Int)))]) (rest := []) (m_X7_wrong lau s0 G _ ad (va_up (va_up (va_up (va_up (va_up (va_up F 22 ((tn : Int))) 23 ((nx : Int))) 24 ((pl : Int))) 25 (st)) 26 ((N9 : Int))) 27 (0)) (va_up Ar 1 (nA t)) 2 pl (by first | assumption | omega)) (lw_V q1613 q1615 qs52 q95 q1616) ⟨rfl, by decide, by decide, by decide +kernel⟩ (q0 := 0) (ci := 0) rfl rfl rfl rfl (Nat.le_of_ble_eq_true rfl) ⟨Nat.le_of_ble_eq_true rfl, Nat.le_of_ble_eq_true rfl⟩ ⟨Nat.le_of_ble_eq_true rfl, Nat.le_of_ble_eq_true rfl⟩ dX7_within_45) hH (fun _ H locs hpost hH => ?_)
      have hH : zH s0 s1 G as0 (mW ad G (va_up (va_up (va_up (va_up (va_up (va_up (va_up F 22 ((tn : Int))) 23 ((nx : Int))) 24 ((pl : Int))) 25 (st)) 26 ((N9 : Int))) 27 (2)) 28 ((pl : Int))) (va_up Ar 1 (nA t))) H locs := hH
      refine z_st (st' := []) rfl ?_
      refine z_aload_n hC 48 hl dX7_within_48 rfl 0 rfl ?_
      refine gmW_27 (x := 2) hC hH 49 rfl dX7_within_49 ?_
      refine z_if_ne_t hC 52 62 dX7_within_52 rfl (by omega) (by omega) ?_
      refine z_iload_n hC 62 hl dX7_within_62 rfl 1 rfl ?_
      refine z_istore_n (lv' := [(3, .int (iZ ((lo : Int)))), (0, .ref (ad 0)), (1, .int (iZ ((lo : Int)))), (2, .int (iZ ((hi : Int))))]) hC 63 hl dX7_within_63 rfl (by decide) rfl (fun ls hl => ?_)
      refine z_aload_n hC 64 hl dX7_within_64 rfl 1 rfl ?_
      refine z_same (z_runV hC hH.2.2 hl.1 hH.1 hH.2.1 0 (As := []) (rest := []) (m_X7_goOn_x lau s0 G _ ad (va_up (va_up (va_up (va_up (va_up (va_up (va_up F 22 ((tn : Int))) 23 ((nx : Int))) 24 ((pl : Int))) 25 (st)) 26 ((N9 : Int))) 27 (2)) 28 ((pl : Int))) (va_up Ar 1 (nA t)) 2 (by first | assumption | omega)) (lw_V q1609 q1611 qs51 q95 q1612) ⟨rfl, by decide, by decide, by decide +kernel⟩ (q0 := 0) (ci := 0) rfl rfl rfl rfl (Nat.le_of_ble_eq_true rfl) ⟨Nat.le_of_ble_eq_true rfl, Nat.le_of_ble_eq_true rfl⟩ ⟨Nat.le_of_ble_eq_true rfl, Nat.le_of_ble_eq_true rfl⟩ dX7_within_65) hH (fun _ H locs hpost hH => ?_)
      have hH : zH s0 s1 G as0 (mW ad G (va_up (va_up (va_up (va_up (va_up (va_up (va_up F 22 ((tn : Int))) 23 ((nx : Int))) 24 ((pl : Int))) 25 (st)) 26 ((N9 : Int))) 27 (2)) 28 ((pl : Int))) (va_up Ar 1 (nA t))) H locs := hH
      refine z_st (st' := []) rfl ?_
      refine z_iload_n hC 68 hl dX7_within_68 rfl 0 rfl ?_
      -- R69.1
      exact z_iret hC hH hQ 69 ((lo, 2, so, pl, vl, nx, st, (N9 : Int), (pl : Int))) dX7_within_69 rfl ⟨by exact OKE_1 (by decide) rfl (NUMr_2 (by omega) (by omega)), by first | (intro q; omega) | exact fun _ => ⟨pA_65, pB_65⟩, by first | assumption | omega, by first | assumption | omega⟩ rfl (Nat.le_refl _) (Nat.le_refl _)
    · -- 32f
      refine z_aload_n hC 35 hl dX7_within_35 rfl 0 rfl ?_
      refine gmW_26 (x := (N9 : Int)) hC hH 36 rfl dX7_within_36 ?_
      refine z_iload_n hC 39 hl dX7_within_39 rfl 2 rfl ?_
      refine z_icmp_le hC 40 48 dX7_within_40 rfl (by omega) (by omega) (fun hb3 => ?_) (fun hb3 => ?_)
      · -- 40t
        refine z_aload_n hC 48 hl dX7_within_48 rfl 0 rfl ?_
        refine gmW_27 (x := 0) hC hH 49 rfl dX7_within_49 ?_
        refine z_if_ne_f hC 52 62 dX7_within_52 rfl (by omega) (by omega) ?_
        refine z_aload_n hC 55 hl dX7_within_55 rfl 0 rfl ?_
        refine gmW_26 (x := (N9 : Int)) hC hH 56 rfl dX7_within_56 ?_
        refine z_goto hC 59 63 dX7_within_59 rfl ?_
        refine z_istore_n (lv' := [(3, .int (iZ ((N9 : Int)))), (0, .ref (ad 0)), (1, .int (iZ ((lo : Int)))), (2, .int (iZ ((hi : Int))))]) hC 63 hl dX7_within_63 rfl (by decide) rfl (fun ls hl => ?_)
        refine z_aload_n hC 64 hl dX7_within_64 rfl 1 rfl ?_
        refine z_same (z_runV hC hH.2.2 hl.1 hH.1 hH.2.1 0 (As := []) (rest := []) (m_X7_goOn lau s0 G _ ad (va_up (va_up (va_up (va_up (va_up (va_up F 22 ((tn : Int))) 23 ((nx : Int))) 24 ((pl : Int))) 25 (st)) 26 ((N9 : Int))) 27 (0)) (va_up Ar 1 (nA t)) t tn lq lva nx (by first | assumption | omega) (by first | assumption | omega) (by first | assumption | omega) (by first | assumption | omega) (by first | assumption | omega) (by first | assumption | omega)) (lw_V q1609 q1611 qs51 q95 q1612) ⟨rfl, by decide, by decide, by decide +kernel⟩ (q0 := 0) (ci := 0) rfl rfl rfl rfl (Nat.le_of_ble_eq_true rfl) ⟨Nat.le_of_ble_eq_true rfl, Nat.le_of_ble_eq_true rfl⟩ ⟨Nat.le_of_ble_eq_true rfl, Nat.le_of_ble_eq_true rfl⟩ dX7_within_65) hH (fun u_ H locs hpost hH => ?_)
        obtain ⟨so_65, pl_65, vl_65, nx_65, st_65, nu_65⟩ := u_
        obtain ⟨pT_65, pA_65, pB_65⟩ : (TOK t tn nx so_65 pl_65 vl_65 nx_65) ∧ (TKA tn so_65 pl_65 vl_65 nx_65 st_65 nu_65) ∧ (nx ≤ pl_65) := hpost
        have hH : zH s0 s1 G as0 (mW ad G (va_up (va_up (va_up (va_up (va_up (va_up F 22 ((tn : Int))) 23 ((nx_65 : Int))) 24 ((pl_65 : Int))) 25 (st_65)) 26 (nu_65)) 27 (0)) (va_up Ar 1 (nA t))) H locs := hH
        refine z_st (st' := []) rfl ?_
        refine z_iload_n hC 68 hl dX7_within_68 rfl 0 rfl ?_
        -- R69.2
        exact z_iret hC hH hQ 69 ((N9, 0, so_65, pl_65, vl_65, nx_65, st_65, nu_65, (F 28))) dX7_within_69 rfl ⟨by exact OKE_0 rfl (NUMr_o hso2 (by omega) pT_65 (by omega)), by first | (intro q; omega) | exact fun _ => ⟨pA_65, pB_65⟩, by first | assumption | omega, by first | assumption | omega⟩ rfl (Nat.le_refl _) (Nat.le_refl _)
      · -- 40f
        refine z_aload_n hC 43 hl dX7_within_43 rfl 0 rfl ?_
        refine z_iconst hC 44 dX7_within_44 ?_
        refine z_st (st' := [.int (iZ (((2 : Nat) : Int))), .ref (ad 0)]) (zcons (zieq (by omega)) rfl) ?_
        refine z_same (z_runV hC hH.2.2 hl.1 hH.1 hH.2.1 1 (As := [.int (iZ (((2 : Nat) : Int)))]) (rest := []) (m_X7_wrong lau s0 G _ ad (va_up (va_up (va_up (va_up (va_up (va_up F 22 ((tn : Int))) 23 ((nx : Int))) 24 ((pl : Int))) 25 (st)) 26 ((N9 : Int))) 27 (0)) (va_up Ar 1 (nA t)) 2 pl (by first | assumption | omega)) (lw_V q1613 q1615 qs52 q95 q1616) ⟨rfl, by decide, by decide, by decide +kernel⟩ (q0 := 0) (ci := 0) rfl rfl rfl rfl (Nat.le_of_ble_eq_true rfl) ⟨Nat.le_of_ble_eq_true rfl, Nat.le_of_ble_eq_true rfl⟩ ⟨Nat.le_of_ble_eq_true rfl, Nat.le_of_ble_eq_true rfl⟩ dX7_within_45) hH (fun _ H locs hpost hH => ?_)
        have hH : zH s0 s1 G as0 (mW ad G (va_up (va_up (va_up (va_up (va_up (va_up (va_up F 22 ((tn : Int))) 23 ((nx : Int))) 24 ((pl : Int))) 25 (st)) 26 ((N9 : Int))) 27 (2)) 28 ((pl : Int))) (va_up Ar 1 (nA t))) H locs := hH
        refine z_st (st' := []) rfl ?_
        refine z_aload_n hC 48 hl dX7_within_48 rfl 0 rfl ?_
        refine gmW_27 (x := 2) hC hH 49 rfl dX7_within_49 ?_
        refine z_if_ne_t hC 52 62 dX7_within_52 rfl (by omega) (by omega) ?_
        refine z_iload_n hC 62 hl dX7_within_62 rfl 1 rfl ?_
        refine z_istore_n (lv' := [(3, .int (iZ ((lo : Int)))), (0, .ref (ad 0)), (1, .int (iZ ((lo : Int)))), (2, .int (iZ ((hi : Int))))]) hC 63 hl dX7_within_63 rfl (by decide) rfl (fun ls hl => ?_)
        refine z_aload_n hC 64 hl dX7_within_64 rfl 1 rfl ?_
        refine z_same (z_runV hC hH.2.2 hl.1 hH.1 hH.2.1 0 (As := []) (rest := []) (m_X7_goOn_x lau s0 G _ ad (va_up (va_up (va_up (va_up (va_up (va_up (va_up F 22 ((tn : Int))) 23 ((nx : Int))) 24 ((pl : Int))) 25 (st)) 26 ((N9 : Int))) 27 (2)) 28 ((pl : Int))) (va_up Ar 1 (nA t)) 2 (by first | assumption | omega)) (lw_V q1609 q1611 qs51 q95 q1612) ⟨rfl, by decide, by decide, by decide +kernel⟩ (q0 := 0) (ci := 0) rfl rfl rfl rfl (Nat.le_of_ble_eq_true rfl) ⟨Nat.le_of_ble_eq_true rfl, Nat.le_of_ble_eq_true rfl⟩ ⟨Nat.le_of_ble_eq_true rfl, Nat.le_of_ble_eq_true rfl⟩ dX7_within_65) hH (fun _ H locs hpost hH => ?_)
        have hH : zH s0 s1 G as0 (mW ad G (va_up (va_up (va_up (va_up (va_up (va_up (va_up F 22 ((tn : Int))) 23 ((nx : Int))) 24 ((pl : Int))) 25 (st)) 26 ((N9 : Int))) 27 (2)) 28 ((pl : Int))) (va_up Ar 1 (nA t))) H locs := hH
        refine z_st (st' := []) rfl ?_
        refine z_iload_n hC 68 hl dX7_within_68 rfl 0 rfl ?_
        -- R69.3
        exact z_iret hC hH hQ 69 ((lo, 2, so, pl, vl, nx, st, (N9 : Int), (pl : Int))) dX7_within_69 rfl ⟨by exact OKE_1 (by decide) rfl (NUMr_2 (by omega) (by omega)), by first | (intro q; omega) | exact fun _ => ⟨pA_65, pB_65⟩, by first | assumption | omega, by first | assumption | omega⟩ rfl (Nat.le_refl _) (Nat.le_refl _)
  · -- 12f
    refine z_aload_n hC 15 hl dX7_within_15 rfl 0 rfl ?_
    refine z_iconst hC 16 dX7_within_16 ?_
    refine z_st (st' := [.int (iZ (((1 : Nat) : Int))), .ref (ad 0)]) (zcons (zieq (by omega)) rfl) ?_
    refine z_same (z_runV hC hH.2.2 hl.1 hH.1 hH.2.1 1 (As := [.int (iZ (((1 : Nat) : Int)))]) (rest := []) (m_X7_wrong lau s0 G _ ad (va_up (va_up (va_up (va_up (va_up (va_up F 22 ((tn : Int))) 23 ((nx : Int))) 24 ((pl : Int))) 25 (st)) 26 (nu)) 27 (0)) (va_up Ar 1 (nA t)) 1 pl (by first | assumption | omega)) (lw_V q1613 q1615 qs52 q95 q1616) ⟨rfl, by decide, by decide, by decide +kernel⟩ (q0 := 0) (ci := 0) rfl rfl rfl rfl (Nat.le_of_ble_eq_true rfl) ⟨Nat.le_of_ble_eq_true rfl, Nat.le_of_ble_eq_true rfl⟩ ⟨Nat.le_of_ble_eq_true rfl, Nat.le_of_ble_eq_true rfl⟩ dX7_within_17) hH (fun _ H locs hpost hH => ?_)
    have hH : zH s0 s1 G as0 (mW ad G (va_up (va_up (va_up (va_up (va_up (va_up (va_up F 22 ((tn : Int))) 23 ((nx : Int))) 24 ((pl : Int))) 25 (st)) 26 (nu)) 27 (1)) 28 ((pl : Int))) (va_up Ar 1 (nA t))) H locs := hH
    refine z_st (st' := []) rfl ?_
    refine z_aload_n hC 20 hl dX7_within_20 rfl 0 rfl ?_
    refine gmW_27 (x := 1) hC hH 21 rfl dX7_within_21 ?_
    refine z_if_ne_t hC 24 48 dX7_within_24 rfl (by omega) (by omega) ?_
    refine z_aload_n hC 48 hl dX7_within_48 rfl 0 rfl ?_
    refine gmW_27 (x := 1) hC hH 49 rfl dX7_within_49 ?_
    refine z_if_ne_t hC 52 62 dX7_within_52 rfl (by omega) (by omega) ?_
    refine z_iload_n hC 62 hl dX7_within_62 rfl 1 rfl ?_
    refine z_istore_n (lv' := [(3, .int (iZ ((lo : Int)))), (0, .ref (ad 0)), (1, .int (iZ ((lo : Int)))), (2, .int (iZ ((hi : Int))))]) hC 63 hl dX7_within_63 rfl (by decide) rfl (fun ls hl => ?_)
    refine z_aload_n hC 64 hl dX7_within_64 rfl 1 rfl ?_
    refine z_same (z_runV hC hH.2.2 hl.1 hH.1 hH.2.1 0 (As := []) (rest := []) (m_X7_goOn_x lau s0 G _ ad (va_up (va_up (va_up (va_up (va_up (va_up (va_up F 22 ((tn : Int))) 23 ((nx : Int))) 24 ((pl : Int))) 25 (st)) 26 (nu)) 27 (1)) 28 ((pl : Int))) (va_up Ar 1 (nA t)) 1 (by first | assumption | omega)) (lw_V q1609 q1611 qs51 q95 q1612) ⟨rfl, by decide, by decide, by decide +kernel⟩ (q0 := 0) (ci := 0) rfl rfl rfl rfl (Nat.le_of_ble_eq_true rfl) ⟨Nat.le_of_ble_eq_true rfl, Nat.le_of_ble_eq_true rfl⟩ ⟨Nat.le_of_ble_eq_true rfl, Nat.le_of_ble_eq_true rfl⟩ dX7_within_65) hH (fun _ H locs hpost hH => ?_)
    have hH : zH s0 s1 G as0 (mW ad G (va_up (va_up (va_up (va_up (va_up (va_up (va_up F 22 ((tn : Int))) 23 ((nx : Int))) 24 ((pl : Int))) 25 (st)) 26 (nu)) 27 (1)) 28 ((pl : Int))) (va_up Ar 1 (nA t))) H locs := hH
    refine z_st (st' := []) rfl ?_
    refine z_iload_n hC 68 hl dX7_within_68 rfl 0 rfl ?_
    -- R69.4
    exact z_iret hC hH hQ 69 ((lo, 1, so, pl, vl, nx, st, nu, (pl : Int))) dX7_within_69 rfl ⟨by exact OKE_1 (by decide) rfl (NUMr_1 (by omega)), by first | (intro q; omega) | exact fun _ => ⟨pA_65, pB_65⟩, by first | assumption | omega, by first | assumption | omega⟩ rfl (Nat.le_refl _) (Nat.le_refl _)

set_option maxHeartbeats 4000000 in
set_option maxRecDepth 100000 in
theorem m_X7_within_x (lau : Launch) (s0 : State) (G : zG) (sz : Nat) (ad : Nat → Nat) (F : Nat → Int) (Ar : Nat → Nat → Int) (fa : Nat) (lo : Nat) (hi : Nat) (hfa : fa ≠ 0 ∧ fa ≤ 3) (hlh : lo ≤ hi ∧ hi ≤ 9999) : zMet (S := Unit) lau yX7_within cX7_within 4 (some .int) 1 20 0 0 s0 G sz [.ref (ad 0), .int (iZ ((lo : Int))), .int (iZ ((hi : Int)))] (mW ad G (va_up F 27 ((fa : Int))) Ar) (fun (_ : Unit) => some (.int (iZ ((lo : Int))))) (fun (_ : Unit) => True) (fun (_ : Unit) => (mW ad G (va_up F 27 ((fa : Int))) Ar)) := by
  refine zMet.of (by decide) (Nat.le_of_ble_eq_true rfl) ?_
  intro pg ev s1 mi ar bl me cd ls Q as0 hC hH hl hQ hsz
  generalize s1.heap = H at hH ⊢
  generalize ([] : List Loc) = locs at hH ⊢
  have hl : lv_has ls 4 [(0, .ref (ad 0)), (1, .int (iZ ((lo : Int)))), (2, .int (iZ ((hi : Int))))] := hl
  refine z_aload_n hC 0 hl dX7_within_0 rfl 0 rfl ?_
  refine gmW_27 (x := (fa : Int)) hC hH 1 rfl dX7_within_1 ?_
  refine z_if_ne_t hC 4 20 dX7_within_4 rfl (by omega) (by omega) ?_
  refine z_aload_n hC 20 hl dX7_within_20 rfl 0 rfl ?_
  refine gmW_27 (x := (fa : Int)) hC hH 21 rfl dX7_within_21 ?_
  refine z_if_ne_t hC 24 48 dX7_within_24 rfl (by omega) (by omega) ?_
  refine z_aload_n hC 48 hl dX7_within_48 rfl 0 rfl ?_
  refine gmW_27 (x := (fa : Int)) hC hH 49 rfl dX7_within_49 ?_
  refine z_if_ne_t hC 52 62 dX7_within_52 rfl (by omega) (by omega) ?_
  refine z_iload_n hC 62 hl dX7_within_62 rfl 1 rfl ?_
  refine z_istore_n (lv' := [(3, .int (iZ ((lo : Int)))), (0, .ref (ad 0)), (1, .int (iZ ((lo : Int)))), (2, .int (iZ ((hi : Int))))]) hC 63 hl dX7_within_63 rfl (by decide) rfl (fun ls hl => ?_)
  refine z_aload_n hC 64 hl dX7_within_64 rfl 1 rfl ?_
  refine z_same (z_runV hC hH.2.2 hl.1 hH.1 hH.2.1 0 (As := []) (rest := []) (m_X7_goOn_x lau s0 G _ ad (va_up F 27 ((fa : Int))) Ar fa (by first | assumption | omega)) (lw_V q1609 q1611 qs51 q95 q1612) ⟨rfl, by decide, by decide, by decide +kernel⟩ (q0 := 0) (ci := 0) rfl rfl rfl rfl (Nat.le_of_ble_eq_true rfl) ⟨Nat.le_of_ble_eq_true rfl, Nat.le_of_ble_eq_true rfl⟩ ⟨Nat.le_of_ble_eq_true rfl, Nat.le_of_ble_eq_true rfl⟩ dX7_within_65) hH (fun _ H locs hpost hH => ?_)
  have hH : zH s0 s1 G as0 (mW ad G (va_up F 27 ((fa : Int))) Ar) H locs := hH
  refine z_st (st' := []) rfl ?_
  refine z_iload_n hC 68 hl dX7_within_68 rfl 0 rfl ?_
  -- R69.1
  exact z_iret hC hH hQ 69 (()) dX7_within_69 rfl trivial rfl (Nat.le_refl _) (Nat.le_refl _)
