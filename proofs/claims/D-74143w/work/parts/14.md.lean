/-! methods of ModeDeskModel: 14.md -/
set_option maxHeartbeats 4000000 in
set_option maxRecDepth 100000 in
theorem m_X7_run (lau : Launch) (s0 : State) (G : zG) (sz : Nat) (ad : Nat → Nat) (F : Nat → Int) (Ar : Nat → Nat → Int) (n : Nat) (v : Nat → Nat) (gv : Nat → Int) (t : Nat) (l : Int) (r : Int) (q : Int) (hn : n ≤ 120) (hv : ∀ i, i < n → v i < 1000) (ht : t < 4) (hr_l : -2147483648 ≤ l ∧ l < 2147483648) (hr_r : -2147483648 ≤ r ∧ r < 2147483648) (hr_q : -2147483648 ≤ q ∧ q < 2147483648) : zMet (S := Int × (Nat → Int) × (Nat → Nat → Int)) lau yX7_run cX7_run 8 (some .int) 1 22 0 0 s0 G sz [.ref (ad 0), .int (iZ (l)), .int (iZ (r)), .int (iZ (q))] (mW ad G (va_up (va_up F 5 ((n : Int))) 7 ((t : Int))) (va_up Ar 3 (cI (n) v gv))) (fun ((r_, F2, A2) : Int × (Nat → Int) × (Nat → Nat → Int)) => some (.int (iZ (r_)))) (fun ((r_, F2, A2) : Int × (Nat → Int) × (Nat → Nat → Int)) => (Sp_run n v l r q r_) ∧ (MK (va_up (va_up F 5 ((n : Int))) 7 ((t : Int))) (va_up Ar 3 (cI (n) v gv)) F2 A2)) (fun ((r_, F2, A2) : Int × (Nat → Int) × (Nat → Nat → Int)) => (mW ad G F2 A2)) := by
  refine zMet.of (by decide) (Nat.le_of_ble_eq_true rfl) ?_
  intro pg ev s1 mi ar bl me cd ls Q as0 hC hH hl hQ hsz
  generalize s1.heap = H at hH ⊢
  generalize ([] : List Loc) = locs at hH ⊢
  have hl : lv_has ls 8 [(0, .ref (ad 0)), (1, .int (iZ (l))), (2, .int (iZ (r))), (3, .int (iZ (q)))] := hl
  refine z_aload_n hC 0 hl dX7_run_0 rfl 0 rfl ?_
  refine z_iconst hC 1 dX7_run_1 ?_
  refine pmW_0 hC hH 2 dX7_run_2 (fun H locs hH => ?_)
  have hH : zH s0 s1 G as0 (mW ad G (va_up (va_up (va_up F 0 (0)) 5 ((n : Int))) 7 ((t : Int))) (va_up Ar 3 (cI (n) v gv))) H locs := hH
  refine z_aload_n hC 5 hl dX7_run_5 rfl 0 rfl ?_
  refine z_iload_n hC 6 hl dX7_run_6 rfl 1 rfl ?_
  refine z_iload_n hC 7 hl dX7_run_7 rfl 2 rfl ?_
  refine z_same (z_runV hC hH.2.2 hl.1 hH.1 hH.2.1 2 (As := [.int (iZ (l)), .int (iZ (r))]) (rest := []) (m_X7_isSpan lau s0 G _ ad (va_up (va_up (va_up F 0 (0)) 5 ((n : Int))) 7 ((t : Int))) (va_up Ar 3 (cI (n) v gv)) n l r (by first | assumption | omega) (by first | assumption | omega) (by first | assumption | omega)) (lw_V q1712 q1714 qs68 q95 q1715) ⟨rfl, by decide, by decide, by decide +kernel⟩ (q0 := 0) (ci := 0) rfl rfl rfl rfl (Nat.le_of_ble_eq_true rfl) ⟨Nat.le_of_ble_eq_true rfl, Nat.le_of_ble_eq_true rfl⟩ ⟨Nat.le_of_ble_eq_true rfl, Nat.le_of_ble_eq_true rfl⟩ dX7_run_8) hH (fun r_8 H locs hpost hH => ?_)
  have hb_8 : (r_8 = 1 ∧ (0 ≤ l ∧ l ≤ r ∧ r < (n : Int))) ∨ (r_8 = 0 ∧ ¬ (0 ≤ l ∧ l ≤ r ∧ r < (n : Int))) := hpost
  have hH : zH s0 s1 G as0 (mW ad G (va_up (va_up (va_up F 0 (0)) 5 ((n : Int))) 7 ((t : Int))) (va_up Ar 3 (cI (n) v gv))) H locs := hH
  refine z_st (st' := [.int (iZ (r_8))]) rfl ?_
  rcases hb_8 with ⟨rfl, hb_8⟩ | ⟨rfl, hb_8⟩
  · -- 8=1
    refine z_if_eq_f hC 11 23 dX7_run_11 rfl (by omega) (by omega) ?_
    refine z_iload_n hC 14 hl dX7_run_14 rfl 3 rfl ?_
    refine z_if_lt hC 15 23 dX7_run_15 rfl (by omega) (fun hb1 => ?_) (fun hb1 => ?_)
    · -- 15t
      refine z_iconst hC 23 dX7_run_23 ?_
      -- R24.1
      exact z_iret hC hH hQ 24 (((-1), (va_up (va_up (va_up F 0 (0)) 5 ((n : Int))) 7 ((t : Int))), (va_up Ar 3 (cI (n) v gv)))) dX7_run_24 rfl ⟨by first | (unfold Sp_run; rw [if_neg (by omega)]) | (unfold Sp_run; rw [if_pos (by omega)]), by exact ⟨rfl, rfl, rfl, rfl, rfl, rfl, rfl, rfl, rfl, rfl, rfl, rfl, rfl, rfl, rfl, rfl⟩⟩ rfl (Nat.le_refl _) (Nat.le_refl _)
    · -- 15f
      refine z_iload_n hC 18 hl dX7_run_18 rfl 3 rfl ?_
      refine z_iconst hC 19 dX7_run_19 ?_
      refine z_icmp_le hC 20 25 dX7_run_20 rfl (by omega) (by omega) (fun hb2 => ?_) (fun hb2 => ?_)
      · -- 20t
        obtain ⟨l1, rfl⟩ := Int.eq_ofNat_of_zero_le (show 0 ≤ l by omega)
        obtain ⟨r1, rfl⟩ := Int.eq_ofNat_of_zero_le (show 0 ≤ r by omega)
        refine z_iload_n hC 25 hl dX7_run_25 rfl 1 rfl ?_
        refine z_istore (lv' := [(4, .int (iZ ((l1 : Int)))), (0, .ref (ad 0)), (1, .int (iZ ((l1 : Int)))), (2, .int (iZ ((r1 : Int)))), (3, .int (iZ (q)))]) hC 26 hl dX7_run_26 (by decide) rfl (fun ls hl => ?_)
        refine z_iconst hC 28 dX7_run_28 ?_
        refine z_istore (lv' := [(5, .int (iZ (0))), (4, .int (iZ ((l1 : Int)))), (0, .ref (ad 0)), (1, .int (iZ ((l1 : Int)))), (2, .int (iZ ((r1 : Int)))), (3, .int (iZ (q)))]) hC 29 hl dX7_run_29 (by decide) rfl (fun ls hl => ?_)
        refine z_iload_n hC 31 hl dX7_run_31 rfl 3 rfl ?_
        refine z_istore (lv' := [(6, .int (iZ ((l1 : Int)))), (5, .int (iZ (0))), (4, .int (iZ ((l1 : Int)))), (0, .ref (ad 0)), (1, .int (iZ ((l1 : Int)))), (2, .int (iZ ((r1 : Int)))), (3, .int (iZ (q)))]) hC 32 hl dX7_run_32 (by decide) rfl (fun ls hl => ?_)
        have L34 : ∀ (N_ : Nat) (p : Nat) (bs : Nat) (ms : Nat) (H : Heap) (locs : List Loc) (ls : Array Slot), r1 + 1 - p < N_ → (l1 ≤ p) → (p ≤ r1 + 1) → (bs ≤ r1) → (ms ≤ r1 + 1) → (BRn v l1 p (r1 + 1) bs ms) → zH s0 s1 G as0 (mW ad G (va_up (va_up (va_up F 0 (0)) 5 ((n : Int))) 7 ((t : Int))) (va_up Ar 3 (cI (n) v gv))) H locs → lv_has ls 8 [(0, .ref (ad 0)), (1, .int (iZ ((l1 : Int)))), (2, .int (iZ ((r1 : Int)))), (3, .int (iZ (q))), (4, .int (iZ ((bs : Int)))), (5, .int (iZ ((ms : Int)))), (6, .int (iZ ((p : Int))))] → W pg lau ev (zRm 1 0 0 22) s1 mi ar bl me cd H locs 0 0 Q (F0 mi 34 ls []) := by
          intro N_
          induction N_ with
          | zero => intro p bs ms H locs ls hd; exact absurd hd (Nat.not_lt_zero _)
          | succ N_ ih34 =>
            intro p bs ms H locs ls hd34 i34_1 i34_2 i34_3 i34_4 ib hH hl
            refine z_iload hC 34 hl dX7_run_34 6 rfl ?_
            refine z_iload_n hC 36 hl dX7_run_36 rfl 2 rfl ?_
            refine z_icmp_gt hC 37 109 dX7_run_37 rfl (by omega) (by omega) (fun hb3 => ?_) (fun hb3 => ?_)
            · -- 37t
              have ep : (p) = r1 + 1 := by omega
              rw [ep] at ib
              have hvb := hv (bs) (by omega)
              refine z_iload_n hC 109 hl dX7_run_109 rfl 3 rfl ?_
              refine z_if_ne hC 110 118 dX7_run_110 rfl (by omega) (fun hb4 => ?_) (fun hb4 => ?_)
              · -- 110t
                refine z_iload_n hC 118 hl dX7_run_118 rfl 3 rfl ?_
                refine z_iconst hC 119 dX7_run_119 ?_
                refine z_icmp_ne hC 120 133 dX7_run_120 rfl (by omega) (by omega) (fun hb5 => ?_) (fun hb5 => ?_)
                · -- 120t
                  refine z_aload_n hC 133 hl dX7_run_133 rfl 0 rfl ?_
                  refine gmW_3 hC hH 134 dX7_run_134 ?_
                  refine z_iload hC 137 hl dX7_run_137 4 rfl ?_
                  refine lmW_3 (x := ((v bs : Nat) : Int)) hC hH 139 (bs) (by omega) (by omega) (cI_lt (by omega)) dX7_run_139 ?_
                  -- R140.2
                  exact z_iret hC hH hQ 140 ((((v bs : Nat) : Int), (va_up (va_up (va_up F 0 (0)) 5 ((n : Int))) 7 ((t : Int))), (va_up Ar 3 (cI (n) v gv)))) dX7_run_140 rfl ⟨by (unfold Sp_run; rw [if_pos (by omega)]; simp only [Int.toNat_natCast, zt1]; exact ⟨bs, ms, ib, by first | omega | (split <;> (try split) <;> omega)⟩), by exact ⟨rfl, rfl, rfl, rfl, rfl, rfl, rfl, rfl, rfl, rfl, rfl, rfl, rfl, rfl, rfl, rfl⟩⟩ rfl (Nat.le_refl _) (Nat.le_refl _)
                · -- 120f
                  refine z_iload hC 123 hl dX7_run_123 4 rfl ?_
                  refine z_iload hC 125 hl dX7_run_125 5 rfl ?_
                  refine z_iadd (e := (bs : Int) + (ms : Int)) hC 127 dX7_run_127 rfl ?_
                  refine z_iconst hC 128 dX7_run_128 ?_
                  refine z_isub (e := (bs : Int) + (ms : Int) - 1) hC 129 dX7_run_129 rfl ?_
                  refine z_goto hC 130 140 dX7_run_130 rfl ?_
                  -- R140.3
                  refine z_st (st' := [.int (iZ (((bs : Int) + (ms : Int) - 1)))]) (zcons (zieq (by first | assumption | omega)) rfl) ?_
                  exact z_iret hC hH hQ 140 (((bs : Int) + (ms : Int) - 1, (va_up (va_up (va_up F 0 (0)) 5 ((n : Int))) 7 ((t : Int))), (va_up Ar 3 (cI (n) v gv)))) dX7_run_140 rfl ⟨by (unfold Sp_run; rw [if_pos (by omega)]; simp only [Int.toNat_natCast, zt1]; exact ⟨bs, ms, ib, by first | omega | (split <;> (try split) <;> omega)⟩), by exact ⟨rfl, rfl, rfl, rfl, rfl, rfl, rfl, rfl, rfl, rfl, rfl, rfl, rfl, rfl, rfl, rfl⟩⟩ rfl (Nat.le_refl _) (Nat.le_refl _)
              · -- 110f
                refine z_iload hC 113 hl dX7_run_113 4 rfl ?_
                refine z_goto hC 115 140 dX7_run_115 rfl ?_
                -- R140.4
                exact z_iret hC hH hQ 140 (((bs : Int), (va_up (va_up (va_up F 0 (0)) 5 ((n : Int))) 7 ((t : Int))), (va_up Ar 3 (cI (n) v gv)))) dX7_run_140 rfl ⟨by (unfold Sp_run; rw [if_pos (by omega)]; simp only [Int.toNat_natCast, zt1]; exact ⟨bs, ms, ib, by first | omega | (split <;> (try split) <;> omega)⟩), by exact ⟨rfl, rfl, rfl, rfl, rfl, rfl, rfl, rfl, rfl, rfl, rfl, rfl, rfl, rfl, rfl, rfl⟩⟩ rfl (Nat.le_refl _) (Nat.le_refl _)
            · -- 37f
              refine z_iload hC 40 hl dX7_run_40 6 rfl ?_
              refine z_istore (lv' := [(7, .int (iZ ((p : Int)))), (0, .ref (ad 0)), (1, .int (iZ ((l1 : Int)))), (2, .int (iZ ((r1 : Int)))), (3, .int (iZ (q))), (4, .int (iZ ((bs : Int)))), (5, .int (iZ ((ms : Int)))), (6, .int (iZ ((p : Int))))]) hC 42 hl dX7_run_42 (by decide) rfl (fun ls hl => ?_)
              have L44 : ∀ (N_ : Nat) (e : Nat) (H : Heap) (locs : List Loc) (ls : Array Slot), r1 - e < N_ → (p ≤ e) → (e ≤ r1) → (RUN v (r1 + 1) p (e + 1 - p)) → zH s0 s1 G as0 (mW ad G (va_up (va_up (va_up F 0 (0)) 5 ((n : Int))) 7 ((t : Int))) (va_up Ar 3 (cI (n) v gv))) H locs → lv_has ls 8 [(0, .ref (ad 0)), (1, .int (iZ ((l1 : Int)))), (2, .int (iZ ((r1 : Int)))), (3, .int (iZ (q))), (4, .int (iZ ((bs : Int)))), (5, .int (iZ ((ms : Int)))), (6, .int (iZ ((p : Int)))), (7, .int (iZ ((e : Int))))] → W pg lau ev (zRm 1 0 0 22) s1 mi ar bl me cd H locs 0 0 Q (F0 mi 44 ls []) := by
                intro N_
                induction N_ with
                | zero => intro e H locs ls hd; exact absurd hd (Nat.not_lt_zero _)
                | succ N_ ih44 =>
                  intro e H locs ls hd44 i44_1 i44_2 ie hH hl
                  refine z_iload hC 44 hl dX7_run_44 7 rfl ?_
                  refine z_iload_n hC 46 hl dX7_run_46 rfl 2 rfl ?_
                  refine z_icmp_ge hC 47 75 dX7_run_47 rfl (by omega) (by omega) (fun hb6 => ?_) (fun hb6 => ?_)
                  · -- 47t
                    refine z_iload hC 75 hl dX7_run_75 7 rfl ?_
                    refine z_iload hC 77 hl dX7_run_77 6 rfl ?_
                    refine z_isub (e := (e : Int) - (p : Int)) hC 79 dX7_run_79 rfl ?_
                    refine z_iconst hC 80 dX7_run_80 ?_
                    refine z_iadd (e := (e : Int) - (p : Int) + 1) hC 81 dX7_run_81 rfl ?_
                    refine z_iload hC 82 hl dX7_run_82 5 rfl ?_
                    refine z_icmp_gt hC 84 90 dX7_run_84 rfl (by omega) (by omega) (fun hb7 => ?_) (fun hb7 => ?_)
                    · -- 84t
                      refine z_iload hC 90 hl dX7_run_90 6 rfl ?_
                      refine z_istore (lv' := [(4, .int (iZ ((p : Int)))), (0, .ref (ad 0)), (1, .int (iZ ((l1 : Int)))), (2, .int (iZ ((r1 : Int)))), (3, .int (iZ (q))), (5, .int (iZ ((ms : Int)))), (6, .int (iZ ((p : Int)))), (7, .int (iZ ((e : Int))))]) hC 92 hl dX7_run_92 (by decide) rfl (fun ls hl => ?_)
                      refine z_iload hC 94 hl dX7_run_94 7 rfl ?_
                      refine z_iload hC 96 hl dX7_run_96 6 rfl ?_
                      refine z_isub (e := (e : Int) - (p : Int)) hC 98 dX7_run_98 rfl ?_
                      refine z_iconst hC 99 dX7_run_99 ?_
                      refine z_iadd (e := (e : Int) - (p : Int) + 1) hC 100 dX7_run_100 rfl ?_
                      refine z_istore (lv' := [(5, .int (iZ ((e : Int) - (p : Int) + 1))), (4, .int (iZ ((p : Int)))), (0, .ref (ad 0)), (1, .int (iZ ((l1 : Int)))), (2, .int (iZ ((r1 : Int)))), (3, .int (iZ (q))), (6, .int (iZ ((p : Int)))), (7, .int (iZ ((e : Int))))]) hC 101 hl dX7_run_101 (by decide) rfl (fun ls hl => ?_)
                      refine z_iinc (lv' := [(6, .int (iZ ((p : Int) + 1))), (5, .int (iZ ((e : Int) - (p : Int) + 1))), (4, .int (iZ ((p : Int)))), (0, .ref (ad 0)), (1, .int (iZ ((l1 : Int)))), (2, .int (iZ ((r1 : Int)))), (3, .int (iZ (q))), (7, .int (iZ ((e : Int))))]) hC 103 hl dX7_run_103 6 rfl (by omega) (by decide) rfl (fun ls hl => ?_)
                      refine z_goto hC 106 34 dX7_run_106 rfl ?_
                      -- J34.5
                      exact ih34 (p + 1) p (e + 1 - p) _ _ _ (by omega) (by first | assumption | omega) (by first | assumption | omega) (by first | assumption | omega) (by first | assumption | omega) (by first | exact BRn_0 | exact BRn_keep ib (by omega) (by omega) (by omega) (by first | (left; omega) | (right; omega)) (by omega) | exact BRn_new ib (by omega) (by omega) (by first | (left; omega) | (right; omega)) ie (by omega)) hH (z_lv (lv_sub hl [3, 4, 5, 6, 2, 1, 0] rfl) (zcons rfl (zcons rfl (zcons rfl (zcons rfl (zcons rfl (zcons (zpeq (by omega)) (zcons (zpeq (by omega)) rfl))))))))
                    · -- 84f
                      refine z_goto hC 87 103 dX7_run_87 rfl ?_
                      refine z_iinc (lv' := [(6, .int (iZ ((p : Int) + 1))), (0, .ref (ad 0)), (1, .int (iZ ((l1 : Int)))), (2, .int (iZ ((r1 : Int)))), (3, .int (iZ (q))), (4, .int (iZ ((bs : Int)))), (5, .int (iZ ((ms : Int)))), (7, .int (iZ ((e : Int))))]) hC 103 hl dX7_run_103 6 rfl (by omega) (by decide) rfl (fun ls hl => ?_)
                      refine z_goto hC 106 34 dX7_run_106 rfl ?_
                      -- J34.6
                      exact ih34 (p + 1) bs ms _ _ _ (by omega) (by first | assumption | omega) (by first | assumption | omega) (by first | assumption | omega) (by first | assumption | omega) (by first | exact BRn_0 | exact BRn_keep ib (by omega) (by omega) (by omega) (by first | (left; omega) | (right; omega)) (by omega) | exact BRn_new ib (by omega) (by omega) (by first | (left; omega) | (right; omega)) ie (by omega)) hH (z_lv (lv_sub hl [1, 2, 3, 4, 5, 6, 0] rfl) (zcons rfl (zcons rfl (zcons rfl (zcons rfl (zcons rfl (zcons rfl (zcons (zpeq (by omega)) rfl))))))))
                  · -- 47f
                    have hv1 := hv ((e) + 1) (by omega)
                    have hv2 := hv (p) (by omega)
                    refine z_aload_n hC 50 hl dX7_run_50 rfl 0 rfl ?_
                    refine gmW_3 hC hH 51 dX7_run_51 ?_
                    refine z_iload hC 54 hl dX7_run_54 7 rfl ?_
                    refine z_iconst hC 56 dX7_run_56 ?_
                    refine z_iadd (e := (e : Int) + 1) hC 57 dX7_run_57 rfl ?_
                    refine lmW_3 (x := ((v (e + 1) : Nat) : Int)) hC hH 58 (e + 1) (by omega) (by omega) (cI_lt (by omega)) dX7_run_58 ?_
                    refine z_aload_n hC 59 hl dX7_run_59 rfl 0 rfl ?_
                    refine gmW_3 hC hH 60 dX7_run_60 ?_
                    refine z_iload hC 63 hl dX7_run_63 6 rfl ?_
                    refine lmW_3 (x := ((v p : Nat) : Int)) hC hH 65 (p) (by omega) (by omega) (cI_lt (by omega)) dX7_run_65 ?_
                    refine z_icmp_ne hC 66 75 dX7_run_66 rfl (by omega) (by omega) (fun hb8 => ?_) (fun hb8 => ?_)
                    · -- 66t
                      refine z_iload hC 75 hl dX7_run_75 7 rfl ?_
                      refine z_iload hC 77 hl dX7_run_77 6 rfl ?_
                      refine z_isub (e := (e : Int) - (p : Int)) hC 79 dX7_run_79 rfl ?_
                      refine z_iconst hC 80 dX7_run_80 ?_
                      refine z_iadd (e := (e : Int) - (p : Int) + 1) hC 81 dX7_run_81 rfl ?_
                      refine z_iload hC 82 hl dX7_run_82 5 rfl ?_
                      refine z_icmp_gt hC 84 90 dX7_run_84 rfl (by omega) (by omega) (fun hb9 => ?_) (fun hb9 => ?_)
                      · -- 84t
                        refine z_iload hC 90 hl dX7_run_90 6 rfl ?_
                        refine z_istore (lv' := [(4, .int (iZ ((p : Int)))), (0, .ref (ad 0)), (1, .int (iZ ((l1 : Int)))), (2, .int (iZ ((r1 : Int)))), (3, .int (iZ (q))), (5, .int (iZ ((ms : Int)))), (6, .int (iZ ((p : Int)))), (7, .int (iZ ((e : Int))))]) hC 92 hl dX7_run_92 (by decide) rfl (fun ls hl => ?_)
                        refine z_iload hC 94 hl dX7_run_94 7 rfl ?_
                        refine z_iload hC 96 hl dX7_run_96 6 rfl ?_
                        refine z_isub (e := (e : Int) - (p : Int)) hC 98 dX7_run_98 rfl ?_
                        refine z_iconst hC 99 dX7_run_99 ?_
                        refine z_iadd (e := (e : Int) - (p : Int) + 1) hC 100 dX7_run_100 rfl ?_
                        refine z_istore (lv' := [(5, .int (iZ ((e : Int) - (p : Int) + 1))), (4, .int (iZ ((p : Int)))), (0, .ref (ad 0)), (1, .int (iZ ((l1 : Int)))), (2, .int (iZ ((r1 : Int)))), (3, .int (iZ (q))), (6, .int (iZ ((p : Int)))), (7, .int (iZ ((e : Int))))]) hC 101 hl dX7_run_101 (by decide) rfl (fun ls hl => ?_)
                        refine z_iinc (lv' := [(6, .int (iZ ((p : Int) + 1))), (5, .int (iZ ((e : Int) - (p : Int) + 1))), (4, .int (iZ ((p : Int)))), (0, .ref (ad 0)), (1, .int (iZ ((l1 : Int)))), (2, .int (iZ ((r1 : Int)))), (3, .int (iZ (q))), (7, .int (iZ ((e : Int))))]) hC 103 hl dX7_run_103 6 rfl (by omega) (by decide) rfl (fun ls hl => ?_)
                        refine z_goto hC 106 34 dX7_run_106 rfl ?_
                        -- J34.7
                        exact ih34 (p + 1) p (e + 1 - p) _ _ _ (by omega) (by first | assumption | omega) (by first | assumption | omega) (by first | assumption | omega) (by first | assumption | omega) (by first | exact BRn_0 | exact BRn_keep ib (by omega) (by omega) (by omega) (by first | (left; omega) | (right; omega)) (by omega) | exact BRn_new ib (by omega) (by omega) (by first | (left; omega) | (right; omega)) ie (by omega)) hH (z_lv (lv_sub hl [3, 4, 5, 6, 2, 1, 0] rfl) (zcons rfl (zcons rfl (zcons rfl (zcons rfl (zcons rfl (zcons (zpeq (by omega)) (zcons (zpeq (by omega)) rfl))))))))
                      · -- 84f
                        refine z_goto hC 87 103 dX7_run_87 rfl ?_
                        refine z_iinc (lv' := [(6, .int (iZ ((p : Int) + 1))), (0, .ref (ad 0)), (1, .int (iZ ((l1 : Int)))), (2, .int (iZ ((r1 : Int)))), (3, .int (iZ (q))), (4, .int (iZ ((bs : Int)))), (5, .int (iZ ((ms : Int)))), (7, .int (iZ ((e : Int))))]) hC 103 hl dX7_run_103 6 rfl (by omega) (by decide) rfl (fun ls hl => ?_)
                        refine z_goto hC 106 34 dX7_run_106 rfl ?_
                        -- J34.8
                        exact ih34 (p + 1) bs ms _ _ _ (by omega) (by first | assumption | omega) (by first | assumption | omega) (by first | assumption | omega) (by first | assumption | omega) (by first | exact BRn_0 | exact BRn_keep ib (by omega) (by omega) (by omega) (by first | (left; omega) | (right; omega)) (by omega) | exact BRn_new ib (by omega) (by omega) (by first | (left; omega) | (right; omega)) ie (by omega)) hH (z_lv (lv_sub hl [1, 2, 3, 4, 5, 6, 0] rfl) (zcons rfl (zcons rfl (zcons rfl (zcons rfl (zcons rfl (zcons rfl (zcons (zpeq (by omega)) rfl))))))))
                    · -- 66f
                      refine z_iinc (lv' := [(7, .int (iZ ((e : Int) + 1))), (0, .ref (ad 0)), (1, .int (iZ ((l1 : Int)))), (2, .int (iZ ((r1 : Int)))), (3, .int (iZ (q))), (4, .int (iZ ((bs : Int)))), (5, .int (iZ ((ms : Int)))), (6, .int (iZ ((p : Int))))]) hC 69 hl dX7_run_69 7 rfl (by omega) (by decide) rfl (fun ls hl => ?_)
                      refine z_goto hC 72 44 dX7_run_72 rfl ?_
                      -- J44.9
                      exact ih44 (e + 1) _ _ _ (by omega) (by first | assumption | omega) (by first | assumption | omega) (by first | exact run_more (by omega) ie (by omega) (by omega) | (rw [show p + 1 - p = 1 by omega]; exact run_one (by omega))) hH (z_lv (lv_sub hl [1, 2, 3, 4, 5, 6, 7, 0] rfl) (zcons rfl (zcons rfl (zcons rfl (zcons rfl (zcons rfl (zcons rfl (zcons rfl (zcons (zpeq (by omega)) rfl)))))))))
              -- J44.10
              exact L44 _ p _ _ _ (Nat.lt_succ_self _) (by first | assumption | omega) (by first | assumption | omega) (by first | exact run_more (by omega) ie (by omega) (by omega) | (rw [show p + 1 - p = 1 by omega]; exact run_one (by omega))) hH (lv_sub hl [1, 2, 3, 4, 5, 6, 7, 0] rfl)
        -- J34.11
        exact L34 _ l1 l1 0 _ _ _ (Nat.lt_succ_self _) (by first | assumption | omega) (by first | assumption | omega) (by first | assumption | omega) (by first | assumption | omega) (by first | exact BRn_0 | exact BRn_keep ib (by omega) (by omega) (by omega) (by first | (left; omega) | (right; omega)) (by omega) | exact BRn_new ib (by omega) (by omega) (by first | (left; omega) | (right; omega)) ie (by omega)) hH (z_lv (lv_sub hl [3, 4, 5, 6, 2, 1, 0] rfl) (zcons rfl (zcons rfl (zcons rfl (zcons rfl (zcons rfl (zcons (zpeq (by omega)) (zcons rfl rfl))))))))
      · -- 20f
        refine z_iconst hC 23 dX7_run_23 ?_
        -- R24.12
        exact z_iret hC hH hQ 24 (((-1), (va_up (va_up (va_up F 0 (0)) 5 ((n : Int))) 7 ((t : Int))), (va_up Ar 3 (cI (n) v gv)))) dX7_run_24 rfl ⟨by first | (unfold Sp_run; rw [if_neg (by omega)]) | (unfold Sp_run; rw [if_pos (by omega)]), by exact ⟨rfl, rfl, rfl, rfl, rfl, rfl, rfl, rfl, rfl, rfl, rfl, rfl, rfl, rfl, rfl, rfl⟩⟩ rfl (Nat.le_refl _) (Nat.le_refl _)
  · -- 8=0
    refine z_if_eq_t hC 11 23 dX7_run_11 rfl (by omega) (by omega) ?_
    refine z_iconst hC 23 dX7_run_23 ?_
    -- R24.13
    exact z_iret hC hH hQ 24 (((-1), (va_up (va_up (va_up F 0 (0)) 5 ((n : Int))) 7 ((t : Int))), (va_up Ar 3 (cI (n) v gv)))) dX7_run_24 rfl ⟨by first | (unfold Sp_run; rw [if_neg (by omega)]) | (unfold Sp_run; rw [if_pos (by omega)]), by exact ⟨rfl, rfl, rfl, rfl, rfl, rfl, rfl, rfl, rfl, rfl, rfl, rfl, rfl, rfl, rfl, rfl⟩⟩ rfl (Nat.le_refl _) (Nat.le_refl _)

set_option maxHeartbeats 4000000 in
set_option maxRecDepth 100000 in
theorem m_X7_common (lau : Launch) (s0 : State) (G : zG) (sz : Nat) (ad : Nat → Nat) (F : Nat → Int) (Ar : Nat → Nat → Int) (n : Nat) (v : Nat → Nat) (gv : Nat → Int) (t : Nat) (l : Int) (r : Int) (m : Int) (hn : n ≤ 120) (hv : ∀ i, i < n → v i < 1000) (ht : t < 4) (hr_l : -2147483648 ≤ l ∧ l < 2147483648) (hr_r : -2147483648 ≤ r ∧ r < 2147483648) (hr_m : -2147483648 ≤ m ∧ m < 2147483648) : zMet (S := Int × (Nat → Int) × (Nat → Nat → Int)) lau yX7_common cX7_common 7 (some .int) 1 25 0 0 s0 G sz [.ref (ad 0), .int (iZ (l)), .int (iZ (r)), .int (iZ (m))] (mW ad G (va_up (va_up F 5 ((n : Int))) 7 ((t : Int))) (va_up Ar 3 (cI (n) v gv))) (fun ((r_, F2, A2) : Int × (Nat → Int) × (Nat → Nat → Int)) => some (.int (iZ (r_)))) (fun ((r_, F2, A2) : Int × (Nat → Int) × (Nat → Nat → Int)) => (Sp_common n v l r m r_) ∧ (MK (va_up (va_up F 5 ((n : Int))) 7 ((t : Int))) (va_up Ar 3 (cI (n) v gv)) F2 A2)) (fun ((r_, F2, A2) : Int × (Nat → Int) × (Nat → Nat → Int)) => (mW ad G F2 A2)) := by
  refine zMet.of (by decide) (Nat.le_of_ble_eq_true rfl) ?_
  intro pg ev s1 mi ar bl me cd ls Q as0 hC hH hl hQ hsz
  generalize s1.heap = H at hH ⊢
  generalize ([] : List Loc) = locs at hH ⊢
  have hl : lv_has ls 7 [(0, .ref (ad 0)), (1, .int (iZ (l))), (2, .int (iZ (r))), (3, .int (iZ (m)))] := hl
  refine z_aload_n hC 0 hl dX7_common_0 rfl 0 rfl ?_
  refine z_iconst hC 1 dX7_common_1 ?_
  refine pmW_0 hC hH 2 dX7_common_2 (fun H locs hH => ?_)
  have hH : zH s0 s1 G as0 (mW ad G (va_up (va_up (va_up F 0 (0)) 5 ((n : Int))) 7 ((t : Int))) (va_up Ar 3 (cI (n) v gv))) H locs := hH
  refine z_aload_n hC 5 hl dX7_common_5 rfl 0 rfl ?_
  refine z_iload_n hC 6 hl dX7_common_6 rfl 1 rfl ?_
  refine z_iload_n hC 7 hl dX7_common_7 rfl 2 rfl ?_
  refine z_same (z_runV hC hH.2.2 hl.1 hH.1 hH.2.1 2 (As := [.int (iZ (l)), .int (iZ (r))]) (rest := []) (m_X7_isSpan lau s0 G _ ad (va_up (va_up (va_up F 0 (0)) 5 ((n : Int))) 7 ((t : Int))) (va_up Ar 3 (cI (n) v gv)) n l r (by first | assumption | omega) (by first | assumption | omega) (by first | assumption | omega)) (lw_V q1712 q1714 qs68 q95 q1715) ⟨rfl, by decide, by decide, by decide +kernel⟩ (q0 := 0) (ci := 0) rfl rfl rfl rfl (Nat.le_of_ble_eq_true rfl) ⟨Nat.le_of_ble_eq_true rfl, Nat.le_of_ble_eq_true rfl⟩ ⟨Nat.le_of_ble_eq_true rfl, Nat.le_of_ble_eq_true rfl⟩ dX7_common_8) hH (fun r_8 H locs hpost hH => ?_)
  have hb_8 : (r_8 = 1 ∧ (0 ≤ l ∧ l ≤ r ∧ r < (n : Int))) ∨ (r_8 = 0 ∧ ¬ (0 ≤ l ∧ l ≤ r ∧ r < (n : Int))) := hpost
  have hH : zH s0 s1 G as0 (mW ad G (va_up (va_up (va_up F 0 (0)) 5 ((n : Int))) 7 ((t : Int))) (va_up Ar 3 (cI (n) v gv))) H locs := hH
  refine z_st (st' := [.int (iZ (r_8))]) rfl ?_
  rcases hb_8 with ⟨rfl, hb_8⟩ | ⟨rfl, hb_8⟩
  · -- 8=1
    refine z_if_eq_f hC 11 30 dX7_common_11 rfl (by omega) (by omega) ?_
    refine z_iload_n hC 14 hl dX7_common_14 rfl 3 rfl ?_
    refine z_if_lt hC 15 30 dX7_common_15 rfl (by omega) (fun hb1 => ?_) (fun hb1 => ?_)
    · -- 15t
      refine z_iconst hC 30 dX7_common_30 ?_
      -- R31.1
      exact z_iret hC hH hQ 31 (((-1), (va_up (va_up (va_up F 0 (0)) 5 ((n : Int))) 7 ((t : Int))), (va_up Ar 3 (cI (n) v gv)))) dX7_common_31 rfl ⟨by first | (unfold Sp_common; rw [if_neg (by omega)]) | (unfold Sp_common; rw [if_pos (by omega)]), by exact ⟨rfl, rfl, rfl, rfl, rfl, rfl, rfl, rfl, rfl, rfl, rfl, rfl, rfl, rfl, rfl, rfl⟩⟩ rfl (Nat.le_refl _) (Nat.le_refl _)
    · -- 15f
      refine z_iload_n hC 18 hl dX7_common_18 rfl 3 rfl ?_
      refine z_aload_n hC 19 hl dX7_common_19 rfl 0 rfl ?_
      refine gmW_5 (x := (n : Int)) hC hH 20 rfl dX7_common_20 ?_
      refine z_iload_n hC 23 hl dX7_common_23 rfl 2 rfl ?_
      refine z_iload_n hC 24 hl dX7_common_24 rfl 1 rfl ?_
      refine z_isub (e := r - l) hC 25 dX7_common_25 rfl ?_
      refine z_isub (e := (n : Int) - r + l) hC 26 dX7_common_26 (by omega) ?_
      refine z_icmp_lt hC 27 32 dX7_common_27 rfl (by omega) (by omega) (fun hb2 => ?_) (fun hb2 => ?_)
      · -- 27t
        obtain ⟨l1, rfl⟩ := Int.eq_ofNat_of_zero_le (show 0 ≤ l by omega)
        obtain ⟨r1, rfl⟩ := Int.eq_ofNat_of_zero_le (show 0 ≤ r by omega)
        obtain ⟨m1, rfl⟩ := Int.eq_ofNat_of_zero_le (show 0 ≤ m by omega)
        refine z_aload_n hC 32 hl dX7_common_32 rfl 0 rfl ?_
        refine z_iload_n hC 33 hl dX7_common_33 rfl 1 rfl ?_
        refine z_iload_n hC 34 hl dX7_common_34 rfl 2 rfl ?_
        refine z_iconst hC 35 dX7_common_35 ?_
        refine z_st (st' := [.int (iZ ((-1))), .int (iZ (((r1 + 1 : Nat) : Int) - 1)), .int (iZ ((l1 : Int))), .ref (ad 0)]) (zcons rfl (zcons (zieq (by omega)) (zcons rfl rfl))) ?_
        refine z_same (z_runV hC hH.2.2 hl.1 hH.1 hH.2.1 3 (As := [.int (iZ ((l1 : Int))), .int (iZ (((r1 + 1 : Nat) : Int) - 1)), .int (iZ ((-1)))]) (rest := []) (m_X7_counts lau s0 G _ ad (va_up (va_up (va_up F 0 (0)) 5 ((n : Int))) 7 ((t : Int))) (va_up Ar 3 (cI (n) v gv)) n v gv l1 (r1 + 1) (-1) v (by first | assumption | omega) (by first | assumption | omega) (by first | assumption | omega) (by first | assumption | omega) (by first | assumption | omega) (by exact fun i _ _ => ⟨fun q => by omega, fun _ => rfl⟩)) (lw_V q1764 q1766 qs73 q95 q1767) ⟨rfl, by decide, by decide, by decide +kernel⟩ (q0 := 0) (ci := 0) rfl rfl rfl rfl (Nat.le_of_ble_eq_true rfl) ⟨Nat.le_of_ble_eq_true rfl, Nat.le_of_ble_eq_true rfl⟩ ⟨Nat.le_of_ble_eq_true rfl, Nat.le_of_ble_eq_true rfl⟩ dX7_common_36) hH (fun u_ H locs hpost hH => ?_)
        obtain ⟨o_36, go_36, fo_36, la_36, k_36, u_36, gu_36⟩ := u_
        have pCO_36 : CO v l1 (r1 + 1) o_36 fo_36 la_36 k_36 u_36 := hpost
        have hH : zH s0 s1 G as0 (mW ad G (va_up (va_up (va_up (va_up F 0 (0)) 5 ((n : Int))) 7 ((t : Int))) 38 ((k_36 : Int))) (va_up (va_up (va_up (va_up (va_up Ar 3 (cI (n) v gv)) 34 (cI (1000) o_36 go_36)) 35 fo_36) 36 la_36) 37 (cI (k_36) u_36 gu_36))) H locs := hH
        refine z_st (st' := []) rfl ?_
        have hkk := pCO_36.2.2.1
        refine z_iconst hC 39 dX7_common_39 ?_
        refine z_istore (lv' := [(4, .int (iZ (0))), (0, .ref (ad 0)), (1, .int (iZ ((l1 : Int)))), (2, .int (iZ ((r1 : Int)))), (3, .int (iZ ((m1 : Int))))]) hC 40 hl dX7_common_40 (by decide) rfl (fun ls hl => ?_)
        refine z_iconst hC 42 dX7_common_42 ?_
        refine z_istore (lv' := [(5, .int (iZ (0))), (4, .int (iZ (0))), (0, .ref (ad 0)), (1, .int (iZ ((l1 : Int)))), (2, .int (iZ ((r1 : Int)))), (3, .int (iZ ((m1 : Int))))]) hC 43 hl dX7_common_43 (by decide) rfl (fun ls hl => ?_)
        have L45 : ∀ (N_ : Nat) (i : Nat) (c : Nat) (H : Heap) (locs : List Loc) (ls : Array Slot), k_36 - i < N_ → (i ≤ k_36) → (c = sm (fun j => min (cnt v l1 (r1 + 1) (u_36 j)) (cnt v m1 (m1 + r1 + 1 - l1) (u_36 j))) 0 i) → (c ≤ i * 120) → zH s0 s1 G as0 (mW ad G (va_up (va_up (va_up (va_up F 0 (0)) 5 ((n : Int))) 7 ((t : Int))) 38 ((k_36 : Int))) (va_up (va_up (va_up (va_up (va_up Ar 3 (cI (n) v gv)) 34 (cI (1000) o_36 go_36)) 35 fo_36) 36 la_36) 37 (cI (k_36) u_36 gu_36))) H locs → lv_has ls 7 [(0, .ref (ad 0)), (1, .int (iZ ((l1 : Int)))), (2, .int (iZ ((r1 : Int)))), (3, .int (iZ ((m1 : Int)))), (4, .int (iZ ((c : Int)))), (5, .int (iZ ((i : Int))))] → W pg lau ev (zRm 1 0 0 25) s1 mi ar bl me cd H locs 0 0 Q (F0 mi 45 ls []) := by
          intro N_
          induction N_ with
          | zero => intro i c H locs ls hd; exact absurd hd (Nat.not_lt_zero _)
          | succ N_ ih45 =>
            intro i c H locs ls hd45 i45_1 ic i45_3 hH hl
            refine z_iload hC 45 hl dX7_common_45 5 rfl ?_
            refine z_aload_n hC 47 hl dX7_common_47 rfl 0 rfl ?_
            refine gmW_38 (x := (k_36 : Int)) hC hH 48 rfl dX7_common_48 ?_
            refine z_icmp_ge hC 51 118 dX7_common_51 rfl (by omega) (by omega) (fun hb3 => ?_) (fun hb3 => ?_)
            · -- 51t
              obtain rfl : k_36 = (i) := by omega
              have hen := sm_enum (M := 1000) u_36 k_36 (fun x => min (cnt v l1 (r1 + 1) x) (cnt v m1 (m1 + r1 + 1 - l1) x)) (fun j hj => (pCO_36.2.2.2.1 j hj).1) pCO_36.2.2.2.2.1 (fun x hx hf => pCO_36.2.2.2.2.2 x hx (Nat.pos_of_ne_zero (fun e => hf (by rw [e, Nat.zero_min]))))
              refine z_iload hC 118 hl dX7_common_118 4 rfl ?_
              -- R120.2
              exact z_iret hC hH hQ 120 (((c : Int), (va_up (va_up (va_up (va_up F 0 (0)) 5 ((n : Int))) 7 ((t : Int))) 38 ((k_36 : Int))), (va_up (va_up (va_up (va_up (va_up Ar 3 (cI (n) v gv)) 34 (cI (1000) o_36 go_36)) 35 fo_36) 36 la_36) 37 (cI (k_36) u_36 gu_36)))) dX7_common_120 rfl ⟨by (unfold Sp_common; rw [if_pos (by omega)]; simp only [Int.toNat_natCast, zt1]; rw [ic, hen]; rfl), by exact ⟨rfl, rfl, rfl, rfl, rfl, rfl, rfl, rfl, rfl, rfl, rfl, rfl, rfl, rfl, rfl, rfl⟩⟩ rfl (Nat.le_refl _) (Nat.le_refl _)
            · -- 51f
              have hu := pCO_36.2.2.2.1 (i) (by omega)
              have ho1 := pCO_36.1 (u_36 (i)) hu.1
              have hc1 := cnt_le v l1 (r1 + 1) (u_36 (i))
              have hc2 := cnt_le v m1 (m1 + r1 + 1 - l1) (u_36 (i))
              refine z_aload_n hC 54 hl dX7_common_54 rfl 0 rfl ?_
              refine z_iload_n hC 55 hl dX7_common_55 rfl 3 rfl ?_
              refine z_iload_n hC 56 hl dX7_common_56 rfl 3 rfl ?_
              refine z_iload_n hC 57 hl dX7_common_57 rfl 2 rfl ?_
              refine z_iadd (e := (m1 : Int) + (r1 : Int)) hC 58 dX7_common_58 rfl ?_
              refine z_iload_n hC 59 hl dX7_common_59 rfl 1 rfl ?_
              refine z_isub (e := (m1 : Int) + (r1 : Int) - (l1 : Int)) hC 60 dX7_common_60 rfl ?_
              refine z_aload_n hC 61 hl dX7_common_61 rfl 0 rfl ?_
              refine gmW_37 hC hH 62 dX7_common_62 ?_
              refine z_iload hC 65 hl dX7_common_65 5 rfl ?_
              refine lmW_37 (x := ((u_36 i : Nat) : Int)) hC hH 67 (i) (by omega) (by omega) (cI_lt (by omega)) dX7_common_67 ?_
              refine z_st (st' := [.int (iZ (((u_36 i : Nat) : Int))), .int (iZ (((m1 + r1 + 1 - l1 : Nat) : Int) - 1)), .int (iZ ((m1 : Int))), .ref (ad 0)]) (zcons rfl (zcons (zieq (by omega)) (zcons rfl rfl))) ?_
              refine z_same (z_runV hC hH.2.2 hl.1 hH.1 hH.2.1 3 (As := [.int (iZ ((m1 : Int))), .int (iZ (((m1 + r1 + 1 - l1 : Nat) : Int) - 1)), .int (iZ (((u_36 i : Nat) : Int)))]) (rest := []) (m_X7_timesIn lau s0 G _ ad (va_up (va_up (va_up (va_up F 0 (0)) 5 ((n : Int))) 7 ((t : Int))) 38 ((k_36 : Int))) (va_up (va_up (va_up (va_up (va_up Ar 3 (cI (n) v gv)) 34 (cI (1000) o_36 go_36)) 35 fo_36) 36 la_36) 37 (cI (k_36) u_36 gu_36)) n v gv m1 (m1 + r1 + 1 - l1) (u_36 i) (by first | assumption | omega) (by first | assumption | omega) (by first | assumption | omega) (by first | assumption | omega) (by exact hu.1)) (lw_V q1645 q1647 qs58 q95 q1648) ⟨rfl, by decide, by decide, by decide +kernel⟩ (q0 := 0) (ci := 0) rfl rfl rfl rfl (Nat.le_of_ble_eq_true rfl) ⟨Nat.le_of_ble_eq_true rfl, Nat.le_of_ble_eq_true rfl⟩ ⟨Nat.le_of_ble_eq_true rfl, Nat.le_of_ble_eq_true rfl⟩ dX7_common_68) hH (fun _ H locs hpost hH => ?_)
              have hH : zH s0 s1 G as0 (mW ad G (va_up (va_up (va_up (va_up F 0 (0)) 5 ((n : Int))) 7 ((t : Int))) 38 ((k_36 : Int))) (va_up (va_up (va_up (va_up (va_up Ar 3 (cI (n) v gv)) 34 (cI (1000) o_36 go_36)) 35 fo_36) 36 la_36) 37 (cI (k_36) u_36 gu_36))) H locs := hH
              refine z_st (st' := [.int (iZ (((cnt v m1 (m1 + r1 + 1 - l1) (u_36 i) : Nat) : Int)))]) rfl ?_
              refine z_istore (lv' := [(6, .int (iZ (((cnt v m1 (m1 + r1 + 1 - l1) (u_36 i) : Nat) : Int)))), (0, .ref (ad 0)), (1, .int (iZ ((l1 : Int)))), (2, .int (iZ ((r1 : Int)))), (3, .int (iZ ((m1 : Int)))), (4, .int (iZ ((c : Int)))), (5, .int (iZ ((i : Int))))]) hC 71 hl dX7_common_71 (by decide) rfl (fun ls hl => ?_)
              refine z_iload hC 73 hl dX7_common_73 5 rfl ?_
              refine z_iload hC 75 hl dX7_common_75 0 rfl ?_
              refine z_aload_n hC 77 hl dX7_common_77 rfl 1 rfl ?_
              refine gmW_34 hC hH 78 dX7_common_78 ?_
              refine z_aload_n hC 81 hl dX7_common_81 rfl 1 rfl ?_
              refine gmW_37 hC hH 82 dX7_common_82 ?_
              refine z_iload hC 85 hl dX7_common_85 6 rfl ?_
              refine lmW_37 (x := ((u_36 i : Nat) : Int)) hC hH 87 (i) (by omega) (by omega) (cI_lt (by omega)) dX7_common_87 ?_
              refine lmW_34 (x := ((o_36 (u_36 i) : Nat) : Int)) hC hH 88 ((u_36 i)) (by omega) (by omega) (cI_lt (by omega)) dX7_common_88 ?_
              refine z_icmp_ge hC 89 97 dX7_common_89 rfl (by omega) (by omega) (fun hb4 => ?_) (fun hb4 => ?_)
              · -- 89t
                refine z_aload_n hC 97 hl dX7_common_97 rfl 1 rfl ?_
                refine gmW_34 hC hH 98 dX7_common_98 ?_
                refine z_aload_n hC 101 hl dX7_common_101 rfl 1 rfl ?_
                refine gmW_37 hC hH 102 dX7_common_102 ?_
                refine z_iload hC 105 hl dX7_common_105 6 rfl ?_
                refine lmW_37 (x := ((u_36 i : Nat) : Int)) hC hH 107 (i) (by omega) (by omega) (cI_lt (by omega)) dX7_common_107 ?_
                refine lmW_34 (x := ((o_36 (u_36 i) : Nat) : Int)) hC hH 108 ((u_36 i)) (by omega) (by omega) (cI_lt (by omega)) dX7_common_108 ?_
                refine z_iadd (e := (c : Int) + ((o_36 (u_36 i) : Nat) : Int)) hC 109 dX7_common_109 rfl ?_
                refine z_istore (lv' := [(4, .int (iZ ((c : Int) + ((o_36 (u_36 i) : Nat) : Int)))), (6, .int (iZ (((cnt v m1 (m1 + r1 + 1 - l1) (u_36 i) : Nat) : Int)))), (0, .ref (ad 0)), (1, .int (iZ ((l1 : Int)))), (2, .int (iZ ((r1 : Int)))), (3, .int (iZ ((m1 : Int)))), (5, .int (iZ ((i : Int))))]) hC 110 hl dX7_common_110 (by decide) rfl (fun ls hl => ?_)
                refine z_iinc (lv' := [(5, .int (iZ ((i : Int) + 1))), (4, .int (iZ ((c : Int) + ((o_36 (u_36 i) : Nat) : Int)))), (6, .int (iZ (((cnt v m1 (m1 + r1 + 1 - l1) (u_36 i) : Nat) : Int)))), (0, .ref (ad 0)), (1, .int (iZ ((l1 : Int)))), (2, .int (iZ ((r1 : Int)))), (3, .int (iZ ((m1 : Int))))]) hC 112 hl dX7_common_112 6 rfl (by omega) (by decide) rfl (fun ls hl => ?_)
                refine z_goto hC 115 45 dX7_common_115 rfl ?_
                -- J45.3
                exact ih45 (i + 1) (c + (o_36 (u_36 i))) _ _ _ (by omega) (by first | assumption | omega) (by first | rfl | (rw [sm_succ _ (Nat.zero_le _)]; omega)) (by first | assumption | omega) hH (z_lv (lv_sub hl [3, 4, 5, 6, 1, 0] rfl) (zcons rfl (zcons rfl (zcons rfl (zcons rfl (zcons (zpeq (by omega)) (zcons (zpeq (by omega)) rfl)))))))
              · -- 89f
                refine z_iload hC 92 hl dX7_common_92 0 rfl ?_
                refine z_goto hC 94 109 dX7_common_94 rfl ?_
                refine z_iadd (e := (c : Int) + ((cnt v m1 (m1 + r1 + 1 - l1) (u_36 i) : Nat) : Int)) hC 109 dX7_common_109 rfl ?_
                refine z_istore (lv' := [(4, .int (iZ ((c : Int) + ((cnt v m1 (m1 + r1 + 1 - l1) (u_36 i) : Nat) : Int)))), (6, .int (iZ (((cnt v m1 (m1 + r1 + 1 - l1) (u_36 i) : Nat) : Int)))), (0, .ref (ad 0)), (1, .int (iZ ((l1 : Int)))), (2, .int (iZ ((r1 : Int)))), (3, .int (iZ ((m1 : Int)))), (5, .int (iZ ((i : Int))))]) hC 110 hl dX7_common_110 (by decide) rfl (fun ls hl => ?_)
                refine z_iinc (lv' := [(5, .int (iZ ((i : Int) + 1))), (4, .int (iZ ((c : Int) + ((cnt v m1 (m1 + r1 + 1 - l1) (u_36 i) : Nat) : Int)))), (6, .int (iZ (((cnt v m1 (m1 + r1 + 1 - l1) (u_36 i) : Nat) : Int)))), (0, .ref (ad 0)), (1, .int (iZ ((l1 : Int)))), (2, .int (iZ ((r1 : Int)))), (3, .int (iZ ((m1 : Int))))]) hC 112 hl dX7_common_112 6 rfl (by omega) (by decide) rfl (fun ls hl => ?_)
                refine z_goto hC 115 45 dX7_common_115 rfl ?_
                -- J45.4
                exact ih45 (i + 1) (c + (cnt v m1 (m1 + r1 + 1 - l1) (u_36 i))) _ _ _ (by omega) (by first | assumption | omega) (by first | rfl | (rw [sm_succ _ (Nat.zero_le _)]; omega)) (by first | assumption | omega) hH (z_lv (lv_sub hl [3, 4, 5, 6, 1, 0] rfl) (zcons rfl (zcons rfl (zcons rfl (zcons rfl (zcons (zpeq (by omega)) (zcons (zpeq (by omega)) rfl)))))))
        -- J45.5
        exact L45 _ 0 0 _ _ _ (Nat.lt_succ_self _) (by first | assumption | omega) (by first | rfl | (rw [sm_succ _ (Nat.zero_le _)]; omega)) (by first | assumption | omega) hH (z_lv (lv_sub hl [2, 3, 4, 5, 1, 0] rfl) (zcons rfl (zcons rfl (zcons rfl (zcons rfl (zcons (zpeq (by omega)) (zcons (zpeq (by omega)) rfl)))))))
      · -- 27f
        refine z_iconst hC 30 dX7_common_30 ?_
        -- R31.6
        exact z_iret hC hH hQ 31 (((-1), (va_up (va_up (va_up F 0 (0)) 5 ((n : Int))) 7 ((t : Int))), (va_up Ar 3 (cI (n) v gv)))) dX7_common_31 rfl ⟨by first | (unfold Sp_common; rw [if_neg (by omega)]) | (unfold Sp_common; rw [if_pos (by omega)]), by exact ⟨rfl, rfl, rfl, rfl, rfl, rfl, rfl, rfl, rfl, rfl, rfl, rfl, rfl, rfl, rfl, rfl⟩⟩ rfl (Nat.le_refl _) (Nat.le_refl _)
  · -- 8=0
    refine z_if_eq_t hC 11 30 dX7_common_11 rfl (by omega) (by omega) ?_
    refine z_iconst hC 30 dX7_common_30 ?_
    -- R31.7
    exact z_iret hC hH hQ 31 (((-1), (va_up (va_up (va_up F 0 (0)) 5 ((n : Int))) 7 ((t : Int))), (va_up Ar 3 (cI (n) v gv)))) dX7_common_31 rfl ⟨by first | (unfold Sp_common; rw [if_neg (by omega)]) | (unfold Sp_common; rw [if_pos (by omega)]), by exact ⟨rfl, rfl, rfl, rfl, rfl, rfl, rfl, rfl, rfl, rfl, rfl, rfl, rfl, rfl, rfl, rfl⟩⟩ rfl (Nat.le_refl _) (Nat.le_refl _)

set_option maxHeartbeats 4000000 in
set_option maxRecDepth 100000 in
theorem m_X7_weightsOf (lau : Launch) (s0 : State) (G : zG) (sz : Nat) (ad : Nat → Nat) (F : Nat → Int) (Ar : Nat → Nat → Int) (n : Nat) (v : Nat → Nat) (gv : Nat → Int) (wt : Nat → Nat) (gw : Nat → Int) (l : Nat) (r : Nat) (x : Nat) (hn : n ≤ 120) (hv : ∀ i, i < n → v i < 1000) (hwt : ∀ i, i < n → 1 ≤ wt i ∧ wt i ≤ 9) (hlr : r ≤ n) (hl0 : l ≤ r) (hx : x < 1000) : zMet (S := Unit) lau yX7_weightsOf cX7_weightsOf 6 (some .int) 0 0 0 0 s0 G sz [.ref (ad 0), .int (iZ ((l : Int))), .int (iZ ((r : Int) - 1)), .int (iZ ((x : Int)))] (mW ad G F (va_up (va_up Ar 3 (cI (n) v gv)) 4 (cI (n) wt gw))) (fun (_ : Unit) => some (.int (iZ (((wsum v wt l x r : Nat) : Int))))) (fun (_ : Unit) => (wsum v wt l x r ≤ 1080)) (fun (_ : Unit) => (mW ad G F (va_up (va_up Ar 3 (cI (n) v gv)) 4 (cI (n) wt gw)))) := by
  refine zMet.of (by decide) (Nat.le_of_ble_eq_true rfl) ?_
  intro pg ev s1 mi ar bl me cd ls Q as0 hC hH hl hQ hsz
  generalize s1.heap = H at hH ⊢
  generalize ([] : List Loc) = locs at hH ⊢
  have hl : lv_has ls 6 [(0, .ref (ad 0)), (1, .int (iZ ((l : Int)))), (2, .int (iZ ((r : Int) - 1))), (3, .int (iZ ((x : Int))))] := hl
  refine z_iconst hC 0 dX7_weightsOf_0 ?_
  refine z_istore (lv' := [(4, .int (iZ (0))), (0, .ref (ad 0)), (1, .int (iZ ((l : Int)))), (2, .int (iZ ((r : Int) - 1))), (3, .int (iZ ((x : Int))))]) hC 1 hl dX7_weightsOf_1 (by decide) rfl (fun ls hl => ?_)
  refine z_iload_n hC 3 hl dX7_weightsOf_3 rfl 2 rfl ?_
  refine z_istore (lv' := [(5, .int (iZ ((l : Int)))), (4, .int (iZ (0))), (0, .ref (ad 0)), (1, .int (iZ ((l : Int)))), (2, .int (iZ ((r : Int) - 1))), (3, .int (iZ ((x : Int))))]) hC 4 hl dX7_weightsOf_4 (by decide) rfl (fun ls hl => ?_)
  have L6 : ∀ (N_ : Nat) (p : Nat) (c : Nat) (H : Heap) (locs : List Loc) (ls : Array Slot), r - p < N_ → (l ≤ p) → (p ≤ r) → (c = wsum v wt l x p) → (c ≤ 9 * p) → zH s0 s1 G as0 (mW ad G F (va_up (va_up Ar 3 (cI (n) v gv)) 4 (cI (n) wt gw))) H locs → lv_has ls 6 [(0, .ref (ad 0)), (1, .int (iZ ((l : Int)))), (2, .int (iZ ((r : Int) - 1))), (3, .int (iZ ((x : Int)))), (4, .int (iZ ((c : Int)))), (5, .int (iZ ((p : Int))))] → W pg lau ev (zRm 0 0 0 0) s1 mi ar bl me cd H locs 0 0 Q (F0 mi 6 ls []) := by
    intro N_
    induction N_ with
    | zero => intro p c H locs ls hd; exact absurd hd (Nat.not_lt_zero _)
    | succ N_ ih6 =>
      intro p c H locs ls hd6 i6_1 i6_2 ik i6_4 hH hl
      refine z_iload hC 6 hl dX7_weightsOf_6 5 rfl ?_
      refine z_iload_n hC 8 hl dX7_weightsOf_8 rfl 2 rfl ?_
      refine z_icmp_gt hC 9 45 dX7_weightsOf_9 rfl (by omega) (by omega) (fun hb1 => ?_) (fun hb1 => ?_)
      · -- 9t
        obtain rfl : r = (p) := by omega
        refine z_iload hC 45 hl dX7_weightsOf_45 4 rfl ?_
        -- R47.1
        refine z_st (st' := [.int (iZ (((wsum v wt l x r : Nat) : Int)))]) (zcons (zieq (by first | assumption | omega)) rfl) ?_
        exact z_iret hC hH hQ 47 (()) dX7_weightsOf_47 rfl (by first | assumption | omega) rfl (Nat.le_refl _) (Nat.le_refl _)
      · -- 9f
        refine z_iload hC 12 hl dX7_weightsOf_12 4 rfl ?_
        refine z_aload_n hC 14 hl dX7_weightsOf_14 rfl 0 rfl ?_
        have hvp := hv (p) (by omega)
        have hwp := hwt (p) (by omega)
        refine gmW_3 hC hH 15 dX7_weightsOf_15 ?_
        refine z_iload hC 18 hl dX7_weightsOf_18 5 rfl ?_
        refine lmW_3 (x := ((v p : Nat) : Int)) hC hH 20 (p) (by omega) (by omega) (cI_lt (by omega)) dX7_weightsOf_20 ?_
        refine z_iload_n hC 21 hl dX7_weightsOf_21 rfl 3 rfl ?_
        refine z_icmp_ne hC 22 35 dX7_weightsOf_22 rfl (by omega) (by omega) (fun hb2 => ?_) (fun hb2 => ?_)
        · -- 22t
          refine z_iconst hC 35 dX7_weightsOf_35 ?_
          refine z_iadd (e := (c : Int)) hC 36 dX7_weightsOf_36 (by omega) ?_
          refine z_istore (lv' := [(4, .int (iZ ((c : Int)))), (0, .ref (ad 0)), (1, .int (iZ ((l : Int)))), (2, .int (iZ ((r : Int) - 1))), (3, .int (iZ ((x : Int)))), (5, .int (iZ ((p : Int))))]) hC 37 hl dX7_weightsOf_37 (by decide) rfl (fun ls hl => ?_)
          refine z_iinc (lv' := [(5, .int (iZ ((p : Int) + 1))), (4, .int (iZ ((c : Int)))), (0, .ref (ad 0)), (1, .int (iZ ((l : Int)))), (2, .int (iZ ((r : Int) - 1))), (3, .int (iZ ((x : Int))))]) hC 39 hl dX7_weightsOf_39 5 rfl (by omega) (by decide) rfl (fun ls hl => ?_)
          refine z_goto hC 42 6 dX7_weightsOf_42 rfl ?_
          -- J6.2
          exact ih6 (p + 1) c _ _ _ (by omega) (by first | assumption | omega) (by first | assumption | omega) (by first | exact (wsum_0 v wt (Nat.le_refl _)).symm | (rw [wsum_t (by omega) (by omega)]; omega) | (rw [wsum_f (by omega)]; omega)) (by first | assumption | omega) hH (z_lv (lv_sub hl [2, 3, 4, 5, 1, 0] rfl) (zcons rfl (zcons rfl (zcons rfl (zcons rfl (zcons rfl (zcons (zpeq (by omega)) rfl)))))))
        · -- 22f
          refine z_aload_n hC 25 hl dX7_weightsOf_25 rfl 0 rfl ?_
          refine gmW_4 hC hH 26 dX7_weightsOf_26 ?_
          refine z_iload hC 29 hl dX7_weightsOf_29 5 rfl ?_
          refine lmW_4 (x := ((wt p : Nat) : Int)) hC hH 31 (p) (by omega) (by omega) (cI_lt (by omega)) dX7_weightsOf_31 ?_
          refine z_goto hC 32 36 dX7_weightsOf_32 rfl ?_
          refine z_iadd (e := (c : Int) + ((wt p : Nat) : Int)) hC 36 dX7_weightsOf_36 rfl ?_
          refine z_istore (lv' := [(4, .int (iZ ((c : Int) + ((wt p : Nat) : Int)))), (0, .ref (ad 0)), (1, .int (iZ ((l : Int)))), (2, .int (iZ ((r : Int) - 1))), (3, .int (iZ ((x : Int)))), (5, .int (iZ ((p : Int))))]) hC 37 hl dX7_weightsOf_37 (by decide) rfl (fun ls hl => ?_)
          refine z_iinc (lv' := [(5, .int (iZ ((p : Int) + 1))), (4, .int (iZ ((c : Int) + ((wt p : Nat) : Int)))), (0, .ref (ad 0)), (1, .int (iZ ((l : Int)))), (2, .int (iZ ((r : Int) - 1))), (3, .int (iZ ((x : Int))))]) hC 39 hl dX7_weightsOf_39 5 rfl (by omega) (by decide) rfl (fun ls hl => ?_)
          refine z_goto hC 42 6 dX7_weightsOf_42 rfl ?_
          -- J6.3
          exact ih6 (p + 1) (c + (wt p)) _ _ _ (by omega) (by first | assumption | omega) (by first | assumption | omega) (by first | exact (wsum_0 v wt (Nat.le_refl _)).symm | (rw [wsum_t (by omega) (by omega)]; omega) | (rw [wsum_f (by omega)]; omega)) (by first | assumption | omega) hH (z_lv (lv_sub hl [2, 3, 4, 5, 1, 0] rfl) (zcons rfl (zcons rfl (zcons rfl (zcons rfl (zcons (zpeq (by omega)) (zcons (zpeq (by omega)) rfl)))))))
  -- J6.4
  exact L6 _ l 0 _ _ _ (Nat.lt_succ_self _) (by first | assumption | omega) (by first | assumption | omega) (by first | exact (wsum_0 v wt (Nat.le_refl _)).symm | (rw [wsum_t (by omega) (by omega)]; omega) | (rw [wsum_f (by omega)]; omega)) (by first | assumption | omega) hH (z_lv (lv_sub hl [2, 3, 4, 5, 1, 0] rfl) (zcons rfl (zcons rfl (zcons rfl (zcons rfl (zcons (zpeq (by omega)) (zcons rfl rfl)))))))

set_option maxHeartbeats 4000000 in
set_option maxRecDepth 100000 in
theorem m_X7_heaviest (lau : Launch) (s0 : State) (G : zG) (sz : Nat) (ad : Nat → Nat) (F : Nat → Int) (Ar : Nat → Nat → Int) (n : Nat) (v : Nat → Nat) (gv : Nat → Int) (t : Nat) (wt : Nat → Nat) (gw : Nat → Int) (l : Int) (r : Int) (q : Int) (hn : n ≤ 120) (hv : ∀ i, i < n → v i < 1000) (ht : t < 4) (hr_l : -2147483648 ≤ l ∧ l < 2147483648) (hr_r : -2147483648 ≤ r ∧ r < 2147483648) (hr_q : -2147483648 ≤ q ∧ q < 2147483648) (hwt : ∀ i, i < n → 1 ≤ wt i ∧ wt i ≤ 9) : zMet (S := Int × (Nat → Int) × (Nat → Nat → Int)) lau yX7_heaviest cX7_heaviest 10 (some .int) 1 25 0 0 s0 G sz [.ref (ad 0), .int (iZ (l)), .int (iZ (r)), .int (iZ (q))] (mW ad G (va_up (va_up F 5 ((n : Int))) 7 ((t : Int))) (va_up (va_up Ar 3 (cI (n) v gv)) 4 (cI (n) wt gw))) (fun ((r_, F2, A2) : Int × (Nat → Int) × (Nat → Nat → Int)) => some (.int (iZ (r_)))) (fun ((r_, F2, A2) : Int × (Nat → Int) × (Nat → Nat → Int)) => (Sp_heaviest n v wt t l r q r_) ∧ (MK (va_up (va_up F 5 ((n : Int))) 7 ((t : Int))) (va_up (va_up Ar 3 (cI (n) v gv)) 4 (cI (n) wt gw)) F2 A2)) (fun ((r_, F2, A2) : Int × (Nat → Int) × (Nat → Nat → Int)) => (mW ad G F2 A2)) := by
  refine zMet.of (by decide) (Nat.le_of_ble_eq_true rfl) ?_
  intro pg ev s1 mi ar bl me cd ls Q as0 hC hH hl hQ hsz
  generalize s1.heap = H at hH ⊢
  generalize ([] : List Loc) = locs at hH ⊢
  have hl : lv_has ls 10 [(0, .ref (ad 0)), (1, .int (iZ (l))), (2, .int (iZ (r))), (3, .int (iZ (q)))] := hl
  refine z_aload_n hC 0 hl dX7_heaviest_0 rfl 0 rfl ?_
  refine z_iconst hC 1 dX7_heaviest_1 ?_
  refine pmW_0 hC hH 2 dX7_heaviest_2 (fun H locs hH => ?_)
  have hH : zH s0 s1 G as0 (mW ad G (va_up (va_up (va_up F 0 (0)) 5 ((n : Int))) 7 ((t : Int))) (va_up (va_up Ar 3 (cI (n) v gv)) 4 (cI (n) wt gw))) H locs := hH
  refine z_aload_n hC 5 hl dX7_heaviest_5 rfl 0 rfl ?_
  refine z_iload_n hC 6 hl dX7_heaviest_6 rfl 1 rfl ?_
  refine z_iload_n hC 7 hl dX7_heaviest_7 rfl 2 rfl ?_
  refine z_same (z_runV hC hH.2.2 hl.1 hH.1 hH.2.1 2 (As := [.int (iZ (l)), .int (iZ (r))]) (rest := []) (m_X7_isSpan lau s0 G _ ad (va_up (va_up (va_up F 0 (0)) 5 ((n : Int))) 7 ((t : Int))) (va_up (va_up Ar 3 (cI (n) v gv)) 4 (cI (n) wt gw)) n l r (by first | assumption | omega) (by first | assumption | omega) (by first | assumption | omega)) (lw_V q1712 q1714 qs68 q95 q1715) ⟨rfl, by decide, by decide, by decide +kernel⟩ (q0 := 0) (ci := 0) rfl rfl rfl rfl (Nat.le_of_ble_eq_true rfl) ⟨Nat.le_of_ble_eq_true rfl, Nat.le_of_ble_eq_true rfl⟩ ⟨Nat.le_of_ble_eq_true rfl, Nat.le_of_ble_eq_true rfl⟩ dX7_heaviest_8) hH (fun r_8 H locs hpost hH => ?_)
  have hb_8 : (r_8 = 1 ∧ (0 ≤ l ∧ l ≤ r ∧ r < (n : Int))) ∨ (r_8 = 0 ∧ ¬ (0 ≤ l ∧ l ≤ r ∧ r < (n : Int))) := hpost
  have hH : zH s0 s1 G as0 (mW ad G (va_up (va_up (va_up F 0 (0)) 5 ((n : Int))) 7 ((t : Int))) (va_up (va_up Ar 3 (cI (n) v gv)) 4 (cI (n) wt gw))) H locs := hH
  refine z_st (st' := [.int (iZ (r_8))]) rfl ?_
  rcases hb_8 with ⟨rfl, hb_8⟩ | ⟨rfl, hb_8⟩
  · -- 8=1
    refine z_if_eq_f hC 11 23 dX7_heaviest_11 rfl (by omega) (by omega) ?_
    refine z_iload_n hC 14 hl dX7_heaviest_14 rfl 3 rfl ?_
    refine z_if_lt hC 15 23 dX7_heaviest_15 rfl (by omega) (fun hb1 => ?_) (fun hb1 => ?_)
    · -- 15t
      refine z_iconst hC 23 dX7_heaviest_23 ?_
      -- R24.1
      exact z_iret hC hH hQ 24 (((-1), (va_up (va_up (va_up F 0 (0)) 5 ((n : Int))) 7 ((t : Int))), (va_up (va_up Ar 3 (cI (n) v gv)) 4 (cI (n) wt gw)))) dX7_heaviest_24 rfl ⟨by first | (unfold Sp_heaviest; rw [if_neg (by omega)]) | (unfold Sp_heaviest; rw [if_pos (by omega)]), by exact ⟨rfl, rfl, rfl, rfl, rfl, rfl, rfl, rfl, rfl, rfl, rfl, rfl, rfl, rfl, rfl, rfl⟩⟩ rfl (Nat.le_refl _) (Nat.le_refl _)
    · -- 15f
      refine z_iload_n hC 18 hl dX7_heaviest_18 rfl 3 rfl ?_
      refine z_iconst hC 19 dX7_heaviest_19 ?_
      refine z_icmp_le hC 20 25 dX7_heaviest_20 rfl (by omega) (by omega) (fun hb2 => ?_) (fun hb2 => ?_)
      · -- 20t
        obtain ⟨l1, rfl⟩ := Int.eq_ofNat_of_zero_le (show 0 ≤ l by omega)
        obtain ⟨r1, rfl⟩ := Int.eq_ofNat_of_zero_le (show 0 ≤ r by omega)
        refine z_aload_n hC 25 hl dX7_heaviest_25 rfl 0 rfl ?_
        refine z_iload_n hC 26 hl dX7_heaviest_26 rfl 1 rfl ?_
        refine z_iload_n hC 27 hl dX7_heaviest_27 rfl 2 rfl ?_
        refine z_iconst hC 28 dX7_heaviest_28 ?_
        refine z_st (st' := [.int (iZ ((-1))), .int (iZ (((r1 + 1 : Nat) : Int) - 1)), .int (iZ ((l1 : Int))), .ref (ad 0)]) (zcons rfl (zcons (zieq (by omega)) (zcons rfl rfl))) ?_
        refine z_same (z_runV hC hH.2.2 hl.1 hH.1 hH.2.1 3 (As := [.int (iZ ((l1 : Int))), .int (iZ (((r1 + 1 : Nat) : Int) - 1)), .int (iZ ((-1)))]) (rest := []) (m_X7_counts lau s0 G _ ad (va_up (va_up (va_up F 0 (0)) 5 ((n : Int))) 7 ((t : Int))) (va_up (va_up Ar 3 (cI (n) v gv)) 4 (cI (n) wt gw)) n v gv l1 (r1 + 1) (-1) v (by first | assumption | omega) (by first | assumption | omega) (by first | assumption | omega) (by first | assumption | omega) (by first | assumption | omega) (by exact fun i _ _ => ⟨fun q => by omega, fun _ => rfl⟩)) (lw_V q1764 q1766 qs73 q95 q1767) ⟨rfl, by decide, by decide, by decide +kernel⟩ (q0 := 0) (ci := 0) rfl rfl rfl rfl (Nat.le_of_ble_eq_true rfl) ⟨Nat.le_of_ble_eq_true rfl, Nat.le_of_ble_eq_true rfl⟩ ⟨Nat.le_of_ble_eq_true rfl, Nat.le_of_ble_eq_true rfl⟩ dX7_heaviest_29) hH (fun u_ H locs hpost hH => ?_)
        obtain ⟨o_29, go_29, fo_29, la_29, k_29, u_29, gu_29⟩ := u_
        have pCO_29 : CO v l1 (r1 + 1) o_29 fo_29 la_29 k_29 u_29 := hpost
        have hH : zH s0 s1 G as0 (mW ad G (va_up (va_up (va_up (va_up F 0 (0)) 5 ((n : Int))) 7 ((t : Int))) 38 ((k_29 : Int))) (va_up (va_up (va_up (va_up (va_up (va_up Ar 3 (cI (n) v gv)) 4 (cI (n) wt gw)) 34 (cI (1000) o_29 go_29)) 35 fo_29) 36 la_29) 37 (cI (k_29) u_29 gu_29))) H locs := hH
        refine z_st (st' := []) rfl ?_
        have hk0 := CO_kpos pCO_29 (Nat.le_refl l1) (by omega) (hv l1 (by omega))
        have hkk := pCO_29.2.2.1
        refine z_iconst hC 32 dX7_heaviest_32 ?_
        refine z_istore (lv' := [(4, .int (iZ ((-1)))), (0, .ref (ad 0)), (1, .int (iZ ((l1 : Int)))), (2, .int (iZ ((r1 : Int)))), (3, .int (iZ (q)))]) hC 33 hl dX7_heaviest_33 (by decide) rfl (fun ls hl => ?_)
        refine z_iconst hC 35 dX7_heaviest_35 ?_
        refine z_istore (lv' := [(5, .int (iZ (0))), (4, .int (iZ ((-1)))), (0, .ref (ad 0)), (1, .int (iZ ((l1 : Int)))), (2, .int (iZ ((r1 : Int)))), (3, .int (iZ (q)))]) hC 36 hl dX7_heaviest_36 (by decide) rfl (fun ls hl => ?_)
        refine z_iconst hC 38 dX7_heaviest_38 ?_
        refine z_istore (lv' := [(6, .int (iZ (0))), (5, .int (iZ (0))), (4, .int (iZ ((-1)))), (0, .ref (ad 0)), (1, .int (iZ ((l1 : Int)))), (2, .int (iZ ((r1 : Int)))), (3, .int (iZ (q)))]) hC 39 hl dX7_heaviest_39 (by decide) rfl (fun ls hl => ?_)
        have L41 : ∀ (N_ : Nat) (i : Nat) (bs : Int) (ms : Int) (H : Heap) (locs : List Loc) (ls : Array Slot), k_29 - i < N_ → (i ≤ k_29) → (-1 ≤ bs ∧ bs < 1000) → (0 ≤ ms ∧ ms ≤ 1080) → (HBest v wt l1 (r1 + 1) t u_29 i bs ms) → zH s0 s1 G as0 (mW ad G (va_up (va_up (va_up (va_up F 0 (0)) 5 ((n : Int))) 7 ((t : Int))) 38 ((k_29 : Int))) (va_up (va_up (va_up (va_up (va_up (va_up Ar 3 (cI (n) v gv)) 4 (cI (n) wt gw)) 34 (cI (1000) o_29 go_29)) 35 fo_29) 36 la_29) 37 (cI (k_29) u_29 gu_29))) H locs → lv_has ls 10 [(0, .ref (ad 0)), (1, .int (iZ ((l1 : Int)))), (2, .int (iZ ((r1 : Int)))), (3, .int (iZ (q))), (4, .int (iZ (bs))), (5, .int (iZ (ms))), (6, .int (iZ ((i : Int))))] → W pg lau ev (zRm 1 0 0 25) s1 mi ar bl me cd H locs 0 0 Q (F0 mi 41 ls []) := by
          intro N_
          induction N_ with
          | zero => intro i bs ms H locs ls hd; exact absurd hd (Nat.not_lt_zero _)
          | succ N_ ih41 =>
            intro i bs ms H locs ls hd41 i41_1 i41_2 i41_3 ih hH hl
            refine z_iload hC 41 hl dX7_heaviest_41 6 rfl ?_
            refine z_aload_n hC 43 hl dX7_heaviest_43 rfl 0 rfl ?_
            refine gmW_38 (x := (k_29 : Int)) hC hH 44 rfl dX7_heaviest_44 ?_
            refine z_icmp_ge hC 47 133 dX7_heaviest_47 rfl (by omega) (by omega) (fun hb3 => ?_) (fun hb3 => ?_)
            · -- 47t
              obtain rfl : k_29 = (i) := by omega
              obtain ⟨x9, hx9, ex9, em9⟩ := HB_end pCO_29.2.2 hk0 ih
              refine z_iload_n hC 133 hl dX7_heaviest_133 rfl 3 rfl ?_
              refine z_if_ne hC 134 142 dX7_heaviest_134 rfl (by omega) (fun hb4 => ?_) (fun hb4 => ?_)
              · -- 134t
                refine z_iload hC 142 hl dX7_heaviest_142 5 rfl ?_
                -- R144.2
                exact z_iret hC hH hQ 144 ((ms, (va_up (va_up (va_up (va_up F 0 (0)) 5 ((n : Int))) 7 ((t : Int))) 38 ((k_29 : Int))), (va_up (va_up (va_up (va_up (va_up (va_up Ar 3 (cI (n) v gv)) 4 (cI (n) wt gw)) 34 (cI (1000) o_29 go_29)) 35 fo_29) 36 la_29) 37 (cI (k_29) u_29 gu_29)))) dX7_heaviest_144 rfl ⟨by (unfold Sp_heaviest; rw [if_pos (by omega)]; simp only [Int.toNat_natCast, zt1]; exact ⟨x9, hx9, by first | (rw [if_pos (by omega)]; omega) | (rw [if_neg (by omega)]; omega)⟩), by exact ⟨rfl, rfl, rfl, rfl, rfl, rfl, rfl, rfl, rfl, rfl, rfl, rfl, rfl, rfl, rfl, rfl⟩⟩ rfl (Nat.le_refl _) (Nat.le_refl _)
              · -- 134f
                refine z_iload hC 137 hl dX7_heaviest_137 4 rfl ?_
                refine z_goto hC 139 144 dX7_heaviest_139 rfl ?_
                -- R144.3
                exact z_iret hC hH hQ 144 ((bs, (va_up (va_up (va_up (va_up F 0 (0)) 5 ((n : Int))) 7 ((t : Int))) 38 ((k_29 : Int))), (va_up (va_up (va_up (va_up (va_up (va_up Ar 3 (cI (n) v gv)) 4 (cI (n) wt gw)) 34 (cI (1000) o_29 go_29)) 35 fo_29) 36 la_29) 37 (cI (k_29) u_29 gu_29)))) dX7_heaviest_144 rfl ⟨by (unfold Sp_heaviest; rw [if_pos (by omega)]; simp only [Int.toNat_natCast, zt1]; exact ⟨x9, hx9, by first | (rw [if_pos (by omega)]; omega) | (rw [if_neg (by omega)]; omega)⟩), by exact ⟨rfl, rfl, rfl, rfl, rfl, rfl, rfl, rfl, rfl, rfl, rfl, rfl, rfl, rfl, rfl, rfl⟩⟩ rfl (Nat.le_refl _) (Nat.le_refl _)
            · -- 47f
              refine z_aload_n hC 50 hl dX7_heaviest_50 rfl 0 rfl ?_
              have hu := pCO_29.2.2.2.1 (i) (by omega)
              refine gmW_37 hC hH 51 dX7_heaviest_51 ?_
              refine z_iload hC 54 hl dX7_heaviest_54 6 rfl ?_
              refine lmW_37 (x := ((u_29 i : Nat) : Int)) hC hH 56 (i) (by omega) (by omega) (cI_lt (by omega)) dX7_heaviest_56 ?_
              refine z_istore (lv' := [(7, .int (iZ (((u_29 i : Nat) : Int)))), (0, .ref (ad 0)), (1, .int (iZ ((l1 : Int)))), (2, .int (iZ ((r1 : Int)))), (3, .int (iZ (q))), (4, .int (iZ (bs))), (5, .int (iZ (ms))), (6, .int (iZ ((i : Int))))]) hC 57 hl dX7_heaviest_57 (by decide) rfl (fun ls hl => ?_)
              refine z_aload_n hC 59 hl dX7_heaviest_59 rfl 1 rfl ?_
              refine z_iload_n hC 60 hl dX7_heaviest_60 rfl 2 rfl ?_
              refine z_iload_n hC 61 hl dX7_heaviest_61 rfl 3 rfl ?_
              refine z_iload hC 62 hl dX7_heaviest_62 0 rfl ?_
              refine z_st (st' := [.int (iZ (((u_29 i : Nat) : Int))), .int (iZ (((r1 + 1 : Nat) : Int) - 1)), .int (iZ ((l1 : Int))), .ref (ad 0)]) (zcons rfl (zcons (zieq (by omega)) (zcons rfl rfl))) ?_
              refine z_same (z_runV hC hH.2.2 hl.1 hH.1 hH.2.1 3 (As := [.int (iZ ((l1 : Int))), .int (iZ (((r1 + 1 : Nat) : Int) - 1)), .int (iZ (((u_29 i : Nat) : Int)))]) (rest := []) (m_X7_weightsOf lau s0 G _ ad (va_up (va_up (va_up (va_up F 0 (0)) 5 ((n : Int))) 7 ((t : Int))) 38 ((k_29 : Int))) (va_up (va_up (va_up (va_up (va_up (va_up Ar 3 (cI (n) v gv)) 4 (cI (n) wt gw)) 34 (cI (1000) o_29 go_29)) 35 fo_29) 36 la_29) 37 (cI (k_29) u_29 gu_29)) n v gv wt gw l1 (r1 + 1) (u_29 i) (by first | assumption | omega) (by first | assumption | omega) (by first | assumption | omega) (by first | assumption | omega) (by first | assumption | omega) (by exact hu.1)) (lw_V q1824 q1826 qs80 q95 q1827) ⟨rfl, by decide, by decide, by decide +kernel⟩ (q0 := 0) (ci := 0) rfl rfl rfl rfl (Nat.le_of_ble_eq_true rfl) ⟨Nat.le_of_ble_eq_true rfl, Nat.le_of_ble_eq_true rfl⟩ ⟨Nat.le_of_ble_eq_true rfl, Nat.le_of_ble_eq_true rfl⟩ dX7_heaviest_64) hH (fun _ H locs hpost hH => ?_)
              have pb_64 : wsum v wt l1 (u_29 i) (r1 + 1) ≤ 1080 := hpost
              have hH : zH s0 s1 G as0 (mW ad G (va_up (va_up (va_up (va_up F 0 (0)) 5 ((n : Int))) 7 ((t : Int))) 38 ((k_29 : Int))) (va_up (va_up (va_up (va_up (va_up (va_up Ar 3 (cI (n) v gv)) 4 (cI (n) wt gw)) 34 (cI (1000) o_29 go_29)) 35 fo_29) 36 la_29) 37 (cI (k_29) u_29 gu_29))) H locs := hH
              refine z_st (st' := [.int (iZ (((wsum v wt l1 (u_29 i) (r1 + 1) : Nat) : Int)))]) rfl ?_
              refine z_istore (lv' := [(8, .int (iZ (((wsum v wt l1 (u_29 i) (r1 + 1) : Nat) : Int)))), (7, .int (iZ (((u_29 i : Nat) : Int)))), (0, .ref (ad 0)), (1, .int (iZ ((l1 : Int)))), (2, .int (iZ ((r1 : Int)))), (3, .int (iZ (q))), (4, .int (iZ (bs))), (5, .int (iZ (ms))), (6, .int (iZ ((i : Int))))]) hC 67 hl dX7_heaviest_67 (by decide) rfl (fun ls hl => ?_)
              refine z_iload hC 69 hl dX7_heaviest_69 6 rfl ?_
              refine z_iconst hC 71 dX7_heaviest_71 ?_
              refine z_icmp_eq hC 72 104 dX7_heaviest_72 rfl (by omega) (by omega) (fun hb5 => ?_) (fun hb5 => ?_)
              · -- 72t
                refine z_iconst hC 104 dX7_heaviest_104 ?_
                refine z_goto hC 105 109 dX7_heaviest_105 rfl ?_
                refine z_istore (lv' := [(9, .int (iZ (1))), (8, .int (iZ (((wsum v wt l1 (u_29 i) (r1 + 1) : Nat) : Int)))), (7, .int (iZ (((u_29 i : Nat) : Int)))), (0, .ref (ad 0)), (1, .int (iZ ((l1 : Int)))), (2, .int (iZ ((r1 : Int)))), (3, .int (iZ (q))), (4, .int (iZ (bs))), (5, .int (iZ (ms))), (6, .int (iZ ((i : Int))))]) hC 109 hl dX7_heaviest_109 (by decide) rfl (fun ls hl => ?_)
                refine z_iload hC 111 hl dX7_heaviest_111 0 rfl ?_
                refine z_if_ne_t hC 113 119 dX7_heaviest_113 rfl (by omega) (by omega) ?_
                refine z_iload hC 119 hl dX7_heaviest_119 2 rfl ?_
                refine z_istore (lv' := [(4, .int (iZ (((u_29 i : Nat) : Int)))), (9, .int (iZ (1))), (8, .int (iZ (((wsum v wt l1 (u_29 i) (r1 + 1) : Nat) : Int)))), (7, .int (iZ (((u_29 i : Nat) : Int)))), (0, .ref (ad 0)), (1, .int (iZ ((l1 : Int)))), (2, .int (iZ ((r1 : Int)))), (3, .int (iZ (q))), (5, .int (iZ (ms))), (6, .int (iZ ((i : Int))))]) hC 121 hl dX7_heaviest_121 (by decide) rfl (fun ls hl => ?_)
                refine z_iload hC 123 hl dX7_heaviest_123 2 rfl ?_
                refine z_istore (lv' := [(5, .int (iZ (((wsum v wt l1 (u_29 i) (r1 + 1) : Nat) : Int)))), (4, .int (iZ (((u_29 i : Nat) : Int)))), (9, .int (iZ (1))), (8, .int (iZ (((wsum v wt l1 (u_29 i) (r1 + 1) : Nat) : Int)))), (7, .int (iZ (((u_29 i : Nat) : Int)))), (0, .ref (ad 0)), (1, .int (iZ ((l1 : Int)))), (2, .int (iZ ((r1 : Int)))), (3, .int (iZ (q))), (6, .int (iZ ((i : Int))))]) hC 125 hl dX7_heaviest_125 (by decide) rfl (fun ls hl => ?_)
                refine z_iinc (lv' := [(6, .int (iZ ((i : Int) + 1))), (5, .int (iZ (((wsum v wt l1 (u_29 i) (r1 + 1) : Nat) : Int)))), (4, .int (iZ (((u_29 i : Nat) : Int)))), (9, .int (iZ (1))), (8, .int (iZ (((wsum v wt l1 (u_29 i) (r1 + 1) : Nat) : Int)))), (7, .int (iZ (((u_29 i : Nat) : Int)))), (0, .ref (ad 0)), (1, .int (iZ ((l1 : Int)))), (2, .int (iZ ((r1 : Int)))), (3, .int (iZ (q)))]) hC 127 hl dX7_heaviest_127 9 rfl (by omega) (by decide) rfl (fun ls hl => ?_)
                refine z_goto hC 130 41 dX7_heaviest_130 rfl ?_
                -- J41.4
                exact ih41 (i + 1) ((u_29 i : Nat) : Int) ((wsum v wt l1 (u_29 i) (r1 + 1) : Nat) : Int) _ _ _ (by omega) (by first | assumption | omega) (by first | assumption | omega) (by first | assumption | omega) (by first | exact Or.inl ⟨rfl, rfl, rfl⟩ | exact HB_1 ih (by assumption) | exact HB_2 ih2 (Or.inl (by omega)) | exact HB_2 ih2 (Or.inr ⟨by omega, by assumption⟩) | exact HB_3 pCO_29.2.2 (by omega) hjb eb em ih2 (fun q => by rcases q with q | ⟨q, q2⟩ <;> first | omega | exact absurd q2 (by assumption))) hH (z_lv (lv_sub hl [6, 7, 8, 9, 2, 1, 0] rfl) (zcons rfl (zcons rfl (zcons rfl (zcons rfl (zcons rfl (zcons rfl (zcons (zpeq (by omega)) rfl))))))))
              · -- 72f
                obtain ⟨jb, hjb, eb, em, ih2⟩ := HB_get ih (by assumption)
                have hub := pCO_29.2.2.2.1 jb (by omega)
                refine z_iload hC 75 hl dX7_heaviest_75 0 rfl ?_
                refine z_iload hC 77 hl dX7_heaviest_77 7 rfl ?_
                refine z_icmp_gt hC 79 104 dX7_heaviest_79 rfl (by omega) (by omega) (fun hb6 => ?_) (fun hb6 => ?_)
                · -- 79t
                  refine z_iconst hC 104 dX7_heaviest_104 ?_
                  refine z_goto hC 105 109 dX7_heaviest_105 rfl ?_
                  refine z_istore (lv' := [(9, .int (iZ (1))), (8, .int (iZ (((wsum v wt l1 (u_29 i) (r1 + 1) : Nat) : Int)))), (7, .int (iZ (((u_29 i : Nat) : Int)))), (0, .ref (ad 0)), (1, .int (iZ ((l1 : Int)))), (2, .int (iZ ((r1 : Int)))), (3, .int (iZ (q))), (4, .int (iZ (bs))), (5, .int (iZ (ms))), (6, .int (iZ ((i : Int))))]) hC 109 hl dX7_heaviest_109 (by decide) rfl (fun ls hl => ?_)
                  refine z_iload hC 111 hl dX7_heaviest_111 0 rfl ?_
                  refine z_if_ne_t hC 113 119 dX7_heaviest_113 rfl (by omega) (by omega) ?_
                  refine z_iload hC 119 hl dX7_heaviest_119 2 rfl ?_
                  refine z_istore (lv' := [(4, .int (iZ (((u_29 i : Nat) : Int)))), (9, .int (iZ (1))), (8, .int (iZ (((wsum v wt l1 (u_29 i) (r1 + 1) : Nat) : Int)))), (7, .int (iZ (((u_29 i : Nat) : Int)))), (0, .ref (ad 0)), (1, .int (iZ ((l1 : Int)))), (2, .int (iZ ((r1 : Int)))), (3, .int (iZ (q))), (5, .int (iZ (ms))), (6, .int (iZ ((i : Int))))]) hC 121 hl dX7_heaviest_121 (by decide) rfl (fun ls hl => ?_)
                  refine z_iload hC 123 hl dX7_heaviest_123 2 rfl ?_
                  refine z_istore (lv' := [(5, .int (iZ (((wsum v wt l1 (u_29 i) (r1 + 1) : Nat) : Int)))), (4, .int (iZ (((u_29 i : Nat) : Int)))), (9, .int (iZ (1))), (8, .int (iZ (((wsum v wt l1 (u_29 i) (r1 + 1) : Nat) : Int)))), (7, .int (iZ (((u_29 i : Nat) : Int)))), (0, .ref (ad 0)), (1, .int (iZ ((l1 : Int)))), (2, .int (iZ ((r1 : Int)))), (3, .int (iZ (q))), (6, .int (iZ ((i : Int))))]) hC 125 hl dX7_heaviest_125 (by decide) rfl (fun ls hl => ?_)
                  refine z_iinc (lv' := [(6, .int (iZ ((i : Int) + 1))), (5, .int (iZ (((wsum v wt l1 (u_29 i) (r1 + 1) : Nat) : Int)))), (4, .int (iZ (((u_29 i : Nat) : Int)))), (9, .int (iZ (1))), (8, .int (iZ (((wsum v wt l1 (u_29 i) (r1 + 1) : Nat) : Int)))), (7, .int (iZ (((u_29 i : Nat) : Int)))), (0, .ref (ad 0)), (1, .int (iZ ((l1 : Int)))), (2, .int (iZ ((r1 : Int)))), (3, .int (iZ (q)))]) hC 127 hl dX7_heaviest_127 9 rfl (by omega) (by decide) rfl (fun ls hl => ?_)
                  refine z_goto hC 130 41 dX7_heaviest_130 rfl ?_
                  -- J41.5
                  exact ih41 (i + 1) ((u_29 i : Nat) : Int) ((wsum v wt l1 (u_29 i) (r1 + 1) : Nat) : Int) _ _ _ (by omega) (by first | assumption | omega) (by first | assumption | omega) (by first | assumption | omega) (by first | exact Or.inl ⟨rfl, rfl, rfl⟩ | exact HB_1 ih (by assumption) | exact HB_2 ih2 (Or.inl (by omega)) | exact HB_2 ih2 (Or.inr ⟨by omega, by assumption⟩) | exact HB_3 pCO_29.2.2 (by omega) hjb eb em ih2 (fun q => by rcases q with q | ⟨q, q2⟩ <;> first | omega | exact absurd q2 (by assumption))) hH (z_lv (lv_sub hl [6, 7, 8, 9, 2, 1, 0] rfl) (zcons rfl (zcons rfl (zcons rfl (zcons rfl (zcons rfl (zcons rfl (zcons (zpeq (by omega)) rfl))))))))
                · -- 79f
                  refine z_iload hC 82 hl dX7_heaviest_82 0 rfl ?_
                  refine z_iload hC 84 hl dX7_heaviest_84 7 rfl ?_
                  refine z_icmp_ne hC 86 108 dX7_heaviest_86 rfl (by omega) (by omega) (fun hb7 => ?_) (fun hb7 => ?_)
                  · -- 86t
                    refine z_iconst hC 108 dX7_heaviest_108 ?_
                    refine z_istore (lv' := [(9, .int (iZ (0))), (8, .int (iZ (((wsum v wt l1 (u_29 i) (r1 + 1) : Nat) : Int)))), (7, .int (iZ (((u_29 i : Nat) : Int)))), (0, .ref (ad 0)), (1, .int (iZ ((l1 : Int)))), (2, .int (iZ ((r1 : Int)))), (3, .int (iZ (q))), (4, .int (iZ (bs))), (5, .int (iZ (ms))), (6, .int (iZ ((i : Int))))]) hC 109 hl dX7_heaviest_109 (by decide) rfl (fun ls hl => ?_)
                    refine z_iload hC 111 hl dX7_heaviest_111 0 rfl ?_
                    refine z_if_ne_f hC 113 119 dX7_heaviest_113 rfl (by omega) (by omega) ?_
                    refine z_goto hC 116 127 dX7_heaviest_116 rfl ?_
                    refine z_iinc (lv' := [(6, .int (iZ ((i : Int) + 1))), (9, .int (iZ (0))), (8, .int (iZ (((wsum v wt l1 (u_29 i) (r1 + 1) : Nat) : Int)))), (7, .int (iZ (((u_29 i : Nat) : Int)))), (0, .ref (ad 0)), (1, .int (iZ ((l1 : Int)))), (2, .int (iZ ((r1 : Int)))), (3, .int (iZ (q))), (4, .int (iZ (bs))), (5, .int (iZ (ms)))]) hC 127 hl dX7_heaviest_127 9 rfl (by omega) (by decide) rfl (fun ls hl => ?_)
                    refine z_goto hC 130 41 dX7_heaviest_130 rfl ?_
                    -- J41.6
                    exact ih41 (i + 1) bs ms _ _ _ (by omega) (by first | assumption | omega) (by first | assumption | omega) (by first | assumption | omega) (by first | exact Or.inl ⟨rfl, rfl, rfl⟩ | exact HB_1 ih (by assumption) | exact HB_2 ih2 (Or.inl (by omega)) | exact HB_2 ih2 (Or.inr ⟨by omega, by assumption⟩) | exact HB_3 pCO_29.2.2 (by omega) hjb eb em ih2 (fun q => by rcases q with q | ⟨q, q2⟩ <;> first | omega | exact absurd q2 (by assumption))) hH (z_lv (lv_sub hl [4, 5, 6, 7, 8, 9, 0] rfl) (zcons rfl (zcons rfl (zcons rfl (zcons rfl (zcons rfl (zcons rfl (zcons (zpeq (by omega)) rfl))))))))
                  · -- 86f
                    refine z_aload_n hC 89 hl dX7_heaviest_89 rfl 2 rfl ?_
                    refine z_iload hC 90 hl dX7_heaviest_90 1 rfl ?_
                    refine z_iload hC 92 hl dX7_heaviest_92 6 rfl ?_
                    refine z_aload_n hC 94 hl dX7_heaviest_94 rfl 2 rfl ?_
                    refine gmW_7 (x := (t : Int)) hC hH 95 rfl dX7_heaviest_95 ?_
                    refine z_st (st' := [.int (iZ ((t : Int))), .int (iZ (((u_29 jb : Nat) : Int))), .int (iZ (((u_29 i : Nat) : Int))), .ref (ad 0)]) (zcons rfl (zcons (zieq (by omega)) (zcons rfl rfl))) ?_
                    refine z_same (z_runV hC hH.2.2 hl.1 hH.1 hH.2.1 3 (As := [.int (iZ (((u_29 i : Nat) : Int))), .int (iZ (((u_29 jb : Nat) : Int))), .int (iZ ((t : Int)))]) (rest := []) (m_X7_isAhead lau s0 G _ ad (va_up (va_up (va_up (va_up F 0 (0)) 5 ((n : Int))) 7 ((t : Int))) 38 ((k_29 : Int))) (va_up (va_up (va_up (va_up (va_up (va_up Ar 3 (cI (n) v gv)) 4 (cI (n) wt gw)) 34 (cI (1000) o_29 go_29)) 35 fo_29) 36 la_29) 37 (cI (k_29) u_29 gu_29)) v l1 (r1 + 1) o_29 go_29 fo_29 la_29 k_29 u_29 gu_29 (u_29 i) (u_29 jb) t (by first | assumption | omega) (by first | assumption | omega) (by exact hu.1) (by exact hub.1) (by exact hu.2) (by exact hub.2) (by first | assumption | omega)) (lw_V q1772 q1774 qs75 q95 q1775) ⟨rfl, by decide, by decide, by decide +kernel⟩ (q0 := 0) (ci := 0) rfl rfl rfl rfl (Nat.le_of_ble_eq_true rfl) ⟨Nat.le_of_ble_eq_true rfl, Nat.le_of_ble_eq_true rfl⟩ ⟨Nat.le_of_ble_eq_true rfl, Nat.le_of_ble_eq_true rfl⟩ dX7_heaviest_98) hH (fun r_98 H locs hpost hH => ?_)
                    have hb_98 : (r_98 = 1 ∧ (ahd v l1 (r1 + 1) t (u_29 i) (u_29 jb))) ∨ (r_98 = 0 ∧ ¬ (ahd v l1 (r1 + 1) t (u_29 i) (u_29 jb))) := hpost
                    have hH : zH s0 s1 G as0 (mW ad G (va_up (va_up (va_up (va_up F 0 (0)) 5 ((n : Int))) 7 ((t : Int))) 38 ((k_29 : Int))) (va_up (va_up (va_up (va_up (va_up (va_up Ar 3 (cI (n) v gv)) 4 (cI (n) wt gw)) 34 (cI (1000) o_29 go_29)) 35 fo_29) 36 la_29) 37 (cI (k_29) u_29 gu_29))) H locs := hH
                    refine z_st (st' := [.int (iZ (r_98))]) rfl ?_
                    rcases hb_98 with ⟨rfl, hb_98⟩ | ⟨rfl, hb_98⟩
                    · -- 98=1
                      refine z_if_eq_f hC 101 108 dX7_heaviest_101 rfl (by omega) (by omega) ?_
                      refine z_iconst hC 104 dX7_heaviest_104 ?_
                      refine z_goto hC 105 109 dX7_heaviest_105 rfl ?_
                      refine z_istore (lv' := [(9, .int (iZ (1))), (8, .int (iZ (((wsum v wt l1 (u_29 i) (r1 + 1) : Nat) : Int)))), (7, .int (iZ (((u_29 i : Nat) : Int)))), (0, .ref (ad 0)), (1, .int (iZ ((l1 : Int)))), (2, .int (iZ ((r1 : Int)))), (3, .int (iZ (q))), (4, .int (iZ (bs))), (5, .int (iZ (ms))), (6, .int (iZ ((i : Int))))]) hC 109 hl dX7_heaviest_109 (by decide) rfl (fun ls hl => ?_)
                      refine z_iload hC 111 hl dX7_heaviest_111 0 rfl ?_
                      refine z_if_ne_t hC 113 119 dX7_heaviest_113 rfl (by omega) (by omega) ?_
                      refine z_iload hC 119 hl dX7_heaviest_119 2 rfl ?_
                      refine z_istore (lv' := [(4, .int (iZ (((u_29 i : Nat) : Int)))), (9, .int (iZ (1))), (8, .int (iZ (((wsum v wt l1 (u_29 i) (r1 + 1) : Nat) : Int)))), (7, .int (iZ (((u_29 i : Nat) : Int)))), (0, .ref (ad 0)), (1, .int (iZ ((l1 : Int)))), (2, .int (iZ ((r1 : Int)))), (3, .int (iZ (q))), (5, .int (iZ (ms))), (6, .int (iZ ((i : Int))))]) hC 121 hl dX7_heaviest_121 (by decide) rfl (fun ls hl => ?_)
                      refine z_iload hC 123 hl dX7_heaviest_123 2 rfl ?_
                      refine z_istore (lv' := [(5, .int (iZ (((wsum v wt l1 (u_29 i) (r1 + 1) : Nat) : Int)))), (4, .int (iZ (((u_29 i : Nat) : Int)))), (9, .int (iZ (1))), (8, .int (iZ (((wsum v wt l1 (u_29 i) (r1 + 1) : Nat) : Int)))), (7, .int (iZ (((u_29 i : Nat) : Int)))), (0, .ref (ad 0)), (1, .int (iZ ((l1 : Int)))), (2, .int (iZ ((r1 : Int)))), (3, .int (iZ (q))), (6, .int (iZ ((i : Int))))]) hC 125 hl dX7_heaviest_125 (by decide) rfl (fun ls hl => ?_)
                      refine z_iinc (lv' := [(6, .int (iZ ((i : Int) + 1))), (5, .int (iZ (((wsum v wt l1 (u_29 i) (r1 + 1) : Nat) : Int)))), (4, .int (iZ (((u_29 i : Nat) : Int)))), (9, .int (iZ (1))), (8, .int (iZ (((wsum v wt l1 (u_29 i) (r1 + 1) : Nat) : Int)))), (7, .int (iZ (((u_29 i : Nat) : Int)))), (0, .ref (ad 0)), (1, .int (iZ ((l1 : Int)))), (2, .int (iZ ((r1 : Int)))), (3, .int (iZ (q)))]) hC 127 hl dX7_heaviest_127 9 rfl (by omega) (by decide) rfl (fun ls hl => ?_)
                      refine z_goto hC 130 41 dX7_heaviest_130 rfl ?_
                      -- J41.7
                      exact ih41 (i + 1) ((u_29 i : Nat) : Int) ((wsum v wt l1 (u_29 i) (r1 + 1) : Nat) : Int) _ _ _ (by omega) (by first | assumption | omega) (by first | assumption | omega) (by first | assumption | omega) (by first | exact Or.inl ⟨rfl, rfl, rfl⟩ | exact HB_1 ih (by assumption) | exact HB_2 ih2 (Or.inl (by omega)) | exact HB_2 ih2 (Or.inr ⟨by omega, by assumption⟩) | exact HB_3 pCO_29.2.2 (by omega) hjb eb em ih2 (fun q => by rcases q with q | ⟨q, q2⟩ <;> first | omega | exact absurd q2 (by assumption))) hH (z_lv (lv_sub hl [6, 7, 8, 9, 2, 1, 0] rfl) (zcons rfl (zcons rfl (zcons rfl (zcons rfl (zcons rfl (zcons rfl (zcons (zpeq (by omega)) rfl))))))))
                    · -- 98=0
                      refine z_if_eq_t hC 101 108 dX7_heaviest_101 rfl (by omega) (by omega) ?_
                      refine z_iconst hC 108 dX7_heaviest_108 ?_
                      refine z_istore (lv' := [(9, .int (iZ (0))), (8, .int (iZ (((wsum v wt l1 (u_29 i) (r1 + 1) : Nat) : Int)))), (7, .int (iZ (((u_29 i : Nat) : Int)))), (0, .ref (ad 0)), (1, .int (iZ ((l1 : Int)))), (2, .int (iZ ((r1 : Int)))), (3, .int (iZ (q))), (4, .int (iZ (bs))), (5, .int (iZ (ms))), (6, .int (iZ ((i : Int))))]) hC 109 hl dX7_heaviest_109 (by decide) rfl (fun ls hl => ?_)
                      refine z_iload hC 111 hl dX7_heaviest_111 0 rfl ?_
                      refine z_if_ne_f hC 113 119 dX7_heaviest_113 rfl (by omega) (by omega) ?_
                      refine z_goto hC 116 127 dX7_heaviest_116 rfl ?_
                      refine z_iinc (lv' := [(6, .int (iZ ((i : Int) + 1))), (9, .int (iZ (0))), (8, .int (iZ (((wsum v wt l1 (u_29 i) (r1 + 1) : Nat) : Int)))), (7, .int (iZ (((u_29 i : Nat) : Int)))), (0, .ref (ad 0)), (1, .int (iZ ((l1 : Int)))), (2, .int (iZ ((r1 : Int)))), (3, .int (iZ (q))), (4, .int (iZ (bs))), (5, .int (iZ (ms)))]) hC 127 hl dX7_heaviest_127 9 rfl (by omega) (by decide) rfl (fun ls hl => ?_)
                      refine z_goto hC 130 41 dX7_heaviest_130 rfl ?_
                      -- J41.8
                      exact ih41 (i + 1) bs ms _ _ _ (by omega) (by first | assumption | omega) (by first | assumption | omega) (by first | assumption | omega) (by first | exact Or.inl ⟨rfl, rfl, rfl⟩ | exact HB_1 ih (by assumption) | exact HB_2 ih2 (Or.inl (by omega)) | exact HB_2 ih2 (Or.inr ⟨by omega, by assumption⟩) | exact HB_3 pCO_29.2.2 (by omega) hjb eb em ih2 (fun q => by rcases q with q | ⟨q, q2⟩ <;> first | omega | exact absurd q2 (by assumption))) hH (z_lv (lv_sub hl [4, 5, 6, 7, 8, 9, 0] rfl) (zcons rfl (zcons rfl (zcons rfl (zcons rfl (zcons rfl (zcons rfl (zcons (zpeq (by omega)) rfl))))))))
        -- J41.9
        exact L41 _ 0 (-1) 0 _ _ _ (Nat.lt_succ_self _) (by first | assumption | omega) (by first | assumption | omega) (by first | assumption | omega) (by first | exact Or.inl ⟨rfl, rfl, rfl⟩ | exact HB_1 ih (by assumption) | exact HB_2 ih2 (Or.inl (by omega)) | exact HB_2 ih2 (Or.inr ⟨by omega, by assumption⟩) | exact HB_3 pCO_29.2.2 (by omega) hjb eb em ih2 (fun q => by rcases q with q | ⟨q, q2⟩ <;> first | omega | exact absurd q2 (by assumption))) hH (z_lv (lv_sub hl [3, 4, 5, 6, 2, 1, 0] rfl) (zcons rfl (zcons rfl (zcons rfl (zcons rfl (zcons rfl (zcons rfl (zcons (zpeq (by omega)) rfl))))))))
      · -- 20f
        refine z_iconst hC 23 dX7_heaviest_23 ?_
        -- R24.10
        exact z_iret hC hH hQ 24 (((-1), (va_up (va_up (va_up F 0 (0)) 5 ((n : Int))) 7 ((t : Int))), (va_up (va_up Ar 3 (cI (n) v gv)) 4 (cI (n) wt gw)))) dX7_heaviest_24 rfl ⟨by first | (unfold Sp_heaviest; rw [if_neg (by omega)]) | (unfold Sp_heaviest; rw [if_pos (by omega)]), by exact ⟨rfl, rfl, rfl, rfl, rfl, rfl, rfl, rfl, rfl, rfl, rfl, rfl, rfl, rfl, rfl, rfl⟩⟩ rfl (Nat.le_refl _) (Nat.le_refl _)
  · -- 8=0
    refine z_if_eq_t hC 11 23 dX7_heaviest_11 rfl (by omega) (by omega) ?_
    refine z_iconst hC 23 dX7_heaviest_23 ?_
    -- R24.11
    exact z_iret hC hH hQ 24 (((-1), (va_up (va_up (va_up F 0 (0)) 5 ((n : Int))) 7 ((t : Int))), (va_up (va_up Ar 3 (cI (n) v gv)) 4 (cI (n) wt gw)))) dX7_heaviest_24 rfl ⟨by first | (unfold Sp_heaviest; rw [if_neg (by omega)]) | (unfold Sp_heaviest; rw [if_pos (by omega)]), by exact ⟨rfl, rfl, rfl, rfl, rfl, rfl, rfl, rfl, rfl, rfl, rfl, rfl, rfl, rfl, rfl, rfl⟩⟩ rfl (Nat.le_refl _) (Nat.le_refl _)

set_option maxHeartbeats 4000000 in
set_option maxRecDepth 100000 in
theorem m_X7_placesOf (lau : Launch) (s0 : State) (G : zG) (sz : Nat) (ad : Nat → Nat) (F : Nat → Int) (Ar : Nat → Nat → Int) (b : Nat) (j : Nat) (n2 : Nat) (hb : 2 ≤ b ∧ b ≤ 20) (hj : j ≤ 120) (hn2 : n2 ≤ 121) : zMet (S := Unit) lau yX7_placesOf cX7_placesOf 4 (some .int) 0 0 0 0 s0 G sz [.ref (ad 0), .int (iZ ((j : Int))), .int (iZ ((n2 : Int)))] (mW ad G (va_up F 6 ((b : Int))) Ar) (fun (_ : Unit) => some (.int (iZ (((plc b j n2 : Nat) : Int))))) (fun (_ : Unit) => True) (fun (_ : Unit) => (mW ad G (va_up F 6 ((b : Int))) Ar)) := by
  refine zMet.of (by decide) (Nat.le_of_ble_eq_true rfl) ?_
  intro pg ev s1 mi ar bl me cd ls Q as0 hC hH hl hQ hsz
  generalize s1.heap = H at hH ⊢
  generalize ([] : List Loc) = locs at hH ⊢
  have hl : lv_has ls 4 [(0, .ref (ad 0)), (1, .int (iZ ((j : Int)))), (2, .int (iZ ((n2 : Int))))] := hl
  have hbj := Nat.mul_le_mul hb.2 hj
  refine z_iload_n hC 0 hl dX7_placesOf_0 rfl 2 rfl ?_
  refine z_aload_n hC 1 hl dX7_placesOf_1 rfl 0 rfl ?_
  refine gmW_6 (x := (b : Int)) hC hH 2 rfl dX7_placesOf_2 ?_
  refine z_iload_n hC 5 hl dX7_placesOf_5 rfl 1 rfl ?_
  refine z_imul (e := ((b * j : Nat) : Int)) hC 6 dX7_placesOf_6 (by push_cast; rfl) ?_
  refine z_isub (e := (n2 : Int) - ((b * j : Nat) : Int)) hC 7 dX7_placesOf_7 rfl ?_
  refine z_istore_n (lv' := [(3, .int (iZ ((n2 : Int) - ((b * j : Nat) : Int)))), (0, .ref (ad 0)), (1, .int (iZ ((j : Int)))), (2, .int (iZ ((n2 : Int))))]) hC 8 hl dX7_placesOf_8 rfl (by decide) rfl (fun ls hl => ?_)
  refine z_iload_n hC 9 hl dX7_placesOf_9 rfl 0 rfl ?_
  refine z_aload_n hC 10 hl dX7_placesOf_10 rfl 1 rfl ?_
  refine gmW_6 (x := (b : Int)) hC hH 11 rfl dX7_placesOf_11 ?_
  refine z_icmp_le hC 14 24 dX7_placesOf_14 rfl (by omega) (by omega) (fun hb1 => ?_) (fun hb1 => ?_)
  · -- 14t
    refine z_iload_n hC 24 hl dX7_placesOf_24 rfl 0 rfl ?_
    refine z_if_ge hC 25 32 dX7_placesOf_25 rfl (by omega) (fun hb2 => ?_) (fun hb2 => ?_)
    · -- 25t
      refine z_iload_n hC 32 hl dX7_placesOf_32 rfl 0 rfl ?_
      have hpl : plc b j n2 = if b < n2 - b * j then b else n2 - b * j := rfl
      -- R33.1
      refine z_st (st' := [.int (iZ (((plc b j n2 : Nat) : Int)))]) (zcons (zieq (by first | assumption | omega | (split at hpl <;> omega))) rfl) ?_
      exact z_iret hC hH hQ 33 (()) dX7_placesOf_33 rfl trivial rfl (Nat.le_refl _) (Nat.le_refl _)
    · -- 25f
      refine z_iconst hC 28 dX7_placesOf_28 ?_
      refine z_goto hC 29 33 dX7_placesOf_29 rfl ?_
      have hpl : plc b j n2 = if b < n2 - b * j then b else n2 - b * j := rfl
      -- R33.2
      refine z_st (st' := [.int (iZ (((plc b j n2 : Nat) : Int)))]) (zcons (zieq (by first | assumption | omega | (split at hpl <;> omega))) rfl) ?_
      exact z_iret hC hH hQ 33 (()) dX7_placesOf_33 rfl trivial rfl (Nat.le_refl _) (Nat.le_refl _)
  · -- 14f
    refine z_aload_n hC 17 hl dX7_placesOf_17 rfl 1 rfl ?_
    refine gmW_6 (x := (b : Int)) hC hH 18 rfl dX7_placesOf_18 ?_
    refine z_goto hC 21 33 dX7_placesOf_21 rfl ?_
    have hpl : plc b j n2 = if b < n2 - b * j then b else n2 - b * j := rfl
    -- R33.3
    refine z_st (st' := [.int (iZ (((plc b j n2 : Nat) : Int)))]) (zcons (zieq (by first | assumption | omega | (split at hpl <;> omega))) rfl) ?_
    exact z_iret hC hH hQ 33 (()) dX7_placesOf_33 rfl trivial rfl (Nat.le_refl _) (Nat.le_refl _)

set_option maxHeartbeats 4000000 in
set_option maxRecDepth 100000 in
theorem m_X7_endOf (lau : Launch) (s0 : State) (G : zG) (sz : Nat) (ad : Nat → Nat) (F : Nat → Int) (Ar : Nat → Nat → Int) (n : Nat) (b : Nat) (j : Nat) (hb : 2 ≤ b ∧ b ≤ 20) (hn : n ≤ 120) (hj : b * j < n) : zMet (S := Unit) lau yX7_endOf cX7_endOf 2 (some .int) 1 23 0 0 s0 G sz [.ref (ad 0), .int (iZ ((j : Int)))] (mW ad G (va_up (va_up F 5 ((n : Int))) 6 ((b : Int))) Ar) (fun (_ : Unit) => some (.int (iZ (((bEnd b j n : Nat) : Int) - 1)))) (fun (_ : Unit) => True) (fun (_ : Unit) => (mW ad G (va_up (va_up F 5 ((n : Int))) 6 ((b : Int))) Ar)) := by
  refine zMet.of (by decide) (Nat.le_of_ble_eq_true rfl) ?_
  intro pg ev s1 mi ar bl me cd ls Q as0 hC hH hl hQ hsz
  generalize s1.heap = H at hH ⊢
  generalize ([] : List Loc) = locs at hH ⊢
  have hl : lv_has ls 2 [(0, .ref (ad 0)), (1, .int (iZ ((j : Int))))] := hl
  have hbj := bEnd_b (by omega) hj
  have hj2 : 1 * j ≤ b * j := Nat.mul_le_mul_right j (by omega)
  refine z_aload_n hC 0 hl dX7_endOf_0 rfl 0 rfl ?_
  refine gmW_6 (x := (b : Int)) hC hH 1 rfl dX7_endOf_1 ?_
  refine z_iload_n hC 4 hl dX7_endOf_4 rfl 1 rfl ?_
  refine z_imul (e := ((b * j : Nat) : Int)) hC 5 dX7_endOf_5 (by push_cast; rfl) ?_
  refine z_aload_n hC 6 hl dX7_endOf_6 rfl 0 rfl ?_
  refine z_iload_n hC 7 hl dX7_endOf_7 rfl 1 rfl ?_
  refine z_aload_n hC 8 hl dX7_endOf_8 rfl 0 rfl ?_
  refine gmW_5 (x := (n : Int)) hC hH 9 rfl dX7_endOf_9 ?_
  refine z_same (z_runV hC hH.2.2 hl.1 hH.1 hH.2.1 2 (As := [.int (iZ ((j : Int))), .int (iZ ((n : Int)))]) (rest := [.int (iZ (((b * j : Nat) : Int)))]) (m_X7_placesOf lau s0 G _ ad (va_up (va_up F 5 ((n : Int))) 6 ((b : Int))) Ar b j n (by first | assumption | omega) (by first | assumption | omega) (by first | assumption | omega)) (lw_V q1669 q1671 qs63 q95 q1672) ⟨rfl, by decide, by decide, by decide +kernel⟩ (q0 := 0) (ci := 0) rfl rfl rfl rfl (Nat.le_of_ble_eq_true rfl) ⟨Nat.le_of_ble_eq_true rfl, Nat.le_of_ble_eq_true rfl⟩ ⟨Nat.le_of_ble_eq_true rfl, Nat.le_of_ble_eq_true rfl⟩ dX7_endOf_12) hH (fun _ H locs hpost hH => ?_)
  have hH : zH s0 s1 G as0 (mW ad G (va_up (va_up F 5 ((n : Int))) 6 ((b : Int))) Ar) H locs := hH
  refine z_st (st' := [.int (iZ (((plc b j n : Nat) : Int))), .int (iZ (((b * j : Nat) : Int)))]) rfl ?_
  have hpe := plc_end (Nat.le_of_lt hj)
  refine z_iadd (e := ((b * j : Nat) : Int) + ((plc b j n : Nat) : Int)) hC 15 dX7_endOf_15 rfl ?_
  refine z_iconst hC 16 dX7_endOf_16 ?_
  refine z_isub (e := ((b * j : Nat) : Int) + ((plc b j n : Nat) : Int) - 1) hC 17 dX7_endOf_17 rfl ?_
  -- R18.1
  refine z_st (st' := [.int (iZ (((bEnd b j n : Nat) : Int) - 1))]) (zcons (zieq (by first | assumption | omega)) rfl) ?_
  exact z_iret hC hH hQ 18 (()) dX7_endOf_18 rfl trivial rfl (Nat.le_refl _) (Nat.le_refl _)

set_option maxHeartbeats 4000000 in
set_option maxRecDepth 100000 in
theorem m_X7_pair (lau : Launch) (s0 : State) (G : zG) (sz : Nat) (ad : Nat → Nat) (F : Nat → Int) (Ar : Nat → Nat → Int) (n : Nat) (v : Nat → Nat) (gv : Nat → Int) (t : Nat) (b : Nat) (i : Int) (j : Int) (q : Int) (hn : n ≤ 120) (hv : ∀ i, i < n → v i < 1000) (ht : t < 4) (hr_i : -2147483648 ≤ i ∧ i < 2147483648) (hr_j : -2147483648 ≤ j ∧ j < 2147483648) (hr_q : -2147483648 ≤ q ∧ q < 2147483648) (hb : 2 ≤ b ∧ b ≤ 20) : zMet (S := Int × (Nat → Int) × (Nat → Nat → Int)) lau yX7_pair cX7_pair 4 (some .int) 3 68 0 0 s0 G sz [.ref (ad 0), .int (iZ (i)), .int (iZ (j)), .int (iZ (q))] (mW ad G (va_up (va_up (va_up F 5 ((n : Int))) 6 ((b : Int))) 7 ((t : Int))) (va_up Ar 3 (cI (n) v gv))) (fun ((r_, F2, A2) : Int × (Nat → Int) × (Nat → Nat → Int)) => some (.int (iZ (r_)))) (fun ((r_, F2, A2) : Int × (Nat → Int) × (Nat → Nat → Int)) => (Sp_pair n v t b i j q r_) ∧ (MK (va_up (va_up (va_up F 5 ((n : Int))) 6 ((b : Int))) 7 ((t : Int))) (va_up Ar 3 (cI (n) v gv)) F2 A2)) (fun ((r_, F2, A2) : Int × (Nat → Int) × (Nat → Nat → Int)) => (mW ad G F2 A2)) := by
  refine zMet.of (by decide) (Nat.le_of_ble_eq_true rfl) ?_
  intro pg ev s1 mi ar bl me cd ls Q as0 hC hH hl hQ hsz
  generalize s1.heap = H at hH ⊢
  generalize ([] : List Loc) = locs at hH ⊢
  have hl : lv_has ls 4 [(0, .ref (ad 0)), (1, .int (iZ (i))), (2, .int (iZ (j))), (3, .int (iZ (q)))] := hl
  refine z_aload_n hC 0 hl dX7_pair_0 rfl 0 rfl ?_
  refine z_iconst hC 1 dX7_pair_1 ?_
  refine pmW_0 hC hH 2 dX7_pair_2 (fun H locs hH => ?_)
  have hH : zH s0 s1 G as0 (mW ad G (va_up (va_up (va_up (va_up F 0 (0)) 5 ((n : Int))) 6 ((b : Int))) 7 ((t : Int))) (va_up Ar 3 (cI (n) v gv))) H locs := hH
  refine z_iload_n hC 5 hl dX7_pair_5 rfl 1 rfl ?_
  refine z_if_lt hC 6 31 dX7_pair_6 rfl (by omega) (fun hb1 => ?_) (fun hb1 => ?_)
  · -- 6t
    refine z_iconst hC 31 dX7_pair_31 ?_
    -- R32.1
    exact z_iret hC hH hQ 32 (((-1), (va_up (va_up (va_up (va_up F 0 (0)) 5 ((n : Int))) 6 ((b : Int))) 7 ((t : Int))), (va_up Ar 3 (cI (n) v gv)))) dX7_pair_32 rfl ⟨by first | (unfold Sp_pair; rw [if_neg (by omega)]) | (unfold Sp_pair; rw [if_pos (by omega)]), by exact ⟨rfl, rfl, rfl, rfl, rfl, rfl, rfl, rfl, rfl, rfl, rfl, rfl, rfl, rfl, rfl, rfl⟩⟩ rfl (Nat.le_refl _) (Nat.le_refl _)
  · -- 6f
    refine z_iload_n hC 9 hl dX7_pair_9 rfl 2 rfl ?_
    refine z_iload_n hC 10 hl dX7_pair_10 rfl 1 rfl ?_
    refine z_icmp_lt hC 11 31 dX7_pair_11 rfl (by omega) (by omega) (fun hb2 => ?_) (fun hb2 => ?_)
    · -- 11t
      refine z_iconst hC 31 dX7_pair_31 ?_
      -- R32.2
      exact z_iret hC hH hQ 32 (((-1), (va_up (va_up (va_up (va_up F 0 (0)) 5 ((n : Int))) 6 ((b : Int))) 7 ((t : Int))), (va_up Ar 3 (cI (n) v gv)))) dX7_pair_32 rfl ⟨by first | (unfold Sp_pair; rw [if_neg (by omega)]) | (unfold Sp_pair; rw [if_pos (by omega)]), by exact ⟨rfl, rfl, rfl, rfl, rfl, rfl, rfl, rfl, rfl, rfl, rfl, rfl, rfl, rfl, rfl, rfl⟩⟩ rfl (Nat.le_refl _) (Nat.le_refl _)
    · -- 11f
      refine z_iload_n hC 14 hl dX7_pair_14 rfl 2 rfl ?_
      refine z_aload_n hC 15 hl dX7_pair_15 rfl 0 rfl ?_
      refine z_same (z_runV hC hH.2.2 hl.1 hH.1 hH.2.1 0 (As := []) (rest := [.int (iZ (j))]) (m_X7_blocks lau s0 G _ ad (va_up (va_up (va_up (va_up F 0 (0)) 5 ((n : Int))) 6 ((b : Int))) 7 ((t : Int))) (va_up Ar 3 (cI (n) v gv)) n b (by first | assumption | omega) (by first | assumption | omega)) (lw_V q1832 q1834 qs81 q95 q1835) ⟨rfl, by decide, by decide, by decide +kernel⟩ (q0 := 0) (ci := 0) rfl rfl rfl rfl (Nat.le_of_ble_eq_true rfl) ⟨Nat.le_of_ble_eq_true rfl, Nat.le_of_ble_eq_true rfl⟩ ⟨Nat.le_of_ble_eq_true rfl, Nat.le_of_ble_eq_true rfl⟩ dX7_pair_16) hH (fun _ H locs hpost hH => ?_)
      have pb_16 : zdiv (n + b - 1) b ≤ 120 := hpost
      have hH : zH s0 s1 G as0 (mW ad G (va_up (va_up (va_up (va_up F 0 (0)) 5 ((n : Int))) 6 ((b : Int))) 7 ((t : Int))) (va_up Ar 3 (cI (n) v gv))) H locs := hH
      refine z_st (st' := [.int (iZ (((zdiv (n + b - 1) b : Nat) : Int))), .int (iZ (j))]) rfl ?_
      refine z_icmp_ge hC 19 31 dX7_pair_19 rfl (by omega) (by omega) (fun hb3 => ?_) (fun hb3 => ?_)
      · -- 19t
        refine z_iconst hC 31 dX7_pair_31 ?_
        -- R32.3
        exact z_iret hC hH hQ 32 (((-1), (va_up (va_up (va_up (va_up F 0 (0)) 5 ((n : Int))) 6 ((b : Int))) 7 ((t : Int))), (va_up Ar 3 (cI (n) v gv)))) dX7_pair_32 rfl ⟨by first | (unfold Sp_pair; rw [if_neg (by omega)]) | (unfold Sp_pair; rw [if_pos (by omega)]), by exact ⟨rfl, rfl, rfl, rfl, rfl, rfl, rfl, rfl, rfl, rfl, rfl, rfl, rfl, rfl, rfl, rfl⟩⟩ rfl (Nat.le_refl _) (Nat.le_refl _)
      · -- 19f
        refine z_iload_n hC 22 hl dX7_pair_22 rfl 3 rfl ?_
        refine z_if_lt hC 23 31 dX7_pair_23 rfl (by omega) (fun hb4 => ?_) (fun hb4 => ?_)
        · -- 23t
          refine z_iconst hC 31 dX7_pair_31 ?_
          -- R32.4
          exact z_iret hC hH hQ 32 (((-1), (va_up (va_up (va_up (va_up F 0 (0)) 5 ((n : Int))) 6 ((b : Int))) 7 ((t : Int))), (va_up Ar 3 (cI (n) v gv)))) dX7_pair_32 rfl ⟨by first | (unfold Sp_pair; rw [if_neg (by omega)]) | (unfold Sp_pair; rw [if_pos (by omega)]), by exact ⟨rfl, rfl, rfl, rfl, rfl, rfl, rfl, rfl, rfl, rfl, rfl, rfl, rfl, rfl, rfl, rfl⟩⟩ rfl (Nat.le_refl _) (Nat.le_refl _)
        · -- 23f
          refine z_iload_n hC 26 hl dX7_pair_26 rfl 3 rfl ?_
          refine z_iconst hC 27 dX7_pair_27 ?_
          refine z_icmp_le hC 28 33 dX7_pair_28 rfl (by omega) (by omega) (fun hb5 => ?_) (fun hb5 => ?_)
          · -- 28t
            obtain ⟨i1, rfl⟩ := Int.eq_ofNat_of_zero_le (show 0 ≤ i by omega)
            obtain ⟨j1, rfl⟩ := Int.eq_ofNat_of_zero_le (show 0 ≤ j by omega)
            have hjn := (blk_lt (n := n) (j := j1) (show 0 < b by omega)).mp (by omega)
            have hbe := bEnd_b (by omega) hjn
            have hij := Nat.mul_le_mul_left b (show i1 ≤ j1 by omega)
            refine z_aload_n hC 33 hl dX7_pair_33 rfl 0 rfl ?_
            refine z_aload_n hC 34 hl dX7_pair_34 rfl 0 rfl ?_
            refine z_aload_n hC 35 hl dX7_pair_35 rfl 0 rfl ?_
            refine gmW_6 (x := (b : Int)) hC hH 36 rfl dX7_pair_36 ?_
            refine z_iload_n hC 39 hl dX7_pair_39 rfl 1 rfl ?_
            refine z_imul (e := ((b * i1 : Nat) : Int)) hC 40 dX7_pair_40 (by push_cast; rfl) ?_
            refine z_aload_n hC 41 hl dX7_pair_41 rfl 0 rfl ?_
            refine z_iload_n hC 42 hl dX7_pair_42 rfl 2 rfl ?_
            refine z_same (z_runV hC hH.2.2 hl.1 hH.1 hH.2.1 1 (As := [.int (iZ ((j1 : Int)))]) (rest := [.int (iZ (((b * i1 : Nat) : Int))), .ref (ad 0), .ref (ad 0)]) (m_X7_endOf lau s0 G _ ad (va_up (va_up (va_up (va_up F 0 (0)) 5 ((n : Int))) 6 ((b : Int))) 7 ((t : Int))) (va_up Ar 3 (cI (n) v gv)) n b j1 (by first | assumption | omega) (by first | assumption | omega) (by first | assumption | omega)) (lw_V q1836 q1838 qs82 q95 q1839) ⟨rfl, by decide, by decide, by decide +kernel⟩ (q0 := 0) (ci := 0) rfl rfl rfl rfl (Nat.le_of_ble_eq_true rfl) ⟨Nat.le_of_ble_eq_true rfl, Nat.le_of_ble_eq_true rfl⟩ ⟨Nat.le_of_ble_eq_true rfl, Nat.le_of_ble_eq_true rfl⟩ dX7_pair_43) hH (fun _ H locs hpost hH => ?_)
            have hH : zH s0 s1 G as0 (mW ad G (va_up (va_up (va_up (va_up F 0 (0)) 5 ((n : Int))) 6 ((b : Int))) 7 ((t : Int))) (va_up Ar 3 (cI (n) v gv))) H locs := hH
            refine z_st (st' := [.int (iZ (((bEnd b j1 n : Nat) : Int) - 1)), .int (iZ (((b * i1 : Nat) : Int))), .ref (ad 0), .ref (ad 0)]) rfl ?_
            refine z_same (z_runV hC hH.2.2 hl.1 hH.1 hH.2.1 2 (As := [.int (iZ (((b * i1 : Nat) : Int))), .int (iZ (((bEnd b j1 n : Nat) : Int) - 1))]) (rest := [.ref (ad 0)]) (m_X7_modeOf lau s0 G _ ad (va_up (va_up (va_up (va_up F 0 (0)) 5 ((n : Int))) 6 ((b : Int))) 7 ((t : Int))) (va_up Ar 3 (cI (n) v gv)) n v gv (b * i1) (bEnd b j1 n) t (by first | assumption | omega) (by first | assumption | omega) (by first | assumption | omega) (by first | assumption | omega) (by first | assumption | omega)) (lw_V q1760 q1762 qs72 q95 q1763) ⟨rfl, by decide, by decide, by decide +kernel⟩ (q0 := 0) (ci := 0) rfl rfl rfl rfl (Nat.le_of_ble_eq_true rfl) ⟨Nat.le_of_ble_eq_true rfl, Nat.le_of_ble_eq_true rfl⟩ ⟨Nat.le_of_ble_eq_true rfl, Nat.le_of_ble_eq_true rfl⟩ dX7_pair_46) hH (fun u_ H locs hpost hH => ?_)
            obtain ⟨o_46, go_46, fo_46, la_46, k_46, u_46, gu_46⟩ := u_
            obtain ⟨pCO_46, pm1_46, pm2_46, pk_46⟩ : (CO v (b * i1) (bEnd b j1 n) o_46 fo_46 la_46 k_46 u_46) ∧ (md v (b * i1) (bEnd b j1 n) t < 1000) ∧ (0 < cnt v (b * i1) (bEnd b j1 n) (md v (b * i1) (bEnd b j1 n) t)) ∧ (0 < k_46) := hpost
            have hH : zH s0 s1 G as0 (mW ad G (va_up (va_up (va_up (va_up (va_up F 0 (0)) 5 ((n : Int))) 6 ((b : Int))) 7 ((t : Int))) 38 ((k_46 : Int))) (va_up (va_up (va_up (va_up (va_up Ar 3 (cI (n) v gv)) 34 (cI (1000) o_46 go_46)) 35 fo_46) 36 la_46) 37 (cI (k_46) u_46 gu_46))) H locs := hH
            refine z_st (st' := [.int (iZ (((md v (b * i1) (bEnd b j1 n) t : Nat) : Int))), .ref (ad 0)]) rfl ?_
            refine z_iload_n hC 49 hl dX7_pair_49 rfl 3 rfl ?_
            refine z_same (z_runV hC hH.2.2 hl.1 hH.1 hH.2.1 2 (As := [.int (iZ (((md v (b * i1) (bEnd b j1 n) t : Nat) : Int))), .int (iZ (q))]) (rest := []) (m_X7_told lau s0 G _ ad (va_up (va_up (va_up (va_up (va_up F 0 (0)) 5 ((n : Int))) 6 ((b : Int))) 7 ((t : Int))) 38 ((k_46 : Int))) (va_up (va_up (va_up (va_up (va_up Ar 3 (cI (n) v gv)) 34 (cI (1000) o_46 go_46)) 35 fo_46) 36 la_46) 37 (cI (k_46) u_46 gu_46)) v (b * i1) (bEnd b j1 n) o_46 go_46 fo_46 la_46 k_46 u_46 gu_46 (md v (b * i1) (bEnd b j1 n) t) q (by first | assumption | omega) (by first | assumption | omega) (by first | assumption | omega) (by first | assumption | omega) (by first | assumption | omega)) (lw_V q1776 q1778 qs76 q95 q1779) ⟨rfl, by decide, by decide, by decide +kernel⟩ (q0 := 0) (ci := 0) rfl rfl rfl rfl (Nat.le_of_ble_eq_true rfl) ⟨Nat.le_of_ble_eq_true rfl, Nat.le_of_ble_eq_true rfl⟩ ⟨Nat.le_of_ble_eq_true rfl, Nat.le_of_ble_eq_true rfl⟩ dX7_pair_50) hH (fun _ H locs hpost hH => ?_)
            have hH : zH s0 s1 G as0 (mW ad G (va_up (va_up (va_up (va_up (va_up F 0 (0)) 5 ((n : Int))) 6 ((b : Int))) 7 ((t : Int))) 38 ((k_46 : Int))) (va_up (va_up (va_up (va_up (va_up Ar 3 (cI (n) v gv)) 34 (cI (1000) o_46 go_46)) 35 fo_46) 36 la_46) 37 (cI (k_46) u_46 gu_46))) H locs := hH
            refine z_st (st' := [.int (iZ ((toldZ v (b * i1) (bEnd b j1 n) (md v (b * i1) (bEnd b j1 n) t) q)))]) rfl ?_
            -- R53.5
            exact z_iret hC hH hQ 53 (((toldZ v (b * i1) (bEnd b j1 n) (md v (b * i1) (bEnd b j1 n) t) q), (va_up (va_up (va_up (va_up (va_up F 0 (0)) 5 ((n : Int))) 6 ((b : Int))) 7 ((t : Int))) 38 ((k_46 : Int))), (va_up (va_up (va_up (va_up (va_up Ar 3 (cI (n) v gv)) 34 (cI (1000) o_46 go_46)) 35 fo_46) 36 la_46) 37 (cI (k_46) u_46 gu_46)))) dX7_pair_53 rfl ⟨by (unfold Sp_pair; rw [if_pos (by omega)]; (try simp only [Int.toNat_natCast, zt1]); first | done | trivial | rfl | omega | (rw [if_pos (by omega)]; first | done | trivial | rfl | omega) | (rw [if_neg (by omega)]; first | done | trivial | rfl | omega)), by exact ⟨rfl, rfl, rfl, rfl, rfl, rfl, rfl, rfl, rfl, rfl, rfl, rfl, rfl, rfl, rfl, rfl⟩⟩ rfl (Nat.le_refl _) (Nat.le_refl _)
          · -- 28f
            refine z_iconst hC 31 dX7_pair_31 ?_
            -- R32.6
            exact z_iret hC hH hQ 32 (((-1), (va_up (va_up (va_up (va_up F 0 (0)) 5 ((n : Int))) 6 ((b : Int))) 7 ((t : Int))), (va_up Ar 3 (cI (n) v gv)))) dX7_pair_32 rfl ⟨by first | (unfold Sp_pair; rw [if_neg (by omega)]) | (unfold Sp_pair; rw [if_pos (by omega)]), by exact ⟨rfl, rfl, rfl, rfl, rfl, rfl, rfl, rfl, rfl, rfl, rfl, rfl, rfl, rfl, rfl, rfl⟩⟩ rfl (Nat.le_refl _) (Nat.le_refl _)

set_option maxHeartbeats 4000000 in
set_option maxRecDepth 100000 in
theorem m_X7_median (lau : Launch) (s0 : State) (G : zG) (sz : Nat) (ad : Nat → Nat) (F : Nat → Int) (Ar : Nat → Nat → Int) (n : Nat) (v : Nat → Nat) (gv : Nat → Int) (t : Nat) (l : Int) (r : Int) (hn : n ≤ 120) (hv : ∀ i, i < n → v i < 1000) (ht : t < 4) (hr_l : -2147483648 ≤ l ∧ l < 2147483648) (hr_r : -2147483648 ≤ r ∧ r < 2147483648) : zMet (S := Int × (Nat → Int) × (Nat → Nat → Int)) lau yX7_median cX7_median 5 (some .int) 1 25 0 0 s0 G sz [.ref (ad 0), .int (iZ (l)), .int (iZ (r))] (mW ad G (va_up (va_up F 5 ((n : Int))) 7 ((t : Int))) (va_up Ar 3 (cI (n) v gv))) (fun ((r_, F2, A2) : Int × (Nat → Int) × (Nat → Nat → Int)) => some (.int (iZ (r_)))) (fun ((r_, F2, A2) : Int × (Nat → Int) × (Nat → Nat → Int)) => (Sp_median n v l r r_) ∧ (MK (va_up (va_up F 5 ((n : Int))) 7 ((t : Int))) (va_up Ar 3 (cI (n) v gv)) F2 A2)) (fun ((r_, F2, A2) : Int × (Nat → Int) × (Nat → Nat → Int)) => (mW ad G F2 A2)) := by
  refine zMet.of (by decide) (Nat.le_of_ble_eq_true rfl) ?_
  intro pg ev s1 mi ar bl me cd ls Q as0 hC hH hl hQ hsz
  generalize s1.heap = H at hH ⊢
  generalize ([] : List Loc) = locs at hH ⊢
  have hl : lv_has ls 5 [(0, .ref (ad 0)), (1, .int (iZ (l))), (2, .int (iZ (r)))] := hl
  refine z_aload_n hC 0 hl dX7_median_0 rfl 0 rfl ?_
  refine z_iconst hC 1 dX7_median_1 ?_
  refine pmW_0 hC hH 2 dX7_median_2 (fun H locs hH => ?_)
  have hH : zH s0 s1 G as0 (mW ad G (va_up (va_up (va_up F 0 (0)) 5 ((n : Int))) 7 ((t : Int))) (va_up Ar 3 (cI (n) v gv))) H locs := hH
  refine z_aload_n hC 5 hl dX7_median_5 rfl 0 rfl ?_
  refine z_iload_n hC 6 hl dX7_median_6 rfl 1 rfl ?_
  refine z_iload_n hC 7 hl dX7_median_7 rfl 2 rfl ?_
  refine z_same (z_runV hC hH.2.2 hl.1 hH.1 hH.2.1 2 (As := [.int (iZ (l)), .int (iZ (r))]) (rest := []) (m_X7_isSpan lau s0 G _ ad (va_up (va_up (va_up F 0 (0)) 5 ((n : Int))) 7 ((t : Int))) (va_up Ar 3 (cI (n) v gv)) n l r (by first | assumption | omega) (by first | assumption | omega) (by first | assumption | omega)) (lw_V q1712 q1714 qs68 q95 q1715) ⟨rfl, by decide, by decide, by decide +kernel⟩ (q0 := 0) (ci := 0) rfl rfl rfl rfl (Nat.le_of_ble_eq_true rfl) ⟨Nat.le_of_ble_eq_true rfl, Nat.le_of_ble_eq_true rfl⟩ ⟨Nat.le_of_ble_eq_true rfl, Nat.le_of_ble_eq_true rfl⟩ dX7_median_8) hH (fun r_8 H locs hpost hH => ?_)
  have hb_8 : (r_8 = 1 ∧ (0 ≤ l ∧ l ≤ r ∧ r < (n : Int))) ∨ (r_8 = 0 ∧ ¬ (0 ≤ l ∧ l ≤ r ∧ r < (n : Int))) := hpost
  have hH : zH s0 s1 G as0 (mW ad G (va_up (va_up (va_up F 0 (0)) 5 ((n : Int))) 7 ((t : Int))) (va_up Ar 3 (cI (n) v gv))) H locs := hH
  refine z_st (st' := [.int (iZ (r_8))]) rfl ?_
  rcases hb_8 with ⟨rfl, hb_8⟩ | ⟨rfl, hb_8⟩
  · -- 8=1
    refine z_if_ne_t hC 11 16 dX7_median_11 rfl (by omega) (by omega) ?_
    obtain ⟨l1, rfl⟩ := Int.eq_ofNat_of_zero_le (show 0 ≤ l by omega)
    obtain ⟨r1, rfl⟩ := Int.eq_ofNat_of_zero_le (show 0 ≤ r by omega)
    refine z_iload_n hC 16 hl dX7_median_16 rfl 2 rfl ?_
    refine z_iload_n hC 17 hl dX7_median_17 rfl 1 rfl ?_
    refine z_isub (e := (r1 : Int) - (l1 : Int)) hC 18 dX7_median_18 rfl ?_
    refine z_iconst hC 19 dX7_median_19 ?_
    refine z_idiv hC 20 (r1 - l1) (2) dX7_median_20 (by omega) (by omega) (by omega) (by omega) (((r1 - l1) / 2)) rfl ?_
    refine z_istore_n (lv' := [(3, .int (iZ ((((r1 - l1) / 2 : Nat) : Int)))), (0, .ref (ad 0)), (1, .int (iZ ((l1 : Int)))), (2, .int (iZ ((r1 : Int))))]) hC 21 hl dX7_median_21 rfl (by decide) rfl (fun ls hl => ?_)
    refine z_aload_n hC 22 hl dX7_median_22 rfl 1 rfl ?_
    refine z_iload_n hC 23 hl dX7_median_23 rfl 2 rfl ?_
    refine z_iload_n hC 24 hl dX7_median_24 rfl 3 rfl ?_
    refine z_iconst hC 25 dX7_median_25 ?_
    refine z_st (st' := [.int (iZ ((-1))), .int (iZ (((r1 + 1 : Nat) : Int) - 1)), .int (iZ ((l1 : Int))), .ref (ad 0)]) (zcons rfl (zcons (zieq (by omega)) (zcons rfl rfl))) ?_
    refine z_same (z_runV hC hH.2.2 hl.1 hH.1 hH.2.1 3 (As := [.int (iZ ((l1 : Int))), .int (iZ (((r1 + 1 : Nat) : Int) - 1)), .int (iZ ((-1)))]) (rest := []) (m_X7_counts lau s0 G _ ad (va_up (va_up (va_up F 0 (0)) 5 ((n : Int))) 7 ((t : Int))) (va_up Ar 3 (cI (n) v gv)) n v gv l1 (r1 + 1) (-1) v (by first | assumption | omega) (by first | assumption | omega) (by first | assumption | omega) (by first | assumption | omega) (by first | assumption | omega) (by exact fun i _ _ => ⟨fun q => by omega, fun _ => rfl⟩)) (lw_V q1764 q1766 qs73 q95 q1767) ⟨rfl, by decide, by decide, by decide +kernel⟩ (q0 := 0) (ci := 0) rfl rfl rfl rfl (Nat.le_of_ble_eq_true rfl) ⟨Nat.le_of_ble_eq_true rfl, Nat.le_of_ble_eq_true rfl⟩ ⟨Nat.le_of_ble_eq_true rfl, Nat.le_of_ble_eq_true rfl⟩ dX7_median_26) hH (fun u_ H locs hpost hH => ?_)
    obtain ⟨o_26, go_26, fo_26, la_26, k_26, u_26, gu_26⟩ := u_
    have pCO_26 : CO v l1 (r1 + 1) o_26 fo_26 la_26 k_26 u_26 := hpost
    have hH : zH s0 s1 G as0 (mW ad G (va_up (va_up (va_up (va_up F 0 (0)) 5 ((n : Int))) 7 ((t : Int))) 38 ((k_26 : Int))) (va_up (va_up (va_up (va_up (va_up Ar 3 (cI (n) v gv)) 34 (cI (1000) o_26 go_26)) 35 fo_26) 36 la_26) 37 (cI (k_26) u_26 gu_26))) H locs := hH
    refine z_st (st' := []) rfl ?_
    have hall := csum_all hv (show l1 ≤ r1 + 1 by omega) (show r1 + 1 ≤ n by omega)
    refine z_iconst hC 29 dX7_median_29 ?_
    refine z_istore (lv' := [(4, .int (iZ (0))), (3, .int (iZ ((((r1 - l1) / 2 : Nat) : Int)))), (0, .ref (ad 0)), (1, .int (iZ ((l1 : Int)))), (2, .int (iZ ((r1 : Int))))]) hC 30 hl dX7_median_30 (by decide) rfl (fun ls hl => ?_)
    have L32 : ∀ (N_ : Nat) (lf : Nat) (x : Nat) (H : Heap) (locs : List Loc) (ls : Array Slot), 1000 - x < N_ → (lf + csum v l1 (r1 + 1) x = (r1 - l1) / 2) → zH s0 s1 G as0 (mW ad G (va_up (va_up (va_up (va_up F 0 (0)) 5 ((n : Int))) 7 ((t : Int))) 38 ((k_26 : Int))) (va_up (va_up (va_up (va_up (va_up Ar 3 (cI (n) v gv)) 34 (cI (1000) o_26 go_26)) 35 fo_26) 36 la_26) 37 (cI (k_26) u_26 gu_26))) H locs → lv_has ls 5 [(0, .ref (ad 0)), (1, .int (iZ ((l1 : Int)))), (2, .int (iZ ((r1 : Int)))), (3, .int (iZ ((lf : Int)))), (4, .int (iZ ((x : Int))))] → W pg lau ev (zRm 1 0 0 25) s1 mi ar bl me cd H locs 0 0 Q (F0 mi 32 ls []) := by
      intro N_
      induction N_ with
      | zero => intro lf x H locs ls hd; exact absurd hd (Nat.not_lt_zero _)
      | succ N_ ih32 =>
        intro lf x H locs ls hd32 ix hH hl
        have hx : x < 1000 := by rcases Nat.lt_or_ge x 1000 with q | q; (· exact q); (· have := csum_mono (v := v) (L := l1) (R := r1 + 1) q; omega)
        have ho1 := pCO_26.1 x hx
        have hc1 := cnt_le v l1 (r1 + 1) x
        refine z_aload_n hC 32 hl dX7_median_32 rfl 0 rfl ?_
        refine gmW_34 hC hH 33 dX7_median_33 ?_
        refine z_iload hC 36 hl dX7_median_36 4 rfl ?_
        refine lmW_34 (x := ((o_26 x : Nat) : Int)) hC hH 38 (x) (by omega) (by omega) (cI_lt (by omega)) dX7_median_38 ?_
        refine z_iload_n hC 39 hl dX7_median_39 rfl 3 rfl ?_
        refine z_icmp_gt hC 40 59 dX7_median_40 rfl (by omega) (by omega) (fun hb1 => ?_) (fun hb1 => ?_)
        · -- 40t
          refine z_iload hC 59 hl dX7_median_59 4 rfl ?_
          -- R61.1
          exact z_iret hC hH hQ 61 (((x : Int), (va_up (va_up (va_up (va_up F 0 (0)) 5 ((n : Int))) 7 ((t : Int))) 38 ((k_26 : Int))), (va_up (va_up (va_up (va_up (va_up Ar 3 (cI (n) v gv)) 34 (cI (1000) o_26 go_26)) 35 fo_26) 36 la_26) 37 (cI (k_26) u_26 gu_26)))) dX7_median_61 rfl ⟨by (unfold Sp_median; rw [if_pos (by omega)]; simp only [Int.toNat_natCast, zt1]; exact ⟨x, by omega, by (show _ < csum v l1 (r1 + 1) x + cnt v l1 (r1 + 1) x); omega, rfl⟩), by exact ⟨rfl, rfl, rfl, rfl, rfl, rfl, rfl, rfl, rfl, rfl, rfl, rfl, rfl, rfl, rfl, rfl⟩⟩ rfl (Nat.le_refl _) (Nat.le_refl _)
        · -- 40f
          refine z_iload_n hC 43 hl dX7_median_43 rfl 3 rfl ?_
          refine z_aload_n hC 44 hl dX7_median_44 rfl 0 rfl ?_
          refine gmW_34 hC hH 45 dX7_median_45 ?_
          refine z_iload hC 48 hl dX7_median_48 4 rfl ?_
          refine lmW_34 (x := ((o_26 x : Nat) : Int)) hC hH 50 (x) (by omega) (by omega) (cI_lt (by omega)) dX7_median_50 ?_
          refine z_isub (e := (lf : Int) - ((o_26 x : Nat) : Int)) hC 51 dX7_median_51 rfl ?_
          refine z_istore_n (lv' := [(3, .int (iZ ((lf : Int) - ((o_26 x : Nat) : Int)))), (0, .ref (ad 0)), (1, .int (iZ ((l1 : Int)))), (2, .int (iZ ((r1 : Int)))), (4, .int (iZ ((x : Int))))]) hC 52 hl dX7_median_52 rfl (by decide) rfl (fun ls hl => ?_)
          refine z_iinc (lv' := [(4, .int (iZ ((x : Int) + 1))), (3, .int (iZ ((lf : Int) - ((o_26 x : Nat) : Int)))), (0, .ref (ad 0)), (1, .int (iZ ((l1 : Int)))), (2, .int (iZ ((r1 : Int))))]) hC 53 hl dX7_median_53 4 rfl (by omega) (by decide) rfl (fun ls hl => ?_)
          refine z_goto hC 56 32 dX7_median_56 rfl ?_
          -- J32.2
          exact ih32 (lf - (o_26 x)) (x + 1) _ _ _ (by omega) (by first | rfl | (have : csum v l1 (r1 + 1) (x + 1) = csum v l1 (r1 + 1) x + cnt v l1 (r1 + 1) x := rfl; omega)) hH (z_lv (lv_sub hl [2, 3, 4, 1, 0] rfl) (zcons rfl (zcons rfl (zcons rfl (zcons (zpeq (by omega)) (zcons (zpeq (by omega)) rfl))))))
    -- J32.3
    exact L32 _ ((r1 - l1) / 2) 0 _ _ _ (Nat.lt_succ_self _) (by first | rfl | (have : csum v l1 (r1 + 1) (x + 1) = csum v l1 (r1 + 1) x + cnt v l1 (r1 + 1) x := rfl; omega)) hH (z_lv (lv_sub hl [2, 3, 4, 1, 0] rfl) (zcons rfl (zcons rfl (zcons rfl (zcons rfl (zcons (zpeq (by omega)) rfl))))))
  · -- 8=0
    refine z_if_ne_f hC 11 16 dX7_median_11 rfl (by omega) (by omega) ?_
    refine z_iconst hC 14 dX7_median_14 ?_
    -- R15.4
    exact z_iret hC hH hQ 15 (((-1), (va_up (va_up (va_up F 0 (0)) 5 ((n : Int))) 7 ((t : Int))), (va_up Ar 3 (cI (n) v gv)))) dX7_median_15 rfl ⟨by first | (unfold Sp_median; rw [if_neg (by omega)]) | (unfold Sp_median; rw [if_pos (by omega)]), by exact ⟨rfl, rfl, rfl, rfl, rfl, rfl, rfl, rfl, rfl, rfl, rfl, rfl, rfl, rfl, rfl, rfl⟩⟩ rfl (Nat.le_refl _) (Nat.le_refl _)

set_option maxHeartbeats 4000000 in
set_option maxRecDepth 100000 in
theorem m_X7_windows (lau : Launch) (s0 : State) (G : zG) (sz : Nat) (ad : Nat → Nat) (F : Nat → Int) (Ar : Nat → Nat → Int) (n : Nat) (v : Nat → Nat) (gv : Nat → Int) (t : Nat) (wd : Int) (q : Int) (hn : n ≤ 120) (hv : ∀ i, i < n → v i < 1000) (ht : t < 4) (hr_wd : -2147483648 ≤ wd ∧ wd < 2147483648) (hr_q : -2147483648 ≤ q ∧ q < 2147483648) : zMet (S := Int × (Nat → Int) × (Nat → Nat → Int)) lau yX7_windows cX7_windows 8 (some .int) 3 68 0 0 s0 G sz [.ref (ad 0), .int (iZ (wd)), .int (iZ (q))] (mW ad G (va_up (va_up F 5 ((n : Int))) 7 ((t : Int))) (va_up Ar 3 (cI (n) v gv))) (fun ((r_, F2, A2) : Int × (Nat → Int) × (Nat → Nat → Int)) => some (.int (iZ (r_)))) (fun ((r_, F2, A2) : Int × (Nat → Int) × (Nat → Nat → Int)) => (Sp_windows n v t wd q r_) ∧ (MK (va_up (va_up F 5 ((n : Int))) 7 ((t : Int))) (va_up Ar 3 (cI (n) v gv)) F2 A2)) (fun ((r_, F2, A2) : Int × (Nat → Int) × (Nat → Nat → Int)) => (mW ad G F2 A2)) := by
  refine zMet.of (by decide) (Nat.le_of_ble_eq_true rfl) ?_
  intro pg ev s1 mi ar bl me cd ls Q as0 hC hH hl hQ hsz
  generalize s1.heap = H at hH ⊢
  generalize ([] : List Loc) = locs at hH ⊢
  have hl : lv_has ls 8 [(0, .ref (ad 0)), (1, .int (iZ (wd))), (2, .int (iZ (q)))] := hl
  refine z_aload_n hC 0 hl dX7_windows_0 rfl 0 rfl ?_
  refine z_iconst hC 1 dX7_windows_1 ?_
  refine pmW_0 hC hH 2 dX7_windows_2 (fun H locs hH => ?_)
  have hH : zH s0 s1 G as0 (mW ad G (va_up (va_up (va_up F 0 (0)) 5 ((n : Int))) 7 ((t : Int))) (va_up Ar 3 (cI (n) v gv))) H locs := hH
  refine z_iload_n hC 5 hl dX7_windows_5 rfl 1 rfl ?_
  refine z_iconst hC 6 dX7_windows_6 ?_
  refine z_icmp_lt hC 7 27 dX7_windows_7 rfl (by omega) (by omega) (fun hb1 => ?_) (fun hb1 => ?_)
  · -- 7t
    refine z_iconst hC 27 dX7_windows_27 ?_
    -- R28.1
    exact z_iret hC hH hQ 28 (((-1), (va_up (va_up (va_up F 0 (0)) 5 ((n : Int))) 7 ((t : Int))), (va_up Ar 3 (cI (n) v gv)))) dX7_windows_28 rfl ⟨by first | (unfold Sp_windows; rw [if_neg (by omega)]) | (unfold Sp_windows; rw [if_pos (by omega)]), by exact ⟨rfl, rfl, rfl, rfl, rfl, rfl, rfl, rfl, rfl, rfl, rfl, rfl, rfl, rfl, rfl, rfl⟩⟩ rfl (Nat.le_refl _) (Nat.le_refl _)
  · -- 7f
    refine z_iload_n hC 10 hl dX7_windows_10 rfl 1 rfl ?_
    refine z_aload_n hC 11 hl dX7_windows_11 rfl 0 rfl ?_
    refine gmW_5 (x := (n : Int)) hC hH 12 rfl dX7_windows_12 ?_
    refine z_icmp_gt hC 15 27 dX7_windows_15 rfl (by omega) (by omega) (fun hb2 => ?_) (fun hb2 => ?_)
    · -- 15t
      refine z_iconst hC 27 dX7_windows_27 ?_
      -- R28.2
      exact z_iret hC hH hQ 28 (((-1), (va_up (va_up (va_up F 0 (0)) 5 ((n : Int))) 7 ((t : Int))), (va_up Ar 3 (cI (n) v gv)))) dX7_windows_28 rfl ⟨by first | (unfold Sp_windows; rw [if_neg (by omega)]) | (unfold Sp_windows; rw [if_pos (by omega)]), by exact ⟨rfl, rfl, rfl, rfl, rfl, rfl, rfl, rfl, rfl, rfl, rfl, rfl, rfl, rfl, rfl, rfl⟩⟩ rfl (Nat.le_refl _) (Nat.le_refl _)
    · -- 15f
      refine z_iload_n hC 18 hl dX7_windows_18 rfl 2 rfl ?_
      refine z_if_lt hC 19 27 dX7_windows_19 rfl (by omega) (fun hb3 => ?_) (fun hb3 => ?_)
      · -- 19t
        refine z_iconst hC 27 dX7_windows_27 ?_
        -- R28.3
        exact z_iret hC hH hQ 28 (((-1), (va_up (va_up (va_up F 0 (0)) 5 ((n : Int))) 7 ((t : Int))), (va_up Ar 3 (cI (n) v gv)))) dX7_windows_28 rfl ⟨by first | (unfold Sp_windows; rw [if_neg (by omega)]) | (unfold Sp_windows; rw [if_pos (by omega)]), by exact ⟨rfl, rfl, rfl, rfl, rfl, rfl, rfl, rfl, rfl, rfl, rfl, rfl, rfl, rfl, rfl, rfl⟩⟩ rfl (Nat.le_refl _) (Nat.le_refl _)
      · -- 19f
        refine z_iload_n hC 22 hl dX7_windows_22 rfl 2 rfl ?_
        refine z_iconst hC 23 dX7_windows_23 ?_
        refine z_icmp_le hC 24 29 dX7_windows_24 rfl (by omega) (by omega) (fun hb4 => ?_) (fun hb4 => ?_)
        · -- 24t
          obtain ⟨w1, rfl⟩ := Int.eq_ofNat_of_zero_le (show 0 ≤ wd by omega)
          refine z_iconst hC 29 dX7_windows_29 ?_
          refine z_istore_n (lv' := [(3, .int (iZ (0))), (0, .ref (ad 0)), (1, .int (iZ ((w1 : Int)))), (2, .int (iZ (q)))]) hC 30 hl dX7_windows_30 rfl (by decide) rfl (fun ls hl => ?_)
          have L31 : ∀ (N_ : Nat) (i : Nat) (a : Nat → Int) (H : Heap) (locs : List Loc) (ls : Array Slot), 1000 - i < N_ → (i ≤ 1000) → (∀ j, j < i → a j = 0) → zH s0 s1 G as0 (mW ad G (va_up (va_up (va_up F 0 (0)) 5 ((n : Int))) 7 ((t : Int))) (va_up (va_up Ar 3 (cI (n) v gv)) 40 a)) H locs → lv_has ls 8 [(0, .ref (ad 0)), (1, .int (iZ ((w1 : Int)))), (2, .int (iZ (q))), (3, .int (iZ ((i : Int))))] → W pg lau ev (zRm 3 0 0 68) s1 mi ar bl me cd H locs 0 0 Q (F0 mi 31 ls []) := by
            intro N_
            induction N_ with
            | zero => intro i a H locs ls hd; exact absurd hd (Nat.not_lt_zero _)
            | succ N_ ih31 =>
              intro i a H locs ls hd31 i31_1 iz hH hl
              refine z_iload_n hC 31 hl dX7_windows_31 rfl 3 rfl ?_
              refine z_sipush hC 32 dX7_windows_32 rfl ?_
              refine z_icmp_ge hC 35 51 dX7_windows_35 rfl (by omega) (by omega) (fun hb5 => ?_) (fun hb5 => ?_)
              · -- 35t
                have hcv6 : a = (cI (1000) (fun _ => 0) a) := by exact cI_self (fun p hp => iz p (by omega))
                rw [hcv6] at hH
                have hH : zH s0 s1 G as0 (mW ad G (va_up (va_up (va_up F 0 (0)) 5 ((n : Int))) 7 ((t : Int))) (va_up (va_up Ar 3 (cI (n) v gv)) 40 (cI (1000) (fun _ => 0) a))) H locs := hH
                refine z_iconst hC 51 dX7_windows_51 ?_
                refine z_istore_n (lv' := [(3, .int (iZ (0))), (0, .ref (ad 0)), (1, .int (iZ ((w1 : Int)))), (2, .int (iZ (q)))]) hC 52 hl dX7_windows_52 rfl (by decide) rfl (fun ls hl => ?_)
                refine z_iconst hC 53 dX7_windows_53 ?_
                refine z_istore (lv' := [(4, .int (iZ ((-1)))), (3, .int (iZ (0))), (0, .ref (ad 0)), (1, .int (iZ ((w1 : Int)))), (2, .int (iZ (q)))]) hC 54 hl dX7_windows_54 (by decide) rfl (fun ls hl => ?_)
                refine z_iconst hC 56 dX7_windows_56 ?_
                refine z_istore (lv' := [(5, .int (iZ (0))), (4, .int (iZ ((-1)))), (3, .int (iZ (0))), (0, .ref (ad 0)), (1, .int (iZ ((w1 : Int)))), (2, .int (iZ (q)))]) hC 57 hl dX7_windows_57 (by decide) rfl (fun ls hl => ?_)
                have L59 : ∀ (N_ : Nat) (i : Nat) (c : Nat) (ws : Int) (mo : Nat → Nat) (gm : Nat → Int) (f38 : Int) (a34 : Nat → Int) (a35 : Nat → Int) (a36 : Nat → Int) (a37 : Nat → Int) (H : Heap) (locs : List Loc) (ls : Array Slot), n + 1 - w1 - i < N_ → (i ≤ n + 1 - w1) → (c ≤ i) → ((i = 0 ∧ ws = -1) ∨ (0 < i ∧ ws = (md v (i - 1) (i - 1 + w1) t : Int))) → (-1 ≤ ws ∧ ws < 1000) → (c = cB (fun i => 0 < i ∧ md v i (i + w1) t ≠ md v (i - 1) (i - 1 + w1) t) i) → (∀ x, x < 1000 → mo x = cnt (fun i => md v i (i + w1) t) 0 i x) → zH s0 s1 G as0 (mW ad G (va_up (va_up (va_up (va_up F 0 (0)) 5 ((n : Int))) 7 ((t : Int))) 38 (f38)) (va_up (va_up (va_up (va_up (va_up (va_up Ar 3 (cI (n) v gv)) 34 a34) 35 a35) 36 a36) 37 a37) 40 (cI (1000) mo gm))) H locs → lv_has ls 8 [(0, .ref (ad 0)), (1, .int (iZ ((w1 : Int)))), (2, .int (iZ (q))), (3, .int (iZ ((c : Int)))), (4, .int (iZ (ws))), (5, .int (iZ ((i : Int))))] → W pg lau ev (zRm 3 0 0 68) s1 mi ar bl me cd H locs 0 0 Q (F0 mi 59 ls []) := by
                  intro N_
                  induction N_ with
                  | zero => intro i c ws mo gm f38 a34 a35 a36 a37 H locs ls hd; exact absurd hd (Nat.not_lt_zero _)
                  | succ N_ ih59 =>
                    intro i c ws mo gm f38 a34 a35 a36 a37 H locs ls hd59 i59_1 i59_2 iw iws ic im hH hl
                    refine z_iload hC 59 hl dX7_windows_59 5 rfl ?_
                    refine z_iload_n hC 61 hl dX7_windows_61 rfl 1 rfl ?_
                    refine z_iadd (e := (i : Int) + (w1 : Int)) hC 62 dX7_windows_62 rfl ?_
                    refine z_aload_n hC 63 hl dX7_windows_63 rfl 0 rfl ?_
                    refine gmW_5 (x := (n : Int)) hC hH 64 rfl dX7_windows_64 ?_
                    refine z_icmp_gt hC 67 125 dX7_windows_67 rfl (by omega) (by omega) (fun hb7 => ?_) (fun hb7 => ?_)
                    · -- 67t
                      have ei : (i) = n + 1 - w1 := by omega
                      rw [ei] at ic im
                      have hf0 : (fun i => md v i (i + w1) t) 0 < 1000 := md_lt_1000 _ _ _ _
                      refine z_iconst hC 125 dX7_windows_125 ?_
                      refine z_istore (lv' := [(5, .int (iZ (0))), (0, .ref (ad 0)), (1, .int (iZ ((w1 : Int)))), (2, .int (iZ (q))), (3, .int (iZ ((c : Int)))), (4, .int (iZ (ws)))]) hC 126 hl dX7_windows_126 (by decide) rfl (fun ls hl => ?_)
                      refine z_iconst hC 128 dX7_windows_128 ?_
                      refine z_istore (lv' := [(6, .int (iZ ((-1)))), (5, .int (iZ (0))), (0, .ref (ad 0)), (1, .int (iZ ((w1 : Int)))), (2, .int (iZ (q))), (3, .int (iZ ((c : Int)))), (4, .int (iZ (ws)))]) hC 129 hl dX7_windows_129 (by decide) rfl (fun ls hl => ?_)
                      refine z_iconst hC 131 dX7_windows_131 ?_
                      refine z_istore (lv' := [(7, .int (iZ (0))), (6, .int (iZ ((-1)))), (5, .int (iZ (0))), (0, .ref (ad 0)), (1, .int (iZ ((w1 : Int)))), (2, .int (iZ (q))), (3, .int (iZ ((c : Int)))), (4, .int (iZ (ws)))]) hC 132 hl dX7_windows_132 (by decide) rfl (fun ls hl => ?_)
                      have L134 : ∀ (N_ : Nat) (x : Nat) (c2 : Nat) (bs : Int) (H : Heap) (locs : List Loc) (ls : Array Slot), 1000 - x < N_ → (x ≤ 1000) → (c2 ≤ x) → (-1 ≤ bs ∧ bs < 1000) → (c2 = cB (fun x => 0 < cnt (fun i => md v i (i + w1) t) 0 (n + 1 - w1) x) x) → (LBest mo x bs) → zH s0 s1 G as0 (mW ad G (va_up (va_up (va_up (va_up F 0 (0)) 5 ((n : Int))) 7 ((t : Int))) 38 (f38)) (va_up (va_up (va_up (va_up (va_up (va_up Ar 3 (cI (n) v gv)) 34 a34) 35 a35) 36 a36) 37 a37) 40 (cI (1000) mo gm))) H locs → lv_has ls 8 [(0, .ref (ad 0)), (1, .int (iZ ((w1 : Int)))), (2, .int (iZ (q))), (3, .int (iZ ((c : Int)))), (5, .int (iZ ((c2 : Int)))), (6, .int (iZ (bs))), (7, .int (iZ ((x : Int))))] → W pg lau ev (zRm 3 0 0 68) s1 mi ar bl me cd H locs 0 0 Q (F0 mi 134 ls []) := by
                        intro N_
                        induction N_ with
                        | zero => intro x c2 bs H locs ls hd; exact absurd hd (Nat.not_lt_zero _)
                        | succ N_ ih134 =>
                          intro x c2 bs H locs ls hd134 i134_1 i134_2 i134_3 i2 il hH hl
                          refine z_iload hC 134 hl dX7_windows_134 6 rfl ?_
                          refine z_sipush hC 136 dX7_windows_136 rfl ?_
                          refine z_icmp_ge hC 139 199 dX7_windows_139 rfl (by omega) (by omega) (fun hb8 => ?_) (fun hb8 => ?_)
                          · -- 139t
                            have ex : (x) = 1000 := by omega
                            rw [ex] at i2 il
                            have hle := LB_end im (by omega) hf0 il
                            refine z_iload_n hC 199 hl dX7_windows_199 rfl 2 rfl ?_
                            refine z_if_ne hC 200 207 dX7_windows_200 rfl (by omega) (fun hb9 => ?_) (fun hb9 => ?_)
                            · -- 200t
                              refine z_iload_n hC 207 hl dX7_windows_207 rfl 2 rfl ?_
                              refine z_iconst hC 208 dX7_windows_208 ?_
                              refine z_icmp_ne hC 209 217 dX7_windows_209 rfl (by omega) (by omega) (fun hb10 => ?_) (fun hb10 => ?_)
                              · -- 209t
                                refine z_iload hC 217 hl dX7_windows_217 5 rfl ?_
                                -- R219.4
                                exact z_iret hC hH hQ 219 ((bs, (va_up (va_up (va_up (va_up F 0 (0)) 5 ((n : Int))) 7 ((t : Int))) 38 (f38)), (va_up (va_up (va_up (va_up (va_up (va_up Ar 3 (cI (n) v gv)) 34 a34) 35 a35) 36 a36) 37 a37) 40 (cI (1000) mo gm)))) dX7_windows_219 rfl ⟨by (unfold Sp_windows; rw [if_pos (by omega)]; simp only [Int.toNat_natCast]; first | (rw [if_pos (by omega), ic]; done) | (rw [if_neg (by omega), if_pos (by omega), i2]; rfl) | (rw [if_neg (by omega), if_neg (by omega)]; exact hle)), by exact ⟨rfl, rfl, rfl, rfl, rfl, rfl, rfl, rfl, rfl, rfl, rfl, rfl, rfl, rfl, rfl, rfl⟩⟩ rfl (Nat.le_refl _) (Nat.le_refl _)
                              · -- 209f
                                refine z_iload hC 212 hl dX7_windows_212 4 rfl ?_
                                refine z_goto hC 214 219 dX7_windows_214 rfl ?_
                                -- R219.5
                                exact z_iret hC hH hQ 219 (((c2 : Int), (va_up (va_up (va_up (va_up F 0 (0)) 5 ((n : Int))) 7 ((t : Int))) 38 (f38)), (va_up (va_up (va_up (va_up (va_up (va_up Ar 3 (cI (n) v gv)) 34 a34) 35 a35) 36 a36) 37 a37) 40 (cI (1000) mo gm)))) dX7_windows_219 rfl ⟨by (unfold Sp_windows; rw [if_pos (by omega)]; simp only [Int.toNat_natCast]; first | (rw [if_pos (by omega), ic]; done) | (rw [if_neg (by omega), if_pos (by omega), i2]; rfl) | (rw [if_neg (by omega), if_neg (by omega)]; exact hle)), by exact ⟨rfl, rfl, rfl, rfl, rfl, rfl, rfl, rfl, rfl, rfl, rfl, rfl, rfl, rfl, rfl, rfl⟩⟩ rfl (Nat.le_refl _) (Nat.le_refl _)
                            · -- 200f
                              refine z_iload_n hC 203 hl dX7_windows_203 rfl 3 rfl ?_
                              refine z_goto hC 204 219 dX7_windows_204 rfl ?_
                              -- R219.6
                              exact z_iret hC hH hQ 219 (((c : Int), (va_up (va_up (va_up (va_up F 0 (0)) 5 ((n : Int))) 7 ((t : Int))) 38 (f38)), (va_up (va_up (va_up (va_up (va_up (va_up Ar 3 (cI (n) v gv)) 34 a34) 35 a35) 36 a36) 37 a37) 40 (cI (1000) mo gm)))) dX7_windows_219 rfl ⟨by (unfold Sp_windows; rw [if_pos (by omega)]; simp only [Int.toNat_natCast]; first | (rw [if_pos (by omega), ic]; done) | (rw [if_neg (by omega), if_pos (by omega), i2]; rfl) | (rw [if_neg (by omega), if_neg (by omega)]; exact hle)), by exact ⟨rfl, rfl, rfl, rfl, rfl, rfl, rfl, rfl, rfl, rfl, rfl, rfl, rfl, rfl, rfl, rfl⟩⟩ rfl (Nat.le_refl _) (Nat.le_refl _)
                          · -- 139f
                            have hmo2 := im (x) (by omega)
                            have hcf2 := cnt_le (fun i => md v i (i + w1) t) 0 (n + 1 - w1) (x)
                            refine z_iload hC 142 hl dX7_windows_142 4 rfl ?_
                            refine z_aload_n hC 144 hl dX7_windows_144 rfl 0 rfl ?_
                            refine gmW_40 hC hH 145 dX7_windows_145 ?_
                            refine z_iload hC 148 hl dX7_windows_148 6 rfl ?_
                            refine lmW_40 (x := ((mo x : Nat) : Int)) hC hH 150 (x) (by omega) (by omega) (cI_lt (by omega)) dX7_windows_150 ?_
                            refine z_if_le hC 151 158 dX7_windows_151 rfl (by omega) (fun hb11 => ?_) (fun hb11 => ?_)
                            · -- 151t
                              refine z_iconst hC 158 dX7_windows_158 ?_
                              refine z_iadd (e := (c2 : Int)) hC 159 dX7_windows_159 (by omega) ?_
                              refine z_istore (lv' := [(5, .int (iZ ((c2 : Int)))), (0, .ref (ad 0)), (1, .int (iZ ((w1 : Int)))), (2, .int (iZ (q))), (3, .int (iZ ((c : Int)))), (6, .int (iZ (bs))), (7, .int (iZ ((x : Int))))]) hC 160 hl dX7_windows_160 (by decide) rfl (fun ls hl => ?_)
                              refine z_aload_n hC 162 hl dX7_windows_162 rfl 1 rfl ?_
                              refine gmW_40 hC hH 163 dX7_windows_163 ?_
                              refine z_iload hC 166 hl dX7_windows_166 6 rfl ?_
                              refine lmW_40 (x := ((mo x : Nat) : Int)) hC hH 168 (x) (by omega) (by omega) (cI_lt (by omega)) dX7_windows_168 ?_
                              refine z_iload hC 169 hl dX7_windows_169 5 rfl ?_
                              refine z_iconst hC 171 dX7_windows_171 ?_
                              refine z_icmp_ne hC 172 179 dX7_windows_172 rfl (by omega) (by omega) (fun hb12 => ?_) (fun hb12 => ?_)
                              · -- 172t
                                obtain ⟨m9, hm1, rfl, hm3, hLm⟩ := LB_get il (by assumption)
                                have hmo3 := im m9 (by omega)
                                have hcf3 := cnt_le (fun i => md v i (i + w1) t) 0 (n + 1 - w1) m9
                                refine z_aload_n hC 179 hl dX7_windows_179 rfl 1 rfl ?_
                                refine gmW_40 hC hH 180 dX7_windows_180 ?_
                                refine z_iload hC 183 hl dX7_windows_183 5 rfl ?_
                                refine lmW_40 (x := ((mo m9 : Nat) : Int)) hC hH 185 (m9) (by omega) (by omega) (cI_lt (by omega)) dX7_windows_185 ?_
                                refine z_icmp_le hC 186 193 dX7_windows_186 rfl (by omega) (by omega) (fun hb13 => ?_) (fun hb13 => ?_)
                                · -- 186t
                                  refine z_iinc (lv' := [(7, .int (iZ ((x : Int) + 1))), (5, .int (iZ ((c2 : Int)))), (0, .ref (ad 0)), (1, .int (iZ ((w1 : Int)))), (2, .int (iZ (q))), (3, .int (iZ ((c : Int)))), (6, .int (iZ ((m9 : Int))))]) hC 193 hl dX7_windows_193 6 rfl (by omega) (by decide) rfl (fun ls hl => ?_)
                                  refine z_goto hC 196 134 dX7_windows_196 rfl ?_
                                  -- J134.7
                                  exact ih134 (x + 1) c2 (m9 : Int) _ _ _ (by omega) (by first | assumption | omega) (by first | assumption | omega) (by first | assumption | omega) (by first | rfl | exact cB_it (by omega) i2 | exact cB_if (by omega) i2) (by first | exact LB_0 | exact LB_new1 il (by omega) (by omega) | exact LB_new2 hLm (by omega) | exact LB_keep1 il (by omega) (by omega) | exact LB_keep2 hm1 rfl hm3 hLm (by omega)) hH (z_lv (lv_sub hl [2, 3, 4, 5, 1, 6, 0] rfl) (zcons rfl (zcons rfl (zcons rfl (zcons rfl (zcons rfl (zcons rfl (zcons (zpeq (by omega)) rfl))))))))
                                · -- 186f
                                  refine z_iload hC 189 hl dX7_windows_189 6 rfl ?_
                                  refine z_istore (lv' := [(6, .int (iZ ((x : Int)))), (5, .int (iZ ((c2 : Int)))), (0, .ref (ad 0)), (1, .int (iZ ((w1 : Int)))), (2, .int (iZ (q))), (3, .int (iZ ((c : Int)))), (7, .int (iZ ((x : Int))))]) hC 191 hl dX7_windows_191 (by decide) rfl (fun ls hl => ?_)
                                  refine z_iinc (lv' := [(7, .int (iZ ((x : Int) + 1))), (6, .int (iZ ((x : Int)))), (5, .int (iZ ((c2 : Int)))), (0, .ref (ad 0)), (1, .int (iZ ((w1 : Int)))), (2, .int (iZ (q))), (3, .int (iZ ((c : Int))))]) hC 193 hl dX7_windows_193 6 rfl (by omega) (by decide) rfl (fun ls hl => ?_)
                                  refine z_goto hC 196 134 dX7_windows_196 rfl ?_
                                  -- J134.8
                                  exact ih134 (x + 1) c2 (x : Int) _ _ _ (by omega) (by first | assumption | omega) (by first | assumption | omega) (by first | assumption | omega) (by first | rfl | exact cB_it (by omega) i2 | exact cB_if (by omega) i2) (by first | exact LB_0 | exact LB_new1 il (by omega) (by omega) | exact LB_new2 hLm (by omega) | exact LB_keep1 il (by omega) (by omega) | exact LB_keep2 hm1 rfl hm3 hLm (by omega)) hH (z_lv (lv_sub hl [3, 4, 5, 6, 2, 1, 0] rfl) (zcons rfl (zcons rfl (zcons rfl (zcons rfl (zcons rfl (zcons rfl (zcons (zpeq (by omega)) rfl))))))))
                              · -- 172f
                                refine z_iconst hC 175 dX7_windows_175 ?_
                                refine z_goto hC 176 186 dX7_windows_176 rfl ?_
                                refine z_icmp_le hC 186 193 dX7_windows_186 rfl (by omega) (by omega) (fun hb14 => ?_) (fun hb14 => ?_)
                                · -- 186t
                                  refine z_iinc (lv' := [(7, .int (iZ ((x : Int) + 1))), (5, .int (iZ ((c2 : Int)))), (0, .ref (ad 0)), (1, .int (iZ ((w1 : Int)))), (2, .int (iZ (q))), (3, .int (iZ ((c : Int)))), (6, .int (iZ (bs)))]) hC 193 hl dX7_windows_193 6 rfl (by omega) (by decide) rfl (fun ls hl => ?_)
                                  refine z_goto hC 196 134 dX7_windows_196 rfl ?_
                                  -- J134.9
                                  exact ih134 (x + 1) c2 bs _ _ _ (by omega) (by first | assumption | omega) (by first | assumption | omega) (by first | assumption | omega) (by first | rfl | exact cB_it (by omega) i2 | exact cB_if (by omega) i2) (by first | exact LB_0 | exact LB_new1 il (by omega) (by omega) | exact LB_new2 hLm (by omega) | exact LB_keep1 il (by omega) (by omega) | exact LB_keep2 hm1 rfl hm3 hLm (by omega)) hH (z_lv (lv_sub hl [2, 3, 4, 5, 1, 6, 0] rfl) (zcons rfl (zcons rfl (zcons rfl (zcons rfl (zcons rfl (zcons rfl (zcons (zpeq (by omega)) rfl))))))))
                                · -- 186f
                                  refine z_iload hC 189 hl dX7_windows_189 6 rfl ?_
                                  refine z_istore (lv' := [(6, .int (iZ ((x : Int)))), (5, .int (iZ ((c2 : Int)))), (0, .ref (ad 0)), (1, .int (iZ ((w1 : Int)))), (2, .int (iZ (q))), (3, .int (iZ ((c : Int)))), (7, .int (iZ ((x : Int))))]) hC 191 hl dX7_windows_191 (by decide) rfl (fun ls hl => ?_)
                                  refine z_iinc (lv' := [(7, .int (iZ ((x : Int) + 1))), (6, .int (iZ ((x : Int)))), (5, .int (iZ ((c2 : Int)))), (0, .ref (ad 0)), (1, .int (iZ ((w1 : Int)))), (2, .int (iZ (q))), (3, .int (iZ ((c : Int))))]) hC 193 hl dX7_windows_193 6 rfl (by omega) (by decide) rfl (fun ls hl => ?_)
                                  refine z_goto hC 196 134 dX7_windows_196 rfl ?_
                                  -- J134.10
                                  exact ih134 (x + 1) c2 (x : Int) _ _ _ (by omega) (by first | assumption | omega) (by first | assumption | omega) (by first | assumption | omega) (by first | rfl | exact cB_it (by omega) i2 | exact cB_if (by omega) i2) (by first | exact LB_0 | exact LB_new1 il (by omega) (by omega) | exact LB_new2 hLm (by omega) | exact LB_keep1 il (by omega) (by omega) | exact LB_keep2 hm1 rfl hm3 hLm (by omega)) hH (z_lv (lv_sub hl [3, 4, 5, 6, 2, 1, 0] rfl) (zcons rfl (zcons rfl (zcons rfl (zcons rfl (zcons rfl (zcons rfl (zcons (zpeq (by omega)) rfl))))))))
                            · -- 151f
                              refine z_iconst hC 154 dX7_windows_154 ?_
                              refine z_goto hC 155 159 dX7_windows_155 rfl ?_
                              refine z_iadd (e := (c2 : Int) + 1) hC 159 dX7_windows_159 rfl ?_
                              refine z_istore (lv' := [(5, .int (iZ ((c2 : Int) + 1))), (0, .ref (ad 0)), (1, .int (iZ ((w1 : Int)))), (2, .int (iZ (q))), (3, .int (iZ ((c : Int)))), (6, .int (iZ (bs))), (7, .int (iZ ((x : Int))))]) hC 160 hl dX7_windows_160 (by decide) rfl (fun ls hl => ?_)
                              refine z_aload_n hC 162 hl dX7_windows_162 rfl 1 rfl ?_
                              refine gmW_40 hC hH 163 dX7_windows_163 ?_
                              refine z_iload hC 166 hl dX7_windows_166 6 rfl ?_
                              refine lmW_40 (x := ((mo x : Nat) : Int)) hC hH 168 (x) (by omega) (by omega) (cI_lt (by omega)) dX7_windows_168 ?_
                              refine z_iload hC 169 hl dX7_windows_169 5 rfl ?_
                              refine z_iconst hC 171 dX7_windows_171 ?_
                              refine z_icmp_ne hC 172 179 dX7_windows_172 rfl (by omega) (by omega) (fun hb15 => ?_) (fun hb15 => ?_)
                              · -- 172t
                                obtain ⟨m9, hm1, rfl, hm3, hLm⟩ := LB_get il (by assumption)
                                have hmo3 := im m9 (by omega)
                                have hcf3 := cnt_le (fun i => md v i (i + w1) t) 0 (n + 1 - w1) m9
                                refine z_aload_n hC 179 hl dX7_windows_179 rfl 1 rfl ?_
                                refine gmW_40 hC hH 180 dX7_windows_180 ?_
                                refine z_iload hC 183 hl dX7_windows_183 5 rfl ?_
                                refine lmW_40 (x := ((mo m9 : Nat) : Int)) hC hH 185 (m9) (by omega) (by omega) (cI_lt (by omega)) dX7_windows_185 ?_
                                refine z_icmp_le hC 186 193 dX7_windows_186 rfl (by omega) (by omega) (fun hb16 => ?_) (fun hb16 => ?_)
                                · -- 186t
                                  refine z_iinc (lv' := [(7, .int (iZ ((x : Int) + 1))), (5, .int (iZ ((c2 : Int) + 1))), (0, .ref (ad 0)), (1, .int (iZ ((w1 : Int)))), (2, .int (iZ (q))), (3, .int (iZ ((c : Int)))), (6, .int (iZ ((m9 : Int))))]) hC 193 hl dX7_windows_193 6 rfl (by omega) (by decide) rfl (fun ls hl => ?_)
                                  refine z_goto hC 196 134 dX7_windows_196 rfl ?_
                                  -- J134.11
                                  exact ih134 (x + 1) (c2 + 1) (m9 : Int) _ _ _ (by omega) (by first | assumption | omega) (by first | assumption | omega) (by first | assumption | omega) (by first | rfl | exact cB_it (by omega) i2 | exact cB_if (by omega) i2) (by first | exact LB_0 | exact LB_new1 il (by omega) (by omega) | exact LB_new2 hLm (by omega) | exact LB_keep1 il (by omega) (by omega) | exact LB_keep2 hm1 rfl hm3 hLm (by omega)) hH (z_lv (lv_sub hl [2, 3, 4, 5, 1, 6, 0] rfl) (zcons rfl (zcons rfl (zcons rfl (zcons rfl (zcons (zpeq (by omega)) (zcons rfl (zcons (zpeq (by omega)) rfl))))))))
                                · -- 186f
                                  refine z_iload hC 189 hl dX7_windows_189 6 rfl ?_
                                  refine z_istore (lv' := [(6, .int (iZ ((x : Int)))), (5, .int (iZ ((c2 : Int) + 1))), (0, .ref (ad 0)), (1, .int (iZ ((w1 : Int)))), (2, .int (iZ (q))), (3, .int (iZ ((c : Int)))), (7, .int (iZ ((x : Int))))]) hC 191 hl dX7_windows_191 (by decide) rfl (fun ls hl => ?_)
                                  refine z_iinc (lv' := [(7, .int (iZ ((x : Int) + 1))), (6, .int (iZ ((x : Int)))), (5, .int (iZ ((c2 : Int) + 1))), (0, .ref (ad 0)), (1, .int (iZ ((w1 : Int)))), (2, .int (iZ (q))), (3, .int (iZ ((c : Int))))]) hC 193 hl dX7_windows_193 6 rfl (by omega) (by decide) rfl (fun ls hl => ?_)
                                  refine z_goto hC 196 134 dX7_windows_196 rfl ?_
                                  -- J134.12
                                  exact ih134 (x + 1) (c2 + 1) (x : Int) _ _ _ (by omega) (by first | assumption | omega) (by first | assumption | omega) (by first | assumption | omega) (by first | rfl | exact cB_it (by omega) i2 | exact cB_if (by omega) i2) (by first | exact LB_0 | exact LB_new1 il (by omega) (by omega) | exact LB_new2 hLm (by omega) | exact LB_keep1 il (by omega) (by omega) | exact LB_keep2 hm1 rfl hm3 hLm (by omega)) hH (z_lv (lv_sub hl [3, 4, 5, 6, 2, 1, 0] rfl) (zcons rfl (zcons rfl (zcons rfl (zcons rfl (zcons (zpeq (by omega)) (zcons rfl (zcons (zpeq (by omega)) rfl))))))))
                              · -- 172f
                                refine z_iconst hC 175 dX7_windows_175 ?_
                                refine z_goto hC 176 186 dX7_windows_176 rfl ?_
                                refine z_icmp_le hC 186 193 dX7_windows_186 rfl (by omega) (by omega) (fun hb17 => ?_) (fun hb17 => ?_)
                                · -- 186t
                                  refine z_iinc (lv' := [(7, .int (iZ ((x : Int) + 1))), (5, .int (iZ ((c2 : Int) + 1))), (0, .ref (ad 0)), (1, .int (iZ ((w1 : Int)))), (2, .int (iZ (q))), (3, .int (iZ ((c : Int)))), (6, .int (iZ (bs)))]) hC 193 hl dX7_windows_193 6 rfl (by omega) (by decide) rfl (fun ls hl => ?_)
                                  refine z_goto hC 196 134 dX7_windows_196 rfl ?_
                                  -- J134.13
                                  exact ih134 (x + 1) (c2 + 1) bs _ _ _ (by omega) (by first | assumption | omega) (by first | assumption | omega) (by first | assumption | omega) (by first | rfl | exact cB_it (by omega) i2 | exact cB_if (by omega) i2) (by first | exact LB_0 | exact LB_new1 il (by omega) (by omega) | exact LB_new2 hLm (by omega) | exact LB_keep1 il (by omega) (by omega) | exact LB_keep2 hm1 rfl hm3 hLm (by omega)) hH (z_lv (lv_sub hl [2, 3, 4, 5, 1, 6, 0] rfl) (zcons rfl (zcons rfl (zcons rfl (zcons rfl (zcons (zpeq (by omega)) (zcons rfl (zcons (zpeq (by omega)) rfl))))))))
                                · -- 186f
                                  refine z_iload hC 189 hl dX7_windows_189 6 rfl ?_
                                  refine z_istore (lv' := [(6, .int (iZ ((x : Int)))), (5, .int (iZ ((c2 : Int) + 1))), (0, .ref (ad 0)), (1, .int (iZ ((w1 : Int)))), (2, .int (iZ (q))), (3, .int (iZ ((c : Int)))), (7, .int (iZ ((x : Int))))]) hC 191 hl dX7_windows_191 (by decide) rfl (fun ls hl => ?_)
                                  refine z_iinc (lv' := [(7, .int (iZ ((x : Int) + 1))), (6, .int (iZ ((x : Int)))), (5, .int (iZ ((c2 : Int) + 1))), (0, .ref (ad 0)), (1, .int (iZ ((w1 : Int)))), (2, .int (iZ (q))), (3, .int (iZ ((c : Int))))]) hC 193 hl dX7_windows_193 6 rfl (by omega) (by decide) rfl (fun ls hl => ?_)
                                  refine z_goto hC 196 134 dX7_windows_196 rfl ?_
                                  -- J134.14
                                  exact ih134 (x + 1) (c2 + 1) (x : Int) _ _ _ (by omega) (by first | assumption | omega) (by first | assumption | omega) (by first | assumption | omega) (by first | rfl | exact cB_it (by omega) i2 | exact cB_if (by omega) i2) (by first | exact LB_0 | exact LB_new1 il (by omega) (by omega) | exact LB_new2 hLm (by omega) | exact LB_keep1 il (by omega) (by omega) | exact LB_keep2 hm1 rfl hm3 hLm (by omega)) hH (z_lv (lv_sub hl [3, 4, 5, 6, 2, 1, 0] rfl) (zcons rfl (zcons rfl (zcons rfl (zcons rfl (zcons (zpeq (by omega)) (zcons rfl (zcons (zpeq (by omega)) rfl))))))))
                      -- J134.15
                      exact L134 _ 0 0 (-1) _ _ _ (Nat.lt_succ_self _) (by first | assumption | omega) (by first | assumption | omega) (by first | assumption | omega) (by first | rfl | exact cB_it (by omega) i2 | exact cB_if (by omega) i2) (by first | exact LB_0 | exact LB_new1 il (by omega) (by omega) | exact LB_new2 hLm (by omega) | exact LB_keep1 il (by omega) (by omega) | exact LB_keep2 hm1 rfl hm3 hLm (by omega)) hH (z_lv (lv_sub hl [3, 4, 5, 6, 2, 1, 0] rfl) (zcons rfl (zcons rfl (zcons rfl (zcons rfl (zcons (zpeq (by omega)) (zcons rfl (zcons (zpeq (by omega)) rfl))))))))
                    · -- 67f
                      refine z_aload_n hC 70 hl dX7_windows_70 rfl 0 rfl ?_
                      refine z_iload hC 71 hl dX7_windows_71 5 rfl ?_
                      refine z_iload hC 73 hl dX7_windows_73 5 rfl ?_
                      refine z_iload_n hC 75 hl dX7_windows_75 rfl 1 rfl ?_
                      refine z_iadd (e := (i : Int) + (w1 : Int)) hC 76 dX7_windows_76 rfl ?_
                      refine z_iconst hC 77 dX7_windows_77 ?_
                      refine z_isub (e := (i : Int) + (w1 : Int) - 1) hC 78 dX7_windows_78 rfl ?_
                      refine z_st (st' := [.int (iZ (((i + w1 : Nat) : Int) - 1)), .int (iZ ((i : Int))), .ref (ad 0)]) (zcons (zieq (by omega)) (zcons rfl rfl)) ?_
                      refine z_same (z_runV hC hH.2.2 hl.1 hH.1 hH.2.1 2 (As := [.int (iZ ((i : Int))), .int (iZ (((i + w1 : Nat) : Int) - 1))]) (rest := []) (m_X7_modeOf lau s0 G _ ad (va_up (va_up (va_up (va_up F 0 (0)) 5 ((n : Int))) 7 ((t : Int))) 38 (f38)) (va_up (va_up (va_up (va_up (va_up (va_up Ar 3 (cI (n) v gv)) 34 a34) 35 a35) 36 a36) 37 a37) 40 (cI (1000) mo gm)) n v gv i (i + w1) t (by first | assumption | omega) (by first | assumption | omega) (by first | assumption | omega) (by first | assumption | omega) (by first | assumption | omega)) (lw_V q1760 q1762 qs72 q95 q1763) ⟨rfl, by decide, by decide, by decide +kernel⟩ (q0 := 0) (ci := 0) rfl rfl rfl rfl (Nat.le_of_ble_eq_true rfl) ⟨Nat.le_of_ble_eq_true rfl, Nat.le_of_ble_eq_true rfl⟩ ⟨Nat.le_of_ble_eq_true rfl, Nat.le_of_ble_eq_true rfl⟩ dX7_windows_79) hH (fun u_ H locs hpost hH => ?_)
                      obtain ⟨o_79, go_79, fo_79, la_79, k_79, u_79, gu_79⟩ := u_
                      obtain ⟨pCO_79, pm1_79, pm2_79, pk_79⟩ : (CO v i (i + w1) o_79 fo_79 la_79 k_79 u_79) ∧ (md v i (i + w1) t < 1000) ∧ (0 < cnt v i (i + w1) (md v i (i + w1) t)) ∧ (0 < k_79) := hpost
                      have hH : zH s0 s1 G as0 (mW ad G (va_up (va_up (va_up (va_up F 0 (0)) 5 ((n : Int))) 7 ((t : Int))) 38 ((k_79 : Int))) (va_up (va_up (va_up (va_up (va_up (va_up Ar 3 (cI (n) v gv)) 34 (cI (1000) o_79 go_79)) 35 fo_79) 36 la_79) 37 (cI (k_79) u_79 gu_79)) 40 (cI (1000) mo gm))) H locs := hH
                      refine z_st (st' := [.int (iZ (((md v i (i + w1) t : Nat) : Int)))]) rfl ?_
                      refine z_istore (lv' := [(6, .int (iZ (((md v i (i + w1) t : Nat) : Int)))), (0, .ref (ad 0)), (1, .int (iZ ((w1 : Int)))), (2, .int (iZ (q))), (3, .int (iZ ((c : Int)))), (4, .int (iZ (ws))), (5, .int (iZ ((i : Int))))]) hC 82 hl dX7_windows_82 (by decide) rfl (fun ls hl => ?_)
                      refine z_iload_n hC 84 hl dX7_windows_84 rfl 4 rfl ?_
                      refine z_iload hC 85 hl dX7_windows_85 6 rfl ?_
                      refine z_if_le hC 87 101 dX7_windows_87 rfl (by omega) (fun hb18 => ?_) (fun hb18 => ?_)
                      · -- 87t
                        refine z_iconst hC 101 dX7_windows_101 ?_
                        refine z_iadd (e := (c : Int)) hC 102 dX7_windows_102 (by omega) ?_
                        refine z_istore_n (lv' := [(3, .int (iZ ((c : Int)))), (6, .int (iZ (((md v i (i + w1) t : Nat) : Int)))), (0, .ref (ad 0)), (1, .int (iZ ((w1 : Int)))), (2, .int (iZ (q))), (4, .int (iZ (ws))), (5, .int (iZ ((i : Int))))]) hC 103 hl dX7_windows_103 rfl (by decide) rfl (fun ls hl => ?_)
                        have hmo := im (md v (i) ((i) + w1) t) (by assumption)
                        have hcf := cnt_le (fun i => md v i (i + w1) t) 0 (i) (md v (i) ((i) + w1) t)
                        refine z_aload_n hC 104 hl dX7_windows_104 rfl 2 rfl ?_
                        refine gmW_40 hC hH 105 dX7_windows_105 ?_
                        refine z_iload hC 108 hl dX7_windows_108 1 rfl ?_
                        refine z_dup2 hC 110 dX7_windows_110 rfl rfl ?_
                        refine lmW_40 (x := ((mo (md v i (i + w1) t) : Nat) : Int)) hC hH 111 ((md v i (i + w1) t)) (by omega) (by omega) (cI_lt (by omega)) dX7_windows_111 ?_
                        refine z_iconst hC 112 dX7_windows_112 ?_
                        refine z_iadd (e := ((mo (md v i (i + w1) t) : Nat) : Int) + 1) hC 113 dX7_windows_113 rfl ?_
                        refine smW_40 (f' := (cI (1000) (va_up mo ((md v i (i + w1) t)) ((mo (md v i (i + w1) t)) + 1)) gm)) hC hH 114 ((md v i (i + w1) t)) (by omega) (by omega) (by rw [show (((mo (md v i (i + w1) t) : Nat) : Int) + 1 : Int) = (((mo (md v i (i + w1) t)) + 1 : Nat) : Int) from by omega]; exact cI_up (by omega)) dX7_windows_114 (fun H locs hH => ?_)
                        have hH : zH s0 s1 G as0 (mW ad G (va_up (va_up (va_up (va_up F 0 (0)) 5 ((n : Int))) 7 ((t : Int))) 38 ((k_79 : Int))) (va_up (va_up (va_up (va_up (va_up (va_up Ar 3 (cI (n) v gv)) 34 (cI (1000) o_79 go_79)) 35 fo_79) 36 la_79) 37 (cI (k_79) u_79 gu_79)) 40 (cI (1000) (va_up mo ((md v i (i + w1) t)) ((mo (md v i (i + w1) t)) + 1)) gm))) H locs := hH
                        refine z_iload hC 115 hl dX7_windows_115 1 rfl ?_
                        refine z_istore (lv' := [(4, .int (iZ (((md v i (i + w1) t : Nat) : Int)))), (3, .int (iZ ((c : Int)))), (6, .int (iZ (((md v i (i + w1) t : Nat) : Int)))), (0, .ref (ad 0)), (1, .int (iZ ((w1 : Int)))), (2, .int (iZ (q))), (5, .int (iZ ((i : Int))))]) hC 117 hl dX7_windows_117 (by decide) rfl (fun ls hl => ?_)
                        refine z_iinc (lv' := [(5, .int (iZ ((i : Int) + 1))), (4, .int (iZ (((md v i (i + w1) t : Nat) : Int)))), (3, .int (iZ ((c : Int)))), (6, .int (iZ (((md v i (i + w1) t : Nat) : Int)))), (0, .ref (ad 0)), (1, .int (iZ ((w1 : Int)))), (2, .int (iZ (q)))]) hC 119 hl dX7_windows_119 6 rfl (by omega) (by decide) rfl (fun ls hl => ?_)
                        refine z_goto hC 122 59 dX7_windows_122 rfl ?_
                        -- J59.16
                        exact ih59 (i + 1) c ((md v i (i + w1) t : Nat) : Int) (va_up mo ((md v i (i + w1) t)) ((mo (md v i (i + w1) t)) + 1)) gm (k_79 : Int) (cI (1000) o_79 go_79) fo_79 la_79 (cI (k_79) u_79 gu_79) _ _ _ (by omega) (by first | assumption | omega) (by first | assumption | omega) (by first | exact Or.inl ⟨rfl, rfl⟩ | exact Or.inr ⟨Nat.succ_pos _, rfl⟩) (by first | assumption | omega) (by first | rfl | exact cB_it ⟨by omega, by omega⟩ ic | exact cB_if (fun q => by have := q.1; have := q.2; omega) ic) (by first | (intro x hx; rw [cnt_0 _ (Nat.le_refl _)]) | exact cnt_up im (by assumption) rfl) hH (z_lv (lv_sub hl [4, 5, 6, 2, 1, 0] rfl) (zcons rfl (zcons rfl (zcons rfl (zcons rfl (zcons rfl (zcons (zpeq (by omega)) rfl)))))))
                      · -- 87f
                        refine z_iload hC 90 hl dX7_windows_90 0 rfl ?_
                        refine z_iload hC 92 hl dX7_windows_92 5 rfl ?_
                        refine z_icmp_eq hC 94 101 dX7_windows_94 rfl (by omega) (by omega) (fun hb19 => ?_) (fun hb19 => ?_)
                        · -- 94t
                          refine z_iconst hC 101 dX7_windows_101 ?_
                          refine z_iadd (e := (c : Int)) hC 102 dX7_windows_102 (by omega) ?_
                          refine z_istore_n (lv' := [(3, .int (iZ ((c : Int)))), (6, .int (iZ (((md v i (i + w1) t : Nat) : Int)))), (0, .ref (ad 0)), (1, .int (iZ ((w1 : Int)))), (2, .int (iZ (q))), (4, .int (iZ (ws))), (5, .int (iZ ((i : Int))))]) hC 103 hl dX7_windows_103 rfl (by decide) rfl (fun ls hl => ?_)
                          have hmo := im (md v (i) ((i) + w1) t) (by assumption)
                          have hcf := cnt_le (fun i => md v i (i + w1) t) 0 (i) (md v (i) ((i) + w1) t)
                          refine z_aload_n hC 104 hl dX7_windows_104 rfl 2 rfl ?_
                          refine gmW_40 hC hH 105 dX7_windows_105 ?_
                          refine z_iload hC 108 hl dX7_windows_108 1 rfl ?_
                          refine z_dup2 hC 110 dX7_windows_110 rfl rfl ?_
                          refine lmW_40 (x := ((mo (md v i (i + w1) t) : Nat) : Int)) hC hH 111 ((md v i (i + w1) t)) (by omega) (by omega) (cI_lt (by omega)) dX7_windows_111 ?_
                          refine z_iconst hC 112 dX7_windows_112 ?_
                          refine z_iadd (e := ((mo (md v i (i + w1) t) : Nat) : Int) + 1) hC 113 dX7_windows_113 rfl ?_
                          refine smW_40 (f' := (cI (1000) (va_up mo ((md v i (i + w1) t)) ((mo (md v i (i + w1) t)) + 1)) gm)) hC hH 114 ((md v i (i + w1) t)) (by omega) (by omega) (by rw [show (((mo (md v i (i + w1) t) : Nat) : Int) + 1 : Int) = (((mo (md v i (i + w1) t)) + 1 : Nat) : Int) from by omega]; exact cI_up (by omega)) dX7_windows_114 (fun H locs hH => ?_)
                          have hH : zH s0 s1 G as0 (mW ad G (va_up (va_up (va_up (va_up F 0 (0)) 5 ((n : Int))) 7 ((t : Int))) 38 ((k_79 : Int))) (va_up (va_up (va_up (va_up (va_up (va_up Ar 3 (cI (n) v gv)) 34 (cI (1000) o_79 go_79)) 35 fo_79) 36 la_79) 37 (cI (k_79) u_79 gu_79)) 40 (cI (1000) (va_up mo ((md v i (i + w1) t)) ((mo (md v i (i + w1) t)) + 1)) gm))) H locs := hH
                          refine z_iload hC 115 hl dX7_windows_115 1 rfl ?_
                          refine z_istore (lv' := [(4, .int (iZ (((md v i (i + w1) t : Nat) : Int)))), (3, .int (iZ ((c : Int)))), (6, .int (iZ (((md v i (i + w1) t : Nat) : Int)))), (0, .ref (ad 0)), (1, .int (iZ ((w1 : Int)))), (2, .int (iZ (q))), (5, .int (iZ ((i : Int))))]) hC 117 hl dX7_windows_117 (by decide) rfl (fun ls hl => ?_)
                          refine z_iinc (lv' := [(5, .int (iZ ((i : Int) + 1))), (4, .int (iZ (((md v i (i + w1) t : Nat) : Int)))), (3, .int (iZ ((c : Int)))), (6, .int (iZ (((md v i (i + w1) t : Nat) : Int)))), (0, .ref (ad 0)), (1, .int (iZ ((w1 : Int)))), (2, .int (iZ (q)))]) hC 119 hl dX7_windows_119 6 rfl (by omega) (by decide) rfl (fun ls hl => ?_)
                          refine z_goto hC 122 59 dX7_windows_122 rfl ?_
                          -- J59.17
                          exact ih59 (i + 1) c ((md v i (i + w1) t : Nat) : Int) (va_up mo ((md v i (i + w1) t)) ((mo (md v i (i + w1) t)) + 1)) gm (k_79 : Int) (cI (1000) o_79 go_79) fo_79 la_79 (cI (k_79) u_79 gu_79) _ _ _ (by omega) (by first | assumption | omega) (by first | assumption | omega) (by first | exact Or.inl ⟨rfl, rfl⟩ | exact Or.inr ⟨Nat.succ_pos _, rfl⟩) (by first | assumption | omega) (by first | rfl | exact cB_it ⟨by omega, by omega⟩ ic | exact cB_if (fun q => by have := q.1; have := q.2; omega) ic) (by first | (intro x hx; rw [cnt_0 _ (Nat.le_refl _)]) | exact cnt_up im (by assumption) rfl) hH (z_lv (lv_sub hl [4, 5, 6, 2, 1, 0] rfl) (zcons rfl (zcons rfl (zcons rfl (zcons rfl (zcons rfl (zcons (zpeq (by omega)) rfl)))))))
                        · -- 94f
                          refine z_iconst hC 97 dX7_windows_97 ?_
                          refine z_goto hC 98 102 dX7_windows_98 rfl ?_
                          refine z_iadd (e := (c : Int) + 1) hC 102 dX7_windows_102 rfl ?_
                          refine z_istore_n (lv' := [(3, .int (iZ ((c : Int) + 1))), (6, .int (iZ (((md v i (i + w1) t : Nat) : Int)))), (0, .ref (ad 0)), (1, .int (iZ ((w1 : Int)))), (2, .int (iZ (q))), (4, .int (iZ (ws))), (5, .int (iZ ((i : Int))))]) hC 103 hl dX7_windows_103 rfl (by decide) rfl (fun ls hl => ?_)
                          have hmo := im (md v (i) ((i) + w1) t) (by assumption)
                          have hcf := cnt_le (fun i => md v i (i + w1) t) 0 (i) (md v (i) ((i) + w1) t)
                          refine z_aload_n hC 104 hl dX7_windows_104 rfl 2 rfl ?_
                          refine gmW_40 hC hH 105 dX7_windows_105 ?_
                          refine z_iload hC 108 hl dX7_windows_108 1 rfl ?_
                          refine z_dup2 hC 110 dX7_windows_110 rfl rfl ?_
                          refine lmW_40 (x := ((mo (md v i (i + w1) t) : Nat) : Int)) hC hH 111 ((md v i (i + w1) t)) (by omega) (by omega) (cI_lt (by omega)) dX7_windows_111 ?_
                          refine z_iconst hC 112 dX7_windows_112 ?_
                          refine z_iadd (e := ((mo (md v i (i + w1) t) : Nat) : Int) + 1) hC 113 dX7_windows_113 rfl ?_
                          refine smW_40 (f' := (cI (1000) (va_up mo ((md v i (i + w1) t)) ((mo (md v i (i + w1) t)) + 1)) gm)) hC hH 114 ((md v i (i + w1) t)) (by omega) (by omega) (by rw [show (((mo (md v i (i + w1) t) : Nat) : Int) + 1 : Int) = (((mo (md v i (i + w1) t)) + 1 : Nat) : Int) from by omega]; exact cI_up (by omega)) dX7_windows_114 (fun H locs hH => ?_)
                          have hH : zH s0 s1 G as0 (mW ad G (va_up (va_up (va_up (va_up F 0 (0)) 5 ((n : Int))) 7 ((t : Int))) 38 ((k_79 : Int))) (va_up (va_up (va_up (va_up (va_up (va_up Ar 3 (cI (n) v gv)) 34 (cI (1000) o_79 go_79)) 35 fo_79) 36 la_79) 37 (cI (k_79) u_79 gu_79)) 40 (cI (1000) (va_up mo ((md v i (i + w1) t)) ((mo (md v i (i + w1) t)) + 1)) gm))) H locs := hH
                          refine z_iload hC 115 hl dX7_windows_115 1 rfl ?_
                          refine z_istore (lv' := [(4, .int (iZ (((md v i (i + w1) t : Nat) : Int)))), (3, .int (iZ ((c : Int) + 1))), (6, .int (iZ (((md v i (i + w1) t : Nat) : Int)))), (0, .ref (ad 0)), (1, .int (iZ ((w1 : Int)))), (2, .int (iZ (q))), (5, .int (iZ ((i : Int))))]) hC 117 hl dX7_windows_117 (by decide) rfl (fun ls hl => ?_)
                          refine z_iinc (lv' := [(5, .int (iZ ((i : Int) + 1))), (4, .int (iZ (((md v i (i + w1) t : Nat) : Int)))), (3, .int (iZ ((c : Int) + 1))), (6, .int (iZ (((md v i (i + w1) t : Nat) : Int)))), (0, .ref (ad 0)), (1, .int (iZ ((w1 : Int)))), (2, .int (iZ (q)))]) hC 119 hl dX7_windows_119 6 rfl (by omega) (by decide) rfl (fun ls hl => ?_)
                          refine z_goto hC 122 59 dX7_windows_122 rfl ?_
                          -- J59.18
                          exact ih59 (i + 1) (c + 1) ((md v i (i + w1) t : Nat) : Int) (va_up mo ((md v i (i + w1) t)) ((mo (md v i (i + w1) t)) + 1)) gm (k_79 : Int) (cI (1000) o_79 go_79) fo_79 la_79 (cI (k_79) u_79 gu_79) _ _ _ (by omega) (by first | assumption | omega) (by first | assumption | omega) (by first | exact Or.inl ⟨rfl, rfl⟩ | exact Or.inr ⟨Nat.succ_pos _, rfl⟩) (by first | assumption | omega) (by first | rfl | exact cB_it ⟨by omega, by omega⟩ ic | exact cB_if (fun q => by have := q.1; have := q.2; omega) ic) (by first | (intro x hx; rw [cnt_0 _ (Nat.le_refl _)]) | exact cnt_up im (by assumption) rfl) hH (z_lv (lv_sub hl [4, 5, 6, 2, 1, 0] rfl) (zcons rfl (zcons rfl (zcons rfl (zcons (zpeq (by omega)) (zcons rfl (zcons (zpeq (by omega)) rfl)))))))
                -- J59.19
                exact L59 _ 0 0 (-1) (fun _ => 0) a (F 38) (Ar 34) (Ar 35) (Ar 36) (Ar 37) _ _ _ (Nat.lt_succ_self _) (by first | assumption | omega) (by first | assumption | omega) (by first | exact Or.inl ⟨rfl, rfl⟩ | exact Or.inr ⟨Nat.succ_pos _, rfl⟩) (by first | assumption | omega) (by first | rfl | exact cB_it ⟨by omega, by omega⟩ ic | exact cB_if (fun q => by have := q.1; have := q.2; omega) ic) (by first | (intro x hx; rw [cnt_0 _ (Nat.le_refl _)]) | exact cnt_up im (by assumption) rfl) hH (z_lv (lv_sub hl [3, 4, 5, 2, 1, 0] rfl) (zcons rfl (zcons rfl (zcons rfl (zcons (zpeq (by omega)) (zcons rfl (zcons (zpeq (by omega)) rfl)))))))
              · -- 35f
                refine z_aload_n hC 38 hl dX7_windows_38 rfl 0 rfl ?_
                refine gmW_40 hC hH 39 dX7_windows_39 ?_
                refine z_iload_n hC 42 hl dX7_windows_42 rfl 3 rfl ?_
                refine z_iconst hC 43 dX7_windows_43 ?_
                refine smW_40 (f' := (va_up a (i) (0))) hC hH 44 (i) (by omega) (by omega) rfl dX7_windows_44 (fun H locs hH => ?_)
                have hH : zH s0 s1 G as0 (mW ad G (va_up (va_up (va_up F 0 (0)) 5 ((n : Int))) 7 ((t : Int))) (va_up (va_up Ar 3 (cI (n) v gv)) 40 (va_up a (i) (0)))) H locs := hH
                refine z_iinc (lv' := [(3, .int (iZ ((i : Int) + 1))), (0, .ref (ad 0)), (1, .int (iZ ((w1 : Int)))), (2, .int (iZ (q)))]) hC 45 hl dX7_windows_45 3 rfl (by omega) (by decide) rfl (fun ls hl => ?_)
                refine z_goto hC 48 31 dX7_windows_48 rfl ?_
                -- J31.20
                exact ih31 (i + 1) (va_up a (i) (0)) _ _ _ (by omega) (by first | assumption | omega) (by first | (intro j hj; omega) | exact z0_up iz) hH (z_lv (lv_sub hl [1, 2, 3, 0] rfl) (zcons rfl (zcons rfl (zcons rfl (zcons (zpeq (by omega)) rfl)))))
          -- J31.21
          exact L31 _ 0 (Ar 40) _ _ _ (Nat.lt_succ_self _) (by first | assumption | omega) (by first | (intro j hj; omega) | exact z0_up iz) hH (z_lv (lv_sub hl [1, 2, 3, 0] rfl) (zcons rfl (zcons rfl (zcons rfl (zcons (zpeq (by omega)) rfl)))))
        · -- 24f
          refine z_iconst hC 27 dX7_windows_27 ?_
          -- R28.22
          exact z_iret hC hH hQ 28 (((-1), (va_up (va_up (va_up F 0 (0)) 5 ((n : Int))) 7 ((t : Int))), (va_up Ar 3 (cI (n) v gv)))) dX7_windows_28 rfl ⟨by first | (unfold Sp_windows; rw [if_neg (by omega)]) | (unfold Sp_windows; rw [if_pos (by omega)]), by exact ⟨rfl, rfl, rfl, rfl, rfl, rfl, rfl, rfl, rfl, rfl, rfl, rfl, rfl, rfl, rfl, rfl⟩⟩ rfl (Nat.le_refl _) (Nat.le_refl _)
