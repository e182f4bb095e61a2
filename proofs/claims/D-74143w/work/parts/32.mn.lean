/-! methods of ModeDeskModel: 32.mn -/
set_option maxHeartbeats 4000000 in
set_option maxRecDepth 100000 in
theorem m_X7_feed (lau : Launch) (s0 : State) (G : zG) (sz : Nat) (ad : Nat → Nat) (F : Nat → Int) (Ar : Nat → Nat → Int) (t : Nat → Nat) (tp : Nat) (wa : Int) (wb : Int) (wc : Int) (wd : Int) (we : Int) (hr_wa : -2147483648 ≤ wa ∧ wa < 2147483648) (hr_wb : -2147483648 ≤ wb ∧ wb < 2147483648) (hr_wc : -2147483648 ≤ wc ∧ wc < 2147483648) (hr_wd : -2147483648 ≤ wd ∧ wd < 2147483648) (hr_we : -2147483648 ≤ we ∧ we < 2147483648) (htp : tp ≤ 900) : zMet (S := Int × Nat × (Nat → Nat)) lau yX7_feed cX7_feed 8 (some .int) 0 0 0 0 s0 G sz [.ref (ad 0), .int (iZ (wa)), .int (iZ (wb)), .int (iZ (wc)), .int (iZ (wd)), .int (iZ (we))] (mW ad G (va_up F 2 ((tp : Int))) (va_up Ar 1 (nA t))) (fun ((r_, tp2, t2) : Int × Nat × (Nat → Nat)) => some (.int (iZ (r_)))) (fun ((r_, tp2, t2) : Int × Nat × (Nat → Nat)) => (Sp_feed t tp wa wb wc wd we r_ tp2 t2)) (fun ((r_, tp2, t2) : Int × Nat × (Nat → Nat)) => (mW ad G (va_up (va_up F 0 (0)) 2 ((tp2 : Int))) (va_up Ar 1 (nA t2)))) := by
  refine zMet.of (by decide) (Nat.le_of_ble_eq_true rfl) ?_
  intro pg ev s1 mi ar bl me cd ls Q as0 hC hH hl hQ hsz
  generalize s1.heap = H at hH ⊢
  generalize ([] : List Loc) = locs at hH ⊢
  have hl : lv_has ls 8 [(0, .ref (ad 0)), (1, .int (iZ (wa))), (2, .int (iZ (wb))), (3, .int (iZ (wc))), (4, .int (iZ (wd))), (5, .int (iZ (we)))] := hl
  refine z_aload_n hC 0 hl dX7_feed_0 rfl 0 rfl ?_
  refine z_iconst hC 1 dX7_feed_1 ?_
  refine pmW_0 hC hH 2 dX7_feed_2 (fun H locs hH => ?_)
  have hH : zH s0 s1 G as0 (mW ad G (va_up (va_up F 0 (0)) 2 ((tp : Int))) (va_up Ar 1 (nA t))) H locs := hH
  refine z_aload_n hC 5 hl dX7_feed_5 rfl 0 rfl ?_
  refine gmW_2 (x := (tp : Int)) hC hH 6 rfl dX7_feed_6 ?_
  refine z_sipush hC 9 dX7_feed_9 rfl ?_
  refine z_icmp_le hC 12 17 dX7_feed_12 rfl (by omega) (by omega) (fun hb1 => ?_) (fun hb1 => ?_)
  · -- 12t
    refine z_iconst hC 17 dX7_feed_17 ?_
    have hcv2 : (nA t) = (nA (fedF t tp wa wb wc wd we 0)) := by rw [fedF_0]
    rw [hcv2] at hH
    have hH : zH s0 s1 G as0 (mW ad G (va_up (va_up F 0 (0)) 2 ((tp : Int))) (va_up Ar 1 (nA (fedF t tp wa wb wc wd we 0)))) H locs := hH
    refine z_istore (lv' := [(6, .int (iZ (0))), (0, .ref (ad 0)), (1, .int (iZ (wa))), (2, .int (iZ (wb))), (3, .int (iZ (wc))), (4, .int (iZ (wd))), (5, .int (iZ (we)))]) hC 18 hl dX7_feed_18 (by decide) rfl (fun ls hl => ?_)
    have L20 : ∀ (N_ : Nat) (k : Nat) (H : Heap) (locs : List Loc) (ls : Array Slot), 20 - k < N_ → (k ≤ 20) → zH s0 s1 G as0 (mW ad G (va_up (va_up F 0 (0)) 2 ((tp : Int))) (va_up Ar 1 (nA (fedF t tp wa wb wc wd we k)))) H locs → lv_has ls 8 [(0, .ref (ad 0)), (1, .int (iZ (wa))), (2, .int (iZ (wb))), (3, .int (iZ (wc))), (4, .int (iZ (wd))), (5, .int (iZ (we))), (6, .int (iZ ((k : Int))))] → W pg lau ev (zRm 0 0 0 0) s1 mi ar bl me cd H locs 0 0 Q (F0 mi 20 ls []) := by
      intro N_
      induction N_ with
      | zero => intro k H locs ls hd; exact absurd hd (Nat.not_lt_zero _)
      | succ N_ ih20 =>
        intro k H locs ls hd20 i20_1 hH hl
        refine z_iload hC 20 hl dX7_feed_20 6 rfl ?_
        refine z_bipush hC 22 dX7_feed_22 rfl ?_
        refine z_icmp_ge hC 24 110 dX7_feed_24 rfl (by omega) (by omega) (fun hb3 => ?_) (fun hb3 => ?_)
        · -- 24t
          have hcv4 : (nA (fedF t tp wa wb wc wd we k)) = (nA (fedF t tp wa wb wc wd we 20)) := by rw [show k = 20 from by omega]
          rw [hcv4] at hH
          have hH : zH s0 s1 G as0 (mW ad G (va_up (va_up F 0 (0)) 2 ((tp : Int))) (va_up Ar 1 (nA (fedF t tp wa wb wc wd we 20)))) H locs := hH
          refine z_aload_n hC 110 hl dX7_feed_110 rfl 0 rfl ?_
          refine z_dup hC 111 dX7_feed_111 rfl ?_
          refine gmW_2 (x := (tp : Int)) hC hH 112 rfl dX7_feed_112 ?_
          refine z_bipush hC 115 dX7_feed_115 rfl ?_
          refine z_iadd (e := (tp : Int) + 20) hC 117 dX7_feed_117 rfl ?_
          refine pmW_2 hC hH 118 dX7_feed_118 (fun H locs hH => ?_)
          have hH : zH s0 s1 G as0 (mW ad G (va_up (va_up F 0 (0)) 2 ((tp : Int) + 20)) (va_up Ar 1 (nA (fedF t tp wa wb wc wd we 20)))) H locs := hH
          refine z_aload_n hC 121 hl dX7_feed_121 rfl 0 rfl ?_
          refine gmW_2 (x := (tp : Int) + 20) hC hH 122 rfl dX7_feed_122 ?_
          -- R125.1
          rw [show ((tp : Int) + 20 : Int) = ((tp + 20 : Nat) : Int) from by omega] at hH
          have hH : zH s0 s1 G as0 (mW ad G (va_up (va_up F 0 (0)) 2 (((tp + 20 : Nat) : Int))) (va_up Ar 1 (nA (fedF t tp wa wb wc wd we 20)))) H locs := hH
          refine z_st (st' := [.int (iZ (((tp : Int) + 20)))]) (zcons (zieq (by first | assumption | omega)) rfl) ?_
          exact z_iret hC hH hQ 125 (((tp : Int) + 20, (tp + 20), (fedF t tp wa wb wc wd we 20))) dX7_feed_125 rfl (by (try dsimp only); (unfold Sp_feed; rw [if_neg (by omega)]; exact ⟨by omega, rfl, rfl⟩)) rfl (Nat.le_refl _) (Nat.le_refl _)
        · -- 24f
          have L73 : ∀ (x : Int) (H : Heap) (locs : List Loc) (ls : Array Slot), (x = wd5 wa wb wc wd we k) → zH s0 s1 G as0 (mW ad G (va_up (va_up F 0 (0)) 2 ((tp : Int))) (va_up Ar 1 (nA (fedF t tp wa wb wc wd we k)))) H locs → lv_has ls 8 [(0, .ref (ad 0)), (1, .int (iZ (wa))), (2, .int (iZ (wb))), (3, .int (iZ (wc))), (4, .int (iZ (wd))), (5, .int (iZ (we))), (6, .int (iZ ((k : Int))))] → W pg lau ev (zRm 0 0 0 0) s1 mi ar bl me cd H locs 0 0 Q (F0 mi 73 ls [.int (iZ (x))]) := by
            intro x H locs ls ix hH hl
            have hxr := wd5_rng (k := k) hr_wa hr_wb hr_wc hr_wd hr_we
            rw [← ix] at hxr
            refine z_istore (lv' := [(7, .int (iZ (x))), (0, .ref (ad 0)), (1, .int (iZ (wa))), (2, .int (iZ (wb))), (3, .int (iZ (wc))), (4, .int (iZ (wd))), (5, .int (iZ (we))), (6, .int (iZ ((k : Int))))]) hC 73 hl dX7_feed_73 (by decide) rfl (fun ls hl => ?_)
            refine z_aload_n hC 75 hl dX7_feed_75 rfl 1 rfl ?_
            refine gmW_1 hC hH 76 dX7_feed_76 ?_
            refine z_aload_n hC 79 hl dX7_feed_79 rfl 1 rfl ?_
            refine gmW_2 (x := (tp : Int)) hC hH 80 rfl dX7_feed_80 ?_
            refine z_iload hC 83 hl dX7_feed_83 7 rfl ?_
            refine z_iadd (e := (tp : Int) + (k : Int)) hC 85 dX7_feed_85 rfl ?_
            refine z_iload hC 86 hl dX7_feed_86 0 rfl ?_
            refine z_bipush hC 88 dX7_feed_88 rfl ?_
            refine z_bipush hC 90 dX7_feed_90 rfl ?_
            refine z_iload hC 92 hl dX7_feed_92 7 rfl ?_
            refine z_iconst hC 94 dX7_feed_94 ?_
            refine z_irem hC 95 (k) (4) dX7_feed_95 (by omega) (by omega) (by omega) (by omega) ((k % 4)) rfl ?_
            refine z_imul (e := 8 * ((k % 4 : Nat) : Int)) hC 96 dX7_feed_96 rfl ?_
            refine z_isub (e := -(8 * ((k % 4 : Nat) : Int)) + 24) hC 97 dX7_feed_97 (by omega) ?_
            refine z_ishr (e := (zshr (x) (-(8 * ((k % 4 : Nat) : Int)) + 24))) hC 98 dX7_feed_98 rfl ?_
            refine z_sipush hC 99 dX7_feed_99 rfl ?_
            refine z_iand (e := ((bytN x (k % 4) : Nat) : Int)) hC 102 dX7_feed_102 (by exact z_byt2 hxr (by omega) (by omega)) ?_
            refine smW_1 (f' := (nA (va_up (fedF t tp wa wb wc wd we k) (tp + k) ((bytN x (k % 4)))))) hC hH 103 (tp + k) (by omega) (by omega) (by exact nA_up _ _ _) dX7_feed_103 (fun H locs hH => ?_)
            have hH : zH s0 s1 G as0 (mW ad G (va_up (va_up F 0 (0)) 2 ((tp : Int))) (va_up Ar 1 (nA (va_up (fedF t tp wa wb wc wd we k) (tp + k) ((bytN x (k % 4))))))) H locs := hH
            have hcv5 : (nA (va_up (fedF t tp wa wb wc wd we k) (tp + k) ((bytN x (k % 4))))) = (nA (fedF t tp wa wb wc wd we (k + 1))) := by rw [ix, fedF_s]
            rw [hcv5] at hH
            have hH : zH s0 s1 G as0 (mW ad G (va_up (va_up F 0 (0)) 2 ((tp : Int))) (va_up Ar 1 (nA (fedF t tp wa wb wc wd we (k + 1))))) H locs := hH
            refine z_iinc (lv' := [(6, .int (iZ ((k : Int) + 1))), (7, .int (iZ (x))), (0, .ref (ad 0)), (1, .int (iZ (wa))), (2, .int (iZ (wb))), (3, .int (iZ (wc))), (4, .int (iZ (wd))), (5, .int (iZ (we)))]) hC 104 hl dX7_feed_104 7 rfl (by omega) (by decide) rfl (fun ls hl => ?_)
            refine z_goto hC 107 20 dX7_feed_107 rfl ?_
            -- J20.2
            exact ih20 (k + 1) _ _ _ (by omega) (by first | assumption | omega) hH (z_lv (lv_sub hl [2, 3, 4, 5, 6, 7, 0] rfl) (zcons rfl (zcons rfl (zcons rfl (zcons rfl (zcons rfl (zcons rfl (zcons (zpeq (by omega)) rfl))))))))
          refine z_iload hC 27 hl dX7_feed_27 6 rfl ?_
          refine z_iconst hC 29 dX7_feed_29 ?_
          refine z_icmp_ge hC 30 37 dX7_feed_30 rfl (by omega) (by omega) (fun hb6 => ?_) (fun hb6 => ?_)
          · -- 30t
            refine z_iload hC 37 hl dX7_feed_37 6 rfl ?_
            refine z_bipush hC 39 dX7_feed_39 rfl ?_
            refine z_icmp_ge hC 41 48 dX7_feed_41 rfl (by omega) (by omega) (fun hb7 => ?_) (fun hb7 => ?_)
            · -- 41t
              refine z_iload hC 48 hl dX7_feed_48 6 rfl ?_
              refine z_bipush hC 50 dX7_feed_50 rfl ?_
              refine z_icmp_ge hC 52 59 dX7_feed_52 rfl (by omega) (by omega) (fun hb8 => ?_) (fun hb8 => ?_)
              · -- 52t
                refine z_iload hC 59 hl dX7_feed_59 6 rfl ?_
                refine z_bipush hC 61 dX7_feed_61 rfl ?_
                refine z_icmp_ge hC 63 71 dX7_feed_63 rfl (by omega) (by omega) (fun hb9 => ?_) (fun hb9 => ?_)
                · -- 63t
                  refine z_iload hC 71 hl dX7_feed_71 5 rfl ?_
                  -- J73.3
                  exact L73 we _ _ _ (by (unfold wd5; repeat' split) <;> first | rfl | omega) hH (lv_sub hl [0, 1, 2, 3, 4, 5, 6] rfl)
                · -- 63f
                  refine z_iload hC 66 hl dX7_feed_66 4 rfl ?_
                  refine z_goto hC 68 73 dX7_feed_68 rfl ?_
                  -- J73.4
                  exact L73 wd _ _ _ (by (unfold wd5; repeat' split) <;> first | rfl | omega) hH (lv_sub hl [0, 1, 2, 3, 4, 5, 6] rfl)
              · -- 52f
                refine z_iload_n hC 55 hl dX7_feed_55 rfl 3 rfl ?_
                refine z_goto hC 56 73 dX7_feed_56 rfl ?_
                -- J73.5
                exact L73 wc _ _ _ (by (unfold wd5; repeat' split) <;> first | rfl | omega) hH (lv_sub hl [0, 1, 2, 3, 4, 5, 6] rfl)
            · -- 41f
              refine z_iload_n hC 44 hl dX7_feed_44 rfl 2 rfl ?_
              refine z_goto hC 45 73 dX7_feed_45 rfl ?_
              -- J73.6
              exact L73 wb _ _ _ (by (unfold wd5; repeat' split) <;> first | rfl | omega) hH (lv_sub hl [0, 1, 2, 3, 4, 5, 6] rfl)
          · -- 30f
            refine z_iload_n hC 33 hl dX7_feed_33 rfl 1 rfl ?_
            refine z_goto hC 34 73 dX7_feed_34 rfl ?_
            -- J73.7
            exact L73 wa _ _ _ (by (unfold wd5; repeat' split) <;> first | rfl | omega) hH (lv_sub hl [0, 1, 2, 3, 4, 5, 6] rfl)
    -- J20.8
    exact L20 _ 0 _ _ _ (Nat.lt_succ_self _) (by first | assumption | omega) hH (z_lv (lv_sub hl [1, 2, 3, 4, 5, 6, 0] rfl) (zcons rfl (zcons rfl (zcons rfl (zcons rfl (zcons rfl (zcons rfl (zcons (zpeq (by omega)) rfl))))))))
  · -- 12f
    refine z_iconst hC 15 dX7_feed_15 ?_
    -- R16.9
    exact z_iret hC hH hQ 16 (((-1), tp, t)) dX7_feed_16 rfl (by (try dsimp only); (unfold Sp_feed; rw [if_pos (by omega)]; exact ⟨rfl, rfl, rfl⟩)) rfl (Nat.le_refl _) (Nat.le_refl _)
