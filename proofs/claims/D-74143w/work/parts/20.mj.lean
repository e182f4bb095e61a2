/-! methods of ModeDeskModel: 20.mj -/
set_option maxHeartbeats 4000000 in
set_option maxRecDepth 100000 in
theorem m_X7_edits (lau : Launch) (s0 : State) (G : zG) (sz : Nat) (ad : Nat → Nat) (F : Nat → Int) (Ar : Nat → Nat → Int) (n : Nat) (v : Nat → Nat) (gv : Nat → Int) (wt : Nat → Nat) (gw : Nat → Int) (un : Nat) (hm : Nat → Nat) (hvv : Nat → Nat → Nat) (hww : Nat → Nat → Nat) (pv : Nat → Int) (pw : Nat → Int) (pm : Nat → Int) (b : Nat) (fr : Int) (n2 : Nat) (v2 : Nat → Nat) (w2 : Nat → Nat) (gt : Nat → Int) (gtw : Nat → Int) (hn : n ≤ 120) (hv : ∀ i, i < n → v i < 1000) (hwt : ∀ i, i < n → 1 ≤ wt i ∧ wt i ≤ 9) (hun : un ≤ 12) (hPA : PAST un pv pw pm hm hvv hww) (hb : 2 ≤ b ∧ b ≤ 20) (hn2 : n2 ≤ 120) (hv2 : ∀ i, i < n2 → v2 i < 1000) (hw2 : ∀ i, i < n2 → 1 ≤ w2 i ∧ w2 i ≤ 9) : zMet (S := (Nat → Int) × (Nat → Int) × (Nat → Int) × (Nat → Int) × (Nat → Int) × Nat × Int × (Nat → Nat) × (Nat → Nat → Nat) × (Nat → Nat → Nat)) lau yX7_edits cX7_edits 2 (none) 4 91 0 0 s0 G sz [.ref (ad 0)] (mW ad G (va_up (va_up (va_up (va_up (va_up F 5 ((n : Int))) 6 ((b : Int))) 12 ((un : Int))) 13 (fr)) 33 ((n2 : Int))) (va_up (va_up (va_up (va_up (va_up (va_up (va_up Ar 3 (cI (n) v gv)) 4 (cI (n) wt gw)) 9 pv) 10 pw) 11 pm) 31 (cI (n2) v2 gt)) 32 (cI (n2) w2 gtw))) (fun ((gv1, gw1, pv2, pw2, pm2, un2, fr2, hm2, hvv2, hww2) : (Nat → Int) × (Nat → Int) × (Nat → Int) × (Nat → Int) × (Nat → Int) × Nat × Int × (Nat → Nat) × (Nat → Nat → Nat) × (Nat → Nat → Nat)) => (none : Option Value)) (fun ((gv1, gw1, pv2, pw2, pm2, un2, fr2, hm2, hvv2, hww2) : (Nat → Int) × (Nat → Int) × (Nat → Int) × (Nat → Int) × (Nat → Int) × Nat × Int × (Nat → Nat) × (Nat → Nat → Nat) × (Nat → Nat → Nat)) => (PAST un2 pv2 pw2 pm2 hm2 hvv2 hww2) ∧ (un2 ≤ 12) ∧ (EDT b n v wt un hm hvv hww fr n2 v2 w2 un2 hm2 hvv2 hww2 fr2)) (fun ((gv1, gw1, pv2, pw2, pm2, un2, fr2, hm2, hvv2, hww2) : (Nat → Int) × (Nat → Int) × (Nat → Int) × (Nat → Int) × (Nat → Int) × Nat × Int × (Nat → Nat) × (Nat → Nat → Nat) × (Nat → Nat → Nat)) => (mW ad G (va_up (va_up (va_up (va_up (va_up F 5 ((n2 : Int))) 6 ((b : Int))) 12 ((un2 : Int))) 13 (fr2)) 33 ((n2 : Int))) (va_up (va_up (va_up (va_up (va_up (va_up (va_up Ar 3 (cI (n2) v2 gv1)) 4 (cI (n2) w2 gw1)) 9 pv2) 10 pw2) 11 pm2) 31 (cI (n2) v2 gt)) 32 (cI (n2) w2 gtw)))) := by
  refine zMet.of (by decide) (Nat.le_of_ble_eq_true rfl) ?_
  intro pg ev s1 mi ar bl me cd ls Q as0 hC hH hl hQ hsz
  generalize s1.heap = H at hH ⊢
  generalize ([] : List Loc) = locs at hH ⊢
  have hl : lv_has ls 2 [(0, .ref (ad 0))] := hl
  refine z_aload_n hC 0 hl dX7_edits_0 rfl 0 rfl ?_
  refine z_same (z_runV hC hH.2.2 hl.1 hH.1 hH.2.1 0 (As := []) (rest := []) (m_X7_isOther lau s0 G _ ad (va_up (va_up (va_up (va_up (va_up F 5 ((n : Int))) 6 ((b : Int))) 12 ((un : Int))) 13 (fr)) 33 ((n2 : Int))) (va_up (va_up (va_up (va_up (va_up (va_up (va_up Ar 3 (cI (n) v gv)) 4 (cI (n) wt gw)) 9 pv) 10 pw) 11 pm) 31 (cI (n2) v2 gt)) 32 (cI (n2) w2 gtw)) n v gv wt gw n2 v2 w2 gt gtw (by first | assumption | omega) (by first | assumption | omega) (by first | assumption | omega) (by first | assumption | omega) (by first | assumption | omega) (by first | assumption | omega)) (lw_V q1688 q1690 qs66 q95 q1691) ⟨rfl, by decide, by decide, by decide +kernel⟩ (q0 := 0) (ci := 0) rfl rfl rfl rfl (Nat.le_of_ble_eq_true rfl) ⟨Nat.le_of_ble_eq_true rfl, Nat.le_of_ble_eq_true rfl⟩ ⟨Nat.le_of_ble_eq_true rfl, Nat.le_of_ble_eq_true rfl⟩ dX7_edits_1) hH (fun r_1 H locs hpost hH => ?_)
  have hb_1 : (r_1 = 1 ∧ (¬ sameR n v wt n2 v2 w2)) ∨ (r_1 = 0 ∧ ¬ (¬ sameR n v wt n2 v2 w2)) := hpost
  have hH : zH s0 s1 G as0 (mW ad G (va_up (va_up (va_up (va_up (va_up F 5 ((n : Int))) 6 ((b : Int))) 12 ((un : Int))) 13 (fr)) 33 ((n2 : Int))) (va_up (va_up (va_up (va_up (va_up (va_up (va_up Ar 3 (cI (n) v gv)) 4 (cI (n) wt gw)) 9 pv) 10 pw) 11 pm) 31 (cI (n2) v2 gt)) 32 (cI (n2) w2 gtw))) H locs := hH
  refine z_st (st' := [.int (iZ (r_1))]) rfl ?_
  rcases hb_1 with ⟨rfl, hb_1⟩ | ⟨rfl, hb_1⟩
  · -- 1=1
    refine z_if_ne_t hC 4 8 dX7_edits_4 rfl (by omega) (by omega) ?_
    have L49 : ∀ (u0 : Nat) (qv : Nat → Int) (qw : Nat → Int) (qm : Nat → Int) (H : Heap) (locs : List Loc) (ls : Array Slot), (PSH un u0 qv qw qm hm hvv hww) → zH s0 s1 G as0 (mW ad G (va_up (va_up (va_up (va_up (va_up F 5 ((n : Int))) 6 ((b : Int))) 12 ((u0 : Int))) 13 (fr)) 33 ((n2 : Int))) (va_up (va_up (va_up (va_up (va_up (va_up (va_up Ar 3 (cI (n) v gv)) 4 (cI (n) wt gw)) 9 qv) 10 qw) 11 qm) 31 (cI (n2) v2 gt)) 32 (cI (n2) w2 gtw))) H locs → lv_has ls 2 [(0, .ref (ad 0))] → W pg lau ev (zRm 4 0 0 91) s1 mi ar bl me cd H locs 0 0 Q (F0 mi 49 ls []) := by
      intro u0 qv qw qm H locs ls ip hH hl
      have hu0 := PSH_b ip hun
      refine z_iconst hC 49 dX7_edits_49 ?_
      refine z_istore_n (lv' := [(1, .int (iZ (0))), (0, .ref (ad 0))]) hC 50 hl dX7_edits_50 rfl (by decide) rfl (fun ls hl => ?_)
      have L51 : ∀ (N_ : Nat) (p : Nat) (rv : Nat → Int) (rw9 : Nat → Int) (H : Heap) (locs : List Loc) (ls : Array Slot), n - p < N_ → (p ≤ n) → (LAY qv rv u0 n p v) → (LAY qw rw9 u0 n p wt) → zH s0 s1 G as0 (mW ad G (va_up (va_up (va_up (va_up (va_up F 5 ((n : Int))) 6 ((b : Int))) 12 ((u0 : Int))) 13 (fr)) 33 ((n2 : Int))) (va_up (va_up (va_up (va_up (va_up (va_up (va_up Ar 3 (cI (n) v gv)) 4 (cI (n) wt gw)) 9 rv) 10 rw9) 11 qm) 31 (cI (n2) v2 gt)) 32 (cI (n2) w2 gtw))) H locs → lv_has ls 2 [(0, .ref (ad 0)), (1, .int (iZ ((p : Int))))] → W pg lau ev (zRm 4 0 0 91) s1 mi ar bl me cd H locs 0 0 Q (F0 mi 51 ls []) := by
        intro N_
        induction N_ with
        | zero => intro p rv rw9 H locs ls hd; exact absurd hd (Nat.not_lt_zero _)
        | succ N_ ih51 =>
          intro p rv rw9 H locs ls hd51 i51_1 i1 i2 hH hl
          refine z_iload_n hC 51 hl dX7_edits_51 rfl 1 rfl ?_
          refine z_aload_n hC 52 hl dX7_edits_52 rfl 0 rfl ?_
          refine gmW_5 (x := (n : Int)) hC hH 53 rfl dX7_edits_53 ?_
          refine z_icmp_ge hC 56 105 dX7_edits_56 rfl (by omega) (by omega) (fun hb1 => ?_) (fun hb1 => ?_)
          · -- 56t
            have ep : p = n := by omega
            rw [ep] at i1 i2
            have hps := PSH_end ip hn hv hwt i1 i2
            refine z_aload_n hC 105 hl dX7_edits_105 rfl 0 rfl ?_
            refine gmW_11 hC hH 106 dX7_edits_106 ?_
            refine z_aload_n hC 109 hl dX7_edits_109 rfl 0 rfl ?_
            refine gmW_12 (x := (u0 : Int)) hC hH 110 rfl dX7_edits_110 ?_
            refine z_aload_n hC 113 hl dX7_edits_113 rfl 0 rfl ?_
            refine gmW_5 (x := (n : Int)) hC hH 114 rfl dX7_edits_114 ?_
            refine smW_11 (f' := (va_up qm (u0) ((n : Int)))) hC hH 117 (u0) (by omega) (by omega) rfl dX7_edits_117 (fun H locs hH => ?_)
            have hH : zH s0 s1 G as0 (mW ad G (va_up (va_up (va_up (va_up (va_up F 5 ((n : Int))) 6 ((b : Int))) 12 ((u0 : Int))) 13 (fr)) 33 ((n2 : Int))) (va_up (va_up (va_up (va_up (va_up (va_up (va_up Ar 3 (cI (n) v gv)) 4 (cI (n) wt gw)) 9 rv) 10 rw9) 11 (va_up qm (u0) ((n : Int)))) 31 (cI (n2) v2 gt)) 32 (cI (n2) w2 gtw))) H locs := hH
            refine z_aload_n hC 118 hl dX7_edits_118 rfl 0 rfl ?_
            refine z_dup hC 119 dX7_edits_119 rfl ?_
            refine gmW_12 (x := (u0 : Int)) hC hH 120 rfl dX7_edits_120 ?_
            refine z_iconst hC 123 dX7_edits_123 ?_
            refine z_iadd (e := (u0 : Int) + 1) hC 124 dX7_edits_124 rfl ?_
            refine pmW_12 hC hH 125 dX7_edits_125 (fun H locs hH => ?_)
            have hH : zH s0 s1 G as0 (mW ad G (va_up (va_up (va_up (va_up (va_up F 5 ((n : Int))) 6 ((b : Int))) 12 ((u0 : Int) + 1)) 13 (fr)) 33 ((n2 : Int))) (va_up (va_up (va_up (va_up (va_up (va_up (va_up Ar 3 (cI (n) v gv)) 4 (cI (n) wt gw)) 9 rv) 10 rw9) 11 (va_up qm (u0) ((n : Int)))) 31 (cI (n2) v2 gt)) 32 (cI (n2) w2 gtw))) H locs := hH
            refine z_aload_n hC 128 hl dX7_edits_128 rfl 0 rfl ?_
            refine z_same (z_runV hC hH.2.2 hl.1 hH.1 hH.2.1 0 (As := []) (rest := []) (m_X7_becomes lau s0 G _ ad (va_up (va_up (va_up (va_up (va_up F 5 ((n : Int))) 6 ((b : Int))) 12 ((u0 : Int) + 1)) 13 (fr)) 33 ((n2 : Int))) (va_up (va_up (va_up (va_up (va_up (va_up (va_up Ar 3 (cI (n) v gv)) 4 (cI (n) wt gw)) 9 rv) 10 rw9) 11 (va_up qm (u0) ((n : Int)))) 31 (cI (n2) v2 gt)) 32 (cI (n2) w2 gtw)) n v gv wt gw n2 v2 w2 gt gtw b (by first | assumption | omega) (by first | assumption | omega) (by first | assumption | omega) (by first | assumption | omega) (by first | assumption | omega) (by first | assumption | omega) (by first | assumption | omega)) (lw_V q1657 q1659 qs60 q95 q1660) ⟨rfl, by decide, by decide, by decide +kernel⟩ (q0 := 0) (ci := 0) rfl rfl rfl rfl (Nat.le_of_ble_eq_true rfl) ⟨Nat.le_of_ble_eq_true rfl, Nat.le_of_ble_eq_true rfl⟩ ⟨Nat.le_of_ble_eq_true rfl, Nat.le_of_ble_eq_true rfl⟩ dX7_edits_129) hH (fun u_ H locs hpost hH => ?_)
            obtain ⟨gv1_129, gw1_129⟩ := u_
            have hH : zH s0 s1 G as0 (mW ad G (va_up (va_up (va_up (va_up (va_up F 5 ((n2 : Int))) 6 ((b : Int))) 12 ((u0 : Int) + 1)) 13 (((frs b n v n2 v2 : Nat) : Int))) 33 ((n2 : Int))) (va_up (va_up (va_up (va_up (va_up (va_up (va_up Ar 3 (cI (n2) v2 gv1_129)) 4 (cI (n2) w2 gw1_129)) 9 rv) 10 rw9) 11 (va_up qm (u0) ((n : Int)))) 31 (cI (n2) v2 gt)) 32 (cI (n2) w2 gtw))) H locs := hH
            refine z_st (st' := []) rfl ?_
            -- R132.1
            rw [show ((u0 : Int) + 1 : Int) = ((u0 + 1 : Nat) : Int) from by omega] at hH
            have hH : zH s0 s1 G as0 (mW ad G (va_up (va_up (va_up (va_up (va_up F 5 ((n2 : Int))) 6 ((b : Int))) 12 (((u0 + 1 : Nat) : Int))) 13 (((frs b n v n2 v2 : Nat) : Int))) 33 ((n2 : Int))) (va_up (va_up (va_up (va_up (va_up (va_up (va_up Ar 3 (cI (n2) v2 gv1_129)) 4 (cI (n2) w2 gw1_129)) 9 rv) 10 rw9) 11 (va_up qm (u0) ((n : Int)))) 31 (cI (n2) v2 gt)) 32 (cI (n2) w2 gtw))) H locs := hH
            exact z_vret hC hH hQ 132 ((gv1_129, gw1_129, rv, rw9, (va_up qm (u0) ((n : Int))), (u0 + 1), ((frs b n v n2 v2 : Nat) : Int), (pushR un hm n), (pushR un hvv v), (pushR un hww wt))) dX7_edits_132 rfl ⟨by exact hps.1, by first | assumption | omega, by exact Or.inr ⟨hb_1, hps.2, rfl, rfl, rfl, rfl⟩⟩ rfl (Nat.le_refl _) (Nat.le_refl _)
          · -- 56f
            refine z_aload_n hC 59 hl dX7_edits_59 rfl 0 rfl ?_
            refine gmW_9 hC hH 60 dX7_edits_60 ?_
            refine z_bipush hC 63 dX7_edits_63 rfl ?_
            refine z_aload_n hC 65 hl dX7_edits_65 rfl 0 rfl ?_
            refine gmW_12 (x := (u0 : Int)) hC hH 66 rfl dX7_edits_66 ?_
            refine z_imul (e := 120 * (u0 : Int)) hC 69 dX7_edits_69 rfl ?_
            refine z_iload_n hC 70 hl dX7_edits_70 rfl 1 rfl ?_
            refine z_iadd (e := 120 * (u0 : Int) + (p : Int)) hC 71 dX7_edits_71 rfl ?_
            refine z_aload_n hC 72 hl dX7_edits_72 rfl 0 rfl ?_
            refine gmW_3 hC hH 73 dX7_edits_73 ?_
            refine z_iload_n hC 76 hl dX7_edits_76 rfl 1 rfl ?_
            refine lmW_3 (x := ((v p : Nat) : Int)) hC hH 77 (p) (by omega) (by omega) (cI_lt (by omega)) dX7_edits_77 ?_
            refine smW_9 (f' := (va_up rv (120 * u0 + p) (((v p : Nat) : Int)))) hC hH 78 (120 * u0 + p) (by omega) (by omega) rfl dX7_edits_78 (fun H locs hH => ?_)
            have hH : zH s0 s1 G as0 (mW ad G (va_up (va_up (va_up (va_up (va_up F 5 ((n : Int))) 6 ((b : Int))) 12 ((u0 : Int))) 13 (fr)) 33 ((n2 : Int))) (va_up (va_up (va_up (va_up (va_up (va_up (va_up Ar 3 (cI (n) v gv)) 4 (cI (n) wt gw)) 9 (va_up rv (120 * u0 + p) (((v p : Nat) : Int)))) 10 rw9) 11 qm) 31 (cI (n2) v2 gt)) 32 (cI (n2) w2 gtw))) H locs := hH
            refine z_aload_n hC 79 hl dX7_edits_79 rfl 0 rfl ?_
            refine gmW_10 hC hH 80 dX7_edits_80 ?_
            refine z_bipush hC 83 dX7_edits_83 rfl ?_
            refine z_aload_n hC 85 hl dX7_edits_85 rfl 0 rfl ?_
            refine gmW_12 (x := (u0 : Int)) hC hH 86 rfl dX7_edits_86 ?_
            refine z_imul (e := 120 * (u0 : Int)) hC 89 dX7_edits_89 rfl ?_
            refine z_iload_n hC 90 hl dX7_edits_90 rfl 1 rfl ?_
            refine z_iadd (e := 120 * (u0 : Int) + (p : Int)) hC 91 dX7_edits_91 rfl ?_
            refine z_aload_n hC 92 hl dX7_edits_92 rfl 0 rfl ?_
            refine gmW_4 hC hH 93 dX7_edits_93 ?_
            refine z_iload_n hC 96 hl dX7_edits_96 rfl 1 rfl ?_
            refine lmW_4 (x := ((wt p : Nat) : Int)) hC hH 97 (p) (by omega) (by omega) (cI_lt (by omega)) dX7_edits_97 ?_
            refine smW_10 (f' := (va_up rw9 (120 * u0 + p) (((wt p : Nat) : Int)))) hC hH 98 (120 * u0 + p) (by omega) (by omega) rfl dX7_edits_98 (fun H locs hH => ?_)
            have hH : zH s0 s1 G as0 (mW ad G (va_up (va_up (va_up (va_up (va_up F 5 ((n : Int))) 6 ((b : Int))) 12 ((u0 : Int))) 13 (fr)) 33 ((n2 : Int))) (va_up (va_up (va_up (va_up (va_up (va_up (va_up Ar 3 (cI (n) v gv)) 4 (cI (n) wt gw)) 9 (va_up rv (120 * u0 + p) (((v p : Nat) : Int)))) 10 (va_up rw9 (120 * u0 + p) (((wt p : Nat) : Int)))) 11 qm) 31 (cI (n2) v2 gt)) 32 (cI (n2) w2 gtw))) H locs := hH
            refine z_iinc (lv' := [(1, .int (iZ ((p : Int) + 1))), (0, .ref (ad 0))]) hC 99 hl dX7_edits_99 1 rfl (by omega) (by decide) rfl (fun ls hl => ?_)
            refine z_goto hC 102 51 dX7_edits_102 rfl ?_
            -- J51.2
            exact ih51 (p + 1) (va_up rv (120 * u0 + p) (((v p : Nat) : Int))) (va_up rw9 (120 * u0 + p) (((wt p : Nat) : Int))) _ _ _ (by omega) (by first | assumption | omega) (by first | exact LAY_0 | exact LAY_s i1 rfl) (by first | exact LAY_0 | exact LAY_s i2 rfl) hH (z_lv (lv_sub hl [1, 0] rfl) (zcons rfl (zcons (zpeq (by omega)) rfl)))
      -- J51.3
      exact L51 _ 0 qv qw _ _ _ (Nat.lt_succ_self _) (by first | assumption | omega) (by first | exact LAY_0 | exact LAY_s i1 rfl) (by first | exact LAY_0 | exact LAY_s i2 rfl) hH (z_lv (lv_sub hl [1, 0] rfl) (zcons rfl (zcons (zpeq (by omega)) rfl)))
    refine z_aload_n hC 8 hl dX7_edits_8 rfl 0 rfl ?_
    refine gmW_12 (x := (un : Int)) hC hH 9 rfl dX7_edits_9 ?_
    refine z_bipush hC 12 dX7_edits_12 rfl ?_
    refine z_icmp_ne hC 14 49 dX7_edits_14 rfl (by omega) (by omega) (fun hb2 => ?_) (fun hb2 => ?_)
    · -- 14t
      -- J49.4
      exact L49 un pv pw pm _ _ _ (by first | exact PSH_12 ik (by omega) (by omega) (by omega) | exact Or.inr ⟨by omega, rfl, hPA⟩) hH (lv_sub hl [0] rfl)
    · -- 14f
      refine z_iconst hC 17 dX7_edits_17 ?_
      refine z_istore_n (lv' := [(1, .int (iZ (1))), (0, .ref (ad 0))]) hC 18 hl dX7_edits_18 rfl (by decide) rfl (fun ls hl => ?_)
      have L19 : ∀ (N_ : Nat) (k : Nat) (qv : Nat → Int) (qw : Nat → Int) (qm : Nat → Int) (H : Heap) (locs : List Loc) (ls : Array Slot), 12 - k < N_ → (1 ≤ k) → (k ≤ 12) → (SHF un qv qw qm hm hvv hww k) → zH s0 s1 G as0 (mW ad G (va_up (va_up (va_up (va_up (va_up F 5 ((n : Int))) 6 ((b : Int))) 12 ((un : Int))) 13 (fr)) 33 ((n2 : Int))) (va_up (va_up (va_up (va_up (va_up (va_up (va_up Ar 3 (cI (n) v gv)) 4 (cI (n) wt gw)) 9 qv) 10 qw) 11 qm) 31 (cI (n2) v2 gt)) 32 (cI (n2) w2 gtw))) H locs → lv_has ls 2 [(0, .ref (ad 0)), (1, .int (iZ ((k : Int))))] → W pg lau ev (zRm 4 0 0 91) s1 mi ar bl me cd H locs 0 0 Q (F0 mi 19 ls []) := by
        intro N_
        induction N_ with
        | zero => intro k qv qw qm H locs ls hd; exact absurd hd (Nat.not_lt_zero _)
        | succ N_ ih19 =>
          intro k qv qw qm H locs ls hd19 i19_1 i19_2 ik hH hl
          refine z_iload_n hC 19 hl dX7_edits_19 rfl 1 rfl ?_
          refine z_bipush hC 20 dX7_edits_20 rfl ?_
          refine z_icmp_ge hC 22 39 dX7_edits_22 rfl (by omega) (by omega) (fun hb3 => ?_) (fun hb3 => ?_)
          · -- 22t
            refine z_aload_n hC 39 hl dX7_edits_39 rfl 0 rfl ?_
            refine z_dup hC 40 dX7_edits_40 rfl ?_
            refine gmW_12 (x := (un : Int)) hC hH 41 rfl dX7_edits_41 ?_
            refine z_iconst hC 44 dX7_edits_44 ?_
            refine z_isub (e := (un : Int) - 1) hC 45 dX7_edits_45 rfl ?_
            refine pmW_12 hC hH 46 dX7_edits_46 (fun H locs hH => ?_)
            have hH : zH s0 s1 G as0 (mW ad G (va_up (va_up (va_up (va_up (va_up F 5 ((n : Int))) 6 ((b : Int))) 12 ((un : Int) - 1)) 13 (fr)) 33 ((n2 : Int))) (va_up (va_up (va_up (va_up (va_up (va_up (va_up Ar 3 (cI (n) v gv)) 4 (cI (n) wt gw)) 9 qv) 10 qw) 11 qm) 31 (cI (n2) v2 gt)) 32 (cI (n2) w2 gtw))) H locs := hH
            -- J49.5
            exact L49 (un - 1) qv qw qm _ _ _ (by first | exact PSH_12 ik (by omega) (by omega) (by omega) | exact Or.inr ⟨by omega, rfl, hPA⟩) (by rw [show ((un : Int) - 1 : Int) = ((un - 1 : Nat) : Int) from by omega] at hH; exact hH) (lv_sub hl [0] rfl)
          · -- 22f
            refine z_aload_n hC 25 hl dX7_edits_25 rfl 0 rfl ?_
            refine z_iload_n hC 26 hl dX7_edits_26 rfl 1 rfl ?_
            refine z_iload_n hC 27 hl dX7_edits_27 rfl 1 rfl ?_
            refine z_iconst hC 28 dX7_edits_28 ?_
            refine z_isub (e := (k : Int) - 1) hC 29 dX7_edits_29 rfl ?_
            refine z_st (st' := [.int (iZ (((k - 1 : Nat) : Int))), .int (iZ ((k : Int))), .ref (ad 0)]) (zcons (zieq (by omega)) (zcons rfl rfl)) ?_
            refine z_same (z_runV hC hH.2.2 hl.1 hH.1 hH.2.1 2 (As := [.int (iZ ((k : Int))), .int (iZ (((k - 1 : Nat) : Int)))]) (rest := []) (m_X7_copies lau s0 G _ ad (va_up (va_up (va_up (va_up (va_up F 5 ((n : Int))) 6 ((b : Int))) 12 ((un : Int))) 13 (fr)) 33 ((n2 : Int))) (va_up (va_up (va_up (va_up (va_up (va_up (va_up Ar 3 (cI (n) v gv)) 4 (cI (n) wt gw)) 9 qv) 10 qw) 11 qm) 31 (cI (n2) v2 gt)) 32 (cI (n2) w2 gtw)) k (k - 1) qv qw qm (by first | assumption | omega) (by first | assumption | omega) (by first | assumption | omega)) (lw_V q1692 q1694 qs67 q95 q1695) ⟨rfl, by decide, by decide, by decide +kernel⟩ (q0 := 0) (ci := 0) rfl rfl rfl rfl (Nat.le_of_ble_eq_true rfl) ⟨Nat.le_of_ble_eq_true rfl, Nat.le_of_ble_eq_true rfl⟩ ⟨Nat.le_of_ble_eq_true rfl, Nat.le_of_ble_eq_true rfl⟩ dX7_edits_30) hH (fun u_ H locs hpost hH => ?_)
            obtain ⟨pv2_30, pw2_30⟩ := u_
            obtain ⟨p1_30, p2_30⟩ : (CPY qv pv2_30 k (k - 1)) ∧ (CPY qw pw2_30 k (k - 1)) := hpost
            have hH : zH s0 s1 G as0 (mW ad G (va_up (va_up (va_up (va_up (va_up F 5 ((n : Int))) 6 ((b : Int))) 12 ((un : Int))) 13 (fr)) 33 ((n2 : Int))) (va_up (va_up (va_up (va_up (va_up (va_up (va_up Ar 3 (cI (n) v gv)) 4 (cI (n) wt gw)) 9 pv2_30) 10 pw2_30) 11 (va_up qm (k - 1) (qm k))) 31 (cI (n2) v2 gt)) 32 (cI (n2) w2 gtw))) H locs := hH
            refine z_st (st' := []) rfl ?_
            refine z_iinc (lv' := [(1, .int (iZ ((k : Int) + 1))), (0, .ref (ad 0))]) hC 33 hl dX7_edits_33 1 rfl (by omega) (by decide) rfl (fun ls hl => ?_)
            refine z_goto hC 36 19 dX7_edits_36 rfl ?_
            -- J19.6
            exact ih19 (k + 1) pv2_30 pw2_30 (va_up qm (k - 1) (qm k)) _ _ _ (by omega) (by first | assumption | omega) (by first | assumption | omega) (by first | exact SHF_1 hPA | (have q9 := SHF_s ik (by omega) (by omega) p1_30 p2_30; exact q9)) hH (z_lv (lv_sub hl [1, 0] rfl) (zcons rfl (zcons (zpeq (by omega)) rfl)))
      -- J19.7
      exact L19 _ 1 pv pw pm _ _ _ (Nat.lt_succ_self _) (by first | assumption | omega) (by first | assumption | omega) (by first | exact SHF_1 hPA | (have q9 := SHF_s ik (by omega) (by omega) p1_30 p2_30; exact q9)) hH (z_lv (lv_sub hl [1, 0] rfl) (zcons rfl (zcons (zpeq (by omega)) rfl)))
  · -- 1=0
    refine z_if_ne_f hC 4 8 dX7_edits_4 rfl (by omega) (by omega) ?_
    have hcv4 : ((n : Int) : Int) = (n2 : Int) := by have := (Classical.not_not.mp hb_1).1; omega
    rw [hcv4] at hH
    have hH : zH s0 s1 G as0 (mW ad G (va_up (va_up (va_up (va_up (va_up F 5 ((n2 : Int))) 6 ((b : Int))) 12 ((un : Int))) 13 (fr)) 33 ((n2 : Int))) (va_up (va_up (va_up (va_up (va_up (va_up (va_up Ar 3 (cI (n) v gv)) 4 (cI (n) wt gw)) 9 pv) 10 pw) 11 pm) 31 (cI (n2) v2 gt)) 32 (cI (n2) w2 gtw))) H locs := hH
    have hcv5 : (cI (n) v gv) = (cI (n2) v2 gv) := by have q9 := Classical.not_not.mp hb_1; rw [q9.1]; exact cI_congr (fun p hp => (q9.2 p hp).1.symm)
    rw [hcv5] at hH
    have hH : zH s0 s1 G as0 (mW ad G (va_up (va_up (va_up (va_up (va_up F 5 ((n2 : Int))) 6 ((b : Int))) 12 ((un : Int))) 13 (fr)) 33 ((n2 : Int))) (va_up (va_up (va_up (va_up (va_up (va_up (va_up Ar 3 (cI (n2) v2 gv)) 4 (cI (n) wt gw)) 9 pv) 10 pw) 11 pm) 31 (cI (n2) v2 gt)) 32 (cI (n2) w2 gtw))) H locs := hH
    have hcv6 : (cI (n) wt gw) = (cI (n2) w2 gw) := by have q9 := Classical.not_not.mp hb_1; rw [q9.1]; exact cI_congr (fun p hp => (q9.2 p hp).2.symm)
    rw [hcv6] at hH
    have hH : zH s0 s1 G as0 (mW ad G (va_up (va_up (va_up (va_up (va_up F 5 ((n2 : Int))) 6 ((b : Int))) 12 ((un : Int))) 13 (fr)) 33 ((n2 : Int))) (va_up (va_up (va_up (va_up (va_up (va_up (va_up Ar 3 (cI (n2) v2 gv)) 4 (cI (n2) w2 gw)) 9 pv) 10 pw) 11 pm) 31 (cI (n2) v2 gt)) 32 (cI (n2) w2 gtw))) H locs := hH
    -- R7.8
    exact z_vret hC hH hQ 7 ((gv, gw, pv, pw, pm, un, fr, hm, hvv, hww)) dX7_edits_7 rfl ⟨by exact hPA, by first | assumption | omega, by exact EDT_same (Classical.not_not.mp hb_1)⟩ rfl (Nat.le_refl _) (Nat.le_refl _)

set_option maxHeartbeats 4000000 in
set_option maxRecDepth 100000 in
theorem m_X7_done (lau : Launch) (s0 : State) (G : zG) (sz : Nat) (ad : Nat → Nat) (F : Nat → Int) (Ar : Nat → Nat → Int) (n : Nat) (v : Nat → Nat) (gv : Nat → Int) (wt : Nat → Nat) (gw : Nat → Int) (un : Nat) (hm : Nat → Nat) (hvv : Nat → Nat → Nat) (hww : Nat → Nat → Nat) (pv : Nat → Int) (pw : Nat → Int) (pm : Nat → Int) (b : Nat) (fr : Int) (v2 : Nat → Nat) (w2 : Nat → Nat) (gt : Nat → Int) (gtw : Nat → Int) (hn : n ≤ 120) (hv : ∀ i, i < n → v i < 1000) (hwt : ∀ i, i < n → 1 ≤ wt i ∧ wt i ≤ 9) (hun : un ≤ 12) (hPA : PAST un pv pw pm hm hvv hww) (hb : 2 ≤ b ∧ b ≤ 20) (hv2 : ∀ i, i < n → v2 i < 1000) (hw2 : ∀ i, i < n → 1 ≤ w2 i ∧ w2 i ≤ 9) : zMet (S := (Nat → Int) × (Nat → Int) × (Nat → Int) × (Nat → Int) × (Nat → Int) × Nat × Int × (Nat → Nat) × (Nat → Nat → Nat) × (Nat → Nat → Nat)) lau yX7_done cX7_done 2 (some .int) 5 112 0 0 s0 G sz [.ref (ad 0)] (mW ad G (va_up (va_up (va_up (va_up (va_up F 5 ((n : Int))) 6 ((b : Int))) 12 ((un : Int))) 13 (fr)) 33 ((n : Int))) (va_up (va_up (va_up (va_up (va_up (va_up (va_up Ar 3 (cI (n) v gv)) 4 (cI (n) wt gw)) 9 pv) 10 pw) 11 pm) 31 (cI (n) v2 gt)) 32 (cI (n) w2 gtw))) (fun ((gv1, gw1, pv2, pw2, pm2, un2, fr2, hm2, hvv2, hww2) : (Nat → Int) × (Nat → Int) × (Nat → Int) × (Nat → Int) × (Nat → Int) × Nat × Int × (Nat → Nat) × (Nat → Nat → Nat) × (Nat → Nat → Nat)) => some (.int (iZ (((oth n v v2 : Nat) : Int))))) (fun ((gv1, gw1, pv2, pw2, pm2, un2, fr2, hm2, hvv2, hww2) : (Nat → Int) × (Nat → Int) × (Nat → Int) × (Nat → Int) × (Nat → Int) × Nat × Int × (Nat → Nat) × (Nat → Nat → Nat) × (Nat → Nat → Nat)) => (PAST un2 pv2 pw2 pm2 hm2 hvv2 hww2) ∧ (un2 ≤ 12) ∧ (EDT b n v wt un hm hvv hww fr n v2 w2 un2 hm2 hvv2 hww2 fr2)) (fun ((gv1, gw1, pv2, pw2, pm2, un2, fr2, hm2, hvv2, hww2) : (Nat → Int) × (Nat → Int) × (Nat → Int) × (Nat → Int) × (Nat → Int) × Nat × Int × (Nat → Nat) × (Nat → Nat → Nat) × (Nat → Nat → Nat)) => (mW ad G (va_up (va_up (va_up (va_up (va_up F 5 ((n : Int))) 6 ((b : Int))) 12 ((un2 : Int))) 13 (fr2)) 33 ((n : Int))) (va_up (va_up (va_up (va_up (va_up (va_up (va_up Ar 3 (cI (n) v2 gv1)) 4 (cI (n) w2 gw1)) 9 pv2) 10 pw2) 11 pm2) 31 (cI (n) v2 gt)) 32 (cI (n) w2 gtw)))) := by
  refine zMet.of (by decide) (Nat.le_of_ble_eq_true rfl) ?_
  intro pg ev s1 mi ar bl me cd ls Q as0 hC hH hl hQ hsz
  generalize s1.heap = H at hH ⊢
  generalize ([] : List Loc) = locs at hH ⊢
  have hl : lv_has ls 2 [(0, .ref (ad 0))] := hl
  refine z_aload_n hC 0 hl dX7_done_0 rfl 0 rfl ?_
  refine z_same (z_runV hC hH.2.2 hl.1 hH.1 hH.2.1 0 (As := []) (rest := []) (m_X7_others lau s0 G _ ad (va_up (va_up (va_up (va_up (va_up F 5 ((n : Int))) 6 ((b : Int))) 12 ((un : Int))) 13 (fr)) 33 ((n : Int))) (va_up (va_up (va_up (va_up (va_up (va_up (va_up Ar 3 (cI (n) v gv)) 4 (cI (n) wt gw)) 9 pv) 10 pw) 11 pm) 31 (cI (n) v2 gt)) 32 (cI (n) w2 gtw)) n v gv v2 gt (by first | assumption | omega) (by first | assumption | omega) (by first | assumption | omega)) (lw_V q1720 q1722 qs70 q95 q1723) ⟨rfl, by decide, by decide, by decide +kernel⟩ (q0 := 0) (ci := 0) rfl rfl rfl rfl (Nat.le_of_ble_eq_true rfl) ⟨Nat.le_of_ble_eq_true rfl, Nat.le_of_ble_eq_true rfl⟩ ⟨Nat.le_of_ble_eq_true rfl, Nat.le_of_ble_eq_true rfl⟩ dX7_done_1) hH (fun _ H locs hpost hH => ?_)
  have pb_1 : cB (fun p => v2 p ≠ v p) n ≤ 120 := hpost
  have hH : zH s0 s1 G as0 (mW ad G (va_up (va_up (va_up (va_up (va_up F 5 ((n : Int))) 6 ((b : Int))) 12 ((un : Int))) 13 (fr)) 33 ((n : Int))) (va_up (va_up (va_up (va_up (va_up (va_up (va_up Ar 3 (cI (n) v gv)) 4 (cI (n) wt gw)) 9 pv) 10 pw) 11 pm) 31 (cI (n) v2 gt)) 32 (cI (n) w2 gtw))) H locs := hH
  refine z_st (st' := [.int (iZ (((cB (fun p => v2 p ≠ v p) n : Nat) : Int)))]) rfl ?_
  refine z_istore_n (lv' := [(1, .int (iZ (((cB (fun p => v2 p ≠ v p) n : Nat) : Int)))), (0, .ref (ad 0))]) hC 4 hl dX7_done_4 rfl (by decide) rfl (fun ls hl => ?_)
  refine z_aload_n hC 5 hl dX7_done_5 rfl 1 rfl ?_
  refine z_same (z_runV hC hH.2.2 hl.1 hH.1 hH.2.1 0 (As := []) (rest := []) (m_X7_edits lau s0 G _ ad (va_up (va_up (va_up (va_up (va_up F 5 ((n : Int))) 6 ((b : Int))) 12 ((un : Int))) 13 (fr)) 33 ((n : Int))) (va_up (va_up (va_up (va_up (va_up (va_up (va_up Ar 3 (cI (n) v gv)) 4 (cI (n) wt gw)) 9 pv) 10 pw) 11 pm) 31 (cI (n) v2 gt)) 32 (cI (n) w2 gtw)) n v gv wt gw un hm hvv hww pv pw pm b fr n v2 w2 gt gtw (by first | assumption | omega) (by first | assumption | omega) (by first | assumption | omega) (by first | assumption | omega) (by first | assumption | omega) (by first | assumption | omega) (by first | assumption | omega) (by first | assumption | omega) (by first | assumption | omega)) (lw_V q1684 q1686 qs65 q95 q1687) ⟨rfl, by decide, by decide, by decide +kernel⟩ (q0 := 0) (ci := 0) rfl rfl rfl rfl (Nat.le_of_ble_eq_true rfl) ⟨Nat.le_of_ble_eq_true rfl, Nat.le_of_ble_eq_true rfl⟩ ⟨Nat.le_of_ble_eq_true rfl, Nat.le_of_ble_eq_true rfl⟩ dX7_done_6) hH (fun u_ H locs hpost hH => ?_)
  obtain ⟨gv1_6, gw1_6, pv2_6, pw2_6, pm2_6, un2_6, fr2_6, hm2_6, hvv2_6, hww2_6⟩ := u_
  obtain ⟨pP_6, pU_6, pE_6⟩ : (PAST un2_6 pv2_6 pw2_6 pm2_6 hm2_6 hvv2_6 hww2_6) ∧ (un2_6 ≤ 12) ∧ (EDT b n v wt un hm hvv hww fr n v2 w2 un2_6 hm2_6 hvv2_6 hww2_6 fr2_6) := hpost
  have hH : zH s0 s1 G as0 (mW ad G (va_up (va_up (va_up (va_up (va_up F 5 ((n : Int))) 6 ((b : Int))) 12 ((un2_6 : Int))) 13 (fr2_6)) 33 ((n : Int))) (va_up (va_up (va_up (va_up (va_up (va_up (va_up Ar 3 (cI (n) v2 gv1_6)) 4 (cI (n) w2 gw1_6)) 9 pv2_6) 10 pw2_6) 11 pm2_6) 31 (cI (n) v2 gt)) 32 (cI (n) w2 gtw))) H locs := hH
  refine z_st (st' := []) rfl ?_
  refine z_iload_n hC 9 hl dX7_done_9 rfl 0 rfl ?_
  -- R10.1
  refine z_st (st' := [.int (iZ (((oth n v v2 : Nat) : Int)))]) (zcons (zieq (by rfl)) rfl) ?_
  exact z_iret hC hH hQ 10 ((gv1_6, gw1_6, pv2_6, pw2_6, pm2_6, un2_6, fr2_6, hm2_6, hvv2_6, hww2_6)) dX7_done_10 rfl ⟨by first | assumption | omega, by first | assumption | omega, by first | assumption | omega⟩ rfl (Nat.le_refl _) (Nat.le_refl _)

set_option maxHeartbeats 4000000 in
set_option maxRecDepth 100000 in
theorem m_X7_lies (lau : Launch) (s0 : State) (G : zG) (sz : Nat) (ad : Nat → Nat) (F : Nat → Int) (Ar : Nat → Nat → Int) (n : Nat) (v : Nat → Nat) (gv : Nat → Int) (wt : Nat → Nat) (gw : Nat → Int) (tv : Nat → Nat) (tw : Nat → Nat) (gt : Nat → Int) (gtw : Nat → Int) (f : Nat) (t : Nat) (hn : n ≤ 120) (hf : f < n) (ht1 : t < n) : zMet (S := Unit) lau yX7_lies cX7_lies 3 (none) 0 0 0 0 s0 G sz [.ref (ad 0), .int (iZ ((f : Int))), .int (iZ ((t : Int)))] (mW ad G F (va_up (va_up (va_up (va_up Ar 3 (cI (n) v gv)) 4 (cI (n) wt gw)) 31 (cI (n) tv gt)) 32 (cI (n) tw gtw))) (fun (_ : Unit) => (none : Option Value)) (fun (_ : Unit) => True) (fun (_ : Unit) => (mW ad G F (va_up (va_up (va_up (va_up Ar 3 (cI (n) v gv)) 4 (cI (n) wt gw)) 31 (cI (n) (va_up tv t (v f)) gt)) 32 (cI (n) (va_up tw t (wt f)) gtw)))) := by
  refine zMet.of (by decide) (Nat.le_of_ble_eq_true rfl) ?_
  intro pg ev s1 mi ar bl me cd ls Q as0 hC hH hl hQ hsz
  generalize s1.heap = H at hH ⊢
  generalize ([] : List Loc) = locs at hH ⊢
  have hl : lv_has ls 3 [(0, .ref (ad 0)), (1, .int (iZ ((f : Int)))), (2, .int (iZ ((t : Int))))] := hl
  refine z_aload_n hC 0 hl dX7_lies_0 rfl 0 rfl ?_
  refine gmW_31 hC hH 1 dX7_lies_1 ?_
  refine z_iload_n hC 4 hl dX7_lies_4 rfl 2 rfl ?_
  refine z_aload_n hC 5 hl dX7_lies_5 rfl 0 rfl ?_
  refine gmW_3 hC hH 6 dX7_lies_6 ?_
  refine z_iload_n hC 9 hl dX7_lies_9 rfl 1 rfl ?_
  refine lmW_3 (x := ((v f : Nat) : Int)) hC hH 10 (f) (by omega) (by omega) (cI_lt (by omega)) dX7_lies_10 ?_
  refine smW_31 (f' := (cI (n) (va_up tv (t) ((v f))) gt)) hC hH 11 (t) (by omega) (by omega) (by exact cI_up (by omega)) dX7_lies_11 (fun H locs hH => ?_)
  have hH : zH s0 s1 G as0 (mW ad G F (va_up (va_up (va_up (va_up Ar 3 (cI (n) v gv)) 4 (cI (n) wt gw)) 31 (cI (n) (va_up tv (t) ((v f))) gt)) 32 (cI (n) tw gtw))) H locs := hH
  refine z_aload_n hC 12 hl dX7_lies_12 rfl 0 rfl ?_
  refine gmW_32 hC hH 13 dX7_lies_13 ?_
  refine z_iload_n hC 16 hl dX7_lies_16 rfl 2 rfl ?_
  refine z_aload_n hC 17 hl dX7_lies_17 rfl 0 rfl ?_
  refine gmW_4 hC hH 18 dX7_lies_18 ?_
  refine z_iload_n hC 21 hl dX7_lies_21 rfl 1 rfl ?_
  refine lmW_4 (x := ((wt f : Nat) : Int)) hC hH 22 (f) (by omega) (by omega) (cI_lt (by omega)) dX7_lies_22 ?_
  refine smW_32 (f' := (cI (n) (va_up tw (t) ((wt f))) gtw)) hC hH 23 (t) (by omega) (by omega) (by exact cI_up (by omega)) dX7_lies_23 (fun H locs hH => ?_)
  have hH : zH s0 s1 G as0 (mW ad G F (va_up (va_up (va_up (va_up Ar 3 (cI (n) v gv)) 4 (cI (n) wt gw)) 31 (cI (n) (va_up tv (t) ((v f))) gt)) 32 (cI (n) (va_up tw (t) ((wt f))) gtw))) H locs := hH
  -- R24.1
  exact z_vret hC hH hQ 24 (()) dX7_lies_24 rfl trivial rfl (Nat.le_refl _) (Nat.le_refl _)

set_option maxHeartbeats 4000000 in
set_option maxRecDepth 100000 in
theorem m_X7_set (lau : Launch) (s0 : State) (G : zG) (sz : Nat) (ad : Nat → Nat) (F : Nat → Int) (Ar : Nat → Nat → Int) (n : Nat) (v : Nat → Nat) (gv : Nat → Int) (wt : Nat → Nat) (gw : Nat → Int) (un : Nat) (hm : Nat → Nat) (hvv : Nat → Nat → Nat) (hww : Nat → Nat → Nat) (pv : Nat → Int) (pw : Nat → Int) (pm : Nat → Int) (b : Nat) (fr : Int) (p : Int) (x : Int) (hn : n ≤ 120) (hv : ∀ i, i < n → v i < 1000) (hwt : ∀ i, i < n → 1 ≤ wt i ∧ wt i ≤ 9) (hun : un ≤ 12) (hPA : PAST un pv pw pm hm hvv hww) (hb : 2 ≤ b ∧ b ≤ 20) (hr_p : -2147483648 ≤ p ∧ p < 2147483648) (hr_x : -2147483648 ≤ x ∧ x < 2147483648) : zMet (S := Int × Nat × (Nat → Nat) × (Nat → Nat) × Int × (Nat → Int) × (Nat → Int) × (Nat → Int) × (Nat → Int) × (Nat → Int) × (Nat → Int) × (Nat → Int) × Nat × Int × (Nat → Nat) × (Nat → Nat → Nat) × (Nat → Nat → Nat)) lau yX7_set cX7_set 4 (some .int) 5 112 0 0 s0 G sz [.ref (ad 0), .int (iZ (p)), .int (iZ (x))] (mW ad G (va_up (va_up (va_up (va_up F 5 ((n : Int))) 6 ((b : Int))) 12 ((un : Int))) 13 (fr)) (va_up (va_up (va_up (va_up (va_up Ar 3 (cI (n) v gv)) 4 (cI (n) wt gw)) 9 pv) 10 pw) 11 pm)) (fun ((r_, n2, v2, w2, tm, tv, tw, gv1, gw1, pv2, pw2, pm2, un2, fr2, hm2, hvv2, hww2) : Int × Nat × (Nat → Nat) × (Nat → Nat) × Int × (Nat → Int) × (Nat → Int) × (Nat → Int) × (Nat → Int) × (Nat → Int) × (Nat → Int) × (Nat → Int) × Nat × Int × (Nat → Nat) × (Nat → Nat → Nat) × (Nat → Nat → Nat)) => some (.int (iZ (r_)))) (fun ((r_, n2, v2, w2, tm, tv, tw, gv1, gw1, pv2, pw2, pm2, un2, fr2, hm2, hvv2, hww2) : Int × Nat × (Nat → Nat) × (Nat → Nat) × Int × (Nat → Int) × (Nat → Int) × (Nat → Int) × (Nat → Int) × (Nat → Int) × (Nat → Int) × (Nat → Int) × Nat × Int × (Nat → Nat) × (Nat → Nat → Nat) × (Nat → Nat → Nat)) => (Sp_set n v wt p x r_ n2 v2 w2) ∧ (n2 ≤ 120) ∧ (∀ i, i < n2 → v2 i < 1000) ∧ (∀ i, i < n2 → 1 ≤ w2 i ∧ w2 i ≤ 9) ∧ (PAST un2 pv2 pw2 pm2 hm2 hvv2 hww2) ∧ (un2 ≤ 12) ∧ (EDT b n v wt un hm hvv hww fr n2 v2 w2 un2 hm2 hvv2 hww2 fr2)) (fun ((r_, n2, v2, w2, tm, tv, tw, gv1, gw1, pv2, pw2, pm2, un2, fr2, hm2, hvv2, hww2) : Int × Nat × (Nat → Nat) × (Nat → Nat) × Int × (Nat → Int) × (Nat → Int) × (Nat → Int) × (Nat → Int) × (Nat → Int) × (Nat → Int) × (Nat → Int) × Nat × Int × (Nat → Nat) × (Nat → Nat → Nat) × (Nat → Nat → Nat)) => (mW ad G (va_up (va_up (va_up (va_up (va_up (va_up F 0 (0)) 5 ((n2 : Int))) 6 ((b : Int))) 12 ((un2 : Int))) 13 (fr2)) 33 (tm)) (va_up (va_up (va_up (va_up (va_up (va_up (va_up Ar 3 (cI (n2) v2 gv1)) 4 (cI (n2) w2 gw1)) 9 pv2) 10 pw2) 11 pm2) 31 tv) 32 tw))) := by
  refine zMet.of (by decide) (Nat.le_of_ble_eq_true rfl) ?_
  intro pg ev s1 mi ar bl me cd ls Q as0 hC hH hl hQ hsz
  generalize s1.heap = H at hH ⊢
  generalize ([] : List Loc) = locs at hH ⊢
  have hl : lv_has ls 4 [(0, .ref (ad 0)), (1, .int (iZ (p))), (2, .int (iZ (x)))] := hl
  refine z_aload_n hC 0 hl dX7_set_0 rfl 0 rfl ?_
  refine z_iconst hC 1 dX7_set_1 ?_
  refine pmW_0 hC hH 2 dX7_set_2 (fun H locs hH => ?_)
  have hH : zH s0 s1 G as0 (mW ad G (va_up (va_up (va_up (va_up (va_up F 0 (0)) 5 ((n : Int))) 6 ((b : Int))) 12 ((un : Int))) 13 (fr)) (va_up (va_up (va_up (va_up (va_up Ar 3 (cI (n) v gv)) 4 (cI (n) wt gw)) 9 pv) 10 pw) 11 pm)) H locs := hH
  refine z_aload_n hC 5 hl dX7_set_5 rfl 0 rfl ?_
  refine z_iload_n hC 6 hl dX7_set_6 rfl 1 rfl ?_
  refine z_same (z_runV hC hH.2.2 hl.1 hH.1 hH.2.1 1 (As := [.int (iZ (p))]) (rest := []) (m_X7_isPlace lau s0 G _ ad (va_up (va_up (va_up (va_up (va_up F 0 (0)) 5 ((n : Int))) 6 ((b : Int))) 12 ((un : Int))) 13 (fr)) (va_up (va_up (va_up (va_up (va_up Ar 3 (cI (n) v gv)) 4 (cI (n) wt gw)) 9 pv) 10 pw) 11 pm) n p (by first | assumption | omega) (by first | assumption | omega)) (lw_V q1641 q1643 qs57 q95 q1644) ⟨rfl, by decide, by decide, by decide +kernel⟩ (q0 := 0) (ci := 0) rfl rfl rfl rfl (Nat.le_of_ble_eq_true rfl) ⟨Nat.le_of_ble_eq_true rfl, Nat.le_of_ble_eq_true rfl⟩ ⟨Nat.le_of_ble_eq_true rfl, Nat.le_of_ble_eq_true rfl⟩ dX7_set_7) hH (fun r_7 H locs hpost hH => ?_)
  have hb_7 : (r_7 = 1 ∧ (0 ≤ p ∧ p < (n : Int))) ∨ (r_7 = 0 ∧ ¬ (0 ≤ p ∧ p < (n : Int))) := hpost
  have hH : zH s0 s1 G as0 (mW ad G (va_up (va_up (va_up (va_up (va_up F 0 (0)) 5 ((n : Int))) 6 ((b : Int))) 12 ((un : Int))) 13 (fr)) (va_up (va_up (va_up (va_up (va_up Ar 3 (cI (n) v gv)) 4 (cI (n) wt gw)) 9 pv) 10 pw) 11 pm)) H locs := hH
  refine z_st (st' := [.int (iZ (r_7))]) rfl ?_
  rcases hb_7 with ⟨rfl, hb_7⟩ | ⟨rfl, hb_7⟩
  · -- 7=1
    refine z_if_eq_f hC 10 20 dX7_set_10 rfl (by omega) (by omega) ?_
    refine z_iload_n hC 13 hl dX7_set_13 rfl 2 rfl ?_
    refine z_same (z_runS hC hH.2.2 hl.1 hH.1 hH.2.1 1 (As := [.int (iZ (x))]) (rest := []) (m_X7_isValue lau s0 G _ ad (va_up (va_up (va_up (va_up (va_up F 0 (0)) 5 ((n : Int))) 6 ((b : Int))) 12 ((un : Int))) 13 (fr)) (va_up (va_up (va_up (va_up (va_up Ar 3 (cI (n) v gv)) 4 (cI (n) wt gw)) 9 pv) 10 pw) 11 pm) x (by first | assumption | omega)) (lw_S q1677 q1678 q95 q1679) ⟨by decide, by decide, by decide +kernel⟩ rfl rfl (Nat.le_of_ble_eq_true rfl) ⟨Nat.le_of_ble_eq_true rfl, Nat.le_of_ble_eq_true rfl⟩ ⟨Nat.le_of_ble_eq_true rfl, Nat.le_of_ble_eq_true rfl⟩ dX7_set_14) hH (fun r_14 H locs hpost hH => ?_)
    have hb_14 : (r_14 = 1 ∧ (0 ≤ x ∧ x < 1000)) ∨ (r_14 = 0 ∧ ¬ (0 ≤ x ∧ x < 1000)) := hpost
    have hH : zH s0 s1 G as0 (mW ad G (va_up (va_up (va_up (va_up (va_up F 0 (0)) 5 ((n : Int))) 6 ((b : Int))) 12 ((un : Int))) 13 (fr)) (va_up (va_up (va_up (va_up (va_up Ar 3 (cI (n) v gv)) 4 (cI (n) wt gw)) 9 pv) 10 pw) 11 pm)) H locs := hH
    refine z_st (st' := [.int (iZ (r_14))]) rfl ?_
    rcases hb_14 with ⟨rfl, hb_14⟩ | ⟨rfl, hb_14⟩
    · -- 14=1
      refine z_if_ne_t hC 17 22 dX7_set_17 rfl (by omega) (by omega) ?_
      obtain ⟨p1, rfl⟩ := Int.eq_ofNat_of_zero_le (show 0 ≤ p by omega)
      obtain ⟨x1, rfl⟩ := Int.eq_ofNat_of_zero_le (show 0 ≤ x by omega)
      have hv9 := hv p1 (by omega)
      refine z_aload_n hC 22 hl dX7_set_22 rfl 0 rfl ?_
      refine gmW_3 hC hH 23 dX7_set_23 ?_
      refine z_iload_n hC 26 hl dX7_set_26 rfl 1 rfl ?_
      refine lmW_3 (x := ((v p1 : Nat) : Int)) hC hH 27 (p1) (by omega) (by omega) (cI_lt (by omega)) dX7_set_27 ?_
      refine z_istore_n (lv' := [(3, .int (iZ (((v p1 : Nat) : Int)))), (0, .ref (ad 0)), (1, .int (iZ ((p1 : Int)))), (2, .int (iZ ((x1 : Int))))]) hC 28 hl dX7_set_28 rfl (by decide) rfl (fun ls hl => ?_)
      refine z_aload_n hC 29 hl dX7_set_29 rfl 1 rfl ?_
      refine z_same (z_runV hC hH.2.2 hl.1 hH.1 hH.2.1 0 (As := []) (rest := []) (m_X7_begins lau s0 G _ ad (va_up (va_up (va_up (va_up (va_up F 0 (0)) 5 ((n : Int))) 6 ((b : Int))) 12 ((un : Int))) 13 (fr)) (va_up (va_up (va_up (va_up (va_up Ar 3 (cI (n) v gv)) 4 (cI (n) wt gw)) 9 pv) 10 pw) 11 pm) n v gv wt gw (by first | assumption | omega) (by first | assumption | omega) (by first | assumption | omega)) (lw_V q1680 q1682 qs64 q95 q1683) ⟨rfl, by decide, by decide, by decide +kernel⟩ (q0 := 0) (ci := 0) rfl rfl rfl rfl (Nat.le_of_ble_eq_true rfl) ⟨Nat.le_of_ble_eq_true rfl, Nat.le_of_ble_eq_true rfl⟩ ⟨Nat.le_of_ble_eq_true rfl, Nat.le_of_ble_eq_true rfl⟩ dX7_set_30) hH (fun u_ H locs hpost hH => ?_)
      obtain ⟨gt_30, gtw_30⟩ := u_
      have hH : zH s0 s1 G as0 (mW ad G (va_up (va_up (va_up (va_up (va_up (va_up F 0 (0)) 5 ((n : Int))) 6 ((b : Int))) 12 ((un : Int))) 13 (fr)) 33 ((n : Int))) (va_up (va_up (va_up (va_up (va_up (va_up (va_up Ar 3 (cI (n) v gv)) 4 (cI (n) wt gw)) 9 pv) 10 pw) 11 pm) 31 (cI (n) v gt_30)) 32 (cI (n) wt gtw_30))) H locs := hH
      refine z_st (st' := []) rfl ?_
      refine z_aload_n hC 33 hl dX7_set_33 rfl 1 rfl ?_
      refine gmW_31 hC hH 34 dX7_set_34 ?_
      refine z_iload_n hC 37 hl dX7_set_37 rfl 2 rfl ?_
      refine z_iload_n hC 38 hl dX7_set_38 rfl 3 rfl ?_
      refine smW_31 (f' := (cI (n) (va_up v (p1) (x1)) gt_30)) hC hH 39 (p1) (by omega) (by omega) (by exact cI_up (by omega)) dX7_set_39 (fun H locs hH => ?_)
      have hH : zH s0 s1 G as0 (mW ad G (va_up (va_up (va_up (va_up (va_up (va_up F 0 (0)) 5 ((n : Int))) 6 ((b : Int))) 12 ((un : Int))) 13 (fr)) 33 ((n : Int))) (va_up (va_up (va_up (va_up (va_up (va_up (va_up Ar 3 (cI (n) v gv)) 4 (cI (n) wt gw)) 9 pv) 10 pw) 11 pm) 31 (cI (n) (va_up v (p1) (x1)) gt_30)) 32 (cI (n) wt gtw_30))) H locs := hH
      refine z_aload_n hC 40 hl dX7_set_40 rfl 1 rfl ?_
      refine z_same (z_runV hC hH.2.2 hl.1 hH.1 hH.2.1 0 (As := []) (rest := []) (m_X7_edits lau s0 G _ ad (va_up (va_up (va_up (va_up (va_up (va_up F 0 (0)) 5 ((n : Int))) 6 ((b : Int))) 12 ((un : Int))) 13 (fr)) 33 ((n : Int))) (va_up (va_up (va_up (va_up (va_up (va_up (va_up Ar 3 (cI (n) v gv)) 4 (cI (n) wt gw)) 9 pv) 10 pw) 11 pm) 31 (cI (n) (va_up v (p1) (x1)) gt_30)) 32 (cI (n) wt gtw_30)) n v gv wt gw un hm hvv hww pv pw pm b fr n (va_up v (p1) (x1)) wt gt_30 gtw_30 (by first | assumption | omega) (by first | assumption | omega) (by first | assumption | omega) (by first | assumption | omega) (by first | assumption | omega) (by first | assumption | omega) (by first | assumption | omega) (by exact up_lt hv (by omega)) (by first | assumption | omega)) (lw_V q1684 q1686 qs65 q95 q1687) ⟨rfl, by decide, by decide, by decide +kernel⟩ (q0 := 0) (ci := 0) rfl rfl rfl rfl (Nat.le_of_ble_eq_true rfl) ⟨Nat.le_of_ble_eq_true rfl, Nat.le_of_ble_eq_true rfl⟩ ⟨Nat.le_of_ble_eq_true rfl, Nat.le_of_ble_eq_true rfl⟩ dX7_set_41) hH (fun u_ H locs hpost hH => ?_)
      obtain ⟨gv1_41, gw1_41, pv2_41, pw2_41, pm2_41, un2_41, fr2_41, hm2_41, hvv2_41, hww2_41⟩ := u_
      obtain ⟨pP_41, pU_41, pE_41⟩ : (PAST un2_41 pv2_41 pw2_41 pm2_41 hm2_41 hvv2_41 hww2_41) ∧ (un2_41 ≤ 12) ∧ (EDT b n v wt un hm hvv hww fr n (va_up v (p1) (x1)) wt un2_41 hm2_41 hvv2_41 hww2_41 fr2_41) := hpost
      have hH : zH s0 s1 G as0 (mW ad G (va_up (va_up (va_up (va_up (va_up (va_up F 0 (0)) 5 ((n : Int))) 6 ((b : Int))) 12 ((un2_41 : Int))) 13 (fr2_41)) 33 ((n : Int))) (va_up (va_up (va_up (va_up (va_up (va_up (va_up Ar 3 (cI (n) (va_up v (p1) (x1)) gv1_41)) 4 (cI (n) wt gw1_41)) 9 pv2_41) 10 pw2_41) 11 pm2_41) 31 (cI (n) (va_up v (p1) (x1)) gt_30)) 32 (cI (n) wt gtw_30))) H locs := hH
      refine z_st (st' := []) rfl ?_
      refine z_iload_n hC 44 hl dX7_set_44 rfl 0 rfl ?_
      -- R45.1
      exact z_iret hC hH hQ 45 ((((v p1 : Nat) : Int), n, (va_up v (p1) (x1)), wt, (n : Int), (cI (n) (va_up v (p1) (x1)) gt_30), (cI (n) wt gtw_30), gv1_41, gw1_41, pv2_41, pw2_41, pm2_41, un2_41, fr2_41, hm2_41, hvv2_41, hww2_41)) dX7_set_45 rfl ⟨by first | (unfold Sp_set; rw [if_neg (by omega)]; exact ⟨rfl, rfl, rfl, rfl⟩) | (unfold Sp_set; rw [if_pos (by omega)]; first | exact ⟨rfl, rfl, rfl, rfl⟩ | exact ⟨by omega, rfl, rfl, rfl⟩), by first | assumption | omega, by exact up_lt hv (by omega), by first | assumption | omega, by first | assumption | omega, by first | assumption | omega, by first | assumption | omega⟩ rfl (Nat.le_refl _) (Nat.le_refl _)
    · -- 14=0
      refine z_if_ne_f hC 17 22 dX7_set_17 rfl (by omega) (by omega) ?_
      refine z_iconst hC 20 dX7_set_20 ?_
      -- R21.2
      exact z_iret hC hH hQ 21 (((-1), n, v, wt, (F 33), (Ar 31), (Ar 32), gv, gw, pv, pw, pm, un, fr, hm, hvv, hww)) dX7_set_21 rfl ⟨by first | (unfold Sp_set; rw [if_neg (by omega)]; exact ⟨rfl, rfl, rfl, rfl⟩) | (unfold Sp_set; rw [if_pos (by omega)]; first | exact ⟨rfl, rfl, rfl, rfl⟩ | exact ⟨by omega, rfl, rfl, rfl⟩), by first | assumption | omega, by first | assumption | omega, by first | assumption | omega, by exact hPA, by first | assumption | omega, by exact EDT_none⟩ rfl (Nat.le_refl _) (Nat.le_refl _)
  · -- 7=0
    refine z_if_eq_t hC 10 20 dX7_set_10 rfl (by omega) (by omega) ?_
    refine z_iconst hC 20 dX7_set_20 ?_
    -- R21.3
    exact z_iret hC hH hQ 21 (((-1), n, v, wt, (F 33), (Ar 31), (Ar 32), gv, gw, pv, pw, pm, un, fr, hm, hvv, hww)) dX7_set_21 rfl ⟨by first | (unfold Sp_set; rw [if_neg (by omega)]; exact ⟨rfl, rfl, rfl, rfl⟩) | (unfold Sp_set; rw [if_pos (by omega)]; first | exact ⟨rfl, rfl, rfl, rfl⟩ | exact ⟨by omega, rfl, rfl, rfl⟩), by first | assumption | omega, by first | assumption | omega, by first | assumption | omega, by exact hPA, by first | assumption | omega, by exact EDT_none⟩ rfl (Nat.le_refl _) (Nat.le_refl _)

set_option maxHeartbeats 4000000 in
set_option maxRecDepth 100000 in
theorem m_X7_weigh (lau : Launch) (s0 : State) (G : zG) (sz : Nat) (ad : Nat → Nat) (F : Nat → Int) (Ar : Nat → Nat → Int) (n : Nat) (v : Nat → Nat) (gv : Nat → Int) (wt : Nat → Nat) (gw : Nat → Int) (un : Nat) (hm : Nat → Nat) (hvv : Nat → Nat → Nat) (hww : Nat → Nat → Nat) (pv : Nat → Int) (pw : Nat → Int) (pm : Nat → Int) (b : Nat) (fr : Int) (p : Int) (x : Int) (hn : n ≤ 120) (hv : ∀ i, i < n → v i < 1000) (hwt : ∀ i, i < n → 1 ≤ wt i ∧ wt i ≤ 9) (hun : un ≤ 12) (hPA : PAST un pv pw pm hm hvv hww) (hb : 2 ≤ b ∧ b ≤ 20) (hr_p : -2147483648 ≤ p ∧ p < 2147483648) (hr_x : -2147483648 ≤ x ∧ x < 2147483648) : zMet (S := Int × Nat × (Nat → Nat) × (Nat → Nat) × Int × (Nat → Int) × (Nat → Int) × (Nat → Int) × (Nat → Int) × (Nat → Int) × (Nat → Int) × (Nat → Int) × Nat × Int × (Nat → Nat) × (Nat → Nat → Nat) × (Nat → Nat → Nat)) lau yX7_weigh cX7_weigh 4 (some .int) 5 112 0 0 s0 G sz [.ref (ad 0), .int (iZ (p)), .int (iZ (x))] (mW ad G (va_up (va_up (va_up (va_up F 5 ((n : Int))) 6 ((b : Int))) 12 ((un : Int))) 13 (fr)) (va_up (va_up (va_up (va_up (va_up Ar 3 (cI (n) v gv)) 4 (cI (n) wt gw)) 9 pv) 10 pw) 11 pm)) (fun ((r_, n2, v2, w2, tm, tv, tw, gv1, gw1, pv2, pw2, pm2, un2, fr2, hm2, hvv2, hww2) : Int × Nat × (Nat → Nat) × (Nat → Nat) × Int × (Nat → Int) × (Nat → Int) × (Nat → Int) × (Nat → Int) × (Nat → Int) × (Nat → Int) × (Nat → Int) × Nat × Int × (Nat → Nat) × (Nat → Nat → Nat) × (Nat → Nat → Nat)) => some (.int (iZ (r_)))) (fun ((r_, n2, v2, w2, tm, tv, tw, gv1, gw1, pv2, pw2, pm2, un2, fr2, hm2, hvv2, hww2) : Int × Nat × (Nat → Nat) × (Nat → Nat) × Int × (Nat → Int) × (Nat → Int) × (Nat → Int) × (Nat → Int) × (Nat → Int) × (Nat → Int) × (Nat → Int) × Nat × Int × (Nat → Nat) × (Nat → Nat → Nat) × (Nat → Nat → Nat)) => (Sp_weigh n v wt p x r_ n2 v2 w2) ∧ (n2 ≤ 120) ∧ (∀ i, i < n2 → v2 i < 1000) ∧ (∀ i, i < n2 → 1 ≤ w2 i ∧ w2 i ≤ 9) ∧ (PAST un2 pv2 pw2 pm2 hm2 hvv2 hww2) ∧ (un2 ≤ 12) ∧ (EDT b n v wt un hm hvv hww fr n2 v2 w2 un2 hm2 hvv2 hww2 fr2)) (fun ((r_, n2, v2, w2, tm, tv, tw, gv1, gw1, pv2, pw2, pm2, un2, fr2, hm2, hvv2, hww2) : Int × Nat × (Nat → Nat) × (Nat → Nat) × Int × (Nat → Int) × (Nat → Int) × (Nat → Int) × (Nat → Int) × (Nat → Int) × (Nat → Int) × (Nat → Int) × Nat × Int × (Nat → Nat) × (Nat → Nat → Nat) × (Nat → Nat → Nat)) => (mW ad G (va_up (va_up (va_up (va_up (va_up (va_up F 0 (0)) 5 ((n2 : Int))) 6 ((b : Int))) 12 ((un2 : Int))) 13 (fr2)) 33 (tm)) (va_up (va_up (va_up (va_up (va_up (va_up (va_up Ar 3 (cI (n2) v2 gv1)) 4 (cI (n2) w2 gw1)) 9 pv2) 10 pw2) 11 pm2) 31 tv) 32 tw))) := by
  refine zMet.of (by decide) (Nat.le_of_ble_eq_true rfl) ?_
  intro pg ev s1 mi ar bl me cd ls Q as0 hC hH hl hQ hsz
  generalize s1.heap = H at hH ⊢
  generalize ([] : List Loc) = locs at hH ⊢
  have hl : lv_has ls 4 [(0, .ref (ad 0)), (1, .int (iZ (p))), (2, .int (iZ (x)))] := hl
  refine z_aload_n hC 0 hl dX7_weigh_0 rfl 0 rfl ?_
  refine z_iconst hC 1 dX7_weigh_1 ?_
  refine pmW_0 hC hH 2 dX7_weigh_2 (fun H locs hH => ?_)
  have hH : zH s0 s1 G as0 (mW ad G (va_up (va_up (va_up (va_up (va_up F 0 (0)) 5 ((n : Int))) 6 ((b : Int))) 12 ((un : Int))) 13 (fr)) (va_up (va_up (va_up (va_up (va_up Ar 3 (cI (n) v gv)) 4 (cI (n) wt gw)) 9 pv) 10 pw) 11 pm)) H locs := hH
  refine z_aload_n hC 5 hl dX7_weigh_5 rfl 0 rfl ?_
  refine z_iload_n hC 6 hl dX7_weigh_6 rfl 1 rfl ?_
  refine z_same (z_runV hC hH.2.2 hl.1 hH.1 hH.2.1 1 (As := [.int (iZ (p))]) (rest := []) (m_X7_isPlace lau s0 G _ ad (va_up (va_up (va_up (va_up (va_up F 0 (0)) 5 ((n : Int))) 6 ((b : Int))) 12 ((un : Int))) 13 (fr)) (va_up (va_up (va_up (va_up (va_up Ar 3 (cI (n) v gv)) 4 (cI (n) wt gw)) 9 pv) 10 pw) 11 pm) n p (by first | assumption | omega) (by first | assumption | omega)) (lw_V q1641 q1643 qs57 q95 q1644) ⟨rfl, by decide, by decide, by decide +kernel⟩ (q0 := 0) (ci := 0) rfl rfl rfl rfl (Nat.le_of_ble_eq_true rfl) ⟨Nat.le_of_ble_eq_true rfl, Nat.le_of_ble_eq_true rfl⟩ ⟨Nat.le_of_ble_eq_true rfl, Nat.le_of_ble_eq_true rfl⟩ dX7_weigh_7) hH (fun r_7 H locs hpost hH => ?_)
  have hb_7 : (r_7 = 1 ∧ (0 ≤ p ∧ p < (n : Int))) ∨ (r_7 = 0 ∧ ¬ (0 ≤ p ∧ p < (n : Int))) := hpost
  have hH : zH s0 s1 G as0 (mW ad G (va_up (va_up (va_up (va_up (va_up F 0 (0)) 5 ((n : Int))) 6 ((b : Int))) 12 ((un : Int))) 13 (fr)) (va_up (va_up (va_up (va_up (va_up Ar 3 (cI (n) v gv)) 4 (cI (n) wt gw)) 9 pv) 10 pw) 11 pm)) H locs := hH
  refine z_st (st' := [.int (iZ (r_7))]) rfl ?_
  rcases hb_7 with ⟨rfl, hb_7⟩ | ⟨rfl, hb_7⟩
  · -- 7=1
    refine z_if_eq_f hC 10 24 dX7_weigh_10 rfl (by omega) (by omega) ?_
    refine z_iload_n hC 13 hl dX7_weigh_13 rfl 2 rfl ?_
    refine z_iconst hC 14 dX7_weigh_14 ?_
    refine z_icmp_lt hC 15 24 dX7_weigh_15 rfl (by omega) (by omega) (fun hb1 => ?_) (fun hb1 => ?_)
    · -- 15t
      refine z_iconst hC 24 dX7_weigh_24 ?_
      -- R25.1
      exact z_iret hC hH hQ 25 (((-1), n, v, wt, (F 33), (Ar 31), (Ar 32), gv, gw, pv, pw, pm, un, fr, hm, hvv, hww)) dX7_weigh_25 rfl ⟨by first | (unfold Sp_weigh; rw [if_neg (by omega)]; exact ⟨rfl, rfl, rfl, rfl⟩) | (unfold Sp_weigh; rw [if_pos (by omega)]; first | exact ⟨rfl, rfl, rfl, rfl⟩ | exact ⟨by omega, rfl, rfl, rfl⟩), by first | assumption | omega, by first | assumption | omega, by first | assumption | omega, by exact hPA, by first | assumption | omega, by exact EDT_none⟩ rfl (Nat.le_refl _) (Nat.le_refl _)
    · -- 15f
      refine z_iload_n hC 18 hl dX7_weigh_18 rfl 2 rfl ?_
      refine z_bipush hC 19 dX7_weigh_19 rfl ?_
      refine z_icmp_le hC 21 26 dX7_weigh_21 rfl (by omega) (by omega) (fun hb2 => ?_) (fun hb2 => ?_)
      · -- 21t
        obtain ⟨p1, rfl⟩ := Int.eq_ofNat_of_zero_le (show 0 ≤ p by omega)
        obtain ⟨x1, rfl⟩ := Int.eq_ofNat_of_zero_le (show 0 ≤ x by omega)
        have hv9 := hwt p1 (by omega)
        refine z_aload_n hC 26 hl dX7_weigh_26 rfl 0 rfl ?_
        refine gmW_4 hC hH 27 dX7_weigh_27 ?_
        refine z_iload_n hC 30 hl dX7_weigh_30 rfl 1 rfl ?_
        refine lmW_4 (x := ((wt p1 : Nat) : Int)) hC hH 31 (p1) (by omega) (by omega) (cI_lt (by omega)) dX7_weigh_31 ?_
        refine z_istore_n (lv' := [(3, .int (iZ (((wt p1 : Nat) : Int)))), (0, .ref (ad 0)), (1, .int (iZ ((p1 : Int)))), (2, .int (iZ ((x1 : Int))))]) hC 32 hl dX7_weigh_32 rfl (by decide) rfl (fun ls hl => ?_)
        refine z_aload_n hC 33 hl dX7_weigh_33 rfl 1 rfl ?_
        refine z_same (z_runV hC hH.2.2 hl.1 hH.1 hH.2.1 0 (As := []) (rest := []) (m_X7_begins lau s0 G _ ad (va_up (va_up (va_up (va_up (va_up F 0 (0)) 5 ((n : Int))) 6 ((b : Int))) 12 ((un : Int))) 13 (fr)) (va_up (va_up (va_up (va_up (va_up Ar 3 (cI (n) v gv)) 4 (cI (n) wt gw)) 9 pv) 10 pw) 11 pm) n v gv wt gw (by first | assumption | omega) (by first | assumption | omega) (by first | assumption | omega)) (lw_V q1680 q1682 qs64 q95 q1683) ⟨rfl, by decide, by decide, by decide +kernel⟩ (q0 := 0) (ci := 0) rfl rfl rfl rfl (Nat.le_of_ble_eq_true rfl) ⟨Nat.le_of_ble_eq_true rfl, Nat.le_of_ble_eq_true rfl⟩ ⟨Nat.le_of_ble_eq_true rfl, Nat.le_of_ble_eq_true rfl⟩ dX7_weigh_34) hH (fun u_ H locs hpost hH => ?_)
        obtain ⟨gt_34, gtw_34⟩ := u_
        have hH : zH s0 s1 G as0 (mW ad G (va_up (va_up (va_up (va_up (va_up (va_up F 0 (0)) 5 ((n : Int))) 6 ((b : Int))) 12 ((un : Int))) 13 (fr)) 33 ((n : Int))) (va_up (va_up (va_up (va_up (va_up (va_up (va_up Ar 3 (cI (n) v gv)) 4 (cI (n) wt gw)) 9 pv) 10 pw) 11 pm) 31 (cI (n) v gt_34)) 32 (cI (n) wt gtw_34))) H locs := hH
        refine z_st (st' := []) rfl ?_
        refine z_aload_n hC 37 hl dX7_weigh_37 rfl 1 rfl ?_
        refine gmW_32 hC hH 38 dX7_weigh_38 ?_
        refine z_iload_n hC 41 hl dX7_weigh_41 rfl 2 rfl ?_
        refine z_iload_n hC 42 hl dX7_weigh_42 rfl 3 rfl ?_
        refine smW_32 (f' := (cI (n) (va_up wt (p1) (x1)) gtw_34)) hC hH 43 (p1) (by omega) (by omega) (by exact cI_up (by omega)) dX7_weigh_43 (fun H locs hH => ?_)
        have hH : zH s0 s1 G as0 (mW ad G (va_up (va_up (va_up (va_up (va_up (va_up F 0 (0)) 5 ((n : Int))) 6 ((b : Int))) 12 ((un : Int))) 13 (fr)) 33 ((n : Int))) (va_up (va_up (va_up (va_up (va_up (va_up (va_up Ar 3 (cI (n) v gv)) 4 (cI (n) wt gw)) 9 pv) 10 pw) 11 pm) 31 (cI (n) v gt_34)) 32 (cI (n) (va_up wt (p1) (x1)) gtw_34))) H locs := hH
        refine z_aload_n hC 44 hl dX7_weigh_44 rfl 1 rfl ?_
        refine z_same (z_runV hC hH.2.2 hl.1 hH.1 hH.2.1 0 (As := []) (rest := []) (m_X7_edits lau s0 G _ ad (va_up (va_up (va_up (va_up (va_up (va_up F 0 (0)) 5 ((n : Int))) 6 ((b : Int))) 12 ((un : Int))) 13 (fr)) 33 ((n : Int))) (va_up (va_up (va_up (va_up (va_up (va_up (va_up Ar 3 (cI (n) v gv)) 4 (cI (n) wt gw)) 9 pv) 10 pw) 11 pm) 31 (cI (n) v gt_34)) 32 (cI (n) (va_up wt (p1) (x1)) gtw_34)) n v gv wt gw un hm hvv hww pv pw pm b fr n v (va_up wt (p1) (x1)) gt_34 gtw_34 (by first | assumption | omega) (by first | assumption | omega) (by first | assumption | omega) (by first | assumption | omega) (by first | assumption | omega) (by first | assumption | omega) (by first | assumption | omega) (by first | assumption | omega) (by exact up_19 hwt (by omega))) (lw_V q1684 q1686 qs65 q95 q1687) ⟨rfl, by decide, by decide, by decide +kernel⟩ (q0 := 0) (ci := 0) rfl rfl rfl rfl (Nat.le_of_ble_eq_true rfl) ⟨Nat.le_of_ble_eq_true rfl, Nat.le_of_ble_eq_true rfl⟩ ⟨Nat.le_of_ble_eq_true rfl, Nat.le_of_ble_eq_true rfl⟩ dX7_weigh_45) hH (fun u_ H locs hpost hH => ?_)
        obtain ⟨gv1_45, gw1_45, pv2_45, pw2_45, pm2_45, un2_45, fr2_45, hm2_45, hvv2_45, hww2_45⟩ := u_
        obtain ⟨pP_45, pU_45, pE_45⟩ : (PAST un2_45 pv2_45 pw2_45 pm2_45 hm2_45 hvv2_45 hww2_45) ∧ (un2_45 ≤ 12) ∧ (EDT b n v wt un hm hvv hww fr n v (va_up wt (p1) (x1)) un2_45 hm2_45 hvv2_45 hww2_45 fr2_45) := hpost
        have hH : zH s0 s1 G as0 (mW ad G (va_up (va_up (va_up (va_up (va_up (va_up F 0 (0)) 5 ((n : Int))) 6 ((b : Int))) 12 ((un2_45 : Int))) 13 (fr2_45)) 33 ((n : Int))) (va_up (va_up (va_up (va_up (va_up (va_up (va_up Ar 3 (cI (n) v gv1_45)) 4 (cI (n) (va_up wt (p1) (x1)) gw1_45)) 9 pv2_45) 10 pw2_45) 11 pm2_45) 31 (cI (n) v gt_34)) 32 (cI (n) (va_up wt (p1) (x1)) gtw_34))) H locs := hH
        refine z_st (st' := []) rfl ?_
        refine z_iload_n hC 48 hl dX7_weigh_48 rfl 0 rfl ?_
        -- R49.2
        exact z_iret hC hH hQ 49 ((((wt p1 : Nat) : Int), n, v, (va_up wt (p1) (x1)), (n : Int), (cI (n) v gt_34), (cI (n) (va_up wt (p1) (x1)) gtw_34), gv1_45, gw1_45, pv2_45, pw2_45, pm2_45, un2_45, fr2_45, hm2_45, hvv2_45, hww2_45)) dX7_weigh_49 rfl ⟨by first | (unfold Sp_weigh; rw [if_neg (by omega)]; exact ⟨rfl, rfl, rfl, rfl⟩) | (unfold Sp_weigh; rw [if_pos (by omega)]; first | exact ⟨rfl, rfl, rfl, rfl⟩ | exact ⟨by omega, rfl, rfl, rfl⟩), by first | assumption | omega, by first | assumption | omega, by exact up_19 hwt (by omega), by first | assumption | omega, by first | assumption | omega, by first | assumption | omega⟩ rfl (Nat.le_refl _) (Nat.le_refl _)
      · -- 21f
        refine z_iconst hC 24 dX7_weigh_24 ?_
        -- R25.3
        exact z_iret hC hH hQ 25 (((-1), n, v, wt, (F 33), (Ar 31), (Ar 32), gv, gw, pv, pw, pm, un, fr, hm, hvv, hww)) dX7_weigh_25 rfl ⟨by first | (unfold Sp_weigh; rw [if_neg (by omega)]; exact ⟨rfl, rfl, rfl, rfl⟩) | (unfold Sp_weigh; rw [if_pos (by omega)]; first | exact ⟨rfl, rfl, rfl, rfl⟩ | exact ⟨by omega, rfl, rfl, rfl⟩), by first | assumption | omega, by first | assumption | omega, by first | assumption | omega, by exact hPA, by first | assumption | omega, by exact EDT_none⟩ rfl (Nat.le_refl _) (Nat.le_refl _)
  · -- 7=0
    refine z_if_eq_t hC 10 24 dX7_weigh_10 rfl (by omega) (by omega) ?_
    refine z_iconst hC 24 dX7_weigh_24 ?_
    -- R25.4
    exact z_iret hC hH hQ 25 (((-1), n, v, wt, (F 33), (Ar 31), (Ar 32), gv, gw, pv, pw, pm, un, fr, hm, hvv, hww)) dX7_weigh_25 rfl ⟨by first | (unfold Sp_weigh; rw [if_neg (by omega)]; exact ⟨rfl, rfl, rfl, rfl⟩) | (unfold Sp_weigh; rw [if_pos (by omega)]; first | exact ⟨rfl, rfl, rfl, rfl⟩ | exact ⟨by omega, rfl, rfl, rfl⟩), by first | assumption | omega, by first | assumption | omega, by first | assumption | omega, by exact hPA, by first | assumption | omega, by exact EDT_none⟩ rfl (Nat.le_refl _) (Nat.le_refl _)

set_option maxHeartbeats 4000000 in
set_option maxRecDepth 100000 in
theorem m_X7_swap (lau : Launch) (s0 : State) (G : zG) (sz : Nat) (ad : Nat → Nat) (F : Nat → Int) (Ar : Nat → Nat → Int) (n : Nat) (v : Nat → Nat) (gv : Nat → Int) (wt : Nat → Nat) (gw : Nat → Int) (un : Nat) (hm : Nat → Nat) (hvv : Nat → Nat → Nat) (hww : Nat → Nat → Nat) (pv : Nat → Int) (pw : Nat → Int) (pm : Nat → Int) (b : Nat) (fr : Int) (p : Int) (q : Int) (hn : n ≤ 120) (hv : ∀ i, i < n → v i < 1000) (hwt : ∀ i, i < n → 1 ≤ wt i ∧ wt i ≤ 9) (hun : un ≤ 12) (hPA : PAST un pv pw pm hm hvv hww) (hb : 2 ≤ b ∧ b ≤ 20) (hr_p : -2147483648 ≤ p ∧ p < 2147483648) (hr_q : -2147483648 ≤ q ∧ q < 2147483648) : zMet (S := Int × Nat × (Nat → Nat) × (Nat → Nat) × Int × (Nat → Int) × (Nat → Int) × (Nat → Int) × (Nat → Int) × (Nat → Int) × (Nat → Int) × (Nat → Int) × Nat × Int × (Nat → Nat) × (Nat → Nat → Nat) × (Nat → Nat → Nat)) lau yX7_swap cX7_swap 3 (some .boolean) 5 112 0 0 s0 G sz [.ref (ad 0), .int (iZ (p)), .int (iZ (q))] (mW ad G (va_up (va_up (va_up (va_up F 5 ((n : Int))) 6 ((b : Int))) 12 ((un : Int))) 13 (fr)) (va_up (va_up (va_up (va_up (va_up Ar 3 (cI (n) v gv)) 4 (cI (n) wt gw)) 9 pv) 10 pw) 11 pm)) (fun ((r_, n2, v2, w2, tm, tv, tw, gv1, gw1, pv2, pw2, pm2, un2, fr2, hm2, hvv2, hww2) : Int × Nat × (Nat → Nat) × (Nat → Nat) × Int × (Nat → Int) × (Nat → Int) × (Nat → Int) × (Nat → Int) × (Nat → Int) × (Nat → Int) × (Nat → Int) × Nat × Int × (Nat → Nat) × (Nat → Nat → Nat) × (Nat → Nat → Nat)) => some (.int (iZ (r_)))) (fun ((r_, n2, v2, w2, tm, tv, tw, gv1, gw1, pv2, pw2, pm2, un2, fr2, hm2, hvv2, hww2) : Int × Nat × (Nat → Nat) × (Nat → Nat) × Int × (Nat → Int) × (Nat → Int) × (Nat → Int) × (Nat → Int) × (Nat → Int) × (Nat → Int) × (Nat → Int) × Nat × Int × (Nat → Nat) × (Nat → Nat → Nat) × (Nat → Nat → Nat)) => (Sp_swap n v wt p q r_ n2 v2 w2) ∧ (n2 ≤ 120) ∧ (∀ i, i < n2 → v2 i < 1000) ∧ (∀ i, i < n2 → 1 ≤ w2 i ∧ w2 i ≤ 9) ∧ (PAST un2 pv2 pw2 pm2 hm2 hvv2 hww2) ∧ (un2 ≤ 12) ∧ (EDT b n v wt un hm hvv hww fr n2 v2 w2 un2 hm2 hvv2 hww2 fr2)) (fun ((r_, n2, v2, w2, tm, tv, tw, gv1, gw1, pv2, pw2, pm2, un2, fr2, hm2, hvv2, hww2) : Int × Nat × (Nat → Nat) × (Nat → Nat) × Int × (Nat → Int) × (Nat → Int) × (Nat → Int) × (Nat → Int) × (Nat → Int) × (Nat → Int) × (Nat → Int) × Nat × Int × (Nat → Nat) × (Nat → Nat → Nat) × (Nat → Nat → Nat)) => (mW ad G (va_up (va_up (va_up (va_up (va_up (va_up F 0 (0)) 5 ((n2 : Int))) 6 ((b : Int))) 12 ((un2 : Int))) 13 (fr2)) 33 (tm)) (va_up (va_up (va_up (va_up (va_up (va_up (va_up Ar 3 (cI (n2) v2 gv1)) 4 (cI (n2) w2 gw1)) 9 pv2) 10 pw2) 11 pm2) 31 tv) 32 tw))) := by
  refine zMet.of (by decide) (Nat.le_of_ble_eq_true rfl) ?_
  intro pg ev s1 mi ar bl me cd ls Q as0 hC hH hl hQ hsz
  generalize s1.heap = H at hH ⊢
  generalize ([] : List Loc) = locs at hH ⊢
  have hl : lv_has ls 3 [(0, .ref (ad 0)), (1, .int (iZ (p))), (2, .int (iZ (q)))] := hl
  refine z_aload_n hC 0 hl dX7_swap_0 rfl 0 rfl ?_
  refine z_iconst hC 1 dX7_swap_1 ?_
  refine pmW_0 hC hH 2 dX7_swap_2 (fun H locs hH => ?_)
  have hH : zH s0 s1 G as0 (mW ad G (va_up (va_up (va_up (va_up (va_up F 0 (0)) 5 ((n : Int))) 6 ((b : Int))) 12 ((un : Int))) 13 (fr)) (va_up (va_up (va_up (va_up (va_up Ar 3 (cI (n) v gv)) 4 (cI (n) wt gw)) 9 pv) 10 pw) 11 pm)) H locs := hH
  refine z_aload_n hC 5 hl dX7_swap_5 rfl 0 rfl ?_
  refine z_iload_n hC 6 hl dX7_swap_6 rfl 1 rfl ?_
  refine z_same (z_runV hC hH.2.2 hl.1 hH.1 hH.2.1 1 (As := [.int (iZ (p))]) (rest := []) (m_X7_isPlace lau s0 G _ ad (va_up (va_up (va_up (va_up (va_up F 0 (0)) 5 ((n : Int))) 6 ((b : Int))) 12 ((un : Int))) 13 (fr)) (va_up (va_up (va_up (va_up (va_up Ar 3 (cI (n) v gv)) 4 (cI (n) wt gw)) 9 pv) 10 pw) 11 pm) n p (by first | assumption | omega) (by first | assumption | omega)) (lw_V q1641 q1643 qs57 q95 q1644) ⟨rfl, by decide, by decide, by decide +kernel⟩ (q0 := 0) (ci := 0) rfl rfl rfl rfl (Nat.le_of_ble_eq_true rfl) ⟨Nat.le_of_ble_eq_true rfl, Nat.le_of_ble_eq_true rfl⟩ ⟨Nat.le_of_ble_eq_true rfl, Nat.le_of_ble_eq_true rfl⟩ dX7_swap_7) hH (fun r_7 H locs hpost hH => ?_)
  have hb_7 : (r_7 = 1 ∧ (0 ≤ p ∧ p < (n : Int))) ∨ (r_7 = 0 ∧ ¬ (0 ≤ p ∧ p < (n : Int))) := hpost
  have hH : zH s0 s1 G as0 (mW ad G (va_up (va_up (va_up (va_up (va_up F 0 (0)) 5 ((n : Int))) 6 ((b : Int))) 12 ((un : Int))) 13 (fr)) (va_up (va_up (va_up (va_up (va_up Ar 3 (cI (n) v gv)) 4 (cI (n) wt gw)) 9 pv) 10 pw) 11 pm)) H locs := hH
  refine z_st (st' := [.int (iZ (r_7))]) rfl ?_
  rcases hb_7 with ⟨rfl, hb_7⟩ | ⟨rfl, hb_7⟩
  · -- 7=1
    refine z_if_eq_f hC 10 26 dX7_swap_10 rfl (by omega) (by omega) ?_
    refine z_aload_n hC 13 hl dX7_swap_13 rfl 0 rfl ?_
    refine z_iload_n hC 14 hl dX7_swap_14 rfl 2 rfl ?_
    refine z_same (z_runV hC hH.2.2 hl.1 hH.1 hH.2.1 1 (As := [.int (iZ (q))]) (rest := []) (m_X7_isPlace lau s0 G _ ad (va_up (va_up (va_up (va_up (va_up F 0 (0)) 5 ((n : Int))) 6 ((b : Int))) 12 ((un : Int))) 13 (fr)) (va_up (va_up (va_up (va_up (va_up Ar 3 (cI (n) v gv)) 4 (cI (n) wt gw)) 9 pv) 10 pw) 11 pm) n q (by first | assumption | omega) (by first | assumption | omega)) (lw_V q1641 q1643 qs57 q95 q1644) ⟨rfl, by decide, by decide, by decide +kernel⟩ (q0 := 0) (ci := 0) rfl rfl rfl rfl (Nat.le_of_ble_eq_true rfl) ⟨Nat.le_of_ble_eq_true rfl, Nat.le_of_ble_eq_true rfl⟩ ⟨Nat.le_of_ble_eq_true rfl, Nat.le_of_ble_eq_true rfl⟩ dX7_swap_15) hH (fun r_15 H locs hpost hH => ?_)
    have hb_15 : (r_15 = 1 ∧ (0 ≤ q ∧ q < (n : Int))) ∨ (r_15 = 0 ∧ ¬ (0 ≤ q ∧ q < (n : Int))) := hpost
    have hH : zH s0 s1 G as0 (mW ad G (va_up (va_up (va_up (va_up (va_up F 0 (0)) 5 ((n : Int))) 6 ((b : Int))) 12 ((un : Int))) 13 (fr)) (va_up (va_up (va_up (va_up (va_up Ar 3 (cI (n) v gv)) 4 (cI (n) wt gw)) 9 pv) 10 pw) 11 pm)) H locs := hH
    refine z_st (st' := [.int (iZ (r_15))]) rfl ?_
    rcases hb_15 with ⟨rfl, hb_15⟩ | ⟨rfl, hb_15⟩
    · -- 15=1
      refine z_if_eq_f hC 18 26 dX7_swap_18 rfl (by omega) (by omega) ?_
      refine z_iload_n hC 21 hl dX7_swap_21 rfl 1 rfl ?_
      refine z_iload_n hC 22 hl dX7_swap_22 rfl 2 rfl ?_
      refine z_icmp_ne hC 23 28 dX7_swap_23 rfl (by omega) (by omega) (fun hb1 => ?_) (fun hb1 => ?_)
      · -- 23t
        obtain ⟨p1, rfl⟩ := Int.eq_ofNat_of_zero_le (show 0 ≤ p by omega)
        obtain ⟨q1, rfl⟩ := Int.eq_ofNat_of_zero_le (show 0 ≤ q by omega)
        refine z_aload_n hC 28 hl dX7_swap_28 rfl 0 rfl ?_
        refine z_same (z_runV hC hH.2.2 hl.1 hH.1 hH.2.1 0 (As := []) (rest := []) (m_X7_begins lau s0 G _ ad (va_up (va_up (va_up (va_up (va_up F 0 (0)) 5 ((n : Int))) 6 ((b : Int))) 12 ((un : Int))) 13 (fr)) (va_up (va_up (va_up (va_up (va_up Ar 3 (cI (n) v gv)) 4 (cI (n) wt gw)) 9 pv) 10 pw) 11 pm) n v gv wt gw (by first | assumption | omega) (by first | assumption | omega) (by first | assumption | omega)) (lw_V q1680 q1682 qs64 q95 q1683) ⟨rfl, by decide, by decide, by decide +kernel⟩ (q0 := 0) (ci := 0) rfl rfl rfl rfl (Nat.le_of_ble_eq_true rfl) ⟨Nat.le_of_ble_eq_true rfl, Nat.le_of_ble_eq_true rfl⟩ ⟨Nat.le_of_ble_eq_true rfl, Nat.le_of_ble_eq_true rfl⟩ dX7_swap_29) hH (fun u_ H locs hpost hH => ?_)
        obtain ⟨gt_29, gtw_29⟩ := u_
        have hH : zH s0 s1 G as0 (mW ad G (va_up (va_up (va_up (va_up (va_up (va_up F 0 (0)) 5 ((n : Int))) 6 ((b : Int))) 12 ((un : Int))) 13 (fr)) 33 ((n : Int))) (va_up (va_up (va_up (va_up (va_up (va_up (va_up Ar 3 (cI (n) v gv)) 4 (cI (n) wt gw)) 9 pv) 10 pw) 11 pm) 31 (cI (n) v gt_29)) 32 (cI (n) wt gtw_29))) H locs := hH
        refine z_st (st' := []) rfl ?_
        refine z_aload_n hC 32 hl dX7_swap_32 rfl 0 rfl ?_
        refine z_iload_n hC 33 hl dX7_swap_33 rfl 1 rfl ?_
        refine z_iload_n hC 34 hl dX7_swap_34 rfl 2 rfl ?_
        refine z_same (z_runV hC hH.2.2 hl.1 hH.1 hH.2.1 2 (As := [.int (iZ ((p1 : Int))), .int (iZ ((q1 : Int)))]) (rest := []) (m_X7_lies lau s0 G _ ad (va_up (va_up (va_up (va_up (va_up (va_up F 0 (0)) 5 ((n : Int))) 6 ((b : Int))) 12 ((un : Int))) 13 (fr)) 33 ((n : Int))) (va_up (va_up (va_up (va_up (va_up (va_up (va_up Ar 3 (cI (n) v gv)) 4 (cI (n) wt gw)) 9 pv) 10 pw) 11 pm) 31 (cI (n) v gt_29)) 32 (cI (n) wt gtw_29)) n v gv wt gw v wt gt_29 gtw_29 p1 q1 (by first | assumption | omega) (by first | assumption | omega) (by first | assumption | omega)) (lw_V q1728 q1730 qs71 q95 q1731) ⟨rfl, by decide, by decide, by decide +kernel⟩ (q0 := 0) (ci := 0) rfl rfl rfl rfl (Nat.le_of_ble_eq_true rfl) ⟨Nat.le_of_ble_eq_true rfl, Nat.le_of_ble_eq_true rfl⟩ ⟨Nat.le_of_ble_eq_true rfl, Nat.le_of_ble_eq_true rfl⟩ dX7_swap_35) hH (fun _ H locs hpost hH => ?_)
        have hH : zH s0 s1 G as0 (mW ad G (va_up (va_up (va_up (va_up (va_up (va_up F 0 (0)) 5 ((n : Int))) 6 ((b : Int))) 12 ((un : Int))) 13 (fr)) 33 ((n : Int))) (va_up (va_up (va_up (va_up (va_up (va_up (va_up Ar 3 (cI (n) v gv)) 4 (cI (n) wt gw)) 9 pv) 10 pw) 11 pm) 31 (cI (n) (va_up v q1 (v p1)) gt_29)) 32 (cI (n) (va_up wt q1 (wt p1)) gtw_29))) H locs := hH
        refine z_st (st' := []) rfl ?_
        refine z_aload_n hC 38 hl dX7_swap_38 rfl 0 rfl ?_
        refine z_iload_n hC 39 hl dX7_swap_39 rfl 2 rfl ?_
        refine z_iload_n hC 40 hl dX7_swap_40 rfl 1 rfl ?_
        refine z_same (z_runV hC hH.2.2 hl.1 hH.1 hH.2.1 2 (As := [.int (iZ ((q1 : Int))), .int (iZ ((p1 : Int)))]) (rest := []) (m_X7_lies lau s0 G _ ad (va_up (va_up (va_up (va_up (va_up (va_up F 0 (0)) 5 ((n : Int))) 6 ((b : Int))) 12 ((un : Int))) 13 (fr)) 33 ((n : Int))) (va_up (va_up (va_up (va_up (va_up (va_up (va_up Ar 3 (cI (n) v gv)) 4 (cI (n) wt gw)) 9 pv) 10 pw) 11 pm) 31 (cI (n) (va_up v q1 (v p1)) gt_29)) 32 (cI (n) (va_up wt q1 (wt p1)) gtw_29)) n v gv wt gw (va_up v q1 (v p1)) (va_up wt q1 (wt p1)) gt_29 gtw_29 q1 p1 (by first | assumption | omega) (by first | assumption | omega) (by first | assumption | omega)) (lw_V q1728 q1730 qs71 q95 q1731) ⟨rfl, by decide, by decide, by decide +kernel⟩ (q0 := 0) (ci := 0) rfl rfl rfl rfl (Nat.le_of_ble_eq_true rfl) ⟨Nat.le_of_ble_eq_true rfl, Nat.le_of_ble_eq_true rfl⟩ ⟨Nat.le_of_ble_eq_true rfl, Nat.le_of_ble_eq_true rfl⟩ dX7_swap_41) hH (fun _ H locs hpost hH => ?_)
        have hH : zH s0 s1 G as0 (mW ad G (va_up (va_up (va_up (va_up (va_up (va_up F 0 (0)) 5 ((n : Int))) 6 ((b : Int))) 12 ((un : Int))) 13 (fr)) 33 ((n : Int))) (va_up (va_up (va_up (va_up (va_up (va_up (va_up Ar 3 (cI (n) v gv)) 4 (cI (n) wt gw)) 9 pv) 10 pw) 11 pm) 31 (cI (n) (va_up (va_up v q1 (v p1)) p1 (v q1)) gt_29)) 32 (cI (n) (va_up (va_up wt q1 (wt p1)) p1 (wt q1)) gtw_29))) H locs := hH
        refine z_st (st' := []) rfl ?_
        refine z_aload_n hC 44 hl dX7_swap_44 rfl 0 rfl ?_
        refine z_same (z_runV hC hH.2.2 hl.1 hH.1 hH.2.1 0 (As := []) (rest := []) (m_X7_edits lau s0 G _ ad (va_up (va_up (va_up (va_up (va_up (va_up F 0 (0)) 5 ((n : Int))) 6 ((b : Int))) 12 ((un : Int))) 13 (fr)) 33 ((n : Int))) (va_up (va_up (va_up (va_up (va_up (va_up (va_up Ar 3 (cI (n) v gv)) 4 (cI (n) wt gw)) 9 pv) 10 pw) 11 pm) 31 (cI (n) (va_up (va_up v q1 (v p1)) p1 (v q1)) gt_29)) 32 (cI (n) (va_up (va_up wt q1 (wt p1)) p1 (wt q1)) gtw_29)) n v gv wt gw un hm hvv hww pv pw pm b fr n (va_up (va_up v q1 (v p1)) p1 (v q1)) (va_up (va_up wt q1 (wt p1)) p1 (wt q1)) gt_29 gtw_29 (by first | assumption | omega) (by first | assumption | omega) (by first | assumption | omega) (by first | assumption | omega) (by first | assumption | omega) (by first | assumption | omega) (by first | assumption | omega) (by exact swpF_old (P := fun x => x < 1000) hv (by omega) (by omega)) (by exact swpF_old (P := fun x => 1 ≤ x ∧ x ≤ 9) hwt (by omega) (by omega))) (lw_V q1684 q1686 qs65 q95 q1687) ⟨rfl, by decide, by decide, by decide +kernel⟩ (q0 := 0) (ci := 0) rfl rfl rfl rfl (Nat.le_of_ble_eq_true rfl) ⟨Nat.le_of_ble_eq_true rfl, Nat.le_of_ble_eq_true rfl⟩ ⟨Nat.le_of_ble_eq_true rfl, Nat.le_of_ble_eq_true rfl⟩ dX7_swap_45) hH (fun u_ H locs hpost hH => ?_)
        obtain ⟨gv1_45, gw1_45, pv2_45, pw2_45, pm2_45, un2_45, fr2_45, hm2_45, hvv2_45, hww2_45⟩ := u_
        obtain ⟨pP_45, pU_45, pE_45⟩ : (PAST un2_45 pv2_45 pw2_45 pm2_45 hm2_45 hvv2_45 hww2_45) ∧ (un2_45 ≤ 12) ∧ (EDT b n v wt un hm hvv hww fr n (va_up (va_up v q1 (v p1)) p1 (v q1)) (va_up (va_up wt q1 (wt p1)) p1 (wt q1)) un2_45 hm2_45 hvv2_45 hww2_45 fr2_45) := hpost
        have hH : zH s0 s1 G as0 (mW ad G (va_up (va_up (va_up (va_up (va_up (va_up F 0 (0)) 5 ((n : Int))) 6 ((b : Int))) 12 ((un2_45 : Int))) 13 (fr2_45)) 33 ((n : Int))) (va_up (va_up (va_up (va_up (va_up (va_up (va_up Ar 3 (cI (n) (va_up (va_up v q1 (v p1)) p1 (v q1)) gv1_45)) 4 (cI (n) (va_up (va_up wt q1 (wt p1)) p1 (wt q1)) gw1_45)) 9 pv2_45) 10 pw2_45) 11 pm2_45) 31 (cI (n) (va_up (va_up v q1 (v p1)) p1 (v q1)) gt_29)) 32 (cI (n) (va_up (va_up wt q1 (wt p1)) p1 (wt q1)) gtw_29))) H locs := hH
        refine z_st (st' := []) rfl ?_
        refine z_iconst hC 48 dX7_swap_48 ?_
        -- R49.1
        exact z_zret hC hH hQ 49 ((1, n, (va_up (va_up v q1 (v p1)) p1 (v q1)), (va_up (va_up wt q1 (wt p1)) p1 (wt q1)), (n : Int), (cI (n) (va_up (va_up v q1 (v p1)) p1 (v q1)) gt_29), (cI (n) (va_up (va_up wt q1 (wt p1)) p1 (wt q1)) gtw_29), gv1_45, gw1_45, pv2_45, pw2_45, pm2_45, un2_45, fr2_45, hm2_45, hvv2_45, hww2_45)) dX7_swap_49 (by rfl) rfl ⟨by first | (unfold Sp_swap; rw [if_neg (by omega)]; exact ⟨rfl, rfl, rfl, rfl⟩) | (unfold Sp_swap; rw [if_pos (by omega)]; first | exact ⟨rfl, rfl, rfl, rfl⟩ | exact ⟨by omega, rfl, rfl, rfl⟩), by first | assumption | omega, by exact swpF_old (P := fun x => x < 1000) hv (by omega) (by omega), by exact swpF_old (P := fun x => 1 ≤ x ∧ x ≤ 9) hwt (by omega) (by omega), by first | assumption | omega, by first | assumption | omega, by first | assumption | omega⟩ rfl (Nat.le_refl _) (Nat.le_refl _)
      · -- 23f
        refine z_iconst hC 26 dX7_swap_26 ?_
        -- R27.2
        exact z_zret hC hH hQ 27 ((0, n, v, wt, (F 33), (Ar 31), (Ar 32), gv, gw, pv, pw, pm, un, fr, hm, hvv, hww)) dX7_swap_27 (by rfl) rfl ⟨by first | (unfold Sp_swap; rw [if_neg (by omega)]; exact ⟨rfl, rfl, rfl, rfl⟩) | (unfold Sp_swap; rw [if_pos (by omega)]; first | exact ⟨rfl, rfl, rfl, rfl⟩ | exact ⟨by omega, rfl, rfl, rfl⟩), by first | assumption | omega, by first | assumption | omega, by first | assumption | omega, by exact hPA, by first | assumption | omega, by exact EDT_none⟩ rfl (Nat.le_refl _) (Nat.le_refl _)
    · -- 15=0
      refine z_if_eq_t hC 18 26 dX7_swap_18 rfl (by omega) (by omega) ?_
      refine z_iconst hC 26 dX7_swap_26 ?_
      -- R27.3
      exact z_zret hC hH hQ 27 ((0, n, v, wt, (F 33), (Ar 31), (Ar 32), gv, gw, pv, pw, pm, un, fr, hm, hvv, hww)) dX7_swap_27 (by rfl) rfl ⟨by first | (unfold Sp_swap; rw [if_neg (by omega)]; exact ⟨rfl, rfl, rfl, rfl⟩) | (unfold Sp_swap; rw [if_pos (by omega)]; first | exact ⟨rfl, rfl, rfl, rfl⟩ | exact ⟨by omega, rfl, rfl, rfl⟩), by first | assumption | omega, by first | assumption | omega, by first | assumption | omega, by exact hPA, by first | assumption | omega, by exact EDT_none⟩ rfl (Nat.le_refl _) (Nat.le_refl _)
  · -- 7=0
    refine z_if_eq_t hC 10 26 dX7_swap_10 rfl (by omega) (by omega) ?_
    refine z_iconst hC 26 dX7_swap_26 ?_
    -- R27.4
    exact z_zret hC hH hQ 27 ((0, n, v, wt, (F 33), (Ar 31), (Ar 32), gv, gw, pv, pw, pm, un, fr, hm, hvv, hww)) dX7_swap_27 (by rfl) rfl ⟨by first | (unfold Sp_swap; rw [if_neg (by omega)]; exact ⟨rfl, rfl, rfl, rfl⟩) | (unfold Sp_swap; rw [if_pos (by omega)]; first | exact ⟨rfl, rfl, rfl, rfl⟩ | exact ⟨by omega, rfl, rfl, rfl⟩), by first | assumption | omega, by first | assumption | omega, by first | assumption | omega, by exact hPA, by first | assumption | omega, by exact EDT_none⟩ rfl (Nat.le_refl _) (Nat.le_refl _)

set_option maxHeartbeats 4000000 in
set_option maxRecDepth 100000 in
theorem m_X7_fill (lau : Launch) (s0 : State) (G : zG) (sz : Nat) (ad : Nat → Nat) (F : Nat → Int) (Ar : Nat → Nat → Int) (n : Nat) (v : Nat → Nat) (gv : Nat → Int) (wt : Nat → Nat) (gw : Nat → Int) (un : Nat) (hm : Nat → Nat) (hvv : Nat → Nat → Nat) (hww : Nat → Nat → Nat) (pv : Nat → Int) (pw : Nat → Int) (pm : Nat → Int) (b : Nat) (fr : Int) (l : Int) (r : Int) (x : Int) (hn : n ≤ 120) (hv : ∀ i, i < n → v i < 1000) (hwt : ∀ i, i < n → 1 ≤ wt i ∧ wt i ≤ 9) (hun : un ≤ 12) (hPA : PAST un pv pw pm hm hvv hww) (hb : 2 ≤ b ∧ b ≤ 20) (hr_l : -2147483648 ≤ l ∧ l < 2147483648) (hr_r : -2147483648 ≤ r ∧ r < 2147483648) (hr_x : -2147483648 ≤ x ∧ x < 2147483648) : zMet (S := Int × Nat × (Nat → Nat) × (Nat → Nat) × Int × (Nat → Int) × (Nat → Int) × (Nat → Int) × (Nat → Int) × (Nat → Int) × (Nat → Int) × (Nat → Int) × Nat × Int × (Nat → Nat) × (Nat → Nat → Nat) × (Nat → Nat → Nat)) lau yX7_fill cX7_fill 5 (some .int) 6 133 0 0 s0 G sz [.ref (ad 0), .int (iZ (l)), .int (iZ (r)), .int (iZ (x))] (mW ad G (va_up (va_up (va_up (va_up F 5 ((n : Int))) 6 ((b : Int))) 12 ((un : Int))) 13 (fr)) (va_up (va_up (va_up (va_up (va_up Ar 3 (cI (n) v gv)) 4 (cI (n) wt gw)) 9 pv) 10 pw) 11 pm)) (fun ((r_, n2, v2, w2, tm, tv, tw, gv1, gw1, pv2, pw2, pm2, un2, fr2, hm2, hvv2, hww2) : Int × Nat × (Nat → Nat) × (Nat → Nat) × Int × (Nat → Int) × (Nat → Int) × (Nat → Int) × (Nat → Int) × (Nat → Int) × (Nat → Int) × (Nat → Int) × Nat × Int × (Nat → Nat) × (Nat → Nat → Nat) × (Nat → Nat → Nat)) => some (.int (iZ (r_)))) (fun ((r_, n2, v2, w2, tm, tv, tw, gv1, gw1, pv2, pw2, pm2, un2, fr2, hm2, hvv2, hww2) : Int × Nat × (Nat → Nat) × (Nat → Nat) × Int × (Nat → Int) × (Nat → Int) × (Nat → Int) × (Nat → Int) × (Nat → Int) × (Nat → Int) × (Nat → Int) × Nat × Int × (Nat → Nat) × (Nat → Nat → Nat) × (Nat → Nat → Nat)) => (Sp_fill n v wt l r x r_ n2 v2 w2) ∧ (n2 ≤ 120) ∧ (∀ i, i < n2 → v2 i < 1000) ∧ (∀ i, i < n2 → 1 ≤ w2 i ∧ w2 i ≤ 9) ∧ (PAST un2 pv2 pw2 pm2 hm2 hvv2 hww2) ∧ (un2 ≤ 12) ∧ (EDT b n v wt un hm hvv hww fr n2 v2 w2 un2 hm2 hvv2 hww2 fr2)) (fun ((r_, n2, v2, w2, tm, tv, tw, gv1, gw1, pv2, pw2, pm2, un2, fr2, hm2, hvv2, hww2) : Int × Nat × (Nat → Nat) × (Nat → Nat) × Int × (Nat → Int) × (Nat → Int) × (Nat → Int) × (Nat → Int) × (Nat → Int) × (Nat → Int) × (Nat → Int) × Nat × Int × (Nat → Nat) × (Nat → Nat → Nat) × (Nat → Nat → Nat)) => (mW ad G (va_up (va_up (va_up (va_up (va_up (va_up F 0 (0)) 5 ((n2 : Int))) 6 ((b : Int))) 12 ((un2 : Int))) 13 (fr2)) 33 (tm)) (va_up (va_up (va_up (va_up (va_up (va_up (va_up Ar 3 (cI (n2) v2 gv1)) 4 (cI (n2) w2 gw1)) 9 pv2) 10 pw2) 11 pm2) 31 tv) 32 tw))) := by
  refine zMet.of (by decide) (Nat.le_of_ble_eq_true rfl) ?_
  intro pg ev s1 mi ar bl me cd ls Q as0 hC hH hl hQ hsz
  generalize s1.heap = H at hH ⊢
  generalize ([] : List Loc) = locs at hH ⊢
  have hl : lv_has ls 5 [(0, .ref (ad 0)), (1, .int (iZ (l))), (2, .int (iZ (r))), (3, .int (iZ (x)))] := hl
  refine z_aload_n hC 0 hl dX7_fill_0 rfl 0 rfl ?_
  refine z_iconst hC 1 dX7_fill_1 ?_
  refine pmW_0 hC hH 2 dX7_fill_2 (fun H locs hH => ?_)
  have hH : zH s0 s1 G as0 (mW ad G (va_up (va_up (va_up (va_up (va_up F 0 (0)) 5 ((n : Int))) 6 ((b : Int))) 12 ((un : Int))) 13 (fr)) (va_up (va_up (va_up (va_up (va_up Ar 3 (cI (n) v gv)) 4 (cI (n) wt gw)) 9 pv) 10 pw) 11 pm)) H locs := hH
  refine z_aload_n hC 5 hl dX7_fill_5 rfl 0 rfl ?_
  refine z_iload_n hC 6 hl dX7_fill_6 rfl 1 rfl ?_
  refine z_iload_n hC 7 hl dX7_fill_7 rfl 2 rfl ?_
  refine z_same (z_runV hC hH.2.2 hl.1 hH.1 hH.2.1 2 (As := [.int (iZ (l)), .int (iZ (r))]) (rest := []) (m_X7_isSpan lau s0 G _ ad (va_up (va_up (va_up (va_up (va_up F 0 (0)) 5 ((n : Int))) 6 ((b : Int))) 12 ((un : Int))) 13 (fr)) (va_up (va_up (va_up (va_up (va_up Ar 3 (cI (n) v gv)) 4 (cI (n) wt gw)) 9 pv) 10 pw) 11 pm) n l r (by first | assumption | omega) (by first | assumption | omega) (by first | assumption | omega)) (lw_V q1712 q1714 qs68 q95 q1715) ⟨rfl, by decide, by decide, by decide +kernel⟩ (q0 := 0) (ci := 0) rfl rfl rfl rfl (Nat.le_of_ble_eq_true rfl) ⟨Nat.le_of_ble_eq_true rfl, Nat.le_of_ble_eq_true rfl⟩ ⟨Nat.le_of_ble_eq_true rfl, Nat.le_of_ble_eq_true rfl⟩ dX7_fill_8) hH (fun r_8 H locs hpost hH => ?_)
  have hb_8 : (r_8 = 1 ∧ (0 ≤ l ∧ l ≤ r ∧ r < (n : Int))) ∨ (r_8 = 0 ∧ ¬ (0 ≤ l ∧ l ≤ r ∧ r < (n : Int))) := hpost
  have hH : zH s0 s1 G as0 (mW ad G (va_up (va_up (va_up (va_up (va_up F 0 (0)) 5 ((n : Int))) 6 ((b : Int))) 12 ((un : Int))) 13 (fr)) (va_up (va_up (va_up (va_up (va_up Ar 3 (cI (n) v gv)) 4 (cI (n) wt gw)) 9 pv) 10 pw) 11 pm)) H locs := hH
  refine z_st (st' := [.int (iZ (r_8))]) rfl ?_
  rcases hb_8 with ⟨rfl, hb_8⟩ | ⟨rfl, hb_8⟩
  · -- 8=1
    refine z_if_eq_f hC 11 21 dX7_fill_11 rfl (by omega) (by omega) ?_
    refine z_iload_n hC 14 hl dX7_fill_14 rfl 3 rfl ?_
    refine z_same (z_runS hC hH.2.2 hl.1 hH.1 hH.2.1 1 (As := [.int (iZ (x))]) (rest := []) (m_X7_isValue lau s0 G _ ad (va_up (va_up (va_up (va_up (va_up F 0 (0)) 5 ((n : Int))) 6 ((b : Int))) 12 ((un : Int))) 13 (fr)) (va_up (va_up (va_up (va_up (va_up Ar 3 (cI (n) v gv)) 4 (cI (n) wt gw)) 9 pv) 10 pw) 11 pm) x (by first | assumption | omega)) (lw_S q1677 q1678 q95 q1679) ⟨by decide, by decide, by decide +kernel⟩ rfl rfl (Nat.le_of_ble_eq_true rfl) ⟨Nat.le_of_ble_eq_true rfl, Nat.le_of_ble_eq_true rfl⟩ ⟨Nat.le_of_ble_eq_true rfl, Nat.le_of_ble_eq_true rfl⟩ dX7_fill_15) hH (fun r_15 H locs hpost hH => ?_)
    have hb_15 : (r_15 = 1 ∧ (0 ≤ x ∧ x < 1000)) ∨ (r_15 = 0 ∧ ¬ (0 ≤ x ∧ x < 1000)) := hpost
    have hH : zH s0 s1 G as0 (mW ad G (va_up (va_up (va_up (va_up (va_up F 0 (0)) 5 ((n : Int))) 6 ((b : Int))) 12 ((un : Int))) 13 (fr)) (va_up (va_up (va_up (va_up (va_up Ar 3 (cI (n) v gv)) 4 (cI (n) wt gw)) 9 pv) 10 pw) 11 pm)) H locs := hH
    refine z_st (st' := [.int (iZ (r_15))]) rfl ?_
    rcases hb_15 with ⟨rfl, hb_15⟩ | ⟨rfl, hb_15⟩
    · -- 15=1
      refine z_if_ne_t hC 18 23 dX7_fill_18 rfl (by omega) (by omega) ?_
      obtain ⟨l1, rfl⟩ := Int.eq_ofNat_of_zero_le (show 0 ≤ l by omega)
      obtain ⟨r1, rfl⟩ := Int.eq_ofNat_of_zero_le (show 0 ≤ r by omega)
      obtain ⟨x1, rfl⟩ := Int.eq_ofNat_of_zero_le (show 0 ≤ x by omega)
      refine z_aload_n hC 23 hl dX7_fill_23 rfl 0 rfl ?_
      refine z_same (z_runV hC hH.2.2 hl.1 hH.1 hH.2.1 0 (As := []) (rest := []) (m_X7_begins lau s0 G _ ad (va_up (va_up (va_up (va_up (va_up F 0 (0)) 5 ((n : Int))) 6 ((b : Int))) 12 ((un : Int))) 13 (fr)) (va_up (va_up (va_up (va_up (va_up Ar 3 (cI (n) v gv)) 4 (cI (n) wt gw)) 9 pv) 10 pw) 11 pm) n v gv wt gw (by first | assumption | omega) (by first | assumption | omega) (by first | assumption | omega)) (lw_V q1680 q1682 qs64 q95 q1683) ⟨rfl, by decide, by decide, by decide +kernel⟩ (q0 := 0) (ci := 0) rfl rfl rfl rfl (Nat.le_of_ble_eq_true rfl) ⟨Nat.le_of_ble_eq_true rfl, Nat.le_of_ble_eq_true rfl⟩ ⟨Nat.le_of_ble_eq_true rfl, Nat.le_of_ble_eq_true rfl⟩ dX7_fill_24) hH (fun u_ H locs hpost hH => ?_)
      obtain ⟨gt_24, gtw_24⟩ := u_
      have hH : zH s0 s1 G as0 (mW ad G (va_up (va_up (va_up (va_up (va_up (va_up F 0 (0)) 5 ((n : Int))) 6 ((b : Int))) 12 ((un : Int))) 13 (fr)) 33 ((n : Int))) (va_up (va_up (va_up (va_up (va_up (va_up (va_up Ar 3 (cI (n) v gv)) 4 (cI (n) wt gw)) 9 pv) 10 pw) 11 pm) 31 (cI (n) v gt_24)) 32 (cI (n) wt gtw_24))) H locs := hH
      refine z_st (st' := []) rfl ?_
      refine z_iload_n hC 27 hl dX7_fill_27 rfl 1 rfl ?_
      refine z_istore (lv' := [(4, .int (iZ ((l1 : Int)))), (0, .ref (ad 0)), (1, .int (iZ ((l1 : Int)))), (2, .int (iZ ((r1 : Int)))), (3, .int (iZ ((x1 : Int))))]) hC 28 hl dX7_fill_28 (by decide) rfl (fun ls hl => ?_)
      have L30 : ∀ (N_ : Nat) (p : Nat) (tv : Nat → Nat) (H : Heap) (locs : List Loc) (ls : Array Slot), r1 + 1 - p < N_ → (l1 ≤ p) → (p ≤ r1 + 1) → (∀ j, j < n → tv j = if l1 ≤ j ∧ j < p then x1 else v j) → zH s0 s1 G as0 (mW ad G (va_up (va_up (va_up (va_up (va_up (va_up F 0 (0)) 5 ((n : Int))) 6 ((b : Int))) 12 ((un : Int))) 13 (fr)) 33 ((n : Int))) (va_up (va_up (va_up (va_up (va_up (va_up (va_up Ar 3 (cI (n) v gv)) 4 (cI (n) wt gw)) 9 pv) 10 pw) 11 pm) 31 (cI (n) tv gt_24)) 32 (cI (n) wt gtw_24))) H locs → lv_has ls 5 [(0, .ref (ad 0)), (1, .int (iZ ((l1 : Int)))), (2, .int (iZ ((r1 : Int)))), (3, .int (iZ ((x1 : Int)))), (4, .int (iZ ((p : Int))))] → W pg lau ev (zRm 6 0 0 133) s1 mi ar bl me cd H locs 0 0 Q (F0 mi 30 ls []) := by
        intro N_
        induction N_ with
        | zero => intro p tv H locs ls hd; exact absurd hd (Nat.not_lt_zero _)
        | succ N_ ih30 =>
          intro p tv H locs ls hd30 i30_1 i30_2 it hH hl
          refine z_iload hC 30 hl dX7_fill_30 4 rfl ?_
          refine z_iload_n hC 32 hl dX7_fill_32 rfl 2 rfl ?_
          refine z_icmp_gt hC 33 50 dX7_fill_33 rfl (by omega) (by omega) (fun hb1 => ?_) (fun hb1 => ?_)
          · -- 33t
            have hcv2 : (cI (n) tv gt_24) = (cI (n) (fillF v l1 r1 x1) gt_24) := by exact cI_congr (fun j hj => by rw [it j hj]; unfold fillF; rw [show p = r1 + 1 by omega]; simp only [Nat.lt_succ_iff])
            rw [hcv2] at hH
            have hH : zH s0 s1 G as0 (mW ad G (va_up (va_up (va_up (va_up (va_up (va_up F 0 (0)) 5 ((n : Int))) 6 ((b : Int))) 12 ((un : Int))) 13 (fr)) 33 ((n : Int))) (va_up (va_up (va_up (va_up (va_up (va_up (va_up Ar 3 (cI (n) v gv)) 4 (cI (n) wt gw)) 9 pv) 10 pw) 11 pm) 31 (cI (n) (fillF v l1 r1 x1) gt_24)) 32 (cI (n) wt gtw_24))) H locs := hH
            refine z_aload_n hC 50 hl dX7_fill_50 rfl 0 rfl ?_
            refine z_same (z_runV hC hH.2.2 hl.1 hH.1 hH.2.1 0 (As := []) (rest := []) (m_X7_done lau s0 G _ ad (va_up (va_up (va_up (va_up (va_up (va_up F 0 (0)) 5 ((n : Int))) 6 ((b : Int))) 12 ((un : Int))) 13 (fr)) 33 ((n : Int))) (va_up (va_up (va_up (va_up (va_up (va_up (va_up Ar 3 (cI (n) v gv)) 4 (cI (n) wt gw)) 9 pv) 10 pw) 11 pm) 31 (cI (n) (fillF v l1 r1 x1) gt_24)) 32 (cI (n) wt gtw_24)) n v gv wt gw un hm hvv hww pv pw pm b fr (fillF v l1 r1 x1) wt gt_24 gtw_24 (by first | assumption | omega) (by first | assumption | omega) (by first | assumption | omega) (by first | assumption | omega) (by first | assumption | omega) (by first | assumption | omega) (by exact fillF_old (P := fun x => x < 1000) hv (by omega)) (by exact hwt)) (lw_V q1716 q1718 qs69 q95 q1719) ⟨rfl, by decide, by decide, by decide +kernel⟩ (q0 := 0) (ci := 0) rfl rfl rfl rfl (Nat.le_of_ble_eq_true rfl) ⟨Nat.le_of_ble_eq_true rfl, Nat.le_of_ble_eq_true rfl⟩ ⟨Nat.le_of_ble_eq_true rfl, Nat.le_of_ble_eq_true rfl⟩ dX7_fill_51) hH (fun u_ H locs hpost hH => ?_)
            obtain ⟨gv1_51, gw1_51, pv2_51, pw2_51, pm2_51, un2_51, fr2_51, hm2_51, hvv2_51, hww2_51⟩ := u_
            obtain ⟨pP_51, pU_51, pE_51⟩ : (PAST un2_51 pv2_51 pw2_51 pm2_51 hm2_51 hvv2_51 hww2_51) ∧ (un2_51 ≤ 12) ∧ (EDT b n v wt un hm hvv hww fr n (fillF v l1 r1 x1) wt un2_51 hm2_51 hvv2_51 hww2_51 fr2_51) := hpost
            have hH : zH s0 s1 G as0 (mW ad G (va_up (va_up (va_up (va_up (va_up (va_up F 0 (0)) 5 ((n : Int))) 6 ((b : Int))) 12 ((un2_51 : Int))) 13 (fr2_51)) 33 ((n : Int))) (va_up (va_up (va_up (va_up (va_up (va_up (va_up Ar 3 (cI (n) (fillF v l1 r1 x1) gv1_51)) 4 (cI (n) wt gw1_51)) 9 pv2_51) 10 pw2_51) 11 pm2_51) 31 (cI (n) (fillF v l1 r1 x1) gt_24)) 32 (cI (n) wt gtw_24))) H locs := hH
            refine z_st (st' := [.int (iZ (((oth n v (fillF v l1 r1 x1) : Nat) : Int)))]) rfl ?_
            -- R54.1
            exact z_iret hC hH hQ 54 ((((oth n v (fillF v l1 r1 x1) : Nat) : Int), n, (fillF v l1 r1 x1), wt, (n : Int), (cI (n) (fillF v l1 r1 x1) gt_24), (cI (n) wt gtw_24), gv1_51, gw1_51, pv2_51, pw2_51, pm2_51, un2_51, fr2_51, hm2_51, hvv2_51, hww2_51)) dX7_fill_54 rfl ⟨by first | (unfold Sp_fill; rw [if_neg (by omega)]; exact ⟨rfl, rfl, rfl, rfl⟩) | (unfold Sp_fill; rw [if_pos (by omega)]; first | exact ⟨rfl, rfl, rfl, rfl⟩ | exact ⟨by omega, rfl, rfl, rfl⟩), by first | assumption | omega, by exact fillF_old (P := fun x => x < 1000) hv (by omega), by exact hwt, by first | assumption | omega, by first | assumption | omega, by first | assumption | omega⟩ rfl (Nat.le_refl _) (Nat.le_refl _)
          · -- 33f
            refine z_aload_n hC 36 hl dX7_fill_36 rfl 0 rfl ?_
            refine gmW_31 hC hH 37 dX7_fill_37 ?_
            refine z_iload hC 40 hl dX7_fill_40 4 rfl ?_
            refine z_iload_n hC 42 hl dX7_fill_42 rfl 3 rfl ?_
            refine smW_31 (f' := (cI (n) (va_up tv (p) (x1)) gt_24)) hC hH 43 (p) (by omega) (by omega) (by exact cI_up (by omega)) dX7_fill_43 (fun H locs hH => ?_)
            have hH : zH s0 s1 G as0 (mW ad G (va_up (va_up (va_up (va_up (va_up (va_up F 0 (0)) 5 ((n : Int))) 6 ((b : Int))) 12 ((un : Int))) 13 (fr)) 33 ((n : Int))) (va_up (va_up (va_up (va_up (va_up (va_up (va_up Ar 3 (cI (n) v gv)) 4 (cI (n) wt gw)) 9 pv) 10 pw) 11 pm) 31 (cI (n) (va_up tv (p) (x1)) gt_24)) 32 (cI (n) wt gtw_24))) H locs := hH
            refine z_iinc (lv' := [(4, .int (iZ ((p : Int) + 1))), (0, .ref (ad 0)), (1, .int (iZ ((l1 : Int)))), (2, .int (iZ ((r1 : Int)))), (3, .int (iZ ((x1 : Int))))]) hC 44 hl dX7_fill_44 4 rfl (by omega) (by decide) rfl (fun ls hl => ?_)
            refine z_goto hC 47 30 dX7_fill_47 rfl ?_
            -- J30.2
            exact ih30 (p + 1) (va_up tv (p) (x1)) _ _ _ (by omega) (by first | assumption | omega) (by first | assumption | omega) (by first | (intro j hj; rw [if_neg (by omega)]) | exact fill_s it (by omega)) hH (z_lv (lv_sub hl [1, 2, 3, 4, 0] rfl) (zcons rfl (zcons rfl (zcons rfl (zcons rfl (zcons (zpeq (by omega)) rfl))))))
      -- J30.3
      exact L30 _ l1 v _ _ _ (Nat.lt_succ_self _) (by first | assumption | omega) (by first | assumption | omega) (by first | (intro j hj; rw [if_neg (by omega)]) | exact fill_s it (by omega)) hH (lv_sub hl [1, 2, 3, 4, 0] rfl)
    · -- 15=0
      refine z_if_ne_f hC 18 23 dX7_fill_18 rfl (by omega) (by omega) ?_
      refine z_iconst hC 21 dX7_fill_21 ?_
      -- R22.4
      exact z_iret hC hH hQ 22 (((-1), n, v, wt, (F 33), (Ar 31), (Ar 32), gv, gw, pv, pw, pm, un, fr, hm, hvv, hww)) dX7_fill_22 rfl ⟨by first | (unfold Sp_fill; rw [if_neg (by omega)]; exact ⟨rfl, rfl, rfl, rfl⟩) | (unfold Sp_fill; rw [if_pos (by omega)]; first | exact ⟨rfl, rfl, rfl, rfl⟩ | exact ⟨by omega, rfl, rfl, rfl⟩), by first | assumption | omega, by first | assumption | omega, by first | assumption | omega, by exact hPA, by first | assumption | omega, by exact EDT_none⟩ rfl (Nat.le_refl _) (Nat.le_refl _)
  · -- 8=0
    refine z_if_eq_t hC 11 21 dX7_fill_11 rfl (by omega) (by omega) ?_
    refine z_iconst hC 21 dX7_fill_21 ?_
    -- R22.5
    exact z_iret hC hH hQ 22 (((-1), n, v, wt, (F 33), (Ar 31), (Ar 32), gv, gw, pv, pw, pm, un, fr, hm, hvv, hww)) dX7_fill_22 rfl ⟨by first | (unfold Sp_fill; rw [if_neg (by omega)]; exact ⟨rfl, rfl, rfl, rfl⟩) | (unfold Sp_fill; rw [if_pos (by omega)]; first | exact ⟨rfl, rfl, rfl, rfl⟩ | exact ⟨by omega, rfl, rfl, rfl⟩), by first | assumption | omega, by first | assumption | omega, by first | assumption | omega, by exact hPA, by first | assumption | omega, by exact EDT_none⟩ rfl (Nat.le_refl _) (Nat.le_refl _)

set_option maxHeartbeats 4000000 in
set_option maxRecDepth 100000 in
theorem m_X7_flip (lau : Launch) (s0 : State) (G : zG) (sz : Nat) (ad : Nat → Nat) (F : Nat → Int) (Ar : Nat → Nat → Int) (n : Nat) (v : Nat → Nat) (gv : Nat → Int) (wt : Nat → Nat) (gw : Nat → Int) (un : Nat) (hm : Nat → Nat) (hvv : Nat → Nat → Nat) (hww : Nat → Nat → Nat) (pv : Nat → Int) (pw : Nat → Int) (pm : Nat → Int) (b : Nat) (fr : Int) (l : Int) (r : Int) (hn : n ≤ 120) (hv : ∀ i, i < n → v i < 1000) (hwt : ∀ i, i < n → 1 ≤ wt i ∧ wt i ≤ 9) (hun : un ≤ 12) (hPA : PAST un pv pw pm hm hvv hww) (hb : 2 ≤ b ∧ b ≤ 20) (hr_l : -2147483648 ≤ l ∧ l < 2147483648) (hr_r : -2147483648 ≤ r ∧ r < 2147483648) : zMet (S := Int × Nat × (Nat → Nat) × (Nat → Nat) × Int × (Nat → Int) × (Nat → Int) × (Nat → Int) × (Nat → Int) × (Nat → Int) × (Nat → Int) × (Nat → Int) × Nat × Int × (Nat → Nat) × (Nat → Nat → Nat) × (Nat → Nat → Nat)) lau yX7_flip cX7_flip 4 (some .int) 6 133 0 0 s0 G sz [.ref (ad 0), .int (iZ (l)), .int (iZ (r))] (mW ad G (va_up (va_up (va_up (va_up F 5 ((n : Int))) 6 ((b : Int))) 12 ((un : Int))) 13 (fr)) (va_up (va_up (va_up (va_up (va_up Ar 3 (cI (n) v gv)) 4 (cI (n) wt gw)) 9 pv) 10 pw) 11 pm)) (fun ((r_, n2, v2, w2, tm, tv, tw, gv1, gw1, pv2, pw2, pm2, un2, fr2, hm2, hvv2, hww2) : Int × Nat × (Nat → Nat) × (Nat → Nat) × Int × (Nat → Int) × (Nat → Int) × (Nat → Int) × (Nat → Int) × (Nat → Int) × (Nat → Int) × (Nat → Int) × Nat × Int × (Nat → Nat) × (Nat → Nat → Nat) × (Nat → Nat → Nat)) => some (.int (iZ (r_)))) (fun ((r_, n2, v2, w2, tm, tv, tw, gv1, gw1, pv2, pw2, pm2, un2, fr2, hm2, hvv2, hww2) : Int × Nat × (Nat → Nat) × (Nat → Nat) × Int × (Nat → Int) × (Nat → Int) × (Nat → Int) × (Nat → Int) × (Nat → Int) × (Nat → Int) × (Nat → Int) × Nat × Int × (Nat → Nat) × (Nat → Nat → Nat) × (Nat → Nat → Nat)) => (Sp_flip n v wt l r r_ n2 v2 w2) ∧ (n2 ≤ 120) ∧ (∀ i, i < n2 → v2 i < 1000) ∧ (∀ i, i < n2 → 1 ≤ w2 i ∧ w2 i ≤ 9) ∧ (PAST un2 pv2 pw2 pm2 hm2 hvv2 hww2) ∧ (un2 ≤ 12) ∧ (EDT b n v wt un hm hvv hww fr n2 v2 w2 un2 hm2 hvv2 hww2 fr2)) (fun ((r_, n2, v2, w2, tm, tv, tw, gv1, gw1, pv2, pw2, pm2, un2, fr2, hm2, hvv2, hww2) : Int × Nat × (Nat → Nat) × (Nat → Nat) × Int × (Nat → Int) × (Nat → Int) × (Nat → Int) × (Nat → Int) × (Nat → Int) × (Nat → Int) × (Nat → Int) × Nat × Int × (Nat → Nat) × (Nat → Nat → Nat) × (Nat → Nat → Nat)) => (mW ad G (va_up (va_up (va_up (va_up (va_up (va_up F 0 (0)) 5 ((n2 : Int))) 6 ((b : Int))) 12 ((un2 : Int))) 13 (fr2)) 33 (tm)) (va_up (va_up (va_up (va_up (va_up (va_up (va_up Ar 3 (cI (n2) v2 gv1)) 4 (cI (n2) w2 gw1)) 9 pv2) 10 pw2) 11 pm2) 31 tv) 32 tw))) := by
  refine zMet.of (by decide) (Nat.le_of_ble_eq_true rfl) ?_
  intro pg ev s1 mi ar bl me cd ls Q as0 hC hH hl hQ hsz
  generalize s1.heap = H at hH ⊢
  generalize ([] : List Loc) = locs at hH ⊢
  have hl : lv_has ls 4 [(0, .ref (ad 0)), (1, .int (iZ (l))), (2, .int (iZ (r)))] := hl
  refine z_aload_n hC 0 hl dX7_flip_0 rfl 0 rfl ?_
  refine z_iconst hC 1 dX7_flip_1 ?_
  refine pmW_0 hC hH 2 dX7_flip_2 (fun H locs hH => ?_)
  have hH : zH s0 s1 G as0 (mW ad G (va_up (va_up (va_up (va_up (va_up F 0 (0)) 5 ((n : Int))) 6 ((b : Int))) 12 ((un : Int))) 13 (fr)) (va_up (va_up (va_up (va_up (va_up Ar 3 (cI (n) v gv)) 4 (cI (n) wt gw)) 9 pv) 10 pw) 11 pm)) H locs := hH
  refine z_aload_n hC 5 hl dX7_flip_5 rfl 0 rfl ?_
  refine z_iload_n hC 6 hl dX7_flip_6 rfl 1 rfl ?_
  refine z_iload_n hC 7 hl dX7_flip_7 rfl 2 rfl ?_
  refine z_same (z_runV hC hH.2.2 hl.1 hH.1 hH.2.1 2 (As := [.int (iZ (l)), .int (iZ (r))]) (rest := []) (m_X7_isSpan lau s0 G _ ad (va_up (va_up (va_up (va_up (va_up F 0 (0)) 5 ((n : Int))) 6 ((b : Int))) 12 ((un : Int))) 13 (fr)) (va_up (va_up (va_up (va_up (va_up Ar 3 (cI (n) v gv)) 4 (cI (n) wt gw)) 9 pv) 10 pw) 11 pm) n l r (by first | assumption | omega) (by first | assumption | omega) (by first | assumption | omega)) (lw_V q1712 q1714 qs68 q95 q1715) ⟨rfl, by decide, by decide, by decide +kernel⟩ (q0 := 0) (ci := 0) rfl rfl rfl rfl (Nat.le_of_ble_eq_true rfl) ⟨Nat.le_of_ble_eq_true rfl, Nat.le_of_ble_eq_true rfl⟩ ⟨Nat.le_of_ble_eq_true rfl, Nat.le_of_ble_eq_true rfl⟩ dX7_flip_8) hH (fun r_8 H locs hpost hH => ?_)
  have hb_8 : (r_8 = 1 ∧ (0 ≤ l ∧ l ≤ r ∧ r < (n : Int))) ∨ (r_8 = 0 ∧ ¬ (0 ≤ l ∧ l ≤ r ∧ r < (n : Int))) := hpost
  have hH : zH s0 s1 G as0 (mW ad G (va_up (va_up (va_up (va_up (va_up F 0 (0)) 5 ((n : Int))) 6 ((b : Int))) 12 ((un : Int))) 13 (fr)) (va_up (va_up (va_up (va_up (va_up Ar 3 (cI (n) v gv)) 4 (cI (n) wt gw)) 9 pv) 10 pw) 11 pm)) H locs := hH
  refine z_st (st' := [.int (iZ (r_8))]) rfl ?_
  rcases hb_8 with ⟨rfl, hb_8⟩ | ⟨rfl, hb_8⟩
  · -- 8=1
    refine z_if_ne_t hC 11 16 dX7_flip_11 rfl (by omega) (by omega) ?_
    obtain ⟨l1, rfl⟩ := Int.eq_ofNat_of_zero_le (show 0 ≤ l by omega)
    obtain ⟨r1, rfl⟩ := Int.eq_ofNat_of_zero_le (show 0 ≤ r by omega)
    refine z_aload_n hC 16 hl dX7_flip_16 rfl 0 rfl ?_
    refine z_same (z_runV hC hH.2.2 hl.1 hH.1 hH.2.1 0 (As := []) (rest := []) (m_X7_begins lau s0 G _ ad (va_up (va_up (va_up (va_up (va_up F 0 (0)) 5 ((n : Int))) 6 ((b : Int))) 12 ((un : Int))) 13 (fr)) (va_up (va_up (va_up (va_up (va_up Ar 3 (cI (n) v gv)) 4 (cI (n) wt gw)) 9 pv) 10 pw) 11 pm) n v gv wt gw (by first | assumption | omega) (by first | assumption | omega) (by first | assumption | omega)) (lw_V q1680 q1682 qs64 q95 q1683) ⟨rfl, by decide, by decide, by decide +kernel⟩ (q0 := 0) (ci := 0) rfl rfl rfl rfl (Nat.le_of_ble_eq_true rfl) ⟨Nat.le_of_ble_eq_true rfl, Nat.le_of_ble_eq_true rfl⟩ ⟨Nat.le_of_ble_eq_true rfl, Nat.le_of_ble_eq_true rfl⟩ dX7_flip_17) hH (fun u_ H locs hpost hH => ?_)
    obtain ⟨gt_17, gtw_17⟩ := u_
    have hH : zH s0 s1 G as0 (mW ad G (va_up (va_up (va_up (va_up (va_up (va_up F 0 (0)) 5 ((n : Int))) 6 ((b : Int))) 12 ((un : Int))) 13 (fr)) 33 ((n : Int))) (va_up (va_up (va_up (va_up (va_up (va_up (va_up Ar 3 (cI (n) v gv)) 4 (cI (n) wt gw)) 9 pv) 10 pw) 11 pm) 31 (cI (n) v gt_17)) 32 (cI (n) wt gtw_17))) H locs := hH
    refine z_st (st' := []) rfl ?_
    refine z_iload_n hC 20 hl dX7_flip_20 rfl 1 rfl ?_
    refine z_istore_n (lv' := [(3, .int (iZ ((l1 : Int)))), (0, .ref (ad 0)), (1, .int (iZ ((l1 : Int)))), (2, .int (iZ ((r1 : Int))))]) hC 21 hl dX7_flip_21 rfl (by decide) rfl (fun ls hl => ?_)
    have L22 : ∀ (N_ : Nat) (p : Nat) (tv : Nat → Nat) (tw : Nat → Nat) (H : Heap) (locs : List Loc) (ls : Array Slot), r1 + 1 - p < N_ → (l1 ≤ p) → (p ≤ r1 + 1) → (∀ j, j < n → tv j = if l1 ≤ j ∧ j ≤ r1 ∧ l1 + r1 - j < p then v (l1 + r1 - j) else v j) → (∀ j, j < n → tw j = if l1 ≤ j ∧ j ≤ r1 ∧ l1 + r1 - j < p then wt (l1 + r1 - j) else wt j) → zH s0 s1 G as0 (mW ad G (va_up (va_up (va_up (va_up (va_up (va_up F 0 (0)) 5 ((n : Int))) 6 ((b : Int))) 12 ((un : Int))) 13 (fr)) 33 ((n : Int))) (va_up (va_up (va_up (va_up (va_up (va_up (va_up Ar 3 (cI (n) v gv)) 4 (cI (n) wt gw)) 9 pv) 10 pw) 11 pm) 31 (cI (n) tv gt_17)) 32 (cI (n) tw gtw_17))) H locs → lv_has ls 4 [(0, .ref (ad 0)), (1, .int (iZ ((l1 : Int)))), (2, .int (iZ ((r1 : Int)))), (3, .int (iZ ((p : Int))))] → W pg lau ev (zRm 6 0 0 133) s1 mi ar bl me cd H locs 0 0 Q (F0 mi 22 ls []) := by
      intro N_
      induction N_ with
      | zero => intro p tv tw H locs ls hd; exact absurd hd (Nat.not_lt_zero _)
      | succ N_ ih22 =>
        intro p tv tw H locs ls hd22 i22_1 i22_2 it iw hH hl
        refine z_iload_n hC 22 hl dX7_flip_22 rfl 3 rfl ?_
        refine z_iload_n hC 23 hl dX7_flip_23 rfl 2 rfl ?_
        refine z_icmp_gt hC 24 43 dX7_flip_24 rfl (by omega) (by omega) (fun hb1 => ?_) (fun hb1 => ?_)
        · -- 24t
          have hcv2 : (cI (n) tv gt_17) = (cI (n) (flpF v l1 r1) gt_17) := by exact cI_congr (fun j hj => flip_e it (by omega) j hj)
          rw [hcv2] at hH
          have hH : zH s0 s1 G as0 (mW ad G (va_up (va_up (va_up (va_up (va_up (va_up F 0 (0)) 5 ((n : Int))) 6 ((b : Int))) 12 ((un : Int))) 13 (fr)) 33 ((n : Int))) (va_up (va_up (va_up (va_up (va_up (va_up (va_up Ar 3 (cI (n) v gv)) 4 (cI (n) wt gw)) 9 pv) 10 pw) 11 pm) 31 (cI (n) (flpF v l1 r1) gt_17)) 32 (cI (n) tw gtw_17))) H locs := hH
          have hcv3 : (cI (n) tw gtw_17) = (cI (n) (flpF wt l1 r1) gtw_17) := by exact cI_congr (fun j hj => flip_e iw (by omega) j hj)
          rw [hcv3] at hH
          have hH : zH s0 s1 G as0 (mW ad G (va_up (va_up (va_up (va_up (va_up (va_up F 0 (0)) 5 ((n : Int))) 6 ((b : Int))) 12 ((un : Int))) 13 (fr)) 33 ((n : Int))) (va_up (va_up (va_up (va_up (va_up (va_up (va_up Ar 3 (cI (n) v gv)) 4 (cI (n) wt gw)) 9 pv) 10 pw) 11 pm) 31 (cI (n) (flpF v l1 r1) gt_17)) 32 (cI (n) (flpF wt l1 r1) gtw_17))) H locs := hH
          refine z_aload_n hC 43 hl dX7_flip_43 rfl 0 rfl ?_
          refine z_same (z_runV hC hH.2.2 hl.1 hH.1 hH.2.1 0 (As := []) (rest := []) (m_X7_done lau s0 G _ ad (va_up (va_up (va_up (va_up (va_up (va_up F 0 (0)) 5 ((n : Int))) 6 ((b : Int))) 12 ((un : Int))) 13 (fr)) 33 ((n : Int))) (va_up (va_up (va_up (va_up (va_up (va_up (va_up Ar 3 (cI (n) v gv)) 4 (cI (n) wt gw)) 9 pv) 10 pw) 11 pm) 31 (cI (n) (flpF v l1 r1) gt_17)) 32 (cI (n) (flpF wt l1 r1) gtw_17)) n v gv wt gw un hm hvv hww pv pw pm b fr (flpF v l1 r1) (flpF wt l1 r1) gt_17 gtw_17 (by first | assumption | omega) (by first | assumption | omega) (by first | assumption | omega) (by first | assumption | omega) (by first | assumption | omega) (by first | assumption | omega) (by exact flpF_old (P := fun x => x < 1000) hv (by omega)) (by exact flpF_old (P := fun x => 1 ≤ x ∧ x ≤ 9) hwt (by omega))) (lw_V q1716 q1718 qs69 q95 q1719) ⟨rfl, by decide, by decide, by decide +kernel⟩ (q0 := 0) (ci := 0) rfl rfl rfl rfl (Nat.le_of_ble_eq_true rfl) ⟨Nat.le_of_ble_eq_true rfl, Nat.le_of_ble_eq_true rfl⟩ ⟨Nat.le_of_ble_eq_true rfl, Nat.le_of_ble_eq_true rfl⟩ dX7_flip_44) hH (fun u_ H locs hpost hH => ?_)
          obtain ⟨gv1_44, gw1_44, pv2_44, pw2_44, pm2_44, un2_44, fr2_44, hm2_44, hvv2_44, hww2_44⟩ := u_
          obtain ⟨pP_44, pU_44, pE_44⟩ : (PAST un2_44 pv2_44 pw2_44 pm2_44 hm2_44 hvv2_44 hww2_44) ∧ (un2_44 ≤ 12) ∧ (EDT b n v wt un hm hvv hww fr n (flpF v l1 r1) (flpF wt l1 r1) un2_44 hm2_44 hvv2_44 hww2_44 fr2_44) := hpost
          have hH : zH s0 s1 G as0 (mW ad G (va_up (va_up (va_up (va_up (va_up (va_up F 0 (0)) 5 ((n : Int))) 6 ((b : Int))) 12 ((un2_44 : Int))) 13 (fr2_44)) 33 ((n : Int))) (va_up (va_up (va_up (va_up (va_up (va_up (va_up Ar 3 (cI (n) (flpF v l1 r1) gv1_44)) 4 (cI (n) (flpF wt l1 r1) gw1_44)) 9 pv2_44) 10 pw2_44) 11 pm2_44) 31 (cI (n) (flpF v l1 r1) gt_17)) 32 (cI (n) (flpF wt l1 r1) gtw_17))) H locs := hH
          refine z_st (st' := [.int (iZ (((oth n v (flpF v l1 r1) : Nat) : Int)))]) rfl ?_
          -- R47.1
          exact z_iret hC hH hQ 47 ((((oth n v (flpF v l1 r1) : Nat) : Int), n, (flpF v l1 r1), (flpF wt l1 r1), (n : Int), (cI (n) (flpF v l1 r1) gt_17), (cI (n) (flpF wt l1 r1) gtw_17), gv1_44, gw1_44, pv2_44, pw2_44, pm2_44, un2_44, fr2_44, hm2_44, hvv2_44, hww2_44)) dX7_flip_47 rfl ⟨by first | (unfold Sp_flip; rw [if_neg (by omega)]; exact ⟨rfl, rfl, rfl, rfl⟩) | (unfold Sp_flip; rw [if_pos (by omega)]; first | exact ⟨rfl, rfl, rfl, rfl⟩ | exact ⟨by omega, rfl, rfl, rfl⟩), by first | assumption | omega, by exact flpF_old (P := fun x => x < 1000) hv (by omega), by exact flpF_old (P := fun x => 1 ≤ x ∧ x ≤ 9) hwt (by omega), by first | assumption | omega, by first | assumption | omega, by first | assumption | omega⟩ rfl (Nat.le_refl _) (Nat.le_refl _)
        · -- 24f
          refine z_aload_n hC 27 hl dX7_flip_27 rfl 0 rfl ?_
          refine z_iload_n hC 28 hl dX7_flip_28 rfl 3 rfl ?_
          refine z_iload_n hC 29 hl dX7_flip_29 rfl 1 rfl ?_
          refine z_iload_n hC 30 hl dX7_flip_30 rfl 2 rfl ?_
          refine z_iadd (e := (l1 : Int) + (r1 : Int)) hC 31 dX7_flip_31 rfl ?_
          refine z_iload_n hC 32 hl dX7_flip_32 rfl 3 rfl ?_
          refine z_isub (e := (l1 : Int) + (r1 : Int) - (p : Int)) hC 33 dX7_flip_33 rfl ?_
          refine z_st (st' := [.int (iZ (((l1 + r1 - p : Nat) : Int))), .int (iZ ((p : Int))), .ref (ad 0)]) (zcons (zieq (by omega)) (zcons rfl rfl)) ?_
          refine z_same (z_runV hC hH.2.2 hl.1 hH.1 hH.2.1 2 (As := [.int (iZ ((p : Int))), .int (iZ (((l1 + r1 - p : Nat) : Int)))]) (rest := []) (m_X7_lies lau s0 G _ ad (va_up (va_up (va_up (va_up (va_up (va_up F 0 (0)) 5 ((n : Int))) 6 ((b : Int))) 12 ((un : Int))) 13 (fr)) 33 ((n : Int))) (va_up (va_up (va_up (va_up (va_up (va_up (va_up Ar 3 (cI (n) v gv)) 4 (cI (n) wt gw)) 9 pv) 10 pw) 11 pm) 31 (cI (n) tv gt_17)) 32 (cI (n) tw gtw_17)) n v gv wt gw tv tw gt_17 gtw_17 p (l1 + r1 - p) (by first | assumption | omega) (by first | assumption | omega) (by first | assumption | omega)) (lw_V q1728 q1730 qs71 q95 q1731) ⟨rfl, by decide, by decide, by decide +kernel⟩ (q0 := 0) (ci := 0) rfl rfl rfl rfl (Nat.le_of_ble_eq_true rfl) ⟨Nat.le_of_ble_eq_true rfl, Nat.le_of_ble_eq_true rfl⟩ ⟨Nat.le_of_ble_eq_true rfl, Nat.le_of_ble_eq_true rfl⟩ dX7_flip_34) hH (fun _ H locs hpost hH => ?_)
          have hH : zH s0 s1 G as0 (mW ad G (va_up (va_up (va_up (va_up (va_up (va_up F 0 (0)) 5 ((n : Int))) 6 ((b : Int))) 12 ((un : Int))) 13 (fr)) 33 ((n : Int))) (va_up (va_up (va_up (va_up (va_up (va_up (va_up Ar 3 (cI (n) v gv)) 4 (cI (n) wt gw)) 9 pv) 10 pw) 11 pm) 31 (cI (n) (va_up tv (l1 + r1 - p) (v p)) gt_17)) 32 (cI (n) (va_up tw (l1 + r1 - p) (wt p)) gtw_17))) H locs := hH
          refine z_st (st' := []) rfl ?_
          refine z_iinc (lv' := [(3, .int (iZ ((p : Int) + 1))), (0, .ref (ad 0)), (1, .int (iZ ((l1 : Int)))), (2, .int (iZ ((r1 : Int))))]) hC 37 hl dX7_flip_37 3 rfl (by omega) (by decide) rfl (fun ls hl => ?_)
          refine z_goto hC 40 22 dX7_flip_40 rfl ?_
          -- J22.2
          exact ih22 (p + 1) (va_up tv (l1 + r1 - p) (v p)) (va_up tw (l1 + r1 - p) (wt p)) _ _ _ (by omega) (by first | assumption | omega) (by first | assumption | omega) (by first | (intro j hj; rw [if_neg (by omega)]) | exact flip_s it (by omega) (by omega)) (by first | (intro j hj; rw [if_neg (by omega)]) | exact flip_s iw (by omega) (by omega)) hH (z_lv (lv_sub hl [1, 2, 3, 0] rfl) (zcons rfl (zcons rfl (zcons rfl (zcons (zpeq (by omega)) rfl)))))
    -- J22.3
    exact L22 _ l1 v wt _ _ _ (Nat.lt_succ_self _) (by first | assumption | omega) (by first | assumption | omega) (by first | (intro j hj; rw [if_neg (by omega)]) | exact flip_s it (by omega) (by omega)) (by first | (intro j hj; rw [if_neg (by omega)]) | exact flip_s iw (by omega) (by omega)) hH (lv_sub hl [1, 2, 3, 0] rfl)
  · -- 8=0
    refine z_if_ne_f hC 11 16 dX7_flip_11 rfl (by omega) (by omega) ?_
    refine z_iconst hC 14 dX7_flip_14 ?_
    -- R15.4
    exact z_iret hC hH hQ 15 (((-1), n, v, wt, (F 33), (Ar 31), (Ar 32), gv, gw, pv, pw, pm, un, fr, hm, hvv, hww)) dX7_flip_15 rfl ⟨by first | (unfold Sp_flip; rw [if_neg (by omega)]; exact ⟨rfl, rfl, rfl, rfl⟩) | (unfold Sp_flip; rw [if_pos (by omega)]; first | exact ⟨rfl, rfl, rfl, rfl⟩ | exact ⟨by omega, rfl, rfl, rfl⟩), by first | assumption | omega, by first | assumption | omega, by first | assumption | omega, by exact hPA, by first | assumption | omega, by exact EDT_none⟩ rfl (Nat.le_refl _) (Nat.le_refl _)

set_option maxHeartbeats 4000000 in
set_option maxRecDepth 100000 in
theorem m_X7_shift (lau : Launch) (s0 : State) (G : zG) (sz : Nat) (ad : Nat → Nat) (F : Nat → Int) (Ar : Nat → Nat → Int) (n : Nat) (v : Nat → Nat) (gv : Nat → Int) (wt : Nat → Nat) (gw : Nat → Int) (un : Nat) (hm : Nat → Nat) (hvv : Nat → Nat → Nat) (hww : Nat → Nat → Nat) (pv : Nat → Int) (pw : Nat → Int) (pm : Nat → Int) (b : Nat) (fr : Int) (l : Int) (r : Int) (k : Int) (hn : n ≤ 120) (hv : ∀ i, i < n → v i < 1000) (hwt : ∀ i, i < n → 1 ≤ wt i ∧ wt i ≤ 9) (hun : un ≤ 12) (hPA : PAST un pv pw pm hm hvv hww) (hb : 2 ≤ b ∧ b ≤ 20) (hr_l : -2147483648 ≤ l ∧ l < 2147483648) (hr_r : -2147483648 ≤ r ∧ r < 2147483648) (hr_k : -2147483648 ≤ k ∧ k < 2147483648) : zMet (S := Int × Nat × (Nat → Nat) × (Nat → Nat) × Int × (Nat → Int) × (Nat → Int) × (Nat → Int) × (Nat → Int) × (Nat → Int) × (Nat → Int) × (Nat → Int) × Nat × Int × (Nat → Nat) × (Nat → Nat → Nat) × (Nat → Nat → Nat)) lau yX7_shift cX7_shift 5 (some .int) 6 133 0 0 s0 G sz [.ref (ad 0), .int (iZ (l)), .int (iZ (r)), .int (iZ (k))] (mW ad G (va_up (va_up (va_up (va_up F 5 ((n : Int))) 6 ((b : Int))) 12 ((un : Int))) 13 (fr)) (va_up (va_up (va_up (va_up (va_up Ar 3 (cI (n) v gv)) 4 (cI (n) wt gw)) 9 pv) 10 pw) 11 pm)) (fun ((r_, n2, v2, w2, tm, tv, tw, gv1, gw1, pv2, pw2, pm2, un2, fr2, hm2, hvv2, hww2) : Int × Nat × (Nat → Nat) × (Nat → Nat) × Int × (Nat → Int) × (Nat → Int) × (Nat → Int) × (Nat → Int) × (Nat → Int) × (Nat → Int) × (Nat → Int) × Nat × Int × (Nat → Nat) × (Nat → Nat → Nat) × (Nat → Nat → Nat)) => some (.int (iZ (r_)))) (fun ((r_, n2, v2, w2, tm, tv, tw, gv1, gw1, pv2, pw2, pm2, un2, fr2, hm2, hvv2, hww2) : Int × Nat × (Nat → Nat) × (Nat → Nat) × Int × (Nat → Int) × (Nat → Int) × (Nat → Int) × (Nat → Int) × (Nat → Int) × (Nat → Int) × (Nat → Int) × Nat × Int × (Nat → Nat) × (Nat → Nat → Nat) × (Nat → Nat → Nat)) => (Sp_shift n v wt l r k r_ n2 v2 w2) ∧ (n2 ≤ 120) ∧ (∀ i, i < n2 → v2 i < 1000) ∧ (∀ i, i < n2 → 1 ≤ w2 i ∧ w2 i ≤ 9) ∧ (PAST un2 pv2 pw2 pm2 hm2 hvv2 hww2) ∧ (un2 ≤ 12) ∧ (EDT b n v wt un hm hvv hww fr n2 v2 w2 un2 hm2 hvv2 hww2 fr2)) (fun ((r_, n2, v2, w2, tm, tv, tw, gv1, gw1, pv2, pw2, pm2, un2, fr2, hm2, hvv2, hww2) : Int × Nat × (Nat → Nat) × (Nat → Nat) × Int × (Nat → Int) × (Nat → Int) × (Nat → Int) × (Nat → Int) × (Nat → Int) × (Nat → Int) × (Nat → Int) × Nat × Int × (Nat → Nat) × (Nat → Nat → Nat) × (Nat → Nat → Nat)) => (mW ad G (va_up (va_up (va_up (va_up (va_up (va_up F 0 (0)) 5 ((n2 : Int))) 6 ((b : Int))) 12 ((un2 : Int))) 13 (fr2)) 33 (tm)) (va_up (va_up (va_up (va_up (va_up (va_up (va_up Ar 3 (cI (n2) v2 gv1)) 4 (cI (n2) w2 gw1)) 9 pv2) 10 pw2) 11 pm2) 31 tv) 32 tw))) := by
  refine zMet.of (by decide) (Nat.le_of_ble_eq_true rfl) ?_
  intro pg ev s1 mi ar bl me cd ls Q as0 hC hH hl hQ hsz
  generalize s1.heap = H at hH ⊢
  generalize ([] : List Loc) = locs at hH ⊢
  have hl : lv_has ls 5 [(0, .ref (ad 0)), (1, .int (iZ (l))), (2, .int (iZ (r))), (3, .int (iZ (k)))] := hl
  refine z_aload_n hC 0 hl dX7_shift_0 rfl 0 rfl ?_
  refine z_iconst hC 1 dX7_shift_1 ?_
  refine pmW_0 hC hH 2 dX7_shift_2 (fun H locs hH => ?_)
  have hH : zH s0 s1 G as0 (mW ad G (va_up (va_up (va_up (va_up (va_up F 0 (0)) 5 ((n : Int))) 6 ((b : Int))) 12 ((un : Int))) 13 (fr)) (va_up (va_up (va_up (va_up (va_up Ar 3 (cI (n) v gv)) 4 (cI (n) wt gw)) 9 pv) 10 pw) 11 pm)) H locs := hH
  refine z_aload_n hC 5 hl dX7_shift_5 rfl 0 rfl ?_
  refine z_iload_n hC 6 hl dX7_shift_6 rfl 1 rfl ?_
  refine z_iload_n hC 7 hl dX7_shift_7 rfl 2 rfl ?_
  refine z_same (z_runV hC hH.2.2 hl.1 hH.1 hH.2.1 2 (As := [.int (iZ (l)), .int (iZ (r))]) (rest := []) (m_X7_isSpan lau s0 G _ ad (va_up (va_up (va_up (va_up (va_up F 0 (0)) 5 ((n : Int))) 6 ((b : Int))) 12 ((un : Int))) 13 (fr)) (va_up (va_up (va_up (va_up (va_up Ar 3 (cI (n) v gv)) 4 (cI (n) wt gw)) 9 pv) 10 pw) 11 pm) n l r (by first | assumption | omega) (by first | assumption | omega) (by first | assumption | omega)) (lw_V q1712 q1714 qs68 q95 q1715) ⟨rfl, by decide, by decide, by decide +kernel⟩ (q0 := 0) (ci := 0) rfl rfl rfl rfl (Nat.le_of_ble_eq_true rfl) ⟨Nat.le_of_ble_eq_true rfl, Nat.le_of_ble_eq_true rfl⟩ ⟨Nat.le_of_ble_eq_true rfl, Nat.le_of_ble_eq_true rfl⟩ dX7_shift_8) hH (fun r_8 H locs hpost hH => ?_)
  have hb_8 : (r_8 = 1 ∧ (0 ≤ l ∧ l ≤ r ∧ r < (n : Int))) ∨ (r_8 = 0 ∧ ¬ (0 ≤ l ∧ l ≤ r ∧ r < (n : Int))) := hpost
  have hH : zH s0 s1 G as0 (mW ad G (va_up (va_up (va_up (va_up (va_up F 0 (0)) 5 ((n : Int))) 6 ((b : Int))) 12 ((un : Int))) 13 (fr)) (va_up (va_up (va_up (va_up (va_up Ar 3 (cI (n) v gv)) 4 (cI (n) wt gw)) 9 pv) 10 pw) 11 pm)) H locs := hH
  refine z_st (st' := [.int (iZ (r_8))]) rfl ?_
  rcases hb_8 with ⟨rfl, hb_8⟩ | ⟨rfl, hb_8⟩
  · -- 8=1
    refine z_if_eq_f hC 11 27 dX7_shift_11 rfl (by omega) (by omega) ?_
    refine z_iload_n hC 14 hl dX7_shift_14 rfl 3 rfl ?_
    refine z_if_lt hC 15 27 dX7_shift_15 rfl (by omega) (fun hb1 => ?_) (fun hb1 => ?_)
    · -- 15t
      refine z_iconst hC 27 dX7_shift_27 ?_
      -- R28.1
      exact z_iret hC hH hQ 28 (((-1), n, v, wt, (F 33), (Ar 31), (Ar 32), gv, gw, pv, pw, pm, un, fr, hm, hvv, hww)) dX7_shift_28 rfl ⟨by first | (unfold Sp_shift; rw [if_neg (by omega)]; exact ⟨rfl, rfl, rfl, rfl⟩) | (unfold Sp_shift; rw [if_pos (by omega)]; first | exact ⟨rfl, rfl, rfl, rfl⟩ | exact ⟨by omega, rfl, rfl, rfl⟩), by first | assumption | omega, by first | assumption | omega, by first | assumption | omega, by exact hPA, by first | assumption | omega, by exact EDT_none⟩ rfl (Nat.le_refl _) (Nat.le_refl _)
    · -- 15f
      refine z_iload_n hC 18 hl dX7_shift_18 rfl 3 rfl ?_
      refine z_iload_n hC 19 hl dX7_shift_19 rfl 2 rfl ?_
      refine z_iload_n hC 20 hl dX7_shift_20 rfl 1 rfl ?_
      refine z_isub (e := r - l) hC 21 dX7_shift_21 rfl ?_
      refine z_iconst hC 22 dX7_shift_22 ?_
      refine z_iadd (e := r - l + 1) hC 23 dX7_shift_23 rfl ?_
      refine z_icmp_le hC 24 29 dX7_shift_24 rfl (by omega) (by omega) (fun hb2 => ?_) (fun hb2 => ?_)
      · -- 24t
        obtain ⟨l1, rfl⟩ := Int.eq_ofNat_of_zero_le (show 0 ≤ l by omega)
        obtain ⟨r1, rfl⟩ := Int.eq_ofNat_of_zero_le (show 0 ≤ r by omega)
        obtain ⟨k1, rfl⟩ := Int.eq_ofNat_of_zero_le (show 0 ≤ k by omega)
        refine z_aload_n hC 29 hl dX7_shift_29 rfl 0 rfl ?_
        refine z_same (z_runV hC hH.2.2 hl.1 hH.1 hH.2.1 0 (As := []) (rest := []) (m_X7_begins lau s0 G _ ad (va_up (va_up (va_up (va_up (va_up F 0 (0)) 5 ((n : Int))) 6 ((b : Int))) 12 ((un : Int))) 13 (fr)) (va_up (va_up (va_up (va_up (va_up Ar 3 (cI (n) v gv)) 4 (cI (n) wt gw)) 9 pv) 10 pw) 11 pm) n v gv wt gw (by first | assumption | omega) (by first | assumption | omega) (by first | assumption | omega)) (lw_V q1680 q1682 qs64 q95 q1683) ⟨rfl, by decide, by decide, by decide +kernel⟩ (q0 := 0) (ci := 0) rfl rfl rfl rfl (Nat.le_of_ble_eq_true rfl) ⟨Nat.le_of_ble_eq_true rfl, Nat.le_of_ble_eq_true rfl⟩ ⟨Nat.le_of_ble_eq_true rfl, Nat.le_of_ble_eq_true rfl⟩ dX7_shift_30) hH (fun u_ H locs hpost hH => ?_)
        obtain ⟨gt_30, gtw_30⟩ := u_
        have hH : zH s0 s1 G as0 (mW ad G (va_up (va_up (va_up (va_up (va_up (va_up F 0 (0)) 5 ((n : Int))) 6 ((b : Int))) 12 ((un : Int))) 13 (fr)) 33 ((n : Int))) (va_up (va_up (va_up (va_up (va_up (va_up (va_up Ar 3 (cI (n) v gv)) 4 (cI (n) wt gw)) 9 pv) 10 pw) 11 pm) 31 (cI (n) v gt_30)) 32 (cI (n) wt gtw_30))) H locs := hH
        refine z_st (st' := []) rfl ?_
        refine z_iload_n hC 33 hl dX7_shift_33 rfl 1 rfl ?_
        refine z_istore (lv' := [(4, .int (iZ ((l1 : Int)))), (0, .ref (ad 0)), (1, .int (iZ ((l1 : Int)))), (2, .int (iZ ((r1 : Int)))), (3, .int (iZ ((k1 : Int))))]) hC 34 hl dX7_shift_34 (by decide) rfl (fun ls hl => ?_)
        have L36 : ∀ (N_ : Nat) (p : Nat) (tv : Nat → Nat) (tw : Nat → Nat) (H : Heap) (locs : List Loc) (ls : Array Slot), r1 + 1 - p < N_ → (l1 ≤ p) → (p ≤ r1 + 1) → (SHI v tv l1 r1 k1 p) → (SHI wt tw l1 r1 k1 p) → zH s0 s1 G as0 (mW ad G (va_up (va_up (va_up (va_up (va_up (va_up F 0 (0)) 5 ((n : Int))) 6 ((b : Int))) 12 ((un : Int))) 13 (fr)) 33 ((n : Int))) (va_up (va_up (va_up (va_up (va_up (va_up (va_up Ar 3 (cI (n) v gv)) 4 (cI (n) wt gw)) 9 pv) 10 pw) 11 pm) 31 (cI (n) tv gt_30)) 32 (cI (n) tw gtw_30))) H locs → lv_has ls 5 [(0, .ref (ad 0)), (1, .int (iZ ((l1 : Int)))), (2, .int (iZ ((r1 : Int)))), (3, .int (iZ ((k1 : Int)))), (4, .int (iZ ((p : Int))))] → W pg lau ev (zRm 6 0 0 133) s1 mi ar bl me cd H locs 0 0 Q (F0 mi 36 ls []) := by
          intro N_
          induction N_ with
          | zero => intro p tv tw H locs ls hd; exact absurd hd (Nat.not_lt_zero _)
          | succ N_ ih36 =>
            intro p tv tw H locs ls hd36 i36_1 i36_2 it iw hH hl
            refine z_iload hC 36 hl dX7_shift_36 4 rfl ?_
            refine z_iload_n hC 38 hl dX7_shift_38 rfl 2 rfl ?_
            refine z_icmp_gt hC 39 68 dX7_shift_39 rfl (by omega) (by omega) (fun hb3 => ?_) (fun hb3 => ?_)
            · -- 39t
              have hcv4 : (cI (n) tv gt_30) = (cI (n) (shfF v l1 r1 k1) gt_30) := by exact cI_congr (fun j hj => SHI_e it (by omega) (by omega) (by omega) j)
              rw [hcv4] at hH
              have hH : zH s0 s1 G as0 (mW ad G (va_up (va_up (va_up (va_up (va_up (va_up F 0 (0)) 5 ((n : Int))) 6 ((b : Int))) 12 ((un : Int))) 13 (fr)) 33 ((n : Int))) (va_up (va_up (va_up (va_up (va_up (va_up (va_up Ar 3 (cI (n) v gv)) 4 (cI (n) wt gw)) 9 pv) 10 pw) 11 pm) 31 (cI (n) (shfF v l1 r1 k1) gt_30)) 32 (cI (n) tw gtw_30))) H locs := hH
              have hcv5 : (cI (n) tw gtw_30) = (cI (n) (shfF wt l1 r1 k1) gtw_30) := by exact cI_congr (fun j hj => SHI_e iw (by omega) (by omega) (by omega) j)
              rw [hcv5] at hH
              have hH : zH s0 s1 G as0 (mW ad G (va_up (va_up (va_up (va_up (va_up (va_up F 0 (0)) 5 ((n : Int))) 6 ((b : Int))) 12 ((un : Int))) 13 (fr)) 33 ((n : Int))) (va_up (va_up (va_up (va_up (va_up (va_up (va_up Ar 3 (cI (n) v gv)) 4 (cI (n) wt gw)) 9 pv) 10 pw) 11 pm) 31 (cI (n) (shfF v l1 r1 k1) gt_30)) 32 (cI (n) (shfF wt l1 r1 k1) gtw_30))) H locs := hH
              refine z_aload_n hC 68 hl dX7_shift_68 rfl 0 rfl ?_
              refine z_same (z_runV hC hH.2.2 hl.1 hH.1 hH.2.1 0 (As := []) (rest := []) (m_X7_done lau s0 G _ ad (va_up (va_up (va_up (va_up (va_up (va_up F 0 (0)) 5 ((n : Int))) 6 ((b : Int))) 12 ((un : Int))) 13 (fr)) 33 ((n : Int))) (va_up (va_up (va_up (va_up (va_up (va_up (va_up Ar 3 (cI (n) v gv)) 4 (cI (n) wt gw)) 9 pv) 10 pw) 11 pm) 31 (cI (n) (shfF v l1 r1 k1) gt_30)) 32 (cI (n) (shfF wt l1 r1 k1) gtw_30)) n v gv wt gw un hm hvv hww pv pw pm b fr (shfF v l1 r1 k1) (shfF wt l1 r1 k1) gt_30 gtw_30 (by first | assumption | omega) (by first | assumption | omega) (by first | assumption | omega) (by first | assumption | omega) (by first | assumption | omega) (by first | assumption | omega) (by exact shfF_old (P := fun x => x < 1000) hv (by omega) (by omega)) (by exact shfF_old (P := fun x => 1 ≤ x ∧ x ≤ 9) hwt (by omega) (by omega))) (lw_V q1716 q1718 qs69 q95 q1719) ⟨rfl, by decide, by decide, by decide +kernel⟩ (q0 := 0) (ci := 0) rfl rfl rfl rfl (Nat.le_of_ble_eq_true rfl) ⟨Nat.le_of_ble_eq_true rfl, Nat.le_of_ble_eq_true rfl⟩ ⟨Nat.le_of_ble_eq_true rfl, Nat.le_of_ble_eq_true rfl⟩ dX7_shift_69) hH (fun u_ H locs hpost hH => ?_)
              obtain ⟨gv1_69, gw1_69, pv2_69, pw2_69, pm2_69, un2_69, fr2_69, hm2_69, hvv2_69, hww2_69⟩ := u_
              obtain ⟨pP_69, pU_69, pE_69⟩ : (PAST un2_69 pv2_69 pw2_69 pm2_69 hm2_69 hvv2_69 hww2_69) ∧ (un2_69 ≤ 12) ∧ (EDT b n v wt un hm hvv hww fr n (shfF v l1 r1 k1) (shfF wt l1 r1 k1) un2_69 hm2_69 hvv2_69 hww2_69 fr2_69) := hpost
              have hH : zH s0 s1 G as0 (mW ad G (va_up (va_up (va_up (va_up (va_up (va_up F 0 (0)) 5 ((n : Int))) 6 ((b : Int))) 12 ((un2_69 : Int))) 13 (fr2_69)) 33 ((n : Int))) (va_up (va_up (va_up (va_up (va_up (va_up (va_up Ar 3 (cI (n) (shfF v l1 r1 k1) gv1_69)) 4 (cI (n) (shfF wt l1 r1 k1) gw1_69)) 9 pv2_69) 10 pw2_69) 11 pm2_69) 31 (cI (n) (shfF v l1 r1 k1) gt_30)) 32 (cI (n) (shfF wt l1 r1 k1) gtw_30))) H locs := hH
              refine z_st (st' := [.int (iZ (((oth n v (shfF v l1 r1 k1) : Nat) : Int)))]) rfl ?_
              -- R72.2
              exact z_iret hC hH hQ 72 ((((oth n v (shfF v l1 r1 k1) : Nat) : Int), n, (shfF v l1 r1 k1), (shfF wt l1 r1 k1), (n : Int), (cI (n) (shfF v l1 r1 k1) gt_30), (cI (n) (shfF wt l1 r1 k1) gtw_30), gv1_69, gw1_69, pv2_69, pw2_69, pm2_69, un2_69, fr2_69, hm2_69, hvv2_69, hww2_69)) dX7_shift_72 rfl ⟨by first | (unfold Sp_shift; rw [if_neg (by omega)]; exact ⟨rfl, rfl, rfl, rfl⟩) | (unfold Sp_shift; rw [if_pos (by omega)]; first | exact ⟨rfl, rfl, rfl, rfl⟩ | exact ⟨by omega, rfl, rfl, rfl⟩), by first | assumption | omega, by exact shfF_old (P := fun x => x < 1000) hv (by omega) (by omega), by exact shfF_old (P := fun x => 1 ≤ x ∧ x ≤ 9) hwt (by omega) (by omega), by first | assumption | omega, by first | assumption | omega, by first | assumption | omega⟩ rfl (Nat.le_refl _) (Nat.le_refl _)
            · -- 39f
              refine z_aload_n hC 42 hl dX7_shift_42 rfl 0 rfl ?_
              refine z_iload hC 43 hl dX7_shift_43 4 rfl ?_
              refine z_iload_n hC 45 hl dX7_shift_45 rfl 1 rfl ?_
              refine z_iload hC 46 hl dX7_shift_46 4 rfl ?_
              refine z_iload_n hC 48 hl dX7_shift_48 rfl 1 rfl ?_
              refine z_isub (e := (p : Int) - (l1 : Int)) hC 49 dX7_shift_49 rfl ?_
              refine z_iload_n hC 50 hl dX7_shift_50 rfl 3 rfl ?_
              refine z_iadd (e := (p : Int) - (l1 : Int) + (k1 : Int)) hC 51 dX7_shift_51 rfl ?_
              refine z_iload_n hC 52 hl dX7_shift_52 rfl 2 rfl ?_
              refine z_iload_n hC 53 hl dX7_shift_53 rfl 1 rfl ?_
              refine z_isub (e := (r1 : Int) - (l1 : Int)) hC 54 dX7_shift_54 rfl ?_
              refine z_iconst hC 55 dX7_shift_55 ?_
              refine z_iadd (e := (r1 : Int) - (l1 : Int) + 1) hC 56 dX7_shift_56 rfl ?_
              have hmd : zmod (p + k1 - l1) (r1 + 1 - l1) < r1 + 1 - l1 := Nat.mod_lt _ (by omega)
              refine z_irem hC 57 (p + k1 - l1) (r1 + 1 - l1) dX7_shift_57 (by omega) (by omega) (by omega) (by omega) ((zmod (p + k1 - l1) (r1 + 1 - l1))) rfl ?_
              refine z_iadd (e := (l1 : Int) + ((zmod (p + k1 - l1) (r1 + 1 - l1) : Nat) : Int)) hC 58 dX7_shift_58 rfl ?_
              refine z_st (st' := [.int (iZ (((l1 + (zmod (p + k1 - l1) (r1 + 1 - l1)) : Nat) : Int))), .int (iZ ((p : Int))), .ref (ad 0)]) (zcons (zieq (by omega)) (zcons rfl rfl)) ?_
              refine z_same (z_runV hC hH.2.2 hl.1 hH.1 hH.2.1 2 (As := [.int (iZ ((p : Int))), .int (iZ (((l1 + (zmod (p + k1 - l1) (r1 + 1 - l1)) : Nat) : Int)))]) (rest := []) (m_X7_lies lau s0 G _ ad (va_up (va_up (va_up (va_up (va_up (va_up F 0 (0)) 5 ((n : Int))) 6 ((b : Int))) 12 ((un : Int))) 13 (fr)) 33 ((n : Int))) (va_up (va_up (va_up (va_up (va_up (va_up (va_up Ar 3 (cI (n) v gv)) 4 (cI (n) wt gw)) 9 pv) 10 pw) 11 pm) 31 (cI (n) tv gt_30)) 32 (cI (n) tw gtw_30)) n v gv wt gw tv tw gt_30 gtw_30 p (l1 + (zmod (p + k1 - l1) (r1 + 1 - l1))) (by first | assumption | omega) (by first | assumption | omega) (by first | assumption | omega)) (lw_V q1728 q1730 qs71 q95 q1731) ⟨rfl, by decide, by decide, by decide +kernel⟩ (q0 := 0) (ci := 0) rfl rfl rfl rfl (Nat.le_of_ble_eq_true rfl) ⟨Nat.le_of_ble_eq_true rfl, Nat.le_of_ble_eq_true rfl⟩ ⟨Nat.le_of_ble_eq_true rfl, Nat.le_of_ble_eq_true rfl⟩ dX7_shift_59) hH (fun _ H locs hpost hH => ?_)
              have hH : zH s0 s1 G as0 (mW ad G (va_up (va_up (va_up (va_up (va_up (va_up F 0 (0)) 5 ((n : Int))) 6 ((b : Int))) 12 ((un : Int))) 13 (fr)) 33 ((n : Int))) (va_up (va_up (va_up (va_up (va_up (va_up (va_up Ar 3 (cI (n) v gv)) 4 (cI (n) wt gw)) 9 pv) 10 pw) 11 pm) 31 (cI (n) (va_up tv (l1 + (zmod (p + k1 - l1) (r1 + 1 - l1))) (v p)) gt_30)) 32 (cI (n) (va_up tw (l1 + (zmod (p + k1 - l1) (r1 + 1 - l1))) (wt p)) gtw_30))) H locs := hH
              refine z_st (st' := []) rfl ?_
              refine z_iinc (lv' := [(4, .int (iZ ((p : Int) + 1))), (0, .ref (ad 0)), (1, .int (iZ ((l1 : Int)))), (2, .int (iZ ((r1 : Int)))), (3, .int (iZ ((k1 : Int))))]) hC 62 hl dX7_shift_62 4 rfl (by omega) (by decide) rfl (fun ls hl => ?_)
              refine z_goto hC 65 36 dX7_shift_65 rfl ?_
              -- J36.3
              exact ih36 (p + 1) (va_up tv (l1 + (zmod (p + k1 - l1) (r1 + 1 - l1))) (v p)) (va_up tw (l1 + (zmod (p + k1 - l1) (r1 + 1 - l1))) (wt p)) _ _ _ (by omega) (by first | assumption | omega) (by first | assumption | omega) (by first | exact SHI_0 | exact SHI_s it (by omega) (by omega) (by omega) (by omega)) (by first | exact SHI_0 | exact SHI_s iw (by omega) (by omega) (by omega) (by omega)) hH (z_lv (lv_sub hl [1, 2, 3, 4, 0] rfl) (zcons rfl (zcons rfl (zcons rfl (zcons rfl (zcons (zpeq (by omega)) rfl))))))
        -- J36.4
        exact L36 _ l1 v wt _ _ _ (Nat.lt_succ_self _) (by first | assumption | omega) (by first | assumption | omega) (by first | exact SHI_0 | exact SHI_s it (by omega) (by omega) (by omega) (by omega)) (by first | exact SHI_0 | exact SHI_s iw (by omega) (by omega) (by omega) (by omega)) hH (lv_sub hl [1, 2, 3, 4, 0] rfl)
      · -- 24f
        refine z_iconst hC 27 dX7_shift_27 ?_
        -- R28.5
        exact z_iret hC hH hQ 28 (((-1), n, v, wt, (F 33), (Ar 31), (Ar 32), gv, gw, pv, pw, pm, un, fr, hm, hvv, hww)) dX7_shift_28 rfl ⟨by first | (unfold Sp_shift; rw [if_neg (by omega)]; exact ⟨rfl, rfl, rfl, rfl⟩) | (unfold Sp_shift; rw [if_pos (by omega)]; first | exact ⟨rfl, rfl, rfl, rfl⟩ | exact ⟨by omega, rfl, rfl, rfl⟩), by first | assumption | omega, by first | assumption | omega, by first | assumption | omega, by exact hPA, by first | assumption | omega, by exact EDT_none⟩ rfl (Nat.le_refl _) (Nat.le_refl _)
  · -- 8=0
    refine z_if_eq_t hC 11 27 dX7_shift_11 rfl (by omega) (by omega) ?_
    refine z_iconst hC 27 dX7_shift_27 ?_
    -- R28.6
    exact z_iret hC hH hQ 28 (((-1), n, v, wt, (F 33), (Ar 31), (Ar 32), gv, gw, pv, pw, pm, un, fr, hm, hvv, hww)) dX7_shift_28 rfl ⟨by first | (unfold Sp_shift; rw [if_neg (by omega)]; exact ⟨rfl, rfl, rfl, rfl⟩) | (unfold Sp_shift; rw [if_pos (by omega)]; first | exact ⟨rfl, rfl, rfl, rfl⟩ | exact ⟨by omega, rfl, rfl, rfl⟩), by first | assumption | omega, by first | assumption | omega, by first | assumption | omega, by exact hPA, by first | assumption | omega, by exact EDT_none⟩ rfl (Nat.le_refl _) (Nat.le_refl _)

set_option maxHeartbeats 4000000 in
set_option maxRecDepth 100000 in
theorem m_X7_replace (lau : Launch) (s0 : State) (G : zG) (sz : Nat) (ad : Nat → Nat) (F : Nat → Int) (Ar : Nat → Nat → Int) (n : Nat) (v : Nat → Nat) (gv : Nat → Int) (wt : Nat → Nat) (gw : Nat → Int) (un : Nat) (hm : Nat → Nat) (hvv : Nat → Nat → Nat) (hww : Nat → Nat → Nat) (pv : Nat → Int) (pw : Nat → Int) (pm : Nat → Int) (b : Nat) (fr : Int) (x : Int) (y : Int) (hn : n ≤ 120) (hv : ∀ i, i < n → v i < 1000) (hwt : ∀ i, i < n → 1 ≤ wt i ∧ wt i ≤ 9) (hun : un ≤ 12) (hPA : PAST un pv pw pm hm hvv hww) (hb : 2 ≤ b ∧ b ≤ 20) (hr_x : -2147483648 ≤ x ∧ x < 2147483648) (hr_y : -2147483648 ≤ y ∧ y < 2147483648) : zMet (S := Int × Nat × (Nat → Nat) × (Nat → Nat) × Int × (Nat → Int) × (Nat → Int) × (Nat → Int) × (Nat → Int) × (Nat → Int) × (Nat → Int) × (Nat → Int) × Nat × Int × (Nat → Nat) × (Nat → Nat → Nat) × (Nat → Nat → Nat)) lau yX7_replace cX7_replace 4 (some .int) 6 133 0 0 s0 G sz [.ref (ad 0), .int (iZ (x)), .int (iZ (y))] (mW ad G (va_up (va_up (va_up (va_up F 5 ((n : Int))) 6 ((b : Int))) 12 ((un : Int))) 13 (fr)) (va_up (va_up (va_up (va_up (va_up Ar 3 (cI (n) v gv)) 4 (cI (n) wt gw)) 9 pv) 10 pw) 11 pm)) (fun ((r_, n2, v2, w2, tm, tv, tw, gv1, gw1, pv2, pw2, pm2, un2, fr2, hm2, hvv2, hww2) : Int × Nat × (Nat → Nat) × (Nat → Nat) × Int × (Nat → Int) × (Nat → Int) × (Nat → Int) × (Nat → Int) × (Nat → Int) × (Nat → Int) × (Nat → Int) × Nat × Int × (Nat → Nat) × (Nat → Nat → Nat) × (Nat → Nat → Nat)) => some (.int (iZ (r_)))) (fun ((r_, n2, v2, w2, tm, tv, tw, gv1, gw1, pv2, pw2, pm2, un2, fr2, hm2, hvv2, hww2) : Int × Nat × (Nat → Nat) × (Nat → Nat) × Int × (Nat → Int) × (Nat → Int) × (Nat → Int) × (Nat → Int) × (Nat → Int) × (Nat → Int) × (Nat → Int) × Nat × Int × (Nat → Nat) × (Nat → Nat → Nat) × (Nat → Nat → Nat)) => (Sp_replace n v wt x y r_ n2 v2 w2) ∧ (n2 ≤ 120) ∧ (∀ i, i < n2 → v2 i < 1000) ∧ (∀ i, i < n2 → 1 ≤ w2 i ∧ w2 i ≤ 9) ∧ (PAST un2 pv2 pw2 pm2 hm2 hvv2 hww2) ∧ (un2 ≤ 12) ∧ (EDT b n v wt un hm hvv hww fr n2 v2 w2 un2 hm2 hvv2 hww2 fr2)) (fun ((r_, n2, v2, w2, tm, tv, tw, gv1, gw1, pv2, pw2, pm2, un2, fr2, hm2, hvv2, hww2) : Int × Nat × (Nat → Nat) × (Nat → Nat) × Int × (Nat → Int) × (Nat → Int) × (Nat → Int) × (Nat → Int) × (Nat → Int) × (Nat → Int) × (Nat → Int) × Nat × Int × (Nat → Nat) × (Nat → Nat → Nat) × (Nat → Nat → Nat)) => (mW ad G (va_up (va_up (va_up (va_up (va_up (va_up F 0 (0)) 5 ((n2 : Int))) 6 ((b : Int))) 12 ((un2 : Int))) 13 (fr2)) 33 (tm)) (va_up (va_up (va_up (va_up (va_up (va_up (va_up Ar 3 (cI (n2) v2 gv1)) 4 (cI (n2) w2 gw1)) 9 pv2) 10 pw2) 11 pm2) 31 tv) 32 tw))) := by
  refine zMet.of (by decide) (Nat.le_of_ble_eq_true rfl) ?_
  intro pg ev s1 mi ar bl me cd ls Q as0 hC hH hl hQ hsz
  generalize s1.heap = H at hH ⊢
  generalize ([] : List Loc) = locs at hH ⊢
  have hl : lv_has ls 4 [(0, .ref (ad 0)), (1, .int (iZ (x))), (2, .int (iZ (y)))] := hl
  refine z_aload_n hC 0 hl dX7_replace_0 rfl 0 rfl ?_
  refine z_iconst hC 1 dX7_replace_1 ?_
  refine pmW_0 hC hH 2 dX7_replace_2 (fun H locs hH => ?_)
  have hH : zH s0 s1 G as0 (mW ad G (va_up (va_up (va_up (va_up (va_up F 0 (0)) 5 ((n : Int))) 6 ((b : Int))) 12 ((un : Int))) 13 (fr)) (va_up (va_up (va_up (va_up (va_up Ar 3 (cI (n) v gv)) 4 (cI (n) wt gw)) 9 pv) 10 pw) 11 pm)) H locs := hH
  refine z_iload_n hC 5 hl dX7_replace_5 rfl 1 rfl ?_
  refine z_same (z_runS hC hH.2.2 hl.1 hH.1 hH.2.1 1 (As := [.int (iZ (x))]) (rest := []) (m_X7_isValue lau s0 G _ ad (va_up (va_up (va_up (va_up (va_up F 0 (0)) 5 ((n : Int))) 6 ((b : Int))) 12 ((un : Int))) 13 (fr)) (va_up (va_up (va_up (va_up (va_up Ar 3 (cI (n) v gv)) 4 (cI (n) wt gw)) 9 pv) 10 pw) 11 pm) x (by first | assumption | omega)) (lw_S q1677 q1678 q95 q1679) ⟨by decide, by decide, by decide +kernel⟩ rfl rfl (Nat.le_of_ble_eq_true rfl) ⟨Nat.le_of_ble_eq_true rfl, Nat.le_of_ble_eq_true rfl⟩ ⟨Nat.le_of_ble_eq_true rfl, Nat.le_of_ble_eq_true rfl⟩ dX7_replace_6) hH (fun r_6 H locs hpost hH => ?_)
  have hb_6 : (r_6 = 1 ∧ (0 ≤ x ∧ x < 1000)) ∨ (r_6 = 0 ∧ ¬ (0 ≤ x ∧ x < 1000)) := hpost
  have hH : zH s0 s1 G as0 (mW ad G (va_up (va_up (va_up (va_up (va_up F 0 (0)) 5 ((n : Int))) 6 ((b : Int))) 12 ((un : Int))) 13 (fr)) (va_up (va_up (va_up (va_up (va_up Ar 3 (cI (n) v gv)) 4 (cI (n) wt gw)) 9 pv) 10 pw) 11 pm)) H locs := hH
  refine z_st (st' := [.int (iZ (r_6))]) rfl ?_
  rcases hb_6 with ⟨rfl, hb_6⟩ | ⟨rfl, hb_6⟩
  · -- 6=1
    refine z_if_eq_f hC 9 19 dX7_replace_9 rfl (by omega) (by omega) ?_
    refine z_iload_n hC 12 hl dX7_replace_12 rfl 2 rfl ?_
    refine z_same (z_runS hC hH.2.2 hl.1 hH.1 hH.2.1 1 (As := [.int (iZ (y))]) (rest := []) (m_X7_isValue lau s0 G _ ad (va_up (va_up (va_up (va_up (va_up F 0 (0)) 5 ((n : Int))) 6 ((b : Int))) 12 ((un : Int))) 13 (fr)) (va_up (va_up (va_up (va_up (va_up Ar 3 (cI (n) v gv)) 4 (cI (n) wt gw)) 9 pv) 10 pw) 11 pm) y (by first | assumption | omega)) (lw_S q1677 q1678 q95 q1679) ⟨by decide, by decide, by decide +kernel⟩ rfl rfl (Nat.le_of_ble_eq_true rfl) ⟨Nat.le_of_ble_eq_true rfl, Nat.le_of_ble_eq_true rfl⟩ ⟨Nat.le_of_ble_eq_true rfl, Nat.le_of_ble_eq_true rfl⟩ dX7_replace_13) hH (fun r_13 H locs hpost hH => ?_)
    have hb_13 : (r_13 = 1 ∧ (0 ≤ y ∧ y < 1000)) ∨ (r_13 = 0 ∧ ¬ (0 ≤ y ∧ y < 1000)) := hpost
    have hH : zH s0 s1 G as0 (mW ad G (va_up (va_up (va_up (va_up (va_up F 0 (0)) 5 ((n : Int))) 6 ((b : Int))) 12 ((un : Int))) 13 (fr)) (va_up (va_up (va_up (va_up (va_up Ar 3 (cI (n) v gv)) 4 (cI (n) wt gw)) 9 pv) 10 pw) 11 pm)) H locs := hH
    refine z_st (st' := [.int (iZ (r_13))]) rfl ?_
    rcases hb_13 with ⟨rfl, hb_13⟩ | ⟨rfl, hb_13⟩
    · -- 13=1
      refine z_if_ne_t hC 16 21 dX7_replace_16 rfl (by omega) (by omega) ?_
      obtain ⟨x1, rfl⟩ := Int.eq_ofNat_of_zero_le (show 0 ≤ x by omega)
      obtain ⟨y1, rfl⟩ := Int.eq_ofNat_of_zero_le (show 0 ≤ y by omega)
      refine z_aload_n hC 21 hl dX7_replace_21 rfl 0 rfl ?_
      refine z_same (z_runV hC hH.2.2 hl.1 hH.1 hH.2.1 0 (As := []) (rest := []) (m_X7_begins lau s0 G _ ad (va_up (va_up (va_up (va_up (va_up F 0 (0)) 5 ((n : Int))) 6 ((b : Int))) 12 ((un : Int))) 13 (fr)) (va_up (va_up (va_up (va_up (va_up Ar 3 (cI (n) v gv)) 4 (cI (n) wt gw)) 9 pv) 10 pw) 11 pm) n v gv wt gw (by first | assumption | omega) (by first | assumption | omega) (by first | assumption | omega)) (lw_V q1680 q1682 qs64 q95 q1683) ⟨rfl, by decide, by decide, by decide +kernel⟩ (q0 := 0) (ci := 0) rfl rfl rfl rfl (Nat.le_of_ble_eq_true rfl) ⟨Nat.le_of_ble_eq_true rfl, Nat.le_of_ble_eq_true rfl⟩ ⟨Nat.le_of_ble_eq_true rfl, Nat.le_of_ble_eq_true rfl⟩ dX7_replace_22) hH (fun u_ H locs hpost hH => ?_)
      obtain ⟨gt_22, gtw_22⟩ := u_
      have hH : zH s0 s1 G as0 (mW ad G (va_up (va_up (va_up (va_up (va_up (va_up F 0 (0)) 5 ((n : Int))) 6 ((b : Int))) 12 ((un : Int))) 13 (fr)) 33 ((n : Int))) (va_up (va_up (va_up (va_up (va_up (va_up (va_up Ar 3 (cI (n) v gv)) 4 (cI (n) wt gw)) 9 pv) 10 pw) 11 pm) 31 (cI (n) v gt_22)) 32 (cI (n) wt gtw_22))) H locs := hH
      refine z_st (st' := []) rfl ?_
      refine z_iconst hC 25 dX7_replace_25 ?_
      refine z_istore_n (lv' := [(3, .int (iZ (0))), (0, .ref (ad 0)), (1, .int (iZ ((x1 : Int)))), (2, .int (iZ ((y1 : Int))))]) hC 26 hl dX7_replace_26 rfl (by decide) rfl (fun ls hl => ?_)
      have L27 : ∀ (N_ : Nat) (p : Nat) (tv : Nat → Nat) (H : Heap) (locs : List Loc) (ls : Array Slot), n - p < N_ → (p ≤ n) → (∀ j, j < n → tv j = if v j = x1 ∧ j < p then y1 else v j) → zH s0 s1 G as0 (mW ad G (va_up (va_up (va_up (va_up (va_up (va_up F 0 (0)) 5 ((n : Int))) 6 ((b : Int))) 12 ((un : Int))) 13 (fr)) 33 ((n : Int))) (va_up (va_up (va_up (va_up (va_up (va_up (va_up Ar 3 (cI (n) v gv)) 4 (cI (n) wt gw)) 9 pv) 10 pw) 11 pm) 31 (cI (n) tv gt_22)) 32 (cI (n) wt gtw_22))) H locs → lv_has ls 4 [(0, .ref (ad 0)), (1, .int (iZ ((x1 : Int)))), (2, .int (iZ ((y1 : Int)))), (3, .int (iZ ((p : Int))))] → W pg lau ev (zRm 6 0 0 133) s1 mi ar bl me cd H locs 0 0 Q (F0 mi 27 ls []) := by
        intro N_
        induction N_ with
        | zero => intro p tv H locs ls hd; exact absurd hd (Nat.not_lt_zero _)
        | succ N_ ih27 =>
          intro p tv H locs ls hd27 i27_1 it hH hl
          refine z_iload_n hC 27 hl dX7_replace_27 rfl 3 rfl ?_
          refine z_aload_n hC 28 hl dX7_replace_28 rfl 0 rfl ?_
          refine gmW_5 (x := (n : Int)) hC hH 29 rfl dX7_replace_29 ?_
          refine z_icmp_ge hC 32 58 dX7_replace_32 rfl (by omega) (by omega) (fun hb1 => ?_) (fun hb1 => ?_)
          · -- 32t
            have hcv2 : (cI (n) tv gt_22) = (cI (n) (repF v x1 y1) gt_22) := by exact cI_congr (fun j hj => by rw [it j hj]; unfold repF; by_cases e : v j = x1; (· rw [if_pos ⟨e, by omega⟩, if_pos e]); (· rw [if_neg (fun q => e q.1), if_neg e]))
            rw [hcv2] at hH
            have hH : zH s0 s1 G as0 (mW ad G (va_up (va_up (va_up (va_up (va_up (va_up F 0 (0)) 5 ((n : Int))) 6 ((b : Int))) 12 ((un : Int))) 13 (fr)) 33 ((n : Int))) (va_up (va_up (va_up (va_up (va_up (va_up (va_up Ar 3 (cI (n) v gv)) 4 (cI (n) wt gw)) 9 pv) 10 pw) 11 pm) 31 (cI (n) (repF v x1 y1) gt_22)) 32 (cI (n) wt gtw_22))) H locs := hH
            refine z_aload_n hC 58 hl dX7_replace_58 rfl 0 rfl ?_
            refine z_same (z_runV hC hH.2.2 hl.1 hH.1 hH.2.1 0 (As := []) (rest := []) (m_X7_done lau s0 G _ ad (va_up (va_up (va_up (va_up (va_up (va_up F 0 (0)) 5 ((n : Int))) 6 ((b : Int))) 12 ((un : Int))) 13 (fr)) 33 ((n : Int))) (va_up (va_up (va_up (va_up (va_up (va_up (va_up Ar 3 (cI (n) v gv)) 4 (cI (n) wt gw)) 9 pv) 10 pw) 11 pm) 31 (cI (n) (repF v x1 y1) gt_22)) 32 (cI (n) wt gtw_22)) n v gv wt gw un hm hvv hww pv pw pm b fr (repF v x1 y1) wt gt_22 gtw_22 (by first | assumption | omega) (by first | assumption | omega) (by first | assumption | omega) (by first | assumption | omega) (by first | assumption | omega) (by first | assumption | omega) (by exact repF_old (P := fun x => x < 1000) hv (by omega)) (by exact hwt)) (lw_V q1716 q1718 qs69 q95 q1719) ⟨rfl, by decide, by decide, by decide +kernel⟩ (q0 := 0) (ci := 0) rfl rfl rfl rfl (Nat.le_of_ble_eq_true rfl) ⟨Nat.le_of_ble_eq_true rfl, Nat.le_of_ble_eq_true rfl⟩ ⟨Nat.le_of_ble_eq_true rfl, Nat.le_of_ble_eq_true rfl⟩ dX7_replace_59) hH (fun u_ H locs hpost hH => ?_)
            obtain ⟨gv1_59, gw1_59, pv2_59, pw2_59, pm2_59, un2_59, fr2_59, hm2_59, hvv2_59, hww2_59⟩ := u_
            obtain ⟨pP_59, pU_59, pE_59⟩ : (PAST un2_59 pv2_59 pw2_59 pm2_59 hm2_59 hvv2_59 hww2_59) ∧ (un2_59 ≤ 12) ∧ (EDT b n v wt un hm hvv hww fr n (repF v x1 y1) wt un2_59 hm2_59 hvv2_59 hww2_59 fr2_59) := hpost
            have hH : zH s0 s1 G as0 (mW ad G (va_up (va_up (va_up (va_up (va_up (va_up F 0 (0)) 5 ((n : Int))) 6 ((b : Int))) 12 ((un2_59 : Int))) 13 (fr2_59)) 33 ((n : Int))) (va_up (va_up (va_up (va_up (va_up (va_up (va_up Ar 3 (cI (n) (repF v x1 y1) gv1_59)) 4 (cI (n) wt gw1_59)) 9 pv2_59) 10 pw2_59) 11 pm2_59) 31 (cI (n) (repF v x1 y1) gt_22)) 32 (cI (n) wt gtw_22))) H locs := hH
            refine z_st (st' := [.int (iZ (((oth n v (repF v x1 y1) : Nat) : Int)))]) rfl ?_
            -- R62.1
            exact z_iret hC hH hQ 62 ((((oth n v (repF v x1 y1) : Nat) : Int), n, (repF v x1 y1), wt, (n : Int), (cI (n) (repF v x1 y1) gt_22), (cI (n) wt gtw_22), gv1_59, gw1_59, pv2_59, pw2_59, pm2_59, un2_59, fr2_59, hm2_59, hvv2_59, hww2_59)) dX7_replace_62 rfl ⟨by first | (unfold Sp_replace; rw [if_neg (by omega)]; exact ⟨rfl, rfl, rfl, rfl⟩) | (unfold Sp_replace; rw [if_pos (by omega)]; first | exact ⟨rfl, rfl, rfl, rfl⟩ | exact ⟨by omega, rfl, rfl, rfl⟩), by first | assumption | omega, by exact repF_old (P := fun x => x < 1000) hv (by omega), by exact hwt, by first | assumption | omega, by first | assumption | omega, by first | assumption | omega⟩ rfl (Nat.le_refl _) (Nat.le_refl _)
          · -- 32f
            refine z_aload_n hC 35 hl dX7_replace_35 rfl 0 rfl ?_
            have hvp := hv p (by omega)
            refine gmW_3 hC hH 36 dX7_replace_36 ?_
            refine z_iload_n hC 39 hl dX7_replace_39 rfl 3 rfl ?_
            refine lmW_3 (x := ((v p : Nat) : Int)) hC hH 40 (p) (by omega) (by omega) (cI_lt (by omega)) dX7_replace_40 ?_
            refine z_iload_n hC 41 hl dX7_replace_41 rfl 1 rfl ?_
            refine z_icmp_ne hC 42 52 dX7_replace_42 rfl (by omega) (by omega) (fun hb3 => ?_) (fun hb3 => ?_)
            · -- 42t
              refine z_iinc (lv' := [(3, .int (iZ ((p : Int) + 1))), (0, .ref (ad 0)), (1, .int (iZ ((x1 : Int)))), (2, .int (iZ ((y1 : Int))))]) hC 52 hl dX7_replace_52 3 rfl (by omega) (by decide) rfl (fun ls hl => ?_)
              refine z_goto hC 55 27 dX7_replace_55 rfl ?_
              -- J27.2
              exact ih27 (p + 1) tv _ _ _ (by omega) (by first | assumption | omega) (by first | (intro j hj; rw [if_neg (by omega)]) | exact rep_s1 it (by omega) | exact rep_s0 it (by omega)) hH (z_lv (lv_sub hl [1, 2, 3, 0] rfl) (zcons rfl (zcons rfl (zcons rfl (zcons (zpeq (by omega)) rfl)))))
            · -- 42f
              refine z_aload_n hC 45 hl dX7_replace_45 rfl 0 rfl ?_
              refine gmW_31 hC hH 46 dX7_replace_46 ?_
              refine z_iload_n hC 49 hl dX7_replace_49 rfl 3 rfl ?_
              refine z_iload_n hC 50 hl dX7_replace_50 rfl 2 rfl ?_
              refine smW_31 (f' := (cI (n) (va_up tv (p) (y1)) gt_22)) hC hH 51 (p) (by omega) (by omega) (by exact cI_up (by omega)) dX7_replace_51 (fun H locs hH => ?_)
              have hH : zH s0 s1 G as0 (mW ad G (va_up (va_up (va_up (va_up (va_up (va_up F 0 (0)) 5 ((n : Int))) 6 ((b : Int))) 12 ((un : Int))) 13 (fr)) 33 ((n : Int))) (va_up (va_up (va_up (va_up (va_up (va_up (va_up Ar 3 (cI (n) v gv)) 4 (cI (n) wt gw)) 9 pv) 10 pw) 11 pm) 31 (cI (n) (va_up tv (p) (y1)) gt_22)) 32 (cI (n) wt gtw_22))) H locs := hH
              refine z_iinc (lv' := [(3, .int (iZ ((p : Int) + 1))), (0, .ref (ad 0)), (1, .int (iZ ((x1 : Int)))), (2, .int (iZ ((y1 : Int))))]) hC 52 hl dX7_replace_52 3 rfl (by omega) (by decide) rfl (fun ls hl => ?_)
              refine z_goto hC 55 27 dX7_replace_55 rfl ?_
              -- J27.3
              exact ih27 (p + 1) (va_up tv (p) (y1)) _ _ _ (by omega) (by first | assumption | omega) (by first | (intro j hj; rw [if_neg (by omega)]) | exact rep_s1 it (by omega) | exact rep_s0 it (by omega)) hH (z_lv (lv_sub hl [1, 2, 3, 0] rfl) (zcons rfl (zcons rfl (zcons rfl (zcons (zpeq (by omega)) rfl)))))
      -- J27.4
      exact L27 _ 0 v _ _ _ (Nat.lt_succ_self _) (by first | assumption | omega) (by first | (intro j hj; rw [if_neg (by omega)]) | exact rep_s1 it (by omega) | exact rep_s0 it (by omega)) hH (z_lv (lv_sub hl [1, 2, 3, 0] rfl) (zcons rfl (zcons rfl (zcons rfl (zcons (zpeq (by omega)) rfl)))))
    · -- 13=0
      refine z_if_ne_f hC 16 21 dX7_replace_16 rfl (by omega) (by omega) ?_
      refine z_iconst hC 19 dX7_replace_19 ?_
      -- R20.5
      exact z_iret hC hH hQ 20 (((-1), n, v, wt, (F 33), (Ar 31), (Ar 32), gv, gw, pv, pw, pm, un, fr, hm, hvv, hww)) dX7_replace_20 rfl ⟨by first | (unfold Sp_replace; rw [if_neg (by omega)]; exact ⟨rfl, rfl, rfl, rfl⟩) | (unfold Sp_replace; rw [if_pos (by omega)]; first | exact ⟨rfl, rfl, rfl, rfl⟩ | exact ⟨by omega, rfl, rfl, rfl⟩), by first | assumption | omega, by first | assumption | omega, by first | assumption | omega, by exact hPA, by first | assumption | omega, by exact EDT_none⟩ rfl (Nat.le_refl _) (Nat.le_refl _)
  · -- 6=0
    refine z_if_eq_t hC 9 19 dX7_replace_9 rfl (by omega) (by omega) ?_
    refine z_iconst hC 19 dX7_replace_19 ?_
    -- R20.6
    exact z_iret hC hH hQ 20 (((-1), n, v, wt, (F 33), (Ar 31), (Ar 32), gv, gw, pv, pw, pm, un, fr, hm, hvv, hww)) dX7_replace_20 rfl ⟨by first | (unfold Sp_replace; rw [if_neg (by omega)]; exact ⟨rfl, rfl, rfl, rfl⟩) | (unfold Sp_replace; rw [if_pos (by omega)]; first | exact ⟨rfl, rfl, rfl, rfl⟩ | exact ⟨by omega, rfl, rfl, rfl⟩), by first | assumption | omega, by first | assumption | omega, by first | assumption | omega, by exact hPA, by first | assumption | omega, by exact EDT_none⟩ rfl (Nat.le_refl _) (Nat.le_refl _)

set_option maxHeartbeats 4000000 in
set_option maxRecDepth 100000 in
theorem m_X7_insert (lau : Launch) (s0 : State) (G : zG) (sz : Nat) (ad : Nat → Nat) (F : Nat → Int) (Ar : Nat → Nat → Int) (n : Nat) (v : Nat → Nat) (gv : Nat → Int) (wt : Nat → Nat) (gw : Nat → Int) (un : Nat) (hm : Nat → Nat) (hvv : Nat → Nat → Nat) (hww : Nat → Nat → Nat) (pv : Nat → Int) (pw : Nat → Int) (pm : Nat → Int) (b : Nat) (fr : Int) (p : Int) (x : Int) (hn : n ≤ 120) (hv : ∀ i, i < n → v i < 1000) (hwt : ∀ i, i < n → 1 ≤ wt i ∧ wt i ≤ 9) (hun : un ≤ 12) (hPA : PAST un pv pw pm hm hvv hww) (hb : 2 ≤ b ∧ b ≤ 20) (hr_p : -2147483648 ≤ p ∧ p < 2147483648) (hr_x : -2147483648 ≤ x ∧ x < 2147483648) : zMet (S := Int × Nat × (Nat → Nat) × (Nat → Nat) × Int × (Nat → Int) × (Nat → Int) × (Nat → Int) × (Nat → Int) × (Nat → Int) × (Nat → Int) × (Nat → Int) × Nat × Int × (Nat → Nat) × (Nat → Nat → Nat) × (Nat → Nat → Nat)) lau yX7_insert cX7_insert 4 (some .int) 5 112 0 0 s0 G sz [.ref (ad 0), .int (iZ (p)), .int (iZ (x))] (mW ad G (va_up (va_up (va_up (va_up F 5 ((n : Int))) 6 ((b : Int))) 12 ((un : Int))) 13 (fr)) (va_up (va_up (va_up (va_up (va_up Ar 3 (cI (n) v gv)) 4 (cI (n) wt gw)) 9 pv) 10 pw) 11 pm)) (fun ((r_, n2, v2, w2, tm, tv, tw, gv1, gw1, pv2, pw2, pm2, un2, fr2, hm2, hvv2, hww2) : Int × Nat × (Nat → Nat) × (Nat → Nat) × Int × (Nat → Int) × (Nat → Int) × (Nat → Int) × (Nat → Int) × (Nat → Int) × (Nat → Int) × (Nat → Int) × Nat × Int × (Nat → Nat) × (Nat → Nat → Nat) × (Nat → Nat → Nat)) => some (.int (iZ (r_)))) (fun ((r_, n2, v2, w2, tm, tv, tw, gv1, gw1, pv2, pw2, pm2, un2, fr2, hm2, hvv2, hww2) : Int × Nat × (Nat → Nat) × (Nat → Nat) × Int × (Nat → Int) × (Nat → Int) × (Nat → Int) × (Nat → Int) × (Nat → Int) × (Nat → Int) × (Nat → Int) × Nat × Int × (Nat → Nat) × (Nat → Nat → Nat) × (Nat → Nat → Nat)) => (Sp_insert n v wt p x r_ n2 v2 w2) ∧ (n2 ≤ 120) ∧ (∀ i, i < n2 → v2 i < 1000) ∧ (∀ i, i < n2 → 1 ≤ w2 i ∧ w2 i ≤ 9) ∧ (PAST un2 pv2 pw2 pm2 hm2 hvv2 hww2) ∧ (un2 ≤ 12) ∧ (EDT b n v wt un hm hvv hww fr n2 v2 w2 un2 hm2 hvv2 hww2 fr2)) (fun ((r_, n2, v2, w2, tm, tv, tw, gv1, gw1, pv2, pw2, pm2, un2, fr2, hm2, hvv2, hww2) : Int × Nat × (Nat → Nat) × (Nat → Nat) × Int × (Nat → Int) × (Nat → Int) × (Nat → Int) × (Nat → Int) × (Nat → Int) × (Nat → Int) × (Nat → Int) × Nat × Int × (Nat → Nat) × (Nat → Nat → Nat) × (Nat → Nat → Nat)) => (mW ad G (va_up (va_up (va_up (va_up (va_up (va_up F 0 (0)) 5 ((n2 : Int))) 6 ((b : Int))) 12 ((un2 : Int))) 13 (fr2)) 33 (tm)) (va_up (va_up (va_up (va_up (va_up (va_up (va_up Ar 3 (cI (n2) v2 gv1)) 4 (cI (n2) w2 gw1)) 9 pv2) 10 pw2) 11 pm2) 31 tv) 32 tw))) := by
  refine zMet.of (by decide) (Nat.le_of_ble_eq_true rfl) ?_
  intro pg ev s1 mi ar bl me cd ls Q as0 hC hH hl hQ hsz
  generalize s1.heap = H at hH ⊢
  generalize ([] : List Loc) = locs at hH ⊢
  have hl : lv_has ls 4 [(0, .ref (ad 0)), (1, .int (iZ (p))), (2, .int (iZ (x)))] := hl
  refine z_aload_n hC 0 hl dX7_insert_0 rfl 0 rfl ?_
  refine z_iconst hC 1 dX7_insert_1 ?_
  refine pmW_0 hC hH 2 dX7_insert_2 (fun H locs hH => ?_)
  have hH : zH s0 s1 G as0 (mW ad G (va_up (va_up (va_up (va_up (va_up F 0 (0)) 5 ((n : Int))) 6 ((b : Int))) 12 ((un : Int))) 13 (fr)) (va_up (va_up (va_up (va_up (va_up Ar 3 (cI (n) v gv)) 4 (cI (n) wt gw)) 9 pv) 10 pw) 11 pm)) H locs := hH
  refine z_iload_n hC 5 hl dX7_insert_5 rfl 1 rfl ?_
  refine z_if_lt hC 6 33 dX7_insert_6 rfl (by omega) (fun hb1 => ?_) (fun hb1 => ?_)
  · -- 6t
    refine z_iconst hC 33 dX7_insert_33 ?_
    -- R34.1
    exact z_iret hC hH hQ 34 (((-1), n, v, wt, (F 33), (Ar 31), (Ar 32), gv, gw, pv, pw, pm, un, fr, hm, hvv, hww)) dX7_insert_34 rfl ⟨by first | (unfold Sp_insert; rw [if_neg (by omega)]; exact ⟨rfl, rfl, rfl, rfl⟩) | (unfold Sp_insert; rw [if_pos (by omega)]; first | exact ⟨rfl, rfl, rfl, rfl⟩ | exact ⟨by omega, rfl, rfl, rfl⟩), by first | assumption | omega, by first | assumption | omega, by first | assumption | omega, by exact hPA, by first | assumption | omega, by exact EDT_none⟩ rfl (Nat.le_refl _) (Nat.le_refl _)
  · -- 6f
    refine z_iload_n hC 9 hl dX7_insert_9 rfl 1 rfl ?_
    refine z_aload_n hC 10 hl dX7_insert_10 rfl 0 rfl ?_
    refine gmW_5 (x := (n : Int)) hC hH 11 rfl dX7_insert_11 ?_
    refine z_icmp_gt hC 14 33 dX7_insert_14 rfl (by omega) (by omega) (fun hb2 => ?_) (fun hb2 => ?_)
    · -- 14t
      refine z_iconst hC 33 dX7_insert_33 ?_
      -- R34.2
      exact z_iret hC hH hQ 34 (((-1), n, v, wt, (F 33), (Ar 31), (Ar 32), gv, gw, pv, pw, pm, un, fr, hm, hvv, hww)) dX7_insert_34 rfl ⟨by first | (unfold Sp_insert; rw [if_neg (by omega)]; exact ⟨rfl, rfl, rfl, rfl⟩) | (unfold Sp_insert; rw [if_pos (by omega)]; first | exact ⟨rfl, rfl, rfl, rfl⟩ | exact ⟨by omega, rfl, rfl, rfl⟩), by first | assumption | omega, by first | assumption | omega, by first | assumption | omega, by exact hPA, by first | assumption | omega, by exact EDT_none⟩ rfl (Nat.le_refl _) (Nat.le_refl _)
    · -- 14f
      refine z_iload_n hC 17 hl dX7_insert_17 rfl 2 rfl ?_
      refine z_same (z_runS hC hH.2.2 hl.1 hH.1 hH.2.1 1 (As := [.int (iZ (x))]) (rest := []) (m_X7_isValue lau s0 G _ ad (va_up (va_up (va_up (va_up (va_up F 0 (0)) 5 ((n : Int))) 6 ((b : Int))) 12 ((un : Int))) 13 (fr)) (va_up (va_up (va_up (va_up (va_up Ar 3 (cI (n) v gv)) 4 (cI (n) wt gw)) 9 pv) 10 pw) 11 pm) x (by first | assumption | omega)) (lw_S q1677 q1678 q95 q1679) ⟨by decide, by decide, by decide +kernel⟩ rfl rfl (Nat.le_of_ble_eq_true rfl) ⟨Nat.le_of_ble_eq_true rfl, Nat.le_of_ble_eq_true rfl⟩ ⟨Nat.le_of_ble_eq_true rfl, Nat.le_of_ble_eq_true rfl⟩ dX7_insert_18) hH (fun r_18 H locs hpost hH => ?_)
      have hb_18 : (r_18 = 1 ∧ (0 ≤ x ∧ x < 1000)) ∨ (r_18 = 0 ∧ ¬ (0 ≤ x ∧ x < 1000)) := hpost
      have hH : zH s0 s1 G as0 (mW ad G (va_up (va_up (va_up (va_up (va_up F 0 (0)) 5 ((n : Int))) 6 ((b : Int))) 12 ((un : Int))) 13 (fr)) (va_up (va_up (va_up (va_up (va_up Ar 3 (cI (n) v gv)) 4 (cI (n) wt gw)) 9 pv) 10 pw) 11 pm)) H locs := hH
      refine z_st (st' := [.int (iZ (r_18))]) rfl ?_
      rcases hb_18 with ⟨rfl, hb_18⟩ | ⟨rfl, hb_18⟩
      · -- 18=1
        refine z_if_eq_f hC 21 33 dX7_insert_21 rfl (by omega) (by omega) ?_
        refine z_aload_n hC 24 hl dX7_insert_24 rfl 0 rfl ?_
        refine gmW_5 (x := (n : Int)) hC hH 25 rfl dX7_insert_25 ?_
        refine z_bipush hC 28 dX7_insert_28 rfl ?_
        refine z_icmp_ne hC 30 35 dX7_insert_30 rfl (by omega) (by omega) (fun hb3 => ?_) (fun hb3 => ?_)
        · -- 30t
          obtain ⟨p1, rfl⟩ := Int.eq_ofNat_of_zero_le (show 0 ≤ p by omega)
          obtain ⟨x1, rfl⟩ := Int.eq_ofNat_of_zero_le (show 0 ≤ x by omega)
          refine z_aload_n hC 35 hl dX7_insert_35 rfl 0 rfl ?_
          refine z_same (z_runV hC hH.2.2 hl.1 hH.1 hH.2.1 0 (As := []) (rest := []) (m_X7_begins lau s0 G _ ad (va_up (va_up (va_up (va_up (va_up F 0 (0)) 5 ((n : Int))) 6 ((b : Int))) 12 ((un : Int))) 13 (fr)) (va_up (va_up (va_up (va_up (va_up Ar 3 (cI (n) v gv)) 4 (cI (n) wt gw)) 9 pv) 10 pw) 11 pm) n v gv wt gw (by first | assumption | omega) (by first | assumption | omega) (by first | assumption | omega)) (lw_V q1680 q1682 qs64 q95 q1683) ⟨rfl, by decide, by decide, by decide +kernel⟩ (q0 := 0) (ci := 0) rfl rfl rfl rfl (Nat.le_of_ble_eq_true rfl) ⟨Nat.le_of_ble_eq_true rfl, Nat.le_of_ble_eq_true rfl⟩ ⟨Nat.le_of_ble_eq_true rfl, Nat.le_of_ble_eq_true rfl⟩ dX7_insert_36) hH (fun u_ H locs hpost hH => ?_)
          obtain ⟨gt_36, gtw_36⟩ := u_
          have hH : zH s0 s1 G as0 (mW ad G (va_up (va_up (va_up (va_up (va_up (va_up F 0 (0)) 5 ((n : Int))) 6 ((b : Int))) 12 ((un : Int))) 13 (fr)) 33 ((n : Int))) (va_up (va_up (va_up (va_up (va_up (va_up (va_up Ar 3 (cI (n) v gv)) 4 (cI (n) wt gw)) 9 pv) 10 pw) 11 pm) 31 (cI (n) v gt_36)) 32 (cI (n) wt gtw_36))) H locs := hH
          refine z_st (st' := []) rfl ?_
          refine z_aload_n hC 39 hl dX7_insert_39 rfl 0 rfl ?_
          refine gmW_5 (x := (n : Int)) hC hH 40 rfl dX7_insert_40 ?_
          refine z_istore_n (lv' := [(3, .int (iZ ((n : Int)))), (0, .ref (ad 0)), (1, .int (iZ ((p1 : Int)))), (2, .int (iZ ((x1 : Int))))]) hC 43 hl dX7_insert_43 rfl (by decide) rfl (fun ls hl => ?_)
          have L44 : ∀ (N_ : Nat) (q : Nat) (tv : Nat → Int) (tw : Nat → Int) (H : Heap) (locs : List Loc) (ls : Array Slot), q < N_ → (p1 ≤ q) → (q ≤ n) → (INS v tv n q) → (INS wt tw n q) → zH s0 s1 G as0 (mW ad G (va_up (va_up (va_up (va_up (va_up (va_up F 0 (0)) 5 ((n : Int))) 6 ((b : Int))) 12 ((un : Int))) 13 (fr)) 33 ((n : Int))) (va_up (va_up (va_up (va_up (va_up (va_up (va_up Ar 3 (cI (n) v gv)) 4 (cI (n) wt gw)) 9 pv) 10 pw) 11 pm) 31 tv) 32 tw)) H locs → lv_has ls 4 [(0, .ref (ad 0)), (1, .int (iZ ((p1 : Int)))), (2, .int (iZ ((x1 : Int)))), (3, .int (iZ ((q : Int))))] → W pg lau ev (zRm 5 0 0 112) s1 mi ar bl me cd H locs 0 0 Q (F0 mi 44 ls []) := by
            intro N_
            induction N_ with
            | zero => intro q tv tw H locs ls hd; exact absurd hd (Nat.not_lt_zero _)
            | succ N_ ih44 =>
              intro q tv tw H locs ls hd44 i44_1 i44_2 it iw hH hl
              refine z_iload_n hC 44 hl dX7_insert_44 rfl 3 rfl ?_
              refine z_iload_n hC 45 hl dX7_insert_45 rfl 1 rfl ?_
              refine z_icmp_le hC 46 83 dX7_insert_46 rfl (by omega) (by omega) (fun hb4 => ?_) (fun hb4 => ?_)
              · -- 46t
                refine z_aload_n hC 83 hl dX7_insert_83 rfl 0 rfl ?_
                refine gmW_31 hC hH 84 dX7_insert_84 ?_
                refine z_iload_n hC 87 hl dX7_insert_87 rfl 1 rfl ?_
                refine z_iload_n hC 88 hl dX7_insert_88 rfl 2 rfl ?_
                refine smW_31 (f' := (va_up tv (p1) ((x1 : Int)))) hC hH 89 (p1) (by omega) (by omega) rfl dX7_insert_89 (fun H locs hH => ?_)
                have hH : zH s0 s1 G as0 (mW ad G (va_up (va_up (va_up (va_up (va_up (va_up F 0 (0)) 5 ((n : Int))) 6 ((b : Int))) 12 ((un : Int))) 13 (fr)) 33 ((n : Int))) (va_up (va_up (va_up (va_up (va_up (va_up (va_up Ar 3 (cI (n) v gv)) 4 (cI (n) wt gw)) 9 pv) 10 pw) 11 pm) 31 (va_up tv (p1) ((x1 : Int)))) 32 tw)) H locs := hH
                refine z_aload_n hC 90 hl dX7_insert_90 rfl 0 rfl ?_
                refine gmW_32 hC hH 91 dX7_insert_91 ?_
                refine z_iload_n hC 94 hl dX7_insert_94 rfl 1 rfl ?_
                refine z_iconst hC 95 dX7_insert_95 ?_
                refine smW_32 (f' := (va_up tw (p1) (1))) hC hH 96 (p1) (by omega) (by omega) rfl dX7_insert_96 (fun H locs hH => ?_)
                have hH : zH s0 s1 G as0 (mW ad G (va_up (va_up (va_up (va_up (va_up (va_up F 0 (0)) 5 ((n : Int))) 6 ((b : Int))) 12 ((un : Int))) 13 (fr)) 33 ((n : Int))) (va_up (va_up (va_up (va_up (va_up (va_up (va_up Ar 3 (cI (n) v gv)) 4 (cI (n) wt gw)) 9 pv) 10 pw) 11 pm) 31 (va_up tv (p1) ((x1 : Int)))) 32 (va_up tw (p1) (1)))) H locs := hH
                refine z_aload_n hC 97 hl dX7_insert_97 rfl 0 rfl ?_
                refine z_dup hC 98 dX7_insert_98 rfl ?_
                refine gmW_33 (x := (n : Int)) hC hH 99 rfl dX7_insert_99 ?_
                refine z_iconst hC 102 dX7_insert_102 ?_
                refine z_iadd (e := (n : Int) + 1) hC 103 dX7_insert_103 rfl ?_
                refine pmW_33 hC hH 104 dX7_insert_104 (fun H locs hH => ?_)
                have hH : zH s0 s1 G as0 (mW ad G (va_up (va_up (va_up (va_up (va_up (va_up F 0 (0)) 5 ((n : Int))) 6 ((b : Int))) 12 ((un : Int))) 13 (fr)) 33 ((n : Int) + 1)) (va_up (va_up (va_up (va_up (va_up (va_up (va_up Ar 3 (cI (n) v gv)) 4 (cI (n) wt gw)) 9 pv) 10 pw) 11 pm) 31 (va_up tv (p1) ((x1 : Int)))) 32 (va_up tw (p1) (1)))) H locs := hH
                have hcv5 : (va_up tv (p1) ((x1 : Int))) = (cI (n + 1) (insF v p1 x1) (va_up tv (p1) ((x1 : Int)))) := by exact cI_self (fun j hj => INS_e (q := p1) (by rw [show p1 = q by omega]; exact it) (by omega) j hj)
                rw [hcv5] at hH
                have hH : zH s0 s1 G as0 (mW ad G (va_up (va_up (va_up (va_up (va_up (va_up F 0 (0)) 5 ((n : Int))) 6 ((b : Int))) 12 ((un : Int))) 13 (fr)) 33 ((n : Int) + 1)) (va_up (va_up (va_up (va_up (va_up (va_up (va_up Ar 3 (cI (n) v gv)) 4 (cI (n) wt gw)) 9 pv) 10 pw) 11 pm) 31 (cI (n + 1) (insF v p1 x1) (va_up tv (p1) ((x1 : Int))))) 32 (va_up tw (p1) (1)))) H locs := hH
                have hcv6 : (va_up tw (p1) (1)) = (cI (n + 1) (insF wt p1 1) (va_up tw (p1) (1))) := by exact cI_self (fun j hj => INS_e (q := p1) (x := 1) (by rw [show p1 = q by omega]; exact iw) (by omega) j hj)
                rw [hcv6] at hH
                have hH : zH s0 s1 G as0 (mW ad G (va_up (va_up (va_up (va_up (va_up (va_up F 0 (0)) 5 ((n : Int))) 6 ((b : Int))) 12 ((un : Int))) 13 (fr)) 33 ((n : Int) + 1)) (va_up (va_up (va_up (va_up (va_up (va_up (va_up Ar 3 (cI (n) v gv)) 4 (cI (n) wt gw)) 9 pv) 10 pw) 11 pm) 31 (cI (n + 1) (insF v p1 x1) (va_up tv (p1) ((x1 : Int))))) 32 (cI (n + 1) (insF wt p1 1) (va_up tw (p1) (1))))) H locs := hH
                refine z_aload_n hC 107 hl dX7_insert_107 rfl 0 rfl ?_
                rw [show ((n : Int) + 1 : Int) = ((n + 1 : Nat) : Int) from by omega] at hH
                have hH : zH s0 s1 G as0 (mW ad G (va_up (va_up (va_up (va_up (va_up (va_up F 0 (0)) 5 ((n : Int))) 6 ((b : Int))) 12 ((un : Int))) 13 (fr)) 33 (((n + 1 : Nat) : Int))) (va_up (va_up (va_up (va_up (va_up (va_up (va_up Ar 3 (cI (n) v gv)) 4 (cI (n) wt gw)) 9 pv) 10 pw) 11 pm) 31 (cI (n + 1) (insF v p1 x1) (va_up tv (p1) ((x1 : Int))))) 32 (cI (n + 1) (insF wt p1 1) (va_up tw (p1) (1))))) H locs := hH
                refine z_same (z_runV hC hH.2.2 hl.1 hH.1 hH.2.1 0 (As := []) (rest := []) (m_X7_edits lau s0 G _ ad (va_up (va_up (va_up (va_up (va_up (va_up F 0 (0)) 5 ((n : Int))) 6 ((b : Int))) 12 ((un : Int))) 13 (fr)) 33 (((n + 1 : Nat) : Int))) (va_up (va_up (va_up (va_up (va_up (va_up (va_up Ar 3 (cI (n) v gv)) 4 (cI (n) wt gw)) 9 pv) 10 pw) 11 pm) 31 (cI (n + 1) (insF v p1 x1) (va_up tv (p1) ((x1 : Int))))) 32 (cI (n + 1) (insF wt p1 1) (va_up tw (p1) (1)))) n v gv wt gw un hm hvv hww pv pw pm b fr (n + 1) (insF v p1 x1) (insF wt p1 1) (va_up tv (p1) ((x1 : Int))) (va_up tw (p1) (1)) (by first | assumption | omega) (by first | assumption | omega) (by first | assumption | omega) (by first | assumption | omega) (by first | assumption | omega) (by first | assumption | omega) (by first | assumption | omega) (by exact insF_old (P := fun x => x < 1000) hv (by omega) (by omega)) (by exact insF_old (P := fun x => 1 ≤ x ∧ x ≤ 9) hwt ⟨by omega, by omega⟩ (by omega))) (lw_V q1684 q1686 qs65 q95 q1687) ⟨rfl, by decide, by decide, by decide +kernel⟩ (q0 := 0) (ci := 0) rfl rfl rfl rfl (Nat.le_of_ble_eq_true rfl) ⟨Nat.le_of_ble_eq_true rfl, Nat.le_of_ble_eq_true rfl⟩ ⟨Nat.le_of_ble_eq_true rfl, Nat.le_of_ble_eq_true rfl⟩ dX7_insert_108) hH (fun u_ H locs hpost hH => ?_)
                obtain ⟨gv1_108, gw1_108, pv2_108, pw2_108, pm2_108, un2_108, fr2_108, hm2_108, hvv2_108, hww2_108⟩ := u_
                obtain ⟨pP_108, pU_108, pE_108⟩ : (PAST un2_108 pv2_108 pw2_108 pm2_108 hm2_108 hvv2_108 hww2_108) ∧ (un2_108 ≤ 12) ∧ (EDT b n v wt un hm hvv hww fr (n + 1) (insF v p1 x1) (insF wt p1 1) un2_108 hm2_108 hvv2_108 hww2_108 fr2_108) := hpost
                have hH : zH s0 s1 G as0 (mW ad G (va_up (va_up (va_up (va_up (va_up (va_up F 0 (0)) 5 ((n : Int) + 1)) 6 ((b : Int))) 12 ((un2_108 : Int))) 13 (fr2_108)) 33 (((n + 1 : Nat) : Int))) (va_up (va_up (va_up (va_up (va_up (va_up (va_up Ar 3 (cI ((n + 1)) (insF v p1 x1) gv1_108)) 4 (cI ((n + 1)) (insF wt p1 1) gw1_108)) 9 pv2_108) 10 pw2_108) 11 pm2_108) 31 (cI (n + 1) (insF v p1 x1) (va_up tv (p1) ((x1 : Int))))) 32 (cI (n + 1) (insF wt p1 1) (va_up tw (p1) (1))))) H locs := hH
                refine z_st (st' := []) rfl ?_
                refine z_aload_n hC 111 hl dX7_insert_111 rfl 0 rfl ?_
                refine gmW_5 (x := (n : Int) + 1) hC hH 112 rfl dX7_insert_112 ?_
                -- R115.3
                rw [show ((n : Int) + 1 : Int) = ((n + 1 : Nat) : Int) from by omega] at hH
                have hH : zH s0 s1 G as0 (mW ad G (va_up (va_up (va_up (va_up (va_up (va_up F 0 (0)) 5 (((n + 1 : Nat) : Int))) 6 ((b : Int))) 12 ((un2_108 : Int))) 13 (fr2_108)) 33 (((n + 1 : Nat) : Int))) (va_up (va_up (va_up (va_up (va_up (va_up (va_up Ar 3 (cI ((n + 1)) (insF v p1 x1) gv1_108)) 4 (cI ((n + 1)) (insF wt p1 1) gw1_108)) 9 pv2_108) 10 pw2_108) 11 pm2_108) 31 (cI (n + 1) (insF v p1 x1) (va_up tv (p1) ((x1 : Int))))) 32 (cI (n + 1) (insF wt p1 1) (va_up tw (p1) (1))))) H locs := hH
                refine z_st (st' := [.int (iZ (((n : Int) + 1)))]) (zcons (zieq (by first | assumption | omega)) rfl) ?_
                exact z_iret hC hH hQ 115 (((n : Int) + 1, (n + 1), (insF v p1 x1), (insF wt p1 1), ((n + 1 : Nat) : Int), (cI (n + 1) (insF v p1 x1) (va_up tv (p1) ((x1 : Int)))), (cI (n + 1) (insF wt p1 1) (va_up tw (p1) (1))), gv1_108, gw1_108, pv2_108, pw2_108, pm2_108, un2_108, fr2_108, hm2_108, hvv2_108, hww2_108)) dX7_insert_115 rfl ⟨by first | (unfold Sp_insert; rw [if_neg (by omega)]; exact ⟨rfl, rfl, rfl, rfl⟩) | (unfold Sp_insert; rw [if_pos (by omega)]; first | exact ⟨rfl, rfl, rfl, rfl⟩ | exact ⟨by omega, rfl, rfl, rfl⟩), by first | assumption | omega, by exact insF_old (P := fun x => x < 1000) hv (by omega) (by omega), by exact insF_old (P := fun x => 1 ≤ x ∧ x ≤ 9) hwt ⟨by omega, by omega⟩ (by omega), by first | assumption | omega, by first | assumption | omega, by first | assumption | omega⟩ rfl (Nat.le_refl _) (Nat.le_refl _)
              · -- 46f
                refine z_aload_n hC 49 hl dX7_insert_49 rfl 0 rfl ?_
                refine gmW_31 hC hH 50 dX7_insert_50 ?_
                refine z_iload_n hC 53 hl dX7_insert_53 rfl 3 rfl ?_
                refine z_aload_n hC 54 hl dX7_insert_54 rfl 0 rfl ?_
                refine gmW_31 hC hH 55 dX7_insert_55 ?_
                refine z_iload_n hC 58 hl dX7_insert_58 rfl 3 rfl ?_
                refine z_iconst hC 59 dX7_insert_59 ?_
                refine z_isub (e := (q : Int) - 1) hC 60 dX7_insert_60 rfl ?_
                refine lmW_31 (x := (tv (q - 1))) hC hH 61 (q - 1) (by omega) (by omega) rfl dX7_insert_61 ?_
                refine smW_31 (f' := (va_up tv (q) ((tv (q - 1))))) hC hH 62 (q) (by omega) (by omega) rfl dX7_insert_62 (fun H locs hH => ?_)
                have hH : zH s0 s1 G as0 (mW ad G (va_up (va_up (va_up (va_up (va_up (va_up F 0 (0)) 5 ((n : Int))) 6 ((b : Int))) 12 ((un : Int))) 13 (fr)) 33 ((n : Int))) (va_up (va_up (va_up (va_up (va_up (va_up (va_up Ar 3 (cI (n) v gv)) 4 (cI (n) wt gw)) 9 pv) 10 pw) 11 pm) 31 (va_up tv (q) ((tv (q - 1))))) 32 tw)) H locs := hH
                refine z_aload_n hC 63 hl dX7_insert_63 rfl 0 rfl ?_
                refine gmW_32 hC hH 64 dX7_insert_64 ?_
                refine z_iload_n hC 67 hl dX7_insert_67 rfl 3 rfl ?_
                refine z_aload_n hC 68 hl dX7_insert_68 rfl 0 rfl ?_
                refine gmW_32 hC hH 69 dX7_insert_69 ?_
                refine z_iload_n hC 72 hl dX7_insert_72 rfl 3 rfl ?_
                refine z_iconst hC 73 dX7_insert_73 ?_
                refine z_isub (e := (q : Int) - 1) hC 74 dX7_insert_74 rfl ?_
                refine lmW_32 (x := (tw (q - 1))) hC hH 75 (q - 1) (by omega) (by omega) rfl dX7_insert_75 ?_
                refine smW_32 (f' := (va_up tw (q) ((tw (q - 1))))) hC hH 76 (q) (by omega) (by omega) rfl dX7_insert_76 (fun H locs hH => ?_)
                have hH : zH s0 s1 G as0 (mW ad G (va_up (va_up (va_up (va_up (va_up (va_up F 0 (0)) 5 ((n : Int))) 6 ((b : Int))) 12 ((un : Int))) 13 (fr)) 33 ((n : Int))) (va_up (va_up (va_up (va_up (va_up (va_up (va_up Ar 3 (cI (n) v gv)) 4 (cI (n) wt gw)) 9 pv) 10 pw) 11 pm) 31 (va_up tv (q) ((tv (q - 1))))) 32 (va_up tw (q) ((tw (q - 1)))))) H locs := hH
                refine z_iinc (lv' := [(3, .int (iZ ((q : Int) - 1))), (0, .ref (ad 0)), (1, .int (iZ ((p1 : Int)))), (2, .int (iZ ((x1 : Int))))]) hC 77 hl dX7_insert_77 3 rfl (by omega) (by decide) rfl (fun ls hl => ?_)
                refine z_goto hC 80 44 dX7_insert_80 rfl ?_
                -- J44.4
                exact ih44 (q - 1) (va_up tv (q) ((tv (q - 1)))) (va_up tw (q) ((tw (q - 1)))) _ _ _ (by omega) (by first | assumption | omega) (by first | assumption | omega) (by first | exact INS_0 | exact INS_s it (by omega) (by omega)) (by first | exact INS_0 | exact INS_s iw (by omega) (by omega)) hH (z_lv (lv_sub hl [1, 2, 3, 0] rfl) (zcons rfl (zcons rfl (zcons rfl (zcons (zpeq (by omega)) rfl)))))
          -- J44.5
          exact L44 _ n (cI (n) v gt_36) (cI (n) wt gtw_36) _ _ _ (Nat.lt_succ_self _) (by first | assumption | omega) (by first | assumption | omega) (by first | exact INS_0 | exact INS_s it (by omega) (by omega)) (by first | exact INS_0 | exact INS_s iw (by omega) (by omega)) hH (lv_sub hl [1, 2, 3, 0] rfl)
        · -- 30f
          refine z_iconst hC 33 dX7_insert_33 ?_
          -- R34.6
          exact z_iret hC hH hQ 34 (((-1), n, v, wt, (F 33), (Ar 31), (Ar 32), gv, gw, pv, pw, pm, un, fr, hm, hvv, hww)) dX7_insert_34 rfl ⟨by first | (unfold Sp_insert; rw [if_neg (by omega)]; exact ⟨rfl, rfl, rfl, rfl⟩) | (unfold Sp_insert; rw [if_pos (by omega)]; first | exact ⟨rfl, rfl, rfl, rfl⟩ | exact ⟨by omega, rfl, rfl, rfl⟩), by first | assumption | omega, by first | assumption | omega, by first | assumption | omega, by exact hPA, by first | assumption | omega, by exact EDT_none⟩ rfl (Nat.le_refl _) (Nat.le_refl _)
      · -- 18=0
        refine z_if_eq_t hC 21 33 dX7_insert_21 rfl (by omega) (by omega) ?_
        refine z_iconst hC 33 dX7_insert_33 ?_
        -- R34.7
        exact z_iret hC hH hQ 34 (((-1), n, v, wt, (F 33), (Ar 31), (Ar 32), gv, gw, pv, pw, pm, un, fr, hm, hvv, hww)) dX7_insert_34 rfl ⟨by first | (unfold Sp_insert; rw [if_neg (by omega)]; exact ⟨rfl, rfl, rfl, rfl⟩) | (unfold Sp_insert; rw [if_pos (by omega)]; first | exact ⟨rfl, rfl, rfl, rfl⟩ | exact ⟨by omega, rfl, rfl, rfl⟩), by first | assumption | omega, by first | assumption | omega, by first | assumption | omega, by exact hPA, by first | assumption | omega, by exact EDT_none⟩ rfl (Nat.le_refl _) (Nat.le_refl _)

set_option maxHeartbeats 4000000 in
set_option maxRecDepth 100000 in
theorem m_X7_remove (lau : Launch) (s0 : State) (G : zG) (sz : Nat) (ad : Nat → Nat) (F : Nat → Int) (Ar : Nat → Nat → Int) (n : Nat) (v : Nat → Nat) (gv : Nat → Int) (wt : Nat → Nat) (gw : Nat → Int) (un : Nat) (hm : Nat → Nat) (hvv : Nat → Nat → Nat) (hww : Nat → Nat → Nat) (pv : Nat → Int) (pw : Nat → Int) (pm : Nat → Int) (b : Nat) (fr : Int) (p : Int) (hn : n ≤ 120) (hv : ∀ i, i < n → v i < 1000) (hwt : ∀ i, i < n → 1 ≤ wt i ∧ wt i ≤ 9) (hun : un ≤ 12) (hPA : PAST un pv pw pm hm hvv hww) (hb : 2 ≤ b ∧ b ≤ 20) (hr_p : -2147483648 ≤ p ∧ p < 2147483648) : zMet (S := Int × Nat × (Nat → Nat) × (Nat → Nat) × Int × (Nat → Int) × (Nat → Int) × (Nat → Int) × (Nat → Int) × (Nat → Int) × (Nat → Int) × (Nat → Int) × Nat × Int × (Nat → Nat) × (Nat → Nat → Nat) × (Nat → Nat → Nat)) lau yX7_remove cX7_remove 4 (some .int) 5 112 0 0 s0 G sz [.ref (ad 0), .int (iZ (p))] (mW ad G (va_up (va_up (va_up (va_up F 5 ((n : Int))) 6 ((b : Int))) 12 ((un : Int))) 13 (fr)) (va_up (va_up (va_up (va_up (va_up Ar 3 (cI (n) v gv)) 4 (cI (n) wt gw)) 9 pv) 10 pw) 11 pm)) (fun ((r_, n2, v2, w2, tm, tv, tw, gv1, gw1, pv2, pw2, pm2, un2, fr2, hm2, hvv2, hww2) : Int × Nat × (Nat → Nat) × (Nat → Nat) × Int × (Nat → Int) × (Nat → Int) × (Nat → Int) × (Nat → Int) × (Nat → Int) × (Nat → Int) × (Nat → Int) × Nat × Int × (Nat → Nat) × (Nat → Nat → Nat) × (Nat → Nat → Nat)) => some (.int (iZ (r_)))) (fun ((r_, n2, v2, w2, tm, tv, tw, gv1, gw1, pv2, pw2, pm2, un2, fr2, hm2, hvv2, hww2) : Int × Nat × (Nat → Nat) × (Nat → Nat) × Int × (Nat → Int) × (Nat → Int) × (Nat → Int) × (Nat → Int) × (Nat → Int) × (Nat → Int) × (Nat → Int) × Nat × Int × (Nat → Nat) × (Nat → Nat → Nat) × (Nat → Nat → Nat)) => (Sp_remove n v wt p r_ n2 v2 w2) ∧ (n2 ≤ 120) ∧ (∀ i, i < n2 → v2 i < 1000) ∧ (∀ i, i < n2 → 1 ≤ w2 i ∧ w2 i ≤ 9) ∧ (PAST un2 pv2 pw2 pm2 hm2 hvv2 hww2) ∧ (un2 ≤ 12) ∧ (EDT b n v wt un hm hvv hww fr n2 v2 w2 un2 hm2 hvv2 hww2 fr2)) (fun ((r_, n2, v2, w2, tm, tv, tw, gv1, gw1, pv2, pw2, pm2, un2, fr2, hm2, hvv2, hww2) : Int × Nat × (Nat → Nat) × (Nat → Nat) × Int × (Nat → Int) × (Nat → Int) × (Nat → Int) × (Nat → Int) × (Nat → Int) × (Nat → Int) × (Nat → Int) × Nat × Int × (Nat → Nat) × (Nat → Nat → Nat) × (Nat → Nat → Nat)) => (mW ad G (va_up (va_up (va_up (va_up (va_up (va_up F 0 (0)) 5 ((n2 : Int))) 6 ((b : Int))) 12 ((un2 : Int))) 13 (fr2)) 33 (tm)) (va_up (va_up (va_up (va_up (va_up (va_up (va_up Ar 3 (cI (n2) v2 gv1)) 4 (cI (n2) w2 gw1)) 9 pv2) 10 pw2) 11 pm2) 31 tv) 32 tw))) := by
  refine zMet.of (by decide) (Nat.le_of_ble_eq_true rfl) ?_
  intro pg ev s1 mi ar bl me cd ls Q as0 hC hH hl hQ hsz
  generalize s1.heap = H at hH ⊢
  generalize ([] : List Loc) = locs at hH ⊢
  have hl : lv_has ls 4 [(0, .ref (ad 0)), (1, .int (iZ (p)))] := hl
  refine z_aload_n hC 0 hl dX7_remove_0 rfl 0 rfl ?_
  refine z_iconst hC 1 dX7_remove_1 ?_
  refine pmW_0 hC hH 2 dX7_remove_2 (fun H locs hH => ?_)
  have hH : zH s0 s1 G as0 (mW ad G (va_up (va_up (va_up (va_up (va_up F 0 (0)) 5 ((n : Int))) 6 ((b : Int))) 12 ((un : Int))) 13 (fr)) (va_up (va_up (va_up (va_up (va_up Ar 3 (cI (n) v gv)) 4 (cI (n) wt gw)) 9 pv) 10 pw) 11 pm)) H locs := hH
  refine z_aload_n hC 5 hl dX7_remove_5 rfl 0 rfl ?_
  refine z_iload_n hC 6 hl dX7_remove_6 rfl 1 rfl ?_
  refine z_same (z_runV hC hH.2.2 hl.1 hH.1 hH.2.1 1 (As := [.int (iZ (p))]) (rest := []) (m_X7_isPlace lau s0 G _ ad (va_up (va_up (va_up (va_up (va_up F 0 (0)) 5 ((n : Int))) 6 ((b : Int))) 12 ((un : Int))) 13 (fr)) (va_up (va_up (va_up (va_up (va_up Ar 3 (cI (n) v gv)) 4 (cI (n) wt gw)) 9 pv) 10 pw) 11 pm) n p (by first | assumption | omega) (by first | assumption | omega)) (lw_V q1641 q1643 qs57 q95 q1644) ⟨rfl, by decide, by decide, by decide +kernel⟩ (q0 := 0) (ci := 0) rfl rfl rfl rfl (Nat.le_of_ble_eq_true rfl) ⟨Nat.le_of_ble_eq_true rfl, Nat.le_of_ble_eq_true rfl⟩ ⟨Nat.le_of_ble_eq_true rfl, Nat.le_of_ble_eq_true rfl⟩ dX7_remove_7) hH (fun r_7 H locs hpost hH => ?_)
  have hb_7 : (r_7 = 1 ∧ (0 ≤ p ∧ p < (n : Int))) ∨ (r_7 = 0 ∧ ¬ (0 ≤ p ∧ p < (n : Int))) := hpost
  have hH : zH s0 s1 G as0 (mW ad G (va_up (va_up (va_up (va_up (va_up F 0 (0)) 5 ((n : Int))) 6 ((b : Int))) 12 ((un : Int))) 13 (fr)) (va_up (va_up (va_up (va_up (va_up Ar 3 (cI (n) v gv)) 4 (cI (n) wt gw)) 9 pv) 10 pw) 11 pm)) H locs := hH
  refine z_st (st' := [.int (iZ (r_7))]) rfl ?_
  rcases hb_7 with ⟨rfl, hb_7⟩ | ⟨rfl, hb_7⟩
  · -- 7=1
    refine z_if_ne_t hC 10 15 dX7_remove_10 rfl (by omega) (by omega) ?_
    obtain ⟨p1, rfl⟩ := Int.eq_ofNat_of_zero_le (show 0 ≤ p by omega)
    have hv9 := hv p1 (by omega)
    refine z_aload_n hC 15 hl dX7_remove_15 rfl 0 rfl ?_
    refine gmW_3 hC hH 16 dX7_remove_16 ?_
    refine z_iload_n hC 19 hl dX7_remove_19 rfl 1 rfl ?_
    refine lmW_3 (x := ((v p1 : Nat) : Int)) hC hH 20 (p1) (by omega) (by omega) (cI_lt (by omega)) dX7_remove_20 ?_
    refine z_istore_n (lv' := [(2, .int (iZ (((v p1 : Nat) : Int)))), (0, .ref (ad 0)), (1, .int (iZ ((p1 : Int))))]) hC 21 hl dX7_remove_21 rfl (by decide) rfl (fun ls hl => ?_)
    refine z_aload_n hC 22 hl dX7_remove_22 rfl 1 rfl ?_
    refine z_same (z_runV hC hH.2.2 hl.1 hH.1 hH.2.1 0 (As := []) (rest := []) (m_X7_begins lau s0 G _ ad (va_up (va_up (va_up (va_up (va_up F 0 (0)) 5 ((n : Int))) 6 ((b : Int))) 12 ((un : Int))) 13 (fr)) (va_up (va_up (va_up (va_up (va_up Ar 3 (cI (n) v gv)) 4 (cI (n) wt gw)) 9 pv) 10 pw) 11 pm) n v gv wt gw (by first | assumption | omega) (by first | assumption | omega) (by first | assumption | omega)) (lw_V q1680 q1682 qs64 q95 q1683) ⟨rfl, by decide, by decide, by decide +kernel⟩ (q0 := 0) (ci := 0) rfl rfl rfl rfl (Nat.le_of_ble_eq_true rfl) ⟨Nat.le_of_ble_eq_true rfl, Nat.le_of_ble_eq_true rfl⟩ ⟨Nat.le_of_ble_eq_true rfl, Nat.le_of_ble_eq_true rfl⟩ dX7_remove_23) hH (fun u_ H locs hpost hH => ?_)
    obtain ⟨gt_23, gtw_23⟩ := u_
    have hH : zH s0 s1 G as0 (mW ad G (va_up (va_up (va_up (va_up (va_up (va_up F 0 (0)) 5 ((n : Int))) 6 ((b : Int))) 12 ((un : Int))) 13 (fr)) 33 ((n : Int))) (va_up (va_up (va_up (va_up (va_up (va_up (va_up Ar 3 (cI (n) v gv)) 4 (cI (n) wt gw)) 9 pv) 10 pw) 11 pm) 31 (cI (n) v gt_23)) 32 (cI (n) wt gtw_23))) H locs := hH
    refine z_st (st' := []) rfl ?_
    refine z_iload_n hC 26 hl dX7_remove_26 rfl 2 rfl ?_
    refine z_istore_n (lv' := [(3, .int (iZ ((p1 : Int)))), (2, .int (iZ (((v p1 : Nat) : Int)))), (0, .ref (ad 0)), (1, .int (iZ ((p1 : Int))))]) hC 27 hl dX7_remove_27 rfl (by decide) rfl (fun ls hl => ?_)
    have L28 : ∀ (N_ : Nat) (q : Nat) (tv : Nat → Int) (tw : Nat → Int) (H : Heap) (locs : List Loc) (ls : Array Slot), n - q < N_ → (p1 ≤ q) → (q < n) → (REM v tv n p1 q) → (REM wt tw n p1 q) → zH s0 s1 G as0 (mW ad G (va_up (va_up (va_up (va_up (va_up (va_up F 0 (0)) 5 ((n : Int))) 6 ((b : Int))) 12 ((un : Int))) 13 (fr)) 33 ((n : Int))) (va_up (va_up (va_up (va_up (va_up (va_up (va_up Ar 3 (cI (n) v gv)) 4 (cI (n) wt gw)) 9 pv) 10 pw) 11 pm) 31 tv) 32 tw)) H locs → lv_has ls 4 [(0, .ref (ad 0)), (1, .int (iZ ((p1 : Int)))), (2, .int (iZ (((v p1 : Nat) : Int)))), (3, .int (iZ ((q : Int))))] → W pg lau ev (zRm 5 0 0 112) s1 mi ar bl me cd H locs 0 0 Q (F0 mi 28 ls []) := by
      intro N_
      induction N_ with
      | zero => intro q tv tw H locs ls hd; exact absurd hd (Nat.not_lt_zero _)
      | succ N_ ih28 =>
        intro q tv tw H locs ls hd28 i28_1 i28_2 it iw hH hl
        refine z_iload_n hC 28 hl dX7_remove_28 rfl 3 rfl ?_
        refine z_iconst hC 29 dX7_remove_29 ?_
        refine z_iadd (e := (q : Int) + 1) hC 30 dX7_remove_30 rfl ?_
        refine z_aload_n hC 31 hl dX7_remove_31 rfl 0 rfl ?_
        refine gmW_5 (x := (n : Int)) hC hH 32 rfl dX7_remove_32 ?_
        refine z_icmp_ge hC 35 72 dX7_remove_35 rfl (by omega) (by omega) (fun hb1 => ?_) (fun hb1 => ?_)
        · -- 35t
          refine z_aload_n hC 72 hl dX7_remove_72 rfl 0 rfl ?_
          refine z_dup hC 73 dX7_remove_73 rfl ?_
          refine gmW_33 (x := (n : Int)) hC hH 74 rfl dX7_remove_74 ?_
          refine z_iconst hC 77 dX7_remove_77 ?_
          refine z_isub (e := (n : Int) - 1) hC 78 dX7_remove_78 rfl ?_
          refine pmW_33 hC hH 79 dX7_remove_79 (fun H locs hH => ?_)
          have hH : zH s0 s1 G as0 (mW ad G (va_up (va_up (va_up (va_up (va_up (va_up F 0 (0)) 5 ((n : Int))) 6 ((b : Int))) 12 ((un : Int))) 13 (fr)) 33 ((n : Int) - 1)) (va_up (va_up (va_up (va_up (va_up (va_up (va_up Ar 3 (cI (n) v gv)) 4 (cI (n) wt gw)) 9 pv) 10 pw) 11 pm) 31 tv) 32 tw)) H locs := hH
          have hcv2 : tv = (cI (n - 1) (remF v p1) tv) := by exact cI_self (fun j hj => REM_e it (by omega) j hj)
          rw [hcv2] at hH
          have hH : zH s0 s1 G as0 (mW ad G (va_up (va_up (va_up (va_up (va_up (va_up F 0 (0)) 5 ((n : Int))) 6 ((b : Int))) 12 ((un : Int))) 13 (fr)) 33 ((n : Int) - 1)) (va_up (va_up (va_up (va_up (va_up (va_up (va_up Ar 3 (cI (n) v gv)) 4 (cI (n) wt gw)) 9 pv) 10 pw) 11 pm) 31 (cI (n - 1) (remF v p1) tv)) 32 tw)) H locs := hH
          have hcv3 : tw = (cI (n - 1) (remF wt p1) tw) := by exact cI_self (fun j hj => REM_e iw (by omega) j hj)
          rw [hcv3] at hH
          have hH : zH s0 s1 G as0 (mW ad G (va_up (va_up (va_up (va_up (va_up (va_up F 0 (0)) 5 ((n : Int))) 6 ((b : Int))) 12 ((un : Int))) 13 (fr)) 33 ((n : Int) - 1)) (va_up (va_up (va_up (va_up (va_up (va_up (va_up Ar 3 (cI (n) v gv)) 4 (cI (n) wt gw)) 9 pv) 10 pw) 11 pm) 31 (cI (n - 1) (remF v p1) tv)) 32 (cI (n - 1) (remF wt p1) tw))) H locs := hH
          refine z_aload_n hC 82 hl dX7_remove_82 rfl 0 rfl ?_
          rw [show ((n : Int) - 1 : Int) = ((n - 1 : Nat) : Int) from by omega] at hH
          have hH : zH s0 s1 G as0 (mW ad G (va_up (va_up (va_up (va_up (va_up (va_up F 0 (0)) 5 ((n : Int))) 6 ((b : Int))) 12 ((un : Int))) 13 (fr)) 33 (((n - 1 : Nat) : Int))) (va_up (va_up (va_up (va_up (va_up (va_up (va_up Ar 3 (cI (n) v gv)) 4 (cI (n) wt gw)) 9 pv) 10 pw) 11 pm) 31 (cI (n - 1) (remF v p1) tv)) 32 (cI (n - 1) (remF wt p1) tw))) H locs := hH
          refine z_same (z_runV hC hH.2.2 hl.1 hH.1 hH.2.1 0 (As := []) (rest := []) (m_X7_edits lau s0 G _ ad (va_up (va_up (va_up (va_up (va_up (va_up F 0 (0)) 5 ((n : Int))) 6 ((b : Int))) 12 ((un : Int))) 13 (fr)) 33 (((n - 1 : Nat) : Int))) (va_up (va_up (va_up (va_up (va_up (va_up (va_up Ar 3 (cI (n) v gv)) 4 (cI (n) wt gw)) 9 pv) 10 pw) 11 pm) 31 (cI (n - 1) (remF v p1) tv)) 32 (cI (n - 1) (remF wt p1) tw)) n v gv wt gw un hm hvv hww pv pw pm b fr (n - 1) (remF v p1) (remF wt p1) tv tw (by first | assumption | omega) (by first | assumption | omega) (by first | assumption | omega) (by first | assumption | omega) (by first | assumption | omega) (by first | assumption | omega) (by first | assumption | omega) (by exact remF_old (P := fun x => x < 1000) hv) (by exact remF_old (P := fun x => 1 ≤ x ∧ x ≤ 9) hwt)) (lw_V q1684 q1686 qs65 q95 q1687) ⟨rfl, by decide, by decide, by decide +kernel⟩ (q0 := 0) (ci := 0) rfl rfl rfl rfl (Nat.le_of_ble_eq_true rfl) ⟨Nat.le_of_ble_eq_true rfl, Nat.le_of_ble_eq_true rfl⟩ ⟨Nat.le_of_ble_eq_true rfl, Nat.le_of_ble_eq_true rfl⟩ dX7_remove_83) hH (fun u_ H locs hpost hH => ?_)
          obtain ⟨gv1_83, gw1_83, pv2_83, pw2_83, pm2_83, un2_83, fr2_83, hm2_83, hvv2_83, hww2_83⟩ := u_
          obtain ⟨pP_83, pU_83, pE_83⟩ : (PAST un2_83 pv2_83 pw2_83 pm2_83 hm2_83 hvv2_83 hww2_83) ∧ (un2_83 ≤ 12) ∧ (EDT b n v wt un hm hvv hww fr (n - 1) (remF v p1) (remF wt p1) un2_83 hm2_83 hvv2_83 hww2_83 fr2_83) := hpost
          have hH : zH s0 s1 G as0 (mW ad G (va_up (va_up (va_up (va_up (va_up (va_up F 0 (0)) 5 (((n - 1 : Nat) : Int))) 6 ((b : Int))) 12 ((un2_83 : Int))) 13 (fr2_83)) 33 (((n - 1 : Nat) : Int))) (va_up (va_up (va_up (va_up (va_up (va_up (va_up Ar 3 (cI ((n - 1)) (remF v p1) gv1_83)) 4 (cI ((n - 1)) (remF wt p1) gw1_83)) 9 pv2_83) 10 pw2_83) 11 pm2_83) 31 (cI (n - 1) (remF v p1) tv)) 32 (cI (n - 1) (remF wt p1) tw))) H locs := hH
          refine z_st (st' := []) rfl ?_
          refine z_iload_n hC 86 hl dX7_remove_86 rfl 2 rfl ?_
          -- R87.1
          exact z_iret hC hH hQ 87 ((((v p1 : Nat) : Int), (n - 1), (remF v p1), (remF wt p1), ((n - 1 : Nat) : Int), (cI (n - 1) (remF v p1) tv), (cI (n - 1) (remF wt p1) tw), gv1_83, gw1_83, pv2_83, pw2_83, pm2_83, un2_83, fr2_83, hm2_83, hvv2_83, hww2_83)) dX7_remove_87 rfl ⟨by first | (unfold Sp_remove; rw [if_neg (by omega)]; exact ⟨rfl, rfl, rfl, rfl⟩) | (unfold Sp_remove; rw [if_pos (by omega)]; first | exact ⟨rfl, rfl, rfl, rfl⟩ | exact ⟨by omega, rfl, rfl, rfl⟩), by first | assumption | omega, by exact remF_old (P := fun x => x < 1000) hv, by exact remF_old (P := fun x => 1 ≤ x ∧ x ≤ 9) hwt, by first | assumption | omega, by first | assumption | omega, by first | assumption | omega⟩ rfl (Nat.le_refl _) (Nat.le_refl _)
        · -- 35f
          refine z_aload_n hC 38 hl dX7_remove_38 rfl 0 rfl ?_
          refine gmW_31 hC hH 39 dX7_remove_39 ?_
          refine z_iload_n hC 42 hl dX7_remove_42 rfl 3 rfl ?_
          refine z_aload_n hC 43 hl dX7_remove_43 rfl 0 rfl ?_
          refine gmW_31 hC hH 44 dX7_remove_44 ?_
          refine z_iload_n hC 47 hl dX7_remove_47 rfl 3 rfl ?_
          refine z_iconst hC 48 dX7_remove_48 ?_
          refine z_iadd (e := (q : Int) + 1) hC 49 dX7_remove_49 rfl ?_
          refine lmW_31 (x := (tv (q + 1))) hC hH 50 (q + 1) (by omega) (by omega) rfl dX7_remove_50 ?_
          refine smW_31 (f' := (va_up tv (q) ((tv (q + 1))))) hC hH 51 (q) (by omega) (by omega) rfl dX7_remove_51 (fun H locs hH => ?_)
          have hH : zH s0 s1 G as0 (mW ad G (va_up (va_up (va_up (va_up (va_up (va_up F 0 (0)) 5 ((n : Int))) 6 ((b : Int))) 12 ((un : Int))) 13 (fr)) 33 ((n : Int))) (va_up (va_up (va_up (va_up (va_up (va_up (va_up Ar 3 (cI (n) v gv)) 4 (cI (n) wt gw)) 9 pv) 10 pw) 11 pm) 31 (va_up tv (q) ((tv (q + 1))))) 32 tw)) H locs := hH
          refine z_aload_n hC 52 hl dX7_remove_52 rfl 0 rfl ?_
          refine gmW_32 hC hH 53 dX7_remove_53 ?_
          refine z_iload_n hC 56 hl dX7_remove_56 rfl 3 rfl ?_
          refine z_aload_n hC 57 hl dX7_remove_57 rfl 0 rfl ?_
          refine gmW_32 hC hH 58 dX7_remove_58 ?_
          refine z_iload_n hC 61 hl dX7_remove_61 rfl 3 rfl ?_
          refine z_iconst hC 62 dX7_remove_62 ?_
          refine z_iadd (e := (q : Int) + 1) hC 63 dX7_remove_63 rfl ?_
          refine lmW_32 (x := (tw (q + 1))) hC hH 64 (q + 1) (by omega) (by omega) rfl dX7_remove_64 ?_
          refine smW_32 (f' := (va_up tw (q) ((tw (q + 1))))) hC hH 65 (q) (by omega) (by omega) rfl dX7_remove_65 (fun H locs hH => ?_)
          have hH : zH s0 s1 G as0 (mW ad G (va_up (va_up (va_up (va_up (va_up (va_up F 0 (0)) 5 ((n : Int))) 6 ((b : Int))) 12 ((un : Int))) 13 (fr)) 33 ((n : Int))) (va_up (va_up (va_up (va_up (va_up (va_up (va_up Ar 3 (cI (n) v gv)) 4 (cI (n) wt gw)) 9 pv) 10 pw) 11 pm) 31 (va_up tv (q) ((tv (q + 1))))) 32 (va_up tw (q) ((tw (q + 1)))))) H locs := hH
          refine z_iinc (lv' := [(3, .int (iZ ((q : Int) + 1))), (0, .ref (ad 0)), (1, .int (iZ ((p1 : Int)))), (2, .int (iZ (((v p1 : Nat) : Int))))]) hC 66 hl dX7_remove_66 3 rfl (by omega) (by decide) rfl (fun ls hl => ?_)
          refine z_goto hC 69 28 dX7_remove_69 rfl ?_
          -- J28.2
          exact ih28 (q + 1) (va_up tv (q) ((tv (q + 1)))) (va_up tw (q) ((tw (q + 1)))) _ _ _ (by omega) (by first | assumption | omega) (by first | assumption | omega) (by first | exact REM_0 | exact REM_s it (by omega) (by omega)) (by first | exact REM_0 | exact REM_s iw (by omega) (by omega)) hH (z_lv (lv_sub hl [1, 2, 3, 0] rfl) (zcons rfl (zcons rfl (zcons rfl (zcons (zpeq (by omega)) rfl)))))
    -- J28.3
    exact L28 _ p1 (cI (n) v gt_23) (cI (n) wt gtw_23) _ _ _ (Nat.lt_succ_self _) (by first | assumption | omega) (by first | assumption | omega) (by first | exact REM_0 | exact REM_s it (by omega) (by omega)) (by first | exact REM_0 | exact REM_s iw (by omega) (by omega)) hH (lv_sub hl [2, 3, 1, 0] rfl)
  · -- 7=0
    refine z_if_ne_f hC 10 15 dX7_remove_10 rfl (by omega) (by omega) ?_
    refine z_iconst hC 13 dX7_remove_13 ?_
    -- R14.4
    exact z_iret hC hH hQ 14 (((-1), n, v, wt, (F 33), (Ar 31), (Ar 32), gv, gw, pv, pw, pm, un, fr, hm, hvv, hww)) dX7_remove_14 rfl ⟨by first | (unfold Sp_remove; rw [if_neg (by omega)]; exact ⟨rfl, rfl, rfl, rfl⟩) | (unfold Sp_remove; rw [if_pos (by omega)]; first | exact ⟨rfl, rfl, rfl, rfl⟩ | exact ⟨by omega, rfl, rfl, rfl⟩), by first | assumption | omega, by first | assumption | omega, by first | assumption | omega, by exact hPA, by first | assumption | omega, by exact EDT_none⟩ rfl (Nat.le_refl _) (Nat.le_refl _)
