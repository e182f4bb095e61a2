/-! methods of ModeDeskModel: 22.ml -/
set_option maxHeartbeats 4000000 in
set_option maxRecDepth 100000 in
theorem m_X7_part (lau : Launch) (s0 : State) (G : zG) (sz : Nat) (ad : Nat → Nat) (F : Nat → Int) (Ar : Nat → Nat → Int) (n : Nat) (v : Nat → Nat) (gv : Nat → Int) (t : Nat) (k0 : Int) (hn : n ≤ 120) (hv : ∀ i, i < n → v i < 1000) (ht : t < 4) (hr_k0 : -2147483648 ≤ k0 ∧ k0 < 2147483648) : zMet (S := Int × (Nat → Int) × (Nat → Nat → Int)) lau yX7_part cX7_part 5 (some .int) 4 91 0 0 s0 G sz [.ref (ad 0), .int (iZ (k0))] (mW ad G (va_up (va_up F 5 ((n : Int))) 7 ((t : Int))) (va_up Ar 3 (cI (n) v gv))) (fun ((r_, F2, A2) : Int × (Nat → Int) × (Nat → Nat → Int)) => some (.int (iZ (r_)))) (fun ((r_, F2, A2) : Int × (Nat → Int) × (Nat → Nat → Int)) => (Sp_part n v t k0 r_) ∧ (MK (va_up (va_up F 5 ((n : Int))) 7 ((t : Int))) (va_up Ar 3 (cI (n) v gv)) F2 A2)) (fun ((r_, F2, A2) : Int × (Nat → Int) × (Nat → Nat → Int)) => (mW ad G F2 A2)) := by
  refine zMet.of (by decide) (Nat.le_of_ble_eq_true rfl) ?_
  intro pg ev s1 mi ar bl me cd ls Q as0 hC hH hl hQ hsz
  generalize s1.heap = H at hH ⊢
  generalize ([] : List Loc) = locs at hH ⊢
  have hl : lv_has ls 5 [(0, .ref (ad 0)), (1, .int (iZ (k0)))] := hl
  refine z_aload_n hC 0 hl dX7_part_0 rfl 0 rfl ?_
  refine z_iconst hC 1 dX7_part_1 ?_
  refine pmW_0 hC hH 2 dX7_part_2 (fun H locs hH => ?_)
  have hH : zH s0 s1 G as0 (mW ad G (va_up (va_up (va_up F 0 (0)) 5 ((n : Int))) 7 ((t : Int))) (va_up Ar 3 (cI (n) v gv))) H locs := hH
  refine z_iload_n hC 5 hl dX7_part_5 rfl 1 rfl ?_
  refine z_iconst hC 6 dX7_part_6 ?_
  refine z_icmp_ge hC 7 12 dX7_part_7 rfl (by omega) (by omega) (fun hb1 => ?_) (fun hb1 => ?_)
  · -- 7t
    refine z_aload_n hC 12 hl dX7_part_12 rfl 0 rfl ?_
    refine gmW_41 hC hH 13 dX7_part_13 ?_
    refine z_aload_n hC 16 hl dX7_part_16 rfl 0 rfl ?_
    refine gmW_5 (x := (n : Int)) hC hH 17 rfl dX7_part_17 ?_
    refine z_iconst hC 20 dX7_part_20 ?_
    refine smW_41 (f' := (va_up (Ar 41) (n) (0))) hC hH 21 (n) (by omega) (by omega) rfl dX7_part_21 (fun H locs hH => ?_)
    have hH : zH s0 s1 G as0 (mW ad G (va_up (va_up (va_up F 0 (0)) 5 ((n : Int))) 7 ((t : Int))) (va_up (va_up Ar 3 (cI (n) v gv)) 41 (va_up (Ar 41) (n) (0)))) H locs := hH
    refine z_aload_n hC 22 hl dX7_part_22 rfl 0 rfl ?_
    refine gmW_5 (x := (n : Int)) hC hH 23 rfl dX7_part_23 ?_
    refine z_iconst hC 26 dX7_part_26 ?_
    refine z_isub (e := (n : Int) - 1) hC 27 dX7_part_27 rfl ?_
    refine z_istore_n (lv' := [(2, .int (iZ ((n : Int) - 1))), (0, .ref (ad 0)), (1, .int (iZ (k0)))]) hC 28 hl dX7_part_28 rfl (by decide) rfl (fun ls hl => ?_)
    have L29 : ∀ (N_ : Nat) (e : Nat) (fa : Nat → Int) (f38 : Int) (a34 : Nat → Int) (a35 : Nat → Int) (a36 : Nat → Int) (a37 : Nat → Int) (H : Heap) (locs : List Loc) (ls : Array Slot), e < N_ → (e ≤ n) → (FWe v t n e fa) → zH s0 s1 G as0 (mW ad G (va_up (va_up (va_up (va_up F 0 (0)) 5 ((n : Int))) 7 ((t : Int))) 38 (f38)) (va_up (va_up (va_up (va_up (va_up (va_up Ar 3 (cI (n) v gv)) 34 a34) 35 a35) 36 a36) 37 a37) 41 fa)) H locs → lv_has ls 5 [(0, .ref (ad 0)), (1, .int (iZ (k0))), (2, .int (iZ ((e : Int) - 1)))] → W pg lau ev (zRm 4 0 0 91) s1 mi ar bl me cd H locs 0 0 Q (F0 mi 29 ls []) := by
      intro N_
      induction N_ with
      | zero => intro e fa f38 a34 a35 a36 a37 H locs ls hd; exact absurd hd (Nat.not_lt_zero _)
      | succ N_ ih29 =>
        intro e fa f38 a34 a35 a36 a37 H locs ls hd29 i29_1 ie hH hl
        refine z_iload_n hC 29 hl dX7_part_29 rfl 2 rfl ?_
        refine z_if_lt hC 30 108 dX7_part_30 rfl (by omega) (fun hb2 => ?_) (fun hb2 => ?_)
        · -- 30t
          have ee : e = 0 := by omega
          have hfa : ∀ i, i ≤ n → fa i = (fw v t n i : Int) := fun i hi => by have q9 := ie i (by omega) hi; rw [ee] at q9; exact q9
          have hf0 := hfa 0 (by omega)
          have hfl0 : fw v t n 0 ≤ 121 := fwT_le n 0
          refine z_iload_n hC 108 hl dX7_part_108 rfl 1 rfl ?_
          refine z_iconst hC 109 dX7_part_109 ?_
          refine z_icmp_ne hC 110 120 dX7_part_110 rfl (by omega) (by omega) (fun hb3 => ?_) (fun hb3 => ?_)
          · -- 110t
            refine z_iconst hC 120 dX7_part_120 ?_
            refine z_istore_n (lv' := [(2, .int (iZ (0))), (0, .ref (ad 0)), (1, .int (iZ (k0)))]) hC 121 hl dX7_part_121 rfl (by decide) rfl (fun ls hl => ?_)
            refine z_iconst hC 122 dX7_part_122 ?_
            refine z_istore_n (lv' := [(3, .int (iZ (0))), (2, .int (iZ (0))), (0, .ref (ad 0)), (1, .int (iZ (k0)))]) hC 123 hl dX7_part_123 rfl (by decide) rfl (fun ls hl => ?_)
            have L124 : ∀ (N_ : Nat) (i : Nat) (l : Nat) (f38 : Int) (a34 : Nat → Int) (a35 : Nat → Int) (a36 : Nat → Int) (a37 : Nat → Int) (H : Heap) (locs : List Loc) (ls : Array Slot), n - l < N_ → (l ≤ n) → (i ≤ l) → (i ≤ k0) → (l = plF v t n i) → zH s0 s1 G as0 (mW ad G (va_up (va_up (va_up (va_up F 0 (0)) 5 ((n : Int))) 7 ((t : Int))) 38 (f38)) (va_up (va_up (va_up (va_up (va_up (va_up Ar 3 (cI (n) v gv)) 34 a34) 35 a35) 36 a36) 37 a37) 41 fa)) H locs → lv_has ls 5 [(0, .ref (ad 0)), (1, .int (iZ (k0))), (2, .int (iZ ((l : Int)))), (3, .int (iZ ((i : Int))))] → W pg lau ev (zRm 4 0 0 91) s1 mi ar bl me cd H locs 0 0 Q (F0 mi 124 ls []) := by
              intro N_
              induction N_ with
              | zero => intro i l f38 a34 a35 a36 a37 H locs ls hd; exact absurd hd (Nat.not_lt_zero _)
              | succ N_ ih124 =>
                intro i l f38 a34 a35 a36 a37 H locs ls hd124 i124_1 i124_2 i124_3 il hH hl
                refine z_iload_n hC 124 hl dX7_part_124 rfl 3 rfl ?_
                refine z_iload_n hC 125 hl dX7_part_125 rfl 1 rfl ?_
                refine z_icmp_ge hC 126 188 dX7_part_126 rfl (by omega) (by omega) (fun hb4 => ?_) (fun hb4 => ?_)
                · -- 126t
                  refine z_iload_n hC 188 hl dX7_part_188 rfl 2 rfl ?_
                  refine z_aload_n hC 189 hl dX7_part_189 rfl 0 rfl ?_
                  refine gmW_5 (x := (n : Int)) hC hH 190 rfl dX7_part_190 ?_
                  refine z_icmp_ge hC 193 200 dX7_part_193 rfl (by omega) (by omega) (fun hb5 => ?_) (fun hb5 => ?_)
                  · -- 193t
                    refine z_bipush hC 200 dX7_part_200 rfl ?_
                    -- R202.1
                    exact z_iret hC hH hQ 202 (((-2), (va_up (va_up (va_up (va_up F 0 (0)) 5 ((n : Int))) 7 ((t : Int))) 38 (f38)), (va_up (va_up (va_up (va_up (va_up (va_up Ar 3 (cI (n) v gv)) 34 a34) 35 a35) 36 a36) 37 a37) 41 fa))) dX7_part_202 rfl ⟨by (unfold Sp_part; rw [if_pos (by omega), if_neg (by omega)]; have hpl := pl_end il (show i = k0.toNat ∨ ¬ l < n by omega) (by omega); rw [hpl]; first | (rw [if_pos (by omega)]; done) | (rw [if_neg (by omega)]; done)), by exact ⟨rfl, rfl, rfl, rfl, rfl, rfl, rfl, rfl, rfl, rfl, rfl, rfl, rfl, rfl, rfl, rfl⟩⟩ rfl (Nat.le_refl _) (Nat.le_refl _)
                  · -- 193f
                    refine z_iload_n hC 196 hl dX7_part_196 rfl 2 rfl ?_
                    refine z_goto hC 197 202 dX7_part_197 rfl ?_
                    -- R202.2
                    exact z_iret hC hH hQ 202 (((l : Int), (va_up (va_up (va_up (va_up F 0 (0)) 5 ((n : Int))) 7 ((t : Int))) 38 (f38)), (va_up (va_up (va_up (va_up (va_up (va_up Ar 3 (cI (n) v gv)) 34 a34) 35 a35) 36 a36) 37 a37) 41 fa))) dX7_part_202 rfl ⟨by (unfold Sp_part; rw [if_pos (by omega), if_neg (by omega)]; have hpl := pl_end il (show i = k0.toNat ∨ ¬ l < n by omega) (by omega); rw [hpl]; first | (rw [if_pos (by omega)]; done) | (rw [if_neg (by omega)]; done)), by exact ⟨rfl, rfl, rfl, rfl, rfl, rfl, rfl, rfl, rfl, rfl, rfl, rfl, rfl, rfl, rfl, rfl⟩⟩ rfl (Nat.le_refl _) (Nat.le_refl _)
                · -- 126f
                  refine z_iload_n hC 129 hl dX7_part_129 rfl 2 rfl ?_
                  refine z_aload_n hC 130 hl dX7_part_130 rfl 0 rfl ?_
                  refine gmW_5 (x := (n : Int)) hC hH 131 rfl dX7_part_131 ?_
                  refine z_icmp_ge hC 134 188 dX7_part_134 rfl (by omega) (by omega) (fun hb6 => ?_) (fun hb6 => ?_)
                  · -- 134t
                    refine z_iload_n hC 188 hl dX7_part_188 rfl 2 rfl ?_
                    refine z_aload_n hC 189 hl dX7_part_189 rfl 0 rfl ?_
                    refine gmW_5 (x := (n : Int)) hC hH 190 rfl dX7_part_190 ?_
                    refine z_icmp_ge hC 193 200 dX7_part_193 rfl (by omega) (by omega) (fun hb7 => ?_) (fun hb7 => ?_)
                    · -- 193t
                      refine z_bipush hC 200 dX7_part_200 rfl ?_
                      -- R202.3
                      exact z_iret hC hH hQ 202 (((-2), (va_up (va_up (va_up (va_up F 0 (0)) 5 ((n : Int))) 7 ((t : Int))) 38 (f38)), (va_up (va_up (va_up (va_up (va_up (va_up Ar 3 (cI (n) v gv)) 34 a34) 35 a35) 36 a36) 37 a37) 41 fa))) dX7_part_202 rfl ⟨by (unfold Sp_part; rw [if_pos (by omega), if_neg (by omega)]; have hpl := pl_end il (show i = k0.toNat ∨ ¬ l < n by omega) (by omega); rw [hpl]; first | (rw [if_pos (by omega)]; done) | (rw [if_neg (by omega)]; done)), by exact ⟨rfl, rfl, rfl, rfl, rfl, rfl, rfl, rfl, rfl, rfl, rfl, rfl, rfl, rfl, rfl, rfl⟩⟩ rfl (Nat.le_refl _) (Nat.le_refl _)
                    · -- 193f
                      refine z_iload_n hC 196 hl dX7_part_196 rfl 2 rfl ?_
                      refine z_goto hC 197 202 dX7_part_197 rfl ?_
                      -- R202.4
                      exact z_iret hC hH hQ 202 (((l : Int), (va_up (va_up (va_up (va_up F 0 (0)) 5 ((n : Int))) 7 ((t : Int))) 38 (f38)), (va_up (va_up (va_up (va_up (va_up (va_up Ar 3 (cI (n) v gv)) 34 a34) 35 a35) 36 a36) 37 a37) 41 fa))) dX7_part_202 rfl ⟨by (unfold Sp_part; rw [if_pos (by omega), if_neg (by omega)]; have hpl := pl_end il (show i = k0.toNat ∨ ¬ l < n by omega) (by omega); rw [hpl]; first | (rw [if_pos (by omega)]; done) | (rw [if_neg (by omega)]; done)), by exact ⟨rfl, rfl, rfl, rfl, rfl, rfl, rfl, rfl, rfl, rfl, rfl, rfl, rfl, rfl, rfl, rfl⟩⟩ rfl (Nat.le_refl _) (Nat.le_refl _)
                  · -- 134f
                    obtain ⟨r9, hr91, hr92, hr93⟩ := PC_ex (t := t) hn hv (show l < n by omega)
                    refine z_iload_n hC 137 hl dX7_part_137 rfl 2 rfl ?_
                    refine z_istore (lv' := [(4, .int (iZ ((l : Int)))), (0, .ref (ad 0)), (1, .int (iZ (k0))), (2, .int (iZ ((l : Int)))), (3, .int (iZ ((i : Int))))]) hC 138 hl dX7_part_138 (by decide) rfl (fun ls hl => ?_)
                    have L140 : ∀ (N_ : Nat) (r : Nat) (f38 : Int) (a34 : Nat → Int) (a35 : Nat → Int) (a36 : Nat → Int) (a37 : Nat → Int) (H : Heap) (locs : List Loc) (ls : Array Slot), n - r < N_ → (l ≤ r) → (r < n) → (∀ q, l ≤ q → q < r → ¬ PC v t n l q) → zH s0 s1 G as0 (mW ad G (va_up (va_up (va_up (va_up F 0 (0)) 5 ((n : Int))) 7 ((t : Int))) 38 (f38)) (va_up (va_up (va_up (va_up (va_up (va_up Ar 3 (cI (n) v gv)) 34 a34) 35 a35) 36 a36) 37 a37) 41 fa)) H locs → lv_has ls 5 [(0, .ref (ad 0)), (1, .int (iZ (k0))), (2, .int (iZ ((l : Int)))), (3, .int (iZ ((i : Int)))), (4, .int (iZ ((r : Int))))] → W pg lau ev (zRm 4 0 0 91) s1 mi ar bl me cd H locs 0 0 Q (F0 mi 140 ls []) := by
                      intro N_
                      induction N_ with
                      | zero => intro r f38 a34 a35 a36 a37 H locs ls hd; exact absurd hd (Nat.not_lt_zero _)
                      | succ N_ ih140 =>
                        intro r f38 a34 a35 a36 a37 H locs ls hd140 i140_1 i140_2 ir hH hl
                        have hf1 := hfa (r + 1) (by omega)
                        have hf2 := hfa l (by omega)
                        have hfl1 : fw v t n (r + 1) ≤ 121 := fwT_le n (r + 1)
                        have hfl2 : fw v t n l ≤ 121 := fwT_le n l
                        refine z_aload_n hC 140 hl dX7_part_140 rfl 0 rfl ?_
                        refine gmW_41 hC hH 141 dX7_part_141 ?_
                        refine z_iload hC 144 hl dX7_part_144 4 rfl ?_
                        refine z_iconst hC 146 dX7_part_146 ?_
                        refine z_iadd (e := (r : Int) + 1) hC 147 dX7_part_147 rfl ?_
                        refine lmW_41 (x := (fa (r + 1))) hC hH 148 (r + 1) (by omega) (by omega) rfl dX7_part_148 ?_
                        refine z_iconst hC 149 dX7_part_149 ?_
                        refine z_iadd (e := (fa (r + 1)) + 1) hC 150 dX7_part_150 rfl ?_
                        refine z_aload_n hC 151 hl dX7_part_151 rfl 0 rfl ?_
                        refine gmW_41 hC hH 152 dX7_part_152 ?_
                        refine z_iload_n hC 155 hl dX7_part_155 rfl 2 rfl ?_
                        refine lmW_41 (x := (fa l)) hC hH 156 (l) (by omega) (by omega) rfl dX7_part_156 ?_
                        refine z_icmp_ne hC 157 171 dX7_part_157 rfl (by omega) (by omega) (fun hb8 => ?_) (fun hb8 => ?_)
                        · -- 157t
                          have hnc : ¬ PC v t n l r := fun q => by have q1 := q.1; have q2 := q.2; first | omega | exact hz8 (by omega) q2
                          have hr9 : r ≠ r9 := fun q => hnc (q ▸ hr93)
                          have hr8 : ¬ r9 < r := fun q => ir r9 hr91 q hr93
                          refine z_iinc (lv' := [(4, .int (iZ ((r : Int) + 1))), (0, .ref (ad 0)), (1, .int (iZ (k0))), (2, .int (iZ ((l : Int)))), (3, .int (iZ ((i : Int))))]) hC 171 hl dX7_part_171 4 rfl (by omega) (by decide) rfl (fun ls hl => ?_)
                          refine z_goto hC 174 140 dX7_part_174 rfl ?_
                          -- J140.5
                          exact ih140 (r + 1) f38 a34 a35 a36 a37 _ _ _ (by omega) (by first | assumption | omega) (by first | assumption | omega) (by first | (intro q q1 q2; omega) | exact pc_s ir hnc) hH (z_lv (lv_sub hl [1, 2, 3, 4, 0] rfl) (zcons rfl (zcons rfl (zcons rfl (zcons rfl (zcons (zpeq (by omega)) rfl))))))
                        · -- 157f
                          refine z_aload_n hC 160 hl dX7_part_160 rfl 0 rfl ?_
                          refine z_iload_n hC 161 hl dX7_part_161 rfl 2 rfl ?_
                          refine z_iload hC 162 hl dX7_part_162 4 rfl ?_
                          refine z_st (st' := [.int (iZ (((r + 1 : Nat) : Int) - 1)), .int (iZ ((l : Int))), .ref (ad 0)]) (zcons (zieq (by omega)) (zcons rfl rfl)) ?_
                          refine z_same (z_runV hC hH.2.2 hl.1 hH.1 hH.2.1 2 (As := [.int (iZ ((l : Int))), .int (iZ (((r + 1 : Nat) : Int) - 1))]) (rest := []) (m_X7_majorityOf lau s0 G _ ad (va_up (va_up (va_up (va_up F 0 (0)) 5 ((n : Int))) 7 ((t : Int))) 38 (f38)) (va_up (va_up (va_up (va_up (va_up (va_up Ar 3 (cI (n) v gv)) 34 a34) 35 a35) 36 a36) 37 a37) 41 fa) n v gv l (r + 1) t (by first | assumption | omega) (by first | assumption | omega) (by first | assumption | omega) (by first | assumption | omega) (by first | assumption | omega)) (lw_V q1816 q1818 qs79 q95 q1819) ⟨rfl, by decide, by decide, by decide +kernel⟩ (q0 := 0) (ci := 0) rfl rfl rfl rfl (Nat.le_of_ble_eq_true rfl) ⟨Nat.le_of_ble_eq_true rfl, Nat.le_of_ble_eq_true rfl⟩ ⟨Nat.le_of_ble_eq_true rfl, Nat.le_of_ble_eq_true rfl⟩ dX7_part_164) hH (fun u_ H locs hpost hH => ?_)
                          obtain ⟨z_164, o_164, go_164, fo_164, la_164, k_164, u_164, gu_164⟩ := u_
                          obtain ⟨pz_164, pm1_164, pm2_164, pCO_164⟩ : (z_164 = if (r + 1) - l < 2 * cnt v l (r + 1) (md v l (r + 1) t) then (md v l (r + 1) t : Int) else -1) ∧ (md v l (r + 1) t < 1000) ∧ (0 < cnt v l (r + 1) (md v l (r + 1) t)) ∧ (CO v l (r + 1) o_164 fo_164 la_164 k_164 u_164) := hpost
                          have hH : zH s0 s1 G as0 (mW ad G (va_up (va_up (va_up (va_up F 0 (0)) 5 ((n : Int))) 7 ((t : Int))) 38 ((k_164 : Int))) (va_up (va_up (va_up (va_up (va_up (va_up Ar 3 (cI (n) v gv)) 34 (cI (1000) o_164 go_164)) 35 fo_164) 36 la_164) 37 (cI (k_164) u_164 gu_164)) 41 fa)) H locs := hH
                          refine z_st (st' := [.int (iZ (z_164))]) rfl ?_
                          have hz9 : z_164 = -1 ∨ (z_164 = (md v l (r + 1) t : Int) ∧ maj v t l r) := by rw [pz_164]; split; (· right; exact ⟨rfl, by assumption⟩); (· left; rfl)
                          have hz8 : z_164 = -1 → ¬ maj v t l r := fun q q2 => by unfold maj at q2; rw [pz_164, if_pos q2] at q; omega
                          refine z_iconst hC 167 dX7_part_167 ?_
                          refine z_icmp_ne hC 168 177 dX7_part_168 rfl (by omega) (by omega) (fun hb9 => ?_) (fun hb9 => ?_)
                          · -- 168t
                            have hpe : PE v t n l r := ⟨by omega, by omega, ⟨by omega, hz9.elim (fun q => absurd q (by omega)) (fun q => q.2)⟩, ir⟩
                            refine z_iload hC 177 hl dX7_part_177 4 rfl ?_
                            refine z_iconst hC 179 dX7_part_179 ?_
                            refine z_iadd (e := (r : Int) + 1) hC 180 dX7_part_180 rfl ?_
                            refine z_istore_n (lv' := [(2, .int (iZ ((r : Int) + 1))), (0, .ref (ad 0)), (1, .int (iZ (k0))), (3, .int (iZ ((i : Int)))), (4, .int (iZ ((r : Int))))]) hC 181 hl dX7_part_181 rfl (by decide) rfl (fun ls hl => ?_)
                            refine z_iinc (lv' := [(3, .int (iZ ((i : Int) + 1))), (2, .int (iZ ((r : Int) + 1))), (0, .ref (ad 0)), (1, .int (iZ (k0))), (4, .int (iZ ((r : Int))))]) hC 182 hl dX7_part_182 3 rfl (by omega) (by decide) rfl (fun ls hl => ?_)
                            refine z_goto hC 185 124 dX7_part_185 rfl ?_
                            -- J124.6
                            exact ih124 (i + 1) (r + 1) (k_164 : Int) (cI (1000) o_164 go_164) fo_164 la_164 (cI (k_164) u_164 gu_164) _ _ _ (by omega) (by first | assumption | omega) (by first | assumption | omega) (by first | assumption | omega) (by first | rfl | exact (plF_t (by omega) (il ▸ hpe)).symm) hH (z_lv (lv_sub hl [2, 3, 1, 0] rfl) (zcons rfl (zcons rfl (zcons (zpeq (by omega)) (zcons (zpeq (by omega)) rfl)))))
                          · -- 168f
                            have hnc : ¬ PC v t n l r := fun q => by have q1 := q.1; have q2 := q.2; first | omega | exact hz8 (by omega) q2
                            have hr9 : r ≠ r9 := fun q => hnc (q ▸ hr93)
                            have hr8 : ¬ r9 < r := fun q => ir r9 hr91 q hr93
                            refine z_iinc (lv' := [(4, .int (iZ ((r : Int) + 1))), (0, .ref (ad 0)), (1, .int (iZ (k0))), (2, .int (iZ ((l : Int)))), (3, .int (iZ ((i : Int))))]) hC 171 hl dX7_part_171 4 rfl (by omega) (by decide) rfl (fun ls hl => ?_)
                            refine z_goto hC 174 140 dX7_part_174 rfl ?_
                            -- J140.7
                            exact ih140 (r + 1) (k_164 : Int) (cI (1000) o_164 go_164) fo_164 la_164 (cI (k_164) u_164 gu_164) _ _ _ (by omega) (by first | assumption | omega) (by first | assumption | omega) (by first | (intro q q1 q2; omega) | exact pc_s ir hnc) hH (z_lv (lv_sub hl [1, 2, 3, 4, 0] rfl) (zcons rfl (zcons rfl (zcons rfl (zcons rfl (zcons (zpeq (by omega)) rfl))))))
                    -- J140.8
                    exact L140 _ l f38 a34 a35 a36 a37 _ _ _ (Nat.lt_succ_self _) (by first | assumption | omega) (by first | assumption | omega) (by first | (intro q q1 q2; omega) | exact pc_s ir hnc) hH (lv_sub hl [1, 2, 3, 4, 0] rfl)
            -- J124.9
            exact L124 _ 0 0 f38 a34 a35 a36 a37 _ _ _ (Nat.lt_succ_self _) (by first | assumption | omega) (by first | assumption | omega) (by first | assumption | omega) (by first | rfl | exact (plF_t (by omega) (il ▸ hpe)).symm) hH (z_lv (lv_sub hl [2, 3, 1, 0] rfl) (zcons rfl (zcons rfl (zcons (zpeq (by omega)) (zcons (zpeq (by omega)) rfl)))))
          · -- 110f
            refine z_aload_n hC 113 hl dX7_part_113 rfl 0 rfl ?_
            refine gmW_41 hC hH 114 dX7_part_114 ?_
            refine z_iconst hC 117 dX7_part_117 ?_
            refine lmW_41 (x := (fa 0)) hC hH 118 (0) (by omega) (by omega) rfl dX7_part_118 ?_
            -- R119.10
            exact z_iret hC hH hQ 119 (((fa 0), (va_up (va_up (va_up (va_up F 0 (0)) 5 ((n : Int))) 7 ((t : Int))) 38 (f38)), (va_up (va_up (va_up (va_up (va_up (va_up Ar 3 (cI (n) v gv)) 34 a34) 35 a35) 36 a36) 37 a37) 41 fa))) dX7_part_119 rfl ⟨by (unfold Sp_part; rw [if_pos (by omega), if_pos (by omega)]; exact hf0), by exact ⟨rfl, rfl, rfl, rfl, rfl, rfl, rfl, rfl, rfl, rfl, rfl, rfl, rfl, rfl, rfl, rfl⟩⟩ rfl (Nat.le_refl _) (Nat.le_refl _)
        · -- 30f
          refine z_aload_n hC 33 hl dX7_part_33 rfl 0 rfl ?_
          refine gmW_41 hC hH 34 dX7_part_34 ?_
          refine z_iload_n hC 37 hl dX7_part_37 rfl 2 rfl ?_
          refine z_bipush hC 38 dX7_part_38 rfl ?_
          refine smW_41 (f' := (va_up fa (e - 1) (121))) hC hH 40 (e - 1) (by omega) (by omega) rfl dX7_part_40 (fun H locs hH => ?_)
          have hH : zH s0 s1 G as0 (mW ad G (va_up (va_up (va_up (va_up F 0 (0)) 5 ((n : Int))) 7 ((t : Int))) 38 (f38)) (va_up (va_up (va_up (va_up (va_up (va_up Ar 3 (cI (n) v gv)) 34 a34) 35 a35) 36 a36) 37 a37) 41 (va_up fa (e - 1) (121)))) H locs := hH
          refine z_iload_n hC 41 hl dX7_part_41 rfl 2 rfl ?_
          refine z_istore_n (lv' := [(3, .int (iZ ((e : Int) - 1))), (0, .ref (ad 0)), (1, .int (iZ (k0))), (2, .int (iZ ((e : Int) - 1)))]) hC 42 hl dX7_part_42 rfl (by decide) rfl (fun ls hl => ?_)
          have L43 : ∀ (N_ : Nat) (r : Nat) (fb : Nat → Int) (f38 : Int) (a34 : Nat → Int) (a35 : Nat → Int) (a36 : Nat → Int) (a37 : Nat → Int) (H : Heap) (locs : List Loc) (ls : Array Slot), n - r < N_ → (e - 1 ≤ r) → (r ≤ n) → (fb (e - 1) = (mnF v t (fwT v t n (n - e)) (e - 1) r : Int)) → (FWe v t n e fb) → zH s0 s1 G as0 (mW ad G (va_up (va_up (va_up (va_up F 0 (0)) 5 ((n : Int))) 7 ((t : Int))) 38 (f38)) (va_up (va_up (va_up (va_up (va_up (va_up Ar 3 (cI (n) v gv)) 34 a34) 35 a35) 36 a36) 37 a37) 41 fb)) H locs → lv_has ls 5 [(0, .ref (ad 0)), (1, .int (iZ (k0))), (2, .int (iZ ((e : Int) - 1))), (3, .int (iZ ((r : Int))))] → W pg lau ev (zRm 4 0 0 91) s1 mi ar bl me cd H locs 0 0 Q (F0 mi 43 ls []) := by
            intro N_
            induction N_ with
            | zero => intro r fb f38 a34 a35 a36 a37 H locs ls hd; exact absurd hd (Nat.not_lt_zero _)
            | succ N_ ih43 =>
              intro r fb f38 a34 a35 a36 a37 H locs ls hd43 i43_1 i43_2 if1 if2 hH hl
              have hml := mnF_le (v := v) (t := t) (f := fwT v t n (n - e)) (l := e - 1) (r := r)
              refine z_iload_n hC 43 hl dX7_part_43 rfl 3 rfl ?_
              refine z_aload_n hC 44 hl dX7_part_44 rfl 0 rfl ?_
              refine gmW_5 (x := (n : Int)) hC hH 45 rfl dX7_part_45 ?_
              refine z_icmp_ge hC 48 102 dX7_part_48 rfl (by omega) (by omega) (fun hb10 => ?_) (fun hb10 => ?_)
              · -- 48t
                refine z_iinc (lv' := [(2, .int (iZ ((e : Int) - 2))), (0, .ref (ad 0)), (1, .int (iZ (k0))), (3, .int (iZ ((r : Int))))]) hC 102 hl dX7_part_102 2 rfl (by omega) (by decide) rfl (fun ls hl => ?_)
                refine z_goto hC 105 29 dX7_part_105 rfl ?_
                -- J29.11
                exact ih29 (e - 1) fb f38 a34 a35 a36 a37 _ _ _ (by omega) (by first | assumption | omega) (by first | exact FWe_n | (have q9 := FWe_s (by omega) (by omega) if2 (by rw [if1, show r = n by omega]); exact q9)) hH (z_lv (lv_sub hl [1, 2, 0] rfl) (zcons rfl (zcons rfl (zcons (zpeq (by omega)) rfl))))
              · -- 48f
                have hfr := if2 (r + 1) (by omega) (by omega)
                have hfr2 := fwT_le (v := v) (t := t) (n := n) (n - e) (r + 1)
                refine z_aload_n hC 51 hl dX7_part_51 rfl 0 rfl ?_
                refine gmW_41 hC hH 52 dX7_part_52 ?_
                refine z_iload_n hC 55 hl dX7_part_55 rfl 3 rfl ?_
                refine z_iconst hC 56 dX7_part_56 ?_
                refine z_iadd (e := (r : Int) + 1) hC 57 dX7_part_57 rfl ?_
                refine lmW_41 (x := (fb (r + 1))) hC hH 58 (r + 1) (by omega) (by omega) rfl dX7_part_58 ?_
                refine z_iconst hC 59 dX7_part_59 ?_
                refine z_iadd (e := (fb (r + 1)) + 1) hC 60 dX7_part_60 rfl ?_
                refine z_aload_n hC 61 hl dX7_part_61 rfl 0 rfl ?_
                refine gmW_41 hC hH 62 dX7_part_62 ?_
                refine z_iload_n hC 65 hl dX7_part_65 rfl 2 rfl ?_
                refine lmW_41 (x := (fb (e - 1))) hC hH 66 (e - 1) (by omega) (by omega) rfl dX7_part_66 ?_
                refine z_icmp_ge hC 67 96 dX7_part_67 rfl (by omega) (by omega) (fun hb11 => ?_) (fun hb11 => ?_)
                · -- 67t
                  refine z_iinc (lv' := [(3, .int (iZ ((r : Int) + 1))), (0, .ref (ad 0)), (1, .int (iZ (k0))), (2, .int (iZ ((e : Int) - 1)))]) hC 96 hl dX7_part_96 3 rfl (by omega) (by decide) rfl (fun ls hl => ?_)
                  refine z_goto hC 99 43 dX7_part_99 rfl ?_
                  -- J43.12
                  exact ih43 (r + 1) fb f38 a34 a35 a36 a37 _ _ _ (by omega) (by first | assumption | omega) (by first | assumption | omega) (by first | (rw [va_up_self, mnF_0 (Nat.le_refl _)]; rfl) | (rw [va_up_self, mnF_t ⟨by omega, by omega, by unfold maj; omega⟩]; omega) | (rw [mnF_f (fun q => by have q1 := q.2.1; have q2 := q.2.2; unfold maj at q2; omega)]; exact if1)) (by first | exact FWe_up (by omega) ie | exact FWe_up (by omega) if2 | exact if2) hH (z_lv (lv_sub hl [1, 2, 3, 0] rfl) (zcons rfl (zcons rfl (zcons rfl (zcons (zpeq (by omega)) rfl)))))
                · -- 67f
                  refine z_aload_n hC 70 hl dX7_part_70 rfl 0 rfl ?_
                  refine z_iload_n hC 71 hl dX7_part_71 rfl 2 rfl ?_
                  refine z_iload_n hC 72 hl dX7_part_72 rfl 3 rfl ?_
                  refine z_st (st' := [.int (iZ (((r + 1 : Nat) : Int) - 1)), .int (iZ (((e - 1 : Nat) : Int))), .ref (ad 0)]) (zcons (zieq (by omega)) (zcons (zieq (by omega)) rfl)) ?_
                  refine z_same (z_runV hC hH.2.2 hl.1 hH.1 hH.2.1 2 (As := [.int (iZ (((e - 1 : Nat) : Int))), .int (iZ (((r + 1 : Nat) : Int) - 1))]) (rest := []) (m_X7_majorityOf lau s0 G _ ad (va_up (va_up (va_up (va_up F 0 (0)) 5 ((n : Int))) 7 ((t : Int))) 38 (f38)) (va_up (va_up (va_up (va_up (va_up (va_up Ar 3 (cI (n) v gv)) 34 a34) 35 a35) 36 a36) 37 a37) 41 fb) n v gv (e - 1) (r + 1) t (by first | assumption | omega) (by first | assumption | omega) (by first | assumption | omega) (by first | assumption | omega) (by first | assumption | omega)) (lw_V q1816 q1818 qs79 q95 q1819) ⟨rfl, by decide, by decide, by decide +kernel⟩ (q0 := 0) (ci := 0) rfl rfl rfl rfl (Nat.le_of_ble_eq_true rfl) ⟨Nat.le_of_ble_eq_true rfl, Nat.le_of_ble_eq_true rfl⟩ ⟨Nat.le_of_ble_eq_true rfl, Nat.le_of_ble_eq_true rfl⟩ dX7_part_73) hH (fun u_ H locs hpost hH => ?_)
                  obtain ⟨z_73, o_73, go_73, fo_73, la_73, k_73, u_73, gu_73⟩ := u_
                  obtain ⟨pz_73, pm1_73, pm2_73, pCO_73⟩ : (z_73 = if (r + 1) - (e - 1) < 2 * cnt v (e - 1) (r + 1) (md v (e - 1) (r + 1) t) then (md v (e - 1) (r + 1) t : Int) else -1) ∧ (md v (e - 1) (r + 1) t < 1000) ∧ (0 < cnt v (e - 1) (r + 1) (md v (e - 1) (r + 1) t)) ∧ (CO v (e - 1) (r + 1) o_73 fo_73 la_73 k_73 u_73) := hpost
                  have hH : zH s0 s1 G as0 (mW ad G (va_up (va_up (va_up (va_up F 0 (0)) 5 ((n : Int))) 7 ((t : Int))) 38 ((k_73 : Int))) (va_up (va_up (va_up (va_up (va_up (va_up Ar 3 (cI (n) v gv)) 34 (cI (1000) o_73 go_73)) 35 fo_73) 36 la_73) 37 (cI (k_73) u_73 gu_73)) 41 fb)) H locs := hH
                  refine z_st (st' := [.int (iZ (z_73))]) rfl ?_
                  have hz9 : z_73 = -1 ∨ (z_73 = (md v (e - 1) (r + 1) t : Int) ∧ r + 1 - (e - 1) < 2 * cnt v (e - 1) (r + 1) (md v (e - 1) (r + 1) t)) := by rw [pz_73]; split; (· right; exact ⟨rfl, by assumption⟩); (· left; rfl)
                  have hz8 : z_73 = -1 → ¬ r + 1 - (e - 1) < 2 * cnt v (e - 1) (r + 1) (md v (e - 1) (r + 1) t) := fun q q2 => by rw [pz_73, if_pos q2] at q; omega
                  refine z_iconst hC 76 dX7_part_76 ?_
                  refine z_icmp_eq hC 77 96 dX7_part_77 rfl (by omega) (by omega) (fun hb12 => ?_) (fun hb12 => ?_)
                  · -- 77t
                    refine z_iinc (lv' := [(3, .int (iZ ((r : Int) + 1))), (0, .ref (ad 0)), (1, .int (iZ (k0))), (2, .int (iZ ((e : Int) - 1)))]) hC 96 hl dX7_part_96 3 rfl (by omega) (by decide) rfl (fun ls hl => ?_)
                    refine z_goto hC 99 43 dX7_part_99 rfl ?_
                    -- J43.13
                    exact ih43 (r + 1) fb (k_73 : Int) (cI (1000) o_73 go_73) fo_73 la_73 (cI (k_73) u_73 gu_73) _ _ _ (by omega) (by first | assumption | omega) (by first | assumption | omega) (by first | (rw [va_up_self, mnF_0 (Nat.le_refl _)]; rfl) | (rw [va_up_self, mnF_t ⟨by omega, by omega, by unfold maj; omega⟩]; omega) | (rw [mnF_f (fun q => by have q1 := q.2.1; have q2 := q.2.2; unfold maj at q2; omega)]; exact if1)) (by first | exact FWe_up (by omega) ie | exact FWe_up (by omega) if2 | exact if2) hH (z_lv (lv_sub hl [1, 2, 3, 0] rfl) (zcons rfl (zcons rfl (zcons rfl (zcons (zpeq (by omega)) rfl)))))
                  · -- 77f
                    refine z_aload_n hC 80 hl dX7_part_80 rfl 0 rfl ?_
                    refine gmW_41 hC hH 81 dX7_part_81 ?_
                    refine z_iload_n hC 84 hl dX7_part_84 rfl 2 rfl ?_
                    refine z_aload_n hC 85 hl dX7_part_85 rfl 0 rfl ?_
                    refine gmW_41 hC hH 86 dX7_part_86 ?_
                    refine z_iload_n hC 89 hl dX7_part_89 rfl 3 rfl ?_
                    refine z_iconst hC 90 dX7_part_90 ?_
                    refine z_iadd (e := (r : Int) + 1) hC 91 dX7_part_91 rfl ?_
                    refine lmW_41 (x := (fb (r + 1))) hC hH 92 (r + 1) (by omega) (by omega) rfl dX7_part_92 ?_
                    refine z_iconst hC 93 dX7_part_93 ?_
                    refine z_iadd (e := (fb (r + 1)) + 1) hC 94 dX7_part_94 rfl ?_
                    refine smW_41 (f' := (va_up fb (e - 1) ((fb (r + 1)) + 1))) hC hH 95 (e - 1) (by omega) (by omega) rfl dX7_part_95 (fun H locs hH => ?_)
                    have hH : zH s0 s1 G as0 (mW ad G (va_up (va_up (va_up (va_up F 0 (0)) 5 ((n : Int))) 7 ((t : Int))) 38 ((k_73 : Int))) (va_up (va_up (va_up (va_up (va_up (va_up Ar 3 (cI (n) v gv)) 34 (cI (1000) o_73 go_73)) 35 fo_73) 36 la_73) 37 (cI (k_73) u_73 gu_73)) 41 (va_up fb (e - 1) ((fb (r + 1)) + 1)))) H locs := hH
                    refine z_iinc (lv' := [(3, .int (iZ ((r : Int) + 1))), (0, .ref (ad 0)), (1, .int (iZ (k0))), (2, .int (iZ ((e : Int) - 1)))]) hC 96 hl dX7_part_96 3 rfl (by omega) (by decide) rfl (fun ls hl => ?_)
                    refine z_goto hC 99 43 dX7_part_99 rfl ?_
                    -- J43.14
                    exact ih43 (r + 1) (va_up fb (e - 1) ((fb (r + 1)) + 1)) (k_73 : Int) (cI (1000) o_73 go_73) fo_73 la_73 (cI (k_73) u_73 gu_73) _ _ _ (by omega) (by first | assumption | omega) (by first | assumption | omega) (by first | (rw [va_up_self, mnF_0 (Nat.le_refl _)]; rfl) | (rw [va_up_self, mnF_t ⟨by omega, by omega, by unfold maj; omega⟩]; omega) | (rw [mnF_f (fun q => by have q1 := q.2.1; have q2 := q.2.2; unfold maj at q2; omega)]; exact if1)) (by first | exact FWe_up (by omega) ie | exact FWe_up (by omega) if2 | exact if2) hH (z_lv (lv_sub hl [1, 2, 3, 0] rfl) (zcons rfl (zcons rfl (zcons rfl (zcons (zpeq (by omega)) rfl)))))
          -- J43.15
          exact L43 _ (e - 1) (va_up fa (e - 1) (121)) f38 a34 a35 a36 a37 _ _ _ (Nat.lt_succ_self _) (by first | assumption | omega) (by first | assumption | omega) (by first | (rw [va_up_self, mnF_0 (Nat.le_refl _)]; rfl) | (rw [va_up_self, mnF_t ⟨by omega, by omega, by unfold maj; omega⟩]; omega) | (rw [mnF_f (fun q => by have q1 := q.2.1; have q2 := q.2.2; unfold maj at q2; omega)]; exact if1)) (by first | exact FWe_up (by omega) ie | exact FWe_up (by omega) if2 | exact if2) hH (z_lv (lv_sub hl [1, 2, 3, 0] rfl) (zcons rfl (zcons rfl (zcons rfl (zcons (zpeq (by omega)) rfl)))))
    -- J29.16
    exact L29 _ n (va_up (Ar 41) (n) (0)) (F 38) (Ar 34) (Ar 35) (Ar 36) (Ar 37) _ _ _ (Nat.lt_succ_self _) (by first | assumption | omega) (by first | exact FWe_n | (have q9 := FWe_s (by omega) (by omega) if2 (by rw [if1, show r = n by omega]); exact q9)) hH (lv_sub hl [1, 2, 0] rfl)
  · -- 7f
    refine z_iconst hC 10 dX7_part_10 ?_
    -- R11.17
    exact z_iret hC hH hQ 11 (((-1), (va_up (va_up (va_up F 0 (0)) 5 ((n : Int))) 7 ((t : Int))), (va_up Ar 3 (cI (n) v gv)))) dX7_part_11 rfl ⟨by first | (unfold Sp_part; rw [if_neg (by omega)]) | (unfold Sp_part; rw [if_pos (by omega)]), by exact ⟨rfl, rfl, rfl, rfl, rfl, rfl, rfl, rfl, rfl, rfl, rfl, rfl, rfl, rfl, rfl, rfl⟩⟩ rfl (Nat.le_refl _) (Nat.le_refl _)
