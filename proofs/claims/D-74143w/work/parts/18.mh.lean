/-! methods of ModeDeskModel: 18.mh -/
set_option maxHeartbeats 16000000 in
set_option maxRecDepth 100000 in
theorem m_X7_beginnings (lau : Launch) (s0 : State) (G : zG) (sz : Nat) (ad : Nat → Nat) (F : Nat → Int) (Ar : Nat → Nat → Int) (n : Nat) (v : Nat → Nat) (gv : Nat → Int) (t : Nat) (q : Int) (hn : n ≤ 120) (hv : ∀ i, i < n → v i < 1000) (ht : t < 4) (hr_q : -2147483648 ≤ q ∧ q < 2147483648) : zMet (S := Int × (Nat → Int) × (Nat → Nat → Int)) lau yX7_beginnings cX7_beginnings 11 (some .int) 3 68 0 0 s0 G sz [.ref (ad 0), .int (iZ (q))] (mW ad G (va_up (va_up F 5 ((n : Int))) 7 ((t : Int))) (va_up Ar 3 (cI (n) v gv))) (fun ((r_, F2, A2) : Int × (Nat → Int) × (Nat → Nat → Int)) => some (.int (iZ (r_)))) (fun ((r_, F2, A2) : Int × (Nat → Int) × (Nat → Nat → Int)) => (Sp_beginnings n v t q r_) ∧ (MK (va_up (va_up F 5 ((n : Int))) 7 ((t : Int))) (va_up Ar 3 (cI (n) v gv)) F2 A2)) (fun ((r_, F2, A2) : Int × (Nat → Int) × (Nat → Nat → Int)) => (mW ad G F2 A2)) := by
  refine zMet.of (by decide) (Nat.le_of_ble_eq_true rfl) ?_
  intro pg ev s1 mi ar bl me cd ls Q as0 hC hH hl hQ hsz
  generalize s1.heap = H at hH ⊢
  generalize ([] : List Loc) = locs at hH ⊢
  have hl : lv_has ls 11 [(0, .ref (ad 0)), (1, .int (iZ (q)))] := hl
  refine z_aload_n hC 0 hl dX7_beginnings_0 rfl 0 rfl ?_
  refine z_iconst hC 1 dX7_beginnings_1 ?_
  refine pmW_0 hC hH 2 dX7_beginnings_2 (fun H locs hH => ?_)
  have hH : zH s0 s1 G as0 (mW ad G (va_up (va_up (va_up F 0 (0)) 5 ((n : Int))) 7 ((t : Int))) (va_up Ar 3 (cI (n) v gv))) H locs := hH
  refine z_iload_n hC 5 hl dX7_beginnings_5 rfl 1 rfl ?_
  refine z_if_lt hC 6 14 dX7_beginnings_6 rfl (by omega) (fun hb1 => ?_) (fun hb1 => ?_)
  · -- 6t
    refine z_iconst hC 14 dX7_beginnings_14 ?_
    -- R15.1
    exact z_iret hC hH hQ 15 (((-1), (va_up (va_up (va_up F 0 (0)) 5 ((n : Int))) 7 ((t : Int))), (va_up Ar 3 (cI (n) v gv)))) dX7_beginnings_15 rfl ⟨by first | (unfold Sp_beginnings; rw [if_neg (by omega)]) | (unfold Sp_beginnings; rw [if_pos (by omega)]), by exact ⟨rfl, rfl, rfl, rfl, rfl, rfl, rfl, rfl, rfl, rfl, rfl, rfl, rfl, rfl, rfl, rfl⟩⟩ rfl (Nat.le_refl _) (Nat.le_refl _)
  · -- 6f
    refine z_iload_n hC 9 hl dX7_beginnings_9 rfl 1 rfl ?_
    refine z_iconst hC 10 dX7_beginnings_10 ?_
    refine z_icmp_le hC 11 16 dX7_beginnings_11 rfl (by omega) (by omega) (fun hb2 => ?_) (fun hb2 => ?_)
    · -- 11t
      refine z_iconst hC 16 dX7_beginnings_16 ?_
      refine z_istore_n (lv' := [(2, .int (iZ (0))), (0, .ref (ad 0)), (1, .int (iZ (q)))]) hC 17 hl dX7_beginnings_17 rfl (by decide) rfl (fun ls hl => ?_)
      have L18 : ∀ (N_ : Nat) (i : Nat) (a : Nat → Int) (H : Heap) (locs : List Loc) (ls : Array Slot), 1000 - i < N_ → (i ≤ 1000) → (∀ j, j < i → a j = 0) → zH s0 s1 G as0 (mW ad G (va_up (va_up (va_up F 0 (0)) 5 ((n : Int))) 7 ((t : Int))) (va_up (va_up Ar 3 (cI (n) v gv)) 40 a)) H locs → lv_has ls 11 [(0, .ref (ad 0)), (1, .int (iZ (q))), (2, .int (iZ ((i : Int))))] → W pg lau ev (zRm 3 0 0 68) s1 mi ar bl me cd H locs 0 0 Q (F0 mi 18 ls []) := by
        intro N_
        induction N_ with
        | zero => intro i a H locs ls hd; exact absurd hd (Nat.not_lt_zero _)
        | succ N_ ih18 =>
          intro i a H locs ls hd18 i18_1 iz hH hl
          refine z_iload_n hC 18 hl dX7_beginnings_18 rfl 2 rfl ?_
          refine z_sipush hC 19 dX7_beginnings_19 rfl ?_
          refine z_icmp_ge hC 22 38 dX7_beginnings_22 rfl (by omega) (by omega) (fun hb3 => ?_) (fun hb3 => ?_)
          · -- 22t
            have hcv4 : a = (cI (1000) (fun _ => 0) a) := by exact cI_self (fun p hp => iz p (by omega))
            rw [hcv4] at hH
            have hH : zH s0 s1 G as0 (mW ad G (va_up (va_up (va_up F 0 (0)) 5 ((n : Int))) 7 ((t : Int))) (va_up (va_up Ar 3 (cI (n) v gv)) 40 (cI (1000) (fun _ => 0) a))) H locs := hH
            refine z_iconst hC 38 dX7_beginnings_38 ?_
            refine z_istore_n (lv' := [(2, .int (iZ (0))), (0, .ref (ad 0)), (1, .int (iZ (q)))]) hC 39 hl dX7_beginnings_39 rfl (by decide) rfl (fun ls hl => ?_)
            refine z_bipush hC 40 dX7_beginnings_40 rfl ?_
            refine z_istore_n (lv' := [(3, .int (iZ ((-2)))), (2, .int (iZ (0))), (0, .ref (ad 0)), (1, .int (iZ (q)))]) hC 42 hl dX7_beginnings_42 rfl (by decide) rfl (fun ls hl => ?_)
            refine z_iconst hC 43 dX7_beginnings_43 ?_
            refine z_istore (lv' := [(4, .int (iZ (0))), (3, .int (iZ ((-2)))), (2, .int (iZ (0))), (0, .ref (ad 0)), (1, .int (iZ (q)))]) hC 44 hl dX7_beginnings_44 (by decide) rfl (fun ls hl => ?_)
            refine z_iconst hC 46 dX7_beginnings_46 ?_
            refine z_istore (lv' := [(5, .int (iZ (0))), (4, .int (iZ (0))), (3, .int (iZ ((-2)))), (2, .int (iZ (0))), (0, .ref (ad 0)), (1, .int (iZ (q)))]) hC 47 hl dX7_beginnings_47 (by decide) rfl (fun ls hl => ?_)
            refine z_iconst hC 49 dX7_beginnings_49 ?_
            refine z_istore (lv' := [(6, .int (iZ ((-1)))), (5, .int (iZ (0))), (4, .int (iZ (0))), (3, .int (iZ ((-2)))), (2, .int (iZ (0))), (0, .ref (ad 0)), (1, .int (iZ (q)))]) hC 50 hl dX7_beginnings_50 (by decide) rfl (fun ls hl => ?_)
            refine z_iconst hC 52 dX7_beginnings_52 ?_
            refine z_istore (lv' := [(7, .int (iZ ((-1)))), (6, .int (iZ ((-1)))), (5, .int (iZ (0))), (4, .int (iZ (0))), (3, .int (iZ ((-2)))), (2, .int (iZ (0))), (0, .ref (ad 0)), (1, .int (iZ (q)))]) hC 53 hl dX7_beginnings_53 (by decide) rfl (fun ls hl => ?_)
            refine z_iconst hC 55 dX7_beginnings_55 ?_
            refine z_istore (lv' := [(8, .int (iZ (0))), (7, .int (iZ ((-1)))), (6, .int (iZ ((-1)))), (5, .int (iZ (0))), (4, .int (iZ (0))), (3, .int (iZ ((-2)))), (2, .int (iZ (0))), (0, .ref (ad 0)), (1, .int (iZ (q)))]) hC 56 hl dX7_beginnings_56 (by decide) rfl (fun ls hl => ?_)
            have L58 : ∀ (N_ : Nat) (r : Nat) (c : Nat) (uk : Nat) (ls_ : Int) (rw_ : Int) (mx_ : Int) (ws : Int) (mo : Nat → Nat) (gm : Nat → Int) (f38 : Int) (a34 : Nat → Int) (a35 : Nat → Int) (a36 : Nat → Int) (a37 : Nat → Int) (H : Heap) (locs : List Loc) (ls : Array Slot), n - r < N_ → (r ≤ n) → (LG v 0 r f38 a34 a35 a36 a37) → (c ≤ r) → (uk ≤ r) → (-2 ≤ ls_ ∧ ls_ ≤ r ∧ 0 ≤ rw_ ∧ rw_ ≤ r ∧ -1 ≤ mx_ ∧ mx_ ≤ r ∧ -1 ≤ ws ∧ ws < 1000) → ((r = 0 ∧ ws = -1 ∧ rw_ = 0) ∨ (0 < r ∧ ws = (md v 0 (r - 1 + 1) t : Int) ∧ rw_ = (rwF (fun r => md v 0 (r + 1) t) (r - 1) : Int))) → (c = cB (fun r => 0 < r ∧ md v 0 (r + 1) t ≠ md v 0 (r - 1 + 1) t) r) → (ls_ = lsF (fun r => md v 0 (r + 1) t) r) → (uk = dst (fun r => md v 0 (r + 1) t) 0 r) → (mx_ = mxF (fun r => md v 0 (r + 1) t) r) → (∀ x, x < 1000 → mo x = cnt (fun r => md v 0 (r + 1) t) 0 r x) → zH s0 s1 G as0 (mW ad G (va_up (va_up (va_up (va_up F 0 (0)) 5 ((n : Int))) 7 ((t : Int))) 38 (f38)) (va_up (va_up (va_up (va_up (va_up (va_up Ar 3 (cI (n) v gv)) 34 a34) 35 a35) 36 a36) 37 a37) 40 (cI (1000) mo gm))) H locs → lv_has ls 11 [(0, .ref (ad 0)), (1, .int (iZ (q))), (2, .int (iZ ((c : Int)))), (3, .int (iZ (ls_))), (4, .int (iZ ((uk : Int)))), (5, .int (iZ (rw_))), (6, .int (iZ (mx_))), (7, .int (iZ (ws))), (8, .int (iZ ((r : Int))))] → W pg lau ev (zRm 3 0 0 68) s1 mi ar bl me cd H locs 0 0 Q (F0 mi 58 ls []) := by
              intro N_
              induction N_ with
              | zero => intro r c uk ls_ rw_ mx_ ws mo gm f38 a34 a35 a36 a37 H locs ls hd; exact absurd hd (Nat.not_lt_zero _)
              | succ N_ ih58 =>
                intro r c uk ls_ rw_ mx_ ws mo gm f38 a34 a35 a36 a37 H locs ls hd58 i58_1 ilg i58_3 i58_4 irb iw ic il iu ix imo hH hl
                refine z_iload hC 58 hl dX7_beginnings_58 8 rfl ?_
                refine z_aload_n hC 60 hl dX7_beginnings_60 rfl 0 rfl ?_
                refine gmW_5 (x := (n : Int)) hC hH 61 rfl dX7_beginnings_61 ?_
                refine z_icmp_ge hC 64 201 dX7_beginnings_64 rfl (by omega) (by omega) (fun hb5 => ?_) (fun hb5 => ?_)
                · -- 64t
                  have er : r = n := by omega
                  rw [er] at ic il iu ix
                  refine z_iload_n hC 201 hl dX7_beginnings_201 rfl 1 rfl ?_
                  refine z_if_ne hC 202 209 dX7_beginnings_202 rfl (by omega) (fun hb6 => ?_) (fun hb6 => ?_)
                  · -- 202t
                    refine z_iload_n hC 209 hl dX7_beginnings_209 rfl 1 rfl ?_
                    refine z_iconst hC 210 dX7_beginnings_210 ?_
                    refine z_icmp_ne hC 211 218 dX7_beginnings_211 rfl (by omega) (by omega) (fun hb7 => ?_) (fun hb7 => ?_)
                    · -- 211t
                      refine z_iload_n hC 218 hl dX7_beginnings_218 rfl 1 rfl ?_
                      refine z_iconst hC 219 dX7_beginnings_219 ?_
                      refine z_icmp_ne hC 220 228 dX7_beginnings_220 rfl (by omega) (by omega) (fun hb8 => ?_) (fun hb8 => ?_)
                      · -- 220t
                        refine z_aload_n hC 228 hl dX7_beginnings_228 rfl 0 rfl ?_
                        refine gmW_5 (x := (n : Int)) hC hH 229 rfl dX7_beginnings_229 ?_
                        refine z_if_ne hC 232 240 dX7_beginnings_232 rfl (by omega) (fun hb9 => ?_) (fun hb9 => ?_)
                        · -- 232t
                          refine z_iload hC 240 hl dX7_beginnings_240 6 rfl ?_
                          -- R242.2
                          exact z_iret hC hH hQ 242 ((mx_, (va_up (va_up (va_up (va_up F 0 (0)) 5 ((n : Int))) 7 ((t : Int))) 38 (f38)), (va_up (va_up (va_up (va_up (va_up (va_up Ar 3 (cI (n) v gv)) 34 a34) 35 a35) 36 a36) 37 a37) 40 (cI (1000) mo gm)))) dX7_beginnings_242 rfl ⟨by (unfold Sp_beginnings; rw [if_pos (by omega)]; first | (rw [if_pos (by omega), ic]; done) | (rw [if_neg (by omega), if_pos (by omega)]; exact il) | (rw [if_neg (by omega), if_neg (by omega), if_pos (by omega), iu]; done) | (rw [if_neg (by omega), if_neg (by omega), if_neg (by omega), if_pos (by omega)]; done) | (rw [if_neg (by omega), if_neg (by omega), if_neg (by omega), if_neg (by omega)]; exact ix)), by exact ⟨rfl, rfl, rfl, rfl, rfl, rfl, rfl, rfl, rfl, rfl, rfl, rfl, rfl, rfl, rfl, rfl⟩⟩ rfl (Nat.le_refl _) (Nat.le_refl _)
                        · -- 232f
                          refine z_bipush hC 235 dX7_beginnings_235 rfl ?_
                          refine z_goto hC 237 242 dX7_beginnings_237 rfl ?_
                          -- R242.3
                          exact z_iret hC hH hQ 242 (((-2), (va_up (va_up (va_up (va_up F 0 (0)) 5 ((n : Int))) 7 ((t : Int))) 38 (f38)), (va_up (va_up (va_up (va_up (va_up (va_up Ar 3 (cI (n) v gv)) 34 a34) 35 a35) 36 a36) 37 a37) 40 (cI (1000) mo gm)))) dX7_beginnings_242 rfl ⟨by (unfold Sp_beginnings; rw [if_pos (by omega)]; first | (rw [if_pos (by omega), ic]; done) | (rw [if_neg (by omega), if_pos (by omega)]; exact il) | (rw [if_neg (by omega), if_neg (by omega), if_pos (by omega), iu]; done) | (rw [if_neg (by omega), if_neg (by omega), if_neg (by omega), if_pos (by omega)]; done) | (rw [if_neg (by omega), if_neg (by omega), if_neg (by omega), if_neg (by omega)]; exact ix)), by exact ⟨rfl, rfl, rfl, rfl, rfl, rfl, rfl, rfl, rfl, rfl, rfl, rfl, rfl, rfl, rfl, rfl⟩⟩ rfl (Nat.le_refl _) (Nat.le_refl _)
                      · -- 220f
                        refine z_iload hC 223 hl dX7_beginnings_223 4 rfl ?_
                        refine z_goto hC 225 242 dX7_beginnings_225 rfl ?_
                        -- R242.4
                        exact z_iret hC hH hQ 242 (((uk : Int), (va_up (va_up (va_up (va_up F 0 (0)) 5 ((n : Int))) 7 ((t : Int))) 38 (f38)), (va_up (va_up (va_up (va_up (va_up (va_up Ar 3 (cI (n) v gv)) 34 a34) 35 a35) 36 a36) 37 a37) 40 (cI (1000) mo gm)))) dX7_beginnings_242 rfl ⟨by (unfold Sp_beginnings; rw [if_pos (by omega)]; first | (rw [if_pos (by omega), ic]; done) | (rw [if_neg (by omega), if_pos (by omega)]; exact il) | (rw [if_neg (by omega), if_neg (by omega), if_pos (by omega), iu]; done) | (rw [if_neg (by omega), if_neg (by omega), if_neg (by omega), if_pos (by omega)]; done) | (rw [if_neg (by omega), if_neg (by omega), if_neg (by omega), if_neg (by omega)]; exact ix)), by exact ⟨rfl, rfl, rfl, rfl, rfl, rfl, rfl, rfl, rfl, rfl, rfl, rfl, rfl, rfl, rfl, rfl⟩⟩ rfl (Nat.le_refl _) (Nat.le_refl _)
                    · -- 211f
                      refine z_iload_n hC 214 hl dX7_beginnings_214 rfl 3 rfl ?_
                      refine z_goto hC 215 242 dX7_beginnings_215 rfl ?_
                      -- R242.5
                      exact z_iret hC hH hQ 242 ((ls_, (va_up (va_up (va_up (va_up F 0 (0)) 5 ((n : Int))) 7 ((t : Int))) 38 (f38)), (va_up (va_up (va_up (va_up (va_up (va_up Ar 3 (cI (n) v gv)) 34 a34) 35 a35) 36 a36) 37 a37) 40 (cI (1000) mo gm)))) dX7_beginnings_242 rfl ⟨by (unfold Sp_beginnings; rw [if_pos (by omega)]; first | (rw [if_pos (by omega), ic]; done) | (rw [if_neg (by omega), if_pos (by omega)]; exact il) | (rw [if_neg (by omega), if_neg (by omega), if_pos (by omega), iu]; done) | (rw [if_neg (by omega), if_neg (by omega), if_neg (by omega), if_pos (by omega)]; done) | (rw [if_neg (by omega), if_neg (by omega), if_neg (by omega), if_neg (by omega)]; exact ix)), by exact ⟨rfl, rfl, rfl, rfl, rfl, rfl, rfl, rfl, rfl, rfl, rfl, rfl, rfl, rfl, rfl, rfl⟩⟩ rfl (Nat.le_refl _) (Nat.le_refl _)
                  · -- 202f
                    refine z_iload_n hC 205 hl dX7_beginnings_205 rfl 2 rfl ?_
                    refine z_goto hC 206 242 dX7_beginnings_206 rfl ?_
                    -- R242.6
                    exact z_iret hC hH hQ 242 (((c : Int), (va_up (va_up (va_up (va_up F 0 (0)) 5 ((n : Int))) 7 ((t : Int))) 38 (f38)), (va_up (va_up (va_up (va_up (va_up (va_up Ar 3 (cI (n) v gv)) 34 a34) 35 a35) 36 a36) 37 a37) 40 (cI (1000) mo gm)))) dX7_beginnings_242 rfl ⟨by (unfold Sp_beginnings; rw [if_pos (by omega)]; first | (rw [if_pos (by omega), ic]; done) | (rw [if_neg (by omega), if_pos (by omega)]; exact il) | (rw [if_neg (by omega), if_neg (by omega), if_pos (by omega), iu]; done) | (rw [if_neg (by omega), if_neg (by omega), if_neg (by omega), if_pos (by omega)]; done) | (rw [if_neg (by omega), if_neg (by omega), if_neg (by omega), if_neg (by omega)]; exact ix)), by exact ⟨rfl, rfl, rfl, rfl, rfl, rfl, rfl, rfl, rfl, rfl, rfl, rfl, rfl, rfl, rfl, rfl⟩⟩ rfl (Nat.le_refl _) (Nat.le_refl _)
                · -- 64f
                  refine z_aload_n hC 67 hl dX7_beginnings_67 rfl 0 rfl ?_
                  refine z_iconst hC 68 dX7_beginnings_68 ?_
                  refine z_iload hC 69 hl dX7_beginnings_69 8 rfl ?_
                  refine z_st (st' := [.int (iZ ((r : Int))), .int (iZ (((0 : Nat) : Int))), .ref (ad 0)]) (zcons rfl (zcons (zieq (by omega)) rfl)) ?_
                  refine z_same (z_runV hC hH.2.2 hl.1 hH.1 hH.2.1 2 (As := [.int (iZ (((0 : Nat) : Int))), .int (iZ ((r : Int)))]) (rest := []) (m_X7_longer lau s0 G _ ad (va_up (va_up (va_up (va_up F 0 (0)) 5 ((n : Int))) 7 ((t : Int))) 38 (f38)) (va_up (va_up (va_up (va_up (va_up (va_up Ar 3 (cI (n) v gv)) 34 a34) 35 a35) 36 a36) 37 a37) 40 (cI (1000) mo gm)) n v gv 0 r t f38 a34 a35 a36 a37 (by first | assumption | omega) (by first | assumption | omega) (by first | assumption | omega) (by first | assumption | omega) (by first | assumption | omega) (by first | assumption | omega)) (lw_V q1872 q1874 qs83 q95 q1875) ⟨rfl, by decide, by decide, by decide +kernel⟩ (q0 := 0) (ci := 0) rfl rfl rfl rfl (Nat.le_of_ble_eq_true rfl) ⟨Nat.le_of_ble_eq_true rfl, Nat.le_of_ble_eq_true rfl⟩ ⟨Nat.le_of_ble_eq_true rfl, Nat.le_of_ble_eq_true rfl⟩ dX7_beginnings_71) hH (fun u_ H locs hpost hH => ?_)
                  obtain ⟨o_71, go_71, fo_71, la_71, k_71, u_71, gu_71⟩ := u_
                  obtain ⟨pCO_71, pm1_71⟩ : (CO v 0 (r + 1) o_71 fo_71 la_71 k_71 u_71) ∧ (md v 0 (r + 1) t < 1000) := hpost
                  have hH : zH s0 s1 G as0 (mW ad G (va_up (va_up (va_up (va_up F 0 (0)) 5 ((n : Int))) 7 ((t : Int))) 38 ((k_71 : Int))) (va_up (va_up (va_up (va_up (va_up (va_up Ar 3 (cI (n) v gv)) 34 (cI (1000) o_71 go_71)) 35 fo_71) 36 la_71) 37 (cI (k_71) u_71 gu_71)) 40 (cI (1000) mo gm))) H locs := hH
                  refine z_st (st' := [.int (iZ (((md v 0 (r + 1) t : Nat) : Int)))]) rfl ?_
                  have hmo : mo (md v 0 (r + 1) t) = cnt (fun r => md v 0 (r + 1) t) 0 r (md v 0 (r + 1) t) := imo _ (md_lt_1000 _ _ _ _)
                  have hcf := cnt_le (fun r => md v 0 (r + 1) t) 0 r (md v 0 (r + 1) t)
                  have hrw2 : (r = 0 → rwF (fun r => md v 0 (r + 1) t) r = 0) ∧ (0 < r → md v 0 (r + 1) t = md v 0 (r - 1 + 1) t → rwF (fun r => md v 0 (r + 1) t) r = rwF (fun r => md v 0 (r + 1) t) (r - 1) + 1) ∧ (0 < r → ¬ md v 0 (r + 1) t = md v 0 (r - 1 + 1) t → rwF (fun r => md v 0 (r + 1) t) r = 0) := bg_rw2 (fun r => md v 0 (r + 1) t) r
                  refine z_istore (lv' := [(9, .int (iZ (((md v 0 (r + 1) t : Nat) : Int)))), (0, .ref (ad 0)), (1, .int (iZ (q))), (2, .int (iZ ((c : Int)))), (3, .int (iZ (ls_))), (4, .int (iZ ((uk : Int)))), (5, .int (iZ (rw_))), (6, .int (iZ (mx_))), (7, .int (iZ (ws))), (8, .int (iZ ((r : Int))))]) hC 74 hl dX7_beginnings_74 (by decide) rfl (fun ls hl => ?_)
                  refine z_iload hC 76 hl dX7_beginnings_76 9 rfl ?_
                  refine z_if_le hC 78 92 dX7_beginnings_78 rfl (by omega) (fun hb10 => ?_) (fun hb10 => ?_)
                  · -- 78t
                    refine z_iconst hC 92 dX7_beginnings_92 ?_
                    refine z_istore (lv' := [(10, .int (iZ (0))), (9, .int (iZ (((md v 0 (r + 1) t : Nat) : Int)))), (0, .ref (ad 0)), (1, .int (iZ (q))), (2, .int (iZ ((c : Int)))), (3, .int (iZ (ls_))), (4, .int (iZ ((uk : Int)))), (5, .int (iZ (rw_))), (6, .int (iZ (mx_))), (7, .int (iZ (ws))), (8, .int (iZ ((r : Int))))]) hC 93 hl dX7_beginnings_93 (by decide) rfl (fun ls hl => ?_)
                    refine z_iload_n hC 95 hl dX7_beginnings_95 rfl 4 rfl ?_
                    refine z_iload hC 96 hl dX7_beginnings_96 0 rfl ?_
                    refine z_if_eq_t hC 98 105 dX7_beginnings_98 rfl (by omega) (by omega) ?_
                    refine z_iconst hC 105 dX7_beginnings_105 ?_
                    refine z_iadd (e := (c : Int)) hC 106 dX7_beginnings_106 (by omega) ?_
                    refine z_istore_n (lv' := [(2, .int (iZ ((c : Int)))), (10, .int (iZ (0))), (9, .int (iZ (((md v 0 (r + 1) t : Nat) : Int)))), (0, .ref (ad 0)), (1, .int (iZ (q))), (3, .int (iZ (ls_))), (4, .int (iZ ((uk : Int)))), (5, .int (iZ (rw_))), (6, .int (iZ (mx_))), (7, .int (iZ (ws))), (8, .int (iZ ((r : Int))))]) hC 107 hl dX7_beginnings_107 rfl (by decide) rfl (fun ls hl => ?_)
                    refine z_iload hC 108 hl dX7_beginnings_108 1 rfl ?_
                    refine z_if_eq_t hC 110 118 dX7_beginnings_110 rfl (by omega) (by omega) ?_
                    refine z_iload_n hC 118 hl dX7_beginnings_118 rfl 5 rfl ?_
                    refine z_istore_n (lv' := [(3, .int (iZ (ls_))), (2, .int (iZ ((c : Int)))), (10, .int (iZ (0))), (9, .int (iZ (((md v 0 (r + 1) t : Nat) : Int)))), (0, .ref (ad 0)), (1, .int (iZ (q))), (4, .int (iZ ((uk : Int)))), (5, .int (iZ (rw_))), (6, .int (iZ (mx_))), (7, .int (iZ (ws))), (8, .int (iZ ((r : Int))))]) hC 119 hl dX7_beginnings_119 rfl (by decide) rfl (fun ls hl => ?_)
                    refine z_iload hC 120 hl dX7_beginnings_120 6 rfl ?_
                    refine z_aload_n hC 122 hl dX7_beginnings_122 rfl 4 rfl ?_
                    refine gmW_40 hC hH 123 dX7_beginnings_123 ?_
                    refine z_iload hC 126 hl dX7_beginnings_126 3 rfl ?_
                    refine lmW_40 (x := ((mo (md v 0 (r + 1) t) : Nat) : Int)) hC hH 128 ((md v 0 (r + 1) t)) (by omega) (by omega) (cI_lt (by omega)) dX7_beginnings_128 ?_
                    refine z_if_ne hC 129 136 dX7_beginnings_129 rfl (by omega) (fun hb11 => ?_) (fun hb11 => ?_)
                    · -- 129t
                      refine z_iconst hC 136 dX7_beginnings_136 ?_
                      refine z_iadd (e := (uk : Int)) hC 137 dX7_beginnings_137 (by omega) ?_
                      refine z_istore (lv' := [(4, .int (iZ ((uk : Int)))), (3, .int (iZ (ls_))), (2, .int (iZ ((c : Int)))), (10, .int (iZ (0))), (9, .int (iZ (((md v 0 (r + 1) t : Nat) : Int)))), (0, .ref (ad 0)), (1, .int (iZ (q))), (5, .int (iZ (rw_))), (6, .int (iZ (mx_))), (7, .int (iZ (ws))), (8, .int (iZ ((r : Int))))]) hC 138 hl dX7_beginnings_138 (by decide) rfl (fun ls hl => ?_)
                      refine z_aload_n hC 140 hl dX7_beginnings_140 rfl 5 rfl ?_
                      refine gmW_40 hC hH 141 dX7_beginnings_141 ?_
                      refine z_iload hC 144 hl dX7_beginnings_144 4 rfl ?_
                      refine z_dup2 hC 146 dX7_beginnings_146 rfl rfl ?_
                      refine lmW_40 (x := ((mo (md v 0 (r + 1) t) : Nat) : Int)) hC hH 147 ((md v 0 (r + 1) t)) (by omega) (by omega) (cI_lt (by omega)) dX7_beginnings_147 ?_
                      refine z_iconst hC 148 dX7_beginnings_148 ?_
                      refine z_iadd (e := ((mo (md v 0 (r + 1) t) : Nat) : Int) + 1) hC 149 dX7_beginnings_149 rfl ?_
                      refine smW_40 (f' := (cI (1000) (va_up mo ((md v 0 (r + 1) t)) ((mo (md v 0 (r + 1) t)) + 1)) gm)) hC hH 150 ((md v 0 (r + 1) t)) (by omega) (by omega) (by rw [show (((mo (md v 0 (r + 1) t) : Nat) : Int) + 1 : Int) = (((mo (md v 0 (r + 1) t)) + 1 : Nat) : Int) from by omega]; exact cI_up (by omega)) dX7_beginnings_150 (fun H locs hH => ?_)
                      have hH : zH s0 s1 G as0 (mW ad G (va_up (va_up (va_up (va_up F 0 (0)) 5 ((n : Int))) 7 ((t : Int))) 38 ((k_71 : Int))) (va_up (va_up (va_up (va_up (va_up (va_up Ar 3 (cI (n) v gv)) 34 (cI (1000) o_71 go_71)) 35 fo_71) 36 la_71) 37 (cI (k_71) u_71 gu_71)) 40 (cI (1000) (va_up mo ((md v 0 (r + 1) t)) ((mo (md v 0 (r + 1) t)) + 1)) gm))) H locs := hH
                      refine z_iload hC 151 hl dX7_beginnings_151 3 rfl ?_
                      refine z_if_eq_t hC 153 160 dX7_beginnings_153 rfl (by omega) (by omega) ?_
                      refine z_iload hC 160 hl dX7_beginnings_160 10 rfl ?_
                      refine z_if_ne hC 162 169 dX7_beginnings_162 rfl (by omega) (fun hb12 => ?_) (fun hb12 => ?_)
                      · -- 162t
                        refine z_iload hC 169 hl dX7_beginnings_169 7 rfl ?_
                        refine z_iconst hC 171 dX7_beginnings_171 ?_
                        refine z_iadd (e := rw_ + 1) hC 172 dX7_beginnings_172 rfl ?_
                        refine z_istore (lv' := [(5, .int (iZ (rw_ + 1))), (4, .int (iZ ((uk : Int)))), (3, .int (iZ (ls_))), (2, .int (iZ ((c : Int)))), (10, .int (iZ (0))), (9, .int (iZ (((md v 0 (r + 1) t : Nat) : Int)))), (0, .ref (ad 0)), (1, .int (iZ (q))), (6, .int (iZ (mx_))), (7, .int (iZ (ws))), (8, .int (iZ ((r : Int))))]) hC 173 hl dX7_beginnings_173 (by decide) rfl (fun ls hl => ?_)
                        refine z_iload hC 175 hl dX7_beginnings_175 0 rfl ?_
                        refine z_iload hC 177 hl dX7_beginnings_177 8 rfl ?_
                        refine z_icmp_le hC 179 187 dX7_beginnings_179 rfl (by omega) (by omega) (fun hb13 => ?_) (fun hb13 => ?_)
                        · -- 179t
                          refine z_iload hC 187 hl dX7_beginnings_187 8 rfl ?_
                          refine z_istore (lv' := [(6, .int (iZ (mx_))), (5, .int (iZ (rw_ + 1))), (4, .int (iZ ((uk : Int)))), (3, .int (iZ (ls_))), (2, .int (iZ ((c : Int)))), (10, .int (iZ (0))), (9, .int (iZ (((md v 0 (r + 1) t : Nat) : Int)))), (0, .ref (ad 0)), (1, .int (iZ (q))), (7, .int (iZ (ws))), (8, .int (iZ ((r : Int))))]) hC 189 hl dX7_beginnings_189 (by decide) rfl (fun ls hl => ?_)
                          refine z_iload hC 191 hl dX7_beginnings_191 6 rfl ?_
                          refine z_istore (lv' := [(7, .int (iZ (((md v 0 (r + 1) t : Nat) : Int)))), (6, .int (iZ (mx_))), (5, .int (iZ (rw_ + 1))), (4, .int (iZ ((uk : Int)))), (3, .int (iZ (ls_))), (2, .int (iZ ((c : Int)))), (10, .int (iZ (0))), (9, .int (iZ (((md v 0 (r + 1) t : Nat) : Int)))), (0, .ref (ad 0)), (1, .int (iZ (q))), (8, .int (iZ ((r : Int))))]) hC 193 hl dX7_beginnings_193 (by decide) rfl (fun ls hl => ?_)
                          refine z_iinc (lv' := [(8, .int (iZ ((r : Int) + 1))), (7, .int (iZ (((md v 0 (r + 1) t : Nat) : Int)))), (6, .int (iZ (mx_))), (5, .int (iZ (rw_ + 1))), (4, .int (iZ ((uk : Int)))), (3, .int (iZ (ls_))), (2, .int (iZ ((c : Int)))), (10, .int (iZ (0))), (9, .int (iZ (((md v 0 (r + 1) t : Nat) : Int)))), (0, .ref (ad 0)), (1, .int (iZ (q)))]) hC 195 hl dX7_beginnings_195 10 rfl (by omega) (by decide) rfl (fun ls hl => ?_)
                          refine z_goto hC 198 58 dX7_beginnings_198 rfl ?_
                          -- J58.7
                          exact ih58 (r + 1) c uk ls_ (rw_ + 1) mx_ ((md v 0 (r + 1) t : Nat) : Int) (va_up mo ((md v 0 (r + 1) t)) ((mo (md v 0 (r + 1) t)) + 1)) gm (k_71 : Int) (cI (1000) o_71 go_71) fo_71 la_71 (cI (k_71) u_71 gu_71) _ _ _ (by omega) (by first | assumption | omega) (by first | exact LG_0 | exact LG_of pCO_71) (by first | assumption | omega) (by first | assumption | omega) (by first | assumption | omega) (by first | exact Or.inl ⟨rfl, rfl, rfl⟩ | exact bg_w (f := (fun r => md v 0 (r + 1) t)) rfl (by omega)) (by first | rfl | exact cB_it ⟨by omega, by omega⟩ ic | exact cB_if (fun q => by have := q.1; have := q.2; omega) ic) (by first | rfl | exact bg_l1 (f := (fun r => md v 0 (r + 1) t)) ⟨by omega, by omega⟩ | (rw [bg_l0 (f := (fun r => md v 0 (r + 1) t)) (fun q => by have := q.1; have := q.2; omega)]; exact il)) (by first | exact (dst_0 _ 0).symm | (rw [dst_succ (f := (fun r => md v 0 (r + 1) t)) (md_lt_1000 _ _ _ _)]; first | (rw [if_pos (by omega)]; omega) | (rw [if_neg (by omega)]; omega))) (by first | rfl | exact bg_m1 ix (by omega) (by omega) | exact bg_m0 ix (by omega)) (by first | (intro x hx; rw [cnt_0 _ (Nat.le_refl _)]) | exact cnt_up imo (md_lt_1000 _ _ _ _) rfl) hH (z_lv (lv_sub hl [9, 10, 6, 5, 4, 3, 2, 1, 0] rfl) (zcons rfl (zcons rfl (zcons rfl (zcons rfl (zcons rfl (zcons (zpeq (by omega)) (zcons rfl (zcons rfl (zcons (zpeq (by omega)) rfl))))))))))
                        · -- 179f
                          refine z_iload hC 182 hl dX7_beginnings_182 0 rfl ?_
                          refine z_goto hC 184 189 dX7_beginnings_184 rfl ?_
                          refine z_istore (lv' := [(6, .int (iZ (rw_ + 1))), (5, .int (iZ (rw_ + 1))), (4, .int (iZ ((uk : Int)))), (3, .int (iZ (ls_))), (2, .int (iZ ((c : Int)))), (10, .int (iZ (0))), (9, .int (iZ (((md v 0 (r + 1) t : Nat) : Int)))), (0, .ref (ad 0)), (1, .int (iZ (q))), (7, .int (iZ (ws))), (8, .int (iZ ((r : Int))))]) hC 189 hl dX7_beginnings_189 (by decide) rfl (fun ls hl => ?_)
                          refine z_iload hC 191 hl dX7_beginnings_191 6 rfl ?_
                          refine z_istore (lv' := [(7, .int (iZ (((md v 0 (r + 1) t : Nat) : Int)))), (6, .int (iZ (rw_ + 1))), (5, .int (iZ (rw_ + 1))), (4, .int (iZ ((uk : Int)))), (3, .int (iZ (ls_))), (2, .int (iZ ((c : Int)))), (10, .int (iZ (0))), (9, .int (iZ (((md v 0 (r + 1) t : Nat) : Int)))), (0, .ref (ad 0)), (1, .int (iZ (q))), (8, .int (iZ ((r : Int))))]) hC 193 hl dX7_beginnings_193 (by decide) rfl (fun ls hl => ?_)
                          refine z_iinc (lv' := [(8, .int (iZ ((r : Int) + 1))), (7, .int (iZ (((md v 0 (r + 1) t : Nat) : Int)))), (6, .int (iZ (rw_ + 1))), (5, .int (iZ (rw_ + 1))), (4, .int (iZ ((uk : Int)))), (3, .int (iZ (ls_))), (2, .int (iZ ((c : Int)))), (10, .int (iZ (0))), (9, .int (iZ (((md v 0 (r + 1) t : Nat) : Int)))), (0, .ref (ad 0)), (1, .int (iZ (q)))]) hC 195 hl dX7_beginnings_195 10 rfl (by omega) (by decide) rfl (fun ls hl => ?_)
                          refine z_goto hC 198 58 dX7_beginnings_198 rfl ?_
                          -- J58.8
                          exact ih58 (r + 1) c uk ls_ (rw_ + 1) (rw_ + 1) ((md v 0 (r + 1) t : Nat) : Int) (va_up mo ((md v 0 (r + 1) t)) ((mo (md v 0 (r + 1) t)) + 1)) gm (k_71 : Int) (cI (1000) o_71 go_71) fo_71 la_71 (cI (k_71) u_71 gu_71) _ _ _ (by omega) (by first | assumption | omega) (by first | exact LG_0 | exact LG_of pCO_71) (by first | assumption | omega) (by first | assumption | omega) (by first | assumption | omega) (by first | exact Or.inl ⟨rfl, rfl, rfl⟩ | exact bg_w (f := (fun r => md v 0 (r + 1) t)) rfl (by omega)) (by first | rfl | exact cB_it ⟨by omega, by omega⟩ ic | exact cB_if (fun q => by have := q.1; have := q.2; omega) ic) (by first | rfl | exact bg_l1 (f := (fun r => md v 0 (r + 1) t)) ⟨by omega, by omega⟩ | (rw [bg_l0 (f := (fun r => md v 0 (r + 1) t)) (fun q => by have := q.1; have := q.2; omega)]; exact il)) (by first | exact (dst_0 _ 0).symm | (rw [dst_succ (f := (fun r => md v 0 (r + 1) t)) (md_lt_1000 _ _ _ _)]; first | (rw [if_pos (by omega)]; omega) | (rw [if_neg (by omega)]; omega))) (by first | rfl | exact bg_m1 ix (by omega) (by omega) | exact bg_m0 ix (by omega)) (by first | (intro x hx; rw [cnt_0 _ (Nat.le_refl _)]) | exact cnt_up imo (md_lt_1000 _ _ _ _) rfl) hH (z_lv (lv_sub hl [9, 10, 6, 5, 4, 3, 2, 1, 0] rfl) (zcons rfl (zcons rfl (zcons rfl (zcons rfl (zcons rfl (zcons (zpeq (by omega)) (zcons (zpeq (by omega)) (zcons rfl (zcons (zpeq (by omega)) rfl))))))))))
                      · -- 162f
                        refine z_iconst hC 165 dX7_beginnings_165 ?_
                        refine z_goto hC 166 173 dX7_beginnings_166 rfl ?_
                        refine z_istore (lv' := [(5, .int (iZ (0))), (4, .int (iZ ((uk : Int)))), (3, .int (iZ (ls_))), (2, .int (iZ ((c : Int)))), (10, .int (iZ (0))), (9, .int (iZ (((md v 0 (r + 1) t : Nat) : Int)))), (0, .ref (ad 0)), (1, .int (iZ (q))), (6, .int (iZ (mx_))), (7, .int (iZ (ws))), (8, .int (iZ ((r : Int))))]) hC 173 hl dX7_beginnings_173 (by decide) rfl (fun ls hl => ?_)
                        refine z_iload hC 175 hl dX7_beginnings_175 0 rfl ?_
                        refine z_iload hC 177 hl dX7_beginnings_177 8 rfl ?_
                        refine z_icmp_le hC 179 187 dX7_beginnings_179 rfl (by omega) (by omega) (fun hb14 => ?_) (fun hb14 => ?_)
                        · -- 179t
                          refine z_iload hC 187 hl dX7_beginnings_187 8 rfl ?_
                          refine z_istore (lv' := [(6, .int (iZ (mx_))), (5, .int (iZ (0))), (4, .int (iZ ((uk : Int)))), (3, .int (iZ (ls_))), (2, .int (iZ ((c : Int)))), (10, .int (iZ (0))), (9, .int (iZ (((md v 0 (r + 1) t : Nat) : Int)))), (0, .ref (ad 0)), (1, .int (iZ (q))), (7, .int (iZ (ws))), (8, .int (iZ ((r : Int))))]) hC 189 hl dX7_beginnings_189 (by decide) rfl (fun ls hl => ?_)
                          refine z_iload hC 191 hl dX7_beginnings_191 6 rfl ?_
                          refine z_istore (lv' := [(7, .int (iZ (((md v 0 (r + 1) t : Nat) : Int)))), (6, .int (iZ (mx_))), (5, .int (iZ (0))), (4, .int (iZ ((uk : Int)))), (3, .int (iZ (ls_))), (2, .int (iZ ((c : Int)))), (10, .int (iZ (0))), (9, .int (iZ (((md v 0 (r + 1) t : Nat) : Int)))), (0, .ref (ad 0)), (1, .int (iZ (q))), (8, .int (iZ ((r : Int))))]) hC 193 hl dX7_beginnings_193 (by decide) rfl (fun ls hl => ?_)
                          refine z_iinc (lv' := [(8, .int (iZ ((r : Int) + 1))), (7, .int (iZ (((md v 0 (r + 1) t : Nat) : Int)))), (6, .int (iZ (mx_))), (5, .int (iZ (0))), (4, .int (iZ ((uk : Int)))), (3, .int (iZ (ls_))), (2, .int (iZ ((c : Int)))), (10, .int (iZ (0))), (9, .int (iZ (((md v 0 (r + 1) t : Nat) : Int)))), (0, .ref (ad 0)), (1, .int (iZ (q)))]) hC 195 hl dX7_beginnings_195 10 rfl (by omega) (by decide) rfl (fun ls hl => ?_)
                          refine z_goto hC 198 58 dX7_beginnings_198 rfl ?_
                          -- J58.9
                          exact ih58 (r + 1) c uk ls_ 0 mx_ ((md v 0 (r + 1) t : Nat) : Int) (va_up mo ((md v 0 (r + 1) t)) ((mo (md v 0 (r + 1) t)) + 1)) gm (k_71 : Int) (cI (1000) o_71 go_71) fo_71 la_71 (cI (k_71) u_71 gu_71) _ _ _ (by omega) (by first | assumption | omega) (by first | exact LG_0 | exact LG_of pCO_71) (by first | assumption | omega) (by first | assumption | omega) (by first | assumption | omega) (by first | exact Or.inl ⟨rfl, rfl, rfl⟩ | exact bg_w (f := (fun r => md v 0 (r + 1) t)) rfl (by omega)) (by first | rfl | exact cB_it ⟨by omega, by omega⟩ ic | exact cB_if (fun q => by have := q.1; have := q.2; omega) ic) (by first | rfl | exact bg_l1 (f := (fun r => md v 0 (r + 1) t)) ⟨by omega, by omega⟩ | (rw [bg_l0 (f := (fun r => md v 0 (r + 1) t)) (fun q => by have := q.1; have := q.2; omega)]; exact il)) (by first | exact (dst_0 _ 0).symm | (rw [dst_succ (f := (fun r => md v 0 (r + 1) t)) (md_lt_1000 _ _ _ _)]; first | (rw [if_pos (by omega)]; omega) | (rw [if_neg (by omega)]; omega))) (by first | rfl | exact bg_m1 ix (by omega) (by omega) | exact bg_m0 ix (by omega)) (by first | (intro x hx; rw [cnt_0 _ (Nat.le_refl _)]) | exact cnt_up imo (md_lt_1000 _ _ _ _) rfl) hH (z_lv (lv_sub hl [9, 10, 6, 5, 4, 3, 2, 1, 0] rfl) (zcons rfl (zcons rfl (zcons rfl (zcons rfl (zcons rfl (zcons rfl (zcons rfl (zcons rfl (zcons (zpeq (by omega)) rfl))))))))))
                        · -- 179f
                          refine z_iload hC 182 hl dX7_beginnings_182 0 rfl ?_
                          refine z_goto hC 184 189 dX7_beginnings_184 rfl ?_
                          refine z_istore (lv' := [(6, .int (iZ (0))), (5, .int (iZ (0))), (4, .int (iZ ((uk : Int)))), (3, .int (iZ (ls_))), (2, .int (iZ ((c : Int)))), (10, .int (iZ (0))), (9, .int (iZ (((md v 0 (r + 1) t : Nat) : Int)))), (0, .ref (ad 0)), (1, .int (iZ (q))), (7, .int (iZ (ws))), (8, .int (iZ ((r : Int))))]) hC 189 hl dX7_beginnings_189 (by decide) rfl (fun ls hl => ?_)
                          refine z_iload hC 191 hl dX7_beginnings_191 6 rfl ?_
                          refine z_istore (lv' := [(7, .int (iZ (((md v 0 (r + 1) t : Nat) : Int)))), (6, .int (iZ (0))), (5, .int (iZ (0))), (4, .int (iZ ((uk : Int)))), (3, .int (iZ (ls_))), (2, .int (iZ ((c : Int)))), (10, .int (iZ (0))), (9, .int (iZ (((md v 0 (r + 1) t : Nat) : Int)))), (0, .ref (ad 0)), (1, .int (iZ (q))), (8, .int (iZ ((r : Int))))]) hC 193 hl dX7_beginnings_193 (by decide) rfl (fun ls hl => ?_)
                          refine z_iinc (lv' := [(8, .int (iZ ((r : Int) + 1))), (7, .int (iZ (((md v 0 (r + 1) t : Nat) : Int)))), (6, .int (iZ (0))), (5, .int (iZ (0))), (4, .int (iZ ((uk : Int)))), (3, .int (iZ (ls_))), (2, .int (iZ ((c : Int)))), (10, .int (iZ (0))), (9, .int (iZ (((md v 0 (r + 1) t : Nat) : Int)))), (0, .ref (ad 0)), (1, .int (iZ (q)))]) hC 195 hl dX7_beginnings_195 10 rfl (by omega) (by decide) rfl (fun ls hl => ?_)
                          refine z_goto hC 198 58 dX7_beginnings_198 rfl ?_
                          -- J58.10
                          exact ih58 (r + 1) c uk ls_ 0 0 ((md v 0 (r + 1) t : Nat) : Int) (va_up mo ((md v 0 (r + 1) t)) ((mo (md v 0 (r + 1) t)) + 1)) gm (k_71 : Int) (cI (1000) o_71 go_71) fo_71 la_71 (cI (k_71) u_71 gu_71) _ _ _ (by omega) (by first | assumption | omega) (by first | exact LG_0 | exact LG_of pCO_71) (by first | assumption | omega) (by first | assumption | omega) (by first | assumption | omega) (by first | exact Or.inl ⟨rfl, rfl, rfl⟩ | exact bg_w (f := (fun r => md v 0 (r + 1) t)) rfl (by omega)) (by first | rfl | exact cB_it ⟨by omega, by omega⟩ ic | exact cB_if (fun q => by have := q.1; have := q.2; omega) ic) (by first | rfl | exact bg_l1 (f := (fun r => md v 0 (r + 1) t)) ⟨by omega, by omega⟩ | (rw [bg_l0 (f := (fun r => md v 0 (r + 1) t)) (fun q => by have := q.1; have := q.2; omega)]; exact il)) (by first | exact (dst_0 _ 0).symm | (rw [dst_succ (f := (fun r => md v 0 (r + 1) t)) (md_lt_1000 _ _ _ _)]; first | (rw [if_pos (by omega)]; omega) | (rw [if_neg (by omega)]; omega))) (by first | rfl | exact bg_m1 ix (by omega) (by omega) | exact bg_m0 ix (by omega)) (by first | (intro x hx; rw [cnt_0 _ (Nat.le_refl _)]) | exact cnt_up imo (md_lt_1000 _ _ _ _) rfl) hH (z_lv (lv_sub hl [9, 10, 6, 5, 4, 3, 2, 1, 0] rfl) (zcons rfl (zcons rfl (zcons rfl (zcons rfl (zcons rfl (zcons rfl (zcons rfl (zcons rfl (zcons (zpeq (by omega)) rfl))))))))))
                    · -- 129f
                      refine z_iconst hC 132 dX7_beginnings_132 ?_
                      refine z_goto hC 133 137 dX7_beginnings_133 rfl ?_
                      refine z_iadd (e := (uk : Int) + 1) hC 137 dX7_beginnings_137 rfl ?_
                      refine z_istore (lv' := [(4, .int (iZ ((uk : Int) + 1))), (3, .int (iZ (ls_))), (2, .int (iZ ((c : Int)))), (10, .int (iZ (0))), (9, .int (iZ (((md v 0 (r + 1) t : Nat) : Int)))), (0, .ref (ad 0)), (1, .int (iZ (q))), (5, .int (iZ (rw_))), (6, .int (iZ (mx_))), (7, .int (iZ (ws))), (8, .int (iZ ((r : Int))))]) hC 138 hl dX7_beginnings_138 (by decide) rfl (fun ls hl => ?_)
                      refine z_aload_n hC 140 hl dX7_beginnings_140 rfl 5 rfl ?_
                      refine gmW_40 hC hH 141 dX7_beginnings_141 ?_
                      refine z_iload hC 144 hl dX7_beginnings_144 4 rfl ?_
                      refine z_dup2 hC 146 dX7_beginnings_146 rfl rfl ?_
                      refine lmW_40 (x := ((mo (md v 0 (r + 1) t) : Nat) : Int)) hC hH 147 ((md v 0 (r + 1) t)) (by omega) (by omega) (cI_lt (by omega)) dX7_beginnings_147 ?_
                      refine z_iconst hC 148 dX7_beginnings_148 ?_
                      refine z_iadd (e := ((mo (md v 0 (r + 1) t) : Nat) : Int) + 1) hC 149 dX7_beginnings_149 rfl ?_
                      refine smW_40 (f' := (cI (1000) (va_up mo ((md v 0 (r + 1) t)) ((mo (md v 0 (r + 1) t)) + 1)) gm)) hC hH 150 ((md v 0 (r + 1) t)) (by omega) (by omega) (by rw [show (((mo (md v 0 (r + 1) t) : Nat) : Int) + 1 : Int) = (((mo (md v 0 (r + 1) t)) + 1 : Nat) : Int) from by omega]; exact cI_up (by omega)) dX7_beginnings_150 (fun H locs hH => ?_)
                      have hH : zH s0 s1 G as0 (mW ad G (va_up (va_up (va_up (va_up F 0 (0)) 5 ((n : Int))) 7 ((t : Int))) 38 ((k_71 : Int))) (va_up (va_up (va_up (va_up (va_up (va_up Ar 3 (cI (n) v gv)) 34 (cI (1000) o_71 go_71)) 35 fo_71) 36 la_71) 37 (cI (k_71) u_71 gu_71)) 40 (cI (1000) (va_up mo ((md v 0 (r + 1) t)) ((mo (md v 0 (r + 1) t)) + 1)) gm))) H locs := hH
                      refine z_iload hC 151 hl dX7_beginnings_151 3 rfl ?_
                      refine z_if_eq_t hC 153 160 dX7_beginnings_153 rfl (by omega) (by omega) ?_
                      refine z_iload hC 160 hl dX7_beginnings_160 10 rfl ?_
                      refine z_if_ne hC 162 169 dX7_beginnings_162 rfl (by omega) (fun hb15 => ?_) (fun hb15 => ?_)
                      · -- 162t
                        refine z_iload hC 169 hl dX7_beginnings_169 7 rfl ?_
                        refine z_iconst hC 171 dX7_beginnings_171 ?_
                        refine z_iadd (e := rw_ + 1) hC 172 dX7_beginnings_172 rfl ?_
                        refine z_istore (lv' := [(5, .int (iZ (rw_ + 1))), (4, .int (iZ ((uk : Int) + 1))), (3, .int (iZ (ls_))), (2, .int (iZ ((c : Int)))), (10, .int (iZ (0))), (9, .int (iZ (((md v 0 (r + 1) t : Nat) : Int)))), (0, .ref (ad 0)), (1, .int (iZ (q))), (6, .int (iZ (mx_))), (7, .int (iZ (ws))), (8, .int (iZ ((r : Int))))]) hC 173 hl dX7_beginnings_173 (by decide) rfl (fun ls hl => ?_)
                        refine z_iload hC 175 hl dX7_beginnings_175 0 rfl ?_
                        refine z_iload hC 177 hl dX7_beginnings_177 8 rfl ?_
                        refine z_icmp_le hC 179 187 dX7_beginnings_179 rfl (by omega) (by omega) (fun hb16 => ?_) (fun hb16 => ?_)
                        · -- 179t
                          refine z_iload hC 187 hl dX7_beginnings_187 8 rfl ?_
                          refine z_istore (lv' := [(6, .int (iZ (mx_))), (5, .int (iZ (rw_ + 1))), (4, .int (iZ ((uk : Int) + 1))), (3, .int (iZ (ls_))), (2, .int (iZ ((c : Int)))), (10, .int (iZ (0))), (9, .int (iZ (((md v 0 (r + 1) t : Nat) : Int)))), (0, .ref (ad 0)), (1, .int (iZ (q))), (7, .int (iZ (ws))), (8, .int (iZ ((r : Int))))]) hC 189 hl dX7_beginnings_189 (by decide) rfl (fun ls hl => ?_)
                          refine z_iload hC 191 hl dX7_beginnings_191 6 rfl ?_
                          refine z_istore (lv' := [(7, .int (iZ (((md v 0 (r + 1) t : Nat) : Int)))), (6, .int (iZ (mx_))), (5, .int (iZ (rw_ + 1))), (4, .int (iZ ((uk : Int) + 1))), (3, .int (iZ (ls_))), (2, .int (iZ ((c : Int)))), (10, .int (iZ (0))), (9, .int (iZ (((md v 0 (r + 1) t : Nat) : Int)))), (0, .ref (ad 0)), (1, .int (iZ (q))), (8, .int (iZ ((r : Int))))]) hC 193 hl dX7_beginnings_193 (by decide) rfl (fun ls hl => ?_)
                          refine z_iinc (lv' := [(8, .int (iZ ((r : Int) + 1))), (7, .int (iZ (((md v 0 (r + 1) t : Nat) : Int)))), (6, .int (iZ (mx_))), (5, .int (iZ (rw_ + 1))), (4, .int (iZ ((uk : Int) + 1))), (3, .int (iZ (ls_))), (2, .int (iZ ((c : Int)))), (10, .int (iZ (0))), (9, .int (iZ (((md v 0 (r + 1) t : Nat) : Int)))), (0, .ref (ad 0)), (1, .int (iZ (q)))]) hC 195 hl dX7_beginnings_195 10 rfl (by omega) (by decide) rfl (fun ls hl => ?_)
                          refine z_goto hC 198 58 dX7_beginnings_198 rfl ?_
                          -- J58.11
                          exact ih58 (r + 1) c (uk + 1) ls_ (rw_ + 1) mx_ ((md v 0 (r + 1) t : Nat) : Int) (va_up mo ((md v 0 (r + 1) t)) ((mo (md v 0 (r + 1) t)) + 1)) gm (k_71 : Int) (cI (1000) o_71 go_71) fo_71 la_71 (cI (k_71) u_71 gu_71) _ _ _ (by omega) (by first | assumption | omega) (by first | exact LG_0 | exact LG_of pCO_71) (by first | assumption | omega) (by first | assumption | omega) (by first | assumption | omega) (by first | exact Or.inl ⟨rfl, rfl, rfl⟩ | exact bg_w (f := (fun r => md v 0 (r + 1) t)) rfl (by omega)) (by first | rfl | exact cB_it ⟨by omega, by omega⟩ ic | exact cB_if (fun q => by have := q.1; have := q.2; omega) ic) (by first | rfl | exact bg_l1 (f := (fun r => md v 0 (r + 1) t)) ⟨by omega, by omega⟩ | (rw [bg_l0 (f := (fun r => md v 0 (r + 1) t)) (fun q => by have := q.1; have := q.2; omega)]; exact il)) (by first | exact (dst_0 _ 0).symm | (rw [dst_succ (f := (fun r => md v 0 (r + 1) t)) (md_lt_1000 _ _ _ _)]; first | (rw [if_pos (by omega)]; omega) | (rw [if_neg (by omega)]; omega))) (by first | rfl | exact bg_m1 ix (by omega) (by omega) | exact bg_m0 ix (by omega)) (by first | (intro x hx; rw [cnt_0 _ (Nat.le_refl _)]) | exact cnt_up imo (md_lt_1000 _ _ _ _) rfl) hH (z_lv (lv_sub hl [9, 10, 6, 5, 4, 3, 2, 1, 0] rfl) (zcons rfl (zcons rfl (zcons rfl (zcons rfl (zcons (zpeq (by omega)) (zcons (zpeq (by omega)) (zcons rfl (zcons rfl (zcons (zpeq (by omega)) rfl))))))))))
                        · -- 179f
                          refine z_iload hC 182 hl dX7_beginnings_182 0 rfl ?_
                          refine z_goto hC 184 189 dX7_beginnings_184 rfl ?_
                          refine z_istore (lv' := [(6, .int (iZ (rw_ + 1))), (5, .int (iZ (rw_ + 1))), (4, .int (iZ ((uk : Int) + 1))), (3, .int (iZ (ls_))), (2, .int (iZ ((c : Int)))), (10, .int (iZ (0))), (9, .int (iZ (((md v 0 (r + 1) t : Nat) : Int)))), (0, .ref (ad 0)), (1, .int (iZ (q))), (7, .int (iZ (ws))), (8, .int (iZ ((r : Int))))]) hC 189 hl dX7_beginnings_189 (by decide) rfl (fun ls hl => ?_)
                          refine z_iload hC 191 hl dX7_beginnings_191 6 rfl ?_
                          refine z_istore (lv' := [(7, .int (iZ (((md v 0 (r + 1) t : Nat) : Int)))), (6, .int (iZ (rw_ + 1))), (5, .int (iZ (rw_ + 1))), (4, .int (iZ ((uk : Int) + 1))), (3, .int (iZ (ls_))), (2, .int (iZ ((c : Int)))), (10, .int (iZ (0))), (9, .int (iZ (((md v 0 (r + 1) t : Nat) : Int)))), (0, .ref (ad 0)), (1, .int (iZ (q))), (8, .int (iZ ((r : Int))))]) hC 193 hl dX7_beginnings_193 (by decide) rfl (fun ls hl => ?_)
                          refine z_iinc (lv' := [(8, .int (iZ ((r : Int) + 1))), (7, .int (iZ (((md v 0 (r + 1) t : Nat) : Int)))), (6, .int (iZ (rw_ + 1))), (5, .int (iZ (rw_ + 1))), (4, .int (iZ ((uk : Int) + 1))), (3, .int (iZ (ls_))), (2, .int (iZ ((c : Int)))), (10, .int (iZ (0))), (9, .int (iZ (((md v 0 (r + 1) t : Nat) : Int)))), (0, .ref (ad 0)), (1, .int (iZ (q)))]) hC 195 hl dX7_beginnings_195 10 rfl (by omega) (by decide) rfl (fun ls hl => ?_)
                          refine z_goto hC 198 58 dX7_beginnings_198 rfl ?_
                          -- J58.12
                          exact ih58 (r + 1) c (uk + 1) ls_ (rw_ + 1) (rw_ + 1) ((md v 0 (r + 1) t : Nat) : Int) (va_up mo ((md v 0 (r + 1) t)) ((mo (md v 0 (r + 1) t)) + 1)) gm (k_71 : Int) (cI (1000) o_71 go_71) fo_71 la_71 (cI (k_71) u_71 gu_71) _ _ _ (by omega) (by first | assumption | omega) (by first | exact LG_0 | exact LG_of pCO_71) (by first | assumption | omega) (by first | assumption | omega) (by first | assumption | omega) (by first | exact Or.inl ⟨rfl, rfl, rfl⟩ | exact bg_w (f := (fun r => md v 0 (r + 1) t)) rfl (by omega)) (by first | rfl | exact cB_it ⟨by omega, by omega⟩ ic | exact cB_if (fun q => by have := q.1; have := q.2; omega) ic) (by first | rfl | exact bg_l1 (f := (fun r => md v 0 (r + 1) t)) ⟨by omega, by omega⟩ | (rw [bg_l0 (f := (fun r => md v 0 (r + 1) t)) (fun q => by have := q.1; have := q.2; omega)]; exact il)) (by first | exact (dst_0 _ 0).symm | (rw [dst_succ (f := (fun r => md v 0 (r + 1) t)) (md_lt_1000 _ _ _ _)]; first | (rw [if_pos (by omega)]; omega) | (rw [if_neg (by omega)]; omega))) (by first | rfl | exact bg_m1 ix (by omega) (by omega) | exact bg_m0 ix (by omega)) (by first | (intro x hx; rw [cnt_0 _ (Nat.le_refl _)]) | exact cnt_up imo (md_lt_1000 _ _ _ _) rfl) hH (z_lv (lv_sub hl [9, 10, 6, 5, 4, 3, 2, 1, 0] rfl) (zcons rfl (zcons rfl (zcons rfl (zcons rfl (zcons (zpeq (by omega)) (zcons (zpeq (by omega)) (zcons (zpeq (by omega)) (zcons rfl (zcons (zpeq (by omega)) rfl))))))))))
                      · -- 162f
                        refine z_iconst hC 165 dX7_beginnings_165 ?_
                        refine z_goto hC 166 173 dX7_beginnings_166 rfl ?_
                        refine z_istore (lv' := [(5, .int (iZ (0))), (4, .int (iZ ((uk : Int) + 1))), (3, .int (iZ (ls_))), (2, .int (iZ ((c : Int)))), (10, .int (iZ (0))), (9, .int (iZ (((md v 0 (r + 1) t : Nat) : Int)))), (0, .ref (ad 0)), (1, .int (iZ (q))), (6, .int (iZ (mx_))), (7, .int (iZ (ws))), (8, .int (iZ ((r : Int))))]) hC 173 hl dX7_beginnings_173 (by decide) rfl (fun ls hl => ?_)
                        refine z_iload hC 175 hl dX7_beginnings_175 0 rfl ?_
                        refine z_iload hC 177 hl dX7_beginnings_177 8 rfl ?_
                        refine z_icmp_le hC 179 187 dX7_beginnings_179 rfl (by omega) (by omega) (fun hb17 => ?_) (fun hb17 => ?_)
                        · -- 179t
                          refine z_iload hC 187 hl dX7_beginnings_187 8 rfl ?_
                          refine z_istore (lv' := [(6, .int (iZ (mx_))), (5, .int (iZ (0))), (4, .int (iZ ((uk : Int) + 1))), (3, .int (iZ (ls_))), (2, .int (iZ ((c : Int)))), (10, .int (iZ (0))), (9, .int (iZ (((md v 0 (r + 1) t : Nat) : Int)))), (0, .ref (ad 0)), (1, .int (iZ (q))), (7, .int (iZ (ws))), (8, .int (iZ ((r : Int))))]) hC 189 hl dX7_beginnings_189 (by decide) rfl (fun ls hl => ?_)
                          refine z_iload hC 191 hl dX7_beginnings_191 6 rfl ?_
                          refine z_istore (lv' := [(7, .int (iZ (((md v 0 (r + 1) t : Nat) : Int)))), (6, .int (iZ (mx_))), (5, .int (iZ (0))), (4, .int (iZ ((uk : Int) + 1))), (3, .int (iZ (ls_))), (2, .int (iZ ((c : Int)))), (10, .int (iZ (0))), (9, .int (iZ (((md v 0 (r + 1) t : Nat) : Int)))), (0, .ref (ad 0)), (1, .int (iZ (q))), (8, .int (iZ ((r : Int))))]) hC 193 hl dX7_beginnings_193 (by decide) rfl (fun ls hl => ?_)
                          refine z_iinc (lv' := [(8, .int (iZ ((r : Int) + 1))), (7, .int (iZ (((md v 0 (r + 1) t : Nat) : Int)))), (6, .int (iZ (mx_))), (5, .int (iZ (0))), (4, .int (iZ ((uk : Int) + 1))), (3, .int (iZ (ls_))), (2, .int (iZ ((c : Int)))), (10, .int (iZ (0))), (9, .int (iZ (((md v 0 (r + 1) t : Nat) : Int)))), (0, .ref (ad 0)), (1, .int (iZ (q)))]) hC 195 hl dX7_beginnings_195 10 rfl (by omega) (by decide) rfl (fun ls hl => ?_)
                          refine z_goto hC 198 58 dX7_beginnings_198 rfl ?_
                          -- J58.13
                          exact ih58 (r + 1) c (uk + 1) ls_ 0 mx_ ((md v 0 (r + 1) t : Nat) : Int) (va_up mo ((md v 0 (r + 1) t)) ((mo (md v 0 (r + 1) t)) + 1)) gm (k_71 : Int) (cI (1000) o_71 go_71) fo_71 la_71 (cI (k_71) u_71 gu_71) _ _ _ (by omega) (by first | assumption | omega) (by first | exact LG_0 | exact LG_of pCO_71) (by first | assumption | omega) (by first | assumption | omega) (by first | assumption | omega) (by first | exact Or.inl ⟨rfl, rfl, rfl⟩ | exact bg_w (f := (fun r => md v 0 (r + 1) t)) rfl (by omega)) (by first | rfl | exact cB_it ⟨by omega, by omega⟩ ic | exact cB_if (fun q => by have := q.1; have := q.2; omega) ic) (by first | rfl | exact bg_l1 (f := (fun r => md v 0 (r + 1) t)) ⟨by omega, by omega⟩ | (rw [bg_l0 (f := (fun r => md v 0 (r + 1) t)) (fun q => by have := q.1; have := q.2; omega)]; exact il)) (by first | exact (dst_0 _ 0).symm | (rw [dst_succ (f := (fun r => md v 0 (r + 1) t)) (md_lt_1000 _ _ _ _)]; first | (rw [if_pos (by omega)]; omega) | (rw [if_neg (by omega)]; omega))) (by first | rfl | exact bg_m1 ix (by omega) (by omega) | exact bg_m0 ix (by omega)) (by first | (intro x hx; rw [cnt_0 _ (Nat.le_refl _)]) | exact cnt_up imo (md_lt_1000 _ _ _ _) rfl) hH (z_lv (lv_sub hl [9, 10, 6, 5, 4, 3, 2, 1, 0] rfl) (zcons rfl (zcons rfl (zcons rfl (zcons rfl (zcons (zpeq (by omega)) (zcons rfl (zcons rfl (zcons rfl (zcons (zpeq (by omega)) rfl))))))))))
                        · -- 179f
                          refine z_iload hC 182 hl dX7_beginnings_182 0 rfl ?_
                          refine z_goto hC 184 189 dX7_beginnings_184 rfl ?_
                          refine z_istore (lv' := [(6, .int (iZ (0))), (5, .int (iZ (0))), (4, .int (iZ ((uk : Int) + 1))), (3, .int (iZ (ls_))), (2, .int (iZ ((c : Int)))), (10, .int (iZ (0))), (9, .int (iZ (((md v 0 (r + 1) t : Nat) : Int)))), (0, .ref (ad 0)), (1, .int (iZ (q))), (7, .int (iZ (ws))), (8, .int (iZ ((r : Int))))]) hC 189 hl dX7_beginnings_189 (by decide) rfl (fun ls hl => ?_)
                          refine z_iload hC 191 hl dX7_beginnings_191 6 rfl ?_
                          refine z_istore (lv' := [(7, .int (iZ (((md v 0 (r + 1) t : Nat) : Int)))), (6, .int (iZ (0))), (5, .int (iZ (0))), (4, .int (iZ ((uk : Int) + 1))), (3, .int (iZ (ls_))), (2, .int (iZ ((c : Int)))), (10, .int (iZ (0))), (9, .int (iZ (((md v 0 (r + 1) t : Nat) : Int)))), (0, .ref (ad 0)), (1, .int (iZ (q))), (8, .int (iZ ((r : Int))))]) hC 193 hl dX7_beginnings_193 (by decide) rfl (fun ls hl => ?_)
                          refine z_iinc (lv' := [(8, .int (iZ ((r : Int) + 1))), (7, .int (iZ (((md v 0 (r + 1) t : Nat) : Int)))), (6, .int (iZ (0))), (5, .int (iZ (0))), (4, .int (iZ ((uk : Int) + 1))), (3, .int (iZ (ls_))), (2, .int (iZ ((c : Int)))), (10, .int (iZ (0))), (9, .int (iZ (((md v 0 (r + 1) t : Nat) : Int)))), (0, .ref (ad 0)), (1, .int (iZ (q)))]) hC 195 hl dX7_beginnings_195 10 rfl (by omega) (by decide) rfl (fun ls hl => ?_)
                          refine z_goto hC 198 58 dX7_beginnings_198 rfl ?_
                          -- J58.14
                          exact ih58 (r + 1) c (uk + 1) ls_ 0 0 ((md v 0 (r + 1) t : Nat) : Int) (va_up mo ((md v 0 (r + 1) t)) ((mo (md v 0 (r + 1) t)) + 1)) gm (k_71 : Int) (cI (1000) o_71 go_71) fo_71 la_71 (cI (k_71) u_71 gu_71) _ _ _ (by omega) (by first | assumption | omega) (by first | exact LG_0 | exact LG_of pCO_71) (by first | assumption | omega) (by first | assumption | omega) (by first | assumption | omega) (by first | exact Or.inl ⟨rfl, rfl, rfl⟩ | exact bg_w (f := (fun r => md v 0 (r + 1) t)) rfl (by omega)) (by first | rfl | exact cB_it ⟨by omega, by omega⟩ ic | exact cB_if (fun q => by have := q.1; have := q.2; omega) ic) (by first | rfl | exact bg_l1 (f := (fun r => md v 0 (r + 1) t)) ⟨by omega, by omega⟩ | (rw [bg_l0 (f := (fun r => md v 0 (r + 1) t)) (fun q => by have := q.1; have := q.2; omega)]; exact il)) (by first | exact (dst_0 _ 0).symm | (rw [dst_succ (f := (fun r => md v 0 (r + 1) t)) (md_lt_1000 _ _ _ _)]; first | (rw [if_pos (by omega)]; omega) | (rw [if_neg (by omega)]; omega))) (by first | rfl | exact bg_m1 ix (by omega) (by omega) | exact bg_m0 ix (by omega)) (by first | (intro x hx; rw [cnt_0 _ (Nat.le_refl _)]) | exact cnt_up imo (md_lt_1000 _ _ _ _) rfl) hH (z_lv (lv_sub hl [9, 10, 6, 5, 4, 3, 2, 1, 0] rfl) (zcons rfl (zcons rfl (zcons rfl (zcons rfl (zcons (zpeq (by omega)) (zcons rfl (zcons rfl (zcons rfl (zcons (zpeq (by omega)) rfl))))))))))
                  · -- 78f
                    refine z_iload hC 81 hl dX7_beginnings_81 0 rfl ?_
                    refine z_iload hC 83 hl dX7_beginnings_83 8 rfl ?_
                    refine z_icmp_eq hC 85 92 dX7_beginnings_85 rfl (by omega) (by omega) (fun hb18 => ?_) (fun hb18 => ?_)
                    · -- 85t
                      refine z_iconst hC 92 dX7_beginnings_92 ?_
                      refine z_istore (lv' := [(10, .int (iZ (0))), (9, .int (iZ (((md v 0 (r + 1) t : Nat) : Int)))), (0, .ref (ad 0)), (1, .int (iZ (q))), (2, .int (iZ ((c : Int)))), (3, .int (iZ (ls_))), (4, .int (iZ ((uk : Int)))), (5, .int (iZ (rw_))), (6, .int (iZ (mx_))), (7, .int (iZ (ws))), (8, .int (iZ ((r : Int))))]) hC 93 hl dX7_beginnings_93 (by decide) rfl (fun ls hl => ?_)
                      refine z_iload_n hC 95 hl dX7_beginnings_95 rfl 4 rfl ?_
                      refine z_iload hC 96 hl dX7_beginnings_96 0 rfl ?_
                      refine z_if_eq_t hC 98 105 dX7_beginnings_98 rfl (by omega) (by omega) ?_
                      refine z_iconst hC 105 dX7_beginnings_105 ?_
                      refine z_iadd (e := (c : Int)) hC 106 dX7_beginnings_106 (by omega) ?_
                      refine z_istore_n (lv' := [(2, .int (iZ ((c : Int)))), (10, .int (iZ (0))), (9, .int (iZ (((md v 0 (r + 1) t : Nat) : Int)))), (0, .ref (ad 0)), (1, .int (iZ (q))), (3, .int (iZ (ls_))), (4, .int (iZ ((uk : Int)))), (5, .int (iZ (rw_))), (6, .int (iZ (mx_))), (7, .int (iZ (ws))), (8, .int (iZ ((r : Int))))]) hC 107 hl dX7_beginnings_107 rfl (by decide) rfl (fun ls hl => ?_)
                      refine z_iload hC 108 hl dX7_beginnings_108 1 rfl ?_
                      refine z_if_eq_t hC 110 118 dX7_beginnings_110 rfl (by omega) (by omega) ?_
                      refine z_iload_n hC 118 hl dX7_beginnings_118 rfl 5 rfl ?_
                      refine z_istore_n (lv' := [(3, .int (iZ (ls_))), (2, .int (iZ ((c : Int)))), (10, .int (iZ (0))), (9, .int (iZ (((md v 0 (r + 1) t : Nat) : Int)))), (0, .ref (ad 0)), (1, .int (iZ (q))), (4, .int (iZ ((uk : Int)))), (5, .int (iZ (rw_))), (6, .int (iZ (mx_))), (7, .int (iZ (ws))), (8, .int (iZ ((r : Int))))]) hC 119 hl dX7_beginnings_119 rfl (by decide) rfl (fun ls hl => ?_)
                      refine z_iload hC 120 hl dX7_beginnings_120 6 rfl ?_
                      refine z_aload_n hC 122 hl dX7_beginnings_122 rfl 4 rfl ?_
                      refine gmW_40 hC hH 123 dX7_beginnings_123 ?_
                      refine z_iload hC 126 hl dX7_beginnings_126 3 rfl ?_
                      refine lmW_40 (x := ((mo (md v 0 (r + 1) t) : Nat) : Int)) hC hH 128 ((md v 0 (r + 1) t)) (by omega) (by omega) (cI_lt (by omega)) dX7_beginnings_128 ?_
                      refine z_if_ne hC 129 136 dX7_beginnings_129 rfl (by omega) (fun hb19 => ?_) (fun hb19 => ?_)
                      · -- 129t
                        refine z_iconst hC 136 dX7_beginnings_136 ?_
                        refine z_iadd (e := (uk : Int)) hC 137 dX7_beginnings_137 (by omega) ?_
                        refine z_istore (lv' := [(4, .int (iZ ((uk : Int)))), (3, .int (iZ (ls_))), (2, .int (iZ ((c : Int)))), (10, .int (iZ (0))), (9, .int (iZ (((md v 0 (r + 1) t : Nat) : Int)))), (0, .ref (ad 0)), (1, .int (iZ (q))), (5, .int (iZ (rw_))), (6, .int (iZ (mx_))), (7, .int (iZ (ws))), (8, .int (iZ ((r : Int))))]) hC 138 hl dX7_beginnings_138 (by decide) rfl (fun ls hl => ?_)
                        refine z_aload_n hC 140 hl dX7_beginnings_140 rfl 5 rfl ?_
                        refine gmW_40 hC hH 141 dX7_beginnings_141 ?_
                        refine z_iload hC 144 hl dX7_beginnings_144 4 rfl ?_
                        refine z_dup2 hC 146 dX7_beginnings_146 rfl rfl ?_
                        refine lmW_40 (x := ((mo (md v 0 (r + 1) t) : Nat) : Int)) hC hH 147 ((md v 0 (r + 1) t)) (by omega) (by omega) (cI_lt (by omega)) dX7_beginnings_147 ?_
                        refine z_iconst hC 148 dX7_beginnings_148 ?_
                        refine z_iadd (e := ((mo (md v 0 (r + 1) t) : Nat) : Int) + 1) hC 149 dX7_beginnings_149 rfl ?_
                        refine smW_40 (f' := (cI (1000) (va_up mo ((md v 0 (r + 1) t)) ((mo (md v 0 (r + 1) t)) + 1)) gm)) hC hH 150 ((md v 0 (r + 1) t)) (by omega) (by omega) (by rw [show (((mo (md v 0 (r + 1) t) : Nat) : Int) + 1 : Int) = (((mo (md v 0 (r + 1) t)) + 1 : Nat) : Int) from by omega]; exact cI_up (by omega)) dX7_beginnings_150 (fun H locs hH => ?_)
                        have hH : zH s0 s1 G as0 (mW ad G (va_up (va_up (va_up (va_up F 0 (0)) 5 ((n : Int))) 7 ((t : Int))) 38 ((k_71 : Int))) (va_up (va_up (va_up (va_up (va_up (va_up Ar 3 (cI (n) v gv)) 34 (cI (1000) o_71 go_71)) 35 fo_71) 36 la_71) 37 (cI (k_71) u_71 gu_71)) 40 (cI (1000) (va_up mo ((md v 0 (r + 1) t)) ((mo (md v 0 (r + 1) t)) + 1)) gm))) H locs := hH
                        refine z_iload hC 151 hl dX7_beginnings_151 3 rfl ?_
                        refine z_if_eq_t hC 153 160 dX7_beginnings_153 rfl (by omega) (by omega) ?_
                        refine z_iload hC 160 hl dX7_beginnings_160 10 rfl ?_
                        refine z_if_ne hC 162 169 dX7_beginnings_162 rfl (by omega) (fun hb20 => ?_) (fun hb20 => ?_)
                        · -- 162t
                          refine z_iload hC 169 hl dX7_beginnings_169 7 rfl ?_
                          refine z_iconst hC 171 dX7_beginnings_171 ?_
                          refine z_iadd (e := rw_ + 1) hC 172 dX7_beginnings_172 rfl ?_
                          refine z_istore (lv' := [(5, .int (iZ (rw_ + 1))), (4, .int (iZ ((uk : Int)))), (3, .int (iZ (ls_))), (2, .int (iZ ((c : Int)))), (10, .int (iZ (0))), (9, .int (iZ (((md v 0 (r + 1) t : Nat) : Int)))), (0, .ref (ad 0)), (1, .int (iZ (q))), (6, .int (iZ (mx_))), (7, .int (iZ (ws))), (8, .int (iZ ((r : Int))))]) hC 173 hl dX7_beginnings_173 (by decide) rfl (fun ls hl => ?_)
                          refine z_iload hC 175 hl dX7_beginnings_175 0 rfl ?_
                          refine z_iload hC 177 hl dX7_beginnings_177 8 rfl ?_
                          refine z_icmp_le hC 179 187 dX7_beginnings_179 rfl (by omega) (by omega) (fun hb21 => ?_) (fun hb21 => ?_)
                          · -- 179t
                            refine z_iload hC 187 hl dX7_beginnings_187 8 rfl ?_
                            refine z_istore (lv' := [(6, .int (iZ (mx_))), (5, .int (iZ (rw_ + 1))), (4, .int (iZ ((uk : Int)))), (3, .int (iZ (ls_))), (2, .int (iZ ((c : Int)))), (10, .int (iZ (0))), (9, .int (iZ (((md v 0 (r + 1) t : Nat) : Int)))), (0, .ref (ad 0)), (1, .int (iZ (q))), (7, .int (iZ (ws))), (8, .int (iZ ((r : Int))))]) hC 189 hl dX7_beginnings_189 (by decide) rfl (fun ls hl => ?_)
                            refine z_iload hC 191 hl dX7_beginnings_191 6 rfl ?_
                            refine z_istore (lv' := [(7, .int (iZ (((md v 0 (r + 1) t : Nat) : Int)))), (6, .int (iZ (mx_))), (5, .int (iZ (rw_ + 1))), (4, .int (iZ ((uk : Int)))), (3, .int (iZ (ls_))), (2, .int (iZ ((c : Int)))), (10, .int (iZ (0))), (9, .int (iZ (((md v 0 (r + 1) t : Nat) : Int)))), (0, .ref (ad 0)), (1, .int (iZ (q))), (8, .int (iZ ((r : Int))))]) hC 193 hl dX7_beginnings_193 (by decide) rfl (fun ls hl => ?_)
                            refine z_iinc (lv' := [(8, .int (iZ ((r : Int) + 1))), (7, .int (iZ (((md v 0 (r + 1) t : Nat) : Int)))), (6, .int (iZ (mx_))), (5, .int (iZ (rw_ + 1))), (4, .int (iZ ((uk : Int)))), (3, .int (iZ (ls_))), (2, .int (iZ ((c : Int)))), (10, .int (iZ (0))), (9, .int (iZ (((md v 0 (r + 1) t : Nat) : Int)))), (0, .ref (ad 0)), (1, .int (iZ (q)))]) hC 195 hl dX7_beginnings_195 10 rfl (by omega) (by decide) rfl (fun ls hl => ?_)
                            refine z_goto hC 198 58 dX7_beginnings_198 rfl ?_
                            -- J58.15
                            exact ih58 (r + 1) c uk ls_ (rw_ + 1) mx_ ((md v 0 (r + 1) t : Nat) : Int) (va_up mo ((md v 0 (r + 1) t)) ((mo (md v 0 (r + 1) t)) + 1)) gm (k_71 : Int) (cI (1000) o_71 go_71) fo_71 la_71 (cI (k_71) u_71 gu_71) _ _ _ (by omega) (by first | assumption | omega) (by first | exact LG_0 | exact LG_of pCO_71) (by first | assumption | omega) (by first | assumption | omega) (by first | assumption | omega) (by first | exact Or.inl ⟨rfl, rfl, rfl⟩ | exact bg_w (f := (fun r => md v 0 (r + 1) t)) rfl (by omega)) (by first | rfl | exact cB_it ⟨by omega, by omega⟩ ic | exact cB_if (fun q => by have := q.1; have := q.2; omega) ic) (by first | rfl | exact bg_l1 (f := (fun r => md v 0 (r + 1) t)) ⟨by omega, by omega⟩ | (rw [bg_l0 (f := (fun r => md v 0 (r + 1) t)) (fun q => by have := q.1; have := q.2; omega)]; exact il)) (by first | exact (dst_0 _ 0).symm | (rw [dst_succ (f := (fun r => md v 0 (r + 1) t)) (md_lt_1000 _ _ _ _)]; first | (rw [if_pos (by omega)]; omega) | (rw [if_neg (by omega)]; omega))) (by first | rfl | exact bg_m1 ix (by omega) (by omega) | exact bg_m0 ix (by omega)) (by first | (intro x hx; rw [cnt_0 _ (Nat.le_refl _)]) | exact cnt_up imo (md_lt_1000 _ _ _ _) rfl) hH (z_lv (lv_sub hl [9, 10, 6, 5, 4, 3, 2, 1, 0] rfl) (zcons rfl (zcons rfl (zcons rfl (zcons rfl (zcons rfl (zcons (zpeq (by omega)) (zcons rfl (zcons rfl (zcons (zpeq (by omega)) rfl))))))))))
                          · -- 179f
                            refine z_iload hC 182 hl dX7_beginnings_182 0 rfl ?_
                            refine z_goto hC 184 189 dX7_beginnings_184 rfl ?_
                            refine z_istore (lv' := [(6, .int (iZ (rw_ + 1))), (5, .int (iZ (rw_ + 1))), (4, .int (iZ ((uk : Int)))), (3, .int (iZ (ls_))), (2, .int (iZ ((c : Int)))), (10, .int (iZ (0))), (9, .int (iZ (((md v 0 (r + 1) t : Nat) : Int)))), (0, .ref (ad 0)), (1, .int (iZ (q))), (7, .int (iZ (ws))), (8, .int (iZ ((r : Int))))]) hC 189 hl dX7_beginnings_189 (by decide) rfl (fun ls hl => ?_)
                            refine z_iload hC 191 hl dX7_beginnings_191 6 rfl ?_
                            refine z_istore (lv' := [(7, .int (iZ (((md v 0 (r + 1) t : Nat) : Int)))), (6, .int (iZ (rw_ + 1))), (5, .int (iZ (rw_ + 1))), (4, .int (iZ ((uk : Int)))), (3, .int (iZ (ls_))), (2, .int (iZ ((c : Int)))), (10, .int (iZ (0))), (9, .int (iZ (((md v 0 (r + 1) t : Nat) : Int)))), (0, .ref (ad 0)), (1, .int (iZ (q))), (8, .int (iZ ((r : Int))))]) hC 193 hl dX7_beginnings_193 (by decide) rfl (fun ls hl => ?_)
                            refine z_iinc (lv' := [(8, .int (iZ ((r : Int) + 1))), (7, .int (iZ (((md v 0 (r + 1) t : Nat) : Int)))), (6, .int (iZ (rw_ + 1))), (5, .int (iZ (rw_ + 1))), (4, .int (iZ ((uk : Int)))), (3, .int (iZ (ls_))), (2, .int (iZ ((c : Int)))), (10, .int (iZ (0))), (9, .int (iZ (((md v 0 (r + 1) t : Nat) : Int)))), (0, .ref (ad 0)), (1, .int (iZ (q)))]) hC 195 hl dX7_beginnings_195 10 rfl (by omega) (by decide) rfl (fun ls hl => ?_)
                            refine z_goto hC 198 58 dX7_beginnings_198 rfl ?_
                            -- J58.16
                            exact ih58 (r + 1) c uk ls_ (rw_ + 1) (rw_ + 1) ((md v 0 (r + 1) t : Nat) : Int) (va_up mo ((md v 0 (r + 1) t)) ((mo (md v 0 (r + 1) t)) + 1)) gm (k_71 : Int) (cI (1000) o_71 go_71) fo_71 la_71 (cI (k_71) u_71 gu_71) _ _ _ (by omega) (by first | assumption | omega) (by first | exact LG_0 | exact LG_of pCO_71) (by first | assumption | omega) (by first | assumption | omega) (by first | assumption | omega) (by first | exact Or.inl ⟨rfl, rfl, rfl⟩ | exact bg_w (f := (fun r => md v 0 (r + 1) t)) rfl (by omega)) (by first | rfl | exact cB_it ⟨by omega, by omega⟩ ic | exact cB_if (fun q => by have := q.1; have := q.2; omega) ic) (by first | rfl | exact bg_l1 (f := (fun r => md v 0 (r + 1) t)) ⟨by omega, by omega⟩ | (rw [bg_l0 (f := (fun r => md v 0 (r + 1) t)) (fun q => by have := q.1; have := q.2; omega)]; exact il)) (by first | exact (dst_0 _ 0).symm | (rw [dst_succ (f := (fun r => md v 0 (r + 1) t)) (md_lt_1000 _ _ _ _)]; first | (rw [if_pos (by omega)]; omega) | (rw [if_neg (by omega)]; omega))) (by first | rfl | exact bg_m1 ix (by omega) (by omega) | exact bg_m0 ix (by omega)) (by first | (intro x hx; rw [cnt_0 _ (Nat.le_refl _)]) | exact cnt_up imo (md_lt_1000 _ _ _ _) rfl) hH (z_lv (lv_sub hl [9, 10, 6, 5, 4, 3, 2, 1, 0] rfl) (zcons rfl (zcons rfl (zcons rfl (zcons rfl (zcons rfl (zcons (zpeq (by omega)) (zcons (zpeq (by omega)) (zcons rfl (zcons (zpeq (by omega)) rfl))))))))))
                        · -- 162f
                          refine z_iconst hC 165 dX7_beginnings_165 ?_
                          refine z_goto hC 166 173 dX7_beginnings_166 rfl ?_
                          refine z_istore (lv' := [(5, .int (iZ (0))), (4, .int (iZ ((uk : Int)))), (3, .int (iZ (ls_))), (2, .int (iZ ((c : Int)))), (10, .int (iZ (0))), (9, .int (iZ (((md v 0 (r + 1) t : Nat) : Int)))), (0, .ref (ad 0)), (1, .int (iZ (q))), (6, .int (iZ (mx_))), (7, .int (iZ (ws))), (8, .int (iZ ((r : Int))))]) hC 173 hl dX7_beginnings_173 (by decide) rfl (fun ls hl => ?_)
                          refine z_iload hC 175 hl dX7_beginnings_175 0 rfl ?_
                          refine z_iload hC 177 hl dX7_beginnings_177 8 rfl ?_
                          refine z_icmp_le hC 179 187 dX7_beginnings_179 rfl (by omega) (by omega) (fun hb22 => ?_) (fun hb22 => ?_)
                          · -- 179t
                            refine z_iload hC 187 hl dX7_beginnings_187 8 rfl ?_
                            refine z_istore (lv' := [(6, .int (iZ (mx_))), (5, .int (iZ (0))), (4, .int (iZ ((uk : Int)))), (3, .int (iZ (ls_))), (2, .int (iZ ((c : Int)))), (10, .int (iZ (0))), (9, .int (iZ (((md v 0 (r + 1) t : Nat) : Int)))), (0, .ref (ad 0)), (1, .int (iZ (q))), (7, .int (iZ (ws))), (8, .int (iZ ((r : Int))))]) hC 189 hl dX7_beginnings_189 (by decide) rfl (fun ls hl => ?_)
                            refine z_iload hC 191 hl dX7_beginnings_191 6 rfl ?_
                            refine z_istore (lv' := [(7, .int (iZ (((md v 0 (r + 1) t : Nat) : Int)))), (6, .int (iZ (mx_))), (5, .int (iZ (0))), (4, .int (iZ ((uk : Int)))), (3, .int (iZ (ls_))), (2, .int (iZ ((c : Int)))), (10, .int (iZ (0))), (9, .int (iZ (((md v 0 (r + 1) t : Nat) : Int)))), (0, .ref (ad 0)), (1, .int (iZ (q))), (8, .int (iZ ((r : Int))))]) hC 193 hl dX7_beginnings_193 (by decide) rfl (fun ls hl => ?_)
                            refine z_iinc (lv' := [(8, .int (iZ ((r : Int) + 1))), (7, .int (iZ (((md v 0 (r + 1) t : Nat) : Int)))), (6, .int (iZ (mx_))), (5, .int (iZ (0))), (4, .int (iZ ((uk : Int)))), (3, .int (iZ (ls_))), (2, .int (iZ ((c : Int)))), (10, .int (iZ (0))), (9, .int (iZ (((md v 0 (r + 1) t : Nat) : Int)))), (0, .ref (ad 0)), (1, .int (iZ (q)))]) hC 195 hl dX7_beginnings_195 10 rfl (by omega) (by decide) rfl (fun ls hl => ?_)
                            refine z_goto hC 198 58 dX7_beginnings_198 rfl ?_
                            -- J58.17
                            exact ih58 (r + 1) c uk ls_ 0 mx_ ((md v 0 (r + 1) t : Nat) : Int) (va_up mo ((md v 0 (r + 1) t)) ((mo (md v 0 (r + 1) t)) + 1)) gm (k_71 : Int) (cI (1000) o_71 go_71) fo_71 la_71 (cI (k_71) u_71 gu_71) _ _ _ (by omega) (by first | assumption | omega) (by first | exact LG_0 | exact LG_of pCO_71) (by first | assumption | omega) (by first | assumption | omega) (by first | assumption | omega) (by first | exact Or.inl ⟨rfl, rfl, rfl⟩ | exact bg_w (f := (fun r => md v 0 (r + 1) t)) rfl (by omega)) (by first | rfl | exact cB_it ⟨by omega, by omega⟩ ic | exact cB_if (fun q => by have := q.1; have := q.2; omega) ic) (by first | rfl | exact bg_l1 (f := (fun r => md v 0 (r + 1) t)) ⟨by omega, by omega⟩ | (rw [bg_l0 (f := (fun r => md v 0 (r + 1) t)) (fun q => by have := q.1; have := q.2; omega)]; exact il)) (by first | exact (dst_0 _ 0).symm | (rw [dst_succ (f := (fun r => md v 0 (r + 1) t)) (md_lt_1000 _ _ _ _)]; first | (rw [if_pos (by omega)]; omega) | (rw [if_neg (by omega)]; omega))) (by first | rfl | exact bg_m1 ix (by omega) (by omega) | exact bg_m0 ix (by omega)) (by first | (intro x hx; rw [cnt_0 _ (Nat.le_refl _)]) | exact cnt_up imo (md_lt_1000 _ _ _ _) rfl) hH (z_lv (lv_sub hl [9, 10, 6, 5, 4, 3, 2, 1, 0] rfl) (zcons rfl (zcons rfl (zcons rfl (zcons rfl (zcons rfl (zcons rfl (zcons rfl (zcons rfl (zcons (zpeq (by omega)) rfl))))))))))
                          · -- 179f
                            refine z_iload hC 182 hl dX7_beginnings_182 0 rfl ?_
                            refine z_goto hC 184 189 dX7_beginnings_184 rfl ?_
                            refine z_istore (lv' := [(6, .int (iZ (0))), (5, .int (iZ (0))), (4, .int (iZ ((uk : Int)))), (3, .int (iZ (ls_))), (2, .int (iZ ((c : Int)))), (10, .int (iZ (0))), (9, .int (iZ (((md v 0 (r + 1) t : Nat) : Int)))), (0, .ref (ad 0)), (1, .int (iZ (q))), (7, .int (iZ (ws))), (8, .int (iZ ((r : Int))))]) hC 189 hl dX7_beginnings_189 (by decide) rfl (fun ls hl => ?_)
                            refine z_iload hC 191 hl dX7_beginnings_191 6 rfl ?_
                            refine z_istore (lv' := [(7, .int (iZ (((md v 0 (r + 1) t : Nat) : Int)))), (6, .int (iZ (0))), (5, .int (iZ (0))), (4, .int (iZ ((uk : Int)))), (3, .int (iZ (ls_))), (2, .int (iZ ((c : Int)))), (10, .int (iZ (0))), (9, .int (iZ (((md v 0 (r + 1) t : Nat) : Int)))), (0, .ref (ad 0)), (1, .int (iZ (q))), (8, .int (iZ ((r : Int))))]) hC 193 hl dX7_beginnings_193 (by decide) rfl (fun ls hl => ?_)
                            refine z_iinc (lv' := [(8, .int (iZ ((r : Int) + 1))), (7, .int (iZ (((md v 0 (r + 1) t : Nat) : Int)))), (6, .int (iZ (0))), (5, .int (iZ (0))), (4, .int (iZ ((uk : Int)))), (3, .int (iZ (ls_))), (2, .int (iZ ((c : Int)))), (10, .int (iZ (0))), (9, .int (iZ (((md v 0 (r + 1) t : Nat) : Int)))), (0, .ref (ad 0)), (1, .int (iZ (q)))]) hC 195 hl dX7_beginnings_195 10 rfl (by omega) (by decide) rfl (fun ls hl => ?_)
                            refine z_goto hC 198 58 dX7_beginnings_198 rfl ?_
                            -- J58.18
                            exact ih58 (r + 1) c uk ls_ 0 0 ((md v 0 (r + 1) t : Nat) : Int) (va_up mo ((md v 0 (r + 1) t)) ((mo (md v 0 (r + 1) t)) + 1)) gm (k_71 : Int) (cI (1000) o_71 go_71) fo_71 la_71 (cI (k_71) u_71 gu_71) _ _ _ (by omega) (by first | assumption | omega) (by first | exact LG_0 | exact LG_of pCO_71) (by first | assumption | omega) (by first | assumption | omega) (by first | assumption | omega) (by first | exact Or.inl ⟨rfl, rfl, rfl⟩ | exact bg_w (f := (fun r => md v 0 (r + 1) t)) rfl (by omega)) (by first | rfl | exact cB_it ⟨by omega, by omega⟩ ic | exact cB_if (fun q => by have := q.1; have := q.2; omega) ic) (by first | rfl | exact bg_l1 (f := (fun r => md v 0 (r + 1) t)) ⟨by omega, by omega⟩ | (rw [bg_l0 (f := (fun r => md v 0 (r + 1) t)) (fun q => by have := q.1; have := q.2; omega)]; exact il)) (by first | exact (dst_0 _ 0).symm | (rw [dst_succ (f := (fun r => md v 0 (r + 1) t)) (md_lt_1000 _ _ _ _)]; first | (rw [if_pos (by omega)]; omega) | (rw [if_neg (by omega)]; omega))) (by first | rfl | exact bg_m1 ix (by omega) (by omega) | exact bg_m0 ix (by omega)) (by first | (intro x hx; rw [cnt_0 _ (Nat.le_refl _)]) | exact cnt_up imo (md_lt_1000 _ _ _ _) rfl) hH (z_lv (lv_sub hl [9, 10, 6, 5, 4, 3, 2, 1, 0] rfl) (zcons rfl (zcons rfl (zcons rfl (zcons rfl (zcons rfl (zcons rfl (zcons rfl (zcons rfl (zcons (zpeq (by omega)) rfl))))))))))
                      · -- 129f
                        refine z_iconst hC 132 dX7_beginnings_132 ?_
                        refine z_goto hC 133 137 dX7_beginnings_133 rfl ?_
                        refine z_iadd (e := (uk : Int) + 1) hC 137 dX7_beginnings_137 rfl ?_
                        refine z_istore (lv' := [(4, .int (iZ ((uk : Int) + 1))), (3, .int (iZ (ls_))), (2, .int (iZ ((c : Int)))), (10, .int (iZ (0))), (9, .int (iZ (((md v 0 (r + 1) t : Nat) : Int)))), (0, .ref (ad 0)), (1, .int (iZ (q))), (5, .int (iZ (rw_))), (6, .int (iZ (mx_))), (7, .int (iZ (ws))), (8, .int (iZ ((r : Int))))]) hC 138 hl dX7_beginnings_138 (by decide) rfl (fun ls hl => ?_)
                        refine z_aload_n hC 140 hl dX7_beginnings_140 rfl 5 rfl ?_
                        refine gmW_40 hC hH 141 dX7_beginnings_141 ?_
                        refine z_iload hC 144 hl dX7_beginnings_144 4 rfl ?_
                        refine z_dup2 hC 146 dX7_beginnings_146 rfl rfl ?_
                        refine lmW_40 (x := ((mo (md v 0 (r + 1) t) : Nat) : Int)) hC hH 147 ((md v 0 (r + 1) t)) (by omega) (by omega) (cI_lt (by omega)) dX7_beginnings_147 ?_
                        refine z_iconst hC 148 dX7_beginnings_148 ?_
                        refine z_iadd (e := ((mo (md v 0 (r + 1) t) : Nat) : Int) + 1) hC 149 dX7_beginnings_149 rfl ?_
                        refine smW_40 (f' := (cI (1000) (va_up mo ((md v 0 (r + 1) t)) ((mo (md v 0 (r + 1) t)) + 1)) gm)) hC hH 150 ((md v 0 (r + 1) t)) (by omega) (by omega) (by rw [show (((mo (md v 0 (r + 1) t) : Nat) : Int) + 1 : Int) = (((mo (md v 0 (r + 1) t)) + 1 : Nat) : Int) from by omega]; exact cI_up (by omega)) dX7_beginnings_150 (fun H locs hH => ?_)
                        have hH : zH s0 s1 G as0 (mW ad G (va_up (va_up (va_up (va_up F 0 (0)) 5 ((n : Int))) 7 ((t : Int))) 38 ((k_71 : Int))) (va_up (va_up (va_up (va_up (va_up (va_up Ar 3 (cI (n) v gv)) 34 (cI (1000) o_71 go_71)) 35 fo_71) 36 la_71) 37 (cI (k_71) u_71 gu_71)) 40 (cI (1000) (va_up mo ((md v 0 (r + 1) t)) ((mo (md v 0 (r + 1) t)) + 1)) gm))) H locs := hH
                        refine z_iload hC 151 hl dX7_beginnings_151 3 rfl ?_
                        refine z_if_eq_t hC 153 160 dX7_beginnings_153 rfl (by omega) (by omega) ?_
                        refine z_iload hC 160 hl dX7_beginnings_160 10 rfl ?_
                        refine z_if_ne hC 162 169 dX7_beginnings_162 rfl (by omega) (fun hb23 => ?_) (fun hb23 => ?_)
                        · -- 162t
                          refine z_iload hC 169 hl dX7_beginnings_169 7 rfl ?_
                          refine z_iconst hC 171 dX7_beginnings_171 ?_
                          refine z_iadd (e := rw_ + 1) hC 172 dX7_beginnings_172 rfl ?_
                          refine z_istore (lv' := [(5, .int (iZ (rw_ + 1))), (4, .int (iZ ((uk : Int) + 1))), (3, .int (iZ (ls_))), (2, .int (iZ ((c : Int)))), (10, .int (iZ (0))), (9, .int (iZ (((md v 0 (r + 1) t : Nat) : Int)))), (0, .ref (ad 0)), (1, .int (iZ (q))), (6, .int (iZ (mx_))), (7, .int (iZ (ws))), (8, .int (iZ ((r : Int))))]) hC 173 hl dX7_beginnings_173 (by decide) rfl (fun ls hl => ?_)
                          refine z_iload hC 175 hl dX7_beginnings_175 0 rfl ?_
                          refine z_iload hC 177 hl dX7_beginnings_177 8 rfl ?_
                          refine z_icmp_le hC 179 187 dX7_beginnings_179 rfl (by omega) (by omega) (fun hb24 => ?_) (fun hb24 => ?_)
                          · -- 179t
                            refine z_iload hC 187 hl dX7_beginnings_187 8 rfl ?_
                            refine z_istore (lv' := [(6, .int (iZ (mx_))), (5, .int (iZ (rw_ + 1))), (4, .int (iZ ((uk : Int) + 1))), (3, .int (iZ (ls_))), (2, .int (iZ ((c : Int)))), (10, .int (iZ (0))), (9, .int (iZ (((md v 0 (r + 1) t : Nat) : Int)))), (0, .ref (ad 0)), (1, .int (iZ (q))), (7, .int (iZ (ws))), (8, .int (iZ ((r : Int))))]) hC 189 hl dX7_beginnings_189 (by decide) rfl (fun ls hl => ?_)
                            refine z_iload hC 191 hl dX7_beginnings_191 6 rfl ?_
                            refine z_istore (lv' := [(7, .int (iZ (((md v 0 (r + 1) t : Nat) : Int)))), (6, .int (iZ (mx_))), (5, .int (iZ (rw_ + 1))), (4, .int (iZ ((uk : Int) + 1))), (3, .int (iZ (ls_))), (2, .int (iZ ((c : Int)))), (10, .int (iZ (0))), (9, .int (iZ (((md v 0 (r + 1) t : Nat) : Int)))), (0, .ref (ad 0)), (1, .int (iZ (q))), (8, .int (iZ ((r : Int))))]) hC 193 hl dX7_beginnings_193 (by decide) rfl (fun ls hl => ?_)
                            refine z_iinc (lv' := [(8, .int (iZ ((r : Int) + 1))), (7, .int (iZ (((md v 0 (r + 1) t : Nat) : Int)))), (6, .int (iZ (mx_))), (5, .int (iZ (rw_ + 1))), (4, .int (iZ ((uk : Int) + 1))), (3, .int (iZ (ls_))), (2, .int (iZ ((c : Int)))), (10, .int (iZ (0))), (9, .int (iZ (((md v 0 (r + 1) t : Nat) : Int)))), (0, .ref (ad 0)), (1, .int (iZ (q)))]) hC 195 hl dX7_beginnings_195 10 rfl (by omega) (by decide) rfl (fun ls hl => ?_)
                            refine z_goto hC 198 58 dX7_beginnings_198 rfl ?_
                            -- J58.19
                            exact ih58 (r + 1) c (uk + 1) ls_ (rw_ + 1) mx_ ((md v 0 (r + 1) t : Nat) : Int) (va_up mo ((md v 0 (r + 1) t)) ((mo (md v 0 (r + 1) t)) + 1)) gm (k_71 : Int) (cI (1000) o_71 go_71) fo_71 la_71 (cI (k_71) u_71 gu_71) _ _ _ (by omega) (by first | assumption | omega) (by first | exact LG_0 | exact LG_of pCO_71) (by first | assumption | omega) (by first | assumption | omega) (by first | assumption | omega) (by first | exact Or.inl ⟨rfl, rfl, rfl⟩ | exact bg_w (f := (fun r => md v 0 (r + 1) t)) rfl (by omega)) (by first | rfl | exact cB_it ⟨by omega, by omega⟩ ic | exact cB_if (fun q => by have := q.1; have := q.2; omega) ic) (by first | rfl | exact bg_l1 (f := (fun r => md v 0 (r + 1) t)) ⟨by omega, by omega⟩ | (rw [bg_l0 (f := (fun r => md v 0 (r + 1) t)) (fun q => by have := q.1; have := q.2; omega)]; exact il)) (by first | exact (dst_0 _ 0).symm | (rw [dst_succ (f := (fun r => md v 0 (r + 1) t)) (md_lt_1000 _ _ _ _)]; first | (rw [if_pos (by omega)]; omega) | (rw [if_neg (by omega)]; omega))) (by first | rfl | exact bg_m1 ix (by omega) (by omega) | exact bg_m0 ix (by omega)) (by first | (intro x hx; rw [cnt_0 _ (Nat.le_refl _)]) | exact cnt_up imo (md_lt_1000 _ _ _ _) rfl) hH (z_lv (lv_sub hl [9, 10, 6, 5, 4, 3, 2, 1, 0] rfl) (zcons rfl (zcons rfl (zcons rfl (zcons rfl (zcons (zpeq (by omega)) (zcons (zpeq (by omega)) (zcons rfl (zcons rfl (zcons (zpeq (by omega)) rfl))))))))))
                          · -- 179f
                            refine z_iload hC 182 hl dX7_beginnings_182 0 rfl ?_
                            refine z_goto hC 184 189 dX7_beginnings_184 rfl ?_
                            refine z_istore (lv' := [(6, .int (iZ (rw_ + 1))), (5, .int (iZ (rw_ + 1))), (4, .int (iZ ((uk : Int) + 1))), (3, .int (iZ (ls_))), (2, .int (iZ ((c : Int)))), (10, .int (iZ (0))), (9, .int (iZ (((md v 0 (r + 1) t : Nat) : Int)))), (0, .ref (ad 0)), (1, .int (iZ (q))), (7, .int (iZ (ws))), (8, .int (iZ ((r : Int))))]) hC 189 hl dX7_beginnings_189 (by decide) rfl (fun ls hl => ?_)
                            refine z_iload hC 191 hl dX7_beginnings_191 6 rfl ?_
                            refine z_istore (lv' := [(7, .int (iZ (((md v 0 (r + 1) t : Nat) : Int)))), (6, .int (iZ (rw_ + 1))), (5, .int (iZ (rw_ + 1))), (4, .int (iZ ((uk : Int) + 1))), (3, .int (iZ (ls_))), (2, .int (iZ ((c : Int)))), (10, .int (iZ (0))), (9, .int (iZ (((md v 0 (r + 1) t : Nat) : Int)))), (0, .ref (ad 0)), (1, .int (iZ (q))), (8, .int (iZ ((r : Int))))]) hC 193 hl dX7_beginnings_193 (by decide) rfl (fun ls hl => ?_)
                            refine z_iinc (lv' := [(8, .int (iZ ((r : Int) + 1))), (7, .int (iZ (((md v 0 (r + 1) t : Nat) : Int)))), (6, .int (iZ (rw_ + 1))), (5, .int (iZ (rw_ + 1))), (4, .int (iZ ((uk : Int) + 1))), (3, .int (iZ (ls_))), (2, .int (iZ ((c : Int)))), (10, .int (iZ (0))), (9, .int (iZ (((md v 0 (r + 1) t : Nat) : Int)))), (0, .ref (ad 0)), (1, .int (iZ (q)))]) hC 195 hl dX7_beginnings_195 10 rfl (by omega) (by decide) rfl (fun ls hl => ?_)
                            refine z_goto hC 198 58 dX7_beginnings_198 rfl ?_
                            -- J58.20
                            exact ih58 (r + 1) c (uk + 1) ls_ (rw_ + 1) (rw_ + 1) ((md v 0 (r + 1) t : Nat) : Int) (va_up mo ((md v 0 (r + 1) t)) ((mo (md v 0 (r + 1) t)) + 1)) gm (k_71 : Int) (cI (1000) o_71 go_71) fo_71 la_71 (cI (k_71) u_71 gu_71) _ _ _ (by omega) (by first | assumption | omega) (by first | exact LG_0 | exact LG_of pCO_71) (by first | assumption | omega) (by first | assumption | omega) (by first | assumption | omega) (by first | exact Or.inl ⟨rfl, rfl, rfl⟩ | exact bg_w (f := (fun r => md v 0 (r + 1) t)) rfl (by omega)) (by first | rfl | exact cB_it ⟨by omega, by omega⟩ ic | exact cB_if (fun q => by have := q.1; have := q.2; omega) ic) (by first | rfl | exact bg_l1 (f := (fun r => md v 0 (r + 1) t)) ⟨by omega, by omega⟩ | (rw [bg_l0 (f := (fun r => md v 0 (r + 1) t)) (fun q => by have := q.1; have := q.2; omega)]; exact il)) (by first | exact (dst_0 _ 0).symm | (rw [dst_succ (f := (fun r => md v 0 (r + 1) t)) (md_lt_1000 _ _ _ _)]; first | (rw [if_pos (by omega)]; omega) | (rw [if_neg (by omega)]; omega))) (by first | rfl | exact bg_m1 ix (by omega) (by omega) | exact bg_m0 ix (by omega)) (by first | (intro x hx; rw [cnt_0 _ (Nat.le_refl _)]) | exact cnt_up imo (md_lt_1000 _ _ _ _) rfl) hH (z_lv (lv_sub hl [9, 10, 6, 5, 4, 3, 2, 1, 0] rfl) (zcons rfl (zcons rfl (zcons rfl (zcons rfl (zcons (zpeq (by omega)) (zcons (zpeq (by omega)) (zcons (zpeq (by omega)) (zcons rfl (zcons (zpeq (by omega)) rfl))))))))))
                        · -- 162f
                          refine z_iconst hC 165 dX7_beginnings_165 ?_
                          refine z_goto hC 166 173 dX7_beginnings_166 rfl ?_
                          refine z_istore (lv' := [(5, .int (iZ (0))), (4, .int (iZ ((uk : Int) + 1))), (3, .int (iZ (ls_))), (2, .int (iZ ((c : Int)))), (10, .int (iZ (0))), (9, .int (iZ (((md v 0 (r + 1) t : Nat) : Int)))), (0, .ref (ad 0)), (1, .int (iZ (q))), (6, .int (iZ (mx_))), (7, .int (iZ (ws))), (8, .int (iZ ((r : Int))))]) hC 173 hl dX7_beginnings_173 (by decide) rfl (fun ls hl => ?_)
                          refine z_iload hC 175 hl dX7_beginnings_175 0 rfl ?_
                          refine z_iload hC 177 hl dX7_beginnings_177 8 rfl ?_
                          refine z_icmp_le hC 179 187 dX7_beginnings_179 rfl (by omega) (by omega) (fun hb25 => ?_) (fun hb25 => ?_)
                          · -- 179t
                            refine z_iload hC 187 hl dX7_beginnings_187 8 rfl ?_
                            refine z_istore (lv' := [(6, .int (iZ (mx_))), (5, .int (iZ (0))), (4, .int (iZ ((uk : Int) + 1))), (3, .int (iZ (ls_))), (2, .int (iZ ((c : Int)))), (10, .int (iZ (0))), (9, .int (iZ (((md v 0 (r + 1) t : Nat) : Int)))), (0, .ref (ad 0)), (1, .int (iZ (q))), (7, .int (iZ (ws))), (8, .int (iZ ((r : Int))))]) hC 189 hl dX7_beginnings_189 (by decide) rfl (fun ls hl => ?_)
                            refine z_iload hC 191 hl dX7_beginnings_191 6 rfl ?_
                            refine z_istore (lv' := [(7, .int (iZ (((md v 0 (r + 1) t : Nat) : Int)))), (6, .int (iZ (mx_))), (5, .int (iZ (0))), (4, .int (iZ ((uk : Int) + 1))), (3, .int (iZ (ls_))), (2, .int (iZ ((c : Int)))), (10, .int (iZ (0))), (9, .int (iZ (((md v 0 (r + 1) t : Nat) : Int)))), (0, .ref (ad 0)), (1, .int (iZ (q))), (8, .int (iZ ((r : Int))))]) hC 193 hl dX7_beginnings_193 (by decide) rfl (fun ls hl => ?_)
                            refine z_iinc (lv' := [(8, .int (iZ ((r : Int) + 1))), (7, .int (iZ (((md v 0 (r + 1) t : Nat) : Int)))), (6, .int (iZ (mx_))), (5, .int (iZ (0))), (4, .int (iZ ((uk : Int) + 1))), (3, .int (iZ (ls_))), (2, .int (iZ ((c : Int)))), (10, .int (iZ (0))), (9, .int (iZ (((md v 0 (r + 1) t : Nat) : Int)))), (0, .ref (ad 0)), (1, .int (iZ (q)))]) hC 195 hl dX7_beginnings_195 10 rfl (by omega) (by decide) rfl (fun ls hl => ?_)
                            refine z_goto hC 198 58 dX7_beginnings_198 rfl ?_
                            -- J58.21
                            exact ih58 (r + 1) c (uk + 1) ls_ 0 mx_ ((md v 0 (r + 1) t : Nat) : Int) (va_up mo ((md v 0 (r + 1) t)) ((mo (md v 0 (r + 1) t)) + 1)) gm (k_71 : Int) (cI (1000) o_71 go_71) fo_71 la_71 (cI (k_71) u_71 gu_71) _ _ _ (by omega) (by first | assumption | omega) (by first | exact LG_0 | exact LG_of pCO_71) (by first | assumption | omega) (by first | assumption | omega) (by first | assumption | omega) (by first | exact Or.inl ⟨rfl, rfl, rfl⟩ | exact bg_w (f := (fun r => md v 0 (r + 1) t)) rfl (by omega)) (by first | rfl | exact cB_it ⟨by omega, by omega⟩ ic | exact cB_if (fun q => by have := q.1; have := q.2; omega) ic) (by first | rfl | exact bg_l1 (f := (fun r => md v 0 (r + 1) t)) ⟨by omega, by omega⟩ | (rw [bg_l0 (f := (fun r => md v 0 (r + 1) t)) (fun q => by have := q.1; have := q.2; omega)]; exact il)) (by first | exact (dst_0 _ 0).symm | (rw [dst_succ (f := (fun r => md v 0 (r + 1) t)) (md_lt_1000 _ _ _ _)]; first | (rw [if_pos (by omega)]; omega) | (rw [if_neg (by omega)]; omega))) (by first | rfl | exact bg_m1 ix (by omega) (by omega) | exact bg_m0 ix (by omega)) (by first | (intro x hx; rw [cnt_0 _ (Nat.le_refl _)]) | exact cnt_up imo (md_lt_1000 _ _ _ _) rfl) hH (z_lv (lv_sub hl [9, 10, 6, 5, 4, 3, 2, 1, 0] rfl) (zcons rfl (zcons rfl (zcons rfl (zcons rfl (zcons (zpeq (by omega)) (zcons rfl (zcons rfl (zcons rfl (zcons (zpeq (by omega)) rfl))))))))))
                          · -- 179f
                            refine z_iload hC 182 hl dX7_beginnings_182 0 rfl ?_
                            refine z_goto hC 184 189 dX7_beginnings_184 rfl ?_
                            refine z_istore (lv' := [(6, .int (iZ (0))), (5, .int (iZ (0))), (4, .int (iZ ((uk : Int) + 1))), (3, .int (iZ (ls_))), (2, .int (iZ ((c : Int)))), (10, .int (iZ (0))), (9, .int (iZ (((md v 0 (r + 1) t : Nat) : Int)))), (0, .ref (ad 0)), (1, .int (iZ (q))), (7, .int (iZ (ws))), (8, .int (iZ ((r : Int))))]) hC 189 hl dX7_beginnings_189 (by decide) rfl (fun ls hl => ?_)
                            refine z_iload hC 191 hl dX7_beginnings_191 6 rfl ?_
                            refine z_istore (lv' := [(7, .int (iZ (((md v 0 (r + 1) t : Nat) : Int)))), (6, .int (iZ (0))), (5, .int (iZ (0))), (4, .int (iZ ((uk : Int) + 1))), (3, .int (iZ (ls_))), (2, .int (iZ ((c : Int)))), (10, .int (iZ (0))), (9, .int (iZ (((md v 0 (r + 1) t : Nat) : Int)))), (0, .ref (ad 0)), (1, .int (iZ (q))), (8, .int (iZ ((r : Int))))]) hC 193 hl dX7_beginnings_193 (by decide) rfl (fun ls hl => ?_)
                            refine z_iinc (lv' := [(8, .int (iZ ((r : Int) + 1))), (7, .int (iZ (((md v 0 (r + 1) t : Nat) : Int)))), (6, .int (iZ (0))), (5, .int (iZ (0))), (4, .int (iZ ((uk : Int) + 1))), (3, .int (iZ (ls_))), (2, .int (iZ ((c : Int)))), (10, .int (iZ (0))), (9, .int (iZ (((md v 0 (r + 1) t : Nat) : Int)))), (0, .ref (ad 0)), (1, .int (iZ (q)))]) hC 195 hl dX7_beginnings_195 10 rfl (by omega) (by decide) rfl (fun ls hl => ?_)
                            refine z_goto hC 198 58 dX7_beginnings_198 rfl ?_
                            -- J58.22
                            exact ih58 (r + 1) c (uk + 1) ls_ 0 0 ((md v 0 (r + 1) t : Nat) : Int) (va_up mo ((md v 0 (r + 1) t)) ((mo (md v 0 (r + 1) t)) + 1)) gm (k_71 : Int) (cI (1000) o_71 go_71) fo_71 la_71 (cI (k_71) u_71 gu_71) _ _ _ (by omega) (by first | assumption | omega) (by first | exact LG_0 | exact LG_of pCO_71) (by first | assumption | omega) (by first | assumption | omega) (by first | assumption | omega) (by first | exact Or.inl ⟨rfl, rfl, rfl⟩ | exact bg_w (f := (fun r => md v 0 (r + 1) t)) rfl (by omega)) (by first | rfl | exact cB_it ⟨by omega, by omega⟩ ic | exact cB_if (fun q => by have := q.1; have := q.2; omega) ic) (by first | rfl | exact bg_l1 (f := (fun r => md v 0 (r + 1) t)) ⟨by omega, by omega⟩ | (rw [bg_l0 (f := (fun r => md v 0 (r + 1) t)) (fun q => by have := q.1; have := q.2; omega)]; exact il)) (by first | exact (dst_0 _ 0).symm | (rw [dst_succ (f := (fun r => md v 0 (r + 1) t)) (md_lt_1000 _ _ _ _)]; first | (rw [if_pos (by omega)]; omega) | (rw [if_neg (by omega)]; omega))) (by first | rfl | exact bg_m1 ix (by omega) (by omega) | exact bg_m0 ix (by omega)) (by first | (intro x hx; rw [cnt_0 _ (Nat.le_refl _)]) | exact cnt_up imo (md_lt_1000 _ _ _ _) rfl) hH (z_lv (lv_sub hl [9, 10, 6, 5, 4, 3, 2, 1, 0] rfl) (zcons rfl (zcons rfl (zcons rfl (zcons rfl (zcons (zpeq (by omega)) (zcons rfl (zcons rfl (zcons rfl (zcons (zpeq (by omega)) rfl))))))))))
                    · -- 85f
                      refine z_iconst hC 88 dX7_beginnings_88 ?_
                      refine z_goto hC 89 93 dX7_beginnings_89 rfl ?_
                      refine z_istore (lv' := [(10, .int (iZ (1))), (9, .int (iZ (((md v 0 (r + 1) t : Nat) : Int)))), (0, .ref (ad 0)), (1, .int (iZ (q))), (2, .int (iZ ((c : Int)))), (3, .int (iZ (ls_))), (4, .int (iZ ((uk : Int)))), (5, .int (iZ (rw_))), (6, .int (iZ (mx_))), (7, .int (iZ (ws))), (8, .int (iZ ((r : Int))))]) hC 93 hl dX7_beginnings_93 (by decide) rfl (fun ls hl => ?_)
                      refine z_iload_n hC 95 hl dX7_beginnings_95 rfl 4 rfl ?_
                      refine z_iload hC 96 hl dX7_beginnings_96 0 rfl ?_
                      refine z_if_eq_f hC 98 105 dX7_beginnings_98 rfl (by omega) (by omega) ?_
                      refine z_iconst hC 101 dX7_beginnings_101 ?_
                      refine z_goto hC 102 106 dX7_beginnings_102 rfl ?_
                      refine z_iadd (e := (c : Int) + 1) hC 106 dX7_beginnings_106 rfl ?_
                      refine z_istore_n (lv' := [(2, .int (iZ ((c : Int) + 1))), (10, .int (iZ (1))), (9, .int (iZ (((md v 0 (r + 1) t : Nat) : Int)))), (0, .ref (ad 0)), (1, .int (iZ (q))), (3, .int (iZ (ls_))), (4, .int (iZ ((uk : Int)))), (5, .int (iZ (rw_))), (6, .int (iZ (mx_))), (7, .int (iZ (ws))), (8, .int (iZ ((r : Int))))]) hC 107 hl dX7_beginnings_107 rfl (by decide) rfl (fun ls hl => ?_)
                      refine z_iload hC 108 hl dX7_beginnings_108 1 rfl ?_
                      refine z_if_eq_f hC 110 118 dX7_beginnings_110 rfl (by omega) (by omega) ?_
                      refine z_iload hC 113 hl dX7_beginnings_113 10 rfl ?_
                      refine z_goto hC 115 119 dX7_beginnings_115 rfl ?_
                      refine z_istore_n (lv' := [(3, .int (iZ ((r : Int)))), (2, .int (iZ ((c : Int) + 1))), (10, .int (iZ (1))), (9, .int (iZ (((md v 0 (r + 1) t : Nat) : Int)))), (0, .ref (ad 0)), (1, .int (iZ (q))), (4, .int (iZ ((uk : Int)))), (5, .int (iZ (rw_))), (6, .int (iZ (mx_))), (7, .int (iZ (ws))), (8, .int (iZ ((r : Int))))]) hC 119 hl dX7_beginnings_119 rfl (by decide) rfl (fun ls hl => ?_)
                      refine z_iload hC 120 hl dX7_beginnings_120 6 rfl ?_
                      refine z_aload_n hC 122 hl dX7_beginnings_122 rfl 4 rfl ?_
                      refine gmW_40 hC hH 123 dX7_beginnings_123 ?_
                      refine z_iload hC 126 hl dX7_beginnings_126 3 rfl ?_
                      refine lmW_40 (x := ((mo (md v 0 (r + 1) t) : Nat) : Int)) hC hH 128 ((md v 0 (r + 1) t)) (by omega) (by omega) (cI_lt (by omega)) dX7_beginnings_128 ?_
                      refine z_if_ne hC 129 136 dX7_beginnings_129 rfl (by omega) (fun hb26 => ?_) (fun hb26 => ?_)
                      · -- 129t
                        refine z_iconst hC 136 dX7_beginnings_136 ?_
                        refine z_iadd (e := (uk : Int)) hC 137 dX7_beginnings_137 (by omega) ?_
                        refine z_istore (lv' := [(4, .int (iZ ((uk : Int)))), (3, .int (iZ ((r : Int)))), (2, .int (iZ ((c : Int) + 1))), (10, .int (iZ (1))), (9, .int (iZ (((md v 0 (r + 1) t : Nat) : Int)))), (0, .ref (ad 0)), (1, .int (iZ (q))), (5, .int (iZ (rw_))), (6, .int (iZ (mx_))), (7, .int (iZ (ws))), (8, .int (iZ ((r : Int))))]) hC 138 hl dX7_beginnings_138 (by decide) rfl (fun ls hl => ?_)
                        refine z_aload_n hC 140 hl dX7_beginnings_140 rfl 5 rfl ?_
                        refine gmW_40 hC hH 141 dX7_beginnings_141 ?_
                        refine z_iload hC 144 hl dX7_beginnings_144 4 rfl ?_
                        refine z_dup2 hC 146 dX7_beginnings_146 rfl rfl ?_
                        refine lmW_40 (x := ((mo (md v 0 (r + 1) t) : Nat) : Int)) hC hH 147 ((md v 0 (r + 1) t)) (by omega) (by omega) (cI_lt (by omega)) dX7_beginnings_147 ?_
                        refine z_iconst hC 148 dX7_beginnings_148 ?_
                        refine z_iadd (e := ((mo (md v 0 (r + 1) t) : Nat) : Int) + 1) hC 149 dX7_beginnings_149 rfl ?_
                        refine smW_40 (f' := (cI (1000) (va_up mo ((md v 0 (r + 1) t)) ((mo (md v 0 (r + 1) t)) + 1)) gm)) hC hH 150 ((md v 0 (r + 1) t)) (by omega) (by omega) (by rw [show (((mo (md v 0 (r + 1) t) : Nat) : Int) + 1 : Int) = (((mo (md v 0 (r + 1) t)) + 1 : Nat) : Int) from by omega]; exact cI_up (by omega)) dX7_beginnings_150 (fun H locs hH => ?_)
                        have hH : zH s0 s1 G as0 (mW ad G (va_up (va_up (va_up (va_up F 0 (0)) 5 ((n : Int))) 7 ((t : Int))) 38 ((k_71 : Int))) (va_up (va_up (va_up (va_up (va_up (va_up Ar 3 (cI (n) v gv)) 34 (cI (1000) o_71 go_71)) 35 fo_71) 36 la_71) 37 (cI (k_71) u_71 gu_71)) 40 (cI (1000) (va_up mo ((md v 0 (r + 1) t)) ((mo (md v 0 (r + 1) t)) + 1)) gm))) H locs := hH
                        refine z_iload hC 151 hl dX7_beginnings_151 3 rfl ?_
                        refine z_if_eq_f hC 153 160 dX7_beginnings_153 rfl (by omega) (by omega) ?_
                        refine z_iconst hC 156 dX7_beginnings_156 ?_
                        refine z_goto hC 157 173 dX7_beginnings_157 rfl ?_
                        refine z_istore (lv' := [(5, .int (iZ (0))), (4, .int (iZ ((uk : Int)))), (3, .int (iZ ((r : Int)))), (2, .int (iZ ((c : Int) + 1))), (10, .int (iZ (1))), (9, .int (iZ (((md v 0 (r + 1) t : Nat) : Int)))), (0, .ref (ad 0)), (1, .int (iZ (q))), (6, .int (iZ (mx_))), (7, .int (iZ (ws))), (8, .int (iZ ((r : Int))))]) hC 173 hl dX7_beginnings_173 (by decide) rfl (fun ls hl => ?_)
                        refine z_iload hC 175 hl dX7_beginnings_175 0 rfl ?_
                        refine z_iload hC 177 hl dX7_beginnings_177 8 rfl ?_
                        refine z_icmp_le hC 179 187 dX7_beginnings_179 rfl (by omega) (by omega) (fun hb27 => ?_) (fun hb27 => ?_)
                        · -- 179t
                          refine z_iload hC 187 hl dX7_beginnings_187 8 rfl ?_
                          refine z_istore (lv' := [(6, .int (iZ (mx_))), (5, .int (iZ (0))), (4, .int (iZ ((uk : Int)))), (3, .int (iZ ((r : Int)))), (2, .int (iZ ((c : Int) + 1))), (10, .int (iZ (1))), (9, .int (iZ (((md v 0 (r + 1) t : Nat) : Int)))), (0, .ref (ad 0)), (1, .int (iZ (q))), (7, .int (iZ (ws))), (8, .int (iZ ((r : Int))))]) hC 189 hl dX7_beginnings_189 (by decide) rfl (fun ls hl => ?_)
                          refine z_iload hC 191 hl dX7_beginnings_191 6 rfl ?_
                          refine z_istore (lv' := [(7, .int (iZ (((md v 0 (r + 1) t : Nat) : Int)))), (6, .int (iZ (mx_))), (5, .int (iZ (0))), (4, .int (iZ ((uk : Int)))), (3, .int (iZ ((r : Int)))), (2, .int (iZ ((c : Int) + 1))), (10, .int (iZ (1))), (9, .int (iZ (((md v 0 (r + 1) t : Nat) : Int)))), (0, .ref (ad 0)), (1, .int (iZ (q))), (8, .int (iZ ((r : Int))))]) hC 193 hl dX7_beginnings_193 (by decide) rfl (fun ls hl => ?_)
                          refine z_iinc (lv' := [(8, .int (iZ ((r : Int) + 1))), (7, .int (iZ (((md v 0 (r + 1) t : Nat) : Int)))), (6, .int (iZ (mx_))), (5, .int (iZ (0))), (4, .int (iZ ((uk : Int)))), (3, .int (iZ ((r : Int)))), (2, .int (iZ ((c : Int) + 1))), (10, .int (iZ (1))), (9, .int (iZ (((md v 0 (r + 1) t : Nat) : Int)))), (0, .ref (ad 0)), (1, .int (iZ (q)))]) hC 195 hl dX7_beginnings_195 10 rfl (by omega) (by decide) rfl (fun ls hl => ?_)
                          refine z_goto hC 198 58 dX7_beginnings_198 rfl ?_
                          -- J58.23
                          exact ih58 (r + 1) (c + 1) uk (r : Int) 0 mx_ ((md v 0 (r + 1) t : Nat) : Int) (va_up mo ((md v 0 (r + 1) t)) ((mo (md v 0 (r + 1) t)) + 1)) gm (k_71 : Int) (cI (1000) o_71 go_71) fo_71 la_71 (cI (k_71) u_71 gu_71) _ _ _ (by omega) (by first | assumption | omega) (by first | exact LG_0 | exact LG_of pCO_71) (by first | assumption | omega) (by first | assumption | omega) (by first | assumption | omega) (by first | exact Or.inl ⟨rfl, rfl, rfl⟩ | exact bg_w (f := (fun r => md v 0 (r + 1) t)) rfl (by omega)) (by first | rfl | exact cB_it ⟨by omega, by omega⟩ ic | exact cB_if (fun q => by have := q.1; have := q.2; omega) ic) (by first | rfl | exact bg_l1 (f := (fun r => md v 0 (r + 1) t)) ⟨by omega, by omega⟩ | (rw [bg_l0 (f := (fun r => md v 0 (r + 1) t)) (fun q => by have := q.1; have := q.2; omega)]; exact il)) (by first | exact (dst_0 _ 0).symm | (rw [dst_succ (f := (fun r => md v 0 (r + 1) t)) (md_lt_1000 _ _ _ _)]; first | (rw [if_pos (by omega)]; omega) | (rw [if_neg (by omega)]; omega))) (by first | rfl | exact bg_m1 ix (by omega) (by omega) | exact bg_m0 ix (by omega)) (by first | (intro x hx; rw [cnt_0 _ (Nat.le_refl _)]) | exact cnt_up imo (md_lt_1000 _ _ _ _) rfl) hH (z_lv (lv_sub hl [9, 10, 6, 5, 4, 3, 2, 1, 0] rfl) (zcons rfl (zcons rfl (zcons (zpeq (by omega)) (zcons rfl (zcons rfl (zcons rfl (zcons rfl (zcons rfl (zcons (zpeq (by omega)) rfl))))))))))
                        · -- 179f
                          refine z_iload hC 182 hl dX7_beginnings_182 0 rfl ?_
                          refine z_goto hC 184 189 dX7_beginnings_184 rfl ?_
                          refine z_istore (lv' := [(6, .int (iZ (0))), (5, .int (iZ (0))), (4, .int (iZ ((uk : Int)))), (3, .int (iZ ((r : Int)))), (2, .int (iZ ((c : Int) + 1))), (10, .int (iZ (1))), (9, .int (iZ (((md v 0 (r + 1) t : Nat) : Int)))), (0, .ref (ad 0)), (1, .int (iZ (q))), (7, .int (iZ (ws))), (8, .int (iZ ((r : Int))))]) hC 189 hl dX7_beginnings_189 (by decide) rfl (fun ls hl => ?_)
                          refine z_iload hC 191 hl dX7_beginnings_191 6 rfl ?_
                          refine z_istore (lv' := [(7, .int (iZ (((md v 0 (r + 1) t : Nat) : Int)))), (6, .int (iZ (0))), (5, .int (iZ (0))), (4, .int (iZ ((uk : Int)))), (3, .int (iZ ((r : Int)))), (2, .int (iZ ((c : Int) + 1))), (10, .int (iZ (1))), (9, .int (iZ (((md v 0 (r + 1) t : Nat) : Int)))), (0, .ref (ad 0)), (1, .int (iZ (q))), (8, .int (iZ ((r : Int))))]) hC 193 hl dX7_beginnings_193 (by decide) rfl (fun ls hl => ?_)
                          refine z_iinc (lv' := [(8, .int (iZ ((r : Int) + 1))), (7, .int (iZ (((md v 0 (r + 1) t : Nat) : Int)))), (6, .int (iZ (0))), (5, .int (iZ (0))), (4, .int (iZ ((uk : Int)))), (3, .int (iZ ((r : Int)))), (2, .int (iZ ((c : Int) + 1))), (10, .int (iZ (1))), (9, .int (iZ (((md v 0 (r + 1) t : Nat) : Int)))), (0, .ref (ad 0)), (1, .int (iZ (q)))]) hC 195 hl dX7_beginnings_195 10 rfl (by omega) (by decide) rfl (fun ls hl => ?_)
                          refine z_goto hC 198 58 dX7_beginnings_198 rfl ?_
                          -- J58.24
                          exact ih58 (r + 1) (c + 1) uk (r : Int) 0 0 ((md v 0 (r + 1) t : Nat) : Int) (va_up mo ((md v 0 (r + 1) t)) ((mo (md v 0 (r + 1) t)) + 1)) gm (k_71 : Int) (cI (1000) o_71 go_71) fo_71 la_71 (cI (k_71) u_71 gu_71) _ _ _ (by omega) (by first | assumption | omega) (by first | exact LG_0 | exact LG_of pCO_71) (by first | assumption | omega) (by first | assumption | omega) (by first | assumption | omega) (by first | exact Or.inl ⟨rfl, rfl, rfl⟩ | exact bg_w (f := (fun r => md v 0 (r + 1) t)) rfl (by omega)) (by first | rfl | exact cB_it ⟨by omega, by omega⟩ ic | exact cB_if (fun q => by have := q.1; have := q.2; omega) ic) (by first | rfl | exact bg_l1 (f := (fun r => md v 0 (r + 1) t)) ⟨by omega, by omega⟩ | (rw [bg_l0 (f := (fun r => md v 0 (r + 1) t)) (fun q => by have := q.1; have := q.2; omega)]; exact il)) (by first | exact (dst_0 _ 0).symm | (rw [dst_succ (f := (fun r => md v 0 (r + 1) t)) (md_lt_1000 _ _ _ _)]; first | (rw [if_pos (by omega)]; omega) | (rw [if_neg (by omega)]; omega))) (by first | rfl | exact bg_m1 ix (by omega) (by omega) | exact bg_m0 ix (by omega)) (by first | (intro x hx; rw [cnt_0 _ (Nat.le_refl _)]) | exact cnt_up imo (md_lt_1000 _ _ _ _) rfl) hH (z_lv (lv_sub hl [9, 10, 6, 5, 4, 3, 2, 1, 0] rfl) (zcons rfl (zcons rfl (zcons (zpeq (by omega)) (zcons rfl (zcons rfl (zcons rfl (zcons rfl (zcons rfl (zcons (zpeq (by omega)) rfl))))))))))
                      · -- 129f
                        refine z_iconst hC 132 dX7_beginnings_132 ?_
                        refine z_goto hC 133 137 dX7_beginnings_133 rfl ?_
                        refine z_iadd (e := (uk : Int) + 1) hC 137 dX7_beginnings_137 rfl ?_
                        refine z_istore (lv' := [(4, .int (iZ ((uk : Int) + 1))), (3, .int (iZ ((r : Int)))), (2, .int (iZ ((c : Int) + 1))), (10, .int (iZ (1))), (9, .int (iZ (((md v 0 (r + 1) t : Nat) : Int)))), (0, .ref (ad 0)), (1, .int (iZ (q))), (5, .int (iZ (rw_))), (6, .int (iZ (mx_))), (7, .int (iZ (ws))), (8, .int (iZ ((r : Int))))]) hC 138 hl dX7_beginnings_138 (by decide) rfl (fun ls hl => ?_)
                        refine z_aload_n hC 140 hl dX7_beginnings_140 rfl 5 rfl ?_
                        refine gmW_40 hC hH 141 dX7_beginnings_141 ?_
                        refine z_iload hC 144 hl dX7_beginnings_144 4 rfl ?_
                        refine z_dup2 hC 146 dX7_beginnings_146 rfl rfl ?_
                        refine lmW_40 (x := ((mo (md v 0 (r + 1) t) : Nat) : Int)) hC hH 147 ((md v 0 (r + 1) t)) (by omega) (by omega) (cI_lt (by omega)) dX7_beginnings_147 ?_
                        refine z_iconst hC 148 dX7_beginnings_148 ?_
                        refine z_iadd (e := ((mo (md v 0 (r + 1) t) : Nat) : Int) + 1) hC 149 dX7_beginnings_149 rfl ?_
                        refine smW_40 (f' := (cI (1000) (va_up mo ((md v 0 (r + 1) t)) ((mo (md v 0 (r + 1) t)) + 1)) gm)) hC hH 150 ((md v 0 (r + 1) t)) (by omega) (by omega) (by rw [show (((mo (md v 0 (r + 1) t) : Nat) : Int) + 1 : Int) = (((mo (md v 0 (r + 1) t)) + 1 : Nat) : Int) from by omega]; exact cI_up (by omega)) dX7_beginnings_150 (fun H locs hH => ?_)
                        have hH : zH s0 s1 G as0 (mW ad G (va_up (va_up (va_up (va_up F 0 (0)) 5 ((n : Int))) 7 ((t : Int))) 38 ((k_71 : Int))) (va_up (va_up (va_up (va_up (va_up (va_up Ar 3 (cI (n) v gv)) 34 (cI (1000) o_71 go_71)) 35 fo_71) 36 la_71) 37 (cI (k_71) u_71 gu_71)) 40 (cI (1000) (va_up mo ((md v 0 (r + 1) t)) ((mo (md v 0 (r + 1) t)) + 1)) gm))) H locs := hH
                        refine z_iload hC 151 hl dX7_beginnings_151 3 rfl ?_
                        refine z_if_eq_f hC 153 160 dX7_beginnings_153 rfl (by omega) (by omega) ?_
                        refine z_iconst hC 156 dX7_beginnings_156 ?_
                        refine z_goto hC 157 173 dX7_beginnings_157 rfl ?_
                        refine z_istore (lv' := [(5, .int (iZ (0))), (4, .int (iZ ((uk : Int) + 1))), (3, .int (iZ ((r : Int)))), (2, .int (iZ ((c : Int) + 1))), (10, .int (iZ (1))), (9, .int (iZ (((md v 0 (r + 1) t : Nat) : Int)))), (0, .ref (ad 0)), (1, .int (iZ (q))), (6, .int (iZ (mx_))), (7, .int (iZ (ws))), (8, .int (iZ ((r : Int))))]) hC 173 hl dX7_beginnings_173 (by decide) rfl (fun ls hl => ?_)
                        refine z_iload hC 175 hl dX7_beginnings_175 0 rfl ?_
                        refine z_iload hC 177 hl dX7_beginnings_177 8 rfl ?_
                        refine z_icmp_le hC 179 187 dX7_beginnings_179 rfl (by omega) (by omega) (fun hb28 => ?_) (fun hb28 => ?_)
                        · -- 179t
                          refine z_iload hC 187 hl dX7_beginnings_187 8 rfl ?_
                          refine z_istore (lv' := [(6, .int (iZ (mx_))), (5, .int (iZ (0))), (4, .int (iZ ((uk : Int) + 1))), (3, .int (iZ ((r : Int)))), (2, .int (iZ ((c : Int) + 1))), (10, .int (iZ (1))), (9, .int (iZ (((md v 0 (r + 1) t : Nat) : Int)))), (0, .ref (ad 0)), (1, .int (iZ (q))), (7, .int (iZ (ws))), (8, .int (iZ ((r : Int))))]) hC 189 hl dX7_beginnings_189 (by decide) rfl (fun ls hl => ?_)
                          refine z_iload hC 191 hl dX7_beginnings_191 6 rfl ?_
                          refine z_istore (lv' := [(7, .int (iZ (((md v 0 (r + 1) t : Nat) : Int)))), (6, .int (iZ (mx_))), (5, .int (iZ (0))), (4, .int (iZ ((uk : Int) + 1))), (3, .int (iZ ((r : Int)))), (2, .int (iZ ((c : Int) + 1))), (10, .int (iZ (1))), (9, .int (iZ (((md v 0 (r + 1) t : Nat) : Int)))), (0, .ref (ad 0)), (1, .int (iZ (q))), (8, .int (iZ ((r : Int))))]) hC 193 hl dX7_beginnings_193 (by decide) rfl (fun ls hl => ?_)
                          refine z_iinc (lv' := [(8, .int (iZ ((r : Int) + 1))), (7, .int (iZ (((md v 0 (r + 1) t : Nat) : Int)))), (6, .int (iZ (mx_))), (5, .int (iZ (0))), (4, .int (iZ ((uk : Int) + 1))), (3, .int (iZ ((r : Int)))), (2, .int (iZ ((c : Int) + 1))), (10, .int (iZ (1))), (9, .int (iZ (((md v 0 (r + 1) t : Nat) : Int)))), (0, .ref (ad 0)), (1, .int (iZ (q)))]) hC 195 hl dX7_beginnings_195 10 rfl (by omega) (by decide) rfl (fun ls hl => ?_)
                          refine z_goto hC 198 58 dX7_beginnings_198 rfl ?_
                          -- J58.25
                          exact ih58 (r + 1) (c + 1) (uk + 1) (r : Int) 0 mx_ ((md v 0 (r + 1) t : Nat) : Int) (va_up mo ((md v 0 (r + 1) t)) ((mo (md v 0 (r + 1) t)) + 1)) gm (k_71 : Int) (cI (1000) o_71 go_71) fo_71 la_71 (cI (k_71) u_71 gu_71) _ _ _ (by omega) (by first | assumption | omega) (by first | exact LG_0 | exact LG_of pCO_71) (by first | assumption | omega) (by first | assumption | omega) (by first | assumption | omega) (by first | exact Or.inl ⟨rfl, rfl, rfl⟩ | exact bg_w (f := (fun r => md v 0 (r + 1) t)) rfl (by omega)) (by first | rfl | exact cB_it ⟨by omega, by omega⟩ ic | exact cB_if (fun q => by have := q.1; have := q.2; omega) ic) (by first | rfl | exact bg_l1 (f := (fun r => md v 0 (r + 1) t)) ⟨by omega, by omega⟩ | (rw [bg_l0 (f := (fun r => md v 0 (r + 1) t)) (fun q => by have := q.1; have := q.2; omega)]; exact il)) (by first | exact (dst_0 _ 0).symm | (rw [dst_succ (f := (fun r => md v 0 (r + 1) t)) (md_lt_1000 _ _ _ _)]; first | (rw [if_pos (by omega)]; omega) | (rw [if_neg (by omega)]; omega))) (by first | rfl | exact bg_m1 ix (by omega) (by omega) | exact bg_m0 ix (by omega)) (by first | (intro x hx; rw [cnt_0 _ (Nat.le_refl _)]) | exact cnt_up imo (md_lt_1000 _ _ _ _) rfl) hH (z_lv (lv_sub hl [9, 10, 6, 5, 4, 3, 2, 1, 0] rfl) (zcons rfl (zcons rfl (zcons (zpeq (by omega)) (zcons rfl (zcons (zpeq (by omega)) (zcons rfl (zcons rfl (zcons rfl (zcons (zpeq (by omega)) rfl))))))))))
                        · -- 179f
                          refine z_iload hC 182 hl dX7_beginnings_182 0 rfl ?_
                          refine z_goto hC 184 189 dX7_beginnings_184 rfl ?_
                          refine z_istore (lv' := [(6, .int (iZ (0))), (5, .int (iZ (0))), (4, .int (iZ ((uk : Int) + 1))), (3, .int (iZ ((r : Int)))), (2, .int (iZ ((c : Int) + 1))), (10, .int (iZ (1))), (9, .int (iZ (((md v 0 (r + 1) t : Nat) : Int)))), (0, .ref (ad 0)), (1, .int (iZ (q))), (7, .int (iZ (ws))), (8, .int (iZ ((r : Int))))]) hC 189 hl dX7_beginnings_189 (by decide) rfl (fun ls hl => ?_)
                          refine z_iload hC 191 hl dX7_beginnings_191 6 rfl ?_
                          refine z_istore (lv' := [(7, .int (iZ (((md v 0 (r + 1) t : Nat) : Int)))), (6, .int (iZ (0))), (5, .int (iZ (0))), (4, .int (iZ ((uk : Int) + 1))), (3, .int (iZ ((r : Int)))), (2, .int (iZ ((c : Int) + 1))), (10, .int (iZ (1))), (9, .int (iZ (((md v 0 (r + 1) t : Nat) : Int)))), (0, .ref (ad 0)), (1, .int (iZ (q))), (8, .int (iZ ((r : Int))))]) hC 193 hl dX7_beginnings_193 (by decide) rfl (fun ls hl => ?_)
                          refine z_iinc (lv' := [(8, .int (iZ ((r : Int) + 1))), (7, .int (iZ (((md v 0 (r + 1) t : Nat) : Int)))), (6, .int (iZ (0))), (5, .int (iZ (0))), (4, .int (iZ ((uk : Int) + 1))), (3, .int (iZ ((r : Int)))), (2, .int (iZ ((c : Int) + 1))), (10, .int (iZ (1))), (9, .int (iZ (((md v 0 (r + 1) t : Nat) : Int)))), (0, .ref (ad 0)), (1, .int (iZ (q)))]) hC 195 hl dX7_beginnings_195 10 rfl (by omega) (by decide) rfl (fun ls hl => ?_)
                          refine z_goto hC 198 58 dX7_beginnings_198 rfl ?_
                          -- J58.26
                          exact ih58 (r + 1) (c + 1) (uk + 1) (r : Int) 0 0 ((md v 0 (r + 1) t : Nat) : Int) (va_up mo ((md v 0 (r + 1) t)) ((mo (md v 0 (r + 1) t)) + 1)) gm (k_71 : Int) (cI (1000) o_71 go_71) fo_71 la_71 (cI (k_71) u_71 gu_71) _ _ _ (by omega) (by first | assumption | omega) (by first | exact LG_0 | exact LG_of pCO_71) (by first | assumption | omega) (by first | assumption | omega) (by first | assumption | omega) (by first | exact Or.inl ⟨rfl, rfl, rfl⟩ | exact bg_w (f := (fun r => md v 0 (r + 1) t)) rfl (by omega)) (by first | rfl | exact cB_it ⟨by omega, by omega⟩ ic | exact cB_if (fun q => by have := q.1; have := q.2; omega) ic) (by first | rfl | exact bg_l1 (f := (fun r => md v 0 (r + 1) t)) ⟨by omega, by omega⟩ | (rw [bg_l0 (f := (fun r => md v 0 (r + 1) t)) (fun q => by have := q.1; have := q.2; omega)]; exact il)) (by first | exact (dst_0 _ 0).symm | (rw [dst_succ (f := (fun r => md v 0 (r + 1) t)) (md_lt_1000 _ _ _ _)]; first | (rw [if_pos (by omega)]; omega) | (rw [if_neg (by omega)]; omega))) (by first | rfl | exact bg_m1 ix (by omega) (by omega) | exact bg_m0 ix (by omega)) (by first | (intro x hx; rw [cnt_0 _ (Nat.le_refl _)]) | exact cnt_up imo (md_lt_1000 _ _ _ _) rfl) hH (z_lv (lv_sub hl [9, 10, 6, 5, 4, 3, 2, 1, 0] rfl) (zcons rfl (zcons rfl (zcons (zpeq (by omega)) (zcons rfl (zcons (zpeq (by omega)) (zcons rfl (zcons rfl (zcons rfl (zcons (zpeq (by omega)) rfl))))))))))
            -- J58.27
            exact L58 _ 0 0 0 (-2) 0 (-1) (-1) (fun _ => 0) a (F 38) (Ar 34) (Ar 35) (Ar 36) (Ar 37) _ _ _ (Nat.lt_succ_self _) (by first | assumption | omega) (by first | exact LG_0 | exact LG_of pCO_71) (by first | assumption | omega) (by first | assumption | omega) (by first | assumption | omega) (by first | exact Or.inl ⟨rfl, rfl, rfl⟩ | exact bg_w (f := (fun r => md v 0 (r + 1) t)) rfl (by omega)) (by first | rfl | exact cB_it ⟨by omega, by omega⟩ ic | exact cB_if (fun q => by have := q.1; have := q.2; omega) ic) (by first | rfl | exact bg_l1 (f := (fun r => md v 0 (r + 1) t)) ⟨by omega, by omega⟩ | (rw [bg_l0 (f := (fun r => md v 0 (r + 1) t)) (fun q => by have := q.1; have := q.2; omega)]; exact il)) (by first | exact (dst_0 _ 0).symm | (rw [dst_succ (f := (fun r => md v 0 (r + 1) t)) (md_lt_1000 _ _ _ _)]; first | (rw [if_pos (by omega)]; omega) | (rw [if_neg (by omega)]; omega))) (by first | rfl | exact bg_m1 ix (by omega) (by omega) | exact bg_m0 ix (by omega)) (by first | (intro x hx; rw [cnt_0 _ (Nat.le_refl _)]) | exact cnt_up imo (md_lt_1000 _ _ _ _) rfl) hH (z_lv (lv_sub hl [7, 8, 6, 5, 4, 3, 2, 1, 0] rfl) (zcons rfl (zcons rfl (zcons (zpeq (by omega)) (zcons rfl (zcons (zpeq (by omega)) (zcons rfl (zcons rfl (zcons rfl (zcons (zpeq (by omega)) rfl))))))))))
          · -- 22f
            refine z_aload_n hC 25 hl dX7_beginnings_25 rfl 0 rfl ?_
            refine gmW_40 hC hH 26 dX7_beginnings_26 ?_
            refine z_iload_n hC 29 hl dX7_beginnings_29 rfl 2 rfl ?_
            refine z_iconst hC 30 dX7_beginnings_30 ?_
            refine smW_40 (f' := (va_up a (i) (0))) hC hH 31 (i) (by omega) (by omega) rfl dX7_beginnings_31 (fun H locs hH => ?_)
            have hH : zH s0 s1 G as0 (mW ad G (va_up (va_up (va_up F 0 (0)) 5 ((n : Int))) 7 ((t : Int))) (va_up (va_up Ar 3 (cI (n) v gv)) 40 (va_up a (i) (0)))) H locs := hH
            refine z_iinc (lv' := [(2, .int (iZ ((i : Int) + 1))), (0, .ref (ad 0)), (1, .int (iZ (q)))]) hC 32 hl dX7_beginnings_32 2 rfl (by omega) (by decide) rfl (fun ls hl => ?_)
            refine z_goto hC 35 18 dX7_beginnings_35 rfl ?_
            -- J18.28
            exact ih18 (i + 1) (va_up a (i) (0)) _ _ _ (by omega) (by first | assumption | omega) (by first | (intro j hj; omega) | exact z0_up iz) hH (z_lv (lv_sub hl [1, 2, 0] rfl) (zcons rfl (zcons rfl (zcons (zpeq (by omega)) rfl))))
      -- J18.29
      exact L18 _ 0 (Ar 40) _ _ _ (Nat.lt_succ_self _) (by first | assumption | omega) (by first | (intro j hj; omega) | exact z0_up iz) hH (z_lv (lv_sub hl [1, 2, 0] rfl) (zcons rfl (zcons rfl (zcons (zpeq (by omega)) rfl))))
    · -- 11f
      refine z_iconst hC 14 dX7_beginnings_14 ?_
      -- R15.30
      exact z_iret hC hH hQ 15 (((-1), (va_up (va_up (va_up F 0 (0)) 5 ((n : Int))) 7 ((t : Int))), (va_up Ar 3 (cI (n) v gv)))) dX7_beginnings_15 rfl ⟨by first | (unfold Sp_beginnings; rw [if_neg (by omega)]) | (unfold Sp_beginnings; rw [if_pos (by omega)]), by exact ⟨rfl, rfl, rfl, rfl, rfl, rfl, rfl, rfl, rfl, rfl, rfl, rfl, rfl, rfl, rfl, rfl⟩⟩ rfl (Nat.le_refl _) (Nat.le_refl _)

set_option maxHeartbeats 4000000 in
set_option maxRecDepth 100000 in
theorem m_X7_unlikeOf (lau : Launch) (s0 : State) (G : zG) (sz : Nat) (ad : Nat → Nat) (F : Nat → Int) (Ar : Nat → Nat → Int) (n : Nat) (v : Nat → Nat) (gv : Nat → Int) (hn : n ≤ 120) (hv : ∀ i, i < n → v i < 1000) : zMet (S := (Nat → Nat) × (Nat → Int) × (Nat → Int) × (Nat → Int) × Nat × (Nat → Nat) × (Nat → Int)) lau yX7_unlikeOf cX7_unlikeOf 1 (some .int) 1 25 0 0 s0 G sz [.ref (ad 0)] (mW ad G (va_up F 5 ((n : Int))) (va_up Ar 3 (cI (n) v gv))) (fun ((o, go, fo, la, k, u, gu) : (Nat → Nat) × (Nat → Int) × (Nat → Int) × (Nat → Int) × Nat × (Nat → Nat) × (Nat → Int)) => some (.int (iZ (((dst v 0 n : Nat) : Int))))) (fun ((o, go, fo, la, k, u, gu) : (Nat → Nat) × (Nat → Int) × (Nat → Int) × (Nat → Int) × Nat × (Nat → Nat) × (Nat → Int)) => (CO v 0 n o fo la k u)) (fun ((o, go, fo, la, k, u, gu) : (Nat → Nat) × (Nat → Int) × (Nat → Int) × (Nat → Int) × Nat × (Nat → Nat) × (Nat → Int)) => (mW ad G (va_up (va_up F 5 ((n : Int))) 38 ((k : Int))) (va_up (va_up (va_up (va_up (va_up Ar 3 (cI (n) v gv)) 34 (cI (1000) o go)) 35 fo) 36 la) 37 (cI (k) u gu)))) := by
  refine zMet.of (by decide) (Nat.le_of_ble_eq_true rfl) ?_
  intro pg ev s1 mi ar bl me cd ls Q as0 hC hH hl hQ hsz
  generalize s1.heap = H at hH ⊢
  generalize ([] : List Loc) = locs at hH ⊢
  have hl : lv_has ls 1 [(0, .ref (ad 0))] := hl
  refine z_aload_n hC 0 hl dX7_unlikeOf_0 rfl 0 rfl ?_
  refine z_iconst hC 1 dX7_unlikeOf_1 ?_
  refine z_aload_n hC 2 hl dX7_unlikeOf_2 rfl 0 rfl ?_
  refine gmW_5 (x := (n : Int)) hC hH 3 rfl dX7_unlikeOf_3 ?_
  refine z_iconst hC 6 dX7_unlikeOf_6 ?_
  refine z_isub (e := (n : Int) - 1) hC 7 dX7_unlikeOf_7 rfl ?_
  refine z_iconst hC 8 dX7_unlikeOf_8 ?_
  refine z_st (st' := [.int (iZ ((-1))), .int (iZ ((n : Int) - 1)), .int (iZ (((0 : Nat) : Int))), .ref (ad 0)]) (zcons rfl (zcons rfl (zcons (zieq (by omega)) rfl))) ?_
  refine z_same (z_runV hC hH.2.2 hl.1 hH.1 hH.2.1 3 (As := [.int (iZ (((0 : Nat) : Int))), .int (iZ ((n : Int) - 1)), .int (iZ ((-1)))]) (rest := []) (m_X7_counts lau s0 G _ ad (va_up F 5 ((n : Int))) (va_up Ar 3 (cI (n) v gv)) n v gv 0 n (-1) v (by first | assumption | omega) (by first | assumption | omega) (by first | assumption | omega) (by first | assumption | omega) (by first | assumption | omega) (by exact fun i _ _ => ⟨fun q => by omega, fun _ => rfl⟩)) (lw_V q1764 q1766 qs73 q95 q1767) ⟨rfl, by decide, by decide, by decide +kernel⟩ (q0 := 0) (ci := 0) rfl rfl rfl rfl (Nat.le_of_ble_eq_true rfl) ⟨Nat.le_of_ble_eq_true rfl, Nat.le_of_ble_eq_true rfl⟩ ⟨Nat.le_of_ble_eq_true rfl, Nat.le_of_ble_eq_true rfl⟩ dX7_unlikeOf_9) hH (fun u_ H locs hpost hH => ?_)
  obtain ⟨o_9, go_9, fo_9, la_9, k_9, u_9, gu_9⟩ := u_
  have pCO_9 : CO v 0 n o_9 fo_9 la_9 k_9 u_9 := hpost
  have hH : zH s0 s1 G as0 (mW ad G (va_up (va_up F 5 ((n : Int))) 38 ((k_9 : Int))) (va_up (va_up (va_up (va_up (va_up Ar 3 (cI (n) v gv)) 34 (cI (1000) o_9 go_9)) 35 fo_9) 36 la_9) 37 (cI (k_9) u_9 gu_9))) H locs := hH
  refine z_st (st' := []) rfl ?_
  have hds := EN_dst pCO_9.2.2
  have hkk := pCO_9.2.2.1
  refine z_aload_n hC 12 hl dX7_unlikeOf_12 rfl 0 rfl ?_
  refine gmW_38 (x := (k_9 : Int)) hC hH 13 rfl dX7_unlikeOf_13 ?_
  -- R16.1
  refine z_st (st' := [.int (iZ (((dst v 0 n : Nat) : Int)))]) (zcons (zieq (by first | assumption | omega)) rfl) ?_
  exact z_iret hC hH hQ 16 ((o_9, go_9, fo_9, la_9, k_9, u_9, gu_9)) dX7_unlikeOf_16 rfl (by (try dsimp only); first | assumption | omega) rfl (Nat.le_refl _) (Nat.le_refl _)

set_option maxHeartbeats 4000000 in
set_option maxRecDepth 100000 in
theorem m_X7_weightsIn (lau : Launch) (s0 : State) (G : zG) (sz : Nat) (ad : Nat → Nat) (F : Nat → Int) (Ar : Nat → Nat → Int) (n : Nat) (wt : Nat → Nat) (gw : Nat → Int) (hn : n ≤ 120) (hwt : ∀ i, i < n → 1 ≤ wt i ∧ wt i ≤ 9) : zMet (S := Unit) lau yX7_weightsIn cX7_weightsIn 3 (some .int) 0 0 0 0 s0 G sz [.ref (ad 0)] (mW ad G (va_up F 5 ((n : Int))) (va_up Ar 4 (cI (n) wt gw))) (fun (_ : Unit) => some (.int (iZ (((sm wt 0 n : Nat) : Int))))) (fun (_ : Unit) => True) (fun (_ : Unit) => (mW ad G (va_up F 5 ((n : Int))) (va_up Ar 4 (cI (n) wt gw)))) := by
  refine zMet.of (by decide) (Nat.le_of_ble_eq_true rfl) ?_
  intro pg ev s1 mi ar bl me cd ls Q as0 hC hH hl hQ hsz
  generalize s1.heap = H at hH ⊢
  generalize ([] : List Loc) = locs at hH ⊢
  have hl : lv_has ls 3 [(0, .ref (ad 0))] := hl
  refine z_iconst hC 0 dX7_weightsIn_0 ?_
  refine z_istore_n (lv' := [(1, .int (iZ (0))), (0, .ref (ad 0))]) hC 1 hl dX7_weightsIn_1 rfl (by decide) rfl (fun ls hl => ?_)
  refine z_iconst hC 2 dX7_weightsIn_2 ?_
  refine z_istore_n (lv' := [(2, .int (iZ (0))), (1, .int (iZ (0))), (0, .ref (ad 0))]) hC 3 hl dX7_weightsIn_3 rfl (by decide) rfl (fun ls hl => ?_)
  have L4 : ∀ (N_ : Nat) (p : Nat) (c : Nat) (H : Heap) (locs : List Loc) (ls : Array Slot), n - p < N_ → (p ≤ n) → (c = sm wt 0 p) → (c ≤ 9 * p) → zH s0 s1 G as0 (mW ad G (va_up F 5 ((n : Int))) (va_up Ar 4 (cI (n) wt gw))) H locs → lv_has ls 3 [(0, .ref (ad 0)), (1, .int (iZ ((c : Int)))), (2, .int (iZ ((p : Int))))] → W pg lau ev (zRm 0 0 0 0) s1 mi ar bl me cd H locs 0 0 Q (F0 mi 4 ls []) := by
    intro N_
    induction N_ with
    | zero => intro p c H locs ls hd; exact absurd hd (Nat.not_lt_zero _)
    | succ N_ ih4 =>
      intro p c H locs ls hd4 i4_1 ic i4_3 hH hl
      refine z_iload_n hC 4 hl dX7_weightsIn_4 rfl 2 rfl ?_
      refine z_aload_n hC 5 hl dX7_weightsIn_5 rfl 0 rfl ?_
      refine gmW_5 (x := (n : Int)) hC hH 6 rfl dX7_weightsIn_6 ?_
      refine z_icmp_ge hC 9 27 dX7_weightsIn_9 rfl (by omega) (by omega) (fun hb1 => ?_) (fun hb1 => ?_)
      · -- 9t
        obtain rfl : n = (p) := by omega
        refine z_iload_n hC 27 hl dX7_weightsIn_27 rfl 1 rfl ?_
        -- R28.1
        refine z_st (st' := [.int (iZ (((sm wt 0 n : Nat) : Int)))]) (zcons (zieq (by first | assumption | omega)) rfl) ?_
        exact z_iret hC hH hQ 28 (()) dX7_weightsIn_28 rfl trivial rfl (Nat.le_refl _) (Nat.le_refl _)
      · -- 9f
        refine z_iload_n hC 12 hl dX7_weightsIn_12 rfl 1 rfl ?_
        have hwp := hwt (p) (by omega)
        refine z_aload_n hC 13 hl dX7_weightsIn_13 rfl 0 rfl ?_
        refine gmW_4 hC hH 14 dX7_weightsIn_14 ?_
        refine z_iload_n hC 17 hl dX7_weightsIn_17 rfl 2 rfl ?_
        refine lmW_4 (x := ((wt p : Nat) : Int)) hC hH 18 (p) (by omega) (by omega) (cI_lt (by omega)) dX7_weightsIn_18 ?_
        refine z_iadd (e := (c : Int) + ((wt p : Nat) : Int)) hC 19 dX7_weightsIn_19 rfl ?_
        refine z_istore_n (lv' := [(1, .int (iZ ((c : Int) + ((wt p : Nat) : Int)))), (0, .ref (ad 0)), (2, .int (iZ ((p : Int))))]) hC 20 hl dX7_weightsIn_20 rfl (by decide) rfl (fun ls hl => ?_)
        refine z_iinc (lv' := [(2, .int (iZ ((p : Int) + 1))), (1, .int (iZ ((c : Int) + ((wt p : Nat) : Int)))), (0, .ref (ad 0))]) hC 21 hl dX7_weightsIn_21 2 rfl (by omega) (by decide) rfl (fun ls hl => ?_)
        refine z_goto hC 24 4 dX7_weightsIn_24 rfl ?_
        -- J4.2
        exact ih4 (p + 1) (c + (wt p)) _ _ _ (by omega) (by first | assumption | omega) (by first | rfl | (rw [sm_succ _ (Nat.zero_le _)]; omega)) (by first | assumption | omega) hH (z_lv (lv_sub hl [2, 1, 0] rfl) (zcons rfl (zcons (zpeq (by omega)) (zcons (zpeq (by omega)) rfl))))
  -- J4.3
  exact L4 _ 0 0 _ _ _ (Nat.lt_succ_self _) (by first | assumption | omega) (by first | rfl | (rw [sm_succ _ (Nat.zero_le _)]; omega)) (by first | assumption | omega) hH (z_lv (lv_sub hl [2, 1, 0] rfl) (zcons rfl (zcons (zpeq (by omega)) (zcons (zpeq (by omega)) rfl))))

set_option maxHeartbeats 4000000 in
set_option maxRecDepth 100000 in
theorem m_X7_count (lau : Launch) (s0 : State) (G : zG) (sz : Nat) (ad : Nat → Nat) (F : Nat → Int) (Ar : Nat → Nat → Int) (n : Nat) (v : Nat → Nat) (gv : Nat → Int) (t : Nat) (wt : Nat → Nat) (gw : Nat → Int) (b : Nat) (ln : Int) (un : Int) (tp : Int) (q : Int) (hn : n ≤ 120) (hv : ∀ i, i < n → v i < 1000) (ht : t < 4) (hr_q : -2147483648 ≤ q ∧ q < 2147483648) (hwt : ∀ i, i < n → 1 ≤ wt i ∧ wt i ≤ 9) (hb : 2 ≤ b ∧ b ≤ 20) : zMet (S := Int × (Nat → Int) × (Nat → Nat → Int)) lau yX7_count cX7_count 2 (some .int) 2 45 0 0 s0 G sz [.ref (ad 0), .int (iZ (q))] (mW ad G (va_up (va_up (va_up (va_up (va_up (va_up F 2 (tp)) 5 ((n : Int))) 6 ((b : Int))) 7 ((t : Int))) 8 (ln)) 12 (un)) (va_up (va_up Ar 3 (cI (n) v gv)) 4 (cI (n) wt gw))) (fun ((r_, F2, A2) : Int × (Nat → Int) × (Nat → Nat → Int)) => some (.int (iZ (r_)))) (fun ((r_, F2, A2) : Int × (Nat → Int) × (Nat → Nat → Int)) => (Sp_count n v wt t b ln un tp q r_) ∧ (MK (va_up (va_up (va_up (va_up (va_up (va_up F 2 (tp)) 5 ((n : Int))) 6 ((b : Int))) 7 ((t : Int))) 8 (ln)) 12 (un)) (va_up (va_up Ar 3 (cI (n) v gv)) 4 (cI (n) wt gw)) F2 A2)) (fun ((r_, F2, A2) : Int × (Nat → Int) × (Nat → Nat → Int)) => (mW ad G F2 A2)) := by
  refine zMet.of (by decide) (Nat.le_of_ble_eq_true rfl) ?_
  intro pg ev s1 mi ar bl me cd ls Q as0 hC hH hl hQ hsz
  generalize s1.heap = H at hH ⊢
  generalize ([] : List Loc) = locs at hH ⊢
  have hl : lv_has ls 2 [(0, .ref (ad 0)), (1, .int (iZ (q)))] := hl
  refine z_aload_n hC 0 hl dX7_count_0 rfl 0 rfl ?_
  refine z_iconst hC 1 dX7_count_1 ?_
  refine pmW_0 hC hH 2 dX7_count_2 (fun H locs hH => ?_)
  have hH : zH s0 s1 G as0 (mW ad G (va_up (va_up (va_up (va_up (va_up (va_up (va_up F 0 (0)) 2 (tp)) 5 ((n : Int))) 6 ((b : Int))) 7 ((t : Int))) 8 (ln)) 12 (un)) (va_up (va_up Ar 3 (cI (n) v gv)) 4 (cI (n) wt gw))) H locs := hH
  refine z_iload_n hC 5 hl dX7_count_5 rfl 1 rfl ?_
  rcases (show (q < 0 ∨ 8 < q) ∨ q = 0 ∨ q = 1 ∨ q = 2 ∨ q = 3 ∨ q = 4 ∨ q = 5 ∨ q = 6 ∨ q = 7 ∨ q = 8 from by omega) with hs1 | hs1 | hs1 | hs1 | hs1 | hs1 | hs1 | hs1 | hs1 | hs1
  · -- 6:default
    refine z_tsw_out hC 6 101 dX7_count_6 (by omega) hs1 rfl ?_
    refine z_iconst hC 101 dX7_count_101 ?_
    -- R102.1
    exact z_iret hC hH hQ 102 (((-1), (va_up (va_up (va_up (va_up (va_up (va_up (va_up F 0 (0)) 2 (tp)) 5 ((n : Int))) 6 ((b : Int))) 7 ((t : Int))) 8 (ln)) 12 (un)), (va_up (va_up Ar 3 (cI (n) v gv)) 4 (cI (n) wt gw)))) dX7_count_102 rfl ⟨by (unfold Sp_count; first | (rw [if_pos (by omega)]; done) | (rw [if_neg (by omega), if_pos (by omega)]; done) | (rw [if_neg (by omega), if_neg (by omega), if_pos (by omega)]; done) | (rw [if_neg (by omega), if_neg (by omega), if_neg (by omega), if_pos (by omega)]; done) | (rw [if_neg (by omega), if_neg (by omega), if_neg (by omega), if_neg (by omega), if_pos (by omega)]; done) | (rw [if_neg (by omega), if_neg (by omega), if_neg (by omega), if_neg (by omega), if_neg (by omega), if_pos (by omega)]; done) | (rw [if_neg (by omega), if_neg (by omega), if_neg (by omega), if_neg (by omega), if_neg (by omega), if_neg (by omega), if_pos (by omega)]; done) | (rw [if_neg (by omega), if_neg (by omega), if_neg (by omega), if_neg (by omega), if_neg (by omega), if_neg (by omega), if_neg (by omega), if_pos (by omega)]; done) | (rw [if_neg (by omega), if_neg (by omega), if_neg (by omega), if_neg (by omega), if_neg (by omega), if_neg (by omega), if_neg (by omega), if_neg (by omega), if_pos (by omega)]; done) | (rw [if_neg (by omega), if_neg (by omega), if_neg (by omega), if_neg (by omega), if_neg (by omega), if_neg (by omega), if_neg (by omega), if_neg (by omega), if_neg (by omega)]; done)), by exact ⟨rfl, rfl, rfl, rfl, rfl, rfl, rfl, rfl, rfl, rfl, rfl, rfl, rfl, rfl, rfl, rfl⟩⟩ rfl (Nat.le_refl _) (Nat.le_refl _)
  · -- 6:0
    refine z_tsw_in hC 6 56 dX7_count_6 (by omega) hs1 (by decide) (by decide) rfl rfl ?_
    refine z_aload_n hC 56 hl dX7_count_56 rfl 0 rfl ?_
    refine gmW_5 (x := (n : Int)) hC hH 57 rfl dX7_count_57 ?_
    -- R60.2
    exact z_iret hC hH hQ 60 (((n : Int), (va_up (va_up (va_up (va_up (va_up (va_up (va_up F 0 (0)) 2 (tp)) 5 ((n : Int))) 6 ((b : Int))) 7 ((t : Int))) 8 (ln)) 12 (un)), (va_up (va_up Ar 3 (cI (n) v gv)) 4 (cI (n) wt gw)))) dX7_count_60 rfl ⟨by (unfold Sp_count; first | (rw [if_pos (by omega)]; done) | (rw [if_neg (by omega), if_pos (by omega)]; done) | (rw [if_neg (by omega), if_neg (by omega), if_pos (by omega)]; done) | (rw [if_neg (by omega), if_neg (by omega), if_neg (by omega), if_pos (by omega)]; done) | (rw [if_neg (by omega), if_neg (by omega), if_neg (by omega), if_neg (by omega), if_pos (by omega)]; done) | (rw [if_neg (by omega), if_neg (by omega), if_neg (by omega), if_neg (by omega), if_neg (by omega), if_pos (by omega)]; done) | (rw [if_neg (by omega), if_neg (by omega), if_neg (by omega), if_neg (by omega), if_neg (by omega), if_neg (by omega), if_pos (by omega)]; done) | (rw [if_neg (by omega), if_neg (by omega), if_neg (by omega), if_neg (by omega), if_neg (by omega), if_neg (by omega), if_neg (by omega), if_pos (by omega)]; done) | (rw [if_neg (by omega), if_neg (by omega), if_neg (by omega), if_neg (by omega), if_neg (by omega), if_neg (by omega), if_neg (by omega), if_neg (by omega), if_pos (by omega)]; done) | (rw [if_neg (by omega), if_neg (by omega), if_neg (by omega), if_neg (by omega), if_neg (by omega), if_neg (by omega), if_neg (by omega), if_neg (by omega), if_neg (by omega)]; done)), by exact ⟨rfl, rfl, rfl, rfl, rfl, rfl, rfl, rfl, rfl, rfl, rfl, rfl, rfl, rfl, rfl, rfl⟩⟩ rfl (Nat.le_refl _) (Nat.le_refl _)
  · -- 6:1
    refine z_tsw_in hC 6 61 dX7_count_6 (by omega) hs1 (by decide) (by decide) rfl rfl ?_
    refine z_aload_n hC 61 hl dX7_count_61 rfl 0 rfl ?_
    refine gmW_6 (x := (b : Int)) hC hH 62 rfl dX7_count_62 ?_
    -- R65.3
    exact z_iret hC hH hQ 65 (((b : Int), (va_up (va_up (va_up (va_up (va_up (va_up (va_up F 0 (0)) 2 (tp)) 5 ((n : Int))) 6 ((b : Int))) 7 ((t : Int))) 8 (ln)) 12 (un)), (va_up (va_up Ar 3 (cI (n) v gv)) 4 (cI (n) wt gw)))) dX7_count_65 rfl ⟨by (unfold Sp_count; first | (rw [if_pos (by omega)]; done) | (rw [if_neg (by omega), if_pos (by omega)]; done) | (rw [if_neg (by omega), if_neg (by omega), if_pos (by omega)]; done) | (rw [if_neg (by omega), if_neg (by omega), if_neg (by omega), if_pos (by omega)]; done) | (rw [if_neg (by omega), if_neg (by omega), if_neg (by omega), if_neg (by omega), if_pos (by omega)]; done) | (rw [if_neg (by omega), if_neg (by omega), if_neg (by omega), if_neg (by omega), if_neg (by omega), if_pos (by omega)]; done) | (rw [if_neg (by omega), if_neg (by omega), if_neg (by omega), if_neg (by omega), if_neg (by omega), if_neg (by omega), if_pos (by omega)]; done) | (rw [if_neg (by omega), if_neg (by omega), if_neg (by omega), if_neg (by omega), if_neg (by omega), if_neg (by omega), if_neg (by omega), if_pos (by omega)]; done) | (rw [if_neg (by omega), if_neg (by omega), if_neg (by omega), if_neg (by omega), if_neg (by omega), if_neg (by omega), if_neg (by omega), if_neg (by omega), if_pos (by omega)]; done) | (rw [if_neg (by omega), if_neg (by omega), if_neg (by omega), if_neg (by omega), if_neg (by omega), if_neg (by omega), if_neg (by omega), if_neg (by omega), if_neg (by omega)]; done)), by exact ⟨rfl, rfl, rfl, rfl, rfl, rfl, rfl, rfl, rfl, rfl, rfl, rfl, rfl, rfl, rfl, rfl⟩⟩ rfl (Nat.le_refl _) (Nat.le_refl _)
  · -- 6:2
    refine z_tsw_in hC 6 66 dX7_count_6 (by omega) hs1 (by decide) (by decide) rfl rfl ?_
    refine z_aload_n hC 66 hl dX7_count_66 rfl 0 rfl ?_
    refine z_same (z_runV hC hH.2.2 hl.1 hH.1 hH.2.1 0 (As := []) (rest := []) (m_X7_blocks lau s0 G _ ad (va_up (va_up (va_up (va_up (va_up (va_up (va_up F 0 (0)) 2 (tp)) 5 ((n : Int))) 6 ((b : Int))) 7 ((t : Int))) 8 (ln)) 12 (un)) (va_up (va_up Ar 3 (cI (n) v gv)) 4 (cI (n) wt gw)) n b (by first | assumption | omega) (by first | assumption | omega)) (lw_V q1832 q1834 qs81 q95 q1835) ⟨rfl, by decide, by decide, by decide +kernel⟩ (q0 := 0) (ci := 0) rfl rfl rfl rfl (Nat.le_of_ble_eq_true rfl) ⟨Nat.le_of_ble_eq_true rfl, Nat.le_of_ble_eq_true rfl⟩ ⟨Nat.le_of_ble_eq_true rfl, Nat.le_of_ble_eq_true rfl⟩ dX7_count_67) hH (fun _ H locs hpost hH => ?_)
    have pb_67 : zdiv (n + b - 1) b ≤ 120 := hpost
    have hH : zH s0 s1 G as0 (mW ad G (va_up (va_up (va_up (va_up (va_up (va_up (va_up F 0 (0)) 2 (tp)) 5 ((n : Int))) 6 ((b : Int))) 7 ((t : Int))) 8 (ln)) 12 (un)) (va_up (va_up Ar 3 (cI (n) v gv)) 4 (cI (n) wt gw))) H locs := hH
    refine z_st (st' := [.int (iZ (((zdiv (n + b - 1) b : Nat) : Int)))]) rfl ?_
    -- R70.4
    exact z_iret hC hH hQ 70 ((((zdiv (n + b - 1) b : Nat) : Int), (va_up (va_up (va_up (va_up (va_up (va_up (va_up F 0 (0)) 2 (tp)) 5 ((n : Int))) 6 ((b : Int))) 7 ((t : Int))) 8 (ln)) 12 (un)), (va_up (va_up Ar 3 (cI (n) v gv)) 4 (cI (n) wt gw)))) dX7_count_70 rfl ⟨by (unfold Sp_count; first | (rw [if_pos (by omega)]; done) | (rw [if_neg (by omega), if_pos (by omega)]; done) | (rw [if_neg (by omega), if_neg (by omega), if_pos (by omega)]; done) | (rw [if_neg (by omega), if_neg (by omega), if_neg (by omega), if_pos (by omega)]; done) | (rw [if_neg (by omega), if_neg (by omega), if_neg (by omega), if_neg (by omega), if_pos (by omega)]; done) | (rw [if_neg (by omega), if_neg (by omega), if_neg (by omega), if_neg (by omega), if_neg (by omega), if_pos (by omega)]; done) | (rw [if_neg (by omega), if_neg (by omega), if_neg (by omega), if_neg (by omega), if_neg (by omega), if_neg (by omega), if_pos (by omega)]; done) | (rw [if_neg (by omega), if_neg (by omega), if_neg (by omega), if_neg (by omega), if_neg (by omega), if_neg (by omega), if_neg (by omega), if_pos (by omega)]; done) | (rw [if_neg (by omega), if_neg (by omega), if_neg (by omega), if_neg (by omega), if_neg (by omega), if_neg (by omega), if_neg (by omega), if_neg (by omega), if_pos (by omega)]; done) | (rw [if_neg (by omega), if_neg (by omega), if_neg (by omega), if_neg (by omega), if_neg (by omega), if_neg (by omega), if_neg (by omega), if_neg (by omega), if_neg (by omega)]; done)), by exact ⟨rfl, rfl, rfl, rfl, rfl, rfl, rfl, rfl, rfl, rfl, rfl, rfl, rfl, rfl, rfl, rfl⟩⟩ rfl (Nat.le_refl _) (Nat.le_refl _)
  · -- 6:3
    refine z_tsw_in hC 6 71 dX7_count_6 (by omega) hs1 (by decide) (by decide) rfl rfl ?_
    refine z_aload_n hC 71 hl dX7_count_71 rfl 0 rfl ?_
    refine gmW_7 (x := (t : Int)) hC hH 72 rfl dX7_count_72 ?_
    -- R75.5
    exact z_iret hC hH hQ 75 (((t : Int), (va_up (va_up (va_up (va_up (va_up (va_up (va_up F 0 (0)) 2 (tp)) 5 ((n : Int))) 6 ((b : Int))) 7 ((t : Int))) 8 (ln)) 12 (un)), (va_up (va_up Ar 3 (cI (n) v gv)) 4 (cI (n) wt gw)))) dX7_count_75 rfl ⟨by (unfold Sp_count; first | (rw [if_pos (by omega)]; done) | (rw [if_neg (by omega), if_pos (by omega)]; done) | (rw [if_neg (by omega), if_neg (by omega), if_pos (by omega)]; done) | (rw [if_neg (by omega), if_neg (by omega), if_neg (by omega), if_pos (by omega)]; done) | (rw [if_neg (by omega), if_neg (by omega), if_neg (by omega), if_neg (by omega), if_pos (by omega)]; done) | (rw [if_neg (by omega), if_neg (by omega), if_neg (by omega), if_neg (by omega), if_neg (by omega), if_pos (by omega)]; done) | (rw [if_neg (by omega), if_neg (by omega), if_neg (by omega), if_neg (by omega), if_neg (by omega), if_neg (by omega), if_pos (by omega)]; done) | (rw [if_neg (by omega), if_neg (by omega), if_neg (by omega), if_neg (by omega), if_neg (by omega), if_neg (by omega), if_neg (by omega), if_pos (by omega)]; done) | (rw [if_neg (by omega), if_neg (by omega), if_neg (by omega), if_neg (by omega), if_neg (by omega), if_neg (by omega), if_neg (by omega), if_neg (by omega), if_pos (by omega)]; done) | (rw [if_neg (by omega), if_neg (by omega), if_neg (by omega), if_neg (by omega), if_neg (by omega), if_neg (by omega), if_neg (by omega), if_neg (by omega), if_neg (by omega)]; done)), by exact ⟨rfl, rfl, rfl, rfl, rfl, rfl, rfl, rfl, rfl, rfl, rfl, rfl, rfl, rfl, rfl, rfl⟩⟩ rfl (Nat.le_refl _) (Nat.le_refl _)
  · -- 6:4
    refine z_tsw_in hC 6 76 dX7_count_6 (by omega) hs1 (by decide) (by decide) rfl rfl ?_
    refine z_aload_n hC 76 hl dX7_count_76 rfl 0 rfl ?_
    refine gmW_8 (x := ln) hC hH 77 rfl dX7_count_77 ?_
    -- R80.6
    exact z_iret hC hH hQ 80 ((ln, (va_up (va_up (va_up (va_up (va_up (va_up (va_up F 0 (0)) 2 (tp)) 5 ((n : Int))) 6 ((b : Int))) 7 ((t : Int))) 8 (ln)) 12 (un)), (va_up (va_up Ar 3 (cI (n) v gv)) 4 (cI (n) wt gw)))) dX7_count_80 rfl ⟨by (unfold Sp_count; first | (rw [if_pos (by omega)]; done) | (rw [if_neg (by omega), if_pos (by omega)]; done) | (rw [if_neg (by omega), if_neg (by omega), if_pos (by omega)]; done) | (rw [if_neg (by omega), if_neg (by omega), if_neg (by omega), if_pos (by omega)]; done) | (rw [if_neg (by omega), if_neg (by omega), if_neg (by omega), if_neg (by omega), if_pos (by omega)]; done) | (rw [if_neg (by omega), if_neg (by omega), if_neg (by omega), if_neg (by omega), if_neg (by omega), if_pos (by omega)]; done) | (rw [if_neg (by omega), if_neg (by omega), if_neg (by omega), if_neg (by omega), if_neg (by omega), if_neg (by omega), if_pos (by omega)]; done) | (rw [if_neg (by omega), if_neg (by omega), if_neg (by omega), if_neg (by omega), if_neg (by omega), if_neg (by omega), if_neg (by omega), if_pos (by omega)]; done) | (rw [if_neg (by omega), if_neg (by omega), if_neg (by omega), if_neg (by omega), if_neg (by omega), if_neg (by omega), if_neg (by omega), if_neg (by omega), if_pos (by omega)]; done) | (rw [if_neg (by omega), if_neg (by omega), if_neg (by omega), if_neg (by omega), if_neg (by omega), if_neg (by omega), if_neg (by omega), if_neg (by omega), if_neg (by omega)]; done)), by exact ⟨rfl, rfl, rfl, rfl, rfl, rfl, rfl, rfl, rfl, rfl, rfl, rfl, rfl, rfl, rfl, rfl⟩⟩ rfl (Nat.le_refl _) (Nat.le_refl _)
  · -- 6:5
    refine z_tsw_in hC 6 81 dX7_count_6 (by omega) hs1 (by decide) (by decide) rfl rfl ?_
    refine z_aload_n hC 81 hl dX7_count_81 rfl 0 rfl ?_
    refine z_same (z_runV hC hH.2.2 hl.1 hH.1 hH.2.1 0 (As := []) (rest := []) (m_X7_unlikeOf lau s0 G _ ad (va_up (va_up (va_up (va_up (va_up (va_up (va_up F 0 (0)) 2 (tp)) 5 ((n : Int))) 6 ((b : Int))) 7 ((t : Int))) 8 (ln)) 12 (un)) (va_up (va_up Ar 3 (cI (n) v gv)) 4 (cI (n) wt gw)) n v gv (by first | assumption | omega) (by first | assumption | omega)) (lw_V q1964 q1966 qs86 q95 q1967) ⟨rfl, by decide, by decide, by decide +kernel⟩ (q0 := 0) (ci := 0) rfl rfl rfl rfl (Nat.le_of_ble_eq_true rfl) ⟨Nat.le_of_ble_eq_true rfl, Nat.le_of_ble_eq_true rfl⟩ ⟨Nat.le_of_ble_eq_true rfl, Nat.le_of_ble_eq_true rfl⟩ dX7_count_82) hH (fun u_ H locs hpost hH => ?_)
    obtain ⟨o_82, go_82, fo_82, la_82, k_82, u_82, gu_82⟩ := u_
    have pCO_82 : CO v 0 n o_82 fo_82 la_82 k_82 u_82 := hpost
    have hH : zH s0 s1 G as0 (mW ad G (va_up (va_up (va_up (va_up (va_up (va_up (va_up (va_up F 0 (0)) 2 (tp)) 5 ((n : Int))) 6 ((b : Int))) 7 ((t : Int))) 8 (ln)) 12 (un)) 38 ((k_82 : Int))) (va_up (va_up (va_up (va_up (va_up (va_up Ar 3 (cI (n) v gv)) 4 (cI (n) wt gw)) 34 (cI (1000) o_82 go_82)) 35 fo_82) 36 la_82) 37 (cI (k_82) u_82 gu_82))) H locs := hH
    refine z_st (st' := [.int (iZ (((dst v 0 n : Nat) : Int)))]) rfl ?_
    -- R85.7
    exact z_iret hC hH hQ 85 ((((dst v 0 n : Nat) : Int), (va_up (va_up (va_up (va_up (va_up (va_up (va_up (va_up F 0 (0)) 2 (tp)) 5 ((n : Int))) 6 ((b : Int))) 7 ((t : Int))) 8 (ln)) 12 (un)) 38 ((k_82 : Int))), (va_up (va_up (va_up (va_up (va_up (va_up Ar 3 (cI (n) v gv)) 4 (cI (n) wt gw)) 34 (cI (1000) o_82 go_82)) 35 fo_82) 36 la_82) 37 (cI (k_82) u_82 gu_82)))) dX7_count_85 rfl ⟨by (unfold Sp_count; first | (rw [if_pos (by omega)]; done) | (rw [if_neg (by omega), if_pos (by omega)]; done) | (rw [if_neg (by omega), if_neg (by omega), if_pos (by omega)]; done) | (rw [if_neg (by omega), if_neg (by omega), if_neg (by omega), if_pos (by omega)]; done) | (rw [if_neg (by omega), if_neg (by omega), if_neg (by omega), if_neg (by omega), if_pos (by omega)]; done) | (rw [if_neg (by omega), if_neg (by omega), if_neg (by omega), if_neg (by omega), if_neg (by omega), if_pos (by omega)]; done) | (rw [if_neg (by omega), if_neg (by omega), if_neg (by omega), if_neg (by omega), if_neg (by omega), if_neg (by omega), if_pos (by omega)]; done) | (rw [if_neg (by omega), if_neg (by omega), if_neg (by omega), if_neg (by omega), if_neg (by omega), if_neg (by omega), if_neg (by omega), if_pos (by omega)]; done) | (rw [if_neg (by omega), if_neg (by omega), if_neg (by omega), if_neg (by omega), if_neg (by omega), if_neg (by omega), if_neg (by omega), if_neg (by omega), if_pos (by omega)]; done) | (rw [if_neg (by omega), if_neg (by omega), if_neg (by omega), if_neg (by omega), if_neg (by omega), if_neg (by omega), if_neg (by omega), if_neg (by omega), if_neg (by omega)]; done)), by exact ⟨rfl, rfl, rfl, rfl, rfl, rfl, rfl, rfl, rfl, rfl, rfl, rfl, rfl, rfl, rfl, rfl⟩⟩ rfl (Nat.le_refl _) (Nat.le_refl _)
  · -- 6:6
    refine z_tsw_in hC 6 86 dX7_count_6 (by omega) hs1 (by decide) (by decide) rfl rfl ?_
    refine z_aload_n hC 86 hl dX7_count_86 rfl 0 rfl ?_
    refine gmW_12 (x := un) hC hH 87 rfl dX7_count_87 ?_
    -- R90.8
    exact z_iret hC hH hQ 90 ((un, (va_up (va_up (va_up (va_up (va_up (va_up (va_up F 0 (0)) 2 (tp)) 5 ((n : Int))) 6 ((b : Int))) 7 ((t : Int))) 8 (ln)) 12 (un)), (va_up (va_up Ar 3 (cI (n) v gv)) 4 (cI (n) wt gw)))) dX7_count_90 rfl ⟨by (unfold Sp_count; first | (rw [if_pos (by omega)]; done) | (rw [if_neg (by omega), if_pos (by omega)]; done) | (rw [if_neg (by omega), if_neg (by omega), if_pos (by omega)]; done) | (rw [if_neg (by omega), if_neg (by omega), if_neg (by omega), if_pos (by omega)]; done) | (rw [if_neg (by omega), if_neg (by omega), if_neg (by omega), if_neg (by omega), if_pos (by omega)]; done) | (rw [if_neg (by omega), if_neg (by omega), if_neg (by omega), if_neg (by omega), if_neg (by omega), if_pos (by omega)]; done) | (rw [if_neg (by omega), if_neg (by omega), if_neg (by omega), if_neg (by omega), if_neg (by omega), if_neg (by omega), if_pos (by omega)]; done) | (rw [if_neg (by omega), if_neg (by omega), if_neg (by omega), if_neg (by omega), if_neg (by omega), if_neg (by omega), if_neg (by omega), if_pos (by omega)]; done) | (rw [if_neg (by omega), if_neg (by omega), if_neg (by omega), if_neg (by omega), if_neg (by omega), if_neg (by omega), if_neg (by omega), if_neg (by omega), if_pos (by omega)]; done) | (rw [if_neg (by omega), if_neg (by omega), if_neg (by omega), if_neg (by omega), if_neg (by omega), if_neg (by omega), if_neg (by omega), if_neg (by omega), if_neg (by omega)]; done)), by exact ⟨rfl, rfl, rfl, rfl, rfl, rfl, rfl, rfl, rfl, rfl, rfl, rfl, rfl, rfl, rfl, rfl⟩⟩ rfl (Nat.le_refl _) (Nat.le_refl _)
  · -- 6:7
    refine z_tsw_in hC 6 91 dX7_count_6 (by omega) hs1 (by decide) (by decide) rfl rfl ?_
    refine z_aload_n hC 91 hl dX7_count_91 rfl 0 rfl ?_
    refine z_same (z_runV hC hH.2.2 hl.1 hH.1 hH.2.1 0 (As := []) (rest := []) (m_X7_weightsIn lau s0 G _ ad (va_up (va_up (va_up (va_up (va_up (va_up (va_up F 0 (0)) 2 (tp)) 5 ((n : Int))) 6 ((b : Int))) 7 ((t : Int))) 8 (ln)) 12 (un)) (va_up (va_up Ar 3 (cI (n) v gv)) 4 (cI (n) wt gw)) n wt gw (by first | assumption | omega) (by first | assumption | omega)) (lw_V q1968 q1970 qs87 q95 q1971) ⟨rfl, by decide, by decide, by decide +kernel⟩ (q0 := 0) (ci := 0) rfl rfl rfl rfl (Nat.le_of_ble_eq_true rfl) ⟨Nat.le_of_ble_eq_true rfl, Nat.le_of_ble_eq_true rfl⟩ ⟨Nat.le_of_ble_eq_true rfl, Nat.le_of_ble_eq_true rfl⟩ dX7_count_92) hH (fun _ H locs hpost hH => ?_)
    have hH : zH s0 s1 G as0 (mW ad G (va_up (va_up (va_up (va_up (va_up (va_up (va_up F 0 (0)) 2 (tp)) 5 ((n : Int))) 6 ((b : Int))) 7 ((t : Int))) 8 (ln)) 12 (un)) (va_up (va_up Ar 3 (cI (n) v gv)) 4 (cI (n) wt gw))) H locs := hH
    refine z_st (st' := [.int (iZ (((sm wt 0 n : Nat) : Int)))]) rfl ?_
    -- R95.9
    exact z_iret hC hH hQ 95 ((((sm wt 0 n : Nat) : Int), (va_up (va_up (va_up (va_up (va_up (va_up (va_up F 0 (0)) 2 (tp)) 5 ((n : Int))) 6 ((b : Int))) 7 ((t : Int))) 8 (ln)) 12 (un)), (va_up (va_up Ar 3 (cI (n) v gv)) 4 (cI (n) wt gw)))) dX7_count_95 rfl ⟨by (unfold Sp_count; first | (rw [if_pos (by omega)]; done) | (rw [if_neg (by omega), if_pos (by omega)]; done) | (rw [if_neg (by omega), if_neg (by omega), if_pos (by omega)]; done) | (rw [if_neg (by omega), if_neg (by omega), if_neg (by omega), if_pos (by omega)]; done) | (rw [if_neg (by omega), if_neg (by omega), if_neg (by omega), if_neg (by omega), if_pos (by omega)]; done) | (rw [if_neg (by omega), if_neg (by omega), if_neg (by omega), if_neg (by omega), if_neg (by omega), if_pos (by omega)]; done) | (rw [if_neg (by omega), if_neg (by omega), if_neg (by omega), if_neg (by omega), if_neg (by omega), if_neg (by omega), if_pos (by omega)]; done) | (rw [if_neg (by omega), if_neg (by omega), if_neg (by omega), if_neg (by omega), if_neg (by omega), if_neg (by omega), if_neg (by omega), if_pos (by omega)]; done) | (rw [if_neg (by omega), if_neg (by omega), if_neg (by omega), if_neg (by omega), if_neg (by omega), if_neg (by omega), if_neg (by omega), if_neg (by omega), if_pos (by omega)]; done) | (rw [if_neg (by omega), if_neg (by omega), if_neg (by omega), if_neg (by omega), if_neg (by omega), if_neg (by omega), if_neg (by omega), if_neg (by omega), if_neg (by omega)]; done)), by exact ⟨rfl, rfl, rfl, rfl, rfl, rfl, rfl, rfl, rfl, rfl, rfl, rfl, rfl, rfl, rfl, rfl⟩⟩ rfl (Nat.le_refl _) (Nat.le_refl _)
  · -- 6:8
    refine z_tsw_in hC 6 96 dX7_count_6 (by omega) hs1 (by decide) (by decide) rfl rfl ?_
    refine z_aload_n hC 96 hl dX7_count_96 rfl 0 rfl ?_
    refine gmW_2 (x := tp) hC hH 97 rfl dX7_count_97 ?_
    -- R100.10
    exact z_iret hC hH hQ 100 ((tp, (va_up (va_up (va_up (va_up (va_up (va_up (va_up F 0 (0)) 2 (tp)) 5 ((n : Int))) 6 ((b : Int))) 7 ((t : Int))) 8 (ln)) 12 (un)), (va_up (va_up Ar 3 (cI (n) v gv)) 4 (cI (n) wt gw)))) dX7_count_100 rfl ⟨by (unfold Sp_count; first | (rw [if_pos (by omega)]; done) | (rw [if_neg (by omega), if_pos (by omega)]; done) | (rw [if_neg (by omega), if_neg (by omega), if_pos (by omega)]; done) | (rw [if_neg (by omega), if_neg (by omega), if_neg (by omega), if_pos (by omega)]; done) | (rw [if_neg (by omega), if_neg (by omega), if_neg (by omega), if_neg (by omega), if_pos (by omega)]; done) | (rw [if_neg (by omega), if_neg (by omega), if_neg (by omega), if_neg (by omega), if_neg (by omega), if_pos (by omega)]; done) | (rw [if_neg (by omega), if_neg (by omega), if_neg (by omega), if_neg (by omega), if_neg (by omega), if_neg (by omega), if_pos (by omega)]; done) | (rw [if_neg (by omega), if_neg (by omega), if_neg (by omega), if_neg (by omega), if_neg (by omega), if_neg (by omega), if_neg (by omega), if_pos (by omega)]; done) | (rw [if_neg (by omega), if_neg (by omega), if_neg (by omega), if_neg (by omega), if_neg (by omega), if_neg (by omega), if_neg (by omega), if_neg (by omega), if_pos (by omega)]; done) | (rw [if_neg (by omega), if_neg (by omega), if_neg (by omega), if_neg (by omega), if_neg (by omega), if_neg (by omega), if_neg (by omega), if_neg (by omega), if_neg (by omega)]; done)), by exact ⟨rfl, rfl, rfl, rfl, rfl, rfl, rfl, rfl, rfl, rfl, rfl, rfl, rfl, rfl, rfl, rfl⟩⟩ rfl (Nat.le_refl _) (Nat.le_refl _)

set_option maxHeartbeats 4000000 in
set_option maxRecDepth 100000 in
theorem m_X7_place (lau : Launch) (s0 : State) (G : zG) (sz : Nat) (ad : Nat → Nat) (F : Nat → Int) (Ar : Nat → Nat → Int) (n : Nat) (v : Nat → Nat) (gv : Nat → Int) (wt : Nat → Nat) (gw : Nat → Int) (b : Nat) (p : Int) (q : Int) (hn : n ≤ 120) (hv : ∀ i, i < n → v i < 1000) (hwt : ∀ i, i < n → 1 ≤ wt i ∧ wt i ≤ 9) (hb : 2 ≤ b ∧ b ≤ 20) (hr_p : -2147483648 ≤ p ∧ p < 2147483648) (hr_q : -2147483648 ≤ q ∧ q < 2147483648) : zMet (S := Int × Int) lau yX7_place cX7_place 3 (some .int) 2 44 0 0 s0 G sz [.ref (ad 0), .int (iZ (p)), .int (iZ (q))] (mW ad G (va_up (va_up F 5 ((n : Int))) 6 ((b : Int))) (va_up (va_up Ar 3 (cI (n) v gv)) 4 (cI (n) wt gw))) (fun ((r_, th) : Int × Int) => some (.int (iZ (r_)))) (fun ((r_, th) : Int × Int) => (Sp_place n v wt b p q th r_)) (fun ((r_, th) : Int × Int) => (mW ad G (va_up (va_up (va_up F 0 (th)) 5 ((n : Int))) 6 ((b : Int))) (va_up (va_up Ar 3 (cI (n) v gv)) 4 (cI (n) wt gw)))) := by
  refine zMet.of (by decide) (Nat.le_of_ble_eq_true rfl) ?_
  intro pg ev s1 mi ar bl me cd ls Q as0 hC hH hl hQ hsz
  generalize s1.heap = H at hH ⊢
  generalize ([] : List Loc) = locs at hH ⊢
  have hl : lv_has ls 3 [(0, .ref (ad 0)), (1, .int (iZ (p))), (2, .int (iZ (q)))] := hl
  refine z_aload_n hC 0 hl dX7_place_0 rfl 0 rfl ?_
  refine z_iconst hC 1 dX7_place_1 ?_
  refine pmW_0 hC hH 2 dX7_place_2 (fun H locs hH => ?_)
  have hH : zH s0 s1 G as0 (mW ad G (va_up (va_up (va_up F 0 (0)) 5 ((n : Int))) 6 ((b : Int))) (va_up (va_up Ar 3 (cI (n) v gv)) 4 (cI (n) wt gw))) H locs := hH
  refine z_aload_n hC 5 hl dX7_place_5 rfl 0 rfl ?_
  refine z_iload_n hC 6 hl dX7_place_6 rfl 1 rfl ?_
  refine z_same (z_runV hC hH.2.2 hl.1 hH.1 hH.2.1 1 (As := [.int (iZ (p))]) (rest := []) (m_X7_isPlace lau s0 G _ ad (va_up (va_up (va_up F 0 (0)) 5 ((n : Int))) 6 ((b : Int))) (va_up (va_up Ar 3 (cI (n) v gv)) 4 (cI (n) wt gw)) n p (by first | assumption | omega) (by first | assumption | omega)) (lw_V q1641 q1643 qs57 q95 q1644) ⟨rfl, by decide, by decide, by decide +kernel⟩ (q0 := 0) (ci := 0) rfl rfl rfl rfl (Nat.le_of_ble_eq_true rfl) ⟨Nat.le_of_ble_eq_true rfl, Nat.le_of_ble_eq_true rfl⟩ ⟨Nat.le_of_ble_eq_true rfl, Nat.le_of_ble_eq_true rfl⟩ dX7_place_7) hH (fun r_7 H locs hpost hH => ?_)
  have hb_7 : (r_7 = 1 ∧ (0 ≤ p ∧ p < (n : Int))) ∨ (r_7 = 0 ∧ ¬ (0 ≤ p ∧ p < (n : Int))) := hpost
  have hH : zH s0 s1 G as0 (mW ad G (va_up (va_up (va_up F 0 (0)) 5 ((n : Int))) 6 ((b : Int))) (va_up (va_up Ar 3 (cI (n) v gv)) 4 (cI (n) wt gw))) H locs := hH
  refine z_st (st' := [.int (iZ (r_7))]) rfl ?_
  rcases hb_7 with ⟨rfl, hb_7⟩ | ⟨rfl, hb_7⟩
  · -- 7=1
    refine z_if_ne_t hC 10 20 dX7_place_10 rfl (by omega) (by omega) ?_
    obtain ⟨p1, rfl⟩ := Int.eq_ofNat_of_zero_le (show 0 ≤ p by omega)
    have hv1 := fun h => hv (p1) h
    refine z_iload_n hC 20 hl dX7_place_20 rfl 2 rfl ?_
    rcases (show (q < 0 ∨ 5 < q) ∨ q = 0 ∨ q = 1 ∨ q = 2 ∨ q = 3 ∨ q = 4 ∨ q = 5 from by omega) with hs1 | hs1 | hs1 | hs1 | hs1 | hs1 | hs1
    · -- 21:default
      refine z_tsw_out hC 21 110 dX7_place_21 (by omega) hs1 rfl ?_
      refine z_aload_n hC 110 hl dX7_place_110 rfl 0 rfl ?_
      refine z_iconst hC 111 dX7_place_111 ?_
      refine pmW_0 hC hH 112 dX7_place_112 (fun H locs hH => ?_)
      have hH : zH s0 s1 G as0 (mW ad G (va_up (va_up (va_up F 0 (2)) 5 ((n : Int))) 6 ((b : Int))) (va_up (va_up Ar 3 (cI (n) v gv)) 4 (cI (n) wt gw))) H locs := hH
      refine z_iconst hC 115 dX7_place_115 ?_
      -- R116.1
      exact z_iret hC hH hQ 116 ((0, 2)) dX7_place_116 rfl (by (try dsimp only); first | (unfold Sp_place; rw [if_neg (by omega)]; exact ⟨rfl, rfl⟩) | (unfold Sp_place; rw [if_pos (by omega), if_neg (by omega)]; exact ⟨rfl, rfl⟩) | (unfold Sp_place; rw [if_pos (by omega), if_pos (by omega)]; refine ⟨rfl, ?_⟩; simp only [Int.toNat_natCast]; first | (rw [if_pos (by omega)]; first | done | rfl | assumption) | (rw [if_neg (by omega), if_pos (by omega)]; first | done | rfl | assumption) | (rw [if_neg (by omega), if_neg (by omega), if_pos (by omega)]; first | done | rfl | assumption) | (rw [if_neg (by omega), if_neg (by omega), if_neg (by omega), if_pos (by omega)]; first | done | rfl | assumption) | (rw [if_neg (by omega), if_neg (by omega), if_neg (by omega), if_neg (by omega), if_pos (by omega)]; first | done | rfl | assumption) | (rw [if_neg (by omega), if_neg (by omega), if_neg (by omega), if_neg (by omega), if_neg (by omega)]; first | done | rfl | assumption))) rfl (Nat.le_refl _) (Nat.le_refl _)
    · -- 21:0
      refine z_tsw_in hC 21 60 dX7_place_21 (by omega) hs1 (by decide) (by decide) rfl rfl ?_
      refine z_aload_n hC 60 hl dX7_place_60 rfl 0 rfl ?_
      refine gmW_3 hC hH 61 dX7_place_61 ?_
      refine z_iload_n hC 64 hl dX7_place_64 rfl 1 rfl ?_
      refine lmW_3 (x := ((v p1 : Nat) : Int)) hC hH 65 (p1) (by omega) (by omega) (cI_lt (by omega)) dX7_place_65 ?_
      -- R66.2
      exact z_iret hC hH hQ 66 ((((v p1 : Nat) : Int), 0)) dX7_place_66 rfl (by (try dsimp only); first | (unfold Sp_place; rw [if_neg (by omega)]; exact ⟨rfl, rfl⟩) | (unfold Sp_place; rw [if_pos (by omega), if_neg (by omega)]; exact ⟨rfl, rfl⟩) | (unfold Sp_place; rw [if_pos (by omega), if_pos (by omega)]; refine ⟨rfl, ?_⟩; simp only [Int.toNat_natCast]; first | (rw [if_pos (by omega)]; first | done | rfl | assumption) | (rw [if_neg (by omega), if_pos (by omega)]; first | done | rfl | assumption) | (rw [if_neg (by omega), if_neg (by omega), if_pos (by omega)]; first | done | rfl | assumption) | (rw [if_neg (by omega), if_neg (by omega), if_neg (by omega), if_pos (by omega)]; first | done | rfl | assumption) | (rw [if_neg (by omega), if_neg (by omega), if_neg (by omega), if_neg (by omega), if_pos (by omega)]; first | done | rfl | assumption) | (rw [if_neg (by omega), if_neg (by omega), if_neg (by omega), if_neg (by omega), if_neg (by omega)]; first | done | rfl | assumption))) rfl (Nat.le_refl _) (Nat.le_refl _)
    · -- 21:1
      refine z_tsw_in hC 21 67 dX7_place_21 (by omega) hs1 (by decide) (by decide) rfl rfl ?_
      refine z_aload_n hC 67 hl dX7_place_67 rfl 0 rfl ?_
      refine gmW_4 hC hH 68 dX7_place_68 ?_
      refine z_iload_n hC 71 hl dX7_place_71 rfl 1 rfl ?_
      refine lmW_4 (x := ((wt p1 : Nat) : Int)) hC hH 72 (p1) (by omega) (by omega) (cI_lt (by omega)) dX7_place_72 ?_
      -- R73.3
      exact z_iret hC hH hQ 73 ((((wt p1 : Nat) : Int), 0)) dX7_place_73 rfl (by (try dsimp only); first | (unfold Sp_place; rw [if_neg (by omega)]; exact ⟨rfl, rfl⟩) | (unfold Sp_place; rw [if_pos (by omega), if_neg (by omega)]; exact ⟨rfl, rfl⟩) | (unfold Sp_place; rw [if_pos (by omega), if_pos (by omega)]; refine ⟨rfl, ?_⟩; simp only [Int.toNat_natCast]; first | (rw [if_pos (by omega)]; first | done | rfl | assumption) | (rw [if_neg (by omega), if_pos (by omega)]; first | done | rfl | assumption) | (rw [if_neg (by omega), if_neg (by omega), if_pos (by omega)]; first | done | rfl | assumption) | (rw [if_neg (by omega), if_neg (by omega), if_neg (by omega), if_pos (by omega)]; first | done | rfl | assumption) | (rw [if_neg (by omega), if_neg (by omega), if_neg (by omega), if_neg (by omega), if_pos (by omega)]; first | done | rfl | assumption) | (rw [if_neg (by omega), if_neg (by omega), if_neg (by omega), if_neg (by omega), if_neg (by omega)]; first | done | rfl | assumption))) rfl (Nat.le_refl _) (Nat.le_refl _)
    · -- 21:2
      refine z_tsw_in hC 21 74 dX7_place_21 (by omega) hs1 (by decide) (by decide) rfl rfl ?_
      refine z_iload_n hC 74 hl dX7_place_74 rfl 1 rfl ?_
      refine z_aload_n hC 75 hl dX7_place_75 rfl 0 rfl ?_
      refine gmW_6 (x := (b : Int)) hC hH 76 rfl dX7_place_76 ?_
      refine z_idiv hC 79 (p1) (b) dX7_place_79 (by omega) (by omega) (by omega) (by omega) ((zdiv p1 b)) rfl ?_
      -- R80.4
      exact z_iret hC hH hQ 80 ((((zdiv p1 b : Nat) : Int), 0)) dX7_place_80 rfl (by (try dsimp only); first | (unfold Sp_place; rw [if_neg (by omega)]; exact ⟨rfl, rfl⟩) | (unfold Sp_place; rw [if_pos (by omega), if_neg (by omega)]; exact ⟨rfl, rfl⟩) | (unfold Sp_place; rw [if_pos (by omega), if_pos (by omega)]; refine ⟨rfl, ?_⟩; simp only [Int.toNat_natCast]; first | (rw [if_pos (by omega)]; first | done | rfl | assumption) | (rw [if_neg (by omega), if_pos (by omega)]; first | done | rfl | assumption) | (rw [if_neg (by omega), if_neg (by omega), if_pos (by omega)]; first | done | rfl | assumption) | (rw [if_neg (by omega), if_neg (by omega), if_neg (by omega), if_pos (by omega)]; first | done | rfl | assumption) | (rw [if_neg (by omega), if_neg (by omega), if_neg (by omega), if_neg (by omega), if_pos (by omega)]; first | done | rfl | assumption) | (rw [if_neg (by omega), if_neg (by omega), if_neg (by omega), if_neg (by omega), if_neg (by omega)]; first | done | rfl | assumption))) rfl (Nat.le_refl _) (Nat.le_refl _)
    · -- 21:3
      refine z_tsw_in hC 21 81 dX7_place_21 (by omega) hs1 (by decide) (by decide) rfl rfl ?_
      refine z_aload_n hC 81 hl dX7_place_81 rfl 0 rfl ?_
      refine z_iconst hC 82 dX7_place_82 ?_
      refine z_iload_n hC 83 hl dX7_place_83 rfl 1 rfl ?_
      refine z_iconst hC 84 dX7_place_84 ?_
      refine z_isub (e := (p1 : Int) - 1) hC 85 dX7_place_85 rfl ?_
      refine z_aload_n hC 86 hl dX7_place_86 rfl 0 rfl ?_
      refine gmW_3 hC hH 87 dX7_place_87 ?_
      refine z_iload_n hC 90 hl dX7_place_90 rfl 1 rfl ?_
      refine lmW_3 (x := ((v p1 : Nat) : Int)) hC hH 91 (p1) (by omega) (by omega) (cI_lt (by omega)) dX7_place_91 ?_
      refine z_st (st' := [.int (iZ (((v p1 : Nat) : Int))), .int (iZ ((p1 : Int) - 1)), .int (iZ (((0 : Nat) : Int))), .ref (ad 0)]) (zcons rfl (zcons rfl (zcons (zieq (by omega)) rfl))) ?_
      refine z_same (z_runV hC hH.2.2 hl.1 hH.1 hH.2.1 3 (As := [.int (iZ (((0 : Nat) : Int))), .int (iZ ((p1 : Int) - 1)), .int (iZ (((v p1 : Nat) : Int)))]) (rest := []) (m_X7_timesIn lau s0 G _ ad (va_up (va_up (va_up F 0 (0)) 5 ((n : Int))) 6 ((b : Int))) (va_up (va_up Ar 3 (cI (n) v gv)) 4 (cI (n) wt gw)) n v gv 0 p1 (v p1) (by first | assumption | omega) (by first | assumption | omega) (by first | assumption | omega) (by first | assumption | omega) (by exact hv _ (by omega))) (lw_V q1645 q1647 qs58 q95 q1648) ⟨rfl, by decide, by decide, by decide +kernel⟩ (q0 := 0) (ci := 0) rfl rfl rfl rfl (Nat.le_of_ble_eq_true rfl) ⟨Nat.le_of_ble_eq_true rfl, Nat.le_of_ble_eq_true rfl⟩ ⟨Nat.le_of_ble_eq_true rfl, Nat.le_of_ble_eq_true rfl⟩ dX7_place_92) hH (fun _ H locs hpost hH => ?_)
      have hH : zH s0 s1 G as0 (mW ad G (va_up (va_up (va_up F 0 (0)) 5 ((n : Int))) 6 ((b : Int))) (va_up (va_up Ar 3 (cI (n) v gv)) 4 (cI (n) wt gw))) H locs := hH
      refine z_st (st' := [.int (iZ (((cnt v 0 p1 (v p1) : Nat) : Int)))]) rfl ?_
      -- R95.5
      exact z_iret hC hH hQ 95 ((((cnt v 0 p1 (v p1) : Nat) : Int), 0)) dX7_place_95 rfl (by (try dsimp only); first | (unfold Sp_place; rw [if_neg (by omega)]; exact ⟨rfl, rfl⟩) | (unfold Sp_place; rw [if_pos (by omega), if_neg (by omega)]; exact ⟨rfl, rfl⟩) | (unfold Sp_place; rw [if_pos (by omega), if_pos (by omega)]; refine ⟨rfl, ?_⟩; simp only [Int.toNat_natCast]; first | (rw [if_pos (by omega)]; first | done | rfl | assumption) | (rw [if_neg (by omega), if_pos (by omega)]; first | done | rfl | assumption) | (rw [if_neg (by omega), if_neg (by omega), if_pos (by omega)]; first | done | rfl | assumption) | (rw [if_neg (by omega), if_neg (by omega), if_neg (by omega), if_pos (by omega)]; first | done | rfl | assumption) | (rw [if_neg (by omega), if_neg (by omega), if_neg (by omega), if_neg (by omega), if_pos (by omega)]; first | done | rfl | assumption) | (rw [if_neg (by omega), if_neg (by omega), if_neg (by omega), if_neg (by omega), if_neg (by omega)]; first | done | rfl | assumption))) rfl (Nat.le_refl _) (Nat.le_refl _)
    · -- 21:4
      refine z_tsw_in hC 21 96 dX7_place_21 (by omega) hs1 (by decide) (by decide) rfl rfl ?_
      refine z_aload_n hC 96 hl dX7_place_96 rfl 0 rfl ?_
      refine z_iload_n hC 97 hl dX7_place_97 rfl 1 rfl ?_
      refine z_iconst hC 98 dX7_place_98 ?_
      refine z_same (z_runV hC hH.2.2 hl.1 hH.1 hH.2.1 2 (As := [.int (iZ ((p1 : Int))), .int (iZ (1))]) (rest := []) (m_X7_nextTo lau s0 G _ ad (va_up (va_up (va_up F 0 (0)) 5 ((n : Int))) 6 ((b : Int))) (va_up (va_up Ar 3 (cI (n) v gv)) 4 (cI (n) wt gw)) n v gv p1 1 (by first | assumption | omega) (by first | assumption | omega) (by first | assumption | omega) (by first | assumption | omega)) (lw_V q1649 q1651 qs59 q95 q1652) ⟨rfl, by decide, by decide, by decide +kernel⟩ (q0 := 0) (ci := 0) rfl rfl rfl rfl (Nat.le_of_ble_eq_true rfl) ⟨Nat.le_of_ble_eq_true rfl, Nat.le_of_ble_eq_true rfl⟩ ⟨Nat.le_of_ble_eq_true rfl, Nat.le_of_ble_eq_true rfl⟩ dX7_place_99) hH (fun r_99 H locs hpost hH => ?_)
      have p1_99 : r_99 = nxR v n (p1 + 1) p1 (v p1) (1 : Int) := hpost
      have hH : zH s0 s1 G as0 (mW ad G (va_up (va_up (va_up F 0 (0)) 5 ((n : Int))) 6 ((b : Int))) (va_up (va_up Ar 3 (cI (n) v gv)) 4 (cI (n) wt gw))) H locs := hH
      refine z_st (st' := [.int (iZ (r_99))]) rfl ?_
      -- R102.6
      exact z_iret hC hH hQ 102 ((r_99, 0)) dX7_place_102 rfl (by (try dsimp only); first | (unfold Sp_place; rw [if_neg (by omega)]; exact ⟨rfl, rfl⟩) | (unfold Sp_place; rw [if_pos (by omega), if_neg (by omega)]; exact ⟨rfl, rfl⟩) | (unfold Sp_place; rw [if_pos (by omega), if_pos (by omega)]; refine ⟨rfl, ?_⟩; simp only [Int.toNat_natCast]; first | (rw [if_pos (by omega)]; first | done | rfl | assumption) | (rw [if_neg (by omega), if_pos (by omega)]; first | done | rfl | assumption) | (rw [if_neg (by omega), if_neg (by omega), if_pos (by omega)]; first | done | rfl | assumption) | (rw [if_neg (by omega), if_neg (by omega), if_neg (by omega), if_pos (by omega)]; first | done | rfl | assumption) | (rw [if_neg (by omega), if_neg (by omega), if_neg (by omega), if_neg (by omega), if_pos (by omega)]; first | done | rfl | assumption) | (rw [if_neg (by omega), if_neg (by omega), if_neg (by omega), if_neg (by omega), if_neg (by omega)]; first | done | rfl | assumption))) rfl (Nat.le_refl _) (Nat.le_refl _)
    · -- 21:5
      refine z_tsw_in hC 21 103 dX7_place_21 (by omega) hs1 (by decide) (by decide) rfl rfl ?_
      refine z_aload_n hC 103 hl dX7_place_103 rfl 0 rfl ?_
      refine z_iload_n hC 104 hl dX7_place_104 rfl 1 rfl ?_
      refine z_iconst hC 105 dX7_place_105 ?_
      refine z_same (z_runV hC hH.2.2 hl.1 hH.1 hH.2.1 2 (As := [.int (iZ ((p1 : Int))), .int (iZ ((-1)))]) (rest := []) (m_X7_nextTo lau s0 G _ ad (va_up (va_up (va_up F 0 (0)) 5 ((n : Int))) 6 ((b : Int))) (va_up (va_up Ar 3 (cI (n) v gv)) 4 (cI (n) wt gw)) n v gv p1 (-1) (by first | assumption | omega) (by first | assumption | omega) (by first | assumption | omega) (by first | assumption | omega)) (lw_V q1649 q1651 qs59 q95 q1652) ⟨rfl, by decide, by decide, by decide +kernel⟩ (q0 := 0) (ci := 0) rfl rfl rfl rfl (Nat.le_of_ble_eq_true rfl) ⟨Nat.le_of_ble_eq_true rfl, Nat.le_of_ble_eq_true rfl⟩ ⟨Nat.le_of_ble_eq_true rfl, Nat.le_of_ble_eq_true rfl⟩ dX7_place_106) hH (fun r_106 H locs hpost hH => ?_)
      have p1_106 : r_106 = nxR v n (p1 + 1) p1 (v p1) ((-1) : Int) := hpost
      have hH : zH s0 s1 G as0 (mW ad G (va_up (va_up (va_up F 0 (0)) 5 ((n : Int))) 6 ((b : Int))) (va_up (va_up Ar 3 (cI (n) v gv)) 4 (cI (n) wt gw))) H locs := hH
      refine z_st (st' := [.int (iZ (r_106))]) rfl ?_
      -- R109.7
      exact z_iret hC hH hQ 109 ((r_106, 0)) dX7_place_109 rfl (by (try dsimp only); first | (unfold Sp_place; rw [if_neg (by omega)]; exact ⟨rfl, rfl⟩) | (unfold Sp_place; rw [if_pos (by omega), if_neg (by omega)]; exact ⟨rfl, rfl⟩) | (unfold Sp_place; rw [if_pos (by omega), if_pos (by omega)]; refine ⟨rfl, ?_⟩; simp only [Int.toNat_natCast]; first | (rw [if_pos (by omega)]; first | done | rfl | assumption) | (rw [if_neg (by omega), if_pos (by omega)]; first | done | rfl | assumption) | (rw [if_neg (by omega), if_neg (by omega), if_pos (by omega)]; first | done | rfl | assumption) | (rw [if_neg (by omega), if_neg (by omega), if_neg (by omega), if_pos (by omega)]; first | done | rfl | assumption) | (rw [if_neg (by omega), if_neg (by omega), if_neg (by omega), if_neg (by omega), if_pos (by omega)]; first | done | rfl | assumption) | (rw [if_neg (by omega), if_neg (by omega), if_neg (by omega), if_neg (by omega), if_neg (by omega)]; first | done | rfl | assumption))) rfl (Nat.le_refl _) (Nat.le_refl _)
  · -- 7=0
    refine z_if_ne_f hC 10 20 dX7_place_10 rfl (by omega) (by omega) ?_
    refine z_aload_n hC 13 hl dX7_place_13 rfl 0 rfl ?_
    refine z_iconst hC 14 dX7_place_14 ?_
    refine pmW_0 hC hH 15 dX7_place_15 (fun H locs hH => ?_)
    have hH : zH s0 s1 G as0 (mW ad G (va_up (va_up (va_up F 0 (1)) 5 ((n : Int))) 6 ((b : Int))) (va_up (va_up Ar 3 (cI (n) v gv)) 4 (cI (n) wt gw))) H locs := hH
    refine z_iconst hC 18 dX7_place_18 ?_
    -- R19.8
    exact z_iret hC hH hQ 19 ((0, 1)) dX7_place_19 rfl (by (try dsimp only); first | (unfold Sp_place; rw [if_neg (by omega)]; exact ⟨rfl, rfl⟩) | (unfold Sp_place; rw [if_pos (by omega), if_neg (by omega)]; exact ⟨rfl, rfl⟩) | (unfold Sp_place; rw [if_pos (by omega), if_pos (by omega)]; refine ⟨rfl, ?_⟩; simp only [Int.toNat_natCast]; first | (rw [if_pos (by omega)]; first | done | rfl | assumption) | (rw [if_neg (by omega), if_pos (by omega)]; first | done | rfl | assumption) | (rw [if_neg (by omega), if_neg (by omega), if_pos (by omega)]; first | done | rfl | assumption) | (rw [if_neg (by omega), if_neg (by omega), if_neg (by omega), if_pos (by omega)]; first | done | rfl | assumption) | (rw [if_neg (by omega), if_neg (by omega), if_neg (by omega), if_neg (by omega), if_pos (by omega)]; first | done | rfl | assumption) | (rw [if_neg (by omega), if_neg (by omega), if_neg (by omega), if_neg (by omega), if_neg (by omega)]; first | done | rfl | assumption))) rfl (Nat.le_refl _) (Nat.le_refl _)

set_option maxHeartbeats 4000000 in
set_option maxRecDepth 100000 in
theorem m_X7_was (lau : Launch) (s0 : State) (G : zG) (sz : Nat) (ad : Nat → Nat) (F : Nat → Int) (Ar : Nat → Nat → Int) (n : Nat) (v : Nat → Nat) (gv : Nat → Int) (t : Nat) (un : Nat) (hm : Nat → Nat) (hvv : Nat → Nat → Nat) (hww : Nat → Nat → Nat) (pv : Nat → Int) (pw : Nat → Int) (pm : Nat → Int) (k : Int) (p : Int) (hn : n ≤ 120) (hv : ∀ i, i < n → v i < 1000) (ht : t < 4) (hr_k : -2147483648 ≤ k ∧ k < 2147483648) (hr_p : -2147483648 ≤ p ∧ p < 2147483648) (hun : un ≤ 12) (hPA : PAST un pv pw pm hm hvv hww) : zMet (S := Int × (Nat → Int) × (Nat → Nat → Int)) lau yX7_was cX7_was 4 (some .int) 0 0 0 0 s0 G sz [.ref (ad 0), .int (iZ (k)), .int (iZ (p))] (mW ad G (va_up (va_up (va_up F 5 ((n : Int))) 7 ((t : Int))) 12 ((un : Int))) (va_up (va_up (va_up (va_up Ar 3 (cI (n) v gv)) 9 pv) 10 pw) 11 pm)) (fun ((r_, F2, A2) : Int × (Nat → Int) × (Nat → Nat → Int)) => some (.int (iZ (r_)))) (fun ((r_, F2, A2) : Int × (Nat → Int) × (Nat → Nat → Int)) => (Sp_was n v un hm hvv k p r_) ∧ (MK (va_up (va_up (va_up F 5 ((n : Int))) 7 ((t : Int))) 12 ((un : Int))) (va_up (va_up (va_up (va_up Ar 3 (cI (n) v gv)) 9 pv) 10 pw) 11 pm) F2 A2)) (fun ((r_, F2, A2) : Int × (Nat → Int) × (Nat → Nat → Int)) => (mW ad G F2 A2)) := by
  refine zMet.of (by decide) (Nat.le_of_ble_eq_true rfl) ?_
  intro pg ev s1 mi ar bl me cd ls Q as0 hC hH hl hQ hsz
  generalize s1.heap = H at hH ⊢
  generalize ([] : List Loc) = locs at hH ⊢
  have hl : lv_has ls 4 [(0, .ref (ad 0)), (1, .int (iZ (k))), (2, .int (iZ (p)))] := hl
  refine z_aload_n hC 0 hl dX7_was_0 rfl 0 rfl ?_
  refine z_iconst hC 1 dX7_was_1 ?_
  refine pmW_0 hC hH 2 dX7_was_2 (fun H locs hH => ?_)
  have hH : zH s0 s1 G as0 (mW ad G (va_up (va_up (va_up (va_up F 0 (0)) 5 ((n : Int))) 7 ((t : Int))) 12 ((un : Int))) (va_up (va_up (va_up (va_up Ar 3 (cI (n) v gv)) 9 pv) 10 pw) 11 pm)) H locs := hH
  refine z_iload_n hC 5 hl dX7_was_5 rfl 1 rfl ?_
  refine z_if_lt hC 6 21 dX7_was_6 rfl (by omega) (fun hb1 => ?_) (fun hb1 => ?_)
  · -- 6t
    refine z_iconst hC 21 dX7_was_21 ?_
    -- R22.1
    exact z_iret hC hH hQ 22 (((-1), (va_up (va_up (va_up (va_up F 0 (0)) 5 ((n : Int))) 7 ((t : Int))) 12 ((un : Int))), (va_up (va_up (va_up (va_up Ar 3 (cI (n) v gv)) 9 pv) 10 pw) 11 pm))) dX7_was_22 rfl ⟨by first | (unfold Sp_was; rw [if_neg (by omega)]) | (unfold Sp_was; rw [if_pos (by omega)]), by exact ⟨rfl, rfl, rfl, rfl, rfl, rfl, rfl, rfl, rfl, rfl, rfl, rfl, rfl, rfl, rfl, rfl⟩⟩ rfl (Nat.le_refl _) (Nat.le_refl _)
  · -- 6f
    refine z_iload_n hC 9 hl dX7_was_9 rfl 1 rfl ?_
    refine z_aload_n hC 10 hl dX7_was_10 rfl 0 rfl ?_
    refine gmW_12 (x := (un : Int)) hC hH 11 rfl dX7_was_11 ?_
    refine z_icmp_gt hC 14 21 dX7_was_14 rfl (by omega) (by omega) (fun hb2 => ?_) (fun hb2 => ?_)
    · -- 14t
      refine z_iconst hC 21 dX7_was_21 ?_
      -- R22.2
      exact z_iret hC hH hQ 22 (((-1), (va_up (va_up (va_up (va_up F 0 (0)) 5 ((n : Int))) 7 ((t : Int))) 12 ((un : Int))), (va_up (va_up (va_up (va_up Ar 3 (cI (n) v gv)) 9 pv) 10 pw) 11 pm))) dX7_was_22 rfl ⟨by first | (unfold Sp_was; rw [if_neg (by omega)]) | (unfold Sp_was; rw [if_pos (by omega)]), by exact ⟨rfl, rfl, rfl, rfl, rfl, rfl, rfl, rfl, rfl, rfl, rfl, rfl, rfl, rfl, rfl, rfl⟩⟩ rfl (Nat.le_refl _) (Nat.le_refl _)
    · -- 14f
      refine z_iload_n hC 17 hl dX7_was_17 rfl 2 rfl ?_
      refine z_if_ge hC 18 23 dX7_was_18 rfl (by omega) (fun hb3 => ?_) (fun hb3 => ?_)
      · -- 18t
        obtain ⟨k1, rfl⟩ := Int.eq_ofNat_of_zero_le (show 0 ≤ k by omega)
        obtain ⟨p1, rfl⟩ := Int.eq_ofNat_of_zero_le (show 0 ≤ p by omega)
        refine z_iload_n hC 23 hl dX7_was_23 rfl 1 rfl ?_
        refine z_if_ne hC 24 47 dX7_was_24 rfl (by omega) (fun hb4 => ?_) (fun hb4 => ?_)
        · -- 24t
          refine z_aload_n hC 47 hl dX7_was_47 rfl 0 rfl ?_
          refine gmW_12 (x := (un : Int)) hC hH 48 rfl dX7_was_48 ?_
          refine z_iload_n hC 51 hl dX7_was_51 rfl 1 rfl ?_
          refine z_isub (e := (un : Int) - (k1 : Int)) hC 52 dX7_was_52 rfl ?_
          refine z_istore_n (lv' := [(3, .int (iZ ((un : Int) - (k1 : Int)))), (0, .ref (ad 0)), (1, .int (iZ ((k1 : Int)))), (2, .int (iZ ((p1 : Int))))]) hC 53 hl dX7_was_53 rfl (by decide) rfl (fun ls hl => ?_)
          have hpa := hPA (un - k1) (by omega)
          refine z_iload_n hC 54 hl dX7_was_54 rfl 3 rfl ?_
          refine z_aload_n hC 55 hl dX7_was_55 rfl 1 rfl ?_
          refine gmW_11 hC hH 56 dX7_was_56 ?_
          refine z_iload_n hC 59 hl dX7_was_59 rfl 0 rfl ?_
          refine lmW_11 (x := (pm (un - k1))) hC hH 60 (un - k1) (by omega) (by omega) rfl dX7_was_60 ?_
          refine z_icmp_ge hC 61 78 dX7_was_61 rfl (by omega) (by omega) (fun hb5 => ?_) (fun hb5 => ?_)
          · -- 61t
            refine z_bipush hC 78 dX7_was_78 rfl ?_
            -- R80.3
            exact z_iret hC hH hQ 80 (((-2), (va_up (va_up (va_up (va_up F 0 (0)) 5 ((n : Int))) 7 ((t : Int))) 12 ((un : Int))), (va_up (va_up (va_up (va_up Ar 3 (cI (n) v gv)) 9 pv) 10 pw) 11 pm))) dX7_was_80 rfl ⟨by (unfold Sp_was; rw [if_pos (by omega), if_neg (by omega)]; simp only [Int.toNat_natCast]; first | (rw [if_pos (by omega)]; omega) | (rw [if_neg (by omega)]; done)), by exact ⟨rfl, rfl, rfl, rfl, rfl, rfl, rfl, rfl, rfl, rfl, rfl, rfl, rfl, rfl, rfl, rfl⟩⟩ rfl (Nat.le_refl _) (Nat.le_refl _)
          · -- 61f
            have hpp := hpa.2.2 p1 (by omega)
            rw [show 120 * (un - k1) + p1 = 120 * un + p1 - 120 * k1 by omega] at hpp
            refine z_aload_n hC 64 hl dX7_was_64 rfl 1 rfl ?_
            refine gmW_9 hC hH 65 dX7_was_65 ?_
            refine z_bipush hC 68 dX7_was_68 rfl ?_
            refine z_iload_n hC 70 hl dX7_was_70 rfl 0 rfl ?_
            refine z_imul (e := 120 * (un : Int) - 120 * (k1 : Int)) hC 71 dX7_was_71 (by omega) ?_
            refine z_iload_n hC 72 hl dX7_was_72 rfl 3 rfl ?_
            refine z_iadd (e := 120 * (un : Int) - 120 * (k1 : Int) + (p1 : Int)) hC 73 dX7_was_73 rfl ?_
            refine lmW_9 (x := (pv (120 * un + p1 - 120 * k1))) hC hH 74 (120 * un + p1 - 120 * k1) (by omega) (by omega) rfl dX7_was_74 ?_
            refine z_goto hC 75 80 dX7_was_75 rfl ?_
            -- R80.4
            exact z_iret hC hH hQ 80 (((pv (120 * un + p1 - 120 * k1)), (va_up (va_up (va_up (va_up F 0 (0)) 5 ((n : Int))) 7 ((t : Int))) 12 ((un : Int))), (va_up (va_up (va_up (va_up Ar 3 (cI (n) v gv)) 9 pv) 10 pw) 11 pm))) dX7_was_80 rfl ⟨by (unfold Sp_was; rw [if_pos (by omega), if_neg (by omega)]; simp only [Int.toNat_natCast]; first | (rw [if_pos (by omega)]; omega) | (rw [if_neg (by omega)]; done)), by exact ⟨rfl, rfl, rfl, rfl, rfl, rfl, rfl, rfl, rfl, rfl, rfl, rfl, rfl, rfl, rfl, rfl⟩⟩ rfl (Nat.le_refl _) (Nat.le_refl _)
        · -- 24f
          refine z_iload_n hC 27 hl dX7_was_27 rfl 2 rfl ?_
          refine z_aload_n hC 28 hl dX7_was_28 rfl 0 rfl ?_
          refine gmW_5 (x := (n : Int)) hC hH 29 rfl dX7_was_29 ?_
          refine z_icmp_ge hC 32 44 dX7_was_32 rfl (by omega) (by omega) (fun hb6 => ?_) (fun hb6 => ?_)
          · -- 32t
            refine z_bipush hC 44 dX7_was_44 rfl ?_
            -- R46.5
            exact z_iret hC hH hQ 46 (((-2), (va_up (va_up (va_up (va_up F 0 (0)) 5 ((n : Int))) 7 ((t : Int))) 12 ((un : Int))), (va_up (va_up (va_up (va_up Ar 3 (cI (n) v gv)) 9 pv) 10 pw) 11 pm))) dX7_was_46 rfl ⟨by (unfold Sp_was; rw [if_pos (by omega), if_pos (by omega)]; simp only [Int.toNat_natCast]; first | (rw [if_pos (by omega)]; done) | (rw [if_neg (by omega)]; done)), by exact ⟨rfl, rfl, rfl, rfl, rfl, rfl, rfl, rfl, rfl, rfl, rfl, rfl, rfl, rfl, rfl, rfl⟩⟩ rfl (Nat.le_refl _) (Nat.le_refl _)
          · -- 32f
            refine z_aload_n hC 35 hl dX7_was_35 rfl 0 rfl ?_
            refine gmW_3 hC hH 36 dX7_was_36 ?_
            refine z_iload_n hC 39 hl dX7_was_39 rfl 2 rfl ?_
            refine lmW_3 (x := ((v p1 : Nat) : Int)) hC hH 40 (p1) (by omega) (by omega) (cI_lt (by omega)) dX7_was_40 ?_
            refine z_goto hC 41 46 dX7_was_41 rfl ?_
            -- R46.6
            exact z_iret hC hH hQ 46 ((((v p1 : Nat) : Int), (va_up (va_up (va_up (va_up F 0 (0)) 5 ((n : Int))) 7 ((t : Int))) 12 ((un : Int))), (va_up (va_up (va_up (va_up Ar 3 (cI (n) v gv)) 9 pv) 10 pw) 11 pm))) dX7_was_46 rfl ⟨by (unfold Sp_was; rw [if_pos (by omega), if_pos (by omega)]; simp only [Int.toNat_natCast]; first | (rw [if_pos (by omega)]; done) | (rw [if_neg (by omega)]; done)), by exact ⟨rfl, rfl, rfl, rfl, rfl, rfl, rfl, rfl, rfl, rfl, rfl, rfl, rfl, rfl, rfl, rfl⟩⟩ rfl (Nat.le_refl _) (Nat.le_refl _)
      · -- 18f
        refine z_iconst hC 21 dX7_was_21 ?_
        -- R22.7
        exact z_iret hC hH hQ 22 (((-1), (va_up (va_up (va_up (va_up F 0 (0)) 5 ((n : Int))) 7 ((t : Int))) 12 ((un : Int))), (va_up (va_up (va_up (va_up Ar 3 (cI (n) v gv)) 9 pv) 10 pw) 11 pm))) dX7_was_22 rfl ⟨by first | (unfold Sp_was; rw [if_neg (by omega)]) | (unfold Sp_was; rw [if_pos (by omega)]), by exact ⟨rfl, rfl, rfl, rfl, rfl, rfl, rfl, rfl, rfl, rfl, rfl, rfl, rfl, rfl, rfl, rfl⟩⟩ rfl (Nat.le_refl _) (Nat.le_refl _)

set_option maxHeartbeats 4000000 in
set_option maxRecDepth 100000 in
theorem m_X7_since (lau : Launch) (s0 : State) (G : zG) (sz : Nat) (ad : Nat → Nat) (F : Nat → Int) (Ar : Nat → Nat → Int) (n : Nat) (v : Nat → Nat) (gv : Nat → Int) (t : Nat) (un : Nat) (hm : Nat → Nat) (hvv : Nat → Nat → Nat) (hww : Nat → Nat → Nat) (pv : Nat → Int) (pw : Nat → Int) (pm : Nat → Int) (p : Int) (hn : n ≤ 120) (hv : ∀ i, i < n → v i < 1000) (ht : t < 4) (hr_p : -2147483648 ≤ p ∧ p < 2147483648) (hun : un ≤ 12) (hPA : PAST un pv pw pm hm hvv hww) : zMet (S := Int × (Nat → Int) × (Nat → Nat → Int)) lau yX7_since cX7_since 4 (some .int) 1 21 0 0 s0 G sz [.ref (ad 0), .int (iZ (p))] (mW ad G (va_up (va_up (va_up F 5 ((n : Int))) 7 ((t : Int))) 12 ((un : Int))) (va_up (va_up (va_up (va_up Ar 3 (cI (n) v gv)) 9 pv) 10 pw) 11 pm)) (fun ((r_, F2, A2) : Int × (Nat → Int) × (Nat → Nat → Int)) => some (.int (iZ (r_)))) (fun ((r_, F2, A2) : Int × (Nat → Int) × (Nat → Nat → Int)) => (Sp_since n v un hm hvv p r_) ∧ (MK (va_up (va_up (va_up F 5 ((n : Int))) 7 ((t : Int))) 12 ((un : Int))) (va_up (va_up (va_up (va_up Ar 3 (cI (n) v gv)) 9 pv) 10 pw) 11 pm) F2 A2)) (fun ((r_, F2, A2) : Int × (Nat → Int) × (Nat → Nat → Int)) => (mW ad G F2 A2)) := by
  refine zMet.of (by decide) (Nat.le_of_ble_eq_true rfl) ?_
  intro pg ev s1 mi ar bl me cd ls Q as0 hC hH hl hQ hsz
  generalize s1.heap = H at hH ⊢
  generalize ([] : List Loc) = locs at hH ⊢
  have hl : lv_has ls 4 [(0, .ref (ad 0)), (1, .int (iZ (p)))] := hl
  refine z_aload_n hC 0 hl dX7_since_0 rfl 0 rfl ?_
  refine z_iconst hC 1 dX7_since_1 ?_
  refine pmW_0 hC hH 2 dX7_since_2 (fun H locs hH => ?_)
  have hH : zH s0 s1 G as0 (mW ad G (va_up (va_up (va_up (va_up F 0 (0)) 5 ((n : Int))) 7 ((t : Int))) 12 ((un : Int))) (va_up (va_up (va_up (va_up Ar 3 (cI (n) v gv)) 9 pv) 10 pw) 11 pm)) H locs := hH
  refine z_aload_n hC 5 hl dX7_since_5 rfl 0 rfl ?_
  refine z_iload_n hC 6 hl dX7_since_6 rfl 1 rfl ?_
  refine z_same (z_runV hC hH.2.2 hl.1 hH.1 hH.2.1 1 (As := [.int (iZ (p))]) (rest := []) (m_X7_isPlace lau s0 G _ ad (va_up (va_up (va_up (va_up F 0 (0)) 5 ((n : Int))) 7 ((t : Int))) 12 ((un : Int))) (va_up (va_up (va_up (va_up Ar 3 (cI (n) v gv)) 9 pv) 10 pw) 11 pm) n p (by first | assumption | omega) (by first | assumption | omega)) (lw_V q1641 q1643 qs57 q95 q1644) ⟨rfl, by decide, by decide, by decide +kernel⟩ (q0 := 0) (ci := 0) rfl rfl rfl rfl (Nat.le_of_ble_eq_true rfl) ⟨Nat.le_of_ble_eq_true rfl, Nat.le_of_ble_eq_true rfl⟩ ⟨Nat.le_of_ble_eq_true rfl, Nat.le_of_ble_eq_true rfl⟩ dX7_since_7) hH (fun r_7 H locs hpost hH => ?_)
  have hb_7 : (r_7 = 1 ∧ (0 ≤ p ∧ p < (n : Int))) ∨ (r_7 = 0 ∧ ¬ (0 ≤ p ∧ p < (n : Int))) := hpost
  have hH : zH s0 s1 G as0 (mW ad G (va_up (va_up (va_up (va_up F 0 (0)) 5 ((n : Int))) 7 ((t : Int))) 12 ((un : Int))) (va_up (va_up (va_up (va_up Ar 3 (cI (n) v gv)) 9 pv) 10 pw) 11 pm)) H locs := hH
  refine z_st (st' := [.int (iZ (r_7))]) rfl ?_
  rcases hb_7 with ⟨rfl, hb_7⟩ | ⟨rfl, hb_7⟩
  · -- 7=1
    refine z_if_ne_t hC 10 15 dX7_since_10 rfl (by omega) (by omega) ?_
    obtain ⟨p1, rfl⟩ := Int.eq_ofNat_of_zero_le (show 0 ≤ p by omega)
    refine z_iconst hC 15 dX7_since_15 ?_
    refine z_istore_n (lv' := [(2, .int (iZ (1))), (0, .ref (ad 0)), (1, .int (iZ ((p1 : Int))))]) hC 16 hl dX7_since_16 rfl (by decide) rfl (fun ls hl => ?_)
    have L17 : ∀ (N_ : Nat) (k : Nat) (H : Heap) (locs : List Loc) (ls : Array Slot), un + 1 - k < N_ → (1 ≤ k) → (k ≤ un + 1) → (∀ j, 1 ≤ j → j < k → ¬ snC v un hm hvv p1 j) → zH s0 s1 G as0 (mW ad G (va_up (va_up (va_up (va_up F 0 (0)) 5 ((n : Int))) 7 ((t : Int))) 12 ((un : Int))) (va_up (va_up (va_up (va_up Ar 3 (cI (n) v gv)) 9 pv) 10 pw) 11 pm)) H locs → lv_has ls 4 [(0, .ref (ad 0)), (1, .int (iZ ((p1 : Int)))), (2, .int (iZ ((k : Int))))] → W pg lau ev (zRm 1 0 0 21) s1 mi ar bl me cd H locs 0 0 Q (F0 mi 17 ls []) := by
      intro N_
      induction N_ with
      | zero => intro k H locs ls hd; exact absurd hd (Nat.not_lt_zero _)
      | succ N_ ih17 =>
        intro k H locs ls hd17 i17_1 i17_2 ik hH hl
        refine z_iload_n hC 17 hl dX7_since_17 rfl 2 rfl ?_
        refine z_aload_n hC 18 hl dX7_since_18 rfl 0 rfl ?_
        refine gmW_12 (x := (un : Int)) hC hH 19 rfl dX7_since_19 ?_
        refine z_icmp_gt hC 22 72 dX7_since_22 rfl (by omega) (by omega) (fun hb1 => ?_) (fun hb1 => ?_)
        · -- 22t
          refine z_bipush hC 72 dX7_since_72 rfl ?_
          -- R74.1
          exact z_iret hC hH hQ 74 (((-2), (va_up (va_up (va_up (va_up F 0 (0)) 5 ((n : Int))) 7 ((t : Int))) 12 ((un : Int))), (va_up (va_up (va_up (va_up Ar 3 (cI (n) v gv)) 9 pv) 10 pw) 11 pm))) dX7_since_74 rfl ⟨by (unfold Sp_since; rw [if_pos (by omega)]; exact Or.inr ⟨fun j q1 q2 => ik j q1 (by omega), rfl⟩), by exact ⟨rfl, rfl, rfl, rfl, rfl, rfl, rfl, rfl, rfl, rfl, rfl, rfl, rfl, rfl, rfl, rfl⟩⟩ rfl (Nat.le_refl _) (Nat.le_refl _)
        · -- 22f
          refine z_aload_n hC 25 hl dX7_since_25 rfl 0 rfl ?_
          refine gmW_12 (x := (un : Int)) hC hH 26 rfl dX7_since_26 ?_
          refine z_iload_n hC 29 hl dX7_since_29 rfl 2 rfl ?_
          refine z_isub (e := (un : Int) - (k : Int)) hC 30 dX7_since_30 rfl ?_
          refine z_istore_n (lv' := [(3, .int (iZ ((un : Int) - (k : Int)))), (0, .ref (ad 0)), (1, .int (iZ ((p1 : Int)))), (2, .int (iZ ((k : Int))))]) hC 31 hl dX7_since_31 rfl (by decide) rfl (fun ls hl => ?_)
          have hpa := hPA (un - k) (by omega)
          refine z_iload_n hC 32 hl dX7_since_32 rfl 2 rfl ?_
          refine z_aload_n hC 33 hl dX7_since_33 rfl 1 rfl ?_
          refine gmW_11 hC hH 34 dX7_since_34 ?_
          refine z_iload_n hC 37 hl dX7_since_37 rfl 0 rfl ?_
          refine lmW_11 (x := (pm (un - k))) hC hH 38 (un - k) (by omega) (by omega) rfl dX7_since_38 ?_
          refine z_icmp_ge hC 39 62 dX7_since_39 rfl (by omega) (by omega) (fun hb2 => ?_) (fun hb2 => ?_)
          · -- 39t
            refine z_iload_n hC 62 hl dX7_since_62 rfl 3 rfl ?_
            refine z_iconst hC 63 dX7_since_63 ?_
            refine z_isub (e := (k : Int) - 1) hC 64 dX7_since_64 rfl ?_
            -- R65.2
            refine z_st (st' := [.int (iZ (((k : Int) - 1)))]) (zcons (zieq (by first | assumption | omega)) rfl) ?_
            exact z_iret hC hH hQ 65 (((k : Int) - 1, (va_up (va_up (va_up (va_up F 0 (0)) 5 ((n : Int))) 7 ((t : Int))) 12 ((un : Int))), (va_up (va_up (va_up (va_up Ar 3 (cI (n) v gv)) 9 pv) 10 pw) 11 pm))) dX7_since_65 rfl ⟨by (unfold Sp_since; rw [if_pos (by omega)]; simp only [Int.toNat_natCast]; exact Or.inl ⟨k, by omega, by omega, by first | (left; omega) | (right; omega), ik, rfl⟩), by exact ⟨rfl, rfl, rfl, rfl, rfl, rfl, rfl, rfl, rfl, rfl, rfl, rfl, rfl, rfl, rfl, rfl⟩⟩ rfl (Nat.le_refl _) (Nat.le_refl _)
          · -- 39f
            have hpp := hpa.2.2 p1 (by omega)
            rw [show 120 * (un - k) + p1 = 120 * un + p1 - 120 * k by omega] at hpp
            have hvp := hv p1 (by omega)
            refine z_aload_n hC 42 hl dX7_since_42 rfl 1 rfl ?_
            refine gmW_9 hC hH 43 dX7_since_43 ?_
            refine z_bipush hC 46 dX7_since_46 rfl ?_
            refine z_iload_n hC 48 hl dX7_since_48 rfl 0 rfl ?_
            refine z_imul (e := 120 * (un : Int) - 120 * (k : Int)) hC 49 dX7_since_49 (by omega) ?_
            refine z_iload_n hC 50 hl dX7_since_50 rfl 2 rfl ?_
            refine z_iadd (e := 120 * (un : Int) - 120 * (k : Int) + (p1 : Int)) hC 51 dX7_since_51 rfl ?_
            refine lmW_9 (x := (pv (120 * un + p1 - 120 * k))) hC hH 52 (120 * un + p1 - 120 * k) (by omega) (by omega) rfl dX7_since_52 ?_
            refine z_aload_n hC 53 hl dX7_since_53 rfl 1 rfl ?_
            refine gmW_3 hC hH 54 dX7_since_54 ?_
            refine z_iload_n hC 57 hl dX7_since_57 rfl 2 rfl ?_
            refine lmW_3 (x := ((v p1 : Nat) : Int)) hC hH 58 (p1) (by omega) (by omega) (cI_lt (by omega)) dX7_since_58 ?_
            refine z_icmp_eq hC 59 66 dX7_since_59 rfl (by omega) (by omega) (fun hb3 => ?_) (fun hb3 => ?_)
            · -- 59t
              refine z_iinc (lv' := [(2, .int (iZ ((k : Int) + 1))), (3, .int (iZ ((un : Int) - (k : Int)))), (0, .ref (ad 0)), (1, .int (iZ ((p1 : Int))))]) hC 66 hl dX7_since_66 3 rfl (by omega) (by decide) rfl (fun ls hl => ?_)
              refine z_goto hC 69 17 dX7_since_69 rfl ?_
              -- J17.3
              exact ih17 (k + 1) _ _ _ (by omega) (by first | assumption | omega) (by first | assumption | omega) (by first | (intro j q1 q2; omega) | (intro j q1 q2; by_cases e : j = k; (· subst e; exact fun q => by rcases q with q | q <;> omega); (· exact ik j q1 (by omega)))) hH (z_lv (lv_sub hl [2, 3, 0] rfl) (zcons rfl (zcons rfl (zcons (zpeq (by omega)) rfl))))
            · -- 59f
              refine z_iload_n hC 62 hl dX7_since_62 rfl 3 rfl ?_
              refine z_iconst hC 63 dX7_since_63 ?_
              refine z_isub (e := (k : Int) - 1) hC 64 dX7_since_64 rfl ?_
              -- R65.4
              refine z_st (st' := [.int (iZ (((k : Int) - 1)))]) (zcons (zieq (by first | assumption | omega)) rfl) ?_
              exact z_iret hC hH hQ 65 (((k : Int) - 1, (va_up (va_up (va_up (va_up F 0 (0)) 5 ((n : Int))) 7 ((t : Int))) 12 ((un : Int))), (va_up (va_up (va_up (va_up Ar 3 (cI (n) v gv)) 9 pv) 10 pw) 11 pm))) dX7_since_65 rfl ⟨by (unfold Sp_since; rw [if_pos (by omega)]; simp only [Int.toNat_natCast]; exact Or.inl ⟨k, by omega, by omega, by first | (left; omega) | (right; omega), ik, rfl⟩), by exact ⟨rfl, rfl, rfl, rfl, rfl, rfl, rfl, rfl, rfl, rfl, rfl, rfl, rfl, rfl, rfl, rfl⟩⟩ rfl (Nat.le_refl _) (Nat.le_refl _)
    -- J17.5
    exact L17 _ 1 _ _ _ (Nat.lt_succ_self _) (by first | assumption | omega) (by first | assumption | omega) (by first | (intro j q1 q2; omega) | (intro j q1 q2; by_cases e : j = k; (· subst e; exact fun q => by rcases q with q | q <;> omega); (· exact ik j q1 (by omega)))) hH (z_lv (lv_sub hl [1, 2, 0] rfl) (zcons rfl (zcons rfl (zcons (zpeq (by omega)) rfl))))
  · -- 7=0
    refine z_if_ne_f hC 10 15 dX7_since_10 rfl (by omega) (by omega) ?_
    refine z_iconst hC 13 dX7_since_13 ?_
    -- R14.6
    exact z_iret hC hH hQ 14 (((-1), (va_up (va_up (va_up (va_up F 0 (0)) 5 ((n : Int))) 7 ((t : Int))) 12 ((un : Int))), (va_up (va_up (va_up (va_up Ar 3 (cI (n) v gv)) 9 pv) 10 pw) 11 pm))) dX7_since_14 rfl ⟨by first | (unfold Sp_since; rw [if_neg (by omega)]) | (unfold Sp_since; rw [if_pos (by omega)]), by exact ⟨rfl, rfl, rfl, rfl, rfl, rfl, rfl, rfl, rfl, rfl, rfl, rfl, rfl, rfl, rfl, rfl⟩⟩ rfl (Nat.le_refl _) (Nat.le_refl _)

set_option maxHeartbeats 4000000 in
set_option maxRecDepth 100000 in
theorem m_X7_refreshed (lau : Launch) (s0 : State) (G : zG) (sz : Nat) (ad : Nat → Nat) (F : Nat → Int) (Ar : Nat → Nat → Int) (n : Nat) (v : Nat → Nat) (gv : Nat → Int) (t : Nat) (fr : Int) (hn : n ≤ 120) (hv : ∀ i, i < n → v i < 1000) (ht : t < 4) : zMet (S := Int × (Nat → Int) × (Nat → Nat → Int)) lau yX7_refreshed cX7_refreshed 1 (some .int) 0 0 0 0 s0 G sz [.ref (ad 0)] (mW ad G (va_up (va_up (va_up F 5 ((n : Int))) 7 ((t : Int))) 13 (fr)) (va_up Ar 3 (cI (n) v gv))) (fun ((r_, F2, A2) : Int × (Nat → Int) × (Nat → Nat → Int)) => some (.int (iZ (r_)))) (fun ((r_, F2, A2) : Int × (Nat → Int) × (Nat → Nat → Int)) => (Sp_id fr r_) ∧ (MK (va_up (va_up (va_up F 5 ((n : Int))) 7 ((t : Int))) 13 (fr)) (va_up Ar 3 (cI (n) v gv)) F2 A2)) (fun ((r_, F2, A2) : Int × (Nat → Int) × (Nat → Nat → Int)) => (mW ad G F2 A2)) := by
  refine zMet.of (by decide) (Nat.le_of_ble_eq_true rfl) ?_
  intro pg ev s1 mi ar bl me cd ls Q as0 hC hH hl hQ hsz
  generalize s1.heap = H at hH ⊢
  generalize ([] : List Loc) = locs at hH ⊢
  have hl : lv_has ls 1 [(0, .ref (ad 0))] := hl
  refine z_aload_n hC 0 hl dX7_refreshed_0 rfl 0 rfl ?_
  refine z_iconst hC 1 dX7_refreshed_1 ?_
  refine pmW_0 hC hH 2 dX7_refreshed_2 (fun H locs hH => ?_)
  have hH : zH s0 s1 G as0 (mW ad G (va_up (va_up (va_up (va_up F 0 (0)) 5 ((n : Int))) 7 ((t : Int))) 13 (fr)) (va_up Ar 3 (cI (n) v gv))) H locs := hH
  refine z_aload_n hC 5 hl dX7_refreshed_5 rfl 0 rfl ?_
  refine gmW_13 (x := fr) hC hH 6 rfl dX7_refreshed_6 ?_
  -- R9.1
  exact z_iret hC hH hQ 9 ((fr, (va_up (va_up (va_up (va_up F 0 (0)) 5 ((n : Int))) 7 ((t : Int))) 13 (fr)), (va_up Ar 3 (cI (n) v gv)))) dX7_refreshed_9 rfl ⟨by rfl, by exact ⟨rfl, rfl, rfl, rfl, rfl, rfl, rfl, rfl, rfl, rfl, rfl, rfl, rfl, rfl, rfl, rfl⟩⟩ rfl (Nat.le_refl _) (Nat.le_refl _)

set_option maxHeartbeats 4000000 in
set_option maxRecDepth 100000 in
theorem m_X7_fault (lau : Launch) (s0 : State) (G : zG) (sz : Nat) (ad : Nat → Nat) (F : Nat → Int) (Ar : Nat → Nat → Int) (n : Nat) (v : Nat → Nat) (gv : Nat → Int) (t : Nat) (ft : Int) (fp : Int) (q : Int) (hn : n ≤ 120) (hv : ∀ i, i < n → v i < 1000) (ht : t < 4) (hr_q : -2147483648 ≤ q ∧ q < 2147483648) : zMet (S := Int × (Nat → Int) × (Nat → Nat → Int)) lau yX7_fault cX7_fault 2 (some .int) 0 0 0 0 s0 G sz [.ref (ad 0), .int (iZ (q))] (mW ad G (va_up (va_up (va_up (va_up F 5 ((n : Int))) 7 ((t : Int))) 29 (ft)) 30 (fp)) (va_up Ar 3 (cI (n) v gv))) (fun ((r_, F2, A2) : Int × (Nat → Int) × (Nat → Nat → Int)) => some (.int (iZ (r_)))) (fun ((r_, F2, A2) : Int × (Nat → Int) × (Nat → Nat → Int)) => (Sp_fault ft fp q r_) ∧ (MK (va_up (va_up (va_up (va_up F 5 ((n : Int))) 7 ((t : Int))) 29 (ft)) 30 (fp)) (va_up Ar 3 (cI (n) v gv)) F2 A2)) (fun ((r_, F2, A2) : Int × (Nat → Int) × (Nat → Nat → Int)) => (mW ad G F2 A2)) := by
  refine zMet.of (by decide) (Nat.le_of_ble_eq_true rfl) ?_
  intro pg ev s1 mi ar bl me cd ls Q as0 hC hH hl hQ hsz
  generalize s1.heap = H at hH ⊢
  generalize ([] : List Loc) = locs at hH ⊢
  have hl : lv_has ls 2 [(0, .ref (ad 0)), (1, .int (iZ (q)))] := hl
  refine z_aload_n hC 0 hl dX7_fault_0 rfl 0 rfl ?_
  refine z_iconst hC 1 dX7_fault_1 ?_
  refine pmW_0 hC hH 2 dX7_fault_2 (fun H locs hH => ?_)
  have hH : zH s0 s1 G as0 (mW ad G (va_up (va_up (va_up (va_up (va_up F 0 (0)) 5 ((n : Int))) 7 ((t : Int))) 29 (ft)) 30 (fp)) (va_up Ar 3 (cI (n) v gv))) H locs := hH
  refine z_iload_n hC 5 hl dX7_fault_5 rfl 1 rfl ?_
  refine z_if_ne hC 6 16 dX7_fault_6 rfl (by omega) (fun hb1 => ?_) (fun hb1 => ?_)
  · -- 6t
    refine z_iload_n hC 16 hl dX7_fault_16 rfl 1 rfl ?_
    refine z_iconst hC 17 dX7_fault_17 ?_
    refine z_icmp_ne hC 18 28 dX7_fault_18 rfl (by omega) (by omega) (fun hb2 => ?_) (fun hb2 => ?_)
    · -- 18t
      refine z_iconst hC 28 dX7_fault_28 ?_
      -- R29.1
      exact z_iret hC hH hQ 29 (((-1), (va_up (va_up (va_up (va_up (va_up F 0 (0)) 5 ((n : Int))) 7 ((t : Int))) 29 (ft)) 30 (fp)), (va_up Ar 3 (cI (n) v gv)))) dX7_fault_29 rfl ⟨by (unfold Sp_fault; first | (rw [if_pos (by omega)]; done) | (rw [if_neg (by omega), if_pos (by omega)]; done) | (rw [if_neg (by omega), if_neg (by omega)]; done)), by exact ⟨rfl, rfl, rfl, rfl, rfl, rfl, rfl, rfl, rfl, rfl, rfl, rfl, rfl, rfl, rfl, rfl⟩⟩ rfl (Nat.le_refl _) (Nat.le_refl _)
    · -- 18f
      refine z_aload_n hC 21 hl dX7_fault_21 rfl 0 rfl ?_
      refine gmW_30 (x := fp) hC hH 22 rfl dX7_fault_22 ?_
      refine z_goto hC 25 29 dX7_fault_25 rfl ?_
      -- R29.2
      exact z_iret hC hH hQ 29 ((fp, (va_up (va_up (va_up (va_up (va_up F 0 (0)) 5 ((n : Int))) 7 ((t : Int))) 29 (ft)) 30 (fp)), (va_up Ar 3 (cI (n) v gv)))) dX7_fault_29 rfl ⟨by (unfold Sp_fault; first | (rw [if_pos (by omega)]; done) | (rw [if_neg (by omega), if_pos (by omega)]; done) | (rw [if_neg (by omega), if_neg (by omega)]; done)), by exact ⟨rfl, rfl, rfl, rfl, rfl, rfl, rfl, rfl, rfl, rfl, rfl, rfl, rfl, rfl, rfl, rfl⟩⟩ rfl (Nat.le_refl _) (Nat.le_refl _)
  · -- 6f
    refine z_aload_n hC 9 hl dX7_fault_9 rfl 0 rfl ?_
    refine gmW_29 (x := ft) hC hH 10 rfl dX7_fault_10 ?_
    refine z_goto hC 13 29 dX7_fault_13 rfl ?_
    -- R29.3
    exact z_iret hC hH hQ 29 ((ft, (va_up (va_up (va_up (va_up (va_up F 0 (0)) 5 ((n : Int))) 7 ((t : Int))) 29 (ft)) 30 (fp)), (va_up Ar 3 (cI (n) v gv)))) dX7_fault_29 rfl ⟨by (unfold Sp_fault; first | (rw [if_pos (by omega)]; done) | (rw [if_neg (by omega), if_pos (by omega)]; done) | (rw [if_neg (by omega), if_neg (by omega)]; done)), by exact ⟨rfl, rfl, rfl, rfl, rfl, rfl, rfl, rfl, rfl, rfl, rfl, rfl, rfl, rfl, rfl, rfl⟩⟩ rfl (Nat.le_refl _) (Nat.le_refl _)

set_option maxHeartbeats 4000000 in
set_option maxRecDepth 100000 in
theorem m_X7_thrown (lau : Launch) (s0 : State) (G : zG) (sz : Nat) (ad : Nat → Nat) (F : Nat → Int) (Ar : Nat → Nat → Int) (th : Int)  : zMet (S := Unit) lau yX7_thrown cX7_thrown 1 (some .int) 0 0 0 0 s0 G sz [.ref (ad 0)] (mW ad G (va_up F 0 (th)) Ar) (fun (_ : Unit) => some (.int (iZ (th)))) (fun (_ : Unit) => True) (fun (_ : Unit) => (mW ad G (va_up F 0 (th)) Ar)) := by
  refine zMet.of (by decide) (Nat.le_of_ble_eq_true rfl) ?_
  intro pg ev s1 mi ar bl me cd ls Q as0 hC hH hl hQ hsz
  generalize s1.heap = H at hH ⊢
  generalize ([] : List Loc) = locs at hH ⊢
  have hl : lv_has ls 1 [(0, .ref (ad 0))] := hl
  refine z_aload_n hC 0 hl dX7_thrown_0 rfl 0 rfl ?_
  refine gmW_0 (x := th) hC hH 1 rfl dX7_thrown_1 ?_
  -- R4.1
  exact z_iret hC hH hQ 4 (()) dX7_thrown_4 rfl trivial rfl (Nat.le_refl _) (Nat.le_refl _)
