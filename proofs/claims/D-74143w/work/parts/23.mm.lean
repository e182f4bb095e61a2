/-! methods of ModeDeskModel: 23.mm -/
set_option maxHeartbeats 4000000 in
set_option maxRecDepth 100000 in
theorem m_X7_candidate (lau : Launch) (s0 : State) (G : zG) (sz : Nat) (ad : Nat → Nat) (F : Nat → Int) (Ar : Nat → Nat → Int) (n : Nat) (v : Nat → Nat) (gv : Nat → Int) (t : Nat) (b : Nat) (l : Int) (r : Int) (k0 : Int) (hn : n ≤ 120) (hv : ∀ i, i < n → v i < 1000) (ht : t < 4) (hr_l : -2147483648 ≤ l ∧ l < 2147483648) (hr_r : -2147483648 ≤ r ∧ r < 2147483648) (hr_k0 : -2147483648 ≤ k0 ∧ k0 < 2147483648) (hb : 2 ≤ b ∧ b ≤ 20) : zMet (S := Int × (Nat → Int) × (Nat → Nat → Int)) lau yX7_candidate cX7_candidate 10 (some .int) 3 70 0 0 s0 G sz [.ref (ad 0), .int (iZ (l)), .int (iZ (r)), .int (iZ (k0))] (mW ad G (va_up (va_up (va_up F 5 ((n : Int))) 6 ((b : Int))) 7 ((t : Int))) (va_up Ar 3 (cI (n) v gv))) (fun ((r_, F2, A2) : Int × (Nat → Int) × (Nat → Nat → Int)) => some (.int (iZ (r_)))) (fun ((r_, F2, A2) : Int × (Nat → Int) × (Nat → Nat → Int)) => (Sp_candidate n v t b l r k0 r_) ∧ (MK (va_up (va_up (va_up F 5 ((n : Int))) 6 ((b : Int))) 7 ((t : Int))) (va_up Ar 3 (cI (n) v gv)) F2 A2)) (fun ((r_, F2, A2) : Int × (Nat → Int) × (Nat → Nat → Int)) => (mW ad G F2 A2)) := by
  refine zMet.of (by decide) (Nat.le_of_ble_eq_true rfl) ?_
  intro pg ev s1 mi ar bl me cd ls Q as0 hC hH hl hQ hsz
  generalize s1.heap = H at hH ⊢
  generalize ([] : List Loc) = locs at hH ⊢
  have hl : lv_has ls 10 [(0, .ref (ad 0)), (1, .int (iZ (l))), (2, .int (iZ (r))), (3, .int (iZ (k0)))] := hl
  refine z_aload_n hC 0 hl dX7_candidate_0 rfl 0 rfl ?_
  refine z_iconst hC 1 dX7_candidate_1 ?_
  refine pmW_0 hC hH 2 dX7_candidate_2 (fun H locs hH => ?_)
  have hH : zH s0 s1 G as0 (mW ad G (va_up (va_up (va_up (va_up F 0 (0)) 5 ((n : Int))) 6 ((b : Int))) 7 ((t : Int))) (va_up Ar 3 (cI (n) v gv))) H locs := hH
  refine z_aload_n hC 5 hl dX7_candidate_5 rfl 0 rfl ?_
  refine z_iload_n hC 6 hl dX7_candidate_6 rfl 1 rfl ?_
  refine z_iload_n hC 7 hl dX7_candidate_7 rfl 2 rfl ?_
  refine z_same (z_runV hC hH.2.2 hl.1 hH.1 hH.2.1 2 (As := [.int (iZ (l)), .int (iZ (r))]) (rest := []) (m_X7_isSpan lau s0 G _ ad (va_up (va_up (va_up (va_up F 0 (0)) 5 ((n : Int))) 6 ((b : Int))) 7 ((t : Int))) (va_up Ar 3 (cI (n) v gv)) n l r (by first | assumption | omega) (by first | assumption | omega) (by first | assumption | omega)) (lw_V q1712 q1714 qs68 q95 q1715) ⟨rfl, by decide, by decide, by decide +kernel⟩ (q0 := 0) (ci := 0) rfl rfl rfl rfl (Nat.le_of_ble_eq_true rfl) ⟨Nat.le_of_ble_eq_true rfl, Nat.le_of_ble_eq_true rfl⟩ ⟨Nat.le_of_ble_eq_true rfl, Nat.le_of_ble_eq_true rfl⟩ dX7_candidate_8) hH (fun r_8 H locs hpost hH => ?_)
  have hb_8 : (r_8 = 1 ∧ (0 ≤ l ∧ l ≤ r ∧ r < (n : Int))) ∨ (r_8 = 0 ∧ ¬ (0 ≤ l ∧ l ≤ r ∧ r < (n : Int))) := hpost
  have hH : zH s0 s1 G as0 (mW ad G (va_up (va_up (va_up (va_up F 0 (0)) 5 ((n : Int))) 6 ((b : Int))) 7 ((t : Int))) (va_up Ar 3 (cI (n) v gv))) H locs := hH
  refine z_st (st' := [.int (iZ (r_8))]) rfl ?_
  rcases hb_8 with ⟨rfl, hb_8⟩ | ⟨rfl, hb_8⟩
  · -- 8=1
    refine z_if_eq_f hC 11 19 dX7_candidate_11 rfl (by omega) (by omega) ?_
    refine z_iload_n hC 14 hl dX7_candidate_14 rfl 3 rfl ?_
    refine z_iconst hC 15 dX7_candidate_15 ?_
    refine z_icmp_ge hC 16 21 dX7_candidate_16 rfl (by omega) (by omega) (fun hb1 => ?_) (fun hb1 => ?_)
    · -- 16t
      obtain ⟨l1, rfl⟩ := Int.eq_ofNat_of_zero_le (show 0 ≤ l by omega)
      obtain ⟨r1, rfl⟩ := Int.eq_ofNat_of_zero_le (show 0 ≤ r by omega)
      refine z_iload_n hC 21 hl dX7_candidate_21 rfl 1 rfl ?_
      refine z_aload_n hC 22 hl dX7_candidate_22 rfl 0 rfl ?_
      refine gmW_6 (x := (b : Int)) hC hH 23 rfl dX7_candidate_23 ?_
      refine z_iadd (e := (l1 : Int) + (b : Int)) hC 26 dX7_candidate_26 rfl ?_
      refine z_iconst hC 27 dX7_candidate_27 ?_
      refine z_isub (e := (l1 : Int) + (b : Int) - 1) hC 28 dX7_candidate_28 rfl ?_
      refine z_aload_n hC 29 hl dX7_candidate_29 rfl 0 rfl ?_
      refine gmW_6 (x := (b : Int)) hC hH 30 rfl dX7_candidate_30 ?_
      refine z_idiv hC 33 (l1 + b - 1) (b) dX7_candidate_33 (by omega) (by omega) (by omega) (by omega) ((zdiv (l1 + b - 1) b)) rfl ?_
      refine z_istore (lv' := [(4, .int (iZ (((zdiv (l1 + b - 1) b : Nat) : Int)))), (0, .ref (ad 0)), (1, .int (iZ ((l1 : Int)))), (2, .int (iZ ((r1 : Int)))), (3, .int (iZ (k0)))]) hC 34 hl dX7_candidate_34 (by decide) rfl (fun ls hl => ?_)
      have L71 : ∀ (e : Nat) (H : Heap) (locs : List Loc) (ls : Array Slot), ((zdiv (l1 + b - 1) b) ≤ e) → (e ≤ 122) → (WB b n (zdiv (l1 + b - 1) b) r1 e) → zH s0 s1 G as0 (mW ad G (va_up (va_up (va_up (va_up F 0 (0)) 5 ((n : Int))) 6 ((b : Int))) 7 ((t : Int))) (va_up Ar 3 (cI (n) v gv))) H locs → lv_has ls 10 [(0, .ref (ad 0)), (1, .int (iZ ((l1 : Int)))), (2, .int (iZ ((r1 : Int)))), (3, .int (iZ (k0))), (4, .int (iZ (((zdiv (l1 + b - 1) b : Nat) : Int)))), (5, .int (iZ ((e : Int) - 1)))] → W pg lau ev (zRm 3 0 0 70) s1 mi ar bl me cd H locs 0 0 Q (F0 mi 71 ls []) := by
        intro e H locs ls i71_1 i71_2 hWB hH hl
        have hbe := cd_be hWB hb.1 hn
        refine z_iconst hC 71 dX7_candidate_71 ?_
        refine z_istore (lv' := [(6, .int (iZ (0))), (0, .ref (ad 0)), (1, .int (iZ ((l1 : Int)))), (2, .int (iZ ((r1 : Int)))), (3, .int (iZ (k0))), (4, .int (iZ (((zdiv (l1 + b - 1) b : Nat) : Int)))), (5, .int (iZ ((e : Int) - 1)))]) hC 72 hl dX7_candidate_72 (by decide) rfl (fun ls hl => ?_)
        have L74 : ∀ (N_ : Nat) (i : Nat) (ia : Nat → Int) (H : Heap) (locs : List Loc) (ls : Array Slot), 1000 - i < N_ → (i ≤ 1000) → (∀ j, j < i → ia j = 0) → zH s0 s1 G as0 (mW ad G (va_up (va_up (va_up (va_up F 0 (0)) 5 ((n : Int))) 6 ((b : Int))) 7 ((t : Int))) (va_up (va_up Ar 3 (cI (n) v gv)) 39 ia)) H locs → lv_has ls 10 [(0, .ref (ad 0)), (1, .int (iZ ((l1 : Int)))), (2, .int (iZ ((r1 : Int)))), (3, .int (iZ (k0))), (4, .int (iZ (((zdiv (l1 + b - 1) b : Nat) : Int)))), (5, .int (iZ ((e : Int) - 1))), (6, .int (iZ ((i : Int))))] → W pg lau ev (zRm 3 0 0 70) s1 mi ar bl me cd H locs 0 0 Q (F0 mi 74 ls []) := by
          intro N_
          induction N_ with
          | zero => intro i ia H locs ls hd; exact absurd hd (Nat.not_lt_zero _)
          | succ N_ ih74 =>
            intro i ia H locs ls hd74 i74_1 iz hH hl
            refine z_iload hC 74 hl dX7_candidate_74 6 rfl ?_
            refine z_sipush hC 76 dX7_candidate_76 rfl ?_
            refine z_icmp_ge hC 79 96 dX7_candidate_79 rfl (by omega) (by omega) (fun hb2 => ?_) (fun hb2 => ?_)
            · -- 79t
              have L138 : ∀ (so : Int) (ia : Nat → Int) (f38 : Int) (a34 : Nat → Int) (a35 : Nat → Int) (a36 : Nat → Int) (a37 : Nat → Int) (H : Heap) (locs : List Loc) (ls : Array Slot), ((so = 1 ∧ (zdiv (l1 + b - 1) b) < e) ∨ (so = 0 ∧ e ≤ (zdiv (l1 + b - 1) b))) → (CSI (CSt v t n b l1 (zdiv (l1 + b - 1) b) e l1) ia) → zH s0 s1 G as0 (mW ad G (va_up (va_up (va_up (va_up (va_up F 0 (0)) 5 ((n : Int))) 6 ((b : Int))) 7 ((t : Int))) 38 (f38)) (va_up (va_up (va_up (va_up (va_up (va_up Ar 3 (cI (n) v gv)) 34 a34) 35 a35) 36 a36) 37 a37) 39 ia)) H locs → lv_has ls 10 [(0, .ref (ad 0)), (1, .int (iZ ((l1 : Int)))), (2, .int (iZ ((r1 : Int)))), (3, .int (iZ (k0))), (4, .int (iZ (((zdiv (l1 + b - 1) b : Nat) : Int)))), (5, .int (iZ ((e : Int) - 1))), (6, .int (iZ (so)))] → W pg lau ev (zRm 3 0 0 70) s1 mi ar bl me cd H locs 0 0 Q (F0 mi 138 ls []) := by
                intro so ia f38 a34 a35 a36 a37 H locs ls is_ iia hH hl
                refine z_iload_n hC 138 hl dX7_candidate_138 rfl 1 rfl ?_
                refine z_istore (lv' := [(7, .int (iZ ((l1 : Int)))), (0, .ref (ad 0)), (1, .int (iZ ((l1 : Int)))), (2, .int (iZ ((r1 : Int)))), (3, .int (iZ (k0))), (4, .int (iZ (((zdiv (l1 + b - 1) b : Nat) : Int)))), (5, .int (iZ ((e : Int) - 1))), (6, .int (iZ (so)))]) hC 139 hl dX7_candidate_139 (by decide) rfl (fun ls hl => ?_)
                have L141 : ∀ (N_ : Nat) (p : Nat) (ia : Nat → Int) (H : Heap) (locs : List Loc) (ls : Array Slot), r1 + 1 - p < N_ → (l1 ≤ p) → (p ≤ r1 + 1) → (CSI (CSt v t n b l1 (zdiv (l1 + b - 1) b) e p) ia) → zH s0 s1 G as0 (mW ad G (va_up (va_up (va_up (va_up (va_up F 0 (0)) 5 ((n : Int))) 6 ((b : Int))) 7 ((t : Int))) 38 (f38)) (va_up (va_up (va_up (va_up (va_up (va_up Ar 3 (cI (n) v gv)) 34 a34) 35 a35) 36 a36) 37 a37) 39 ia)) H locs → lv_has ls 10 [(0, .ref (ad 0)), (1, .int (iZ ((l1 : Int)))), (2, .int (iZ ((r1 : Int)))), (3, .int (iZ (k0))), (4, .int (iZ (((zdiv (l1 + b - 1) b : Nat) : Int)))), (5, .int (iZ ((e : Int) - 1))), (6, .int (iZ (so))), (7, .int (iZ ((p : Int))))] → W pg lau ev (zRm 3 0 0 70) s1 mi ar bl me cd H locs 0 0 Q (F0 mi 141 ls []) := by
                  intro N_
                  induction N_ with
                  | zero => intro p ia H locs ls hd; exact absurd hd (Nat.not_lt_zero _)
                  | succ N_ ih141 =>
                    intro p ia H locs ls hd141 i141_1 i141_2 iia2 hH hl
                    refine z_iload hC 141 hl dX7_candidate_141 7 rfl ?_
                    refine z_iload_n hC 143 hl dX7_candidate_143 rfl 2 rfl ?_
                    refine z_icmp_gt hC 144 194 dX7_candidate_144 rfl (by omega) (by omega) (fun hb3 => ?_) (fun hb3 => ?_)
                    · -- 144t
                      refine z_aload_n hC 194 hl dX7_candidate_194 rfl 0 rfl ?_
                      refine z_iload_n hC 195 hl dX7_candidate_195 rfl 1 rfl ?_
                      refine z_iload_n hC 196 hl dX7_candidate_196 rfl 2 rfl ?_
                      refine z_iconst hC 197 dX7_candidate_197 ?_
                      refine z_st (st' := [.int (iZ ((-1))), .int (iZ (((r1 + 1 : Nat) : Int) - 1)), .int (iZ ((l1 : Int))), .ref (ad 0)]) (zcons rfl (zcons (zieq (by omega)) (zcons rfl rfl))) ?_
                      refine z_same (z_runV hC hH.2.2 hl.1 hH.1 hH.2.1 3 (As := [.int (iZ ((l1 : Int))), .int (iZ (((r1 + 1 : Nat) : Int) - 1)), .int (iZ ((-1)))]) (rest := []) (m_X7_counts lau s0 G _ ad (va_up (va_up (va_up (va_up (va_up F 0 (0)) 5 ((n : Int))) 6 ((b : Int))) 7 ((t : Int))) 38 (f38)) (va_up (va_up (va_up (va_up (va_up (va_up Ar 3 (cI (n) v gv)) 34 a34) 35 a35) 36 a36) 37 a37) 39 ia) n v gv l1 (r1 + 1) (-1) v (by first | assumption | omega) (by first | assumption | omega) (by first | assumption | omega) (by first | assumption | omega) (by first | assumption | omega) (by exact fun i _ _ => ⟨fun q => by omega, fun _ => rfl⟩)) (lw_V q1764 q1766 qs73 q95 q1767) ⟨rfl, by decide, by decide, by decide +kernel⟩ (q0 := 0) (ci := 0) rfl rfl rfl rfl (Nat.le_of_ble_eq_true rfl) ⟨Nat.le_of_ble_eq_true rfl, Nat.le_of_ble_eq_true rfl⟩ ⟨Nat.le_of_ble_eq_true rfl, Nat.le_of_ble_eq_true rfl⟩ dX7_candidate_198) hH (fun u_ H locs hpost hH => ?_)
                      obtain ⟨o_198, go_198, fo_198, la_198, k_198, u_198, gu_198⟩ := u_
                      have pCO_198 : CO v l1 (r1 + 1) o_198 fo_198 la_198 k_198 u_198 := hpost
                      have hH : zH s0 s1 G as0 (mW ad G (va_up (va_up (va_up (va_up (va_up F 0 (0)) 5 ((n : Int))) 6 ((b : Int))) 7 ((t : Int))) 38 ((k_198 : Int))) (va_up (va_up (va_up (va_up (va_up (va_up Ar 3 (cI (n) v gv)) 34 (cI (1000) o_198 go_198)) 35 fo_198) 36 la_198) 37 (cI (k_198) u_198 gu_198)) 39 ia)) H locs := hH
                      refine z_st (st' := []) rfl ?_
                      have hof := fun i h => ofR_spec (t := t) pCO_198.2.2 (i := i) h
                      have hds := EN_dst pCO_198.2.2
                      have hkk := pCO_198.2.2.1
                      have ep9 : p = r1 + 1 := by omega
                      rw [ep9] at iia2
                      refine z_iconst hC 201 dX7_candidate_201 ?_
                      refine z_istore (lv' := [(7, .int (iZ (0))), (0, .ref (ad 0)), (1, .int (iZ ((l1 : Int)))), (2, .int (iZ ((r1 : Int)))), (3, .int (iZ (k0))), (4, .int (iZ (((zdiv (l1 + b - 1) b : Nat) : Int)))), (5, .int (iZ ((e : Int) - 1))), (6, .int (iZ (so)))]) hC 202 hl dX7_candidate_202 (by decide) rfl (fun ls hl => ?_)
                      refine z_iconst hC 204 dX7_candidate_204 ?_
                      refine z_istore (lv' := [(8, .int (iZ (0))), (7, .int (iZ (0))), (0, .ref (ad 0)), (1, .int (iZ ((l1 : Int)))), (2, .int (iZ ((r1 : Int)))), (3, .int (iZ (k0))), (4, .int (iZ (((zdiv (l1 + b - 1) b : Nat) : Int)))), (5, .int (iZ ((e : Int) - 1))), (6, .int (iZ (so)))]) hC 205 hl dX7_candidate_205 (by decide) rfl (fun ls hl => ?_)
                      have L207 : ∀ (N_ : Nat) (i : Nat) (c : Nat) (H : Heap) (locs : List Loc) (ls : Array Slot), k_198 - i < N_ → (i ≤ k_198) → (c ≤ i) → (c = cB (fun j => CSt v t n b l1 (zdiv (l1 + b - 1) b) e (r1 + 1) (ofR v l1 (r1 + 1) t j)) i) → (∀ j, j < i → (fun j => CSt v t n b l1 (zdiv (l1 + b - 1) b) e (r1 + 1) (ofR v l1 (r1 + 1) t j)) j → (cB (fun j => CSt v t n b l1 (zdiv (l1 + b - 1) b) e (r1 + 1) (ofR v l1 (r1 + 1) t j)) j : Int) ≠ k0) → zH s0 s1 G as0 (mW ad G (va_up (va_up (va_up (va_up (va_up F 0 (0)) 5 ((n : Int))) 6 ((b : Int))) 7 ((t : Int))) 38 ((k_198 : Int))) (va_up (va_up (va_up (va_up (va_up (va_up Ar 3 (cI (n) v gv)) 34 (cI (1000) o_198 go_198)) 35 fo_198) 36 la_198) 37 (cI (k_198) u_198 gu_198)) 39 ia)) H locs → lv_has ls 10 [(0, .ref (ad 0)), (1, .int (iZ ((l1 : Int)))), (2, .int (iZ ((r1 : Int)))), (3, .int (iZ (k0))), (4, .int (iZ (((zdiv (l1 + b - 1) b : Nat) : Int)))), (5, .int (iZ ((e : Int) - 1))), (6, .int (iZ (so))), (7, .int (iZ ((c : Int)))), (8, .int (iZ ((i : Int))))] → W pg lau ev (zRm 3 0 0 70) s1 mi ar bl me cd H locs 0 0 Q (F0 mi 207 ls []) := by
                        intro N_
                        induction N_ with
                        | zero => intro i c H locs ls hd; exact absurd hd (Nat.not_lt_zero _)
                        | succ N_ ih207 =>
                          intro i c H locs ls hd207 i207_1 i207_2 ic inone hH hl
                          refine z_iload hC 207 hl dX7_candidate_207 8 rfl ?_
                          refine z_aload_n hC 209 hl dX7_candidate_209 rfl 0 rfl ?_
                          refine gmW_38 (x := (k_198 : Int)) hC hH 210 rfl dX7_candidate_210 ?_
                          refine z_icmp_ge hC 213 259 dX7_candidate_213 rfl (by omega) (by omega) (fun hb4 => ?_) (fun hb4 => ?_)
                          · -- 213t
                            have ei9 : i = k_198 := by omega
                            rw [ei9, hds] at ic inone
                            refine z_iload_n hC 259 hl dX7_candidate_259 rfl 3 rfl ?_
                            refine z_iconst hC 260 dX7_candidate_260 ?_
                            refine z_icmp_ne hC 261 269 dX7_candidate_261 rfl (by omega) (by omega) (fun hb5 => ?_) (fun hb5 => ?_)
                            · -- 261t
                              refine z_bipush hC 269 dX7_candidate_269 rfl ?_
                              -- R271.1
                              exact z_iret hC hH hQ 271 (((-2), (va_up (va_up (va_up (va_up (va_up F 0 (0)) 5 ((n : Int))) 6 ((b : Int))) 7 ((t : Int))) 38 ((k_198 : Int))), (va_up (va_up (va_up (va_up (va_up (va_up Ar 3 (cI (n) v gv)) 34 (cI (1000) o_198 go_198)) 35 fo_198) 36 la_198) 37 (cI (k_198) u_198 gu_198)) 39 ia))) dX7_candidate_271 rfl ⟨by (unfold Sp_candidate; rw [if_pos (by omega)]; refine ⟨e, hWB, ?_⟩; first | (rw [if_pos (by omega), ic]; rfl) | (rw [if_neg (by omega)]; exact Or.inr ⟨cd_end inone (by omega), rfl⟩)), by exact ⟨rfl, rfl, rfl, rfl, rfl, rfl, rfl, rfl, rfl, rfl, rfl, rfl, rfl, rfl, rfl, rfl⟩⟩ rfl (Nat.le_refl _) (Nat.le_refl _)
                            · -- 261f
                              refine z_iload hC 264 hl dX7_candidate_264 7 rfl ?_
                              refine z_goto hC 266 271 dX7_candidate_266 rfl ?_
                              -- R271.2
                              exact z_iret hC hH hQ 271 (((c : Int), (va_up (va_up (va_up (va_up (va_up F 0 (0)) 5 ((n : Int))) 6 ((b : Int))) 7 ((t : Int))) 38 ((k_198 : Int))), (va_up (va_up (va_up (va_up (va_up (va_up Ar 3 (cI (n) v gv)) 34 (cI (1000) o_198 go_198)) 35 fo_198) 36 la_198) 37 (cI (k_198) u_198 gu_198)) 39 ia))) dX7_candidate_271 rfl ⟨by (unfold Sp_candidate; rw [if_pos (by omega)]; refine ⟨e, hWB, ?_⟩; first | (rw [if_pos (by omega), ic]; rfl) | (rw [if_neg (by omega)]; exact Or.inr ⟨cd_end inone (by omega), rfl⟩)), by exact ⟨rfl, rfl, rfl, rfl, rfl, rfl, rfl, rfl, rfl, rfl, rfl, rfl, rfl, rfl, rfl, rfl⟩⟩ rfl (Nat.le_refl _) (Nat.le_refl _)
                          · -- 213f
                            refine z_aload_n hC 216 hl dX7_candidate_216 rfl 0 rfl ?_
                            refine z_iload hC 217 hl dX7_candidate_217 8 rfl ?_
                            refine z_aload_n hC 219 hl dX7_candidate_219 rfl 0 rfl ?_
                            refine gmW_7 (x := (t : Int)) hC hH 220 rfl dX7_candidate_220 ?_
                            refine z_same (z_runV hC hH.2.2 hl.1 hH.1 hH.2.1 2 (As := [.int (iZ ((i : Int))), .int (iZ ((t : Int)))]) (rest := []) (m_X7_ofRank lau s0 G _ ad (va_up (va_up (va_up (va_up (va_up F 0 (0)) 5 ((n : Int))) 6 ((b : Int))) 7 ((t : Int))) 38 ((k_198 : Int))) (va_up (va_up (va_up (va_up (va_up (va_up Ar 3 (cI (n) v gv)) 34 (cI (1000) o_198 go_198)) 35 fo_198) 36 la_198) 37 (cI (k_198) u_198 gu_198)) 39 ia) v l1 (r1 + 1) o_198 go_198 fo_198 la_198 k_198 u_198 gu_198 (i : Int) t (by first | assumption | omega) (by first | assumption | omega) (by first | assumption | omega) (by first | assumption | omega)) (lw_V q1784 q1786 qs77 q95 q1787) ⟨rfl, by decide, by decide, by decide +kernel⟩ (q0 := 0) (ci := 0) rfl rfl rfl rfl (Nat.le_of_ble_eq_true rfl) ⟨Nat.le_of_ble_eq_true rfl, Nat.le_of_ble_eq_true rfl⟩ ⟨Nat.le_of_ble_eq_true rfl, Nat.le_of_ble_eq_true rfl⟩ dX7_candidate_223) hH (fun r_223 H locs hpost hH => ?_)
                            have p1_223 : (0 ≤ (i : Int) ∧ (i : Int) < k_198 ∧ r_223 = (ofR v l1 (r1 + 1) t (i : Int).toNat : Int)) ∨ (¬ (0 ≤ (i : Int) ∧ (i : Int) < k_198) ∧ r_223 = -1) := hpost
                            have hH : zH s0 s1 G as0 (mW ad G (va_up (va_up (va_up (va_up (va_up F 0 (0)) 5 ((n : Int))) 6 ((b : Int))) 7 ((t : Int))) 38 ((k_198 : Int))) (va_up (va_up (va_up (va_up (va_up (va_up Ar 3 (cI (n) v gv)) 34 (cI (1000) o_198 go_198)) 35 fo_198) 36 la_198) 37 (cI (k_198) u_198 gu_198)) 39 ia)) H locs := hH
                            refine z_st (st' := [.int (iZ (r_223))]) rfl ?_
                            obtain rfl : r_223 = ((ofR v l1 (r1 + 1) t i : Nat) : Int) := (p1_223.resolve_right (fun q => by omega)).2.2
                            refine z_istore (lv' := [(9, .int (iZ (((ofR v l1 (r1 + 1) t i : Nat) : Int)))), (0, .ref (ad 0)), (1, .int (iZ ((l1 : Int)))), (2, .int (iZ ((r1 : Int)))), (3, .int (iZ (k0))), (4, .int (iZ (((zdiv (l1 + b - 1) b : Nat) : Int)))), (5, .int (iZ ((e : Int) - 1))), (6, .int (iZ (so))), (7, .int (iZ ((c : Int)))), (8, .int (iZ ((i : Int))))]) hC 226 hl dX7_candidate_226 (by decide) rfl (fun ls hl => ?_)
                            have hofi := hof i (by omega)
                            have hia := iia2 (ofR v l1 (r1 + 1) t i) hofi.1
                            refine z_aload_n hC 228 hl dX7_candidate_228 rfl 1 rfl ?_
                            refine gmW_39 hC hH 229 dX7_candidate_229 ?_
                            refine z_iload hC 232 hl dX7_candidate_232 0 rfl ?_
                            refine lmW_39 (x := (ia (ofR v l1 (r1 + 1) t i))) hC hH 234 ((ofR v l1 (r1 + 1) t i)) (by omega) (by omega) rfl dX7_candidate_234 ?_
                            have hia0 : ia (ofR v l1 (r1 + 1) t i) = 0 → ¬ (fun j => CSt v t n b l1 (zdiv (l1 + b - 1) b) e (r1 + 1) (ofR v l1 (r1 + 1) t j)) i := fun q => hia.elim (fun z => by omega) (fun z => z.2)
                            have hia1 : ¬ ia (ofR v l1 (r1 + 1) t i) = 0 → (fun j => CSt v t n b l1 (zdiv (l1 + b - 1) b) e (r1 + 1) (ofR v l1 (r1 + 1) t j)) i := fun q => hia.elim (fun z => z.2) (fun z => absurd z.1 q)
                            have hiar : ia (ofR v l1 (r1 + 1) t i) = 0 ∨ ia (ofR v l1 (r1 + 1) t i) = 1 := hia.elim (fun z => Or.inr z.1) (fun z => Or.inl z.1)
                            refine z_if_ne hC 235 241 dX7_candidate_235 rfl (by omega) (fun hb6 => ?_) (fun hb6 => ?_)
                            · -- 235t
                              have hia3 := hia1 (by assumption)
                              refine z_iload hC 241 hl dX7_candidate_241 8 rfl ?_
                              refine z_iload_n hC 243 hl dX7_candidate_243 rfl 4 rfl ?_
                              refine z_icmp_ne hC 244 250 dX7_candidate_244 rfl (by omega) (by omega) (fun hb7 => ?_) (fun hb7 => ?_)
                              · -- 244t
                                refine z_iinc (lv' := [(7, .int (iZ ((c : Int) + 1))), (9, .int (iZ (((ofR v l1 (r1 + 1) t i : Nat) : Int)))), (0, .ref (ad 0)), (1, .int (iZ ((l1 : Int)))), (2, .int (iZ ((r1 : Int)))), (3, .int (iZ (k0))), (4, .int (iZ (((zdiv (l1 + b - 1) b : Nat) : Int)))), (5, .int (iZ ((e : Int) - 1))), (6, .int (iZ (so))), (8, .int (iZ ((i : Int))))]) hC 250 hl dX7_candidate_250 8 rfl (by omega) (by decide) rfl (fun ls hl => ?_)
                                refine z_iinc (lv' := [(8, .int (iZ ((i : Int) + 1))), (7, .int (iZ ((c : Int) + 1))), (9, .int (iZ (((ofR v l1 (r1 + 1) t i : Nat) : Int)))), (0, .ref (ad 0)), (1, .int (iZ ((l1 : Int)))), (2, .int (iZ ((r1 : Int)))), (3, .int (iZ (k0))), (4, .int (iZ (((zdiv (l1 + b - 1) b : Nat) : Int)))), (5, .int (iZ ((e : Int) - 1))), (6, .int (iZ (so)))]) hC 253 hl dX7_candidate_253 9 rfl (by omega) (by decide) rfl (fun ls hl => ?_)
                                refine z_goto hC 256 207 dX7_candidate_256 rfl ?_
                                -- J207.3
                                exact ih207 (i + 1) (c + 1) _ _ _ (by omega) (by first | assumption | omega) (by first | assumption | omega) (by first | rfl | exact cB_it (by assumption) ic | exact cB_if (by assumption) ic) (by first | (intro j hj; omega) | exact cd_none inone (by rw [← ic]; omega) | exact cd_none2 inone (by assumption)) hH (z_lv (lv_sub hl [3, 4, 5, 6, 7, 8, 9, 1, 0] rfl) (zcons rfl (zcons rfl (zcons rfl (zcons rfl (zcons rfl (zcons rfl (zcons rfl (zcons (zpeq (by omega)) (zcons (zpeq (by omega)) rfl))))))))))
                              · -- 244f
                                refine z_iload hC 247 hl dX7_candidate_247 0 rfl ?_
                                -- R249.4
                                exact z_iret hC hH hQ 249 ((((ofR v l1 (r1 + 1) t i : Nat) : Int), (va_up (va_up (va_up (va_up (va_up F 0 (0)) 5 ((n : Int))) 6 ((b : Int))) 7 ((t : Int))) 38 ((k_198 : Int))), (va_up (va_up (va_up (va_up (va_up (va_up Ar 3 (cI (n) v gv)) 34 (cI (1000) o_198 go_198)) 35 fo_198) 36 la_198) 37 (cI (k_198) u_198 gu_198)) 39 ia))) dX7_candidate_249 rfl ⟨by (unfold Sp_candidate; rw [if_pos (by omega)]; refine ⟨e, hWB, ?_⟩; rw [if_neg (by omega)]; exact Or.inl ⟨i, by (show i < dst v l1 (r1 + 1)); omega, hia3, by (show (cB (fun j => CSt v t n b l1 (zdiv (l1 + b - 1) b) e (r1 + 1) (ofR v l1 (r1 + 1) t j)) i : Int) = k0); rw [← ic]; omega, rfl⟩), by exact ⟨rfl, rfl, rfl, rfl, rfl, rfl, rfl, rfl, rfl, rfl, rfl, rfl, rfl, rfl, rfl, rfl⟩⟩ rfl (Nat.le_refl _) (Nat.le_refl _)
                            · -- 235f
                              have hia2 := hia0 (by assumption)
                              refine z_goto hC 238 253 dX7_candidate_238 rfl ?_
                              refine z_iinc (lv' := [(8, .int (iZ ((i : Int) + 1))), (9, .int (iZ (((ofR v l1 (r1 + 1) t i : Nat) : Int)))), (0, .ref (ad 0)), (1, .int (iZ ((l1 : Int)))), (2, .int (iZ ((r1 : Int)))), (3, .int (iZ (k0))), (4, .int (iZ (((zdiv (l1 + b - 1) b : Nat) : Int)))), (5, .int (iZ ((e : Int) - 1))), (6, .int (iZ (so))), (7, .int (iZ ((c : Int))))]) hC 253 hl dX7_candidate_253 9 rfl (by omega) (by decide) rfl (fun ls hl => ?_)
                              refine z_goto hC 256 207 dX7_candidate_256 rfl ?_
                              -- J207.5
                              exact ih207 (i + 1) c _ _ _ (by omega) (by first | assumption | omega) (by first | assumption | omega) (by first | rfl | exact cB_it (by assumption) ic | exact cB_if (by assumption) ic) (by first | (intro j hj; omega) | exact cd_none inone (by rw [← ic]; omega) | exact cd_none2 inone (by assumption)) hH (z_lv (lv_sub hl [2, 3, 4, 5, 6, 7, 8, 9, 0] rfl) (zcons rfl (zcons rfl (zcons rfl (zcons rfl (zcons rfl (zcons rfl (zcons rfl (zcons rfl (zcons (zpeq (by omega)) rfl))))))))))
                      -- J207.6
                      exact L207 _ 0 0 _ _ _ (Nat.lt_succ_self _) (by first | assumption | omega) (by first | assumption | omega) (by first | rfl | exact cB_it (by assumption) ic | exact cB_if (by assumption) ic) (by first | (intro j hj; omega) | exact cd_none inone (by rw [← ic]; omega) | exact cd_none2 inone (by assumption)) hH (z_lv (lv_sub hl [2, 3, 4, 5, 6, 7, 8, 1, 0] rfl) (zcons rfl (zcons rfl (zcons rfl (zcons rfl (zcons rfl (zcons rfl (zcons rfl (zcons (zpeq (by omega)) (zcons (zpeq (by omega)) rfl))))))))))
                    · -- 144f
                      refine z_iload hC 147 hl dX7_candidate_147 6 rfl ?_
                      refine z_if_eq hC 149 175 dX7_candidate_149 rfl (by omega) (fun hb8 => ?_) (fun hb8 => ?_)
                      · -- 149t
                        refine z_aload_n hC 175 hl dX7_candidate_175 rfl 0 rfl ?_
                        have hvp := hv p (by omega)
                        refine gmW_39 hC hH 176 dX7_candidate_176 ?_
                        refine z_aload_n hC 179 hl dX7_candidate_179 rfl 0 rfl ?_
                        refine gmW_3 hC hH 180 dX7_candidate_180 ?_
                        refine z_iload hC 183 hl dX7_candidate_183 7 rfl ?_
                        refine lmW_3 (x := ((v p : Nat) : Int)) hC hH 185 (p) (by omega) (by omega) (cI_lt (by omega)) dX7_candidate_185 ?_
                        refine z_iconst hC 186 dX7_candidate_186 ?_
                        refine smW_39 (f' := (va_up ia ((v p)) (1))) hC hH 187 ((v p)) (by omega) (by omega) rfl (by omega) dX7_candidate_187 (fun H locs hH => ?_)
                        have hH : zH s0 s1 G as0 (mW ad G (va_up (va_up (va_up (va_up (va_up F 0 (0)) 5 ((n : Int))) 6 ((b : Int))) 7 ((t : Int))) 38 (f38)) (va_up (va_up (va_up (va_up (va_up (va_up Ar 3 (cI (n) v gv)) 34 a34) 35 a35) 36 a36) 37 a37) 39 (va_up ia ((v p)) (1)))) H locs := hH
                        refine z_iinc (lv' := [(7, .int (iZ ((p : Int) + 1))), (0, .ref (ad 0)), (1, .int (iZ ((l1 : Int)))), (2, .int (iZ ((r1 : Int)))), (3, .int (iZ (k0))), (4, .int (iZ (((zdiv (l1 + b - 1) b : Nat) : Int)))), (5, .int (iZ ((e : Int) - 1))), (6, .int (iZ (so)))]) hC 188 hl dX7_candidate_188 7 rfl (by omega) (by decide) rfl (fun ls hl => ?_)
                        refine z_goto hC 191 141 dX7_candidate_191 rfl ?_
                        -- J141.7
                        exact ih141 (p + 1) (va_up ia ((v p)) (1)) _ _ _ (by omega) (by first | assumption | omega) (by first | assumption | omega) (by first | exact iia | exact cs_in iia2 (by omega) (by omega) | exact cs_out iia2 (by omega)) hH (z_lv (lv_sub hl [1, 2, 3, 4, 5, 6, 7, 0] rfl) (zcons rfl (zcons rfl (zcons rfl (zcons rfl (zcons rfl (zcons rfl (zcons rfl (zcons (zpeq (by omega)) rfl)))))))))
                      · -- 149f
                        refine z_iload hC 152 hl dX7_candidate_152 7 rfl ?_
                        refine z_aload_n hC 154 hl dX7_candidate_154 rfl 0 rfl ?_
                        refine gmW_6 (x := (b : Int)) hC hH 155 rfl dX7_candidate_155 ?_
                        refine z_iload hC 158 hl dX7_candidate_158 4 rfl ?_
                        refine z_imul (e := ((b * (zdiv (l1 + b - 1) b) : Nat) : Int)) hC 160 dX7_candidate_160 (by push_cast; rfl) ?_
                        refine z_icmp_lt hC 161 175 dX7_candidate_161 rfl (by omega) (by omega) (fun hb9 => ?_) (fun hb9 => ?_)
                        · -- 161t
                          refine z_aload_n hC 175 hl dX7_candidate_175 rfl 0 rfl ?_
                          have hvp := hv p (by omega)
                          refine gmW_39 hC hH 176 dX7_candidate_176 ?_
                          refine z_aload_n hC 179 hl dX7_candidate_179 rfl 0 rfl ?_
                          refine gmW_3 hC hH 180 dX7_candidate_180 ?_
                          refine z_iload hC 183 hl dX7_candidate_183 7 rfl ?_
                          refine lmW_3 (x := ((v p : Nat) : Int)) hC hH 185 (p) (by omega) (by omega) (cI_lt (by omega)) dX7_candidate_185 ?_
                          refine z_iconst hC 186 dX7_candidate_186 ?_
                          refine smW_39 (f' := (va_up ia ((v p)) (1))) hC hH 187 ((v p)) (by omega) (by omega) rfl (by omega) dX7_candidate_187 (fun H locs hH => ?_)
                          have hH : zH s0 s1 G as0 (mW ad G (va_up (va_up (va_up (va_up (va_up F 0 (0)) 5 ((n : Int))) 6 ((b : Int))) 7 ((t : Int))) 38 (f38)) (va_up (va_up (va_up (va_up (va_up (va_up Ar 3 (cI (n) v gv)) 34 a34) 35 a35) 36 a36) 37 a37) 39 (va_up ia ((v p)) (1)))) H locs := hH
                          refine z_iinc (lv' := [(7, .int (iZ ((p : Int) + 1))), (0, .ref (ad 0)), (1, .int (iZ ((l1 : Int)))), (2, .int (iZ ((r1 : Int)))), (3, .int (iZ (k0))), (4, .int (iZ (((zdiv (l1 + b - 1) b : Nat) : Int)))), (5, .int (iZ ((e : Int) - 1))), (6, .int (iZ (so)))]) hC 188 hl dX7_candidate_188 7 rfl (by omega) (by decide) rfl (fun ls hl => ?_)
                          refine z_goto hC 191 141 dX7_candidate_191 rfl ?_
                          -- J141.8
                          exact ih141 (p + 1) (va_up ia ((v p)) (1)) _ _ _ (by omega) (by first | assumption | omega) (by first | assumption | omega) (by first | exact iia | exact cs_in iia2 (by omega) (by omega) | exact cs_out iia2 (by omega)) hH (z_lv (lv_sub hl [1, 2, 3, 4, 5, 6, 7, 0] rfl) (zcons rfl (zcons rfl (zcons rfl (zcons rfl (zcons rfl (zcons rfl (zcons rfl (zcons (zpeq (by omega)) rfl)))))))))
                        · -- 161f
                          have hbe1 := hbe (by omega)
                          refine z_iload hC 164 hl dX7_candidate_164 7 rfl ?_
                          refine z_aload_n hC 166 hl dX7_candidate_166 rfl 0 rfl ?_
                          refine z_iload hC 167 hl dX7_candidate_167 5 rfl ?_
                          refine z_st (st' := [.int (iZ (((e - 1 : Nat) : Int))), .ref (ad 0), .int (iZ ((p : Int)))]) (zcons (zieq (by omega)) rfl) ?_
                          refine z_same (z_runV hC hH.2.2 hl.1 hH.1 hH.2.1 1 (As := [.int (iZ (((e - 1 : Nat) : Int)))]) (rest := [.int (iZ ((p : Int)))]) (m_X7_endOf lau s0 G _ ad (va_up (va_up (va_up (va_up (va_up F 0 (0)) 5 ((n : Int))) 6 ((b : Int))) 7 ((t : Int))) 38 (f38)) (va_up (va_up (va_up (va_up (va_up (va_up Ar 3 (cI (n) v gv)) 34 a34) 35 a35) 36 a36) 37 a37) 39 ia) n b (e - 1) (by first | assumption | omega) (by first | assumption | omega) (by first | assumption | omega)) (lw_V q1836 q1838 qs82 q95 q1839) ⟨rfl, by decide, by decide, by decide +kernel⟩ (q0 := 0) (ci := 0) rfl rfl rfl rfl (Nat.le_of_ble_eq_true rfl) ⟨Nat.le_of_ble_eq_true rfl, Nat.le_of_ble_eq_true rfl⟩ ⟨Nat.le_of_ble_eq_true rfl, Nat.le_of_ble_eq_true rfl⟩ dX7_candidate_169) hH (fun _ H locs hpost hH => ?_)
                          have hH : zH s0 s1 G as0 (mW ad G (va_up (va_up (va_up (va_up (va_up F 0 (0)) 5 ((n : Int))) 6 ((b : Int))) 7 ((t : Int))) 38 (f38)) (va_up (va_up (va_up (va_up (va_up (va_up Ar 3 (cI (n) v gv)) 34 a34) 35 a35) 36 a36) 37 a37) 39 ia)) H locs := hH
                          refine z_st (st' := [.int (iZ (((bEnd b (e - 1) n : Nat) : Int) - 1)), .int (iZ ((p : Int)))]) rfl ?_
                          refine z_icmp_le hC 172 188 dX7_candidate_172 rfl (by omega) (by omega) (fun hb10 => ?_) (fun hb10 => ?_)
                          · -- 172t
                            refine z_iinc (lv' := [(7, .int (iZ ((p : Int) + 1))), (0, .ref (ad 0)), (1, .int (iZ ((l1 : Int)))), (2, .int (iZ ((r1 : Int)))), (3, .int (iZ (k0))), (4, .int (iZ (((zdiv (l1 + b - 1) b : Nat) : Int)))), (5, .int (iZ ((e : Int) - 1))), (6, .int (iZ (so)))]) hC 188 hl dX7_candidate_188 7 rfl (by omega) (by decide) rfl (fun ls hl => ?_)
                            refine z_goto hC 191 141 dX7_candidate_191 rfl ?_
                            -- J141.9
                            exact ih141 (p + 1) ia _ _ _ (by omega) (by first | assumption | omega) (by first | assumption | omega) (by first | exact iia | exact cs_in iia2 (by omega) (by omega) | exact cs_out iia2 (by omega)) hH (z_lv (lv_sub hl [1, 2, 3, 4, 5, 6, 7, 0] rfl) (zcons rfl (zcons rfl (zcons rfl (zcons rfl (zcons rfl (zcons rfl (zcons rfl (zcons (zpeq (by omega)) rfl)))))))))
                          · -- 172f
                            refine z_aload_n hC 175 hl dX7_candidate_175 rfl 0 rfl ?_
                            have hvp := hv p (by omega)
                            refine gmW_39 hC hH 176 dX7_candidate_176 ?_
                            refine z_aload_n hC 179 hl dX7_candidate_179 rfl 0 rfl ?_
                            refine gmW_3 hC hH 180 dX7_candidate_180 ?_
                            refine z_iload hC 183 hl dX7_candidate_183 7 rfl ?_
                            refine lmW_3 (x := ((v p : Nat) : Int)) hC hH 185 (p) (by omega) (by omega) (cI_lt (by omega)) dX7_candidate_185 ?_
                            refine z_iconst hC 186 dX7_candidate_186 ?_
                            refine smW_39 (f' := (va_up ia ((v p)) (1))) hC hH 187 ((v p)) (by omega) (by omega) rfl (by omega) dX7_candidate_187 (fun H locs hH => ?_)
                            have hH : zH s0 s1 G as0 (mW ad G (va_up (va_up (va_up (va_up (va_up F 0 (0)) 5 ((n : Int))) 6 ((b : Int))) 7 ((t : Int))) 38 (f38)) (va_up (va_up (va_up (va_up (va_up (va_up Ar 3 (cI (n) v gv)) 34 a34) 35 a35) 36 a36) 37 a37) 39 (va_up ia ((v p)) (1)))) H locs := hH
                            refine z_iinc (lv' := [(7, .int (iZ ((p : Int) + 1))), (0, .ref (ad 0)), (1, .int (iZ ((l1 : Int)))), (2, .int (iZ ((r1 : Int)))), (3, .int (iZ (k0))), (4, .int (iZ (((zdiv (l1 + b - 1) b : Nat) : Int)))), (5, .int (iZ ((e : Int) - 1))), (6, .int (iZ (so)))]) hC 188 hl dX7_candidate_188 7 rfl (by omega) (by decide) rfl (fun ls hl => ?_)
                            refine z_goto hC 191 141 dX7_candidate_191 rfl ?_
                            -- J141.10
                            exact ih141 (p + 1) (va_up ia ((v p)) (1)) _ _ _ (by omega) (by first | assumption | omega) (by first | assumption | omega) (by first | exact iia | exact cs_in iia2 (by omega) (by omega) | exact cs_out iia2 (by omega)) hH (z_lv (lv_sub hl [1, 2, 3, 4, 5, 6, 7, 0] rfl) (zcons rfl (zcons rfl (zcons rfl (zcons rfl (zcons rfl (zcons rfl (zcons rfl (zcons (zpeq (by omega)) rfl)))))))))
                -- J141.11
                exact L141 _ l1 ia _ _ _ (Nat.lt_succ_self _) (by first | assumption | omega) (by first | assumption | omega) (by first | exact iia | exact cs_in iia2 (by omega) (by omega) | exact cs_out iia2 (by omega)) hH (lv_sub hl [1, 2, 3, 4, 5, 6, 7, 0] rfl)
              refine z_iload hC 96 hl dX7_candidate_96 5 rfl ?_
              refine z_iload hC 98 hl dX7_candidate_98 4 rfl ?_
              refine z_icmp_lt hC 100 107 dX7_candidate_100 rfl (by omega) (by omega) (fun hb11 => ?_) (fun hb11 => ?_)
              · -- 100t
                refine z_iconst hC 107 dX7_candidate_107 ?_
                refine z_istore (lv' := [(6, .int (iZ (0))), (0, .ref (ad 0)), (1, .int (iZ ((l1 : Int)))), (2, .int (iZ ((r1 : Int)))), (3, .int (iZ (k0))), (4, .int (iZ (((zdiv (l1 + b - 1) b : Nat) : Int)))), (5, .int (iZ ((e : Int) - 1)))]) hC 108 hl dX7_candidate_108 (by decide) rfl (fun ls hl => ?_)
                refine z_iload hC 110 hl dX7_candidate_110 0 rfl ?_
                refine z_if_eq_t hC 112 138 dX7_candidate_112 rfl (by omega) (by omega) ?_
                -- J138.12
                exact L138 0 ia (F 38) (Ar 34) (Ar 35) (Ar 36) (Ar 37) _ _ _ (by omega) (by first | exact cs_0 (by omega) iz (by omega) | exact cs_1 (by omega) iz (by omega)) hH (lv_sub hl [1, 2, 3, 4, 5, 6, 0] rfl)
              · -- 100f
                refine z_iconst hC 103 dX7_candidate_103 ?_
                refine z_goto hC 104 108 dX7_candidate_104 rfl ?_
                refine z_istore (lv' := [(6, .int (iZ (1))), (0, .ref (ad 0)), (1, .int (iZ ((l1 : Int)))), (2, .int (iZ ((r1 : Int)))), (3, .int (iZ (k0))), (4, .int (iZ (((zdiv (l1 + b - 1) b : Nat) : Int)))), (5, .int (iZ ((e : Int) - 1)))]) hC 108 hl dX7_candidate_108 (by decide) rfl (fun ls hl => ?_)
                refine z_iload hC 110 hl dX7_candidate_110 0 rfl ?_
                refine z_if_eq_f hC 112 138 dX7_candidate_112 rfl (by omega) (by omega) ?_
                have hbe1 := hbe (by omega)
                refine z_aload_n hC 115 hl dX7_candidate_115 rfl 1 rfl ?_
                refine gmW_39 hC hH 116 dX7_candidate_116 ?_
                refine z_aload_n hC 119 hl dX7_candidate_119 rfl 1 rfl ?_
                refine z_aload_n hC 120 hl dX7_candidate_120 rfl 1 rfl ?_
                refine gmW_6 (x := (b : Int)) hC hH 121 rfl dX7_candidate_121 ?_
                refine z_iload hC 124 hl dX7_candidate_124 5 rfl ?_
                refine z_imul (e := ((b * (zdiv (l1 + b - 1) b) : Nat) : Int)) hC 126 dX7_candidate_126 (by push_cast; rfl) ?_
                refine z_aload_n hC 127 hl dX7_candidate_127 rfl 1 rfl ?_
                refine z_iload hC 128 hl dX7_candidate_128 6 rfl ?_
                refine z_st (st' := [.int (iZ (((e - 1 : Nat) : Int))), .ref (ad 0), .int (iZ (((b * (zdiv (l1 + b - 1) b) : Nat) : Int))), .ref (ad 0), .ref (ad 39)]) (zcons (zieq (by omega)) rfl) ?_
                refine z_same (z_runV hC hH.2.2 hl.1 hH.1 hH.2.1 1 (As := [.int (iZ (((e - 1 : Nat) : Int)))]) (rest := [.int (iZ (((b * (zdiv (l1 + b - 1) b) : Nat) : Int))), .ref (ad 0), .ref (ad 39)]) (m_X7_endOf lau s0 G _ ad (va_up (va_up (va_up (va_up F 0 (0)) 5 ((n : Int))) 6 ((b : Int))) 7 ((t : Int))) (va_up (va_up Ar 3 (cI (n) v gv)) 39 ia) n b (e - 1) (by first | assumption | omega) (by first | assumption | omega) (by first | assumption | omega)) (lw_V q1836 q1838 qs82 q95 q1839) ⟨rfl, by decide, by decide, by decide +kernel⟩ (q0 := 0) (ci := 0) rfl rfl rfl rfl (Nat.le_of_ble_eq_true rfl) ⟨Nat.le_of_ble_eq_true rfl, Nat.le_of_ble_eq_true rfl⟩ ⟨Nat.le_of_ble_eq_true rfl, Nat.le_of_ble_eq_true rfl⟩ dX7_candidate_130) hH (fun _ H locs hpost hH => ?_)
                have hH : zH s0 s1 G as0 (mW ad G (va_up (va_up (va_up (va_up F 0 (0)) 5 ((n : Int))) 6 ((b : Int))) 7 ((t : Int))) (va_up (va_up Ar 3 (cI (n) v gv)) 39 ia)) H locs := hH
                refine z_st (st' := [.int (iZ (((bEnd b (e - 1) n : Nat) : Int) - 1)), .int (iZ (((b * (zdiv (l1 + b - 1) b) : Nat) : Int))), .ref (ad 0), .ref (ad 39)]) rfl ?_
                refine z_same (z_runV hC hH.2.2 hl.1 hH.1 hH.2.1 2 (As := [.int (iZ (((b * (zdiv (l1 + b - 1) b) : Nat) : Int))), .int (iZ (((bEnd b (e - 1) n : Nat) : Int) - 1))]) (rest := [.ref (ad 39)]) (m_X7_modeOf lau s0 G _ ad (va_up (va_up (va_up (va_up F 0 (0)) 5 ((n : Int))) 6 ((b : Int))) 7 ((t : Int))) (va_up (va_up Ar 3 (cI (n) v gv)) 39 ia) n v gv (b * (zdiv (l1 + b - 1) b)) (bEnd b (e - 1) n) t (by first | assumption | omega) (by first | assumption | omega) (by first | assumption | omega) (by first | assumption | omega) (by first | assumption | omega)) (lw_V q1760 q1762 qs72 q95 q1763) ⟨rfl, by decide, by decide, by decide +kernel⟩ (q0 := 0) (ci := 0) rfl rfl rfl rfl (Nat.le_of_ble_eq_true rfl) ⟨Nat.le_of_ble_eq_true rfl, Nat.le_of_ble_eq_true rfl⟩ ⟨Nat.le_of_ble_eq_true rfl, Nat.le_of_ble_eq_true rfl⟩ dX7_candidate_133) hH (fun u_ H locs hpost hH => ?_)
                obtain ⟨o_133, go_133, fo_133, la_133, k_133, u_133, gu_133⟩ := u_
                obtain ⟨pCO_133, pm1_133, pm2_133, pk_133⟩ : (CO v (b * (zdiv (l1 + b - 1) b)) (bEnd b (e - 1) n) o_133 fo_133 la_133 k_133 u_133) ∧ (md v (b * (zdiv (l1 + b - 1) b)) (bEnd b (e - 1) n) t < 1000) ∧ (0 < cnt v (b * (zdiv (l1 + b - 1) b)) (bEnd b (e - 1) n) (md v (b * (zdiv (l1 + b - 1) b)) (bEnd b (e - 1) n) t)) ∧ (0 < k_133) := hpost
                have hH : zH s0 s1 G as0 (mW ad G (va_up (va_up (va_up (va_up (va_up F 0 (0)) 5 ((n : Int))) 6 ((b : Int))) 7 ((t : Int))) 38 ((k_133 : Int))) (va_up (va_up (va_up (va_up (va_up (va_up Ar 3 (cI (n) v gv)) 34 (cI (1000) o_133 go_133)) 35 fo_133) 36 la_133) 37 (cI (k_133) u_133 gu_133)) 39 ia)) H locs := hH
                refine z_st (st' := [.int (iZ (((md v (b * (zdiv (l1 + b - 1) b)) (bEnd b (e - 1) n) t : Nat) : Int))), .ref (ad 39)]) rfl ?_
                refine z_iconst hC 136 dX7_candidate_136 ?_
                refine smW_39 (f' := (va_up ia ((md v (b * (zdiv (l1 + b - 1) b)) (bEnd b (e - 1) n) t)) (1))) hC hH 137 ((md v (b * (zdiv (l1 + b - 1) b)) (bEnd b (e - 1) n) t)) (by omega) (by omega) rfl (by omega) dX7_candidate_137 (fun H locs hH => ?_)
                have hH : zH s0 s1 G as0 (mW ad G (va_up (va_up (va_up (va_up (va_up F 0 (0)) 5 ((n : Int))) 6 ((b : Int))) 7 ((t : Int))) 38 ((k_133 : Int))) (va_up (va_up (va_up (va_up (va_up (va_up Ar 3 (cI (n) v gv)) 34 (cI (1000) o_133 go_133)) 35 fo_133) 36 la_133) 37 (cI (k_133) u_133 gu_133)) 39 (va_up ia ((md v (b * (zdiv (l1 + b - 1) b)) (bEnd b (e - 1) n) t)) (1)))) H locs := hH
                -- J138.13
                exact L138 1 (va_up ia ((md v (b * (zdiv (l1 + b - 1) b)) (bEnd b (e - 1) n) t)) (1)) (k_133 : Int) (cI (1000) o_133 go_133) fo_133 la_133 (cI (k_133) u_133 gu_133) _ _ _ (by omega) (by first | exact cs_0 (by omega) iz (by omega) | exact cs_1 (by omega) iz (by omega)) hH (lv_sub hl [1, 2, 3, 4, 5, 6, 0] rfl)
            · -- 79f
              refine z_aload_n hC 82 hl dX7_candidate_82 rfl 0 rfl ?_
              refine gmW_39 hC hH 83 dX7_candidate_83 ?_
              refine z_iload hC 86 hl dX7_candidate_86 6 rfl ?_
              refine z_iconst hC 88 dX7_candidate_88 ?_
              refine smW_39 (f' := (va_up ia (i) (0))) hC hH 89 (i) (by omega) (by omega) rfl (by omega) dX7_candidate_89 (fun H locs hH => ?_)
              have hH : zH s0 s1 G as0 (mW ad G (va_up (va_up (va_up (va_up F 0 (0)) 5 ((n : Int))) 6 ((b : Int))) 7 ((t : Int))) (va_up (va_up Ar 3 (cI (n) v gv)) 39 (va_up ia (i) (0)))) H locs := hH
              refine z_iinc (lv' := [(6, .int (iZ ((i : Int) + 1))), (0, .ref (ad 0)), (1, .int (iZ ((l1 : Int)))), (2, .int (iZ ((r1 : Int)))), (3, .int (iZ (k0))), (4, .int (iZ (((zdiv (l1 + b - 1) b : Nat) : Int)))), (5, .int (iZ ((e : Int) - 1)))]) hC 90 hl dX7_candidate_90 6 rfl (by omega) (by decide) rfl (fun ls hl => ?_)
              refine z_goto hC 93 74 dX7_candidate_93 rfl ?_
              -- J74.14
              exact ih74 (i + 1) (va_up ia (i) (0)) _ _ _ (by omega) (by first | assumption | omega) (by first | (intro j hj; omega) | exact z0_up iz) hH (z_lv (lv_sub hl [1, 2, 3, 4, 5, 6, 0] rfl) (zcons rfl (zcons rfl (zcons rfl (zcons rfl (zcons rfl (zcons rfl (zcons (zpeq (by omega)) rfl))))))))
        -- J74.15
        exact L74 _ 0 (Ar 39) _ _ _ (Nat.lt_succ_self _) (by first | assumption | omega) (by first | (intro j hj; omega) | exact z0_up iz) hH (z_lv (lv_sub hl [1, 2, 3, 4, 5, 6, 0] rfl) (zcons rfl (zcons rfl (zcons rfl (zcons rfl (zcons rfl (zcons rfl (zcons (zpeq (by omega)) rfl))))))))
      have hfi := blk_le (n := l1) hb.1 (by omega)
      have hbfi := Nat.mul_le_mul hb.2 hfi
      refine z_iload hC 36 hl dX7_candidate_36 0 rfl ?_
      refine z_iconst hC 38 dX7_candidate_38 ?_
      refine z_isub (e := ((zdiv (l1 + b - 1) b : Nat) : Int) - 1) hC 39 dX7_candidate_39 rfl ?_
      refine z_istore (lv' := [(5, .int (iZ (((zdiv (l1 + b - 1) b : Nat) : Int) - 1))), (4, .int (iZ (((zdiv (l1 + b - 1) b : Nat) : Int)))), (0, .ref (ad 0)), (1, .int (iZ ((l1 : Int)))), (2, .int (iZ ((r1 : Int)))), (3, .int (iZ (k0)))]) hC 40 hl dX7_candidate_40 (by decide) rfl (fun ls hl => ?_)
      have L42 : ∀ (N_ : Nat) (e : Nat) (H : Heap) (locs : List Loc) (ls : Array Slot), 122 - e < N_ → ((zdiv (l1 + b - 1) b) ≤ e) → (e ≤ 122) → (∀ j, (zdiv (l1 + b - 1) b) ≤ j → j < e → j < zdiv (n + b - 1) b ∧ bEnd b j n ≤ r1 + 1) → zH s0 s1 G as0 (mW ad G (va_up (va_up (va_up (va_up F 0 (0)) 5 ((n : Int))) 6 ((b : Int))) 7 ((t : Int))) (va_up Ar 3 (cI (n) v gv))) H locs → lv_has ls 10 [(0, .ref (ad 0)), (1, .int (iZ ((l1 : Int)))), (2, .int (iZ ((r1 : Int)))), (3, .int (iZ (k0))), (4, .int (iZ (((zdiv (l1 + b - 1) b : Nat) : Int)))), (5, .int (iZ ((e : Int) - 1)))] → W pg lau ev (zRm 3 0 0 70) s1 mi ar bl me cd H locs 0 0 Q (F0 mi 42 ls []) := by
        intro N_
        induction N_ with
        | zero => intro e H locs ls hd; exact absurd hd (Nat.not_lt_zero _)
        | succ N_ ih42 =>
          intro e H locs ls hd42 i42_1 i42_2 ie hH hl
          refine z_iload hC 42 hl dX7_candidate_42 5 rfl ?_
          refine z_iconst hC 44 dX7_candidate_44 ?_
          refine z_iadd (e := (e : Int)) hC 45 dX7_candidate_45 (by omega) ?_
          refine z_aload_n hC 46 hl dX7_candidate_46 rfl 0 rfl ?_
          refine z_same (z_runV hC hH.2.2 hl.1 hH.1 hH.2.1 0 (As := []) (rest := [.int (iZ ((e : Int)))]) (m_X7_blocks lau s0 G _ ad (va_up (va_up (va_up (va_up F 0 (0)) 5 ((n : Int))) 6 ((b : Int))) 7 ((t : Int))) (va_up Ar 3 (cI (n) v gv)) n b (by first | assumption | omega) (by first | assumption | omega)) (lw_V q1832 q1834 qs81 q95 q1835) ⟨rfl, by decide, by decide, by decide +kernel⟩ (q0 := 0) (ci := 0) rfl rfl rfl rfl (Nat.le_of_ble_eq_true rfl) ⟨Nat.le_of_ble_eq_true rfl, Nat.le_of_ble_eq_true rfl⟩ ⟨Nat.le_of_ble_eq_true rfl, Nat.le_of_ble_eq_true rfl⟩ dX7_candidate_47) hH (fun _ H locs hpost hH => ?_)
          have pb_47 : zdiv (n + b - 1) b ≤ 120 := hpost
          have hH : zH s0 s1 G as0 (mW ad G (va_up (va_up (va_up (va_up F 0 (0)) 5 ((n : Int))) 6 ((b : Int))) 7 ((t : Int))) (va_up Ar 3 (cI (n) v gv))) H locs := hH
          refine z_st (st' := [.int (iZ (((zdiv (n + b - 1) b : Nat) : Int))), .int (iZ ((e : Int)))]) rfl ?_
          refine z_icmp_ge hC 50 71 dX7_candidate_50 rfl (by omega) (by omega) (fun hb12 => ?_) (fun hb12 => ?_)
          · -- 50t
            -- J71.16
            exact L71 e _ _ _ (by first | assumption | omega) (by first | assumption | omega) (by first | exact ⟨by omega, ie, Or.inl (by omega)⟩ | exact ⟨by omega, ie, Or.inr (by omega)⟩) hH (lv_sub hl [0, 1, 2, 3, 4, 5] rfl)
          · -- 50f
            have hen := (blk_lt (n := n) (j := e) (show 0 < b by omega)).mp (by omega)
            have hbe := bEnd_b (by omega) hen
            refine z_aload_n hC 53 hl dX7_candidate_53 rfl 0 rfl ?_
            refine z_iload hC 54 hl dX7_candidate_54 5 rfl ?_
            refine z_iconst hC 56 dX7_candidate_56 ?_
            refine z_iadd (e := (e : Int)) hC 57 dX7_candidate_57 (by omega) ?_
            refine z_same (z_runV hC hH.2.2 hl.1 hH.1 hH.2.1 1 (As := [.int (iZ ((e : Int)))]) (rest := []) (m_X7_endOf lau s0 G _ ad (va_up (va_up (va_up (va_up F 0 (0)) 5 ((n : Int))) 6 ((b : Int))) 7 ((t : Int))) (va_up Ar 3 (cI (n) v gv)) n b e (by first | assumption | omega) (by first | assumption | omega) (by first | assumption | omega)) (lw_V q1836 q1838 qs82 q95 q1839) ⟨rfl, by decide, by decide, by decide +kernel⟩ (q0 := 0) (ci := 0) rfl rfl rfl rfl (Nat.le_of_ble_eq_true rfl) ⟨Nat.le_of_ble_eq_true rfl, Nat.le_of_ble_eq_true rfl⟩ ⟨Nat.le_of_ble_eq_true rfl, Nat.le_of_ble_eq_true rfl⟩ dX7_candidate_58) hH (fun _ H locs hpost hH => ?_)
            have hH : zH s0 s1 G as0 (mW ad G (va_up (va_up (va_up (va_up F 0 (0)) 5 ((n : Int))) 6 ((b : Int))) 7 ((t : Int))) (va_up Ar 3 (cI (n) v gv))) H locs := hH
            refine z_st (st' := [.int (iZ (((bEnd b e n : Nat) : Int) - 1))]) rfl ?_
            refine z_iload_n hC 61 hl dX7_candidate_61 rfl 2 rfl ?_
            refine z_icmp_gt hC 62 71 dX7_candidate_62 rfl (by omega) (by omega) (fun hb13 => ?_) (fun hb13 => ?_)
            · -- 62t
              -- J71.17
              exact L71 e _ _ _ (by first | assumption | omega) (by first | assumption | omega) (by first | exact ⟨by omega, ie, Or.inl (by omega)⟩ | exact ⟨by omega, ie, Or.inr (by omega)⟩) hH (lv_sub hl [0, 1, 2, 3, 4, 5] rfl)
            · -- 62f
              refine z_iinc (lv' := [(5, .int (iZ ((e : Int)))), (0, .ref (ad 0)), (1, .int (iZ ((l1 : Int)))), (2, .int (iZ ((r1 : Int)))), (3, .int (iZ (k0))), (4, .int (iZ (((zdiv (l1 + b - 1) b : Nat) : Int))))]) hC 65 hl dX7_candidate_65 5 rfl (by omega) (by decide) rfl (fun ls hl => ?_)
              refine z_goto hC 68 42 dX7_candidate_68 rfl ?_
              -- J42.18
              exact ih42 (e + 1) _ _ _ (by omega) (by first | assumption | omega) (by first | assumption | omega) (by first | (intro j q1 q2; omega) | exact cd_s ie (by omega) (by omega)) hH (z_lv (lv_sub hl [1, 2, 3, 4, 5, 0] rfl) (zcons rfl (zcons rfl (zcons rfl (zcons rfl (zcons rfl (zcons (zpeq (by omega)) rfl)))))))
      -- J42.19
      exact L42 _ (zdiv (l1 + b - 1) b) _ _ _ (Nat.lt_succ_self _) (by first | assumption | omega) (by first | assumption | omega) (by first | (intro j q1 q2; omega) | exact cd_s ie (by omega) (by omega)) hH (lv_sub hl [2, 3, 4, 5, 1, 0] rfl)
    · -- 16f
      refine z_iconst hC 19 dX7_candidate_19 ?_
      -- R20.20
      exact z_iret hC hH hQ 20 (((-1), (va_up (va_up (va_up (va_up F 0 (0)) 5 ((n : Int))) 6 ((b : Int))) 7 ((t : Int))), (va_up Ar 3 (cI (n) v gv)))) dX7_candidate_20 rfl ⟨by first | (unfold Sp_candidate; rw [if_neg (by omega)]) | (unfold Sp_candidate; rw [if_pos (by omega)]), by exact ⟨rfl, rfl, rfl, rfl, rfl, rfl, rfl, rfl, rfl, rfl, rfl, rfl, rfl, rfl, rfl, rfl⟩⟩ rfl (Nat.le_refl _) (Nat.le_refl _)
  · -- 8=0
    refine z_if_eq_t hC 11 19 dX7_candidate_11 rfl (by omega) (by omega) ?_
    refine z_iconst hC 19 dX7_candidate_19 ?_
    -- R20.21
    exact z_iret hC hH hQ 20 (((-1), (va_up (va_up (va_up (va_up F 0 (0)) 5 ((n : Int))) 6 ((b : Int))) 7 ((t : Int))), (va_up Ar 3 (cI (n) v gv)))) dX7_candidate_20 rfl ⟨by first | (unfold Sp_candidate; rw [if_neg (by omega)]) | (unfold Sp_candidate; rw [if_pos (by omega)]), by exact ⟨rfl, rfl, rfl, rfl, rfl, rfl, rfl, rfl, rfl, rfl, rfl, rfl, rfl, rfl, rfl, rfl⟩⟩ rfl (Nat.le_refl _) (Nat.le_refl _)
