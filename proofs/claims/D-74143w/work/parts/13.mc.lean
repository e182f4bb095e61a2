/-! methods of ModeDeskModel: 13.mc -/
set_option maxHeartbeats 4000000 in
set_option maxRecDepth 100000 in
theorem m_X7_blocks (lau : Launch) (s0 : State) (G : zG) (sz : Nat) (ad : Nat → Nat) (F : Nat → Int) (Ar : Nat → Nat → Int) (n : Nat) (b : Nat) (hn : n ≤ 120) (hb : 2 ≤ b ∧ b ≤ 20) : zMet (S := Unit) lau yX7_blocks cX7_blocks 1 (some .int) 0 0 0 0 s0 G sz [.ref (ad 0)] (mW ad G (va_up (va_up F 5 ((n : Int))) 6 ((b : Int))) Ar) (fun (_ : Unit) => some (.int (iZ (((zdiv (n + b - 1) b : Nat) : Int))))) (fun (_ : Unit) => (zdiv (n + b - 1) b ≤ 120)) (fun (_ : Unit) => (mW ad G (va_up (va_up F 5 ((n : Int))) 6 ((b : Int))) Ar)) := by
  refine zMet.of (by decide) (Nat.le_of_ble_eq_true rfl) ?_
  intro pg ev s1 mi ar bl me cd ls Q as0 hC hH hl hQ hsz
  generalize s1.heap = H at hH ⊢
  generalize ([] : List Loc) = locs at hH ⊢
  have hl : lv_has ls 1 [(0, .ref (ad 0))] := hl
  refine z_aload_n hC 0 hl dX7_blocks_0 rfl 0 rfl ?_
  refine gmW_5 (x := (n : Int)) hC hH 1 rfl dX7_blocks_1 ?_
  refine z_aload_n hC 4 hl dX7_blocks_4 rfl 0 rfl ?_
  refine gmW_6 (x := (b : Int)) hC hH 5 rfl dX7_blocks_5 ?_
  refine z_iadd (e := (n : Int) + (b : Int)) hC 8 dX7_blocks_8 rfl ?_
  refine z_iconst hC 9 dX7_blocks_9 ?_
  refine z_isub (e := (n : Int) + (b : Int) - 1) hC 10 dX7_blocks_10 rfl ?_
  refine z_aload_n hC 11 hl dX7_blocks_11 rfl 0 rfl ?_
  refine gmW_6 (x := (b : Int)) hC hH 12 rfl dX7_blocks_12 ?_
  refine z_idiv hC 15 (n + b - 1) (b) dX7_blocks_15 (by omega) (by omega) (by omega) (by omega) ((zdiv (n + b - 1) b)) rfl ?_
  -- R16.1
  exact z_iret hC hH hQ 16 (()) dX7_blocks_16 rfl (by exact blk_le hb.1 hn) rfl (Nat.le_refl _) (Nat.le_refl _)

set_option maxHeartbeats 4000000 in
set_option maxRecDepth 100000 in
theorem m_X7_ranked (lau : Launch) (s0 : State) (G : zG) (sz : Nat) (ad : Nat → Nat) (F : Nat → Int) (Ar : Nat → Nat → Int) (n : Nat) (v : Nat → Nat) (gv : Nat → Int) (t : Nat) (l : Int) (r : Int) (k0 : Int) (q : Int) (hn : n ≤ 120) (hv : ∀ i, i < n → v i < 1000) (ht : t < 4) (hr_l : -2147483648 ≤ l ∧ l < 2147483648) (hr_r : -2147483648 ≤ r ∧ r < 2147483648) (hr_k0 : -2147483648 ≤ k0 ∧ k0 < 2147483648) (hr_q : -2147483648 ≤ q ∧ q < 2147483648) : zMet (S := Int × (Nat → Int) × (Nat → Nat → Int)) lau yX7_ranked cX7_ranked 6 (some .int) 3 70 0 0 s0 G sz [.ref (ad 0), .int (iZ (l)), .int (iZ (r)), .int (iZ (k0)), .int (iZ (q))] (mW ad G (va_up (va_up F 5 ((n : Int))) 7 ((t : Int))) (va_up Ar 3 (cI (n) v gv))) (fun ((r_, F2, A2) : Int × (Nat → Int) × (Nat → Nat → Int)) => some (.int (iZ (r_)))) (fun ((r_, F2, A2) : Int × (Nat → Int) × (Nat → Nat → Int)) => (Sp_ranked n v t l r k0 q r_) ∧ (MK (va_up (va_up F 5 ((n : Int))) 7 ((t : Int))) (va_up Ar 3 (cI (n) v gv)) F2 A2)) (fun ((r_, F2, A2) : Int × (Nat → Int) × (Nat → Nat → Int)) => (mW ad G F2 A2)) := by
  refine zMet.of (by decide) (Nat.le_of_ble_eq_true rfl) ?_
  intro pg ev s1 mi ar bl me cd ls Q as0 hC hH hl hQ hsz
  generalize s1.heap = H at hH ⊢
  generalize ([] : List Loc) = locs at hH ⊢
  have hl : lv_has ls 6 [(0, .ref (ad 0)), (1, .int (iZ (l))), (2, .int (iZ (r))), (3, .int (iZ (k0))), (4, .int (iZ (q)))] := hl
  refine z_aload_n hC 0 hl dX7_ranked_0 rfl 0 rfl ?_
  refine z_iconst hC 1 dX7_ranked_1 ?_
  refine pmW_0 hC hH 2 dX7_ranked_2 (fun H locs hH => ?_)
  have hH : zH s0 s1 G as0 (mW ad G (va_up (va_up (va_up F 0 (0)) 5 ((n : Int))) 7 ((t : Int))) (va_up Ar 3 (cI (n) v gv))) H locs := hH
  refine z_aload_n hC 5 hl dX7_ranked_5 rfl 0 rfl ?_
  refine z_iload_n hC 6 hl dX7_ranked_6 rfl 1 rfl ?_
  refine z_iload_n hC 7 hl dX7_ranked_7 rfl 2 rfl ?_
  refine z_same (z_runV hC hH.2.2 hl.1 hH.1 hH.2.1 2 (As := [.int (iZ (l)), .int (iZ (r))]) (rest := []) (m_X7_isSpan lau s0 G _ ad (va_up (va_up (va_up F 0 (0)) 5 ((n : Int))) 7 ((t : Int))) (va_up Ar 3 (cI (n) v gv)) n l r (by first | assumption | omega) (by first | assumption | omega) (by first | assumption | omega)) (lw_V q1712 q1714 qs68 q95 q1715) ⟨rfl, by decide, by decide, by decide +kernel⟩ (q0 := 0) (ci := 0) rfl rfl rfl rfl (Nat.le_of_ble_eq_true rfl) ⟨Nat.le_of_ble_eq_true rfl, Nat.le_of_ble_eq_true rfl⟩ ⟨Nat.le_of_ble_eq_true rfl, Nat.le_of_ble_eq_true rfl⟩ dX7_ranked_8) hH (fun r_8 H locs hpost hH => ?_)
  have hb_8 : (r_8 = 1 ∧ (0 ≤ l ∧ l ≤ r ∧ r < (n : Int))) ∨ (r_8 = 0 ∧ ¬ (0 ≤ l ∧ l ≤ r ∧ r < (n : Int))) := hpost
  have hH : zH s0 s1 G as0 (mW ad G (va_up (va_up (va_up F 0 (0)) 5 ((n : Int))) 7 ((t : Int))) (va_up Ar 3 (cI (n) v gv))) H locs := hH
  refine z_st (st' := [.int (iZ (r_8))]) rfl ?_
  rcases hb_8 with ⟨rfl, hb_8⟩ | ⟨rfl, hb_8⟩
  · -- 8=1
    refine z_if_eq_f hC 11 29 dX7_ranked_11 rfl (by omega) (by omega) ?_
    refine z_iload_n hC 14 hl dX7_ranked_14 rfl 3 rfl ?_
    refine z_if_lt hC 15 29 dX7_ranked_15 rfl (by omega) (fun hb1 => ?_) (fun hb1 => ?_)
    · -- 15t
      refine z_iconst hC 29 dX7_ranked_29 ?_
      -- R30.1
      exact z_iret hC hH hQ 30 (((-1), (va_up (va_up (va_up F 0 (0)) 5 ((n : Int))) 7 ((t : Int))), (va_up Ar 3 (cI (n) v gv)))) dX7_ranked_30 rfl ⟨by first | (unfold Sp_ranked; rw [if_neg (by omega)]) | (unfold Sp_ranked; rw [if_pos (by omega)]), by exact ⟨rfl, rfl, rfl, rfl, rfl, rfl, rfl, rfl, rfl, rfl, rfl, rfl, rfl, rfl, rfl, rfl⟩⟩ rfl (Nat.le_refl _) (Nat.le_refl _)
    · -- 15f
      refine z_iload hC 18 hl dX7_ranked_18 4 rfl ?_
      refine z_if_lt hC 20 29 dX7_ranked_20 rfl (by omega) (fun hb2 => ?_) (fun hb2 => ?_)
      · -- 20t
        refine z_iconst hC 29 dX7_ranked_29 ?_
        -- R30.2
        exact z_iret hC hH hQ 30 (((-1), (va_up (va_up (va_up F 0 (0)) 5 ((n : Int))) 7 ((t : Int))), (va_up Ar 3 (cI (n) v gv)))) dX7_ranked_30 rfl ⟨by first | (unfold Sp_ranked; rw [if_neg (by omega)]) | (unfold Sp_ranked; rw [if_pos (by omega)]), by exact ⟨rfl, rfl, rfl, rfl, rfl, rfl, rfl, rfl, rfl, rfl, rfl, rfl, rfl, rfl, rfl, rfl⟩⟩ rfl (Nat.le_refl _) (Nat.le_refl _)
      · -- 20f
        refine z_iload hC 23 hl dX7_ranked_23 4 rfl ?_
        refine z_iconst hC 25 dX7_ranked_25 ?_
        refine z_icmp_le hC 26 31 dX7_ranked_26 rfl (by omega) (by omega) (fun hb3 => ?_) (fun hb3 => ?_)
        · -- 26t
          obtain ⟨l1, rfl⟩ := Int.eq_ofNat_of_zero_le (show 0 ≤ l by omega)
          obtain ⟨r1, rfl⟩ := Int.eq_ofNat_of_zero_le (show 0 ≤ r by omega)
          refine z_aload_n hC 31 hl dX7_ranked_31 rfl 0 rfl ?_
          refine z_iload_n hC 32 hl dX7_ranked_32 rfl 1 rfl ?_
          refine z_iload_n hC 33 hl dX7_ranked_33 rfl 2 rfl ?_
          refine z_iconst hC 34 dX7_ranked_34 ?_
          refine z_st (st' := [.int (iZ ((-1))), .int (iZ (((r1 + 1 : Nat) : Int) - 1)), .int (iZ ((l1 : Int))), .ref (ad 0)]) (zcons rfl (zcons (zieq (by omega)) (zcons rfl rfl))) ?_
          refine z_same (z_runV hC hH.2.2 hl.1 hH.1 hH.2.1 3 (As := [.int (iZ ((l1 : Int))), .int (iZ (((r1 + 1 : Nat) : Int) - 1)), .int (iZ ((-1)))]) (rest := []) (m_X7_counts lau s0 G _ ad (va_up (va_up (va_up F 0 (0)) 5 ((n : Int))) 7 ((t : Int))) (va_up Ar 3 (cI (n) v gv)) n v gv l1 (r1 + 1) (-1) v (by first | assumption | omega) (by first | assumption | omega) (by first | assumption | omega) (by first | assumption | omega) (by first | assumption | omega) (by exact fun i _ _ => ⟨fun q => by omega, fun _ => rfl⟩)) (lw_V q1764 q1766 qs73 q95 q1767) ⟨rfl, by decide, by decide, by decide +kernel⟩ (q0 := 0) (ci := 0) rfl rfl rfl rfl (Nat.le_of_ble_eq_true rfl) ⟨Nat.le_of_ble_eq_true rfl, Nat.le_of_ble_eq_true rfl⟩ ⟨Nat.le_of_ble_eq_true rfl, Nat.le_of_ble_eq_true rfl⟩ dX7_ranked_35) hH (fun u_ H locs hpost hH => ?_)
          obtain ⟨o_35, go_35, fo_35, la_35, k_35, u_35, gu_35⟩ := u_
          have pCO_35 : CO v l1 (r1 + 1) o_35 fo_35 la_35 k_35 u_35 := hpost
          have hH : zH s0 s1 G as0 (mW ad G (va_up (va_up (va_up (va_up F 0 (0)) 5 ((n : Int))) 7 ((t : Int))) 38 ((k_35 : Int))) (va_up (va_up (va_up (va_up (va_up Ar 3 (cI (n) v gv)) 34 (cI (1000) o_35 go_35)) 35 fo_35) 36 la_35) 37 (cI (k_35) u_35 gu_35))) H locs := hH
          refine z_st (st' := []) rfl ?_
          have hof := fun h => ofR_spec (t := t) pCO_35.2.2 (i := k0.toNat) h
          have hds := EN_dst pCO_35.2.2
          have hkk := pCO_35.2.2.1
          refine z_aload_n hC 38 hl dX7_ranked_38 rfl 0 rfl ?_
          refine z_iload_n hC 39 hl dX7_ranked_39 rfl 3 rfl ?_
          refine z_aload_n hC 40 hl dX7_ranked_40 rfl 0 rfl ?_
          refine gmW_7 (x := (t : Int)) hC hH 41 rfl dX7_ranked_41 ?_
          refine z_same (z_runV hC hH.2.2 hl.1 hH.1 hH.2.1 2 (As := [.int (iZ (k0)), .int (iZ ((t : Int)))]) (rest := []) (m_X7_ofRank lau s0 G _ ad (va_up (va_up (va_up (va_up F 0 (0)) 5 ((n : Int))) 7 ((t : Int))) 38 ((k_35 : Int))) (va_up (va_up (va_up (va_up (va_up Ar 3 (cI (n) v gv)) 34 (cI (1000) o_35 go_35)) 35 fo_35) 36 la_35) 37 (cI (k_35) u_35 gu_35)) v l1 (r1 + 1) o_35 go_35 fo_35 la_35 k_35 u_35 gu_35 k0 t (by first | assumption | omega) (by first | assumption | omega) (by first | assumption | omega) (by first | assumption | omega)) (lw_V q1784 q1786 qs77 q95 q1787) ⟨rfl, by decide, by decide, by decide +kernel⟩ (q0 := 0) (ci := 0) rfl rfl rfl rfl (Nat.le_of_ble_eq_true rfl) ⟨Nat.le_of_ble_eq_true rfl, Nat.le_of_ble_eq_true rfl⟩ ⟨Nat.le_of_ble_eq_true rfl, Nat.le_of_ble_eq_true rfl⟩ dX7_ranked_44) hH (fun r_44 H locs hpost hH => ?_)
          have p1_44 : (0 ≤ k0 ∧ k0 < k_35 ∧ r_44 = (ofR v l1 (r1 + 1) t k0.toNat : Int)) ∨ (¬ (0 ≤ k0 ∧ k0 < k_35) ∧ r_44 = -1) := hpost
          have hH : zH s0 s1 G as0 (mW ad G (va_up (va_up (va_up (va_up F 0 (0)) 5 ((n : Int))) 7 ((t : Int))) 38 ((k_35 : Int))) (va_up (va_up (va_up (va_up (va_up Ar 3 (cI (n) v gv)) 34 (cI (1000) o_35 go_35)) 35 fo_35) 36 la_35) 37 (cI (k_35) u_35 gu_35))) H locs := hH
          refine z_st (st' := [.int (iZ (r_44))]) rfl ?_
          have hrr : -2147483648 ≤ r_44 ∧ r_44 < 2147483648 := by rcases p1_44 with ⟨_, _, q3⟩ | ⟨_, q3⟩; (· have := hof (by omega); omega); (· omega)
          refine z_istore (lv' := [(5, .int (iZ (r_44))), (0, .ref (ad 0)), (1, .int (iZ ((l1 : Int)))), (2, .int (iZ ((r1 : Int)))), (3, .int (iZ (k0))), (4, .int (iZ (q)))]) hC 47 hl dX7_ranked_47 (by decide) rfl (fun ls hl => ?_)
          refine z_iload hC 49 hl dX7_ranked_49 0 rfl ?_
          refine z_iconst hC 51 dX7_ranked_51 ?_
          refine z_icmp_ne hC 52 60 dX7_ranked_52 rfl (by omega) (by omega) (fun hb4 => ?_) (fun hb4 => ?_)
          · -- 52t
            have hk1 := p1_44.resolve_right (fun q => by omega)
            have hof1 := hof (by omega)
            refine z_aload_n hC 60 hl dX7_ranked_60 rfl 1 rfl ?_
            refine z_iload hC 61 hl dX7_ranked_61 0 rfl ?_
            refine z_iload hC 63 hl dX7_ranked_63 5 rfl ?_
            refine z_st (st' := [.int (iZ (q)), .int (iZ (((ofR v l1 (r1 + 1) t k0.toNat : Nat) : Int))), .ref (ad 0)]) (zcons rfl (zcons (zieq (by omega)) rfl)) ?_
            refine z_same (z_runV hC hH.2.2 hl.1 hH.1 hH.2.1 2 (As := [.int (iZ (((ofR v l1 (r1 + 1) t k0.toNat : Nat) : Int))), .int (iZ (q))]) (rest := []) (m_X7_told lau s0 G _ ad (va_up (va_up (va_up (va_up F 0 (0)) 5 ((n : Int))) 7 ((t : Int))) 38 ((k_35 : Int))) (va_up (va_up (va_up (va_up (va_up Ar 3 (cI (n) v gv)) 34 (cI (1000) o_35 go_35)) 35 fo_35) 36 la_35) 37 (cI (k_35) u_35 gu_35)) v l1 (r1 + 1) o_35 go_35 fo_35 la_35 k_35 u_35 gu_35 (ofR v l1 (r1 + 1) t k0.toNat) q (by first | assumption | omega) (by first | assumption | omega) (by first | assumption | omega) (by exact hof1.1) (by exact hof1.2.1)) (lw_V q1776 q1778 qs76 q95 q1779) ⟨rfl, by decide, by decide, by decide +kernel⟩ (q0 := 0) (ci := 0) rfl rfl rfl rfl (Nat.le_of_ble_eq_true rfl) ⟨Nat.le_of_ble_eq_true rfl, Nat.le_of_ble_eq_true rfl⟩ ⟨Nat.le_of_ble_eq_true rfl, Nat.le_of_ble_eq_true rfl⟩ dX7_ranked_65) hH (fun _ H locs hpost hH => ?_)
            have hH : zH s0 s1 G as0 (mW ad G (va_up (va_up (va_up (va_up F 0 (0)) 5 ((n : Int))) 7 ((t : Int))) 38 ((k_35 : Int))) (va_up (va_up (va_up (va_up (va_up Ar 3 (cI (n) v gv)) 34 (cI (1000) o_35 go_35)) 35 fo_35) 36 la_35) 37 (cI (k_35) u_35 gu_35))) H locs := hH
            refine z_st (st' := [.int (iZ ((toldZ v l1 (r1 + 1) (ofR v l1 (r1 + 1) t k0.toNat) q)))]) rfl ?_
            -- R68.3
            exact z_iret hC hH hQ 68 (((toldZ v l1 (r1 + 1) (ofR v l1 (r1 + 1) t k0.toNat) q), (va_up (va_up (va_up (va_up F 0 (0)) 5 ((n : Int))) 7 ((t : Int))) 38 ((k_35 : Int))), (va_up (va_up (va_up (va_up (va_up Ar 3 (cI (n) v gv)) 34 (cI (1000) o_35 go_35)) 35 fo_35) 36 la_35) 37 (cI (k_35) u_35 gu_35)))) dX7_ranked_68 rfl ⟨by (unfold Sp_ranked; rw [if_pos (by omega)]; (try simp only [Int.toNat_natCast, zt1]); first | done | trivial | rfl | omega | (rw [if_pos (by omega)]; first | done | trivial | rfl | omega) | (rw [if_neg (by omega)]; first | done | trivial | rfl | omega)), by exact ⟨rfl, rfl, rfl, rfl, rfl, rfl, rfl, rfl, rfl, rfl, rfl, rfl, rfl, rfl, rfl, rfl⟩⟩ rfl (Nat.le_refl _) (Nat.le_refl _)
          · -- 52f
            have hk1 := p1_44.resolve_left (fun q => by omega)
            refine z_bipush hC 55 dX7_ranked_55 rfl ?_
            refine z_goto hC 57 68 dX7_ranked_57 rfl ?_
            -- R68.4
            exact z_iret hC hH hQ 68 (((-2), (va_up (va_up (va_up (va_up F 0 (0)) 5 ((n : Int))) 7 ((t : Int))) 38 ((k_35 : Int))), (va_up (va_up (va_up (va_up (va_up Ar 3 (cI (n) v gv)) 34 (cI (1000) o_35 go_35)) 35 fo_35) 36 la_35) 37 (cI (k_35) u_35 gu_35)))) dX7_ranked_68 rfl ⟨by (unfold Sp_ranked; rw [if_pos (by omega)]; (try simp only [Int.toNat_natCast, zt1]); first | done | trivial | rfl | omega | (rw [if_pos (by omega)]; first | done | trivial | rfl | omega) | (rw [if_neg (by omega)]; first | done | trivial | rfl | omega)), by exact ⟨rfl, rfl, rfl, rfl, rfl, rfl, rfl, rfl, rfl, rfl, rfl, rfl, rfl, rfl, rfl, rfl⟩⟩ rfl (Nat.le_refl _) (Nat.le_refl _)
        · -- 26f
          refine z_iconst hC 29 dX7_ranked_29 ?_
          -- R30.5
          exact z_iret hC hH hQ 30 (((-1), (va_up (va_up (va_up F 0 (0)) 5 ((n : Int))) 7 ((t : Int))), (va_up Ar 3 (cI (n) v gv)))) dX7_ranked_30 rfl ⟨by first | (unfold Sp_ranked; rw [if_neg (by omega)]) | (unfold Sp_ranked; rw [if_pos (by omega)]), by exact ⟨rfl, rfl, rfl, rfl, rfl, rfl, rfl, rfl, rfl, rfl, rfl, rfl, rfl, rfl, rfl, rfl⟩⟩ rfl (Nat.le_refl _) (Nat.le_refl _)
  · -- 8=0
    refine z_if_eq_t hC 11 29 dX7_ranked_11 rfl (by omega) (by omega) ?_
    refine z_iconst hC 29 dX7_ranked_29 ?_
    -- R30.6
    exact z_iret hC hH hQ 30 (((-1), (va_up (va_up (va_up F 0 (0)) 5 ((n : Int))) 7 ((t : Int))), (va_up Ar 3 (cI (n) v gv)))) dX7_ranked_30 rfl ⟨by first | (unfold Sp_ranked; rw [if_neg (by omega)]) | (unfold Sp_ranked; rw [if_pos (by omega)]), by exact ⟨rfl, rfl, rfl, rfl, rfl, rfl, rfl, rfl, rfl, rfl, rfl, rfl, rfl, rfl, rfl, rfl⟩⟩ rfl (Nat.le_refl _) (Nat.le_refl _)

set_option maxHeartbeats 4000000 in
set_option maxRecDepth 100000 in
theorem m_X7_rank (lau : Launch) (s0 : State) (G : zG) (sz : Nat) (ad : Nat → Nat) (F : Nat → Int) (Ar : Nat → Nat → Int) (n : Nat) (v : Nat → Nat) (gv : Nat → Int) (t : Nat) (l : Int) (r : Int) (x : Int) (hn : n ≤ 120) (hv : ∀ i, i < n → v i < 1000) (ht : t < 4) (hr_l : -2147483648 ≤ l ∧ l < 2147483648) (hr_r : -2147483648 ≤ r ∧ r < 2147483648) (hr_x : -2147483648 ≤ x ∧ x < 2147483648) : zMet (S := Int × (Nat → Int) × (Nat → Nat → Int)) lau yX7_rank cX7_rank 4 (some .int) 2 47 0 0 s0 G sz [.ref (ad 0), .int (iZ (l)), .int (iZ (r)), .int (iZ (x))] (mW ad G (va_up (va_up F 5 ((n : Int))) 7 ((t : Int))) (va_up Ar 3 (cI (n) v gv))) (fun ((r_, F2, A2) : Int × (Nat → Int) × (Nat → Nat → Int)) => some (.int (iZ (r_)))) (fun ((r_, F2, A2) : Int × (Nat → Int) × (Nat → Nat → Int)) => (Sp_rank n v t l r x r_) ∧ (MK (va_up (va_up F 5 ((n : Int))) 7 ((t : Int))) (va_up Ar 3 (cI (n) v gv)) F2 A2)) (fun ((r_, F2, A2) : Int × (Nat → Int) × (Nat → Nat → Int)) => (mW ad G F2 A2)) := by
  refine zMet.of (by decide) (Nat.le_of_ble_eq_true rfl) ?_
  intro pg ev s1 mi ar bl me cd ls Q as0 hC hH hl hQ hsz
  generalize s1.heap = H at hH ⊢
  generalize ([] : List Loc) = locs at hH ⊢
  have hl : lv_has ls 4 [(0, .ref (ad 0)), (1, .int (iZ (l))), (2, .int (iZ (r))), (3, .int (iZ (x)))] := hl
  refine z_aload_n hC 0 hl dX7_rank_0 rfl 0 rfl ?_
  refine z_iconst hC 1 dX7_rank_1 ?_
  refine pmW_0 hC hH 2 dX7_rank_2 (fun H locs hH => ?_)
  have hH : zH s0 s1 G as0 (mW ad G (va_up (va_up (va_up F 0 (0)) 5 ((n : Int))) 7 ((t : Int))) (va_up Ar 3 (cI (n) v gv))) H locs := hH
  refine z_aload_n hC 5 hl dX7_rank_5 rfl 0 rfl ?_
  refine z_iload_n hC 6 hl dX7_rank_6 rfl 1 rfl ?_
  refine z_iload_n hC 7 hl dX7_rank_7 rfl 2 rfl ?_
  refine z_same (z_runV hC hH.2.2 hl.1 hH.1 hH.2.1 2 (As := [.int (iZ (l)), .int (iZ (r))]) (rest := []) (m_X7_isSpan lau s0 G _ ad (va_up (va_up (va_up F 0 (0)) 5 ((n : Int))) 7 ((t : Int))) (va_up Ar 3 (cI (n) v gv)) n l r (by first | assumption | omega) (by first | assumption | omega) (by first | assumption | omega)) (lw_V q1712 q1714 qs68 q95 q1715) ⟨rfl, by decide, by decide, by decide +kernel⟩ (q0 := 0) (ci := 0) rfl rfl rfl rfl (Nat.le_of_ble_eq_true rfl) ⟨Nat.le_of_ble_eq_true rfl, Nat.le_of_ble_eq_true rfl⟩ ⟨Nat.le_of_ble_eq_true rfl, Nat.le_of_ble_eq_true rfl⟩ dX7_rank_8) hH (fun r_8 H locs hpost hH => ?_)
  have hb_8 : (r_8 = 1 ∧ (0 ≤ l ∧ l ≤ r ∧ r < (n : Int))) ∨ (r_8 = 0 ∧ ¬ (0 ≤ l ∧ l ≤ r ∧ r < (n : Int))) := hpost
  have hH : zH s0 s1 G as0 (mW ad G (va_up (va_up (va_up F 0 (0)) 5 ((n : Int))) 7 ((t : Int))) (va_up Ar 3 (cI (n) v gv))) H locs := hH
  refine z_st (st' := [.int (iZ (r_8))]) rfl ?_
  rcases hb_8 with ⟨rfl, hb_8⟩ | ⟨rfl, hb_8⟩
  · -- 8=1
    refine z_if_eq_f hC 11 21 dX7_rank_11 rfl (by omega) (by omega) ?_
    refine z_iload_n hC 14 hl dX7_rank_14 rfl 3 rfl ?_
    refine z_same (z_runS hC hH.2.2 hl.1 hH.1 hH.2.1 1 (As := [.int (iZ (x))]) (rest := []) (m_X7_isValue lau s0 G _ ad (va_up (va_up (va_up F 0 (0)) 5 ((n : Int))) 7 ((t : Int))) (va_up Ar 3 (cI (n) v gv)) x (by first | assumption | omega)) (lw_S q1677 q1678 q95 q1679) ⟨by decide, by decide, by decide +kernel⟩ rfl rfl (Nat.le_of_ble_eq_true rfl) ⟨Nat.le_of_ble_eq_true rfl, Nat.le_of_ble_eq_true rfl⟩ ⟨Nat.le_of_ble_eq_true rfl, Nat.le_of_ble_eq_true rfl⟩ dX7_rank_15) hH (fun r_15 H locs hpost hH => ?_)
    have hb_15 : (r_15 = 1 ∧ (0 ≤ x ∧ x < 1000)) ∨ (r_15 = 0 ∧ ¬ (0 ≤ x ∧ x < 1000)) := hpost
    have hH : zH s0 s1 G as0 (mW ad G (va_up (va_up (va_up F 0 (0)) 5 ((n : Int))) 7 ((t : Int))) (va_up Ar 3 (cI (n) v gv))) H locs := hH
    refine z_st (st' := [.int (iZ (r_15))]) rfl ?_
    rcases hb_15 with ⟨rfl, hb_15⟩ | ⟨rfl, hb_15⟩
    · -- 15=1
      refine z_if_ne_t hC 18 23 dX7_rank_18 rfl (by omega) (by omega) ?_
      obtain ⟨l1, rfl⟩ := Int.eq_ofNat_of_zero_le (show 0 ≤ l by omega)
      obtain ⟨r1, rfl⟩ := Int.eq_ofNat_of_zero_le (show 0 ≤ r by omega)
      obtain ⟨x1, rfl⟩ := Int.eq_ofNat_of_zero_le (show 0 ≤ x by omega)
      refine z_aload_n hC 23 hl dX7_rank_23 rfl 0 rfl ?_
      refine z_iload_n hC 24 hl dX7_rank_24 rfl 1 rfl ?_
      refine z_iload_n hC 25 hl dX7_rank_25 rfl 2 rfl ?_
      refine z_iconst hC 26 dX7_rank_26 ?_
      refine z_st (st' := [.int (iZ ((-1))), .int (iZ (((r1 + 1 : Nat) : Int) - 1)), .int (iZ ((l1 : Int))), .ref (ad 0)]) (zcons rfl (zcons (zieq (by omega)) (zcons rfl rfl))) ?_
      refine z_same (z_runV hC hH.2.2 hl.1 hH.1 hH.2.1 3 (As := [.int (iZ ((l1 : Int))), .int (iZ (((r1 + 1 : Nat) : Int) - 1)), .int (iZ ((-1)))]) (rest := []) (m_X7_counts lau s0 G _ ad (va_up (va_up (va_up F 0 (0)) 5 ((n : Int))) 7 ((t : Int))) (va_up Ar 3 (cI (n) v gv)) n v gv l1 (r1 + 1) (-1) v (by first | assumption | omega) (by first | assumption | omega) (by first | assumption | omega) (by first | assumption | omega) (by first | assumption | omega) (by exact fun i _ _ => ⟨fun q => by omega, fun _ => rfl⟩)) (lw_V q1764 q1766 qs73 q95 q1767) ⟨rfl, by decide, by decide, by decide +kernel⟩ (q0 := 0) (ci := 0) rfl rfl rfl rfl (Nat.le_of_ble_eq_true rfl) ⟨Nat.le_of_ble_eq_true rfl, Nat.le_of_ble_eq_true rfl⟩ ⟨Nat.le_of_ble_eq_true rfl, Nat.le_of_ble_eq_true rfl⟩ dX7_rank_27) hH (fun u_ H locs hpost hH => ?_)
      obtain ⟨o_27, go_27, fo_27, la_27, k_27, u_27, gu_27⟩ := u_
      have pCO_27 : CO v l1 (r1 + 1) o_27 fo_27 la_27 k_27 u_27 := hpost
      have hH : zH s0 s1 G as0 (mW ad G (va_up (va_up (va_up (va_up F 0 (0)) 5 ((n : Int))) 7 ((t : Int))) 38 ((k_27 : Int))) (va_up (va_up (va_up (va_up (va_up Ar 3 (cI (n) v gv)) 34 (cI (1000) o_27 go_27)) 35 fo_27) 36 la_27) 37 (cI (k_27) u_27 gu_27))) H locs := hH
      refine z_st (st' := []) rfl ?_
      have ho1 := pCO_27.1 x1 (by omega)
      have hc1 := cnt_le v l1 (r1 + 1) x1
      refine z_aload_n hC 30 hl dX7_rank_30 rfl 0 rfl ?_
      refine gmW_34 hC hH 31 dX7_rank_31 ?_
      refine z_iload_n hC 34 hl dX7_rank_34 rfl 3 rfl ?_
      refine lmW_34 (x := ((o_27 x1 : Nat) : Int)) hC hH 35 (x1) (by omega) (by omega) (cI_lt (by omega)) dX7_rank_35 ?_
      refine z_if_ne hC 36 44 dX7_rank_36 rfl (by omega) (fun hb1 => ?_) (fun hb1 => ?_)
      · -- 36t
        refine z_aload_n hC 44 hl dX7_rank_44 rfl 0 rfl ?_
        refine z_iload_n hC 45 hl dX7_rank_45 rfl 3 rfl ?_
        refine z_aload_n hC 46 hl dX7_rank_46 rfl 0 rfl ?_
        refine gmW_7 (x := (t : Int)) hC hH 47 rfl dX7_rank_47 ?_
        refine z_same (z_runV hC hH.2.2 hl.1 hH.1 hH.2.1 2 (As := [.int (iZ ((x1 : Int))), .int (iZ ((t : Int)))]) (rest := []) (m_X7_rankOf lau s0 G _ ad (va_up (va_up (va_up (va_up F 0 (0)) 5 ((n : Int))) 7 ((t : Int))) 38 ((k_27 : Int))) (va_up (va_up (va_up (va_up (va_up Ar 3 (cI (n) v gv)) 34 (cI (1000) o_27 go_27)) 35 fo_27) 36 la_27) 37 (cI (k_27) u_27 gu_27)) v l1 (r1 + 1) o_27 go_27 fo_27 la_27 k_27 u_27 gu_27 x1 t (by first | assumption | omega) (by first | assumption | omega) (by first | assumption | omega) (by first | assumption | omega) (by first | assumption | omega)) (lw_V q1788 q1790 qs78 q95 q1791) ⟨rfl, by decide, by decide, by decide +kernel⟩ (q0 := 0) (ci := 0) rfl rfl rfl rfl (Nat.le_of_ble_eq_true rfl) ⟨Nat.le_of_ble_eq_true rfl, Nat.le_of_ble_eq_true rfl⟩ ⟨Nat.le_of_ble_eq_true rfl, Nat.le_of_ble_eq_true rfl⟩ dX7_rank_50) hH (fun _ H locs hpost hH => ?_)
        have pb_50 : rk v l1 (r1 + 1) t x1 ≤ 1000 := hpost
        have hH : zH s0 s1 G as0 (mW ad G (va_up (va_up (va_up (va_up F 0 (0)) 5 ((n : Int))) 7 ((t : Int))) 38 ((k_27 : Int))) (va_up (va_up (va_up (va_up (va_up Ar 3 (cI (n) v gv)) 34 (cI (1000) o_27 go_27)) 35 fo_27) 36 la_27) 37 (cI (k_27) u_27 gu_27))) H locs := hH
        refine z_st (st' := [.int (iZ (((rk v l1 (r1 + 1) t x1 : Nat) : Int)))]) rfl ?_
        -- R53.1
        exact z_iret hC hH hQ 53 ((((rk v l1 (r1 + 1) t x1 : Nat) : Int), (va_up (va_up (va_up (va_up F 0 (0)) 5 ((n : Int))) 7 ((t : Int))) 38 ((k_27 : Int))), (va_up (va_up (va_up (va_up (va_up Ar 3 (cI (n) v gv)) 34 (cI (1000) o_27 go_27)) 35 fo_27) 36 la_27) 37 (cI (k_27) u_27 gu_27)))) dX7_rank_53 rfl ⟨by (unfold Sp_rank; rw [if_pos (by omega)]; (try simp only [Int.toNat_natCast, zt1]); first | done | trivial | rfl | omega | (rw [if_pos (by omega)]; first | done | trivial | rfl | omega) | (rw [if_neg (by omega)]; first | done | trivial | rfl | omega)), by exact ⟨rfl, rfl, rfl, rfl, rfl, rfl, rfl, rfl, rfl, rfl, rfl, rfl, rfl, rfl, rfl, rfl⟩⟩ rfl (Nat.le_refl _) (Nat.le_refl _)
      · -- 36f
        refine z_bipush hC 39 dX7_rank_39 rfl ?_
        refine z_goto hC 41 53 dX7_rank_41 rfl ?_
        -- R53.2
        exact z_iret hC hH hQ 53 (((-2), (va_up (va_up (va_up (va_up F 0 (0)) 5 ((n : Int))) 7 ((t : Int))) 38 ((k_27 : Int))), (va_up (va_up (va_up (va_up (va_up Ar 3 (cI (n) v gv)) 34 (cI (1000) o_27 go_27)) 35 fo_27) 36 la_27) 37 (cI (k_27) u_27 gu_27)))) dX7_rank_53 rfl ⟨by (unfold Sp_rank; rw [if_pos (by omega)]; (try simp only [Int.toNat_natCast, zt1]); first | done | trivial | rfl | omega | (rw [if_pos (by omega)]; first | done | trivial | rfl | omega) | (rw [if_neg (by omega)]; first | done | trivial | rfl | omega)), by exact ⟨rfl, rfl, rfl, rfl, rfl, rfl, rfl, rfl, rfl, rfl, rfl, rfl, rfl, rfl, rfl, rfl⟩⟩ rfl (Nat.le_refl _) (Nat.le_refl _)
    · -- 15=0
      refine z_if_ne_f hC 18 23 dX7_rank_18 rfl (by omega) (by omega) ?_
      refine z_iconst hC 21 dX7_rank_21 ?_
      -- R22.3
      exact z_iret hC hH hQ 22 (((-1), (va_up (va_up (va_up F 0 (0)) 5 ((n : Int))) 7 ((t : Int))), (va_up Ar 3 (cI (n) v gv)))) dX7_rank_22 rfl ⟨by first | (unfold Sp_rank; rw [if_neg (by omega)]) | (unfold Sp_rank; rw [if_pos (by omega)]), by exact ⟨rfl, rfl, rfl, rfl, rfl, rfl, rfl, rfl, rfl, rfl, rfl, rfl, rfl, rfl, rfl, rfl⟩⟩ rfl (Nat.le_refl _) (Nat.le_refl _)
  · -- 8=0
    refine z_if_eq_t hC 11 21 dX7_rank_11 rfl (by omega) (by omega) ?_
    refine z_iconst hC 21 dX7_rank_21 ?_
    -- R22.4
    exact z_iret hC hH hQ 22 (((-1), (va_up (va_up (va_up F 0 (0)) 5 ((n : Int))) 7 ((t : Int))), (va_up Ar 3 (cI (n) v gv)))) dX7_rank_22 rfl ⟨by first | (unfold Sp_rank; rw [if_neg (by omega)]) | (unfold Sp_rank; rw [if_pos (by omega)]), by exact ⟨rfl, rfl, rfl, rfl, rfl, rfl, rfl, rfl, rfl, rfl, rfl, rfl, rfl, rfl, rfl, rfl⟩⟩ rfl (Nat.le_refl _) (Nat.le_refl _)

set_option maxHeartbeats 4000000 in
set_option maxRecDepth 100000 in
theorem m_X7_at (lau : Launch) (s0 : State) (G : zG) (sz : Nat) (ad : Nat → Nat) (F : Nat → Int) (Ar : Nat → Nat → Int) (n : Nat) (v : Nat → Nat) (gv : Nat → Int) (t : Nat) (x : Int) (k0 : Int) (hn : n ≤ 120) (hv : ∀ i, i < n → v i < 1000) (ht : t < 4) (hr_x : -2147483648 ≤ x ∧ x < 2147483648) (hr_k0 : -2147483648 ≤ k0 ∧ k0 < 2147483648) : zMet (S := Int × (Nat → Int) × (Nat → Nat → Int)) lau yX7_at cX7_at 5 (some .int) 1 20 0 0 s0 G sz [.ref (ad 0), .int (iZ (x)), .int (iZ (k0))] (mW ad G (va_up (va_up F 5 ((n : Int))) 7 ((t : Int))) (va_up Ar 3 (cI (n) v gv))) (fun ((r_, F2, A2) : Int × (Nat → Int) × (Nat → Nat → Int)) => some (.int (iZ (r_)))) (fun ((r_, F2, A2) : Int × (Nat → Int) × (Nat → Nat → Int)) => (Sp_at n v x k0 r_) ∧ (MK (va_up (va_up F 5 ((n : Int))) 7 ((t : Int))) (va_up Ar 3 (cI (n) v gv)) F2 A2)) (fun ((r_, F2, A2) : Int × (Nat → Int) × (Nat → Nat → Int)) => (mW ad G F2 A2)) := by
  refine zMet.of (by decide) (Nat.le_of_ble_eq_true rfl) ?_
  intro pg ev s1 mi ar bl me cd ls Q as0 hC hH hl hQ hsz
  generalize s1.heap = H at hH ⊢
  generalize ([] : List Loc) = locs at hH ⊢
  have hl : lv_has ls 5 [(0, .ref (ad 0)), (1, .int (iZ (x))), (2, .int (iZ (k0)))] := hl
  refine z_aload_n hC 0 hl dX7_at_0 rfl 0 rfl ?_
  refine z_iconst hC 1 dX7_at_1 ?_
  refine pmW_0 hC hH 2 dX7_at_2 (fun H locs hH => ?_)
  have hH : zH s0 s1 G as0 (mW ad G (va_up (va_up (va_up F 0 (0)) 5 ((n : Int))) 7 ((t : Int))) (va_up Ar 3 (cI (n) v gv))) H locs := hH
  refine z_iload_n hC 5 hl dX7_at_5 rfl 1 rfl ?_
  refine z_same (z_runS hC hH.2.2 hl.1 hH.1 hH.2.1 1 (As := [.int (iZ (x))]) (rest := []) (m_X7_isValue lau s0 G _ ad (va_up (va_up (va_up F 0 (0)) 5 ((n : Int))) 7 ((t : Int))) (va_up Ar 3 (cI (n) v gv)) x (by first | assumption | omega)) (lw_S q1677 q1678 q95 q1679) ⟨by decide, by decide, by decide +kernel⟩ rfl rfl (Nat.le_of_ble_eq_true rfl) ⟨Nat.le_of_ble_eq_true rfl, Nat.le_of_ble_eq_true rfl⟩ ⟨Nat.le_of_ble_eq_true rfl, Nat.le_of_ble_eq_true rfl⟩ dX7_at_6) hH (fun r_6 H locs hpost hH => ?_)
  have hb_6 : (r_6 = 1 ∧ (0 ≤ x ∧ x < 1000)) ∨ (r_6 = 0 ∧ ¬ (0 ≤ x ∧ x < 1000)) := hpost
  have hH : zH s0 s1 G as0 (mW ad G (va_up (va_up (va_up F 0 (0)) 5 ((n : Int))) 7 ((t : Int))) (va_up Ar 3 (cI (n) v gv))) H locs := hH
  refine z_st (st' := [.int (iZ (r_6))]) rfl ?_
  rcases hb_6 with ⟨rfl, hb_6⟩ | ⟨rfl, hb_6⟩
  · -- 6=1
    refine z_if_eq_f hC 9 16 dX7_at_9 rfl (by omega) (by omega) ?_
    refine z_iload_n hC 12 hl dX7_at_12 rfl 2 rfl ?_
    refine z_if_ge hC 13 18 dX7_at_13 rfl (by omega) (fun hb1 => ?_) (fun hb1 => ?_)
    · -- 13t
      obtain ⟨x1, rfl⟩ := Int.eq_ofNat_of_zero_le (show 0 ≤ x by omega)
      obtain ⟨k1, rfl⟩ := Int.eq_ofNat_of_zero_le (show 0 ≤ k0 by omega)
      refine z_iload_n hC 18 hl dX7_at_18 rfl 2 rfl ?_
      refine z_istore_n (lv' := [(3, .int (iZ ((k1 : Int)))), (0, .ref (ad 0)), (1, .int (iZ ((x1 : Int)))), (2, .int (iZ ((k1 : Int))))]) hC 19 hl dX7_at_19 rfl (by decide) rfl (fun ls hl => ?_)
      refine z_iconst hC 20 dX7_at_20 ?_
      refine z_istore (lv' := [(4, .int (iZ (0))), (3, .int (iZ ((k1 : Int)))), (0, .ref (ad 0)), (1, .int (iZ ((x1 : Int)))), (2, .int (iZ ((k1 : Int))))]) hC 21 hl dX7_at_21 (by decide) rfl (fun ls hl => ?_)
      have L23 : ∀ (N_ : Nat) (p : Nat) (lf : Nat) (H : Heap) (locs : List Loc) (ls : Array Slot), n - p < N_ → (p ≤ n) → (lf + cnt v 0 p x1 = k1) → zH s0 s1 G as0 (mW ad G (va_up (va_up (va_up F 0 (0)) 5 ((n : Int))) 7 ((t : Int))) (va_up Ar 3 (cI (n) v gv))) H locs → lv_has ls 5 [(0, .ref (ad 0)), (1, .int (iZ ((x1 : Int)))), (2, .int (iZ ((k1 : Int)))), (3, .int (iZ ((lf : Int)))), (4, .int (iZ ((p : Int))))] → W pg lau ev (zRm 1 0 0 20) s1 mi ar bl me cd H locs 0 0 Q (F0 mi 23 ls []) := by
        intro N_
        induction N_ with
        | zero => intro p lf H locs ls hd; exact absurd hd (Nat.not_lt_zero _)
        | succ N_ ih23 =>
          intro p lf H locs ls hd23 i23_1 il hH hl
          refine z_iload hC 23 hl dX7_at_23 4 rfl ?_
          refine z_aload_n hC 25 hl dX7_at_25 rfl 0 rfl ?_
          refine gmW_5 (x := (n : Int)) hC hH 26 rfl dX7_at_26 ?_
          refine z_icmp_ge hC 29 62 dX7_at_29 rfl (by omega) (by omega) (fun hb2 => ?_) (fun hb2 => ?_)
          · -- 29t
            obtain rfl : n = (p) := by omega
            refine z_bipush hC 62 dX7_at_62 rfl ?_
            -- R64.1
            exact z_iret hC hH hQ 64 (((-2), (va_up (va_up (va_up F 0 (0)) 5 ((n : Int))) 7 ((t : Int))), (va_up Ar 3 (cI (n) v gv)))) dX7_at_64 rfl ⟨by (unfold Sp_at; rw [if_pos (by omega)]; exact Or.inr ⟨by simp only [Int.toNat_natCast]; omega, rfl⟩), by exact ⟨rfl, rfl, rfl, rfl, rfl, rfl, rfl, rfl, rfl, rfl, rfl, rfl, rfl, rfl, rfl, rfl⟩⟩ rfl (Nat.le_refl _) (Nat.le_refl _)
          · -- 29f
            have hc := cnt_succ v x1 (show 0 ≤ (p) by omega)
            have hvp := hv (p) (by omega)
            refine z_aload_n hC 32 hl dX7_at_32 rfl 0 rfl ?_
            refine gmW_3 hC hH 33 dX7_at_33 ?_
            refine z_iload hC 36 hl dX7_at_36 4 rfl ?_
            refine lmW_3 (x := ((v p : Nat) : Int)) hC hH 38 (p) (by omega) (by omega) (cI_lt (by omega)) dX7_at_38 ?_
            refine z_iload_n hC 39 hl dX7_at_39 rfl 1 rfl ?_
            refine z_icmp_eq hC 40 46 dX7_at_40 rfl (by omega) (by omega) (fun hb3 => ?_) (fun hb3 => ?_)
            · -- 40t
              refine z_iload_n hC 46 hl dX7_at_46 rfl 3 rfl ?_
              refine z_if_ne hC 47 53 dX7_at_47 rfl (by omega) (fun hb4 => ?_) (fun hb4 => ?_)
              · -- 47t
                refine z_iinc (lv' := [(3, .int (iZ ((lf : Int) - 1))), (0, .ref (ad 0)), (1, .int (iZ ((x1 : Int)))), (2, .int (iZ ((k1 : Int)))), (4, .int (iZ ((p : Int))))]) hC 53 hl dX7_at_53 3 rfl (by omega) (by decide) rfl (fun ls hl => ?_)
                refine z_iinc (lv' := [(4, .int (iZ ((p : Int) + 1))), (3, .int (iZ ((lf : Int) - 1))), (0, .ref (ad 0)), (1, .int (iZ ((x1 : Int)))), (2, .int (iZ ((k1 : Int))))]) hC 56 hl dX7_at_56 4 rfl (by omega) (by decide) rfl (fun ls hl => ?_)
                refine z_goto hC 59 23 dX7_at_59 rfl ?_
                -- J23.2
                exact ih23 (p + 1) (lf - 1) _ _ _ (by omega) (by first | assumption | omega) (by first | (rw [cnt_0 v (Nat.le_refl 0)]; omega) | (split at hc <;> omega)) hH (z_lv (lv_sub hl [2, 3, 4, 1, 0] rfl) (zcons rfl (zcons rfl (zcons rfl (zcons (zpeq (by omega)) (zcons (zpeq (by omega)) rfl))))))
              · -- 47f
                refine z_iload hC 50 hl dX7_at_50 4 rfl ?_
                -- R52.3
                exact z_iret hC hH hQ 52 (((p : Int), (va_up (va_up (va_up F 0 (0)) 5 ((n : Int))) 7 ((t : Int))), (va_up Ar 3 (cI (n) v gv)))) dX7_at_52 rfl ⟨by (unfold Sp_at; rw [if_pos (by omega)]; exact Or.inl ⟨p, by omega, by omega, by simp only [Int.toNat_natCast]; omega, rfl⟩), by exact ⟨rfl, rfl, rfl, rfl, rfl, rfl, rfl, rfl, rfl, rfl, rfl, rfl, rfl, rfl, rfl, rfl⟩⟩ rfl (Nat.le_refl _) (Nat.le_refl _)
            · -- 40f
              refine z_goto hC 43 56 dX7_at_43 rfl ?_
              refine z_iinc (lv' := [(4, .int (iZ ((p : Int) + 1))), (0, .ref (ad 0)), (1, .int (iZ ((x1 : Int)))), (2, .int (iZ ((k1 : Int)))), (3, .int (iZ ((lf : Int))))]) hC 56 hl dX7_at_56 4 rfl (by omega) (by decide) rfl (fun ls hl => ?_)
              refine z_goto hC 59 23 dX7_at_59 rfl ?_
              -- J23.4
              exact ih23 (p + 1) lf _ _ _ (by omega) (by first | assumption | omega) (by first | (rw [cnt_0 v (Nat.le_refl 0)]; omega) | (split at hc <;> omega)) hH (z_lv (lv_sub hl [1, 2, 3, 4, 0] rfl) (zcons rfl (zcons rfl (zcons rfl (zcons rfl (zcons (zpeq (by omega)) rfl))))))
      -- J23.5
      exact L23 _ 0 k1 _ _ _ (Nat.lt_succ_self _) (by first | assumption | omega) (by first | (rw [cnt_0 v (Nat.le_refl 0)]; omega) | (split at hc <;> omega)) hH (z_lv (lv_sub hl [2, 3, 4, 1, 0] rfl) (zcons rfl (zcons rfl (zcons rfl (zcons rfl (zcons (zpeq (by omega)) rfl))))))
    · -- 13f
      refine z_iconst hC 16 dX7_at_16 ?_
      -- R17.6
      exact z_iret hC hH hQ 17 (((-1), (va_up (va_up (va_up F 0 (0)) 5 ((n : Int))) 7 ((t : Int))), (va_up Ar 3 (cI (n) v gv)))) dX7_at_17 rfl ⟨by first | (unfold Sp_at; rw [if_neg (by omega)]) | (unfold Sp_at; rw [if_pos (by omega)]), by exact ⟨rfl, rfl, rfl, rfl, rfl, rfl, rfl, rfl, rfl, rfl, rfl, rfl, rfl, rfl, rfl, rfl⟩⟩ rfl (Nat.le_refl _) (Nat.le_refl _)
  · -- 6=0
    refine z_if_eq_t hC 9 16 dX7_at_9 rfl (by omega) (by omega) ?_
    refine z_iconst hC 16 dX7_at_16 ?_
    -- R17.7
    exact z_iret hC hH hQ 17 (((-1), (va_up (va_up (va_up F 0 (0)) 5 ((n : Int))) 7 ((t : Int))), (va_up Ar 3 (cI (n) v gv)))) dX7_at_17 rfl ⟨by first | (unfold Sp_at; rw [if_neg (by omega)]) | (unfold Sp_at; rw [if_pos (by omega)]), by exact ⟨rfl, rfl, rfl, rfl, rfl, rfl, rfl, rfl, rfl, rfl, rfl, rfl, rfl, rfl, rfl, rfl⟩⟩ rfl (Nat.le_refl _) (Nat.le_refl _)

set_option maxHeartbeats 4000000 in
set_option maxRecDepth 100000 in
theorem m_X7_unlike (lau : Launch) (s0 : State) (G : zG) (sz : Nat) (ad : Nat → Nat) (F : Nat → Int) (Ar : Nat → Nat → Int) (n : Nat) (v : Nat → Nat) (gv : Nat → Int) (t : Nat) (l : Int) (r : Int) (hn : n ≤ 120) (hv : ∀ i, i < n → v i < 1000) (ht : t < 4) (hr_l : -2147483648 ≤ l ∧ l < 2147483648) (hr_r : -2147483648 ≤ r ∧ r < 2147483648) : zMet (S := Int × (Nat → Int) × (Nat → Nat → Int)) lau yX7_unlike cX7_unlike 3 (some .int) 1 25 0 0 s0 G sz [.ref (ad 0), .int (iZ (l)), .int (iZ (r))] (mW ad G (va_up (va_up F 5 ((n : Int))) 7 ((t : Int))) (va_up Ar 3 (cI (n) v gv))) (fun ((r_, F2, A2) : Int × (Nat → Int) × (Nat → Nat → Int)) => some (.int (iZ (r_)))) (fun ((r_, F2, A2) : Int × (Nat → Int) × (Nat → Nat → Int)) => (Sp_unlike n v l r r_) ∧ (MK (va_up (va_up F 5 ((n : Int))) 7 ((t : Int))) (va_up Ar 3 (cI (n) v gv)) F2 A2)) (fun ((r_, F2, A2) : Int × (Nat → Int) × (Nat → Nat → Int)) => (mW ad G F2 A2)) := by
  refine zMet.of (by decide) (Nat.le_of_ble_eq_true rfl) ?_
  intro pg ev s1 mi ar bl me cd ls Q as0 hC hH hl hQ hsz
  generalize s1.heap = H at hH ⊢
  generalize ([] : List Loc) = locs at hH ⊢
  have hl : lv_has ls 3 [(0, .ref (ad 0)), (1, .int (iZ (l))), (2, .int (iZ (r)))] := hl
  refine z_aload_n hC 0 hl dX7_unlike_0 rfl 0 rfl ?_
  refine z_iconst hC 1 dX7_unlike_1 ?_
  refine pmW_0 hC hH 2 dX7_unlike_2 (fun H locs hH => ?_)
  have hH : zH s0 s1 G as0 (mW ad G (va_up (va_up (va_up F 0 (0)) 5 ((n : Int))) 7 ((t : Int))) (va_up Ar 3 (cI (n) v gv))) H locs := hH
  refine z_aload_n hC 5 hl dX7_unlike_5 rfl 0 rfl ?_
  refine z_iload_n hC 6 hl dX7_unlike_6 rfl 1 rfl ?_
  refine z_iload_n hC 7 hl dX7_unlike_7 rfl 2 rfl ?_
  refine z_same (z_runV hC hH.2.2 hl.1 hH.1 hH.2.1 2 (As := [.int (iZ (l)), .int (iZ (r))]) (rest := []) (m_X7_isSpan lau s0 G _ ad (va_up (va_up (va_up F 0 (0)) 5 ((n : Int))) 7 ((t : Int))) (va_up Ar 3 (cI (n) v gv)) n l r (by first | assumption | omega) (by first | assumption | omega) (by first | assumption | omega)) (lw_V q1712 q1714 qs68 q95 q1715) ⟨rfl, by decide, by decide, by decide +kernel⟩ (q0 := 0) (ci := 0) rfl rfl rfl rfl (Nat.le_of_ble_eq_true rfl) ⟨Nat.le_of_ble_eq_true rfl, Nat.le_of_ble_eq_true rfl⟩ ⟨Nat.le_of_ble_eq_true rfl, Nat.le_of_ble_eq_true rfl⟩ dX7_unlike_8) hH (fun r_8 H locs hpost hH => ?_)
  have hb_8 : (r_8 = 1 ∧ (0 ≤ l ∧ l ≤ r ∧ r < (n : Int))) ∨ (r_8 = 0 ∧ ¬ (0 ≤ l ∧ l ≤ r ∧ r < (n : Int))) := hpost
  have hH : zH s0 s1 G as0 (mW ad G (va_up (va_up (va_up F 0 (0)) 5 ((n : Int))) 7 ((t : Int))) (va_up Ar 3 (cI (n) v gv))) H locs := hH
  refine z_st (st' := [.int (iZ (r_8))]) rfl ?_
  rcases hb_8 with ⟨rfl, hb_8⟩ | ⟨rfl, hb_8⟩
  · -- 8=1
    refine z_if_ne_t hC 11 16 dX7_unlike_11 rfl (by omega) (by omega) ?_
    obtain ⟨l1, rfl⟩ := Int.eq_ofNat_of_zero_le (show 0 ≤ l by omega)
    obtain ⟨r1, rfl⟩ := Int.eq_ofNat_of_zero_le (show 0 ≤ r by omega)
    refine z_aload_n hC 16 hl dX7_unlike_16 rfl 0 rfl ?_
    refine z_iload_n hC 17 hl dX7_unlike_17 rfl 1 rfl ?_
    refine z_iload_n hC 18 hl dX7_unlike_18 rfl 2 rfl ?_
    refine z_iconst hC 19 dX7_unlike_19 ?_
    refine z_st (st' := [.int (iZ ((-1))), .int (iZ (((r1 + 1 : Nat) : Int) - 1)), .int (iZ ((l1 : Int))), .ref (ad 0)]) (zcons rfl (zcons (zieq (by omega)) (zcons rfl rfl))) ?_
    refine z_same (z_runV hC hH.2.2 hl.1 hH.1 hH.2.1 3 (As := [.int (iZ ((l1 : Int))), .int (iZ (((r1 + 1 : Nat) : Int) - 1)), .int (iZ ((-1)))]) (rest := []) (m_X7_counts lau s0 G _ ad (va_up (va_up (va_up F 0 (0)) 5 ((n : Int))) 7 ((t : Int))) (va_up Ar 3 (cI (n) v gv)) n v gv l1 (r1 + 1) (-1) v (by first | assumption | omega) (by first | assumption | omega) (by first | assumption | omega) (by first | assumption | omega) (by first | assumption | omega) (by exact fun i _ _ => ⟨fun q => by omega, fun _ => rfl⟩)) (lw_V q1764 q1766 qs73 q95 q1767) ⟨rfl, by decide, by decide, by decide +kernel⟩ (q0 := 0) (ci := 0) rfl rfl rfl rfl (Nat.le_of_ble_eq_true rfl) ⟨Nat.le_of_ble_eq_true rfl, Nat.le_of_ble_eq_true rfl⟩ ⟨Nat.le_of_ble_eq_true rfl, Nat.le_of_ble_eq_true rfl⟩ dX7_unlike_20) hH (fun u_ H locs hpost hH => ?_)
    obtain ⟨o_20, go_20, fo_20, la_20, k_20, u_20, gu_20⟩ := u_
    have pCO_20 : CO v l1 (r1 + 1) o_20 fo_20 la_20 k_20 u_20 := hpost
    have hH : zH s0 s1 G as0 (mW ad G (va_up (va_up (va_up (va_up F 0 (0)) 5 ((n : Int))) 7 ((t : Int))) 38 ((k_20 : Int))) (va_up (va_up (va_up (va_up (va_up Ar 3 (cI (n) v gv)) 34 (cI (1000) o_20 go_20)) 35 fo_20) 36 la_20) 37 (cI (k_20) u_20 gu_20))) H locs := hH
    refine z_st (st' := []) rfl ?_
    refine z_aload_n hC 23 hl dX7_unlike_23 rfl 0 rfl ?_
    refine gmW_38 (x := (k_20 : Int)) hC hH 24 rfl dX7_unlike_24 ?_
    -- R27.1
    exact z_iret hC hH hQ 27 (((k_20 : Int), (va_up (va_up (va_up (va_up F 0 (0)) 5 ((n : Int))) 7 ((t : Int))) 38 ((k_20 : Int))), (va_up (va_up (va_up (va_up (va_up Ar 3 (cI (n) v gv)) 34 (cI (1000) o_20 go_20)) 35 fo_20) 36 la_20) 37 (cI (k_20) u_20 gu_20)))) dX7_unlike_27 rfl ⟨by (unfold Sp_unlike; rw [if_pos (by omega)]; try simp only [Int.toNat_natCast, zt1]; rw [EN_dst pCO_20.2.2]), by exact ⟨rfl, rfl, rfl, rfl, rfl, rfl, rfl, rfl, rfl, rfl, rfl, rfl, rfl, rfl, rfl, rfl⟩⟩ rfl (Nat.le_refl _) (Nat.le_refl _)
  · -- 8=0
    refine z_if_ne_f hC 11 16 dX7_unlike_11 rfl (by omega) (by omega) ?_
    refine z_iconst hC 14 dX7_unlike_14 ?_
    -- R15.2
    exact z_iret hC hH hQ 15 (((-1), (va_up (va_up (va_up F 0 (0)) 5 ((n : Int))) 7 ((t : Int))), (va_up Ar 3 (cI (n) v gv)))) dX7_unlike_15 rfl ⟨by first | (unfold Sp_unlike; rw [if_neg (by omega)]) | (unfold Sp_unlike; rw [if_pos (by omega)]), by exact ⟨rfl, rfl, rfl, rfl, rfl, rfl, rfl, rfl, rfl, rfl, rfl, rfl, rfl, rfl, rfl, rfl⟩⟩ rfl (Nat.le_refl _) (Nat.le_refl _)

set_option maxHeartbeats 4000000 in
set_option maxRecDepth 100000 in
theorem m_X7_times (lau : Launch) (s0 : State) (G : zG) (sz : Nat) (ad : Nat → Nat) (F : Nat → Int) (Ar : Nat → Nat → Int) (n : Nat) (v : Nat → Nat) (gv : Nat → Int) (t : Nat) (l : Int) (r : Int) (m : Int) (hn : n ≤ 120) (hv : ∀ i, i < n → v i < 1000) (ht : t < 4) (hr_l : -2147483648 ≤ l ∧ l < 2147483648) (hr_r : -2147483648 ≤ r ∧ r < 2147483648) (hr_m : -2147483648 ≤ m ∧ m < 2147483648) : zMet (S := Int × (Nat → Int) × (Nat → Nat → Int)) lau yX7_times cX7_times 6 (some .int) 1 25 0 0 s0 G sz [.ref (ad 0), .int (iZ (l)), .int (iZ (r)), .int (iZ (m))] (mW ad G (va_up (va_up F 5 ((n : Int))) 7 ((t : Int))) (va_up Ar 3 (cI (n) v gv))) (fun ((r_, F2, A2) : Int × (Nat → Int) × (Nat → Nat → Int)) => some (.int (iZ (r_)))) (fun ((r_, F2, A2) : Int × (Nat → Int) × (Nat → Nat → Int)) => (Sp_times n v l r m r_) ∧ (MK (va_up (va_up F 5 ((n : Int))) 7 ((t : Int))) (va_up Ar 3 (cI (n) v gv)) F2 A2)) (fun ((r_, F2, A2) : Int × (Nat → Int) × (Nat → Nat → Int)) => (mW ad G F2 A2)) := by
  refine zMet.of (by decide) (Nat.le_of_ble_eq_true rfl) ?_
  intro pg ev s1 mi ar bl me cd ls Q as0 hC hH hl hQ hsz
  generalize s1.heap = H at hH ⊢
  generalize ([] : List Loc) = locs at hH ⊢
  have hl : lv_has ls 6 [(0, .ref (ad 0)), (1, .int (iZ (l))), (2, .int (iZ (r))), (3, .int (iZ (m)))] := hl
  refine z_aload_n hC 0 hl dX7_times_0 rfl 0 rfl ?_
  refine z_iconst hC 1 dX7_times_1 ?_
  refine pmW_0 hC hH 2 dX7_times_2 (fun H locs hH => ?_)
  have hH : zH s0 s1 G as0 (mW ad G (va_up (va_up (va_up F 0 (0)) 5 ((n : Int))) 7 ((t : Int))) (va_up Ar 3 (cI (n) v gv))) H locs := hH
  refine z_aload_n hC 5 hl dX7_times_5 rfl 0 rfl ?_
  refine z_iload_n hC 6 hl dX7_times_6 rfl 1 rfl ?_
  refine z_iload_n hC 7 hl dX7_times_7 rfl 2 rfl ?_
  refine z_same (z_runV hC hH.2.2 hl.1 hH.1 hH.2.1 2 (As := [.int (iZ (l)), .int (iZ (r))]) (rest := []) (m_X7_isSpan lau s0 G _ ad (va_up (va_up (va_up F 0 (0)) 5 ((n : Int))) 7 ((t : Int))) (va_up Ar 3 (cI (n) v gv)) n l r (by first | assumption | omega) (by first | assumption | omega) (by first | assumption | omega)) (lw_V q1712 q1714 qs68 q95 q1715) ⟨rfl, by decide, by decide, by decide +kernel⟩ (q0 := 0) (ci := 0) rfl rfl rfl rfl (Nat.le_of_ble_eq_true rfl) ⟨Nat.le_of_ble_eq_true rfl, Nat.le_of_ble_eq_true rfl⟩ ⟨Nat.le_of_ble_eq_true rfl, Nat.le_of_ble_eq_true rfl⟩ dX7_times_8) hH (fun r_8 H locs hpost hH => ?_)
  have hb_8 : (r_8 = 1 ∧ (0 ≤ l ∧ l ≤ r ∧ r < (n : Int))) ∨ (r_8 = 0 ∧ ¬ (0 ≤ l ∧ l ≤ r ∧ r < (n : Int))) := hpost
  have hH : zH s0 s1 G as0 (mW ad G (va_up (va_up (va_up F 0 (0)) 5 ((n : Int))) 7 ((t : Int))) (va_up Ar 3 (cI (n) v gv))) H locs := hH
  refine z_st (st' := [.int (iZ (r_8))]) rfl ?_
  rcases hb_8 with ⟨rfl, hb_8⟩ | ⟨rfl, hb_8⟩
  · -- 8=1
    refine z_if_eq_f hC 11 19 dX7_times_11 rfl (by omega) (by omega) ?_
    refine z_iload_n hC 14 hl dX7_times_14 rfl 3 rfl ?_
    refine z_iconst hC 15 dX7_times_15 ?_
    refine z_icmp_ge hC 16 21 dX7_times_16 rfl (by omega) (by omega) (fun hb1 => ?_) (fun hb1 => ?_)
    · -- 16t
      obtain ⟨l1, rfl⟩ := Int.eq_ofNat_of_zero_le (show 0 ≤ l by omega)
      obtain ⟨r1, rfl⟩ := Int.eq_ofNat_of_zero_le (show 0 ≤ r by omega)
      refine z_aload_n hC 21 hl dX7_times_21 rfl 0 rfl ?_
      refine z_iload_n hC 22 hl dX7_times_22 rfl 1 rfl ?_
      refine z_iload_n hC 23 hl dX7_times_23 rfl 2 rfl ?_
      refine z_iconst hC 24 dX7_times_24 ?_
      refine z_st (st' := [.int (iZ ((-1))), .int (iZ (((r1 + 1 : Nat) : Int) - 1)), .int (iZ ((l1 : Int))), .ref (ad 0)]) (zcons rfl (zcons (zieq (by omega)) (zcons rfl rfl))) ?_
      refine z_same (z_runV hC hH.2.2 hl.1 hH.1 hH.2.1 3 (As := [.int (iZ ((l1 : Int))), .int (iZ (((r1 + 1 : Nat) : Int) - 1)), .int (iZ ((-1)))]) (rest := []) (m_X7_counts lau s0 G _ ad (va_up (va_up (va_up F 0 (0)) 5 ((n : Int))) 7 ((t : Int))) (va_up Ar 3 (cI (n) v gv)) n v gv l1 (r1 + 1) (-1) v (by first | assumption | omega) (by first | assumption | omega) (by first | assumption | omega) (by first | assumption | omega) (by first | assumption | omega) (by exact fun i _ _ => ⟨fun q => by omega, fun _ => rfl⟩)) (lw_V q1764 q1766 qs73 q95 q1767) ⟨rfl, by decide, by decide, by decide +kernel⟩ (q0 := 0) (ci := 0) rfl rfl rfl rfl (Nat.le_of_ble_eq_true rfl) ⟨Nat.le_of_ble_eq_true rfl, Nat.le_of_ble_eq_true rfl⟩ ⟨Nat.le_of_ble_eq_true rfl, Nat.le_of_ble_eq_true rfl⟩ dX7_times_25) hH (fun u_ H locs hpost hH => ?_)
      obtain ⟨o_25, go_25, fo_25, la_25, k_25, u_25, gu_25⟩ := u_
      have pCO_25 : CO v l1 (r1 + 1) o_25 fo_25 la_25 k_25 u_25 := hpost
      have hH : zH s0 s1 G as0 (mW ad G (va_up (va_up (va_up (va_up F 0 (0)) 5 ((n : Int))) 7 ((t : Int))) 38 ((k_25 : Int))) (va_up (va_up (va_up (va_up (va_up Ar 3 (cI (n) v gv)) 34 (cI (1000) o_25 go_25)) 35 fo_25) 36 la_25) 37 (cI (k_25) u_25 gu_25))) H locs := hH
      refine z_st (st' := []) rfl ?_
      have hkk := pCO_25.2.2.1
      refine z_iconst hC 28 dX7_times_28 ?_
      refine z_istore (lv' := [(4, .int (iZ (0))), (0, .ref (ad 0)), (1, .int (iZ ((l1 : Int)))), (2, .int (iZ ((r1 : Int)))), (3, .int (iZ (m)))]) hC 29 hl dX7_times_29 (by decide) rfl (fun ls hl => ?_)
      refine z_iconst hC 31 dX7_times_31 ?_
      refine z_istore (lv' := [(5, .int (iZ (0))), (4, .int (iZ (0))), (0, .ref (ad 0)), (1, .int (iZ ((l1 : Int)))), (2, .int (iZ ((r1 : Int)))), (3, .int (iZ (m)))]) hC 32 hl dX7_times_32 (by decide) rfl (fun ls hl => ?_)
      have L34 : ∀ (N_ : Nat) (i : Nat) (c : Nat) (H : Heap) (locs : List Loc) (ls : Array Slot), k_25 - i < N_ → (i ≤ k_25) → (c = cB (fun j => (cnt v l1 (r1 + 1) (u_25 j) : Int) = m) i) → (c ≤ i) → zH s0 s1 G as0 (mW ad G (va_up (va_up (va_up (va_up F 0 (0)) 5 ((n : Int))) 7 ((t : Int))) 38 ((k_25 : Int))) (va_up (va_up (va_up (va_up (va_up Ar 3 (cI (n) v gv)) 34 (cI (1000) o_25 go_25)) 35 fo_25) 36 la_25) 37 (cI (k_25) u_25 gu_25))) H locs → lv_has ls 6 [(0, .ref (ad 0)), (1, .int (iZ ((l1 : Int)))), (2, .int (iZ ((r1 : Int)))), (3, .int (iZ (m))), (4, .int (iZ ((c : Int)))), (5, .int (iZ ((i : Int))))] → W pg lau ev (zRm 1 0 0 25) s1 mi ar bl me cd H locs 0 0 Q (F0 mi 34 ls []) := by
        intro N_
        induction N_ with
        | zero => intro i c H locs ls hd; exact absurd hd (Nat.not_lt_zero _)
        | succ N_ ih34 =>
          intro i c H locs ls hd34 i34_1 ic i34_3 hH hl
          refine z_iload hC 34 hl dX7_times_34 5 rfl ?_
          refine z_aload_n hC 36 hl dX7_times_36 rfl 0 rfl ?_
          refine gmW_38 (x := (k_25 : Int)) hC hH 37 rfl dX7_times_37 ?_
          refine z_icmp_ge hC 40 75 dX7_times_40 rfl (by omega) (by omega) (fun hb2 => ?_) (fun hb2 => ?_)
          · -- 40t
            obtain rfl : k_25 = (i) := by omega
            have hen := cB_enum (P := fun x => (cnt v l1 (r1 + 1) x : Int) = m) (M := 1000) u_25 k_25 (fun x => 0 < cnt v l1 (r1 + 1) x) pCO_25.2.2.2.1 pCO_25.2.2.2.2.1 pCO_25.2.2.2.2.2
            refine z_iload hC 75 hl dX7_times_75 4 rfl ?_
            -- R77.1
            exact z_iret hC hH hQ 77 (((c : Int), (va_up (va_up (va_up (va_up F 0 (0)) 5 ((n : Int))) 7 ((t : Int))) 38 ((k_25 : Int))), (va_up (va_up (va_up (va_up (va_up Ar 3 (cI (n) v gv)) 34 (cI (1000) o_25 go_25)) 35 fo_25) 36 la_25) 37 (cI (k_25) u_25 gu_25)))) dX7_times_77 rfl ⟨by (unfold Sp_times; rw [if_pos (by omega)]; try simp only [Int.toNat_natCast, zt1]; rw [ic, hen]), by exact ⟨rfl, rfl, rfl, rfl, rfl, rfl, rfl, rfl, rfl, rfl, rfl, rfl, rfl, rfl, rfl, rfl⟩⟩ rfl (Nat.le_refl _) (Nat.le_refl _)
          · -- 40f
            refine z_iload hC 43 hl dX7_times_43 4 rfl ?_
            refine z_aload_n hC 45 hl dX7_times_45 rfl 0 rfl ?_
            have hu := pCO_25.2.2.2.1 (i) (by omega)
            have ho1 := pCO_25.1 (u_25 (i)) hu.1
            have hc1 := cnt_le v l1 (r1 + 1) (u_25 (i))
            refine gmW_34 hC hH 46 dX7_times_46 ?_
            refine z_aload_n hC 49 hl dX7_times_49 rfl 0 rfl ?_
            refine gmW_37 hC hH 50 dX7_times_50 ?_
            refine z_iload hC 53 hl dX7_times_53 5 rfl ?_
            refine lmW_37 (x := ((u_25 i : Nat) : Int)) hC hH 55 (i) (by omega) (by omega) (cI_lt (by omega)) dX7_times_55 ?_
            refine lmW_34 (x := ((o_25 (u_25 i) : Nat) : Int)) hC hH 56 ((u_25 i)) (by omega) (by omega) (cI_lt (by omega)) dX7_times_56 ?_
            refine z_iload_n hC 57 hl dX7_times_57 rfl 3 rfl ?_
            refine z_icmp_ne hC 58 65 dX7_times_58 rfl (by omega) (by omega) (fun hb3 => ?_) (fun hb3 => ?_)
            · -- 58t
              refine z_iconst hC 65 dX7_times_65 ?_
              refine z_iadd (e := (c : Int)) hC 66 dX7_times_66 (by omega) ?_
              refine z_istore (lv' := [(4, .int (iZ ((c : Int)))), (0, .ref (ad 0)), (1, .int (iZ ((l1 : Int)))), (2, .int (iZ ((r1 : Int)))), (3, .int (iZ (m))), (5, .int (iZ ((i : Int))))]) hC 67 hl dX7_times_67 (by decide) rfl (fun ls hl => ?_)
              refine z_iinc (lv' := [(5, .int (iZ ((i : Int) + 1))), (4, .int (iZ ((c : Int)))), (0, .ref (ad 0)), (1, .int (iZ ((l1 : Int)))), (2, .int (iZ ((r1 : Int)))), (3, .int (iZ (m)))]) hC 69 hl dX7_times_69 5 rfl (by omega) (by decide) rfl (fun ls hl => ?_)
              refine z_goto hC 72 34 dX7_times_72 rfl ?_
              -- J34.2
              exact ih34 (i + 1) c _ _ _ (by omega) (by first | assumption | omega) (by first | rfl | exact cB_it (by rw [← ho1]; assumption) ic | exact cB_if (by rw [← ho1]; assumption) ic) (by first | assumption | omega) hH (z_lv (lv_sub hl [2, 3, 4, 5, 1, 0] rfl) (zcons rfl (zcons rfl (zcons rfl (zcons rfl (zcons rfl (zcons (zpeq (by omega)) rfl)))))))
            · -- 58f
              refine z_iconst hC 61 dX7_times_61 ?_
              refine z_goto hC 62 66 dX7_times_62 rfl ?_
              refine z_iadd (e := (c : Int) + 1) hC 66 dX7_times_66 rfl ?_
              refine z_istore (lv' := [(4, .int (iZ ((c : Int) + 1))), (0, .ref (ad 0)), (1, .int (iZ ((l1 : Int)))), (2, .int (iZ ((r1 : Int)))), (3, .int (iZ (m))), (5, .int (iZ ((i : Int))))]) hC 67 hl dX7_times_67 (by decide) rfl (fun ls hl => ?_)
              refine z_iinc (lv' := [(5, .int (iZ ((i : Int) + 1))), (4, .int (iZ ((c : Int) + 1))), (0, .ref (ad 0)), (1, .int (iZ ((l1 : Int)))), (2, .int (iZ ((r1 : Int)))), (3, .int (iZ (m)))]) hC 69 hl dX7_times_69 5 rfl (by omega) (by decide) rfl (fun ls hl => ?_)
              refine z_goto hC 72 34 dX7_times_72 rfl ?_
              -- J34.3
              exact ih34 (i + 1) (c + 1) _ _ _ (by omega) (by first | assumption | omega) (by first | rfl | exact cB_it (by rw [← ho1]; assumption) ic | exact cB_if (by rw [← ho1]; assumption) ic) (by first | assumption | omega) hH (z_lv (lv_sub hl [2, 3, 4, 5, 1, 0] rfl) (zcons rfl (zcons rfl (zcons rfl (zcons rfl (zcons (zpeq (by omega)) (zcons (zpeq (by omega)) rfl)))))))
      -- J34.4
      exact L34 _ 0 0 _ _ _ (Nat.lt_succ_self _) (by first | assumption | omega) (by first | rfl | exact cB_it (by rw [← ho1]; assumption) ic | exact cB_if (by rw [← ho1]; assumption) ic) (by first | assumption | omega) hH (z_lv (lv_sub hl [2, 3, 4, 5, 1, 0] rfl) (zcons rfl (zcons rfl (zcons rfl (zcons rfl (zcons (zpeq (by omega)) (zcons (zpeq (by omega)) rfl)))))))
    · -- 16f
      refine z_iconst hC 19 dX7_times_19 ?_
      -- R20.5
      exact z_iret hC hH hQ 20 (((-1), (va_up (va_up (va_up F 0 (0)) 5 ((n : Int))) 7 ((t : Int))), (va_up Ar 3 (cI (n) v gv)))) dX7_times_20 rfl ⟨by first | (unfold Sp_times; rw [if_neg (by omega)]) | (unfold Sp_times; rw [if_pos (by omega)]), by exact ⟨rfl, rfl, rfl, rfl, rfl, rfl, rfl, rfl, rfl, rfl, rfl, rfl, rfl, rfl, rfl, rfl⟩⟩ rfl (Nat.le_refl _) (Nat.le_refl _)
  · -- 8=0
    refine z_if_eq_t hC 11 19 dX7_times_11 rfl (by omega) (by omega) ?_
    refine z_iconst hC 19 dX7_times_19 ?_
    -- R20.6
    exact z_iret hC hH hQ 20 (((-1), (va_up (va_up (va_up F 0 (0)) 5 ((n : Int))) 7 ((t : Int))), (va_up Ar 3 (cI (n) v gv)))) dX7_times_20 rfl ⟨by first | (unfold Sp_times; rw [if_neg (by omega)]) | (unfold Sp_times; rw [if_pos (by omega)]), by exact ⟨rfl, rfl, rfl, rfl, rfl, rfl, rfl, rfl, rfl, rfl, rfl, rfl, rfl, rfl, rfl, rfl⟩⟩ rfl (Nat.le_refl _) (Nat.le_refl _)

set_option maxHeartbeats 4000000 in
set_option maxRecDepth 100000 in
theorem m_X7_majorityOf (lau : Launch) (s0 : State) (G : zG) (sz : Nat) (ad : Nat → Nat) (F : Nat → Int) (Ar : Nat → Nat → Int) (n : Nat) (v : Nat → Nat) (gv : Nat → Int) (l : Nat) (r : Nat) (t : Nat) (hn : n ≤ 120) (hv : ∀ i, i < n → v i < 1000) (hlr : r ≤ n) (hl0 : l < r) (ht : t < 4) : zMet (S := Int × (Nat → Nat) × (Nat → Int) × (Nat → Int) × (Nat → Int) × Nat × (Nat → Nat) × (Nat → Int)) lau yX7_majorityOf cX7_majorityOf 4 (some .int) 3 68 0 0 s0 G sz [.ref (ad 0), .int (iZ ((l : Int))), .int (iZ ((r : Int) - 1))] (mW ad G (va_up (va_up F 5 ((n : Int))) 7 ((t : Int))) (va_up Ar 3 (cI (n) v gv))) (fun ((z, o, go, fo, la, k, u, gu) : Int × (Nat → Nat) × (Nat → Int) × (Nat → Int) × (Nat → Int) × Nat × (Nat → Nat) × (Nat → Int)) => some (.int (iZ (z)))) (fun ((z, o, go, fo, la, k, u, gu) : Int × (Nat → Nat) × (Nat → Int) × (Nat → Int) × (Nat → Int) × Nat × (Nat → Nat) × (Nat → Int)) => (z = if r - l < 2 * cnt v l r (md v l r t) then (md v l r t : Int) else -1) ∧ (md v l r t < 1000) ∧ (0 < cnt v l r (md v l r t)) ∧ (CO v l r o fo la k u)) (fun ((z, o, go, fo, la, k, u, gu) : Int × (Nat → Nat) × (Nat → Int) × (Nat → Int) × (Nat → Int) × Nat × (Nat → Nat) × (Nat → Int)) => (mW ad G (va_up (va_up (va_up F 5 ((n : Int))) 7 ((t : Int))) 38 ((k : Int))) (va_up (va_up (va_up (va_up (va_up Ar 3 (cI (n) v gv)) 34 (cI (1000) o go)) 35 fo) 36 la) 37 (cI (k) u gu)))) := by
  refine zMet.of (by decide) (Nat.le_of_ble_eq_true rfl) ?_
  intro pg ev s1 mi ar bl me cd ls Q as0 hC hH hl hQ hsz
  generalize s1.heap = H at hH ⊢
  generalize ([] : List Loc) = locs at hH ⊢
  have hl : lv_has ls 4 [(0, .ref (ad 0)), (1, .int (iZ ((l : Int)))), (2, .int (iZ ((r : Int) - 1)))] := hl
  refine z_aload_n hC 0 hl dX7_majorityOf_0 rfl 0 rfl ?_
  refine z_iload_n hC 1 hl dX7_majorityOf_1 rfl 1 rfl ?_
  refine z_iload_n hC 2 hl dX7_majorityOf_2 rfl 2 rfl ?_
  refine z_same (z_runV hC hH.2.2 hl.1 hH.1 hH.2.1 2 (As := [.int (iZ ((l : Int))), .int (iZ ((r : Int) - 1))]) (rest := []) (m_X7_modeOf lau s0 G _ ad (va_up (va_up F 5 ((n : Int))) 7 ((t : Int))) (va_up Ar 3 (cI (n) v gv)) n v gv l r t (by first | assumption | omega) (by first | assumption | omega) (by first | assumption | omega) (by first | assumption | omega) (by first | assumption | omega)) (lw_V q1760 q1762 qs72 q95 q1763) ⟨rfl, by decide, by decide, by decide +kernel⟩ (q0 := 0) (ci := 0) rfl rfl rfl rfl (Nat.le_of_ble_eq_true rfl) ⟨Nat.le_of_ble_eq_true rfl, Nat.le_of_ble_eq_true rfl⟩ ⟨Nat.le_of_ble_eq_true rfl, Nat.le_of_ble_eq_true rfl⟩ dX7_majorityOf_3) hH (fun u_ H locs hpost hH => ?_)
  obtain ⟨o_3, go_3, fo_3, la_3, k_3, u_3, gu_3⟩ := u_
  obtain ⟨pCO_3, pm1_3, pm2_3, pk_3⟩ : (CO v l r o_3 fo_3 la_3 k_3 u_3) ∧ (md v l r t < 1000) ∧ (0 < cnt v l r (md v l r t)) ∧ (0 < k_3) := hpost
  have hH : zH s0 s1 G as0 (mW ad G (va_up (va_up (va_up F 5 ((n : Int))) 7 ((t : Int))) 38 ((k_3 : Int))) (va_up (va_up (va_up (va_up (va_up Ar 3 (cI (n) v gv)) 34 (cI (1000) o_3 go_3)) 35 fo_3) 36 la_3) 37 (cI (k_3) u_3 gu_3))) H locs := hH
  refine z_st (st' := [.int (iZ (((md v l r t : Nat) : Int)))]) rfl ?_
  have ho1 := pCO_3.1 (md v l r t) (by omega)
  have hc1 := cnt_le v l r (md v l r t)
  refine z_istore_n (lv' := [(3, .int (iZ (((md v l r t : Nat) : Int)))), (0, .ref (ad 0)), (1, .int (iZ ((l : Int)))), (2, .int (iZ ((r : Int) - 1)))]) hC 6 hl dX7_majorityOf_6 rfl (by decide) rfl (fun ls hl => ?_)
  refine z_iconst hC 7 dX7_majorityOf_7 ?_
  refine z_aload_n hC 8 hl dX7_majorityOf_8 rfl 1 rfl ?_
  refine gmW_34 hC hH 9 dX7_majorityOf_9 ?_
  refine z_iload_n hC 12 hl dX7_majorityOf_12 rfl 0 rfl ?_
  refine lmW_34 (x := ((o_3 (md v l r t) : Nat) : Int)) hC hH 13 ((md v l r t)) (by omega) (by omega) (cI_lt (by omega)) dX7_majorityOf_13 ?_
  refine z_imul (e := 2 * ((o_3 (md v l r t) : Nat) : Int)) hC 14 dX7_majorityOf_14 rfl ?_
  refine z_iload_n hC 15 hl dX7_majorityOf_15 rfl 3 rfl ?_
  refine z_iload_n hC 16 hl dX7_majorityOf_16 rfl 2 rfl ?_
  refine z_isub (e := (r : Int) - (l : Int) - 1) hC 17 dX7_majorityOf_17 (by omega) ?_
  refine z_iconst hC 18 dX7_majorityOf_18 ?_
  refine z_iadd (e := (r : Int) - (l : Int)) hC 19 dX7_majorityOf_19 (by omega) ?_
  refine z_icmp_le hC 20 27 dX7_majorityOf_20 rfl (by omega) (by omega) (fun hb1 => ?_) (fun hb1 => ?_)
  · -- 20t
    refine z_iconst hC 27 dX7_majorityOf_27 ?_
    -- R28.1
    exact z_iret hC hH hQ 28 (((-1), o_3, go_3, fo_3, la_3, k_3, u_3, gu_3)) dX7_majorityOf_28 rfl ⟨by first | (rw [if_pos (by omega)]) | (rw [if_neg (by omega)]), by first | assumption | omega, by first | assumption | omega, by first | assumption | omega⟩ rfl (Nat.le_refl _) (Nat.le_refl _)
  · -- 20f
    refine z_iload_n hC 23 hl dX7_majorityOf_23 rfl 0 rfl ?_
    refine z_goto hC 24 28 dX7_majorityOf_24 rfl ?_
    -- R28.2
    exact z_iret hC hH hQ 28 ((((md v l r t : Nat) : Int), o_3, go_3, fo_3, la_3, k_3, u_3, gu_3)) dX7_majorityOf_28 rfl ⟨by first | (rw [if_pos (by omega)]) | (rw [if_neg (by omega)]), by first | assumption | omega, by first | assumption | omega, by first | assumption | omega⟩ rfl (Nat.le_refl _) (Nat.le_refl _)

set_option maxHeartbeats 4000000 in
set_option maxRecDepth 100000 in
theorem m_X7_majority (lau : Launch) (s0 : State) (G : zG) (sz : Nat) (ad : Nat → Nat) (F : Nat → Int) (Ar : Nat → Nat → Int) (n : Nat) (v : Nat → Nat) (gv : Nat → Int) (t : Nat) (l : Int) (r : Int) (hn : n ≤ 120) (hv : ∀ i, i < n → v i < 1000) (ht : t < 4) (hr_l : -2147483648 ≤ l ∧ l < 2147483648) (hr_r : -2147483648 ≤ r ∧ r < 2147483648) : zMet (S := Int × (Nat → Int) × (Nat → Nat → Int)) lau yX7_majority cX7_majority 4 (some .int) 4 91 0 0 s0 G sz [.ref (ad 0), .int (iZ (l)), .int (iZ (r))] (mW ad G (va_up (va_up F 5 ((n : Int))) 7 ((t : Int))) (va_up Ar 3 (cI (n) v gv))) (fun ((r_, F2, A2) : Int × (Nat → Int) × (Nat → Nat → Int)) => some (.int (iZ (r_)))) (fun ((r_, F2, A2) : Int × (Nat → Int) × (Nat → Nat → Int)) => (Sp_majority n v t l r r_) ∧ (MK (va_up (va_up F 5 ((n : Int))) 7 ((t : Int))) (va_up Ar 3 (cI (n) v gv)) F2 A2)) (fun ((r_, F2, A2) : Int × (Nat → Int) × (Nat → Nat → Int)) => (mW ad G F2 A2)) := by
  refine zMet.of (by decide) (Nat.le_of_ble_eq_true rfl) ?_
  intro pg ev s1 mi ar bl me cd ls Q as0 hC hH hl hQ hsz
  generalize s1.heap = H at hH ⊢
  generalize ([] : List Loc) = locs at hH ⊢
  have hl : lv_has ls 4 [(0, .ref (ad 0)), (1, .int (iZ (l))), (2, .int (iZ (r)))] := hl
  refine z_aload_n hC 0 hl dX7_majority_0 rfl 0 rfl ?_
  refine z_iconst hC 1 dX7_majority_1 ?_
  refine pmW_0 hC hH 2 dX7_majority_2 (fun H locs hH => ?_)
  have hH : zH s0 s1 G as0 (mW ad G (va_up (va_up (va_up F 0 (0)) 5 ((n : Int))) 7 ((t : Int))) (va_up Ar 3 (cI (n) v gv))) H locs := hH
  refine z_aload_n hC 5 hl dX7_majority_5 rfl 0 rfl ?_
  refine z_iload_n hC 6 hl dX7_majority_6 rfl 1 rfl ?_
  refine z_iload_n hC 7 hl dX7_majority_7 rfl 2 rfl ?_
  refine z_same (z_runV hC hH.2.2 hl.1 hH.1 hH.2.1 2 (As := [.int (iZ (l)), .int (iZ (r))]) (rest := []) (m_X7_isSpan lau s0 G _ ad (va_up (va_up (va_up F 0 (0)) 5 ((n : Int))) 7 ((t : Int))) (va_up Ar 3 (cI (n) v gv)) n l r (by first | assumption | omega) (by first | assumption | omega) (by first | assumption | omega)) (lw_V q1712 q1714 qs68 q95 q1715) ⟨rfl, by decide, by decide, by decide +kernel⟩ (q0 := 0) (ci := 0) rfl rfl rfl rfl (Nat.le_of_ble_eq_true rfl) ⟨Nat.le_of_ble_eq_true rfl, Nat.le_of_ble_eq_true rfl⟩ ⟨Nat.le_of_ble_eq_true rfl, Nat.le_of_ble_eq_true rfl⟩ dX7_majority_8) hH (fun r_8 H locs hpost hH => ?_)
  have hb_8 : (r_8 = 1 ∧ (0 ≤ l ∧ l ≤ r ∧ r < (n : Int))) ∨ (r_8 = 0 ∧ ¬ (0 ≤ l ∧ l ≤ r ∧ r < (n : Int))) := hpost
  have hH : zH s0 s1 G as0 (mW ad G (va_up (va_up (va_up F 0 (0)) 5 ((n : Int))) 7 ((t : Int))) (va_up Ar 3 (cI (n) v gv))) H locs := hH
  refine z_st (st' := [.int (iZ (r_8))]) rfl ?_
  rcases hb_8 with ⟨rfl, hb_8⟩ | ⟨rfl, hb_8⟩
  · -- 8=1
    refine z_if_ne_t hC 11 16 dX7_majority_11 rfl (by omega) (by omega) ?_
    obtain ⟨l1, rfl⟩ := Int.eq_ofNat_of_zero_le (show 0 ≤ l by omega)
    obtain ⟨r1, rfl⟩ := Int.eq_ofNat_of_zero_le (show 0 ≤ r by omega)
    refine z_aload_n hC 16 hl dX7_majority_16 rfl 0 rfl ?_
    refine z_iload_n hC 17 hl dX7_majority_17 rfl 1 rfl ?_
    refine z_iload_n hC 18 hl dX7_majority_18 rfl 2 rfl ?_
    refine z_st (st' := [.int (iZ (((r1 + 1 : Nat) : Int) - 1)), .int (iZ ((l1 : Int))), .ref (ad 0)]) (zcons (zieq (by omega)) (zcons rfl rfl)) ?_
    refine z_same (z_runV hC hH.2.2 hl.1 hH.1 hH.2.1 2 (As := [.int (iZ ((l1 : Int))), .int (iZ (((r1 + 1 : Nat) : Int) - 1))]) (rest := []) (m_X7_majorityOf lau s0 G _ ad (va_up (va_up (va_up F 0 (0)) 5 ((n : Int))) 7 ((t : Int))) (va_up Ar 3 (cI (n) v gv)) n v gv l1 (r1 + 1) t (by first | assumption | omega) (by first | assumption | omega) (by first | assumption | omega) (by first | assumption | omega) (by first | assumption | omega)) (lw_V q1816 q1818 qs79 q95 q1819) ⟨rfl, by decide, by decide, by decide +kernel⟩ (q0 := 0) (ci := 0) rfl rfl rfl rfl (Nat.le_of_ble_eq_true rfl) ⟨Nat.le_of_ble_eq_true rfl, Nat.le_of_ble_eq_true rfl⟩ ⟨Nat.le_of_ble_eq_true rfl, Nat.le_of_ble_eq_true rfl⟩ dX7_majority_19) hH (fun u_ H locs hpost hH => ?_)
    obtain ⟨z_19, o_19, go_19, fo_19, la_19, k_19, u_19, gu_19⟩ := u_
    obtain ⟨pz_19, pm1_19, pm2_19, pCO_19⟩ : (z_19 = if (r1 + 1) - l1 < 2 * cnt v l1 (r1 + 1) (md v l1 (r1 + 1) t) then (md v l1 (r1 + 1) t : Int) else -1) ∧ (md v l1 (r1 + 1) t < 1000) ∧ (0 < cnt v l1 (r1 + 1) (md v l1 (r1 + 1) t)) ∧ (CO v l1 (r1 + 1) o_19 fo_19 la_19 k_19 u_19) := hpost
    have hH : zH s0 s1 G as0 (mW ad G (va_up (va_up (va_up (va_up F 0 (0)) 5 ((n : Int))) 7 ((t : Int))) 38 ((k_19 : Int))) (va_up (va_up (va_up (va_up (va_up Ar 3 (cI (n) v gv)) 34 (cI (1000) o_19 go_19)) 35 fo_19) 36 la_19) 37 (cI (k_19) u_19 gu_19))) H locs := hH
    refine z_st (st' := [.int (iZ (z_19))]) rfl ?_
    have hz : z_19 = -1 ∨ z_19 = (md v l1 (r1 + 1) t : Int) := by rw [pz_19]; split; (· right; rfl); (· left; rfl)
    refine z_istore_n (lv' := [(3, .int (iZ (z_19))), (0, .ref (ad 0)), (1, .int (iZ ((l1 : Int)))), (2, .int (iZ ((r1 : Int))))]) hC 22 hl dX7_majority_22 rfl (by decide) rfl (fun ls hl => ?_)
    refine z_iload_n hC 23 hl dX7_majority_23 rfl 0 rfl ?_
    refine z_iconst hC 24 dX7_majority_24 ?_
    refine z_icmp_ne hC 25 33 dX7_majority_25 rfl (by omega) (by omega) (fun hb1 => ?_) (fun hb1 => ?_)
    · -- 25t
      refine z_iload_n hC 33 hl dX7_majority_33 rfl 0 rfl ?_
      -- R34.1
      exact z_iret hC hH hQ 34 ((z_19, (va_up (va_up (va_up (va_up F 0 (0)) 5 ((n : Int))) 7 ((t : Int))) 38 ((k_19 : Int))), (va_up (va_up (va_up (va_up (va_up Ar 3 (cI (n) v gv)) 34 (cI (1000) o_19 go_19)) 35 fo_19) 36 la_19) 37 (cI (k_19) u_19 gu_19)))) dX7_majority_34 rfl ⟨by (unfold Sp_majority; rw [if_pos (by omega)]; simp only [Int.toNat_natCast, zt1]; split at pz_19 <;> rename_i hq; (· rw [if_pos hq]; first | done | trivial | omega); (· rw [if_neg hq]; first | done | trivial | omega)), by exact ⟨rfl, rfl, rfl, rfl, rfl, rfl, rfl, rfl, rfl, rfl, rfl, rfl, rfl, rfl, rfl, rfl⟩⟩ rfl (Nat.le_refl _) (Nat.le_refl _)
    · -- 25f
      refine z_bipush hC 28 dX7_majority_28 rfl ?_
      refine z_goto hC 30 34 dX7_majority_30 rfl ?_
      -- R34.2
      exact z_iret hC hH hQ 34 (((-2), (va_up (va_up (va_up (va_up F 0 (0)) 5 ((n : Int))) 7 ((t : Int))) 38 ((k_19 : Int))), (va_up (va_up (va_up (va_up (va_up Ar 3 (cI (n) v gv)) 34 (cI (1000) o_19 go_19)) 35 fo_19) 36 la_19) 37 (cI (k_19) u_19 gu_19)))) dX7_majority_34 rfl ⟨by (unfold Sp_majority; rw [if_pos (by omega)]; simp only [Int.toNat_natCast, zt1]; split at pz_19 <;> rename_i hq; (· rw [if_pos hq]; first | done | trivial | omega); (· rw [if_neg hq]; first | done | trivial | omega)), by exact ⟨rfl, rfl, rfl, rfl, rfl, rfl, rfl, rfl, rfl, rfl, rfl, rfl, rfl, rfl, rfl, rfl⟩⟩ rfl (Nat.le_refl _) (Nat.le_refl _)
  · -- 8=0
    refine z_if_ne_f hC 11 16 dX7_majority_11 rfl (by omega) (by omega) ?_
    refine z_iconst hC 14 dX7_majority_14 ?_
    -- R15.3
    exact z_iret hC hH hQ 15 (((-1), (va_up (va_up (va_up F 0 (0)) 5 ((n : Int))) 7 ((t : Int))), (va_up Ar 3 (cI (n) v gv)))) dX7_majority_15 rfl ⟨by first | (unfold Sp_majority; rw [if_neg (by omega)]) | (unfold Sp_majority; rw [if_pos (by omega)]), by exact ⟨rfl, rfl, rfl, rfl, rfl, rfl, rfl, rfl, rfl, rfl, rfl, rfl, rfl, rfl, rfl, rfl⟩⟩ rfl (Nat.le_refl _) (Nat.le_refl _)

set_option maxHeartbeats 4000000 in
set_option maxRecDepth 100000 in
theorem m_X7_twisted (lau : Launch) (s0 : State) (G : zG) (sz : Nat) (ad : Nat → Nat) (F : Nat → Int) (Ar : Nat → Nat → Int) (n : Nat) (v : Nat → Nat) (gv : Nat → Int) (t : Nat) (l : Int) (r : Int) (hn : n ≤ 120) (hv : ∀ i, i < n → v i < 1000) (ht : t < 4) (hr_l : -2147483648 ≤ l ∧ l < 2147483648) (hr_r : -2147483648 ≤ r ∧ r < 2147483648) : zMet (S := Int × (Nat → Int) × (Nat → Nat → Int)) lau yX7_twisted cX7_twisted 6 (some .int) 1 22 0 0 s0 G sz [.ref (ad 0), .int (iZ (l)), .int (iZ (r))] (mW ad G (va_up (va_up F 5 ((n : Int))) 7 ((t : Int))) (va_up Ar 3 (cI (n) v gv))) (fun ((r_, F2, A2) : Int × (Nat → Int) × (Nat → Nat → Int)) => some (.int (iZ (r_)))) (fun ((r_, F2, A2) : Int × (Nat → Int) × (Nat → Nat → Int)) => (Sp_twisted n v l r r_) ∧ (MK (va_up (va_up F 5 ((n : Int))) 7 ((t : Int))) (va_up Ar 3 (cI (n) v gv)) F2 A2)) (fun ((r_, F2, A2) : Int × (Nat → Int) × (Nat → Nat → Int)) => (mW ad G F2 A2)) := by
  refine zMet.of (by decide) (Nat.le_of_ble_eq_true rfl) ?_
  intro pg ev s1 mi ar bl me cd ls Q as0 hC hH hl hQ hsz
  generalize s1.heap = H at hH ⊢
  generalize ([] : List Loc) = locs at hH ⊢
  have hl : lv_has ls 6 [(0, .ref (ad 0)), (1, .int (iZ (l))), (2, .int (iZ (r)))] := hl
  refine z_aload_n hC 0 hl dX7_twisted_0 rfl 0 rfl ?_
  refine z_iconst hC 1 dX7_twisted_1 ?_
  refine pmW_0 hC hH 2 dX7_twisted_2 (fun H locs hH => ?_)
  have hH : zH s0 s1 G as0 (mW ad G (va_up (va_up (va_up F 0 (0)) 5 ((n : Int))) 7 ((t : Int))) (va_up Ar 3 (cI (n) v gv))) H locs := hH
  refine z_aload_n hC 5 hl dX7_twisted_5 rfl 0 rfl ?_
  refine z_iload_n hC 6 hl dX7_twisted_6 rfl 1 rfl ?_
  refine z_iload_n hC 7 hl dX7_twisted_7 rfl 2 rfl ?_
  refine z_same (z_runV hC hH.2.2 hl.1 hH.1 hH.2.1 2 (As := [.int (iZ (l)), .int (iZ (r))]) (rest := []) (m_X7_isSpan lau s0 G _ ad (va_up (va_up (va_up F 0 (0)) 5 ((n : Int))) 7 ((t : Int))) (va_up Ar 3 (cI (n) v gv)) n l r (by first | assumption | omega) (by first | assumption | omega) (by first | assumption | omega)) (lw_V q1712 q1714 qs68 q95 q1715) ⟨rfl, by decide, by decide, by decide +kernel⟩ (q0 := 0) (ci := 0) rfl rfl rfl rfl (Nat.le_of_ble_eq_true rfl) ⟨Nat.le_of_ble_eq_true rfl, Nat.le_of_ble_eq_true rfl⟩ ⟨Nat.le_of_ble_eq_true rfl, Nat.le_of_ble_eq_true rfl⟩ dX7_twisted_8) hH (fun r_8 H locs hpost hH => ?_)
  have hb_8 : (r_8 = 1 ∧ (0 ≤ l ∧ l ≤ r ∧ r < (n : Int))) ∨ (r_8 = 0 ∧ ¬ (0 ≤ l ∧ l ≤ r ∧ r < (n : Int))) := hpost
  have hH : zH s0 s1 G as0 (mW ad G (va_up (va_up (va_up F 0 (0)) 5 ((n : Int))) 7 ((t : Int))) (va_up Ar 3 (cI (n) v gv))) H locs := hH
  refine z_st (st' := [.int (iZ (r_8))]) rfl ?_
  rcases hb_8 with ⟨rfl, hb_8⟩ | ⟨rfl, hb_8⟩
  · -- 8=1
    refine z_if_ne_t hC 11 16 dX7_twisted_11 rfl (by omega) (by omega) ?_
    obtain ⟨l1, rfl⟩ := Int.eq_ofNat_of_zero_le (show 0 ≤ l by omega)
    obtain ⟨r1, rfl⟩ := Int.eq_ofNat_of_zero_le (show 0 ≤ r by omega)
    refine z_iconst hC 16 dX7_twisted_16 ?_
    refine z_istore_n (lv' := [(3, .int (iZ (0))), (0, .ref (ad 0)), (1, .int (iZ ((l1 : Int)))), (2, .int (iZ ((r1 : Int))))]) hC 17 hl dX7_twisted_17 rfl (by decide) rfl (fun ls hl => ?_)
    refine z_iload_n hC 18 hl dX7_twisted_18 rfl 2 rfl ?_
    refine z_istore (lv' := [(4, .int (iZ ((l1 : Int)))), (3, .int (iZ (0))), (0, .ref (ad 0)), (1, .int (iZ ((l1 : Int)))), (2, .int (iZ ((r1 : Int))))]) hC 19 hl dX7_twisted_19 (by decide) rfl (fun ls hl => ?_)
    have L21 : ∀ (N_ : Nat) (p : Nat) (c : Nat) (H : Heap) (locs : List Loc) (ls : Array Slot), r1 + 1 - p < N_ → (l1 ≤ p) → (p ≤ r1 + 1) → (c = sm (fun p => cB (fun q => p < q ∧ v q < v p) (r1 + 1)) l1 p) → (c ≤ p * 120) → zH s0 s1 G as0 (mW ad G (va_up (va_up (va_up F 0 (0)) 5 ((n : Int))) 7 ((t : Int))) (va_up Ar 3 (cI (n) v gv))) H locs → lv_has ls 6 [(0, .ref (ad 0)), (1, .int (iZ ((l1 : Int)))), (2, .int (iZ ((r1 : Int)))), (3, .int (iZ ((c : Int)))), (4, .int (iZ ((p : Int))))] → W pg lau ev (zRm 1 0 0 22) s1 mi ar bl me cd H locs 0 0 Q (F0 mi 21 ls []) := by
      intro N_
      induction N_ with
      | zero => intro p c H locs ls hd; exact absurd hd (Nat.not_lt_zero _)
      | succ N_ ih21 =>
        intro p c H locs ls hd21 i21_1 i21_2 ic i21_4 hH hl
        refine z_iload hC 21 hl dX7_twisted_21 4 rfl ?_
        refine z_iload_n hC 23 hl dX7_twisted_23 rfl 2 rfl ?_
        refine z_icmp_gt hC 24 76 dX7_twisted_24 rfl (by omega) (by omega) (fun hb1 => ?_) (fun hb1 => ?_)
        · -- 24t
          have eq76 : p = r1 + 1 := by omega
          rw [eq76] at ic
          refine z_iload_n hC 76 hl dX7_twisted_76 rfl 3 rfl ?_
          -- R77.1
          exact z_iret hC hH hQ 77 (((c : Int), (va_up (va_up (va_up F 0 (0)) 5 ((n : Int))) 7 ((t : Int))), (va_up Ar 3 (cI (n) v gv)))) dX7_twisted_77 rfl ⟨by (unfold Sp_twisted; rw [if_pos (by omega)]; try simp only [Int.toNat_natCast, zt1]; rw [ic]), by exact ⟨rfl, rfl, rfl, rfl, rfl, rfl, rfl, rfl, rfl, rfl, rfl, rfl, rfl, rfl, rfl, rfl⟩⟩ rfl (Nat.le_refl _) (Nat.le_refl _)
        · -- 24f
          refine z_iload hC 27 hl dX7_twisted_27 4 rfl ?_
          refine z_iconst hC 29 dX7_twisted_29 ?_
          refine z_iadd (e := (p : Int) + 1) hC 30 dX7_twisted_30 rfl ?_
          refine z_istore (lv' := [(5, .int (iZ ((p : Int) + 1))), (0, .ref (ad 0)), (1, .int (iZ ((l1 : Int)))), (2, .int (iZ ((r1 : Int)))), (3, .int (iZ ((c : Int)))), (4, .int (iZ ((p : Int))))]) hC 31 hl dX7_twisted_31 (by decide) rfl (fun ls hl => ?_)
          have L33 : ∀ (N_ : Nat) (q : Nat) (c2 : Nat) (H : Heap) (locs : List Loc) (ls : Array Slot), r1 + 1 - q < N_ → (p + 1 ≤ q) → (q ≤ r1 + 1) → (c2 = c + cB (fun q => p < q ∧ v q < v p) q) → (c2 ≤ c + q) → zH s0 s1 G as0 (mW ad G (va_up (va_up (va_up F 0 (0)) 5 ((n : Int))) 7 ((t : Int))) (va_up Ar 3 (cI (n) v gv))) H locs → lv_has ls 6 [(0, .ref (ad 0)), (1, .int (iZ ((l1 : Int)))), (2, .int (iZ ((r1 : Int)))), (3, .int (iZ ((c2 : Int)))), (4, .int (iZ ((p : Int)))), (5, .int (iZ ((q : Int))))] → W pg lau ev (zRm 1 0 0 22) s1 mi ar bl me cd H locs 0 0 Q (F0 mi 33 ls []) := by
            intro N_
            induction N_ with
            | zero => intro q c2 H locs ls hd; exact absurd hd (Nat.not_lt_zero _)
            | succ N_ ih33 =>
              intro q c2 H locs ls hd33 i33_1 i33_2 ic2 i33_4 hH hl
              refine z_iload hC 33 hl dX7_twisted_33 5 rfl ?_
              refine z_iload_n hC 35 hl dX7_twisted_35 rfl 2 rfl ?_
              refine z_icmp_gt hC 36 70 dX7_twisted_36 rfl (by omega) (by omega) (fun hb2 => ?_) (fun hb2 => ?_)
              · -- 36t
                have hsm := sm_succ (fun p => cB (fun q => p < q ∧ v q < v p) (r1 + 1)) (show l1 ≤ p by omega)
                have eq70 : q = r1 + 1 := by omega
                rw [eq70] at ic2
                refine z_iinc (lv' := [(4, .int (iZ ((p : Int) + 1))), (0, .ref (ad 0)), (1, .int (iZ ((l1 : Int)))), (2, .int (iZ ((r1 : Int)))), (3, .int (iZ ((c2 : Int)))), (5, .int (iZ ((q : Int))))]) hC 70 hl dX7_twisted_70 4 rfl (by omega) (by decide) rfl (fun ls hl => ?_)
                refine z_goto hC 73 21 dX7_twisted_73 rfl ?_
                -- J21.2
                exact ih21 (p + 1) c2 _ _ _ (by omega) (by first | assumption | omega) (by first | assumption | omega) (by first | exact (sm_0 _ (Nat.le_refl _)).symm | omega) (by first | assumption | omega) hH (z_lv (lv_sub hl [1, 2, 3, 4, 0] rfl) (zcons rfl (zcons rfl (zcons rfl (zcons rfl (zcons (zpeq (by omega)) rfl))))))
              · -- 36f
                refine z_iload_n hC 39 hl dX7_twisted_39 rfl 3 rfl ?_
                have hvp := hv (p) (by omega)
                have hvq := hv (q) (by omega)
                refine z_aload_n hC 40 hl dX7_twisted_40 rfl 0 rfl ?_
                refine gmW_3 hC hH 41 dX7_twisted_41 ?_
                refine z_iload hC 44 hl dX7_twisted_44 4 rfl ?_
                refine lmW_3 (x := ((v p : Nat) : Int)) hC hH 46 (p) (by omega) (by omega) (cI_lt (by omega)) dX7_twisted_46 ?_
                refine z_aload_n hC 47 hl dX7_twisted_47 rfl 0 rfl ?_
                refine gmW_3 hC hH 48 dX7_twisted_48 ?_
                refine z_iload hC 51 hl dX7_twisted_51 5 rfl ?_
                refine lmW_3 (x := ((v q : Nat) : Int)) hC hH 53 (q) (by omega) (by omega) (cI_lt (by omega)) dX7_twisted_53 ?_
                refine z_icmp_le hC 54 61 dX7_twisted_54 rfl (by omega) (by omega) (fun hb3 => ?_) (fun hb3 => ?_)
                · -- 54t
                  refine z_iconst hC 61 dX7_twisted_61 ?_
                  refine z_iadd (e := (c2 : Int)) hC 62 dX7_twisted_62 (by omega) ?_
                  refine z_istore_n (lv' := [(3, .int (iZ ((c2 : Int)))), (0, .ref (ad 0)), (1, .int (iZ ((l1 : Int)))), (2, .int (iZ ((r1 : Int)))), (4, .int (iZ ((p : Int)))), (5, .int (iZ ((q : Int))))]) hC 63 hl dX7_twisted_63 rfl (by decide) rfl (fun ls hl => ?_)
                  refine z_iinc (lv' := [(5, .int (iZ ((q : Int) + 1))), (3, .int (iZ ((c2 : Int)))), (0, .ref (ad 0)), (1, .int (iZ ((l1 : Int)))), (2, .int (iZ ((r1 : Int)))), (4, .int (iZ ((p : Int))))]) hC 64 hl dX7_twisted_64 5 rfl (by omega) (by decide) rfl (fun ls hl => ?_)
                  refine z_goto hC 67 33 dX7_twisted_67 rfl ?_
                  -- J33.3
                  exact ih33 (q + 1) c2 _ _ _ (by omega) (by first | assumption | omega) (by first | assumption | omega) (by first | (rw [cB_none (fun j hj h => by omega)]; omega) | exact cB_ait (by omega) ic2 | exact cB_aif (by omega) ic2) (by first | assumption | omega) hH (z_lv (lv_sub hl [2, 3, 4, 1, 5, 0] rfl) (zcons rfl (zcons rfl (zcons rfl (zcons rfl (zcons rfl (zcons (zpeq (by omega)) rfl)))))))
                · -- 54f
                  refine z_iconst hC 57 dX7_twisted_57 ?_
                  refine z_goto hC 58 62 dX7_twisted_58 rfl ?_
                  refine z_iadd (e := (c2 : Int) + 1) hC 62 dX7_twisted_62 rfl ?_
                  refine z_istore_n (lv' := [(3, .int (iZ ((c2 : Int) + 1))), (0, .ref (ad 0)), (1, .int (iZ ((l1 : Int)))), (2, .int (iZ ((r1 : Int)))), (4, .int (iZ ((p : Int)))), (5, .int (iZ ((q : Int))))]) hC 63 hl dX7_twisted_63 rfl (by decide) rfl (fun ls hl => ?_)
                  refine z_iinc (lv' := [(5, .int (iZ ((q : Int) + 1))), (3, .int (iZ ((c2 : Int) + 1))), (0, .ref (ad 0)), (1, .int (iZ ((l1 : Int)))), (2, .int (iZ ((r1 : Int)))), (4, .int (iZ ((p : Int))))]) hC 64 hl dX7_twisted_64 5 rfl (by omega) (by decide) rfl (fun ls hl => ?_)
                  refine z_goto hC 67 33 dX7_twisted_67 rfl ?_
                  -- J33.4
                  exact ih33 (q + 1) (c2 + 1) _ _ _ (by omega) (by first | assumption | omega) (by first | assumption | omega) (by first | (rw [cB_none (fun j hj h => by omega)]; omega) | exact cB_ait (by omega) ic2 | exact cB_aif (by omega) ic2) (by first | assumption | omega) hH (z_lv (lv_sub hl [2, 3, 4, 1, 5, 0] rfl) (zcons rfl (zcons rfl (zcons rfl (zcons (zpeq (by omega)) (zcons rfl (zcons (zpeq (by omega)) rfl)))))))
          -- J33.5
          exact L33 _ (p + 1) c _ _ _ (Nat.lt_succ_self _) (by first | assumption | omega) (by first | assumption | omega) (by first | (rw [cB_none (fun j hj h => by omega)]; omega) | exact cB_ait (by omega) ic2 | exact cB_aif (by omega) ic2) (by first | assumption | omega) hH (z_lv (lv_sub hl [1, 2, 3, 4, 5, 0] rfl) (zcons rfl (zcons rfl (zcons rfl (zcons rfl (zcons rfl (zcons (zpeq (by omega)) rfl)))))))
    -- J21.6
    exact L21 _ l1 0 _ _ _ (Nat.lt_succ_self _) (by first | assumption | omega) (by first | assumption | omega) (by first | exact (sm_0 _ (Nat.le_refl _)).symm | omega) (by first | assumption | omega) hH (z_lv (lv_sub hl [2, 3, 4, 1, 0] rfl) (zcons rfl (zcons rfl (zcons rfl (zcons (zpeq (by omega)) (zcons rfl rfl))))))
  · -- 8=0
    refine z_if_ne_f hC 11 16 dX7_twisted_11 rfl (by omega) (by omega) ?_
    refine z_iconst hC 14 dX7_twisted_14 ?_
    -- R15.7
    exact z_iret hC hH hQ 15 (((-1), (va_up (va_up (va_up F 0 (0)) 5 ((n : Int))) 7 ((t : Int))), (va_up Ar 3 (cI (n) v gv)))) dX7_twisted_15 rfl ⟨by first | (unfold Sp_twisted; rw [if_neg (by omega)]) | (unfold Sp_twisted; rw [if_pos (by omega)]), by exact ⟨rfl, rfl, rfl, rfl, rfl, rfl, rfl, rfl, rfl, rfl, rfl, rfl, rfl, rfl, rfl, rfl⟩⟩ rfl (Nat.le_refl _) (Nat.le_refl _)

set_option maxHeartbeats 4000000 in
set_option maxRecDepth 100000 in
theorem m_X7_window (lau : Launch) (s0 : State) (G : zG) (sz : Nat) (ad : Nat → Nat) (F : Nat → Int) (Ar : Nat → Nat → Int) (n : Nat) (v : Nat → Nat) (gv : Nat → Int) (t : Nat) (wd : Int) (k0 : Int) (hn : n ≤ 120) (hv : ∀ i, i < n → v i < 1000) (ht : t < 4) (hr_wd : -2147483648 ≤ wd ∧ wd < 2147483648) (hr_k0 : -2147483648 ≤ k0 ∧ k0 < 2147483648) : zMet (S := Int × (Nat → Int) × (Nat → Nat → Int)) lau yX7_window cX7_window 3 (some .int) 3 68 0 0 s0 G sz [.ref (ad 0), .int (iZ (wd)), .int (iZ (k0))] (mW ad G (va_up (va_up F 5 ((n : Int))) 7 ((t : Int))) (va_up Ar 3 (cI (n) v gv))) (fun ((r_, F2, A2) : Int × (Nat → Int) × (Nat → Nat → Int)) => some (.int (iZ (r_)))) (fun ((r_, F2, A2) : Int × (Nat → Int) × (Nat → Nat → Int)) => (Sp_window n v t wd k0 r_) ∧ (MK (va_up (va_up F 5 ((n : Int))) 7 ((t : Int))) (va_up Ar 3 (cI (n) v gv)) F2 A2)) (fun ((r_, F2, A2) : Int × (Nat → Int) × (Nat → Nat → Int)) => (mW ad G F2 A2)) := by
  refine zMet.of (by decide) (Nat.le_of_ble_eq_true rfl) ?_
  intro pg ev s1 mi ar bl me cd ls Q as0 hC hH hl hQ hsz
  generalize s1.heap = H at hH ⊢
  generalize ([] : List Loc) = locs at hH ⊢
  have hl : lv_has ls 3 [(0, .ref (ad 0)), (1, .int (iZ (wd))), (2, .int (iZ (k0)))] := hl
  refine z_aload_n hC 0 hl dX7_window_0 rfl 0 rfl ?_
  refine z_iconst hC 1 dX7_window_1 ?_
  refine pmW_0 hC hH 2 dX7_window_2 (fun H locs hH => ?_)
  have hH : zH s0 s1 G as0 (mW ad G (va_up (va_up (va_up F 0 (0)) 5 ((n : Int))) 7 ((t : Int))) (va_up Ar 3 (cI (n) v gv))) H locs := hH
  refine z_iload_n hC 5 hl dX7_window_5 rfl 1 rfl ?_
  refine z_iconst hC 6 dX7_window_6 ?_
  refine z_icmp_lt hC 7 22 dX7_window_7 rfl (by omega) (by omega) (fun hb1 => ?_) (fun hb1 => ?_)
  · -- 7t
    refine z_iconst hC 22 dX7_window_22 ?_
    -- R23.1
    exact z_iret hC hH hQ 23 (((-1), (va_up (va_up (va_up F 0 (0)) 5 ((n : Int))) 7 ((t : Int))), (va_up Ar 3 (cI (n) v gv)))) dX7_window_23 rfl ⟨by first | (unfold Sp_window; rw [if_neg (by omega)]) | (unfold Sp_window; rw [if_pos (by omega)]), by exact ⟨rfl, rfl, rfl, rfl, rfl, rfl, rfl, rfl, rfl, rfl, rfl, rfl, rfl, rfl, rfl, rfl⟩⟩ rfl (Nat.le_refl _) (Nat.le_refl _)
  · -- 7f
    refine z_iload_n hC 10 hl dX7_window_10 rfl 1 rfl ?_
    refine z_aload_n hC 11 hl dX7_window_11 rfl 0 rfl ?_
    refine gmW_5 (x := (n : Int)) hC hH 12 rfl dX7_window_12 ?_
    refine z_icmp_gt hC 15 22 dX7_window_15 rfl (by omega) (by omega) (fun hb2 => ?_) (fun hb2 => ?_)
    · -- 15t
      refine z_iconst hC 22 dX7_window_22 ?_
      -- R23.2
      exact z_iret hC hH hQ 23 (((-1), (va_up (va_up (va_up F 0 (0)) 5 ((n : Int))) 7 ((t : Int))), (va_up Ar 3 (cI (n) v gv)))) dX7_window_23 rfl ⟨by first | (unfold Sp_window; rw [if_neg (by omega)]) | (unfold Sp_window; rw [if_pos (by omega)]), by exact ⟨rfl, rfl, rfl, rfl, rfl, rfl, rfl, rfl, rfl, rfl, rfl, rfl, rfl, rfl, rfl, rfl⟩⟩ rfl (Nat.le_refl _) (Nat.le_refl _)
    · -- 15f
      refine z_iload_n hC 18 hl dX7_window_18 rfl 2 rfl ?_
      refine z_if_ge hC 19 24 dX7_window_19 rfl (by omega) (fun hb3 => ?_) (fun hb3 => ?_)
      · -- 19t
        obtain ⟨w1, rfl⟩ := Int.eq_ofNat_of_zero_le (show 0 ≤ wd by omega)
        obtain ⟨k1, rfl⟩ := Int.eq_ofNat_of_zero_le (show 0 ≤ k0 by omega)
        refine z_iload_n hC 24 hl dX7_window_24 rfl 2 rfl ?_
        refine z_aload_n hC 25 hl dX7_window_25 rfl 0 rfl ?_
        refine gmW_5 (x := (n : Int)) hC hH 26 rfl dX7_window_26 ?_
        refine z_iload_n hC 29 hl dX7_window_29 rfl 1 rfl ?_
        refine z_isub (e := (n : Int) - (w1 : Int)) hC 30 dX7_window_30 rfl ?_
        refine z_icmp_le hC 31 39 dX7_window_31 rfl (by omega) (by omega) (fun hb4 => ?_) (fun hb4 => ?_)
        · -- 31t
          refine z_aload_n hC 39 hl dX7_window_39 rfl 0 rfl ?_
          refine z_iload_n hC 40 hl dX7_window_40 rfl 2 rfl ?_
          refine z_iload_n hC 41 hl dX7_window_41 rfl 2 rfl ?_
          refine z_iload_n hC 42 hl dX7_window_42 rfl 1 rfl ?_
          refine z_iadd (e := (k1 : Int) + (w1 : Int)) hC 43 dX7_window_43 rfl ?_
          refine z_iconst hC 44 dX7_window_44 ?_
          refine z_isub (e := (k1 : Int) + (w1 : Int) - 1) hC 45 dX7_window_45 rfl ?_
          refine z_st (st' := [.int (iZ (((k1 + w1 : Nat) : Int) - 1)), .int (iZ ((k1 : Int))), .ref (ad 0)]) (zcons (zieq (by omega)) (zcons rfl rfl)) ?_
          refine z_same (z_runV hC hH.2.2 hl.1 hH.1 hH.2.1 2 (As := [.int (iZ ((k1 : Int))), .int (iZ (((k1 + w1 : Nat) : Int) - 1))]) (rest := []) (m_X7_modeOf lau s0 G _ ad (va_up (va_up (va_up F 0 (0)) 5 ((n : Int))) 7 ((t : Int))) (va_up Ar 3 (cI (n) v gv)) n v gv k1 (k1 + w1) t (by first | assumption | omega) (by first | assumption | omega) (by first | assumption | omega) (by first | assumption | omega) (by first | assumption | omega)) (lw_V q1760 q1762 qs72 q95 q1763) ⟨rfl, by decide, by decide, by decide +kernel⟩ (q0 := 0) (ci := 0) rfl rfl rfl rfl (Nat.le_of_ble_eq_true rfl) ⟨Nat.le_of_ble_eq_true rfl, Nat.le_of_ble_eq_true rfl⟩ ⟨Nat.le_of_ble_eq_true rfl, Nat.le_of_ble_eq_true rfl⟩ dX7_window_46) hH (fun u_ H locs hpost hH => ?_)
          obtain ⟨o_46, go_46, fo_46, la_46, k_46, u_46, gu_46⟩ := u_
          obtain ⟨pCO_46, pm1_46, pm2_46, pk_46⟩ : (CO v k1 (k1 + w1) o_46 fo_46 la_46 k_46 u_46) ∧ (md v k1 (k1 + w1) t < 1000) ∧ (0 < cnt v k1 (k1 + w1) (md v k1 (k1 + w1) t)) ∧ (0 < k_46) := hpost
          have hH : zH s0 s1 G as0 (mW ad G (va_up (va_up (va_up (va_up F 0 (0)) 5 ((n : Int))) 7 ((t : Int))) 38 ((k_46 : Int))) (va_up (va_up (va_up (va_up (va_up Ar 3 (cI (n) v gv)) 34 (cI (1000) o_46 go_46)) 35 fo_46) 36 la_46) 37 (cI (k_46) u_46 gu_46))) H locs := hH
          refine z_st (st' := [.int (iZ (((md v k1 (k1 + w1) t : Nat) : Int)))]) rfl ?_
          -- R49.3
          exact z_iret hC hH hQ 49 ((((md v k1 (k1 + w1) t : Nat) : Int), (va_up (va_up (va_up (va_up F 0 (0)) 5 ((n : Int))) 7 ((t : Int))) 38 ((k_46 : Int))), (va_up (va_up (va_up (va_up (va_up Ar 3 (cI (n) v gv)) 34 (cI (1000) o_46 go_46)) 35 fo_46) 36 la_46) 37 (cI (k_46) u_46 gu_46)))) dX7_window_49 rfl ⟨by (unfold Sp_window; rw [if_pos (by omega)]; (try simp only [Int.toNat_natCast, zt1]); first | done | trivial | rfl | omega | (rw [if_pos (by omega)]; first | done | trivial | rfl | omega) | (rw [if_neg (by omega)]; first | done | trivial | rfl | omega)), by exact ⟨rfl, rfl, rfl, rfl, rfl, rfl, rfl, rfl, rfl, rfl, rfl, rfl, rfl, rfl, rfl, rfl⟩⟩ rfl (Nat.le_refl _) (Nat.le_refl _)
        · -- 31f
          refine z_bipush hC 34 dX7_window_34 rfl ?_
          refine z_goto hC 36 49 dX7_window_36 rfl ?_
          -- R49.4
          exact z_iret hC hH hQ 49 (((-2), (va_up (va_up (va_up F 0 (0)) 5 ((n : Int))) 7 ((t : Int))), (va_up Ar 3 (cI (n) v gv)))) dX7_window_49 rfl ⟨by (unfold Sp_window; rw [if_pos (by omega)]; (try simp only [Int.toNat_natCast, zt1]); first | done | trivial | rfl | omega | (rw [if_pos (by omega)]; first | done | trivial | rfl | omega) | (rw [if_neg (by omega)]; first | done | trivial | rfl | omega)), by exact ⟨rfl, rfl, rfl, rfl, rfl, rfl, rfl, rfl, rfl, rfl, rfl, rfl, rfl, rfl, rfl, rfl⟩⟩ rfl (Nat.le_refl _) (Nat.le_refl _)
      · -- 19f
        refine z_iconst hC 22 dX7_window_22 ?_
        -- R23.5
        exact z_iret hC hH hQ 23 (((-1), (va_up (va_up (va_up F 0 (0)) 5 ((n : Int))) 7 ((t : Int))), (va_up Ar 3 (cI (n) v gv)))) dX7_window_23 rfl ⟨by first | (unfold Sp_window; rw [if_neg (by omega)]) | (unfold Sp_window; rw [if_pos (by omega)]), by exact ⟨rfl, rfl, rfl, rfl, rfl, rfl, rfl, rfl, rfl, rfl, rfl, rfl, rfl, rfl, rfl, rfl⟩⟩ rfl (Nat.le_refl _) (Nat.le_refl _)
