/-! methods of Row and Places -/

set_option maxHeartbeats 4000000 in
set_option maxRecDepth 100000 in
theorem m_X2_opens (lau : Launch) (s0 : State) (G : zG) (sz : Nat) (ad : Nat → Nat) (F : Nat → Int) (Ar : Nat → Nat → Int) (n : Nat) (p : Nat) (x : Int) (a : Nat → Int) (b : Nat → Int) (hn : n < 120) (hp : p ≤ n) : zMet (S := Unit) lau yX2_opens cX2_opens 4 (none) 1 22 0 0 s0 G sz [.ref (ad 0), .int (iZ ((p : Int))), .int (iZ (x))] (rW ad G (va_up F 2 ((n : Int))) (va_up (va_up Ar 0 a) 1 b)) (fun (_ : Unit) => (none : Option Value)) (fun (_ : Unit) => True) (fun (_ : Unit) => (rW ad G (va_up F 2 ((n : Int) + 1)) (va_up (va_up Ar 0 (va_up (opnF a n p) p x)) 1 (va_up (opnF b n p) p 1)))) := by
  refine zMet.of (by decide) (Nat.le_of_ble_eq_true rfl) ?_
  intro pg ev s1 mi ar bl me cd ls Q as0 hC hH hl hQ hsz
  generalize s1.heap = H at hH ⊢
  generalize ([] : List Loc) = locs at hH ⊢
  have hl : lv_has ls 4 [(0, .ref (ad 0)), (1, .int (iZ ((p : Int)))), (2, .int (iZ (x)))] := hl
  refine z_aload_n hC 0 hl dX2_opens_0 rfl 0 rfl ?_
  refine grW_2 (x := (n : Int)) hC hH 1 rfl dX2_opens_1 ?_
  have hcv1 : a = (opnF a n n) := by rw [opnF_0]
  rw [hcv1] at hH
  have hH : zH s0 s1 G as0 (rW ad G (va_up F 2 ((n : Int))) (va_up (va_up Ar 0 (opnF a n n)) 1 b)) H locs := hH
  have hcv2 : b = (opnF b n n) := by rw [opnF_0]
  rw [hcv2] at hH
  have hH : zH s0 s1 G as0 (rW ad G (va_up F 2 ((n : Int))) (va_up (va_up Ar 0 (opnF a n n)) 1 (opnF b n n))) H locs := hH
  refine z_istore_n (lv' := [(3, .int (iZ ((n : Int)))), (0, .ref (ad 0)), (1, .int (iZ ((p : Int)))), (2, .int (iZ (x)))]) hC 4 hl dX2_opens_4 rfl (by decide) rfl (fun ls hl => ?_)
  have L5 : ∀ (N_ : Nat) (k : Nat) (H : Heap) (locs : List Loc) (ls : Array Slot), k + 1 - p < N_ → (p ≤ k) → (k ≤ n) → zH s0 s1 G as0 (rW ad G (va_up F 2 ((n : Int))) (va_up (va_up Ar 0 (opnF a n k)) 1 (opnF b n k))) H locs → lv_has ls 4 [(0, .ref (ad 0)), (1, .int (iZ ((p : Int)))), (2, .int (iZ (x))), (3, .int (iZ ((k : Int))))] → W pg lau ev (zRm 1 0 0 22) s1 mi ar bl me cd H locs 0 0 Q (F0 mi 5 ls []) := by
    intro N_
    induction N_ with
    | zero => intro k H locs ls hd; exact absurd hd (Nat.not_lt_zero _)
    | succ N_ ih5 =>
      intro k H locs ls hd5 i5_1 i5_2 hH hl
      refine z_iload_n hC 5 hl dX2_opens_5 rfl 3 rfl ?_
      refine z_iload_n hC 6 hl dX2_opens_6 rfl 1 rfl ?_
      refine z_icmp_le hC 7 24 dX2_opens_7 rfl (by omega) (by omega) (fun hb3 => ?_) (fun hb3 => ?_)
      · -- 7t
        have hcv4 : (opnF a n k) = (opnF a n p) := by rw [show k = p from by omega]
        rw [hcv4] at hH
        have hH : zH s0 s1 G as0 (rW ad G (va_up F 2 ((n : Int))) (va_up (va_up Ar 0 (opnF a n p)) 1 (opnF b n k))) H locs := hH
        have hcv5 : (opnF b n k) = (opnF b n p) := by rw [show k = p from by omega]
        rw [hcv5] at hH
        have hH : zH s0 s1 G as0 (rW ad G (va_up F 2 ((n : Int))) (va_up (va_up Ar 0 (opnF a n p)) 1 (opnF b n p))) H locs := hH
        refine z_aload_n hC 24 hl dX2_opens_24 rfl 0 rfl ?_
        refine grW_0 hC hH 25 dX2_opens_25 ?_
        refine z_iload_n hC 28 hl dX2_opens_28 rfl 1 rfl ?_
        refine z_iload_n hC 29 hl dX2_opens_29 rfl 2 rfl ?_
        refine srW_0 (f' := (va_up (opnF a n p) (p) (x))) hC hH 30 (p) (by omega) (by omega) rfl dX2_opens_30 (fun H locs hH => ?_)
        have hH : zH s0 s1 G as0 (rW ad G (va_up F 2 ((n : Int))) (va_up (va_up Ar 0 (va_up (opnF a n p) (p) (x))) 1 (opnF b n p))) H locs := hH
        refine z_aload_n hC 31 hl dX2_opens_31 rfl 0 rfl ?_
        refine grW_1 hC hH 32 dX2_opens_32 ?_
        refine z_iload_n hC 35 hl dX2_opens_35 rfl 1 rfl ?_
        refine z_iconst hC 36 dX2_opens_36 ?_
        refine srW_1 (f' := (va_up (opnF b n p) (p) (1))) hC hH 37 (p) (by omega) (by omega) rfl dX2_opens_37 (fun H locs hH => ?_)
        have hH : zH s0 s1 G as0 (rW ad G (va_up F 2 ((n : Int))) (va_up (va_up Ar 0 (va_up (opnF a n p) (p) (x))) 1 (va_up (opnF b n p) (p) (1)))) H locs := hH
        refine z_aload_n hC 38 hl dX2_opens_38 rfl 0 rfl ?_
        refine z_dup hC 39 dX2_opens_39 rfl ?_
        refine grW_2 (x := (n : Int)) hC hH 40 rfl dX2_opens_40 ?_
        refine z_iconst hC 43 dX2_opens_43 ?_
        refine z_iadd (e := (n : Int) + 1) hC 44 dX2_opens_44 rfl ?_
        refine prW_2 hC hH 45 dX2_opens_45 (fun H locs hH => ?_)
        have hH : zH s0 s1 G as0 (rW ad G (va_up F 2 ((n : Int) + 1)) (va_up (va_up Ar 0 (va_up (opnF a n p) (p) (x))) 1 (va_up (opnF b n p) (p) (1)))) H locs := hH
        -- R48.1
        exact z_vret hC hH hQ 48 (()) dX2_opens_48 rfl trivial rfl (Nat.le_refl _) (Nat.le_refl _)
      · -- 7f
        obtain ⟨k2, ek⟩ : ∃ k2, k = k2 + 1 := ⟨k - 1, by omega⟩
        refine z_aload_n hC 10 hl dX2_opens_10 rfl 0 rfl ?_
        refine z_iload_n hC 11 hl dX2_opens_11 rfl 3 rfl ?_
        refine z_iconst hC 12 dX2_opens_12 ?_
        refine z_isub (e := (k : Int) - 1) hC 13 dX2_opens_13 rfl ?_
        refine z_iload_n hC 14 hl dX2_opens_14 rfl 3 rfl ?_
        refine z_st (st' := [.int (iZ ((k : Int))), .int (iZ (((k - 1 : Nat) : Int))), .ref (ad 0)]) (zcons rfl (zcons (zieq (by omega)) rfl)) ?_
        refine z_same (z_runV hC hH.2.2 hl.1 hH.1 hH.2.1 2 (As := [.int (iZ (((k - 1 : Nat) : Int))), .int (iZ ((k : Int)))]) (rest := []) (m_X2_copies lau s0 G _ ad (va_up F 2 ((n : Int))) (va_up (va_up Ar 0 (opnF a n k)) 1 (opnF b n k)) (k - 1) k (opnF a n k) (opnF b n k) (by first | assumption | omega) (by first | assumption | omega)) (lw_V q848 q849 q850 q90 q851) ⟨rfl, by decide, by decide, by decide +kernel⟩ (q0 := 0) (ci := 2) rfl rfl rfl rfl (Nat.le_of_ble_eq_true rfl) ⟨Nat.le_of_ble_eq_true rfl, Nat.le_of_ble_eq_true rfl⟩ ⟨Nat.le_of_ble_eq_true rfl, Nat.le_of_ble_eq_true rfl⟩ dX2_opens_15) hH (fun _ H locs hpost hH => ?_)
        have hH : zH s0 s1 G as0 (rW ad G (va_up F 2 ((n : Int))) (va_up (va_up Ar 0 (va_up (opnF a n k) k ((opnF a n k) (k - 1)))) 1 (va_up (opnF b n k) k ((opnF b n k) (k - 1))))) H locs := hH
        refine z_st (st' := []) rfl ?_
        have hcv6 : (va_up (opnF a n k) k ((opnF a n k) (k - 1))) = (opnF a n (k - 1)) := by subst ek; exact opnF_s (by omega)
        rw [hcv6] at hH
        have hH : zH s0 s1 G as0 (rW ad G (va_up F 2 ((n : Int))) (va_up (va_up Ar 0 (opnF a n (k - 1))) 1 (va_up (opnF b n k) k ((opnF b n k) (k - 1))))) H locs := hH
        have hcv7 : (va_up (opnF b n k) k ((opnF b n k) (k - 1))) = (opnF b n (k - 1)) := by subst ek; exact opnF_s (by omega)
        rw [hcv7] at hH
        have hH : zH s0 s1 G as0 (rW ad G (va_up F 2 ((n : Int))) (va_up (va_up Ar 0 (opnF a n (k - 1))) 1 (opnF b n (k - 1)))) H locs := hH
        refine z_iinc (lv' := [(3, .int (iZ ((k : Int) - 1))), (0, .ref (ad 0)), (1, .int (iZ ((p : Int)))), (2, .int (iZ (x)))]) hC 18 hl dX2_opens_18 3 rfl (by omega) (by decide) rfl (fun ls hl => ?_)
        refine z_goto hC 21 5 dX2_opens_21 rfl ?_
        -- J5.2
        exact ih5 (k - 1) _ _ _ (by omega) (by first | assumption | omega) (by first | assumption | omega) hH (z_lv (lv_sub hl [1, 2, 3, 0] rfl) (zcons rfl (zcons rfl (zcons rfl (zcons (zpeq (by omega)) rfl)))))
  -- J5.3
  exact L5 _ n _ _ _ (Nat.lt_succ_self _) (by first | assumption | omega) (by first | assumption | omega) hH (lv_sub hl [1, 2, 3, 0] rfl)
