/-! methods of Row and Places -/

set_option maxHeartbeats 4000000 in
set_option maxRecDepth 100000 in
theorem m_X2_swaps (lau : Launch) (s0 : State) (G : zG) (sz : Nat) (ad : Nat → Nat) (F : Nat → Int) (Ar : Nat → Nat → Int) (f : Nat) (t : Nat) (a : Nat → Int) (b : Nat → Int) (hf : f < 120) (ht : t < 120) : zMet (S := Unit) lau yX2_swaps cX2_swaps 5 (none) 1 22 0 0 s0 G sz [.ref (ad 0), .int (iZ ((f : Int))), .int (iZ ((t : Int)))] (rW ad G F (va_up (va_up Ar 0 a) 1 b)) (fun (_ : Unit) => (none : Option Value)) (fun (_ : Unit) => True) (fun (_ : Unit) => (rW ad G F (va_up (va_up Ar 0 (va_up (va_up a f (a t)) t (a f))) 1 (va_up (va_up b f (b t)) t (b f))))) := by
  refine zMet.of (by decide) (Nat.le_of_ble_eq_true rfl) ?_
  intro pg ev s1 mi ar bl me cd ls Q as0 hC hH hl hQ hsz
  generalize s1.heap = H at hH ⊢
  generalize ([] : List Loc) = locs at hH ⊢
  have hl : lv_has ls 5 [(0, .ref (ad 0)), (1, .int (iZ ((f : Int)))), (2, .int (iZ ((t : Int))))] := hl
  refine z_aload_n hC 0 hl dX2_swaps_0 rfl 0 rfl ?_
  refine grW_0 hC hH 1 dX2_swaps_1 ?_
  refine z_iload_n hC 4 hl dX2_swaps_4 rfl 1 rfl ?_
  refine lrW_0 (x := (a f)) hC hH 5 (f) (by omega) (by omega) rfl dX2_swaps_5 ?_
  refine z_istore_n (lv' := [(3, .int (iZ ((a f)))), (0, .ref (ad 0)), (1, .int (iZ ((f : Int)))), (2, .int (iZ ((t : Int))))]) hC 6 hl dX2_swaps_6 rfl (by decide) rfl (fun ls hl => ?_)
  refine z_aload_n hC 7 hl dX2_swaps_7 rfl 1 rfl ?_
  refine grW_1 hC hH 8 dX2_swaps_8 ?_
  refine z_iload_n hC 11 hl dX2_swaps_11 rfl 2 rfl ?_
  refine lrW_1 (x := (b f)) hC hH 12 (f) (by omega) (by omega) rfl dX2_swaps_12 ?_
  refine z_istore (lv' := [(4, .int (iZ ((b f)))), (3, .int (iZ ((a f)))), (0, .ref (ad 0)), (1, .int (iZ ((f : Int)))), (2, .int (iZ ((t : Int))))]) hC 13 hl dX2_swaps_13 (by decide) rfl (fun ls hl => ?_)
  refine z_aload_n hC 15 hl dX2_swaps_15 rfl 2 rfl ?_
  refine z_iload_n hC 16 hl dX2_swaps_16 rfl 4 rfl ?_
  refine z_iload_n hC 17 hl dX2_swaps_17 rfl 3 rfl ?_
  refine z_same (z_runV hC hH.2.2 hl.1 hH.1 hH.2.1 2 (As := [.int (iZ ((t : Int))), .int (iZ ((f : Int)))]) (rest := []) (m_X2_copies lau s0 G _ ad F (va_up (va_up Ar 0 a) 1 b) t f a b (by first | assumption | omega) (by first | assumption | omega)) (lw_V q848 q849 q850 q90 q851) ⟨rfl, by decide, by decide, by decide +kernel⟩ (q0 := 0) (ci := 2) rfl rfl rfl rfl (Nat.le_of_ble_eq_true rfl) ⟨Nat.le_of_ble_eq_true rfl, Nat.le_of_ble_eq_true rfl⟩ ⟨Nat.le_of_ble_eq_true rfl, Nat.le_of_ble_eq_true rfl⟩ dX2_swaps_18) hH (fun _ H locs hpost hH => ?_)
  have hH : zH s0 s1 G as0 (rW ad G F (va_up (va_up Ar 0 (va_up a f (a t))) 1 (va_up b f (b t)))) H locs := hH
  refine z_st (st' := []) rfl ?_
  refine z_aload_n hC 21 hl dX2_swaps_21 rfl 2 rfl ?_
  refine grW_0 hC hH 22 dX2_swaps_22 ?_
  refine z_iload_n hC 25 hl dX2_swaps_25 rfl 4 rfl ?_
  refine z_iload_n hC 26 hl dX2_swaps_26 rfl 1 rfl ?_
  refine srW_0 (f' := (va_up (va_up a f (a t)) (t) ((a f)))) hC hH 27 (t) (by omega) (by omega) rfl dX2_swaps_27 (fun H locs hH => ?_)
  have hH : zH s0 s1 G as0 (rW ad G F (va_up (va_up Ar 0 (va_up (va_up a f (a t)) (t) ((a f)))) 1 (va_up b f (b t)))) H locs := hH
  refine z_aload_n hC 28 hl dX2_swaps_28 rfl 2 rfl ?_
  refine grW_1 hC hH 29 dX2_swaps_29 ?_
  refine z_iload_n hC 32 hl dX2_swaps_32 rfl 4 rfl ?_
  refine z_iload hC 33 hl dX2_swaps_33 0 rfl ?_
  refine srW_1 (f' := (va_up (va_up b f (b t)) (t) ((b f)))) hC hH 35 (t) (by omega) (by omega) rfl dX2_swaps_35 (fun H locs hH => ?_)
  have hH : zH s0 s1 G as0 (rW ad G F (va_up (va_up Ar 0 (va_up (va_up a f (a t)) (t) ((a f)))) 1 (va_up (va_up b f (b t)) (t) ((b f))))) H locs := hH
  -- R36.1
  exact z_vret hC hH hQ 36 (()) dX2_swaps_36 rfl trivial rfl (Nat.le_refl _) (Nat.le_refl _)

set_option maxHeartbeats 4000000 in
set_option maxRecDepth 100000 in
theorem m_X2_closes (lau : Launch) (s0 : State) (G : zG) (sz : Nat) (ad : Nat → Nat) (F : Nat → Int) (Ar : Nat → Nat → Int) (n : Nat) (p : Nat) (a : Nat → Int) (b : Nat → Int) (hn : n ≤ 120) (hp : p < n) : zMet (S := Unit) lau yX2_closes cX2_closes 3 (none) 1 22 0 0 s0 G sz [.ref (ad 0), .int (iZ ((p : Int)))] (rW ad G (va_up F 2 ((n : Int))) (va_up (va_up Ar 0 a) 1 b)) (fun (_ : Unit) => (none : Option Value)) (fun (_ : Unit) => True) (fun (_ : Unit) => (rW ad G (va_up F 2 ((n : Int) - 1)) (va_up (va_up Ar 0 (clsF a p (n - 1))) 1 (clsF b p (n - 1))))) := by
  refine zMet.of (by decide) (Nat.le_of_ble_eq_true rfl) ?_
  intro pg ev s1 mi ar bl me cd ls Q as0 hC hH hl hQ hsz
  generalize s1.heap = H at hH ⊢
  generalize ([] : List Loc) = locs at hH ⊢
  have hl : lv_has ls 3 [(0, .ref (ad 0)), (1, .int (iZ ((p : Int))))] := hl
  refine z_aload_n hC 0 hl dX2_closes_0 rfl 0 rfl ?_
  refine z_dup hC 1 dX2_closes_1 rfl ?_
  refine grW_2 (x := (n : Int)) hC hH 2 rfl dX2_closes_2 ?_
  refine z_iconst hC 5 dX2_closes_5 ?_
  refine z_isub (e := (n : Int) - 1) hC 6 dX2_closes_6 rfl ?_
  refine prW_2 hC hH 7 dX2_closes_7 (fun H locs hH => ?_)
  have hH : zH s0 s1 G as0 (rW ad G (va_up F 2 ((n : Int) - 1)) (va_up (va_up Ar 0 a) 1 b)) H locs := hH
  refine z_iload_n hC 10 hl dX2_closes_10 rfl 1 rfl ?_
  have hcv1 : a = (clsF a p p) := by rw [clsF_0]
  rw [hcv1] at hH
  have hH : zH s0 s1 G as0 (rW ad G (va_up F 2 ((n : Int) - 1)) (va_up (va_up Ar 0 (clsF a p p)) 1 b)) H locs := hH
  have hcv2 : b = (clsF b p p) := by rw [clsF_0]
  rw [hcv2] at hH
  have hH : zH s0 s1 G as0 (rW ad G (va_up F 2 ((n : Int) - 1)) (va_up (va_up Ar 0 (clsF a p p)) 1 (clsF b p p))) H locs := hH
  refine z_istore_n (lv' := [(2, .int (iZ ((p : Int)))), (0, .ref (ad 0)), (1, .int (iZ ((p : Int))))]) hC 11 hl dX2_closes_11 rfl (by decide) rfl (fun ls hl => ?_)
  have L12 : ∀ (N_ : Nat) (k : Nat) (H : Heap) (locs : List Loc) (ls : Array Slot), n - k < N_ → (p ≤ k) → (k ≤ n - 1) → zH s0 s1 G as0 (rW ad G (va_up F 2 ((n : Int) - 1)) (va_up (va_up Ar 0 (clsF a p k)) 1 (clsF b p k))) H locs → lv_has ls 3 [(0, .ref (ad 0)), (1, .int (iZ ((p : Int)))), (2, .int (iZ ((k : Int))))] → W pg lau ev (zRm 1 0 0 22) s1 mi ar bl me cd H locs 0 0 Q (F0 mi 12 ls []) := by
    intro N_
    induction N_ with
    | zero => intro k H locs ls hd; exact absurd hd (Nat.not_lt_zero _)
    | succ N_ ih12 =>
      intro k H locs ls hd12 i12_1 i12_2 hH hl
      refine z_iload_n hC 12 hl dX2_closes_12 rfl 2 rfl ?_
      refine z_aload_n hC 13 hl dX2_closes_13 rfl 0 rfl ?_
      refine grW_2 (x := (n : Int) - 1) hC hH 14 rfl dX2_closes_14 ?_
      refine z_icmp_ge hC 17 34 dX2_closes_17 rfl (by omega) (by omega) (fun hb3 => ?_) (fun hb3 => ?_)
      · -- 17t
        have hcv4 : (clsF a p k) = (clsF a p (n - 1)) := by rw [show k = n - 1 from by omega]
        rw [hcv4] at hH
        have hH : zH s0 s1 G as0 (rW ad G (va_up F 2 ((n : Int) - 1)) (va_up (va_up Ar 0 (clsF a p (n - 1))) 1 (clsF b p k))) H locs := hH
        have hcv5 : (clsF b p k) = (clsF b p (n - 1)) := by rw [show k = n - 1 from by omega]
        rw [hcv5] at hH
        have hH : zH s0 s1 G as0 (rW ad G (va_up F 2 ((n : Int) - 1)) (va_up (va_up Ar 0 (clsF a p (n - 1))) 1 (clsF b p (n - 1)))) H locs := hH
        -- R34.1
        exact z_vret hC hH hQ 34 (()) dX2_closes_34 rfl trivial rfl (Nat.le_refl _) (Nat.le_refl _)
      · -- 17f
        refine z_aload_n hC 20 hl dX2_closes_20 rfl 0 rfl ?_
        refine z_iload_n hC 21 hl dX2_closes_21 rfl 2 rfl ?_
        refine z_iconst hC 22 dX2_closes_22 ?_
        refine z_iadd (e := (k : Int) + 1) hC 23 dX2_closes_23 rfl ?_
        refine z_iload_n hC 24 hl dX2_closes_24 rfl 2 rfl ?_
        refine z_st (st' := [.int (iZ ((k : Int))), .int (iZ (((k + 1 : Nat) : Int))), .ref (ad 0)]) (zcons rfl (zcons (zieq (by omega)) rfl)) ?_
        refine z_same (z_runV hC hH.2.2 hl.1 hH.1 hH.2.1 2 (As := [.int (iZ (((k + 1 : Nat) : Int))), .int (iZ ((k : Int)))]) (rest := []) (m_X2_copies lau s0 G _ ad (va_up F 2 ((n : Int) - 1)) (va_up (va_up Ar 0 (clsF a p k)) 1 (clsF b p k)) (k + 1) k (clsF a p k) (clsF b p k) (by first | assumption | omega) (by first | assumption | omega)) (lw_V q848 q849 q850 q90 q851) ⟨rfl, by decide, by decide, by decide +kernel⟩ (q0 := 0) (ci := 2) rfl rfl rfl rfl (Nat.le_of_ble_eq_true rfl) ⟨Nat.le_of_ble_eq_true rfl, Nat.le_of_ble_eq_true rfl⟩ ⟨Nat.le_of_ble_eq_true rfl, Nat.le_of_ble_eq_true rfl⟩ dX2_closes_25) hH (fun _ H locs hpost hH => ?_)
        have hH : zH s0 s1 G as0 (rW ad G (va_up F 2 ((n : Int) - 1)) (va_up (va_up Ar 0 (va_up (clsF a p k) k ((clsF a p k) (k + 1)))) 1 (va_up (clsF b p k) k ((clsF b p k) (k + 1))))) H locs := hH
        refine z_st (st' := []) rfl ?_
        have hcv6 : (va_up (clsF a p k) k ((clsF a p k) (k + 1))) = (clsF a p (k + 1)) := by exact clsF_s (by omega)
        rw [hcv6] at hH
        have hH : zH s0 s1 G as0 (rW ad G (va_up F 2 ((n : Int) - 1)) (va_up (va_up Ar 0 (clsF a p (k + 1))) 1 (va_up (clsF b p k) k ((clsF b p k) (k + 1))))) H locs := hH
        have hcv7 : (va_up (clsF b p k) k ((clsF b p k) (k + 1))) = (clsF b p (k + 1)) := by exact clsF_s (by omega)
        rw [hcv7] at hH
        have hH : zH s0 s1 G as0 (rW ad G (va_up F 2 ((n : Int) - 1)) (va_up (va_up Ar 0 (clsF a p (k + 1))) 1 (clsF b p (k + 1)))) H locs := hH
        refine z_iinc (lv' := [(2, .int (iZ ((k : Int) + 1))), (0, .ref (ad 0)), (1, .int (iZ ((p : Int))))]) hC 28 hl dX2_closes_28 2 rfl (by omega) (by decide) rfl (fun ls hl => ?_)
        refine z_goto hC 31 12 dX2_closes_31 rfl ?_
        -- J12.2
        exact ih12 (k + 1) _ _ _ (by omega) (by first | assumption | omega) (by first | assumption | omega) hH (z_lv (lv_sub hl [1, 2, 0] rfl) (zcons rfl (zcons rfl (zcons (zpeq (by omega)) rfl))))
  -- J12.3
  exact L12 _ p _ _ _ (Nat.lt_succ_self _) (by first | assumption | omega) (by first | assumption | omega) hH (lv_sub hl [1, 2, 0] rfl)
