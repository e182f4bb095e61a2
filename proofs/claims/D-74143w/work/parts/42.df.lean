/-! methods of ModeDesk: 42.df -/
set_option maxHeartbeats 4000000 in
set_option maxRecDepth 100000 in
theorem u_X2_isLike (lau : Launch) (s0 : State) (G : zG) (ad : Nat → Nat) (F : Nat → Int) (Ar : Nat → Nat → Int) (kp : Nat → Nat) (pl : Nat → Option Nat) (n : Nat) (n2 : Nat) (v : Nat → Nat) (v2 : Nat → Nat) (wt : Nat → Nat) (wt2 : Nat → Nat) (hn : n ≤ 120) (hFn : F 200 = (n : Int)) (hn2 : n2 ≤ 120) (hFn2 : F 203 = (n2 : Int)) (hv : ∀ i, i < n → v i < 1000) (hv2 : ∀ i, i < n2 → v2 i < 1000) (hAv : ∀ i, i < n → Ar 201 i = (v i : Int)) (hAv2 : ∀ i, i < n2 → Ar 204 i = (v2 i : Int)) (hw : ∀ i, i < n → 1 ≤ wt i ∧ wt i ≤ 9) (hw2 : ∀ i, i < n2 → 1 ≤ wt2 i ∧ wt2 i ≤ 9) (hAw : ∀ i, i < n → Ar 202 i = (wt i : Int)) (hAw2 : ∀ i, i < n2 → Ar 205 i = (wt2 i : Int)) : zPur (S := Int) lau yX2_isLike cX2_isLike 3 (some .boolean) 0 0 s0 G [.ref (ad 200), .ref (ad 203)] (dW0 ad G F Ar kp pl) (fun (r_ : Int) => some (.int (iZ r_))) (fun (r_ : Int) => ((r_ = 1 ∧ (n = n2 ∧ ∀ i, i < n → v i = v2 i ∧ wt i = wt2 i)) ∨ (r_ = 0 ∧ ¬ (n = n2 ∧ ∀ i, i < n → v i = v2 i ∧ wt i = wt2 i)))) := by
  refine zPur.of (by decide) (Nat.le_of_ble_eq_true rfl) ?_
  intro pg ev s1 mi ar bl me cd ls Q hC hP hl hQ
  have hl : lv_has ls 3 [(0, .ref (ad 200)), (1, .ref (ad 203))] := hl
  refine z_aload_n hC 0 hl dX2_isLike_0 rfl 0 rfl ?_
  refine zp_get (v := .int (iZ ((n : Int)))) hC hP 1 in_X2 rfl 2 (by decide) q147 11 rfl (by rw [← hFn]; rfl) dX2_isLike_1 ?_
  refine z_aload_n hC 4 hl dX2_isLike_4 rfl 1 rfl ?_
  refine zp_get (v := .int (iZ ((n2 : Int)))) hC hP 5 in_X2 rfl 2 (by decide) q147 14 rfl (by rw [← hFn2]; rfl) dX2_isLike_5 ?_
  refine z_icmp_eq hC 8 13 dX2_isLike_8 rfl (by omega) (by omega) (fun hb1 => ?_) (fun hb1 => ?_)
  · -- 8t
    refine z_iconst hC 13 dX2_isLike_13 ?_
    refine z_istore_n (lv' := [(2, .int (iZ (0))), (0, .ref (ad 200)), (1, .ref (ad 203))]) hC 14 hl dX2_isLike_14 rfl (by decide) rfl (fun ls hl => ?_)
    have L15 : ∀ (N_ : Nat) (i : Nat) (ls : Array Slot), n - i < N_ → (i ≤ n) → (∀ j, j < i → v j = v2 j ∧ wt j = wt2 j) → lv_has ls 3 [(0, .ref (ad 200)), (1, .ref (ad 203)), (2, .int (iZ ((i : Int))))] → W pg lau ev (zRm 0 0 0 0) s1 mi ar bl me cd s1.heap [] 0 0 Q (F0 mi 15 ls []) := by
      intro N_
      induction N_ with
      | zero => intro i ls hd; exact absurd hd (Nat.not_lt_zero _)
      | succ N_ ih15 =>
        intro i ls hd15 i15_1 ii hl
        have hnn : n = n2 := by omega
        refine z_iload_n hC 15 hl dX2_isLike_15 rfl 2 rfl ?_
        refine z_aload_n hC 16 hl dX2_isLike_16 rfl 0 rfl ?_
        refine zp_get (v := .int (iZ ((n : Int)))) hC hP 17 in_X2 rfl 2 (by decide) q147 11 rfl (by rw [← hFn]; rfl) dX2_isLike_17 ?_
        refine z_icmp_ge hC 20 61 dX2_isLike_20 rfl (by omega) (by omega) (fun hb2 => ?_) (fun hb2 => ?_)
        · -- 20t
          refine z_iconst hC 61 dX2_isLike_61 ?_
          -- R62.1
          exact zp_zret hC hQ 62 (1) dX2_isLike_62 (by rfl) rfl (Or.inl ⟨rfl, by exact ⟨by omega, fun j hj => ii j (by omega)⟩⟩)
        · -- 20f
          refine z_aload_n hC 23 hl dX2_isLike_23 rfl 0 rfl ?_
          refine zp_get (v := .ref (ad 201)) hC hP 24 in_X2 rfl 0 (by decide) q139 11 rfl (rfl) dX2_isLike_24 ?_
          have q1 := hv i (by omega)
          have q2 := hv2 i (by omega)
          have q3 := hw i (by omega)
          have q4 := hw2 i (by omega)
          refine z_iload_n hC 27 hl dX2_isLike_27 rfl 2 rfl ?_
          refine zp_iald (x := ((v (i) : Nat) : Int)) hC hP 28 12 (i) rfl (by decide) (by omega) (by omega) (hAv (i) (by omega)) dX2_isLike_28 ?_
          refine z_aload_n hC 29 hl dX2_isLike_29 rfl 1 rfl ?_
          refine zp_get (v := .ref (ad 204)) hC hP 30 in_X2 rfl 0 (by decide) q139 14 rfl (rfl) dX2_isLike_30 ?_
          refine z_iload_n hC 33 hl dX2_isLike_33 rfl 2 rfl ?_
          refine zp_iald (x := ((v2 (i) : Nat) : Int)) hC hP 34 15 (i) rfl (by decide) (by omega) (by omega) (hAv2 (i) (by omega)) dX2_isLike_34 ?_
          refine z_icmp_ne hC 35 53 dX2_isLike_35 rfl (by omega) (by omega) (fun hb3 => ?_) (fun hb3 => ?_)
          · -- 35t
            refine z_iconst hC 53 dX2_isLike_53 ?_
            -- R54.2
            exact zp_zret hC hQ 54 (0) dX2_isLike_54 (by rfl) rfl (Or.inr ⟨rfl, by (intro q9; have q8 := q9.2 i (by omega); omega)⟩)
          · -- 35f
            refine z_aload_n hC 38 hl dX2_isLike_38 rfl 0 rfl ?_
            refine zp_get (v := .ref (ad 202)) hC hP 39 in_X2 rfl 1 (by decide) q142 11 rfl (rfl) dX2_isLike_39 ?_
            refine z_iload_n hC 42 hl dX2_isLike_42 rfl 2 rfl ?_
            refine zp_iald (x := ((wt (i) : Nat) : Int)) hC hP 43 13 (i) rfl (by decide) (by omega) (by omega) (hAw (i) (by omega)) dX2_isLike_43 ?_
            refine z_aload_n hC 44 hl dX2_isLike_44 rfl 1 rfl ?_
            refine zp_get (v := .ref (ad 205)) hC hP 45 in_X2 rfl 1 (by decide) q142 14 rfl (rfl) dX2_isLike_45 ?_
            refine z_iload_n hC 48 hl dX2_isLike_48 rfl 2 rfl ?_
            refine zp_iald (x := ((wt2 (i) : Nat) : Int)) hC hP 49 16 (i) rfl (by decide) (by omega) (by omega) (hAw2 (i) (by omega)) dX2_isLike_49 ?_
            refine z_icmp_eq hC 50 55 dX2_isLike_50 rfl (by omega) (by omega) (fun hb4 => ?_) (fun hb4 => ?_)
            · -- 50t
              refine z_iinc (lv' := [(2, .int (iZ ((i : Int) + 1))), (0, .ref (ad 200)), (1, .ref (ad 203))]) hC 55 hl dX2_isLike_55 2 rfl (by omega) (by decide) rfl (fun ls hl => ?_)
              refine z_goto hC 58 15 dX2_isLike_58 rfl ?_
              -- J15.3
              exact ih15 (i + 1) _ (by omega) (by first | assumption | omega) (by first | (intro j hj; omega) | exact lk_s ii (by omega) (by omega))  (z_lv (lv_sub hl [1, 2, 0] rfl) (zcons rfl (zcons rfl (zcons (zpeq (by omega)) rfl))))
            · -- 50f
              refine z_iconst hC 53 dX2_isLike_53 ?_
              -- R54.4
              exact zp_zret hC hQ 54 (0) dX2_isLike_54 (by rfl) rfl (Or.inr ⟨rfl, by (intro q9; have q8 := q9.2 i (by omega); omega)⟩)
    -- J15.5
    exact L15 _ 0 _ (Nat.lt_succ_self _) (by first | assumption | omega) (by first | (intro j hj; omega) | exact lk_s ii (by omega) (by omega))  (z_lv (lv_sub hl [1, 2, 0] rfl) (zcons rfl (zcons rfl (zcons (zpeq (by omega)) rfl))))
  · -- 8f
    refine z_iconst hC 11 dX2_isLike_11 ?_
    -- R12.6
    exact zp_zret hC hQ 12 (0) dX2_isLike_12 (by rfl) rfl (Or.inr ⟨rfl, by (intro q9; omega)⟩)

set_option maxHeartbeats 4000000 in
set_option maxRecDepth 100000 in
theorem u_X2_unlike (lau : Launch) (s0 : State) (G : zG) (ad : Nat → Nat) (F : Nat → Int) (Ar : Nat → Nat → Int) (kp : Nat → Nat) (pl : Nat → Option Nat) (n : Nat) (n2 : Nat) (v : Nat → Nat) (v2 : Nat → Nat) (hn : n ≤ 120) (hFn : F 200 = (n : Int)) (hn2 : n2 ≤ 120) (hFn2 : F 203 = (n2 : Int)) (hv : ∀ i, i < n → v i < 1000) (hv2 : ∀ i, i < n2 → v2 i < 1000) (hAv : ∀ i, i < n → Ar 201 i = (v i : Int)) (hAv2 : ∀ i, i < n2 → Ar 204 i = (v2 i : Int)) : zPur (S := Unit) lau yX2_unlike cX2_unlike 4 (some .int) 0 0 s0 G [.ref (ad 200), .ref (ad 203)] (dW0 ad G F Ar kp pl) (fun (_ : Unit) => some (.int (iZ (((cB (fun p => n2 ≤ p ∨ v p ≠ v2 p) n : Nat) : Int))))) (fun (_ : Unit) => True) := by
  refine zPur.of (by decide) (Nat.le_of_ble_eq_true rfl) ?_
  intro pg ev s1 mi ar bl me cd ls Q hC hP hl hQ
  have hl : lv_has ls 4 [(0, .ref (ad 200)), (1, .ref (ad 203))] := hl
  refine z_iconst hC 0 dX2_unlike_0 ?_
  refine z_istore_n (lv' := [(2, .int (iZ (0))), (0, .ref (ad 200)), (1, .ref (ad 203))]) hC 1 hl dX2_unlike_1 rfl (by decide) rfl (fun ls hl => ?_)
  refine z_iconst hC 2 dX2_unlike_2 ?_
  refine z_istore_n (lv' := [(3, .int (iZ (0))), (2, .int (iZ (0))), (0, .ref (ad 200)), (1, .ref (ad 203))]) hC 3 hl dX2_unlike_3 rfl (by decide) rfl (fun ls hl => ?_)
  have L4 : ∀ (N_ : Nat) (i : Nat) (c : Nat) (ls : Array Slot), n - i < N_ → (i ≤ n) → (c ≤ i) → (c = cB (fun p => n2 ≤ p ∨ v p ≠ v2 p) i) → lv_has ls 4 [(0, .ref (ad 200)), (1, .ref (ad 203)), (2, .int (iZ ((c : Int)))), (3, .int (iZ ((i : Int))))] → W pg lau ev (zRm 0 0 0 0) s1 mi ar bl me cd s1.heap [] 0 0 Q (F0 mi 4 ls []) := by
    intro N_
    induction N_ with
    | zero => intro i c ls hd; exact absurd hd (Nat.not_lt_zero _)
    | succ N_ ih4 =>
      intro i c ls hd4 i4_1 i4_2 ic hl
      refine z_iload_n hC 4 hl dX2_unlike_4 rfl 3 rfl ?_
      refine z_aload_n hC 5 hl dX2_unlike_5 rfl 0 rfl ?_
      refine zp_get (v := .int (iZ ((n : Int)))) hC hP 6 in_X2 rfl 2 (by decide) q147 11 rfl (by rw [← hFn]; rfl) dX2_unlike_6 ?_
      refine z_icmp_ge hC 9 49 dX2_unlike_9 rfl (by omega) (by omega) (fun hb1 => ?_) (fun hb1 => ?_)
      · -- 9t
        refine z_iload_n hC 49 hl dX2_unlike_49 rfl 2 rfl ?_
        -- R50.1
        refine z_st (st' := [.int (iZ (((cB (fun p => n2 ≤ p ∨ v p ≠ v2 p) n : Nat) : Int)))]) (zcons (zieq (by (rw [ic, show i = n by omega]))) rfl) ?_
        exact zp_iret hC hQ 50 (()) dX2_unlike_50 rfl trivial
      · -- 9f
        refine z_iload_n hC 12 hl dX2_unlike_12 rfl 2 rfl ?_
        refine z_iload_n hC 13 hl dX2_unlike_13 rfl 3 rfl ?_
        refine z_aload_n hC 14 hl dX2_unlike_14 rfl 1 rfl ?_
        refine zp_get (v := .int (iZ ((n2 : Int)))) hC hP 15 in_X2 rfl 2 (by decide) q147 14 rfl (by rw [← hFn2]; rfl) dX2_unlike_15 ?_
        refine z_icmp_ge hC 18 36 dX2_unlike_18 rfl (by omega) (by omega) (fun hb2 => ?_) (fun hb2 => ?_)
        · -- 18t
          refine z_iconst hC 36 dX2_unlike_36 ?_
          refine z_goto hC 37 41 dX2_unlike_37 rfl ?_
          refine z_iadd (e := (c : Int) + 1) hC 41 dX2_unlike_41 rfl ?_
          refine z_istore_n (lv' := [(2, .int (iZ ((c : Int) + 1))), (0, .ref (ad 200)), (1, .ref (ad 203)), (3, .int (iZ ((i : Int))))]) hC 42 hl dX2_unlike_42 rfl (by decide) rfl (fun ls hl => ?_)
          refine z_iinc (lv' := [(3, .int (iZ ((i : Int) + 1))), (2, .int (iZ ((c : Int) + 1))), (0, .ref (ad 200)), (1, .ref (ad 203))]) hC 43 hl dX2_unlike_43 3 rfl (by omega) (by decide) rfl (fun ls hl => ?_)
          refine z_goto hC 46 4 dX2_unlike_46 rfl ?_
          -- J4.2
          exact ih4 (i + 1) (c + 1) _ (by omega) (by first | assumption | omega) (by first | assumption | omega) (by first | rfl | exact cB_it (Or.inl (by omega)) ic | exact cB_it (Or.inr (by omega)) ic | exact cB_if (by intro q; omega) ic)  (z_lv (lv_sub hl [2, 3, 1, 0] rfl) (zcons rfl (zcons rfl (zcons (zpeq (by omega)) (zcons (zpeq (by omega)) rfl)))))
        · -- 18f
          have q1 := hv i (by omega)
          have q2 := hv2 i (by omega)
          refine z_aload_n hC 21 hl dX2_unlike_21 rfl 0 rfl ?_
          refine zp_get (v := .ref (ad 201)) hC hP 22 in_X2 rfl 0 (by decide) q139 11 rfl (rfl) dX2_unlike_22 ?_
          refine z_iload_n hC 25 hl dX2_unlike_25 rfl 3 rfl ?_
          refine zp_iald (x := ((v (i) : Nat) : Int)) hC hP 26 12 (i) rfl (by decide) (by omega) (by omega) (hAv (i) (by omega)) dX2_unlike_26 ?_
          refine z_aload_n hC 27 hl dX2_unlike_27 rfl 1 rfl ?_
          refine zp_get (v := .ref (ad 204)) hC hP 28 in_X2 rfl 0 (by decide) q139 14 rfl (rfl) dX2_unlike_28 ?_
          refine z_iload_n hC 31 hl dX2_unlike_31 rfl 3 rfl ?_
          refine zp_iald (x := ((v2 (i) : Nat) : Int)) hC hP 32 15 (i) rfl (by decide) (by omega) (by omega) (hAv2 (i) (by omega)) dX2_unlike_32 ?_
          refine z_icmp_eq hC 33 40 dX2_unlike_33 rfl (by omega) (by omega) (fun hb3 => ?_) (fun hb3 => ?_)
          · -- 33t
            refine z_iconst hC 40 dX2_unlike_40 ?_
            refine z_iadd (e := (c : Int)) hC 41 dX2_unlike_41 (by omega) ?_
            refine z_istore_n (lv' := [(2, .int (iZ ((c : Int)))), (0, .ref (ad 200)), (1, .ref (ad 203)), (3, .int (iZ ((i : Int))))]) hC 42 hl dX2_unlike_42 rfl (by decide) rfl (fun ls hl => ?_)
            refine z_iinc (lv' := [(3, .int (iZ ((i : Int) + 1))), (2, .int (iZ ((c : Int)))), (0, .ref (ad 200)), (1, .ref (ad 203))]) hC 43 hl dX2_unlike_43 3 rfl (by omega) (by decide) rfl (fun ls hl => ?_)
            refine z_goto hC 46 4 dX2_unlike_46 rfl ?_
            -- J4.3
            exact ih4 (i + 1) c _ (by omega) (by first | assumption | omega) (by first | assumption | omega) (by first | rfl | exact cB_it (Or.inl (by omega)) ic | exact cB_it (Or.inr (by omega)) ic | exact cB_if (by intro q; omega) ic)  (z_lv (lv_sub hl [2, 3, 1, 0] rfl) (zcons rfl (zcons rfl (zcons rfl (zcons (zpeq (by omega)) rfl)))))
          · -- 33f
            refine z_iconst hC 36 dX2_unlike_36 ?_
            refine z_goto hC 37 41 dX2_unlike_37 rfl ?_
            refine z_iadd (e := (c : Int) + 1) hC 41 dX2_unlike_41 rfl ?_
            refine z_istore_n (lv' := [(2, .int (iZ ((c : Int) + 1))), (0, .ref (ad 200)), (1, .ref (ad 203)), (3, .int (iZ ((i : Int))))]) hC 42 hl dX2_unlike_42 rfl (by decide) rfl (fun ls hl => ?_)
            refine z_iinc (lv' := [(3, .int (iZ ((i : Int) + 1))), (2, .int (iZ ((c : Int) + 1))), (0, .ref (ad 200)), (1, .ref (ad 203))]) hC 43 hl dX2_unlike_43 3 rfl (by omega) (by decide) rfl (fun ls hl => ?_)
            refine z_goto hC 46 4 dX2_unlike_46 rfl ?_
            -- J4.4
            exact ih4 (i + 1) (c + 1) _ (by omega) (by first | assumption | omega) (by first | assumption | omega) (by first | rfl | exact cB_it (Or.inl (by omega)) ic | exact cB_it (Or.inr (by omega)) ic | exact cB_if (by intro q; omega) ic)  (z_lv (lv_sub hl [2, 3, 1, 0] rfl) (zcons rfl (zcons rfl (zcons (zpeq (by omega)) (zcons (zpeq (by omega)) rfl)))))
  -- J4.5
  exact L4 _ 0 0 _ (Nat.lt_succ_self _) (by first | assumption | omega) (by first | assumption | omega) (by first | rfl | exact cB_it (Or.inl (by omega)) ic | exact cB_it (Or.inr (by omega)) ic | exact cB_if (by intro q; omega) ic)  (z_lv (lv_sub hl [2, 3, 1, 0] rfl) (zcons rfl (zcons rfl (zcons (zpeq (by omega)) (zcons (zpeq (by omega)) rfl)))))
