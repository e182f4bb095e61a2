/-! methods of ModeDesk that write: 67.eg -/
set_option maxHeartbeats 4000000 in
set_option maxRecDepth 100000 in
theorem m_X1_laysFewest (lau : Launch) (s0 : State) (G : zG) (sz : Nat) (ad : Nat → Nat) (F : Nat → Int) (Ar : Nat → Nat → Int) (kp : Nat → Nat) (pl : Nat → Option Nat) (PW : va_W) (n : Nat) (v : Nat → Nat) (pr : Nat → Nat) (pa : Nat → Nat) (pm : Nat → Nat) (pf : Nat → Nat → Nat) (nw : Nat) (b : Nat) (t : Nat) (fa0 : Nat → Int) (hn : n ≤ 120) (hFn : F 200 = (n : Int)) (hv : ∀ i, i < n → v i < 1000) (hAv : ∀ i, i < n → Ar 201 i = (v i : Int)) (hb : 2 ≤ b ∧ b ≤ 20) (hFb : F 7 = (b : Int)) (ht : t < 4) (hFt : F 8 = (t : Int)) (hpl : ∀ y, y < 1000 → (pl y = some (pr y) ∨ (pl y = none ∧ pr y = nw))) (hnw : zNwh s0 nw) (hpc : ∀ y, y < 1000 → PlC n v y (pm y) (pf y)) (hpp : zPool s0 G PW pr pa pm pf) (hmo : ∀ i j, i ≤ j → b * j < n → Ar 12 (60 * i + j) = (md v (b * i) (bEnd b j n) t : Int)) : zMet (S := (Nat → Int) × Int × (Nat → Int)) lau yX1_laysFewest cX1_laysFewest 3 (none) 7 166 0 0 s0 G sz [.ref (ad 99)] (dW ad G F (va_up (va_up Ar 16 zZ) 24 fa0) kp pl PW) (fun ((fa, f17, a15) : (Nat → Int) × Int × (Nat → Int)) => (none : Option Value)) (fun ((fa, f17, a15) : (Nat → Int) × Int × (Nat → Int)) => (∀ i, i ≤ n → fa i = (fw v t n i : Int))) (fun ((fa, f17, a15) : (Nat → Int) × Int × (Nat → Int)) => (dW ad G (va_up F 17 (f17)) (va_up (va_up (va_up Ar 15 a15) 16 zZ) 24 fa) kp pl PW)) := by
  refine zMet.of (by decide) (Nat.le_of_ble_eq_true rfl) ?_
  intro pg ev s1 mi ar bl me cd ls Q as0 hC hH hl hQ hsz
  generalize s1.heap = H at hH ⊢
  generalize ([] : List Loc) = locs at hH ⊢
  have hl : lv_has ls 3 [(0, .ref (ad 99))] := hl
  refine z_aload_n hC 0 hl dX1_laysFewest_0 rfl 0 rfl ?_
  refine zp_get (v := .ref (ad 24)) hC (va_P_l hH.1) 1 in_X1 rfl 24 (by decide) q241 0 rfl (rfl) dX1_laysFewest_1 ?_
  refine z_aload_n hC 4 hl dX1_laysFewest_4 rfl 0 rfl ?_
  refine zp_get (v := .ref (ad 200)) hC (va_P_l hH.1) 5 in_X1 rfl 4 (by decide) q210 0 rfl (rfl) dX1_laysFewest_5 ?_
  refine zp_getN (v := .int (iZ ((n : Int)))) hC (va_P_l hH.1) 8 in_X2 rfl 2 (by decide) q149 11 rfl (by rw [← hFn]; rfl) dX1_laysFewest_8 ?_
  refine z_iconst hC 11 dX1_laysFewest_11 ?_
  refine sD_24 (f' := (va_up fa0 (n) (0))) hC hH 12 (n) (by omega) (by omega) rfl dX1_laysFewest_12 (fun H locs hH => ?_)
  have hH : zH s0 s1 G as0 (dW ad G F (va_up (va_up Ar 16 zZ) 24 (va_up fa0 (n) (0))) kp pl PW) H locs := hH
  refine z_aload_n hC 13 hl dX1_laysFewest_13 rfl 0 rfl ?_
  refine zp_get (v := .ref (ad 200)) hC (va_P_l hH.1) 14 in_X1 rfl 4 (by decide) q210 0 rfl (rfl) dX1_laysFewest_14 ?_
  refine zp_getN (v := .int (iZ ((n : Int)))) hC (va_P_l hH.1) 17 in_X2 rfl 2 (by decide) q149 11 rfl (by rw [← hFn]; rfl) dX1_laysFewest_17 ?_
  refine z_iconst hC 20 dX1_laysFewest_20 ?_
  refine z_isub (e := (n : Int) - 1) hC 21 dX1_laysFewest_21 rfl ?_
  refine z_istore_n (lv' := [(1, .int (iZ ((n : Int) - 1))), (0, .ref (ad 99))]) hC 22 hl dX1_laysFewest_22 rfl (by decide) rfl (fun ls hl => ?_)
  have L23 : ∀ (N_ : Nat) (e : Nat) (fa : Nat → Int) (f17 : Int) (a15 : Nat → Int) (H : Heap) (locs : List Loc) (ls : Array Slot), e < N_ → (e ≤ n) → (FWe v t n e fa) → zH s0 s1 G as0 (dW ad G (va_up F 17 (f17)) (va_up (va_up (va_up Ar 15 a15) 16 zZ) 24 fa) kp pl PW) H locs → lv_has ls 3 [(0, .ref (ad 99)), (1, .int (iZ ((e : Int) - 1)))] → W pg lau ev (zRm 7 0 0 166) s1 mi ar bl me cd H locs 0 0 Q (F0 mi 23 ls []) := by
    intro N_
    induction N_ with
    | zero => intro e fa f17 a15 H locs ls hd; exact absurd hd (Nat.not_lt_zero _)
    | succ N_ ih23 =>
      intro e fa f17 a15 H locs ls hd23 i23_1 ie hH hl
      refine z_iload_n hC 23 hl dX1_laysFewest_23 rfl 1 rfl ?_
      refine z_if_lt hC 24 104 dX1_laysFewest_24 rfl (by omega) (fun hb1 => ?_) (fun hb1 => ?_)
      · -- 24t
        have ee : e = 0 := by omega
        -- R104.1
        exact z_vret hC hH hQ 104 ((fa, f17, a15)) dX1_laysFewest_104 rfl (by (try dsimp only); exact fun i hi => by have q9 := ie i (by omega) hi; rw [ee] at q9; exact q9) rfl (Nat.le_refl _) (Nat.le_refl _)
      · -- 24f
        refine z_aload_n hC 27 hl dX1_laysFewest_27 rfl 0 rfl ?_
        refine zp_get (v := .ref (ad 24)) hC (va_P_l hH.1) 28 in_X1 rfl 24 (by decide) q241 0 rfl (rfl) dX1_laysFewest_28 ?_
        refine z_iload_n hC 31 hl dX1_laysFewest_31 rfl 1 rfl ?_
        refine z_bipush hC 32 dX1_laysFewest_32 rfl ?_
        refine sD_24 (f' := (va_up fa (e - 1) (121))) hC hH 34 (e - 1) (by omega) (by omega) rfl dX1_laysFewest_34 (fun H locs hH => ?_)
        have hH : zH s0 s1 G as0 (dW ad G (va_up F 17 (f17)) (va_up (va_up (va_up Ar 15 a15) 16 zZ) 24 (va_up fa (e - 1) (121))) kp pl PW) H locs := hH
        refine z_iload_n hC 35 hl dX1_laysFewest_35 rfl 1 rfl ?_
        refine z_istore_n (lv' := [(2, .int (iZ ((e : Int) - 1))), (0, .ref (ad 99)), (1, .int (iZ ((e : Int) - 1)))]) hC 36 hl dX1_laysFewest_36 rfl (by decide) rfl (fun ls hl => ?_)
        have L37 : ∀ (N_ : Nat) (r : Nat) (fb : Nat → Int) (f17 : Int) (a15 : Nat → Int) (H : Heap) (locs : List Loc) (ls : Array Slot), n - r < N_ → (e - 1 ≤ r) → (r ≤ n) → (fb (e - 1) = (mnF v t (fwT v t n (n - e)) (e - 1) r : Int)) → (FWe v t n e fb) → zH s0 s1 G as0 (dW ad G (va_up F 17 (f17)) (va_up (va_up (va_up Ar 15 a15) 16 zZ) 24 fb) kp pl PW) H locs → lv_has ls 3 [(0, .ref (ad 99)), (1, .int (iZ ((e : Int) - 1))), (2, .int (iZ ((r : Int))))] → W pg lau ev (zRm 7 0 0 166) s1 mi ar bl me cd H locs 0 0 Q (F0 mi 37 ls []) := by
          intro N_
          induction N_ with
          | zero => intro r fb f17 a15 H locs ls hd; exact absurd hd (Nat.not_lt_zero _)
          | succ N_ ih37 =>
            intro r fb f17 a15 H locs ls hd37 i37_1 i37_2 if1 if2 hH hl
            have hml := mnF_le (v := v) (t := t) (f := fwT v t n (n - e)) (l := e - 1) (r := r)
            refine z_iload_n hC 37 hl dX1_laysFewest_37 rfl 2 rfl ?_
            refine z_aload_n hC 38 hl dX1_laysFewest_38 rfl 0 rfl ?_
            refine zp_get (v := .ref (ad 200)) hC (va_P_l hH.1) 39 in_X1 rfl 4 (by decide) q210 0 rfl (rfl) dX1_laysFewest_39 ?_
            refine zp_getN (v := .int (iZ ((n : Int)))) hC (va_P_l hH.1) 42 in_X2 rfl 2 (by decide) q149 11 rfl (by rw [← hFn]; rfl) dX1_laysFewest_42 ?_
            refine z_icmp_ge hC 45 98 dX1_laysFewest_45 rfl (by omega) (by omega) (fun hb2 => ?_) (fun hb2 => ?_)
            · -- 45t
              refine z_iinc (lv' := [(1, .int (iZ ((e : Int) - 2))), (0, .ref (ad 99)), (2, .int (iZ ((r : Int))))]) hC 98 hl dX1_laysFewest_98 1 rfl (by omega) (by decide) rfl (fun ls hl => ?_)
              refine z_goto hC 101 23 dX1_laysFewest_101 rfl ?_
              -- J23.2
              exact ih23 (e - 1) fb f17 a15 _ _ _ (by omega) (by first | assumption | omega) (by first | exact FWe_n | (have q9 := FWe_s (by omega) (by omega) if2 (by rw [if1, show r = n by omega]); exact q9)) hH (z_lv (lv_sub hl [1, 0] rfl) (zcons rfl (zcons (zpeq (by omega)) rfl)))
            · -- 45f
              have hfr := if2 (r + 1) (by omega) (by omega)
              have hfr2 := fwT_le (v := v) (t := t) (n := n) (n - e) (r + 1)
              refine z_aload_n hC 48 hl dX1_laysFewest_48 rfl 0 rfl ?_
              refine zp_get (v := .ref (ad 24)) hC (va_P_l hH.1) 49 in_X1 rfl 24 (by decide) q241 0 rfl (rfl) dX1_laysFewest_49 ?_
              refine z_iload_n hC 52 hl dX1_laysFewest_52 rfl 2 rfl ?_
              refine z_iconst hC 53 dX1_laysFewest_53 ?_
              refine z_iadd (e := (r : Int) + 1) hC 54 dX1_laysFewest_54 rfl ?_
              refine zp_iald (f := fb) (x := (fb (r + 1))) hC (va_P_l hH.1) 55 10 (r + 1) rfl (by decide) (by omega) (by omega) (rfl) dX1_laysFewest_55 ?_
              refine z_iconst hC 56 dX1_laysFewest_56 ?_
              refine z_iadd (e := (fb (r + 1)) + 1) hC 57 dX1_laysFewest_57 rfl ?_
              refine z_aload_n hC 58 hl dX1_laysFewest_58 rfl 0 rfl ?_
              refine zp_get (v := .ref (ad 24)) hC (va_P_l hH.1) 59 in_X1 rfl 24 (by decide) q241 0 rfl (rfl) dX1_laysFewest_59 ?_
              refine z_iload_n hC 62 hl dX1_laysFewest_62 rfl 1 rfl ?_
              refine zp_iald (f := fb) (x := (fb (e - 1))) hC (va_P_l hH.1) 63 10 (e - 1) rfl (by decide) (by omega) (by omega) (rfl) dX1_laysFewest_63 ?_
              refine z_icmp_ge hC 64 92 dX1_laysFewest_64 rfl (by omega) (by omega) (fun hb3 => ?_) (fun hb3 => ?_)
              · -- 64t
                refine z_iinc (lv' := [(2, .int (iZ ((r : Int) + 1))), (0, .ref (ad 99)), (1, .int (iZ ((e : Int) - 1)))]) hC 92 hl dX1_laysFewest_92 2 rfl (by omega) (by decide) rfl (fun ls hl => ?_)
                refine z_goto hC 95 37 dX1_laysFewest_95 rfl ?_
                -- J37.3
                exact ih37 (r + 1) fb f17 a15 _ _ _ (by omega) (by first | assumption | omega) (by first | assumption | omega) (by first | (rw [va_up_self, mnF_0 (Nat.le_refl _)]; rfl) | (rw [va_up_self, mnF_t ⟨by omega, by omega, by unfold maj; omega⟩]; omega) | (rw [mnF_f (fun q => by have q1 := q.2.1; have q2 := q.2.2; unfold maj at q2; omega)]; exact if1)) (by first | exact FWe_up (by omega) ie | exact FWe_up (by omega) if2 | exact if2) hH (z_lv (lv_sub hl [1, 2, 0] rfl) (zcons rfl (zcons rfl (zcons (zpeq (by omega)) rfl))))
              · -- 64f
                refine z_aload_n hC 67 hl dX1_laysFewest_67 rfl 0 rfl ?_
                refine z_iload_n hC 68 hl dX1_laysFewest_68 rfl 1 rfl ?_
                refine z_iload_n hC 69 hl dX1_laysFewest_69 rfl 2 rfl ?_
                refine z_st (st' := [.int (iZ (((r + 1 : Nat) : Int) - 1)), .int (iZ (((e - 1 : Nat) : Int))), .ref (ad 99)]) (zcons (zieq (by omega)) (zcons (zieq (by omega)) rfl)) ?_
                refine z_same (z_runV hC hH.2.2 hl.1 hH.1 hH.2.1 2 (As := [.int (iZ (((e - 1 : Nat) : Int))), .int (iZ (((r + 1 : Nat) : Int) - 1))]) (rest := []) (m_X1_majorityOf lau s0 G _ ad (va_up F 17 (f17)) (va_up (va_up (va_up Ar 15 a15) 16 zZ) 24 fb) kp pl PW n v pr pa pm pf nw b t (e - 1) (r + 1) (by first | exact hn | assumption | omega) (by first | exact hFn | assumption | omega) (by first | exact hv | assumption | omega) (by first | exact hAv | assumption | omega) (by first | exact hb | assumption | omega) (by first | exact hFb | assumption | omega) (by first | exact ht | assumption | omega) (by first | exact hFt | assumption | omega) (by first | exact hpl | assumption | omega) (by first | exact hnw | assumption | omega) (by first | exact hpc | assumption | omega) (by first | exact hpp | assumption | omega) (by first | exact hmo | assumption | omega) (by first | exact hlr | assumption | omega) (by first | exact hrn | assumption | omega)) (lw_V q1083 q1085 qs37 q89 q1086) ⟨rfl, by decide, by decide, by decide +kernel⟩ (q0 := 0) (ci := 1) rfl rfl rfl rfl (Nat.le_of_ble_eq_true rfl) ⟨Nat.le_of_ble_eq_true rfl, Nat.le_of_ble_eq_true rfl⟩ ⟨Nat.le_of_ble_eq_true rfl, Nat.le_of_ble_eq_true rfl⟩ dX1_laysFewest_70) hH (fun u_ H locs hpost hH => ?_)
                obtain ⟨z_70, k_70, u_70, gu_70⟩ := u_
                have pz_70 : z_70 = if (r + 1) - (e - 1) < 2 * cnt v (e - 1) (r + 1) (md v (e - 1) (r + 1) t) then (md v (e - 1) (r + 1) t : Int) else -2 := hpost
                have hH : zH s0 s1 G as0 (dW ad G (va_up F 17 ((k_70 : Int))) (va_up (va_up (va_up Ar 15 (cI (k_70) u_70 gu_70)) 16 zZ) 24 fb) kp pl PW) H locs := hH
                refine z_st (st' := [.int (iZ (z_70))]) rfl ?_
                have hmd9 := md_lt_1000 v (e - 1) (r + 1) t
                have hz9 : z_70 = -2 ∨ (z_70 = (md v (e - 1) (r + 1) t : Int) ∧ r + 1 - (e - 1) < 2 * cnt v (e - 1) (r + 1) (md v (e - 1) (r + 1) t)) := by rw [pz_70]; split; (· right; exact ⟨rfl, by assumption⟩); (· left; rfl)
                have hz8 : z_70 = -2 → ¬ r + 1 - (e - 1) < 2 * cnt v (e - 1) (r + 1) (md v (e - 1) (r + 1) t) := fun q q2 => by rw [pz_70, if_pos q2] at q; omega
                refine z_if_lt hC 73 92 dX1_laysFewest_73 rfl (by omega) (fun hb4 => ?_) (fun hb4 => ?_)
                · -- 73t
                  refine z_iinc (lv' := [(2, .int (iZ ((r : Int) + 1))), (0, .ref (ad 99)), (1, .int (iZ ((e : Int) - 1)))]) hC 92 hl dX1_laysFewest_92 2 rfl (by omega) (by decide) rfl (fun ls hl => ?_)
                  refine z_goto hC 95 37 dX1_laysFewest_95 rfl ?_
                  -- J37.4
                  exact ih37 (r + 1) fb (k_70 : Int) (cI (k_70) u_70 gu_70) _ _ _ (by omega) (by first | assumption | omega) (by first | assumption | omega) (by first | (rw [va_up_self, mnF_0 (Nat.le_refl _)]; rfl) | (rw [va_up_self, mnF_t ⟨by omega, by omega, by unfold maj; omega⟩]; omega) | (rw [mnF_f (fun q => by have q1 := q.2.1; have q2 := q.2.2; unfold maj at q2; omega)]; exact if1)) (by first | exact FWe_up (by omega) ie | exact FWe_up (by omega) if2 | exact if2) hH (z_lv (lv_sub hl [1, 2, 0] rfl) (zcons rfl (zcons rfl (zcons (zpeq (by omega)) rfl))))
                · -- 73f
                  refine z_aload_n hC 76 hl dX1_laysFewest_76 rfl 0 rfl ?_
                  refine zp_get (v := .ref (ad 24)) hC (va_P_l hH.1) 77 in_X1 rfl 24 (by decide) q241 0 rfl (rfl) dX1_laysFewest_77 ?_
                  refine z_iload_n hC 80 hl dX1_laysFewest_80 rfl 1 rfl ?_
                  refine z_aload_n hC 81 hl dX1_laysFewest_81 rfl 0 rfl ?_
                  refine zp_get (v := .ref (ad 24)) hC (va_P_l hH.1) 82 in_X1 rfl 24 (by decide) q241 0 rfl (rfl) dX1_laysFewest_82 ?_
                  refine z_iload_n hC 85 hl dX1_laysFewest_85 rfl 2 rfl ?_
                  refine z_iconst hC 86 dX1_laysFewest_86 ?_
                  refine z_iadd (e := (r : Int) + 1) hC 87 dX1_laysFewest_87 rfl ?_
                  refine zp_iald (f := fb) (x := (fb (r + 1))) hC (va_P_l hH.1) 88 10 (r + 1) rfl (by decide) (by omega) (by omega) (rfl) dX1_laysFewest_88 ?_
                  refine z_iconst hC 89 dX1_laysFewest_89 ?_
                  refine z_iadd (e := (fb (r + 1)) + 1) hC 90 dX1_laysFewest_90 rfl ?_
                  refine sD_24 (f' := (va_up fb (e - 1) ((fb (r + 1)) + 1))) hC hH 91 (e - 1) (by omega) (by omega) rfl dX1_laysFewest_91 (fun H locs hH => ?_)
                  have hH : zH s0 s1 G as0 (dW ad G (va_up F 17 ((k_70 : Int))) (va_up (va_up (va_up Ar 15 (cI (k_70) u_70 gu_70)) 16 zZ) 24 (va_up fb (e - 1) ((fb (r + 1)) + 1))) kp pl PW) H locs := hH
                  refine z_iinc (lv' := [(2, .int (iZ ((r : Int) + 1))), (0, .ref (ad 99)), (1, .int (iZ ((e : Int) - 1)))]) hC 92 hl dX1_laysFewest_92 2 rfl (by omega) (by decide) rfl (fun ls hl => ?_)
                  refine z_goto hC 95 37 dX1_laysFewest_95 rfl ?_
                  -- J37.5
                  exact ih37 (r + 1) (va_up fb (e - 1) ((fb (r + 1)) + 1)) (k_70 : Int) (cI (k_70) u_70 gu_70) _ _ _ (by omega) (by first | assumption | omega) (by first | assumption | omega) (by first | (rw [va_up_self, mnF_0 (Nat.le_refl _)]; rfl) | (rw [va_up_self, mnF_t ⟨by omega, by omega, by unfold maj; omega⟩]; omega) | (rw [mnF_f (fun q => by have q1 := q.2.1; have q2 := q.2.2; unfold maj at q2; omega)]; exact if1)) (by first | exact FWe_up (by omega) ie | exact FWe_up (by omega) if2 | exact if2) hH (z_lv (lv_sub hl [1, 2, 0] rfl) (zcons rfl (zcons rfl (zcons (zpeq (by omega)) rfl))))
        -- J37.6
        exact L37 _ (e - 1) (va_up fa (e - 1) (121)) f17 a15 _ _ _ (Nat.lt_succ_self _) (by first | assumption | omega) (by first | assumption | omega) (by first | (rw [va_up_self, mnF_0 (Nat.le_refl _)]; rfl) | (rw [va_up_self, mnF_t ⟨by omega, by omega, by unfold maj; omega⟩]; omega) | (rw [mnF_f (fun q => by have q1 := q.2.1; have q2 := q.2.2; unfold maj at q2; omega)]; exact if1)) (by first | exact FWe_up (by omega) ie | exact FWe_up (by omega) if2 | exact if2) hH (z_lv (lv_sub hl [1, 2, 0] rfl) (zcons rfl (zcons rfl (zcons (zpeq (by omega)) rfl))))
  -- J23.7
  exact L23 _ n (va_up fa0 (n) (0)) (F 17) (Ar 15) _ _ _ (Nat.lt_succ_self _) (by first | assumption | omega) (by first | exact FWe_n | (have q9 := FWe_s (by omega) (by omega) if2 (by rw [if1, show r = n by omega]); exact q9)) hH (lv_sub hl [1, 0] rfl)

set_option maxHeartbeats 4000000 in
set_option maxRecDepth 100000 in
theorem m_X1_partEnd (lau : Launch) (s0 : State) (G : zG) (sz : Nat) (ad : Nat → Nat) (F : Nat → Int) (Ar : Nat → Nat → Int) (kp : Nat → Nat) (pl : Nat → Option Nat) (PW : va_W) (n : Nat) (v : Nat → Nat) (pr : Nat → Nat) (pa : Nat → Nat) (pm : Nat → Nat) (pf : Nat → Nat → Nat) (nw : Nat) (b : Nat) (t : Nat) (l : Nat) (fa : Nat → Int) (hn : n ≤ 120) (hFn : F 200 = (n : Int)) (hv : ∀ i, i < n → v i < 1000) (hAv : ∀ i, i < n → Ar 201 i = (v i : Int)) (hb : 2 ≤ b ∧ b ≤ 20) (hFb : F 7 = (b : Int)) (ht : t < 4) (hFt : F 8 = (t : Int)) (hpl : ∀ y, y < 1000 → (pl y = some (pr y) ∨ (pl y = none ∧ pr y = nw))) (hnw : zNwh s0 nw) (hpc : ∀ y, y < 1000 → PlC n v y (pm y) (pf y)) (hpp : zPool s0 G PW pr pa pm pf) (hmo : ∀ i j, i ≤ j → b * j < n → Ar 12 (60 * i + j) = (md v (b * i) (bEnd b j n) t : Int)) (hl : l < n) (hfa : ∀ i, i ≤ n → fa i = (fw v t n i : Int)) : zMet (S := Nat × Int × (Nat → Int)) lau yX1_partEnd cX1_partEnd 3 (some .int) 7 166 0 0 s0 G sz [.ref (ad 99), .int (iZ ((l : Int)))] (dW ad G F (va_up (va_up Ar 16 zZ) 24 fa) kp pl PW) (fun ((r, f17, a15) : Nat × Int × (Nat → Int)) => some (.int (iZ ((r : Int))))) (fun ((r, f17, a15) : Nat × Int × (Nat → Int)) => (PE v t n l r)) (fun ((r, f17, a15) : Nat × Int × (Nat → Int)) => (dW ad G (va_up F 17 (f17)) (va_up (va_up (va_up Ar 15 a15) 16 zZ) 24 fa) kp pl PW)) := by
  refine zMet.of (by decide) (Nat.le_of_ble_eq_true rfl) ?_
  intro pg ev s1 mi ar bl me cd ls Q as0 hC hH hl hQ hsz
  generalize s1.heap = H at hH ⊢
  generalize ([] : List Loc) = locs at hH ⊢
  have hl : lv_has ls 3 [(0, .ref (ad 99)), (1, .int (iZ ((l : Int))))] := hl
  obtain ⟨r9, hr91, hr92, hr93⟩ := PC_ex (t := t) hn hv (show l < n by omega)
  refine z_iload_n hC 0 hl dX1_partEnd_0 rfl 1 rfl ?_
  refine z_istore_n (lv' := [(2, .int (iZ ((l : Int)))), (0, .ref (ad 99)), (1, .int (iZ ((l : Int))))]) hC 1 hl dX1_partEnd_1 rfl (by decide) rfl (fun ls hl => ?_)
  have L2 : ∀ (N_ : Nat) (r : Nat) (f17 : Int) (a15 : Nat → Int) (H : Heap) (locs : List Loc) (ls : Array Slot), n - r < N_ → (l ≤ r) → (r < n) → (∀ q, l ≤ q → q < r → ¬ PC v t n l q) → zH s0 s1 G as0 (dW ad G (va_up F 17 (f17)) (va_up (va_up (va_up Ar 15 a15) 16 zZ) 24 fa) kp pl PW) H locs → lv_has ls 3 [(0, .ref (ad 99)), (1, .int (iZ ((l : Int)))), (2, .int (iZ ((r : Int))))] → W pg lau ev (zRm 7 0 0 166) s1 mi ar bl me cd H locs 0 0 Q (F0 mi 2 ls []) := by
    intro N_
    induction N_ with
    | zero => intro r f17 a15 H locs ls hd; exact absurd hd (Nat.not_lt_zero _)
    | succ N_ ih2 =>
      intro r f17 a15 H locs ls hd2 i2_1 i2_2 ir hH hl
      have hf1 := hfa (r + 1) (by omega)
      have hf2 := hfa l (by omega)
      have hfl1 : fw v t n (r + 1) ≤ 121 := fwT_le n (r + 1)
      have hfl2 : fw v t n l ≤ 121 := fwT_le n l
      refine z_aload_n hC 2 hl dX1_partEnd_2 rfl 0 rfl ?_
      refine zp_get (v := .ref (ad 24)) hC (va_P_l hH.1) 3 in_X1 rfl 24 (by decide) q241 0 rfl (rfl) dX1_partEnd_3 ?_
      refine z_iload_n hC 6 hl dX1_partEnd_6 rfl 2 rfl ?_
      refine z_iconst hC 7 dX1_partEnd_7 ?_
      refine z_iadd (e := (r : Int) + 1) hC 8 dX1_partEnd_8 rfl ?_
      refine zp_iald (f := fa) (x := (fa (r + 1))) hC (va_P_l hH.1) 9 10 (r + 1) rfl (by decide) (by omega) (by omega) (rfl) dX1_partEnd_9 ?_
      refine z_iconst hC 10 dX1_partEnd_10 ?_
      refine z_iadd (e := (fa (r + 1)) + 1) hC 11 dX1_partEnd_11 rfl ?_
      refine z_aload_n hC 12 hl dX1_partEnd_12 rfl 0 rfl ?_
      refine zp_get (v := .ref (ad 24)) hC (va_P_l hH.1) 13 in_X1 rfl 24 (by decide) q241 0 rfl (rfl) dX1_partEnd_13 ?_
      refine z_iload_n hC 16 hl dX1_partEnd_16 rfl 1 rfl ?_
      refine zp_iald (f := fa) (x := (fa l)) hC (va_P_l hH.1) 17 10 (l) rfl (by decide) (by omega) (by omega) (rfl) dX1_partEnd_17 ?_
      refine z_icmp_ne hC 18 30 dX1_partEnd_18 rfl (by omega) (by omega) (fun hb1 => ?_) (fun hb1 => ?_)
      · -- 18t
        have hnc : ¬ PC v t n l r := fun q => by have q1 := q.1; have q2 := q.2; first | omega | exact hz8 (by omega) q2
        have hr9 : r ≠ r9 := fun q => hnc (q ▸ hr93)
        have hr8 : ¬ r9 < r := fun q => ir r9 hr91 q hr93
        refine z_iinc (lv' := [(2, .int (iZ ((r : Int) + 1))), (0, .ref (ad 99)), (1, .int (iZ ((l : Int))))]) hC 30 hl dX1_partEnd_30 2 rfl (by omega) (by decide) rfl (fun ls hl => ?_)
        refine z_goto hC 33 2 dX1_partEnd_33 rfl ?_
        -- J2.1
        exact ih2 (r + 1) f17 a15 _ _ _ (by omega) (by first | assumption | omega) (by first | assumption | omega) (by first | (intro q q1 q2; omega) | exact pc_s ir hnc) hH (z_lv (lv_sub hl [1, 2, 0] rfl) (zcons rfl (zcons rfl (zcons (zpeq (by omega)) rfl))))
      · -- 18f
        refine z_aload_n hC 21 hl dX1_partEnd_21 rfl 0 rfl ?_
        refine z_iload_n hC 22 hl dX1_partEnd_22 rfl 1 rfl ?_
        refine z_iload_n hC 23 hl dX1_partEnd_23 rfl 2 rfl ?_
        refine z_st (st' := [.int (iZ (((r + 1 : Nat) : Int) - 1)), .int (iZ ((l : Int))), .ref (ad 99)]) (zcons (zieq (by omega)) (zcons rfl rfl)) ?_
        refine z_same (z_runV hC hH.2.2 hl.1 hH.1 hH.2.1 2 (As := [.int (iZ ((l : Int))), .int (iZ (((r + 1 : Nat) : Int) - 1))]) (rest := []) (m_X1_majorityOf lau s0 G _ ad (va_up F 17 (f17)) (va_up (va_up (va_up Ar 15 a15) 16 zZ) 24 fa) kp pl PW n v pr pa pm pf nw b t l (r + 1) (by first | exact hn | assumption | omega) (by first | exact hFn | assumption | omega) (by first | exact hv | assumption | omega) (by first | exact hAv | assumption | omega) (by first | exact hb | assumption | omega) (by first | exact hFb | assumption | omega) (by first | exact ht | assumption | omega) (by first | exact hFt | assumption | omega) (by first | exact hpl | assumption | omega) (by first | exact hnw | assumption | omega) (by first | exact hpc | assumption | omega) (by first | exact hpp | assumption | omega) (by first | exact hmo | assumption | omega) (by first | exact hlr | assumption | omega) (by first | exact hrn | assumption | omega)) (lw_V q1083 q1085 qs37 q89 q1086) ⟨rfl, by decide, by decide, by decide +kernel⟩ (q0 := 0) (ci := 1) rfl rfl rfl rfl (Nat.le_of_ble_eq_true rfl) ⟨Nat.le_of_ble_eq_true rfl, Nat.le_of_ble_eq_true rfl⟩ ⟨Nat.le_of_ble_eq_true rfl, Nat.le_of_ble_eq_true rfl⟩ dX1_partEnd_24) hH (fun u_ H locs hpost hH => ?_)
        obtain ⟨z_24, k_24, u_24, gu_24⟩ := u_
        have pz_24 : z_24 = if (r + 1) - l < 2 * cnt v l (r + 1) (md v l (r + 1) t) then (md v l (r + 1) t : Int) else -2 := hpost
        have hH : zH s0 s1 G as0 (dW ad G (va_up F 17 ((k_24 : Int))) (va_up (va_up (va_up Ar 15 (cI (k_24) u_24 gu_24)) 16 zZ) 24 fa) kp pl PW) H locs := hH
        refine z_st (st' := [.int (iZ (z_24))]) rfl ?_
        have hmd9 := md_lt_1000 v l (r + 1) t
        have hz9 : z_24 = -2 ∨ (z_24 = (md v l (r + 1) t : Int) ∧ maj v t l r) := by rw [pz_24]; split; (· right; exact ⟨rfl, by assumption⟩); (· left; rfl)
        have hz8 : z_24 = -2 → ¬ maj v t l r := fun q q2 => by unfold maj at q2; rw [pz_24, if_pos q2] at q; omega
        refine z_if_ge hC 27 36 dX1_partEnd_27 rfl (by omega) (fun hb2 => ?_) (fun hb2 => ?_)
        · -- 27t
          have hpe : PE v t n l r := ⟨by omega, by omega, ⟨by omega, hz9.elim (fun q => absurd q (by omega)) (fun q => q.2)⟩, ir⟩
          refine z_iload_n hC 36 hl dX1_partEnd_36 rfl 2 rfl ?_
          -- R37.2
          exact z_iret hC hH hQ 37 ((r, (k_24 : Int), (cI (k_24) u_24 gu_24))) dX1_partEnd_37 rfl (by (try dsimp only); first | assumption | omega) rfl (Nat.le_refl _) (Nat.le_refl _)
        · -- 27f
          have hnc : ¬ PC v t n l r := fun q => by have q1 := q.1; have q2 := q.2; first | omega | exact hz8 (by omega) q2
          have hr9 : r ≠ r9 := fun q => hnc (q ▸ hr93)
          have hr8 : ¬ r9 < r := fun q => ir r9 hr91 q hr93
          refine z_iinc (lv' := [(2, .int (iZ ((r : Int) + 1))), (0, .ref (ad 99)), (1, .int (iZ ((l : Int))))]) hC 30 hl dX1_partEnd_30 2 rfl (by omega) (by decide) rfl (fun ls hl => ?_)
          refine z_goto hC 33 2 dX1_partEnd_33 rfl ?_
          -- J2.3
          exact ih2 (r + 1) (k_24 : Int) (cI (k_24) u_24 gu_24) _ _ _ (by omega) (by first | assumption | omega) (by first | assumption | omega) (by first | (intro q q1 q2; omega) | exact pc_s ir hnc) hH (z_lv (lv_sub hl [1, 2, 0] rfl) (zcons rfl (zcons rfl (zcons (zpeq (by omega)) rfl))))
  -- J2.4
  exact L2 _ l (F 17) (Ar 15) _ _ _ (Nat.lt_succ_self _) (by first | assumption | omega) (by first | assumption | omega) (by first | (intro q q1 q2; omega) | exact pc_s ir hnc) hH (lv_sub hl [1, 2, 0] rfl)

set_option maxHeartbeats 4000000 in
set_option maxRecDepth 100000 in
theorem m_X1_part (lau : Launch) (s0 : State) (G : zG) (sz : Nat) (ad : Nat → Nat) (F : Nat → Int) (Ar : Nat → Nat → Int) (kp : Nat → Nat) (pl : Nat → Option Nat) (PW : va_W) (n : Nat) (v : Nat → Nat) (pr : Nat → Nat) (pa : Nat → Nat) (pm : Nat → Nat) (pf : Nat → Nat → Nat) (nw : Nat) (b : Nat) (t : Nat) (k0 : Int) (hn : n ≤ 120) (hFn : F 200 = (n : Int)) (hv : ∀ i, i < n → v i < 1000) (hAv : ∀ i, i < n → Ar 201 i = (v i : Int)) (hb : 2 ≤ b ∧ b ≤ 20) (hFb : F 7 = (b : Int)) (ht : t < 4) (hFt : F 8 = (t : Int)) (hpl : ∀ y, y < 1000 → (pl y = some (pr y) ∨ (pl y = none ∧ pr y = nw))) (hnw : zNwh s0 nw) (hpc : ∀ y, y < 1000 → PlC n v y (pm y) (pf y)) (hpp : zPool s0 G PW pr pa pm pf) (hmo : ∀ i j, i ≤ j → b * j < n → Ar 12 (60 * i + j) = (md v (b * i) (bEnd b j n) t : Int)) (hr_k0 : -2147483648 ≤ k0 ∧ k0 < 2147483648) : zMet (S := Int × (Nat → Int) × (Nat → Nat → Int)) lau yX1_part cX1_part 4 (some .int) 8 188 0 0 s0 G sz [.ref (ad 99), .int (iZ (k0))] (dW ad G F (va_up Ar 16 zZ) kp pl PW) (fun ((r_, F2, A2) : Int × (Nat → Int) × (Nat → Nat → Int)) => some (.int (iZ (r_)))) (fun ((r_, F2, A2) : Int × (Nat → Int) × (Nat → Nat → Int)) => (Sp_part n v t k0 r_) ∧ (DK F (va_up Ar 16 zZ) F2 A2)) (fun ((r_, F2, A2) : Int × (Nat → Int) × (Nat → Nat → Int)) => (dW ad G F2 A2 kp pl PW)) := by
  refine zMet.of (by decide) (Nat.le_of_ble_eq_true rfl) ?_
  intro pg ev s1 mi ar bl me cd ls Q as0 hC hH hl hQ hsz
  generalize s1.heap = H at hH ⊢
  generalize ([] : List Loc) = locs at hH ⊢
  have hl : lv_has ls 4 [(0, .ref (ad 99)), (1, .int (iZ (k0)))] := hl
  refine z_iload_n hC 0 hl dX1_part_0 rfl 1 rfl ?_
  refine z_iconst hC 1 dX1_part_1 ?_
  refine z_icmp_ge hC 2 7 dX1_part_2 rfl (by omega) (by omega) (fun hb1 => ?_) (fun hb1 => ?_)
  · -- 2t
    refine z_aload_n hC 7 hl dX1_part_7 rfl 0 rfl ?_
    refine z_same (z_runV hC hH.2.2 hl.1 hH.1 hH.2.1 0 (As := []) (rest := []) (m_X1_laysFewest lau s0 G _ ad F (va_up Ar 16 zZ) kp pl PW n v pr pa pm pf nw b t (Ar 24) (by first | exact hn | assumption | omega) (by first | exact hFn | assumption | omega) (by first | exact hv | assumption | omega) (by first | exact hAv | assumption | omega) (by first | exact hb | assumption | omega) (by first | exact hFb | assumption | omega) (by first | exact ht | assumption | omega) (by first | exact hFt | assumption | omega) (by first | exact hpl | assumption | omega) (by first | exact hnw | assumption | omega) (by first | exact hpc | assumption | omega) (by first | exact hpp | assumption | omega) (by first | exact hmo | assumption | omega)) (lw_V q1345 q1347 qs43 q89 q1348) ⟨rfl, by decide, by decide, by decide +kernel⟩ (q0 := 0) (ci := 1) rfl rfl rfl rfl (Nat.le_of_ble_eq_true rfl) ⟨Nat.le_of_ble_eq_true rfl, Nat.le_of_ble_eq_true rfl⟩ ⟨Nat.le_of_ble_eq_true rfl, Nat.le_of_ble_eq_true rfl⟩ dX1_part_8) hH (fun u_ H locs hpost hH => ?_)
    obtain ⟨fa_8, f17_8, a15_8⟩ := u_
    have pf_8 : ∀ i, i ≤ n → fa_8 i = (fw v t n i : Int) := hpost
    have hH : zH s0 s1 G as0 (dW ad G (va_up F 17 (f17_8)) (va_up (va_up (va_up Ar 15 a15_8) 16 zZ) 24 fa_8) kp pl PW) H locs := hH
    refine z_st (st' := []) rfl ?_
    refine z_iload_n hC 11 hl dX1_part_11 rfl 1 rfl ?_
    refine z_iconst hC 12 dX1_part_12 ?_
    refine z_icmp_ne hC 13 23 dX1_part_13 rfl (by omega) (by omega) (fun hb2 => ?_) (fun hb2 => ?_)
    · -- 13t
      have hf0 := pf_8 0 (by omega)
      have hfl0 : fw v t n 0 ≤ 121 := fwT_le n 0
      refine z_iload_n hC 23 hl dX1_part_23 rfl 1 rfl ?_
      refine z_aload_n hC 24 hl dX1_part_24 rfl 0 rfl ?_
      refine zp_get (v := .ref (ad 24)) hC (va_P_l hH.1) 25 in_X1 rfl 24 (by decide) q241 0 rfl (rfl) dX1_part_25 ?_
      refine z_iconst hC 28 dX1_part_28 ?_
      refine zp_iald (f := fa_8) (x := (fa_8 0)) hC (va_P_l hH.1) 29 10 (0) rfl (by decide) (by omega) (by omega) (rfl) dX1_part_29 ?_
      refine z_icmp_lt hC 30 36 dX1_part_30 rfl (by omega) (by omega) (fun hb3 => ?_) (fun hb3 => ?_)
      · -- 30t
        obtain ⟨k1, rfl⟩ := Int.eq_ofNat_of_zero_le (show 0 ≤ k0 by omega)
        refine z_iconst hC 36 dX1_part_36 ?_
        refine z_istore_n (lv' := [(2, .int (iZ (0))), (0, .ref (ad 99)), (1, .int (iZ ((k1 : Int))))]) hC 37 hl dX1_part_37 rfl (by decide) rfl (fun ls hl => ?_)
        refine z_iconst hC 38 dX1_part_38 ?_
        refine z_istore_n (lv' := [(3, .int (iZ (0))), (2, .int (iZ (0))), (0, .ref (ad 99)), (1, .int (iZ ((k1 : Int))))]) hC 39 hl dX1_part_39 rfl (by decide) rfl (fun ls hl => ?_)
        have L40 : ∀ (N_ : Nat) (i : Nat) (l : Nat) (f17 : Int) (a15 : Nat → Int) (H : Heap) (locs : List Loc) (ls : Array Slot), k1 - i < N_ → (i ≤ k1) → (l = plF v t n i) → zH s0 s1 G as0 (dW ad G (va_up F 17 (f17)) (va_up (va_up (va_up Ar 15 a15) 16 zZ) 24 fa_8) kp pl PW) H locs → lv_has ls 4 [(0, .ref (ad 99)), (1, .int (iZ ((k1 : Int)))), (2, .int (iZ ((l : Int)))), (3, .int (iZ ((i : Int))))] → W pg lau ev (zRm 8 0 0 188) s1 mi ar bl me cd H locs 0 0 Q (F0 mi 40 ls []) := by
          intro N_
          induction N_ with
          | zero => intro i l f17 a15 H locs ls hd; exact absurd hd (Nat.not_lt_zero _)
          | succ N_ ih40 =>
            intro i l f17 a15 H locs ls hd40 i40_1 il hH hl
            have hpl9 := plF_fw (t := t) hn hv i (by omega)
            refine z_iload_n hC 40 hl dX1_part_40 rfl 3 rfl ?_
            refine z_iload_n hC 41 hl dX1_part_41 rfl 1 rfl ?_
            refine z_icmp_ge hC 42 59 dX1_part_42 rfl (by omega) (by omega) (fun hb4 => ?_) (fun hb4 => ?_)
            · -- 42t
              have ei : i = k1 := by omega
              refine z_iload_n hC 59 hl dX1_part_59 rfl 2 rfl ?_
              -- R60.1
              exact z_iret hC hH hQ 60 (((l : Int), (va_up F 17 (f17)), (va_up (va_up (va_up Ar 15 a15) 16 zZ) 24 fa_8))) dX1_part_60 rfl ⟨by (unfold Sp_part; rw [if_pos (by omega), if_neg (by omega)]; simp only [Int.toNat_natCast]; rw [← ei, ← il, if_pos (by rw [il]; exact plF_lt hn hv (by omega))]), by first | assumption | exact ⟨fun k h1 h2 h3 h4 h5 => by first | rfl | (simp [va_up, h1, h2, h3, h4, h5]; done) | (simp [va_up, h1, h2, h3, h4, h5]; intro e9; rw [e9, hFn]), fun k h1 h2 h3 h4 h5 h6 => by first | rfl | simp [va_up, h1, h2, h3, h4, h5, h6]⟩⟩ rfl (Nat.le_refl _) (Nat.le_refl _)
            · -- 42f
              have hlt9 := plF_lt (t := t) hn hv (show i < fw v t n 0 by omega)
              refine z_aload_n hC 45 hl dX1_part_45 rfl 0 rfl ?_
              refine z_iload_n hC 46 hl dX1_part_46 rfl 2 rfl ?_
              refine z_same (z_runV hC hH.2.2 hl.1 hH.1 hH.2.1 1 (As := [.int (iZ ((l : Int)))]) (rest := []) (m_X1_partEnd lau s0 G _ ad (va_up F 17 (f17)) (va_up (va_up (va_up Ar 15 a15) 16 zZ) 24 fa_8) kp pl PW n v pr pa pm pf nw b t l fa_8 (by first | exact hn | assumption | omega) (by first | exact hFn | assumption | omega) (by first | exact hv | assumption | omega) (by first | exact hAv | assumption | omega) (by first | exact hb | assumption | omega) (by first | exact hFb | assumption | omega) (by first | exact ht | assumption | omega) (by first | exact hFt | assumption | omega) (by first | exact hpl | assumption | omega) (by first | exact hnw | assumption | omega) (by first | exact hpc | assumption | omega) (by first | exact hpp | assumption | omega) (by first | exact hmo | assumption | omega) (by first | assumption | omega) (by exact pf_8)) (lw_V q1349 q1351 qs44 q89 q1352) ⟨rfl, by decide, by decide, by decide +kernel⟩ (q0 := 0) (ci := 1) rfl rfl rfl rfl (Nat.le_of_ble_eq_true rfl) ⟨Nat.le_of_ble_eq_true rfl, Nat.le_of_ble_eq_true rfl⟩ ⟨Nat.le_of_ble_eq_true rfl, Nat.le_of_ble_eq_true rfl⟩ dX1_part_47) hH (fun u_ H locs hpost hH => ?_)
              obtain ⟨r_47, f17_47, a15_47⟩ := u_
              have pe_47 : PE v t n l r_47 := hpost
              have hH : zH s0 s1 G as0 (dW ad G (va_up F 17 (f17_47)) (va_up (va_up (va_up Ar 15 a15_47) 16 zZ) 24 fa_8) kp pl PW) H locs := hH
              refine z_st (st' := [.int (iZ ((r_47 : Int)))]) rfl ?_
              have hrn9 := pe_47.2.1
              refine z_iconst hC 50 dX1_part_50 ?_
              refine z_iadd (e := (r_47 : Int) + 1) hC 51 dX1_part_51 rfl ?_
              refine z_istore_n (lv' := [(2, .int (iZ ((r_47 : Int) + 1))), (0, .ref (ad 99)), (1, .int (iZ ((k1 : Int)))), (3, .int (iZ ((i : Int))))]) hC 52 hl dX1_part_52 rfl (by decide) rfl (fun ls hl => ?_)
              refine z_iinc (lv' := [(3, .int (iZ ((i : Int) + 1))), (2, .int (iZ ((r_47 : Int) + 1))), (0, .ref (ad 99)), (1, .int (iZ ((k1 : Int))))]) hC 53 hl dX1_part_53 3 rfl (by omega) (by decide) rfl (fun ls hl => ?_)
              refine z_goto hC 56 40 dX1_part_56 rfl ?_
              -- J40.2
              exact ih40 (i + 1) (r_47 + 1) f17_47 a15_47 _ _ _ (by omega) (by first | assumption | omega) (by first | rfl | exact (plF_t (by omega) (il ▸ pe_47)).symm) hH (z_lv (lv_sub hl [2, 3, 1, 0] rfl) (zcons rfl (zcons rfl (zcons (zpeq (by omega)) (zcons (zpeq (by omega)) rfl)))))
        -- J40.3
        exact L40 _ 0 0 f17_8 a15_8 _ _ _ (Nat.lt_succ_self _) (by first | assumption | omega) (by first | rfl | exact (plF_t (by omega) (il ▸ pe_47)).symm) hH (z_lv (lv_sub hl [2, 3, 1, 0] rfl) (zcons rfl (zcons rfl (zcons (zpeq (by omega)) (zcons (zpeq (by omega)) rfl)))))
      · -- 30f
        refine z_bipush hC 33 dX1_part_33 rfl ?_
        -- R35.4
        exact z_iret hC hH hQ 35 (((-2), (va_up F 17 (f17_8)), (va_up (va_up (va_up Ar 15 a15_8) 16 zZ) 24 fa_8))) dX1_part_35 rfl ⟨by (unfold Sp_part; rw [if_pos (by omega), if_neg (by omega), if_neg (plF_ge hn hv (by omega))]), by first | assumption | exact ⟨fun k h1 h2 h3 h4 h5 => by first | rfl | (simp [va_up, h1, h2, h3, h4, h5]; done) | (simp [va_up, h1, h2, h3, h4, h5]; intro e9; rw [e9, hFn]), fun k h1 h2 h3 h4 h5 h6 => by first | rfl | simp [va_up, h1, h2, h3, h4, h5, h6]⟩⟩ rfl (Nat.le_refl _) (Nat.le_refl _)
    · -- 13f
      have hf0 := pf_8 0 (by omega)
      have hfl0 : fw v t n 0 ≤ 121 := fwT_le n 0
      refine z_aload_n hC 16 hl dX1_part_16 rfl 0 rfl ?_
      refine zp_get (v := .ref (ad 24)) hC (va_P_l hH.1) 17 in_X1 rfl 24 (by decide) q241 0 rfl (rfl) dX1_part_17 ?_
      refine z_iconst hC 20 dX1_part_20 ?_
      refine zp_iald (f := fa_8) (x := (fa_8 0)) hC (va_P_l hH.1) 21 10 (0) rfl (by decide) (by omega) (by omega) (rfl) dX1_part_21 ?_
      -- R22.5
      exact z_iret hC hH hQ 22 (((fa_8 0), (va_up F 17 (f17_8)), (va_up (va_up (va_up Ar 15 a15_8) 16 zZ) 24 fa_8))) dX1_part_22 rfl ⟨by (unfold Sp_part; rw [if_pos (by omega), if_pos (by omega)]; exact hf0), by first | assumption | exact ⟨fun k h1 h2 h3 h4 h5 => by first | rfl | (simp [va_up, h1, h2, h3, h4, h5]; done) | (simp [va_up, h1, h2, h3, h4, h5]; intro e9; rw [e9, hFn]), fun k h1 h2 h3 h4 h5 h6 => by first | rfl | simp [va_up, h1, h2, h3, h4, h5, h6]⟩⟩ rfl (Nat.le_refl _) (Nat.le_refl _)
  · -- 2f
    refine z_iconst hC 5 dX1_part_5 ?_
    -- R6.6
    exact z_iret hC hH hQ 6 (((-1), F, (va_up Ar 16 zZ))) dX1_part_6 rfl ⟨by first | (unfold Sp_part; rw [if_neg (by omega)]) | (unfold Sp_part; rw [if_pos (by omega)]; (try simp only [Int.toNat_natCast, zt1]); first | done | trivial | rfl | omega | (rw [if_pos (by omega)]; first | done | trivial | rfl | omega) | (rw [if_neg (by omega)]; first | done | trivial | rfl | omega)), by first | assumption | exact ⟨fun k h1 h2 h3 h4 h5 => by first | rfl | (simp [va_up, h1, h2, h3, h4, h5]; done) | (simp [va_up, h1, h2, h3, h4, h5]; intro e9; rw [e9, hFn]), fun k h1 h2 h3 h4 h5 h6 => by first | rfl | simp [va_up, h1, h2, h3, h4, h5, h6]⟩⟩ rfl (Nat.le_refl _) (Nat.le_refl _)
