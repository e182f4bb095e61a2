/-! methods of ModeDesk that write: 68.eh -/
set_option maxHeartbeats 16000000 in
set_option maxRecDepth 100000 in
theorem m_X1_beginnings (lau : Launch) (s0 : State) (G : zG) (sz : Nat) (ad : Nat → Nat) (F : Nat → Int) (Ar : Nat → Nat → Int) (kp : Nat → Nat) (pl : Nat → Option Nat) (PW : va_W) (n : Nat) (v : Nat → Nat) (pr : Nat → Nat) (pa : Nat → Nat) (pm : Nat → Nat) (pf : Nat → Nat → Nat) (nw : Nat) (b : Nat) (t : Nat) (q : Int) (hn : n ≤ 120) (hFn : F 200 = (n : Int)) (hv : ∀ i, i < n → v i < 1000) (hAv : ∀ i, i < n → Ar 201 i = (v i : Int)) (hb : 2 ≤ b ∧ b ≤ 20) (hFb : F 7 = (b : Int)) (ht : t < 4) (hFt : F 8 = (t : Int)) (hpl : ∀ y, y < 1000 → (pl y = some (pr y) ∨ (pl y = none ∧ pr y = nw))) (hnw : zNwh s0 nw) (hpc : ∀ y, y < 1000 → PlC n v y (pm y) (pf y)) (hpp : zPool s0 G PW pr pa pm pf) (hmo : ∀ i j, i ≤ j → b * j < n → Ar 12 (60 * i + j) = (md v (b * i) (bEnd b j n) t : Int)) (hr_q : -2147483648 ≤ q ∧ q < 2147483648) : zMet (S := Int × (Nat → Int) × (Nat → Nat → Int)) lau yX1_beginnings cX1_beginnings 10 (some .int) 6 143 0 0 s0 G sz [.ref (ad 99), .int (iZ (q))] (dW ad G F (va_up Ar 16 zZ) kp pl PW) (fun ((r_, F2, A2) : Int × (Nat → Int) × (Nat → Nat → Int)) => some (.int (iZ (r_)))) (fun ((r_, F2, A2) : Int × (Nat → Int) × (Nat → Nat → Int)) => (Sp_beginnings n v t q r_) ∧ (DK F (va_up Ar 16 zZ) F2 A2)) (fun ((r_, F2, A2) : Int × (Nat → Int) × (Nat → Nat → Int)) => (dW ad G F2 A2 kp pl PW)) := by
  refine zMet.of (by decide) (Nat.le_of_ble_eq_true rfl) ?_
  intro pg ev s1 mi ar bl me cd ls Q as0 hC hH hl hQ hsz
  generalize s1.heap = H at hH ⊢
  generalize ([] : List Loc) = locs at hH ⊢
  have hl : lv_has ls 10 [(0, .ref (ad 99)), (1, .int (iZ (q)))] := hl
  refine z_iload_n hC 0 hl dX1_beginnings_0 rfl 1 rfl ?_
  refine z_i2l hC 1 dX1_beginnings_1 (by omega) ?_
  refine z_lconst (a := 0) hC 2 dX1_beginnings_2 rfl ?_
  refine z_ldc2 (a := 3) hC 3 q1039 rfl dX1_beginnings_3 ?_
  refine zp_back (zp_runS hC (hH.2.2) hl.1 (zp_nil) 3 (As := [.long (lZ (q)), .long (lZ (0)), .long (lZ (3))]) (rest := []) (u_X1_isIn lau s0 G q 0 3 (by first | assumption | omega) (by first | assumption | omega) (by first | assumption | omega)) (lw_S q303 q304 q89 q305) ⟨by decide, by decide, by decide +kernel⟩ rfl rfl (Nat.le_of_ble_eq_true rfl) ⟨Nat.le_of_ble_eq_true rfl, Nat.le_of_ble_eq_true rfl⟩ ⟨by first | decide | omega, by first | decide | omega⟩ dX1_beginnings_6) (fun r_6 hpost => ?_)
  have hb_6 : (r_6 = 1 ∧ ((0 : Int) ≤ q ∧ q ≤ (3 : Int))) ∨ (r_6 = 0 ∧ ¬ ((0 : Int) ≤ q ∧ q ≤ (3 : Int))) := hpost
  refine z_st (st' := [.int (iZ (r_6))]) rfl ?_
  rcases hb_6 with ⟨rfl, hb_6⟩ | ⟨rfl, hb_6⟩
  · -- 6=1
    refine z_if_ne_t hC 9 14 dX1_beginnings_9 rfl (by omega) (by omega) ?_
    refine z_iconst hC 14 dX1_beginnings_14 ?_
    refine z_istore_n (lv' := [(2, .int (iZ (0))), (0, .ref (ad 99)), (1, .int (iZ (q)))]) hC 15 hl dX1_beginnings_15 rfl (by decide) rfl (fun ls hl => ?_)
    have L16 : ∀ (N_ : Nat) (i : Nat) (a : Nat → Int) (H : Heap) (locs : List Loc) (ls : Array Slot), 1000 - i < N_ → (i ≤ 1000) → (∀ j, j < i → a j = 0) → zH s0 s1 G as0 (dW ad G F (va_up (va_up Ar 16 zZ) 19 a) kp pl PW) H locs → lv_has ls 10 [(0, .ref (ad 99)), (1, .int (iZ (q))), (2, .int (iZ ((i : Int))))] → W pg lau ev (zRm 6 0 0 143) s1 mi ar bl me cd H locs 0 0 Q (F0 mi 16 ls []) := by
      intro N_
      induction N_ with
      | zero => intro i a H locs ls hd; exact absurd hd (Nat.not_lt_zero _)
      | succ N_ ih16 =>
        intro i a H locs ls hd16 i16_1 iz hH hl
        refine z_iload_n hC 16 hl dX1_beginnings_16 rfl 2 rfl ?_
        refine z_sipush hC 17 dX1_beginnings_17 rfl ?_
        refine z_icmp_ge hC 20 36 dX1_beginnings_20 rfl (by omega) (by omega) (fun hb1 => ?_) (fun hb1 => ?_)
        · -- 20t
          have hcv2 : a = (cI (1000) (fun _ => 0) a) := by exact cI_self (fun p hp => iz p (by omega))
          rw [hcv2] at hH
          have hH : zH s0 s1 G as0 (dW ad G F (va_up (va_up Ar 16 zZ) 19 (cI (1000) (fun _ => 0) a)) kp pl PW) H locs := hH
          refine z_iconst hC 36 dX1_beginnings_36 ?_
          refine z_istore_n (lv' := [(2, .int (iZ (0))), (0, .ref (ad 99)), (1, .int (iZ (q)))]) hC 37 hl dX1_beginnings_37 rfl (by decide) rfl (fun ls hl => ?_)
          refine z_bipush hC 38 dX1_beginnings_38 rfl ?_
          refine z_istore_n (lv' := [(3, .int (iZ ((-2)))), (2, .int (iZ (0))), (0, .ref (ad 99)), (1, .int (iZ (q)))]) hC 40 hl dX1_beginnings_40 rfl (by decide) rfl (fun ls hl => ?_)
          refine z_iconst hC 41 dX1_beginnings_41 ?_
          refine z_istore (lv' := [(4, .int (iZ (0))), (3, .int (iZ ((-2)))), (2, .int (iZ (0))), (0, .ref (ad 99)), (1, .int (iZ (q)))]) hC 42 hl dX1_beginnings_42 (by decide) rfl (fun ls hl => ?_)
          refine z_iconst hC 44 dX1_beginnings_44 ?_
          refine z_istore (lv' := [(5, .int (iZ (0))), (4, .int (iZ (0))), (3, .int (iZ ((-2)))), (2, .int (iZ (0))), (0, .ref (ad 99)), (1, .int (iZ (q)))]) hC 45 hl dX1_beginnings_45 (by decide) rfl (fun ls hl => ?_)
          refine z_bipush hC 47 dX1_beginnings_47 rfl ?_
          refine z_istore (lv' := [(6, .int (iZ ((-2)))), (5, .int (iZ (0))), (4, .int (iZ (0))), (3, .int (iZ ((-2)))), (2, .int (iZ (0))), (0, .ref (ad 99)), (1, .int (iZ (q)))]) hC 49 hl dX1_beginnings_49 (by decide) rfl (fun ls hl => ?_)
          refine z_iconst hC 51 dX1_beginnings_51 ?_
          refine z_istore (lv' := [(7, .int (iZ ((-1)))), (6, .int (iZ ((-2)))), (5, .int (iZ (0))), (4, .int (iZ (0))), (3, .int (iZ ((-2)))), (2, .int (iZ (0))), (0, .ref (ad 99)), (1, .int (iZ (q)))]) hC 52 hl dX1_beginnings_52 (by decide) rfl (fun ls hl => ?_)
          refine z_iconst hC 54 dX1_beginnings_54 ?_
          refine z_istore (lv' := [(8, .int (iZ (0))), (7, .int (iZ ((-1)))), (6, .int (iZ ((-2)))), (5, .int (iZ (0))), (4, .int (iZ (0))), (3, .int (iZ ((-2)))), (2, .int (iZ (0))), (0, .ref (ad 99)), (1, .int (iZ (q)))]) hC 55 hl dX1_beginnings_55 (by decide) rfl (fun ls hl => ?_)
          have L57 : ∀ (N_ : Nat) (r : Nat) (c : Nat) (uk : Nat) (ls_ : Int) (mx_ : Int) (ws : Int) (fr_ : Int) (mo : Nat → Nat) (gm : Nat → Int) (f17 : Int) (a15 : Nat → Int) (H : Heap) (locs : List Loc) (ls : Array Slot), n - r < N_ → (r ≤ n) → (c ≤ r) → (uk ≤ r) → (-2 ≤ ls_ ∧ ls_ ≤ r ∧ 0 ≤ fr_ ∧ fr_ ≤ r ∧ -2 ≤ mx_ ∧ mx_ ≤ r ∧ -1 ≤ ws ∧ ws < 1000) → ((r = 0 ∧ ws = -1 ∧ fr_ = 0) ∨ (0 < r ∧ ws = (md v 0 (r - 1 + 1) t : Int) ∧ fr_ = (r : Int) - 1 - (rwF (fun r => md v 0 (r + 1) t) (r - 1) : Int))) → (c = cB (fun r => 0 < r ∧ md v 0 (r + 1) t ≠ md v 0 (r - 1 + 1) t) r) → (ls_ = lsF (fun r => md v 0 (r + 1) t) r) → (uk = dst (fun r => md v 0 (r + 1) t) 0 r) → (mx_ = mxD (fun r => md v 0 (r + 1) t) r) → (∀ x, x < 1000 → mo x = cnt (fun r => md v 0 (r + 1) t) 0 r x) → zH s0 s1 G as0 (dW ad G (va_up F 17 (f17)) (va_up (va_up (va_up Ar 15 a15) 16 zZ) 19 (cI (1000) mo gm)) kp pl PW) H locs → lv_has ls 10 [(0, .ref (ad 99)), (1, .int (iZ (q))), (2, .int (iZ ((c : Int)))), (3, .int (iZ (ls_))), (4, .int (iZ ((uk : Int)))), (5, .int (iZ (fr_))), (6, .int (iZ (mx_))), (7, .int (iZ (ws))), (8, .int (iZ ((r : Int))))] → W pg lau ev (zRm 6 0 0 143) s1 mi ar bl me cd H locs 0 0 Q (F0 mi 57 ls []) := by
            intro N_
            induction N_ with
            | zero => intro r c uk ls_ mx_ ws fr_ mo gm f17 a15 H locs ls hd; exact absurd hd (Nat.not_lt_zero _)
            | succ N_ ih57 =>
              intro r c uk ls_ mx_ ws fr_ mo gm f17 a15 H locs ls hd57 i57_1 i57_2 i57_3 irb iw ic il iu ix imo hH hl
              refine z_iload hC 57 hl dX1_beginnings_57 8 rfl ?_
              refine z_aload_n hC 59 hl dX1_beginnings_59 rfl 0 rfl ?_
              refine zp_get (v := .ref (ad 200)) hC (va_P_l hH.1) 60 in_X1 rfl 4 (by decide) q210 0 rfl (rfl) dX1_beginnings_60 ?_
              refine zp_getN (v := .int (iZ ((n : Int)))) hC (va_P_l hH.1) 63 in_X2 rfl 2 (by decide) q149 11 rfl (by rw [← hFn]; rfl) dX1_beginnings_63 ?_
              refine z_icmp_ge hC 66 154 dX1_beginnings_66 rfl (by omega) (by omega) (fun hb3 => ?_) (fun hb3 => ?_)
              · -- 66t
                have er : r = n := by omega
                rw [er] at ic il iu ix
                refine z_iload_n hC 154 hl dX1_beginnings_154 rfl 1 rfl ?_
                refine z_if_ne hC 155 162 dX1_beginnings_155 rfl (by omega) (fun hb4 => ?_) (fun hb4 => ?_)
                · -- 155t
                  refine z_iload_n hC 162 hl dX1_beginnings_162 rfl 1 rfl ?_
                  refine z_iconst hC 163 dX1_beginnings_163 ?_
                  refine z_icmp_ne hC 164 171 dX1_beginnings_164 rfl (by omega) (by omega) (fun hb5 => ?_) (fun hb5 => ?_)
                  · -- 164t
                    refine z_iload_n hC 171 hl dX1_beginnings_171 rfl 1 rfl ?_
                    refine z_iconst hC 172 dX1_beginnings_172 ?_
                    refine z_icmp_ne hC 173 181 dX1_beginnings_173 rfl (by omega) (by omega) (fun hb6 => ?_) (fun hb6 => ?_)
                    · -- 173t
                      refine z_iload hC 181 hl dX1_beginnings_181 6 rfl ?_
                      -- R183.1
                      exact z_iret hC hH hQ 183 ((mx_, (va_up F 17 (f17)), (va_up (va_up (va_up Ar 15 a15) 16 zZ) 19 (cI (1000) mo gm)))) dX1_beginnings_183 rfl ⟨by (unfold Sp_beginnings; rw [if_pos (by omega)]; first | (rw [if_pos (by omega), ic]; done) | (rw [if_neg (by omega), if_pos (by omega)]; exact il) | (rw [if_neg (by omega), if_neg (by omega), if_pos (by omega), iu]; done) | (rw [if_neg (by omega), if_neg (by omega), if_neg (by omega)]; exact ix)), by first | assumption | exact ⟨fun k h1 h2 h3 h4 h5 => by first | rfl | (simp [va_up, h1, h2, h3, h4, h5]; done) | (simp [va_up, h1, h2, h3, h4, h5]; intro e9; rw [e9, hFn]), fun k h1 h2 h3 h4 h5 h6 => by first | rfl | simp [va_up, h1, h2, h3, h4, h5, h6]⟩⟩ rfl (Nat.le_refl _) (Nat.le_refl _)
                    · -- 173f
                      refine z_iload hC 176 hl dX1_beginnings_176 4 rfl ?_
                      refine z_goto hC 178 183 dX1_beginnings_178 rfl ?_
                      -- R183.2
                      exact z_iret hC hH hQ 183 (((uk : Int), (va_up F 17 (f17)), (va_up (va_up (va_up Ar 15 a15) 16 zZ) 19 (cI (1000) mo gm)))) dX1_beginnings_183 rfl ⟨by (unfold Sp_beginnings; rw [if_pos (by omega)]; first | (rw [if_pos (by omega), ic]; done) | (rw [if_neg (by omega), if_pos (by omega)]; exact il) | (rw [if_neg (by omega), if_neg (by omega), if_pos (by omega), iu]; done) | (rw [if_neg (by omega), if_neg (by omega), if_neg (by omega)]; exact ix)), by first | assumption | exact ⟨fun k h1 h2 h3 h4 h5 => by first | rfl | (simp [va_up, h1, h2, h3, h4, h5]; done) | (simp [va_up, h1, h2, h3, h4, h5]; intro e9; rw [e9, hFn]), fun k h1 h2 h3 h4 h5 h6 => by first | rfl | simp [va_up, h1, h2, h3, h4, h5, h6]⟩⟩ rfl (Nat.le_refl _) (Nat.le_refl _)
                  · -- 164f
                    refine z_iload_n hC 167 hl dX1_beginnings_167 rfl 3 rfl ?_
                    refine z_goto hC 168 183 dX1_beginnings_168 rfl ?_
                    -- R183.3
                    exact z_iret hC hH hQ 183 ((ls_, (va_up F 17 (f17)), (va_up (va_up (va_up Ar 15 a15) 16 zZ) 19 (cI (1000) mo gm)))) dX1_beginnings_183 rfl ⟨by (unfold Sp_beginnings; rw [if_pos (by omega)]; first | (rw [if_pos (by omega), ic]; done) | (rw [if_neg (by omega), if_pos (by omega)]; exact il) | (rw [if_neg (by omega), if_neg (by omega), if_pos (by omega), iu]; done) | (rw [if_neg (by omega), if_neg (by omega), if_neg (by omega)]; exact ix)), by first | assumption | exact ⟨fun k h1 h2 h3 h4 h5 => by first | rfl | (simp [va_up, h1, h2, h3, h4, h5]; done) | (simp [va_up, h1, h2, h3, h4, h5]; intro e9; rw [e9, hFn]), fun k h1 h2 h3 h4 h5 h6 => by first | rfl | simp [va_up, h1, h2, h3, h4, h5, h6]⟩⟩ rfl (Nat.le_refl _) (Nat.le_refl _)
                · -- 155f
                  refine z_iload_n hC 158 hl dX1_beginnings_158 rfl 2 rfl ?_
                  refine z_goto hC 159 183 dX1_beginnings_159 rfl ?_
                  -- R183.4
                  exact z_iret hC hH hQ 183 (((c : Int), (va_up F 17 (f17)), (va_up (va_up (va_up Ar 15 a15) 16 zZ) 19 (cI (1000) mo gm)))) dX1_beginnings_183 rfl ⟨by (unfold Sp_beginnings; rw [if_pos (by omega)]; first | (rw [if_pos (by omega), ic]; done) | (rw [if_neg (by omega), if_pos (by omega)]; exact il) | (rw [if_neg (by omega), if_neg (by omega), if_pos (by omega), iu]; done) | (rw [if_neg (by omega), if_neg (by omega), if_neg (by omega)]; exact ix)), by first | assumption | exact ⟨fun k h1 h2 h3 h4 h5 => by first | rfl | (simp [va_up, h1, h2, h3, h4, h5]; done) | (simp [va_up, h1, h2, h3, h4, h5]; intro e9; rw [e9, hFn]), fun k h1 h2 h3 h4 h5 h6 => by first | rfl | simp [va_up, h1, h2, h3, h4, h5, h6]⟩⟩ rfl (Nat.le_refl _) (Nat.le_refl _)
              · -- 66f
                refine z_aload_n hC 69 hl dX1_beginnings_69 rfl 0 rfl ?_
                refine z_iconst hC 70 dX1_beginnings_70 ?_
                refine z_iload hC 71 hl dX1_beginnings_71 8 rfl ?_
                refine z_st (st' := [.int (iZ (((r + 1 : Nat) : Int) - 1)), .int (iZ (((0 : Nat) : Int))), .ref (ad 99)]) (zcons (zieq (by omega)) (zcons (zieq (by omega)) rfl)) ?_
                refine z_same (z_runV hC hH.2.2 hl.1 hH.1 hH.2.1 2 (As := [.int (iZ (((0 : Nat) : Int))), .int (iZ (((r + 1 : Nat) : Int) - 1))]) (rest := []) (m_X1_modeOf lau s0 G _ ad (va_up F 17 (f17)) (va_up (va_up (va_up Ar 15 a15) 16 zZ) 19 (cI (1000) mo gm)) kp pl PW n v pr pa pm pf nw b t 0 (r + 1) (by first | exact hn | assumption | omega) (by first | exact hFn | assumption | omega) (by first | exact hv | assumption | omega) (by first | exact hAv | assumption | omega) (by first | exact hb | assumption | omega) (by first | exact hFb | assumption | omega) (by first | exact ht | assumption | omega) (by first | exact hFt | assumption | omega) (by first | exact hpl | assumption | omega) (by first | exact hnw | assumption | omega) (by first | exact hpc | assumption | omega) (by first | exact hpp | assumption | omega) (by first | exact hmo | assumption | omega) (by first | exact hlr | assumption | omega) (by first | exact hrn | assumption | omega)) (lw_V q1040 q991 qs27 q89 q992) ⟨rfl, by decide, by decide, by decide +kernel⟩ (q0 := 0) (ci := 1) rfl rfl rfl rfl (Nat.le_of_ble_eq_true rfl) ⟨Nat.le_of_ble_eq_true rfl, Nat.le_of_ble_eq_true rfl⟩ ⟨Nat.le_of_ble_eq_true rfl, Nat.le_of_ble_eq_true rfl⟩ dX1_beginnings_73) hH (fun u_ H locs hpost hH => ?_)
                obtain ⟨k_73, u_73, gu_73⟩ := u_
                have hH : zH s0 s1 G as0 (dW ad G (va_up F 17 ((k_73 : Int))) (va_up (va_up (va_up Ar 15 (cI (k_73) u_73 gu_73)) 16 zZ) 19 (cI (1000) mo gm)) kp pl PW) H locs := hH
                refine z_st (st' := [.int (iZ (((md v 0 (r + 1) t : Nat) : Int)))]) rfl ?_
                have hm9 := md_lt_1000 v 0 (r + 1) t
                have hmo9 : mo (md v 0 (r + 1) t) = cnt (fun r => md v 0 (r + 1) t) 0 r (md v 0 (r + 1) t) := imo _ (md_lt_1000 _ _ _ _)
                have hcf := cnt_le (fun r => md v 0 (r + 1) t) 0 r (md v 0 (r + 1) t)
                have hrw2 : (r = 0 → rwF (fun r => md v 0 (r + 1) t) r = 0) ∧ (0 < r → md v 0 (r + 1) t = md v 0 (r - 1 + 1) t → rwF (fun r => md v 0 (r + 1) t) r = rwF (fun r => md v 0 (r + 1) t) (r - 1) + 1) ∧ (0 < r → ¬ md v 0 (r + 1) t = md v 0 (r - 1 + 1) t → rwF (fun r => md v 0 (r + 1) t) r = 0) := bg_rw2 (fun r => md v 0 (r + 1) t) r
                have hrg := rwF_ge (f := (fun r => md v 0 (r + 1) t)) r
                have hrg2 := rwF_ge (f := (fun r => md v 0 (r + 1) t)) (r - 1)
                refine z_istore (lv' := [(9, .int (iZ (((md v 0 (r + 1) t : Nat) : Int)))), (0, .ref (ad 99)), (1, .int (iZ (q))), (2, .int (iZ ((c : Int)))), (3, .int (iZ (ls_))), (4, .int (iZ ((uk : Int)))), (5, .int (iZ (fr_))), (6, .int (iZ (mx_))), (7, .int (iZ (ws))), (8, .int (iZ ((r : Int))))]) hC 76 hl dX1_beginnings_76 (by decide) rfl (fun ls hl => ?_)
                refine z_iload hC 78 hl dX1_beginnings_78 5 rfl ?_
                refine z_aload_n hC 80 hl dX1_beginnings_80 rfl 1 rfl ?_
                refine zp_get (v := .ref (ad 19)) hC (va_P_l hH.1) 81 in_X1 rfl 19 (by decide) q229 0 rfl (rfl) dX1_beginnings_81 ?_
                refine z_iload hC 84 hl dX1_beginnings_84 0 rfl ?_
                refine zp_iald (f := (cI (1000) mo gm)) (x := ((mo (md v 0 (r + 1) t) : Nat) : Int)) hC (va_P_l hH.1) 86 9 ((md v 0 (r + 1) t)) rfl (by decide) (by omega) (by omega) ((cI_lt (by omega))) dX1_beginnings_86 ?_
                refine z_if_ne hC 87 94 dX1_beginnings_87 rfl (by omega) (fun hb7 => ?_) (fun hb7 => ?_)
                · -- 87t
                  refine z_iconst hC 94 dX1_beginnings_94 ?_
                  refine z_iadd (e := (uk : Int)) hC 95 dX1_beginnings_95 (by omega) ?_
                  refine z_istore (lv' := [(4, .int (iZ ((uk : Int)))), (9, .int (iZ (((md v 0 (r + 1) t : Nat) : Int)))), (0, .ref (ad 99)), (1, .int (iZ (q))), (2, .int (iZ ((c : Int)))), (3, .int (iZ (ls_))), (5, .int (iZ (fr_))), (6, .int (iZ (mx_))), (7, .int (iZ (ws))), (8, .int (iZ ((r : Int))))]) hC 96 hl dX1_beginnings_96 (by decide) rfl (fun ls hl => ?_)
                  refine z_aload_n hC 98 hl dX1_beginnings_98 rfl 2 rfl ?_
                  refine zp_get (v := .ref (ad 19)) hC (va_P_l hH.1) 99 in_X1 rfl 19 (by decide) q229 0 rfl (rfl) dX1_beginnings_99 ?_
                  refine z_iload hC 102 hl dX1_beginnings_102 1 rfl ?_
                  refine z_dup2 hC 104 dX1_beginnings_104 rfl rfl ?_
                  refine zp_iald (f := (cI (1000) mo gm)) (x := ((mo (md v 0 (r + 1) t) : Nat) : Int)) hC (va_P_l hH.1) 105 9 ((md v 0 (r + 1) t)) rfl (by decide) (by omega) (by omega) ((cI_lt (by omega))) dX1_beginnings_105 ?_
                  refine z_iconst hC 106 dX1_beginnings_106 ?_
                  refine z_iadd (e := ((mo (md v 0 (r + 1) t) : Nat) : Int) + 1) hC 107 dX1_beginnings_107 rfl ?_
                  refine sD_19 (f' := (cI (1000) (va_up mo ((md v 0 (r + 1) t)) ((mo (md v 0 (r + 1) t)) + 1)) gm)) hC hH 108 ((md v 0 (r + 1) t)) (by omega) (by omega) (by rw [show (((mo (md v 0 (r + 1) t) : Nat) : Int) + 1 : Int) = (((mo (md v 0 (r + 1) t)) + 1 : Nat) : Int) from by omega]; exact cI_up (by omega)) dX1_beginnings_108 (fun H locs hH => ?_)
                  have hH : zH s0 s1 G as0 (dW ad G (va_up F 17 ((k_73 : Int))) (va_up (va_up (va_up Ar 15 (cI (k_73) u_73 gu_73)) 16 zZ) 19 (cI (1000) (va_up mo ((md v 0 (r + 1) t)) ((mo (md v 0 (r + 1) t)) + 1)) gm)) kp pl PW) H locs := hH
                  refine z_iload hC 109 hl dX1_beginnings_109 8 rfl ?_
                  refine z_iconst hC 111 dX1_beginnings_111 ?_
                  refine z_icmp_eq hC 112 132 dX1_beginnings_112 rfl (by omega) (by omega) (fun hb8 => ?_) (fun hb8 => ?_)
                  · -- 112t
                    refine z_iload hC 132 hl dX1_beginnings_132 7 rfl ?_
                    refine z_iload hC 134 hl dX1_beginnings_134 9 rfl ?_
                    refine z_iload hC 136 hl dX1_beginnings_136 6 rfl ?_
                    refine z_isub (e := (r : Int) - fr_) hC 138 dX1_beginnings_138 rfl ?_
                    refine z_max (a := mx_) (b := (r : Int) - fr_) hC hl.1 139 q1324 dX1_beginnings_139 (by omega) (by omega) ⟨Nat.le_of_ble_eq_true rfl, Nat.le_of_ble_eq_true rfl⟩ ⟨by first | decide | omega, by first | decide | omega⟩ ?_
                    have hmm139 := zmax_spec (mx_) ((r : Int) - fr_)
                    refine z_istore (lv' := [(6, .int (iZ ((zmax (mx_) ((r : Int) - fr_))))), (4, .int (iZ ((uk : Int)))), (9, .int (iZ (((md v 0 (r + 1) t : Nat) : Int)))), (0, .ref (ad 99)), (1, .int (iZ (q))), (2, .int (iZ ((c : Int)))), (3, .int (iZ (ls_))), (5, .int (iZ (fr_))), (7, .int (iZ (ws))), (8, .int (iZ ((r : Int))))]) hC 142 hl dX1_beginnings_142 (by decide) rfl (fun ls hl => ?_)
                    refine z_iload hC 144 hl dX1_beginnings_144 2 rfl ?_
                    refine z_istore (lv' := [(7, .int (iZ (((md v 0 (r + 1) t : Nat) : Int)))), (6, .int (iZ ((zmax (mx_) ((r : Int) - fr_))))), (4, .int (iZ ((uk : Int)))), (9, .int (iZ (((md v 0 (r + 1) t : Nat) : Int)))), (0, .ref (ad 99)), (1, .int (iZ (q))), (2, .int (iZ ((c : Int)))), (3, .int (iZ (ls_))), (5, .int (iZ (fr_))), (8, .int (iZ ((r : Int))))]) hC 146 hl dX1_beginnings_146 (by decide) rfl (fun ls hl => ?_)
                    refine z_iinc (lv' := [(8, .int (iZ ((r : Int) + 1))), (7, .int (iZ (((md v 0 (r + 1) t : Nat) : Int)))), (6, .int (iZ ((zmax (mx_) ((r : Int) - fr_))))), (4, .int (iZ ((uk : Int)))), (9, .int (iZ (((md v 0 (r + 1) t : Nat) : Int)))), (0, .ref (ad 99)), (1, .int (iZ (q))), (2, .int (iZ ((c : Int)))), (3, .int (iZ (ls_))), (5, .int (iZ (fr_)))]) hC 148 hl dX1_beginnings_148 9 rfl (by omega) (by decide) rfl (fun ls hl => ?_)
                    refine z_goto hC 151 57 dX1_beginnings_151 rfl ?_
                    -- J57.5
                    exact ih57 (r + 1) c uk ls_ (zmax (mx_) ((r : Int) - fr_)) ((md v 0 (r + 1) t : Nat) : Int) fr_ (va_up mo ((md v 0 (r + 1) t)) ((mo (md v 0 (r + 1) t)) + 1)) gm (k_73 : Int) (cI (k_73) u_73 gu_73) _ _ _ (by omega) (by first | assumption | omega) (by first | assumption | omega) (by first | assumption | omega) (by first | assumption | omega) (by first | exact Or.inl ⟨rfl, rfl, rfl⟩ | exact Or.inr ⟨Nat.succ_pos _, rfl, by (show _ = ((r + 1 : Nat) : Int) - 1 - (rwF (fun r => md v 0 (r + 1) t) r : Int)); omega⟩) (by first | rfl | exact cB_it ⟨by omega, by omega⟩ ic | exact cB_if (fun q => by have := q.1; have := q.2; omega) ic) (by first | rfl | exact bg_l1 (f := (fun r => md v 0 (r + 1) t)) ⟨by omega, by omega⟩ | (rw [bg_l0 (f := (fun r => md v 0 (r + 1) t)) (fun q => by have := q.1; have := q.2; omega)]; exact il)) (by first | exact (dst_0 _ 0).symm | (rw [dst_succ (f := (fun r => md v 0 (r + 1) t)) (md_lt_1000 _ _ _ _)]; first | (rw [if_pos (by omega)]; omega) | (rw [if_neg (by omega)]; omega))) (by first | rfl | exact (congrArg (zmax mx_) (show _ = (rwF (fun r => md v 0 (r + 1) t) r : Int) by omega)).trans (mxD_s ix)) (by first | (intro x hx; rw [cnt_0 _ (Nat.le_refl _)]) | exact cnt_up imo (md_lt_1000 _ _ _ _) rfl) hH (z_lv (lv_sub hl [5, 6, 7, 8, 3, 9, 2, 1, 0] rfl) (zcons rfl (zcons rfl (zcons rfl (zcons rfl (zcons rfl (zcons rfl (zcons rfl (zcons rfl (zcons (zpeq (by omega)) rfl))))))))))
                  · -- 112f
                    refine z_iload hC 115 hl dX1_beginnings_115 8 rfl ?_
                    refine z_iload hC 117 hl dX1_beginnings_117 1 rfl ?_
                    refine z_icmp_eq hC 119 132 dX1_beginnings_119 rfl (by omega) (by omega) (fun hb9 => ?_) (fun hb9 => ?_)
                    · -- 119t
                      refine z_iload hC 132 hl dX1_beginnings_132 7 rfl ?_
                      refine z_iload hC 134 hl dX1_beginnings_134 9 rfl ?_
                      refine z_iload hC 136 hl dX1_beginnings_136 6 rfl ?_
                      refine z_isub (e := (r : Int) - fr_) hC 138 dX1_beginnings_138 rfl ?_
                      refine z_max (a := mx_) (b := (r : Int) - fr_) hC hl.1 139 q1324 dX1_beginnings_139 (by omega) (by omega) ⟨Nat.le_of_ble_eq_true rfl, Nat.le_of_ble_eq_true rfl⟩ ⟨by first | decide | omega, by first | decide | omega⟩ ?_
                      have hmm139 := zmax_spec (mx_) ((r : Int) - fr_)
                      refine z_istore (lv' := [(6, .int (iZ ((zmax (mx_) ((r : Int) - fr_))))), (4, .int (iZ ((uk : Int)))), (9, .int (iZ (((md v 0 (r + 1) t : Nat) : Int)))), (0, .ref (ad 99)), (1, .int (iZ (q))), (2, .int (iZ ((c : Int)))), (3, .int (iZ (ls_))), (5, .int (iZ (fr_))), (7, .int (iZ (ws))), (8, .int (iZ ((r : Int))))]) hC 142 hl dX1_beginnings_142 (by decide) rfl (fun ls hl => ?_)
                      refine z_iload hC 144 hl dX1_beginnings_144 2 rfl ?_
                      refine z_istore (lv' := [(7, .int (iZ (((md v 0 (r + 1) t : Nat) : Int)))), (6, .int (iZ ((zmax (mx_) ((r : Int) - fr_))))), (4, .int (iZ ((uk : Int)))), (9, .int (iZ (((md v 0 (r + 1) t : Nat) : Int)))), (0, .ref (ad 99)), (1, .int (iZ (q))), (2, .int (iZ ((c : Int)))), (3, .int (iZ (ls_))), (5, .int (iZ (fr_))), (8, .int (iZ ((r : Int))))]) hC 146 hl dX1_beginnings_146 (by decide) rfl (fun ls hl => ?_)
                      refine z_iinc (lv' := [(8, .int (iZ ((r : Int) + 1))), (7, .int (iZ (((md v 0 (r + 1) t : Nat) : Int)))), (6, .int (iZ ((zmax (mx_) ((r : Int) - fr_))))), (4, .int (iZ ((uk : Int)))), (9, .int (iZ (((md v 0 (r + 1) t : Nat) : Int)))), (0, .ref (ad 99)), (1, .int (iZ (q))), (2, .int (iZ ((c : Int)))), (3, .int (iZ (ls_))), (5, .int (iZ (fr_)))]) hC 148 hl dX1_beginnings_148 9 rfl (by omega) (by decide) rfl (fun ls hl => ?_)
                      refine z_goto hC 151 57 dX1_beginnings_151 rfl ?_
                      -- J57.6
                      exact ih57 (r + 1) c uk ls_ (zmax (mx_) ((r : Int) - fr_)) ((md v 0 (r + 1) t : Nat) : Int) fr_ (va_up mo ((md v 0 (r + 1) t)) ((mo (md v 0 (r + 1) t)) + 1)) gm (k_73 : Int) (cI (k_73) u_73 gu_73) _ _ _ (by omega) (by first | assumption | omega) (by first | assumption | omega) (by first | assumption | omega) (by first | assumption | omega) (by first | exact Or.inl ⟨rfl, rfl, rfl⟩ | exact Or.inr ⟨Nat.succ_pos _, rfl, by (show _ = ((r + 1 : Nat) : Int) - 1 - (rwF (fun r => md v 0 (r + 1) t) r : Int)); omega⟩) (by first | rfl | exact cB_it ⟨by omega, by omega⟩ ic | exact cB_if (fun q => by have := q.1; have := q.2; omega) ic) (by first | rfl | exact bg_l1 (f := (fun r => md v 0 (r + 1) t)) ⟨by omega, by omega⟩ | (rw [bg_l0 (f := (fun r => md v 0 (r + 1) t)) (fun q => by have := q.1; have := q.2; omega)]; exact il)) (by first | exact (dst_0 _ 0).symm | (rw [dst_succ (f := (fun r => md v 0 (r + 1) t)) (md_lt_1000 _ _ _ _)]; first | (rw [if_pos (by omega)]; omega) | (rw [if_neg (by omega)]; omega))) (by first | rfl | exact (congrArg (zmax mx_) (show _ = (rwF (fun r => md v 0 (r + 1) t) r : Int) by omega)).trans (mxD_s ix)) (by first | (intro x hx; rw [cnt_0 _ (Nat.le_refl _)]) | exact cnt_up imo (md_lt_1000 _ _ _ _) rfl) hH (z_lv (lv_sub hl [5, 6, 7, 8, 3, 9, 2, 1, 0] rfl) (zcons rfl (zcons rfl (zcons rfl (zcons rfl (zcons rfl (zcons rfl (zcons rfl (zcons rfl (zcons (zpeq (by omega)) rfl))))))))))
                    · -- 119f
                      refine z_iinc (lv' := [(2, .int (iZ ((c : Int) + 1))), (4, .int (iZ ((uk : Int)))), (9, .int (iZ (((md v 0 (r + 1) t : Nat) : Int)))), (0, .ref (ad 99)), (1, .int (iZ (q))), (3, .int (iZ (ls_))), (5, .int (iZ (fr_))), (6, .int (iZ (mx_))), (7, .int (iZ (ws))), (8, .int (iZ ((r : Int))))]) hC 122 hl dX1_beginnings_122 4 rfl (by omega) (by decide) rfl (fun ls hl => ?_)
                      refine z_iload hC 125 hl dX1_beginnings_125 9 rfl ?_
                      refine z_istore_n (lv' := [(3, .int (iZ ((r : Int)))), (2, .int (iZ ((c : Int) + 1))), (4, .int (iZ ((uk : Int)))), (9, .int (iZ (((md v 0 (r + 1) t : Nat) : Int)))), (0, .ref (ad 99)), (1, .int (iZ (q))), (5, .int (iZ (fr_))), (6, .int (iZ (mx_))), (7, .int (iZ (ws))), (8, .int (iZ ((r : Int))))]) hC 127 hl dX1_beginnings_127 rfl (by decide) rfl (fun ls hl => ?_)
                      refine z_iload hC 128 hl dX1_beginnings_128 9 rfl ?_
                      refine z_istore (lv' := [(5, .int (iZ ((r : Int)))), (3, .int (iZ ((r : Int)))), (2, .int (iZ ((c : Int) + 1))), (4, .int (iZ ((uk : Int)))), (9, .int (iZ (((md v 0 (r + 1) t : Nat) : Int)))), (0, .ref (ad 99)), (1, .int (iZ (q))), (6, .int (iZ (mx_))), (7, .int (iZ (ws))), (8, .int (iZ ((r : Int))))]) hC 130 hl dX1_beginnings_130 (by decide) rfl (fun ls hl => ?_)
                      refine z_iload hC 132 hl dX1_beginnings_132 7 rfl ?_
                      refine z_iload hC 134 hl dX1_beginnings_134 9 rfl ?_
                      refine z_iload hC 136 hl dX1_beginnings_136 0 rfl ?_
                      refine z_isub (e := 0) hC 138 dX1_beginnings_138 (by omega) ?_
                      refine z_max (a := mx_) (b := 0) hC hl.1 139 q1324 dX1_beginnings_139 (by omega) (by omega) ⟨Nat.le_of_ble_eq_true rfl, Nat.le_of_ble_eq_true rfl⟩ ⟨by first | decide | omega, by first | decide | omega⟩ ?_
                      have hmm139 := zmax_spec (mx_) (0)
                      refine z_istore (lv' := [(6, .int (iZ ((zmax (mx_) (0))))), (5, .int (iZ ((r : Int)))), (3, .int (iZ ((r : Int)))), (2, .int (iZ ((c : Int) + 1))), (4, .int (iZ ((uk : Int)))), (9, .int (iZ (((md v 0 (r + 1) t : Nat) : Int)))), (0, .ref (ad 99)), (1, .int (iZ (q))), (7, .int (iZ (ws))), (8, .int (iZ ((r : Int))))]) hC 142 hl dX1_beginnings_142 (by decide) rfl (fun ls hl => ?_)
                      refine z_iload hC 144 hl dX1_beginnings_144 5 rfl ?_
                      refine z_istore (lv' := [(7, .int (iZ (((md v 0 (r + 1) t : Nat) : Int)))), (6, .int (iZ ((zmax (mx_) (0))))), (5, .int (iZ ((r : Int)))), (3, .int (iZ ((r : Int)))), (2, .int (iZ ((c : Int) + 1))), (4, .int (iZ ((uk : Int)))), (9, .int (iZ (((md v 0 (r + 1) t : Nat) : Int)))), (0, .ref (ad 99)), (1, .int (iZ (q))), (8, .int (iZ ((r : Int))))]) hC 146 hl dX1_beginnings_146 (by decide) rfl (fun ls hl => ?_)
                      refine z_iinc (lv' := [(8, .int (iZ ((r : Int) + 1))), (7, .int (iZ (((md v 0 (r + 1) t : Nat) : Int)))), (6, .int (iZ ((zmax (mx_) (0))))), (5, .int (iZ ((r : Int)))), (3, .int (iZ ((r : Int)))), (2, .int (iZ ((c : Int) + 1))), (4, .int (iZ ((uk : Int)))), (9, .int (iZ (((md v 0 (r + 1) t : Nat) : Int)))), (0, .ref (ad 99)), (1, .int (iZ (q)))]) hC 148 hl dX1_beginnings_148 9 rfl (by omega) (by decide) rfl (fun ls hl => ?_)
                      refine z_goto hC 151 57 dX1_beginnings_151 rfl ?_
                      -- J57.7
                      exact ih57 (r + 1) (c + 1) uk (r : Int) (zmax (mx_) (0)) ((md v 0 (r + 1) t : Nat) : Int) (r : Int) (va_up mo ((md v 0 (r + 1) t)) ((mo (md v 0 (r + 1) t)) + 1)) gm (k_73 : Int) (cI (k_73) u_73 gu_73) _ _ _ (by omega) (by first | assumption | omega) (by first | assumption | omega) (by first | assumption | omega) (by first | assumption | omega) (by first | exact Or.inl ⟨rfl, rfl, rfl⟩ | exact Or.inr ⟨Nat.succ_pos _, rfl, by (show _ = ((r + 1 : Nat) : Int) - 1 - (rwF (fun r => md v 0 (r + 1) t) r : Int)); omega⟩) (by first | rfl | exact cB_it ⟨by omega, by omega⟩ ic | exact cB_if (fun q => by have := q.1; have := q.2; omega) ic) (by first | rfl | exact bg_l1 (f := (fun r => md v 0 (r + 1) t)) ⟨by omega, by omega⟩ | (rw [bg_l0 (f := (fun r => md v 0 (r + 1) t)) (fun q => by have := q.1; have := q.2; omega)]; exact il)) (by first | exact (dst_0 _ 0).symm | (rw [dst_succ (f := (fun r => md v 0 (r + 1) t)) (md_lt_1000 _ _ _ _)]; first | (rw [if_pos (by omega)]; omega) | (rw [if_neg (by omega)]; omega))) (by first | rfl | exact (congrArg (zmax mx_) (show _ = (rwF (fun r => md v 0 (r + 1) t) r : Int) by omega)).trans (mxD_s ix)) (by first | (intro x hx; rw [cnt_0 _ (Nat.le_refl _)]) | exact cnt_up imo (md_lt_1000 _ _ _ _) rfl) hH (z_lv (lv_sub hl [8, 9, 5, 4, 6, 3, 2, 1, 0] rfl) (zcons rfl (zcons rfl (zcons (zpeq (by omega)) (zcons rfl (zcons rfl (zcons rfl (zcons rfl (zcons rfl (zcons (zpeq (by omega)) rfl))))))))))
                · -- 87f
                  refine z_iconst hC 90 dX1_beginnings_90 ?_
                  refine z_goto hC 91 95 dX1_beginnings_91 rfl ?_
                  refine z_iadd (e := (uk : Int) + 1) hC 95 dX1_beginnings_95 rfl ?_
                  refine z_istore (lv' := [(4, .int (iZ ((uk : Int) + 1))), (9, .int (iZ (((md v 0 (r + 1) t : Nat) : Int)))), (0, .ref (ad 99)), (1, .int (iZ (q))), (2, .int (iZ ((c : Int)))), (3, .int (iZ (ls_))), (5, .int (iZ (fr_))), (6, .int (iZ (mx_))), (7, .int (iZ (ws))), (8, .int (iZ ((r : Int))))]) hC 96 hl dX1_beginnings_96 (by decide) rfl (fun ls hl => ?_)
                  refine z_aload_n hC 98 hl dX1_beginnings_98 rfl 2 rfl ?_
                  refine zp_get (v := .ref (ad 19)) hC (va_P_l hH.1) 99 in_X1 rfl 19 (by decide) q229 0 rfl (rfl) dX1_beginnings_99 ?_
                  refine z_iload hC 102 hl dX1_beginnings_102 1 rfl ?_
                  refine z_dup2 hC 104 dX1_beginnings_104 rfl rfl ?_
                  refine zp_iald (f := (cI (1000) mo gm)) (x := ((mo (md v 0 (r + 1) t) : Nat) : Int)) hC (va_P_l hH.1) 105 9 ((md v 0 (r + 1) t)) rfl (by decide) (by omega) (by omega) ((cI_lt (by omega))) dX1_beginnings_105 ?_
                  refine z_iconst hC 106 dX1_beginnings_106 ?_
                  refine z_iadd (e := ((mo (md v 0 (r + 1) t) : Nat) : Int) + 1) hC 107 dX1_beginnings_107 rfl ?_
                  refine sD_19 (f' := (cI (1000) (va_up mo ((md v 0 (r + 1) t)) ((mo (md v 0 (r + 1) t)) + 1)) gm)) hC hH 108 ((md v 0 (r + 1) t)) (by omega) (by omega) (by rw [show (((mo (md v 0 (r + 1) t) : Nat) : Int) + 1 : Int) = (((mo (md v 0 (r + 1) t)) + 1 : Nat) : Int) from by omega]; exact cI_up (by omega)) dX1_beginnings_108 (fun H locs hH => ?_)
                  have hH : zH s0 s1 G as0 (dW ad G (va_up F 17 ((k_73 : Int))) (va_up (va_up (va_up Ar 15 (cI (k_73) u_73 gu_73)) 16 zZ) 19 (cI (1000) (va_up mo ((md v 0 (r + 1) t)) ((mo (md v 0 (r + 1) t)) + 1)) gm)) kp pl PW) H locs := hH
                  refine z_iload hC 109 hl dX1_beginnings_109 8 rfl ?_
                  refine z_iconst hC 111 dX1_beginnings_111 ?_
                  refine z_icmp_eq hC 112 132 dX1_beginnings_112 rfl (by omega) (by omega) (fun hb10 => ?_) (fun hb10 => ?_)
                  · -- 112t
                    refine z_iload hC 132 hl dX1_beginnings_132 7 rfl ?_
                    refine z_iload hC 134 hl dX1_beginnings_134 9 rfl ?_
                    refine z_iload hC 136 hl dX1_beginnings_136 6 rfl ?_
                    refine z_isub (e := (r : Int) - fr_) hC 138 dX1_beginnings_138 rfl ?_
                    refine z_max (a := mx_) (b := (r : Int) - fr_) hC hl.1 139 q1324 dX1_beginnings_139 (by omega) (by omega) ⟨Nat.le_of_ble_eq_true rfl, Nat.le_of_ble_eq_true rfl⟩ ⟨by first | decide | omega, by first | decide | omega⟩ ?_
                    have hmm139 := zmax_spec (mx_) ((r : Int) - fr_)
                    refine z_istore (lv' := [(6, .int (iZ ((zmax (mx_) ((r : Int) - fr_))))), (4, .int (iZ ((uk : Int) + 1))), (9, .int (iZ (((md v 0 (r + 1) t : Nat) : Int)))), (0, .ref (ad 99)), (1, .int (iZ (q))), (2, .int (iZ ((c : Int)))), (3, .int (iZ (ls_))), (5, .int (iZ (fr_))), (7, .int (iZ (ws))), (8, .int (iZ ((r : Int))))]) hC 142 hl dX1_beginnings_142 (by decide) rfl (fun ls hl => ?_)
                    refine z_iload hC 144 hl dX1_beginnings_144 2 rfl ?_
                    refine z_istore (lv' := [(7, .int (iZ (((md v 0 (r + 1) t : Nat) : Int)))), (6, .int (iZ ((zmax (mx_) ((r : Int) - fr_))))), (4, .int (iZ ((uk : Int) + 1))), (9, .int (iZ (((md v 0 (r + 1) t : Nat) : Int)))), (0, .ref (ad 99)), (1, .int (iZ (q))), (2, .int (iZ ((c : Int)))), (3, .int (iZ (ls_))), (5, .int (iZ (fr_))), (8, .int (iZ ((r : Int))))]) hC 146 hl dX1_beginnings_146 (by decide) rfl (fun ls hl => ?_)
                    refine z_iinc (lv' := [(8, .int (iZ ((r : Int) + 1))), (7, .int (iZ (((md v 0 (r + 1) t : Nat) : Int)))), (6, .int (iZ ((zmax (mx_) ((r : Int) - fr_))))), (4, .int (iZ ((uk : Int) + 1))), (9, .int (iZ (((md v 0 (r + 1) t : Nat) : Int)))), (0, .ref (ad 99)), (1, .int (iZ (q))), (2, .int (iZ ((c : Int)))), (3, .int (iZ (ls_))), (5, .int (iZ (fr_)))]) hC 148 hl dX1_beginnings_148 9 rfl (by omega) (by decide) rfl (fun ls hl => ?_)
                    refine z_goto hC 151 57 dX1_beginnings_151 rfl ?_
                    -- J57.8
                    exact ih57 (r + 1) c (uk + 1) ls_ (zmax (mx_) ((r : Int) - fr_)) ((md v 0 (r + 1) t : Nat) : Int) fr_ (va_up mo ((md v 0 (r + 1) t)) ((mo (md v 0 (r + 1) t)) + 1)) gm (k_73 : Int) (cI (k_73) u_73 gu_73) _ _ _ (by omega) (by first | assumption | omega) (by first | assumption | omega) (by first | assumption | omega) (by first | assumption | omega) (by first | exact Or.inl ⟨rfl, rfl, rfl⟩ | exact Or.inr ⟨Nat.succ_pos _, rfl, by (show _ = ((r + 1 : Nat) : Int) - 1 - (rwF (fun r => md v 0 (r + 1) t) r : Int)); omega⟩) (by first | rfl | exact cB_it ⟨by omega, by omega⟩ ic | exact cB_if (fun q => by have := q.1; have := q.2; omega) ic) (by first | rfl | exact bg_l1 (f := (fun r => md v 0 (r + 1) t)) ⟨by omega, by omega⟩ | (rw [bg_l0 (f := (fun r => md v 0 (r + 1) t)) (fun q => by have := q.1; have := q.2; omega)]; exact il)) (by first | exact (dst_0 _ 0).symm | (rw [dst_succ (f := (fun r => md v 0 (r + 1) t)) (md_lt_1000 _ _ _ _)]; first | (rw [if_pos (by omega)]; omega) | (rw [if_neg (by omega)]; omega))) (by first | rfl | exact (congrArg (zmax mx_) (show _ = (rwF (fun r => md v 0 (r + 1) t) r : Int) by omega)).trans (mxD_s ix)) (by first | (intro x hx; rw [cnt_0 _ (Nat.le_refl _)]) | exact cnt_up imo (md_lt_1000 _ _ _ _) rfl) hH (z_lv (lv_sub hl [5, 6, 7, 8, 3, 9, 2, 1, 0] rfl) (zcons rfl (zcons rfl (zcons rfl (zcons rfl (zcons (zpeq (by omega)) (zcons rfl (zcons rfl (zcons rfl (zcons (zpeq (by omega)) rfl))))))))))
                  · -- 112f
                    refine z_iload hC 115 hl dX1_beginnings_115 8 rfl ?_
                    refine z_iload hC 117 hl dX1_beginnings_117 1 rfl ?_
                    refine z_icmp_eq hC 119 132 dX1_beginnings_119 rfl (by omega) (by omega) (fun hb11 => ?_) (fun hb11 => ?_)
                    · -- 119t
                      refine z_iload hC 132 hl dX1_beginnings_132 7 rfl ?_
                      refine z_iload hC 134 hl dX1_beginnings_134 9 rfl ?_
                      refine z_iload hC 136 hl dX1_beginnings_136 6 rfl ?_
                      refine z_isub (e := (r : Int) - fr_) hC 138 dX1_beginnings_138 rfl ?_
                      refine z_max (a := mx_) (b := (r : Int) - fr_) hC hl.1 139 q1324 dX1_beginnings_139 (by omega) (by omega) ⟨Nat.le_of_ble_eq_true rfl, Nat.le_of_ble_eq_true rfl⟩ ⟨by first | decide | omega, by first | decide | omega⟩ ?_
                      have hmm139 := zmax_spec (mx_) ((r : Int) - fr_)
                      refine z_istore (lv' := [(6, .int (iZ ((zmax (mx_) ((r : Int) - fr_))))), (4, .int (iZ ((uk : Int) + 1))), (9, .int (iZ (((md v 0 (r + 1) t : Nat) : Int)))), (0, .ref (ad 99)), (1, .int (iZ (q))), (2, .int (iZ ((c : Int)))), (3, .int (iZ (ls_))), (5, .int (iZ (fr_))), (7, .int (iZ (ws))), (8, .int (iZ ((r : Int))))]) hC 142 hl dX1_beginnings_142 (by decide) rfl (fun ls hl => ?_)
                      refine z_iload hC 144 hl dX1_beginnings_144 2 rfl ?_
                      refine z_istore (lv' := [(7, .int (iZ (((md v 0 (r + 1) t : Nat) : Int)))), (6, .int (iZ ((zmax (mx_) ((r : Int) - fr_))))), (4, .int (iZ ((uk : Int) + 1))), (9, .int (iZ (((md v 0 (r + 1) t : Nat) : Int)))), (0, .ref (ad 99)), (1, .int (iZ (q))), (2, .int (iZ ((c : Int)))), (3, .int (iZ (ls_))), (5, .int (iZ (fr_))), (8, .int (iZ ((r : Int))))]) hC 146 hl dX1_beginnings_146 (by decide) rfl (fun ls hl => ?_)
                      refine z_iinc (lv' := [(8, .int (iZ ((r : Int) + 1))), (7, .int (iZ (((md v 0 (r + 1) t : Nat) : Int)))), (6, .int (iZ ((zmax (mx_) ((r : Int) - fr_))))), (4, .int (iZ ((uk : Int) + 1))), (9, .int (iZ (((md v 0 (r + 1) t : Nat) : Int)))), (0, .ref (ad 99)), (1, .int (iZ (q))), (2, .int (iZ ((c : Int)))), (3, .int (iZ (ls_))), (5, .int (iZ (fr_)))]) hC 148 hl dX1_beginnings_148 9 rfl (by omega) (by decide) rfl (fun ls hl => ?_)
                      refine z_goto hC 151 57 dX1_beginnings_151 rfl ?_
                      -- J57.9
                      exact ih57 (r + 1) c (uk + 1) ls_ (zmax (mx_) ((r : Int) - fr_)) ((md v 0 (r + 1) t : Nat) : Int) fr_ (va_up mo ((md v 0 (r + 1) t)) ((mo (md v 0 (r + 1) t)) + 1)) gm (k_73 : Int) (cI (k_73) u_73 gu_73) _ _ _ (by omega) (by first | assumption | omega) (by first | assumption | omega) (by first | assumption | omega) (by first | assumption | omega) (by first | exact Or.inl ⟨rfl, rfl, rfl⟩ | exact Or.inr ⟨Nat.succ_pos _, rfl, by (show _ = ((r + 1 : Nat) : Int) - 1 - (rwF (fun r => md v 0 (r + 1) t) r : Int)); omega⟩) (by first | rfl | exact cB_it ⟨by omega, by omega⟩ ic | exact cB_if (fun q => by have := q.1; have := q.2; omega) ic) (by first | rfl | exact bg_l1 (f := (fun r => md v 0 (r + 1) t)) ⟨by omega, by omega⟩ | (rw [bg_l0 (f := (fun r => md v 0 (r + 1) t)) (fun q => by have := q.1; have := q.2; omega)]; exact il)) (by first | exact (dst_0 _ 0).symm | (rw [dst_succ (f := (fun r => md v 0 (r + 1) t)) (md_lt_1000 _ _ _ _)]; first | (rw [if_pos (by omega)]; omega) | (rw [if_neg (by omega)]; omega))) (by first | rfl | exact (congrArg (zmax mx_) (show _ = (rwF (fun r => md v 0 (r + 1) t) r : Int) by omega)).trans (mxD_s ix)) (by first | (intro x hx; rw [cnt_0 _ (Nat.le_refl _)]) | exact cnt_up imo (md_lt_1000 _ _ _ _) rfl) hH (z_lv (lv_sub hl [5, 6, 7, 8, 3, 9, 2, 1, 0] rfl) (zcons rfl (zcons rfl (zcons rfl (zcons rfl (zcons (zpeq (by omega)) (zcons rfl (zcons rfl (zcons rfl (zcons (zpeq (by omega)) rfl))))))))))
                    · -- 119f
                      refine z_iinc (lv' := [(2, .int (iZ ((c : Int) + 1))), (4, .int (iZ ((uk : Int) + 1))), (9, .int (iZ (((md v 0 (r + 1) t : Nat) : Int)))), (0, .ref (ad 99)), (1, .int (iZ (q))), (3, .int (iZ (ls_))), (5, .int (iZ (fr_))), (6, .int (iZ (mx_))), (7, .int (iZ (ws))), (8, .int (iZ ((r : Int))))]) hC 122 hl dX1_beginnings_122 4 rfl (by omega) (by decide) rfl (fun ls hl => ?_)
                      refine z_iload hC 125 hl dX1_beginnings_125 9 rfl ?_
                      refine z_istore_n (lv' := [(3, .int (iZ ((r : Int)))), (2, .int (iZ ((c : Int) + 1))), (4, .int (iZ ((uk : Int) + 1))), (9, .int (iZ (((md v 0 (r + 1) t : Nat) : Int)))), (0, .ref (ad 99)), (1, .int (iZ (q))), (5, .int (iZ (fr_))), (6, .int (iZ (mx_))), (7, .int (iZ (ws))), (8, .int (iZ ((r : Int))))]) hC 127 hl dX1_beginnings_127 rfl (by decide) rfl (fun ls hl => ?_)
                      refine z_iload hC 128 hl dX1_beginnings_128 9 rfl ?_
                      refine z_istore (lv' := [(5, .int (iZ ((r : Int)))), (3, .int (iZ ((r : Int)))), (2, .int (iZ ((c : Int) + 1))), (4, .int (iZ ((uk : Int) + 1))), (9, .int (iZ (((md v 0 (r + 1) t : Nat) : Int)))), (0, .ref (ad 99)), (1, .int (iZ (q))), (6, .int (iZ (mx_))), (7, .int (iZ (ws))), (8, .int (iZ ((r : Int))))]) hC 130 hl dX1_beginnings_130 (by decide) rfl (fun ls hl => ?_)
                      refine z_iload hC 132 hl dX1_beginnings_132 7 rfl ?_
                      refine z_iload hC 134 hl dX1_beginnings_134 9 rfl ?_
                      refine z_iload hC 136 hl dX1_beginnings_136 0 rfl ?_
                      refine z_isub (e := 0) hC 138 dX1_beginnings_138 (by omega) ?_
                      refine z_max (a := mx_) (b := 0) hC hl.1 139 q1324 dX1_beginnings_139 (by omega) (by omega) ⟨Nat.le_of_ble_eq_true rfl, Nat.le_of_ble_eq_true rfl⟩ ⟨by first | decide | omega, by first | decide | omega⟩ ?_
                      have hmm139 := zmax_spec (mx_) (0)
                      refine z_istore (lv' := [(6, .int (iZ ((zmax (mx_) (0))))), (5, .int (iZ ((r : Int)))), (3, .int (iZ ((r : Int)))), (2, .int (iZ ((c : Int) + 1))), (4, .int (iZ ((uk : Int) + 1))), (9, .int (iZ (((md v 0 (r + 1) t : Nat) : Int)))), (0, .ref (ad 99)), (1, .int (iZ (q))), (7, .int (iZ (ws))), (8, .int (iZ ((r : Int))))]) hC 142 hl dX1_beginnings_142 (by decide) rfl (fun ls hl => ?_)
                      refine z_iload hC 144 hl dX1_beginnings_144 5 rfl ?_
                      refine z_istore (lv' := [(7, .int (iZ (((md v 0 (r + 1) t : Nat) : Int)))), (6, .int (iZ ((zmax (mx_) (0))))), (5, .int (iZ ((r : Int)))), (3, .int (iZ ((r : Int)))), (2, .int (iZ ((c : Int) + 1))), (4, .int (iZ ((uk : Int) + 1))), (9, .int (iZ (((md v 0 (r + 1) t : Nat) : Int)))), (0, .ref (ad 99)), (1, .int (iZ (q))), (8, .int (iZ ((r : Int))))]) hC 146 hl dX1_beginnings_146 (by decide) rfl (fun ls hl => ?_)
                      refine z_iinc (lv' := [(8, .int (iZ ((r : Int) + 1))), (7, .int (iZ (((md v 0 (r + 1) t : Nat) : Int)))), (6, .int (iZ ((zmax (mx_) (0))))), (5, .int (iZ ((r : Int)))), (3, .int (iZ ((r : Int)))), (2, .int (iZ ((c : Int) + 1))), (4, .int (iZ ((uk : Int) + 1))), (9, .int (iZ (((md v 0 (r + 1) t : Nat) : Int)))), (0, .ref (ad 99)), (1, .int (iZ (q)))]) hC 148 hl dX1_beginnings_148 9 rfl (by omega) (by decide) rfl (fun ls hl => ?_)
                      refine z_goto hC 151 57 dX1_beginnings_151 rfl ?_
                      -- J57.10
                      exact ih57 (r + 1) (c + 1) (uk + 1) (r : Int) (zmax (mx_) (0)) ((md v 0 (r + 1) t : Nat) : Int) (r : Int) (va_up mo ((md v 0 (r + 1) t)) ((mo (md v 0 (r + 1) t)) + 1)) gm (k_73 : Int) (cI (k_73) u_73 gu_73) _ _ _ (by omega) (by first | assumption | omega) (by first | assumption | omega) (by first | assumption | omega) (by first | assumption | omega) (by first | exact Or.inl ⟨rfl, rfl, rfl⟩ | exact Or.inr ⟨Nat.succ_pos _, rfl, by (show _ = ((r + 1 : Nat) : Int) - 1 - (rwF (fun r => md v 0 (r + 1) t) r : Int)); omega⟩) (by first | rfl | exact cB_it ⟨by omega, by omega⟩ ic | exact cB_if (fun q => by have := q.1; have := q.2; omega) ic) (by first | rfl | exact bg_l1 (f := (fun r => md v 0 (r + 1) t)) ⟨by omega, by omega⟩ | (rw [bg_l0 (f := (fun r => md v 0 (r + 1) t)) (fun q => by have := q.1; have := q.2; omega)]; exact il)) (by first | exact (dst_0 _ 0).symm | (rw [dst_succ (f := (fun r => md v 0 (r + 1) t)) (md_lt_1000 _ _ _ _)]; first | (rw [if_pos (by omega)]; omega) | (rw [if_neg (by omega)]; omega))) (by first | rfl | exact (congrArg (zmax mx_) (show _ = (rwF (fun r => md v 0 (r + 1) t) r : Int) by omega)).trans (mxD_s ix)) (by first | (intro x hx; rw [cnt_0 _ (Nat.le_refl _)]) | exact cnt_up imo (md_lt_1000 _ _ _ _) rfl) hH (z_lv (lv_sub hl [8, 9, 5, 4, 6, 3, 2, 1, 0] rfl) (zcons rfl (zcons rfl (zcons (zpeq (by omega)) (zcons rfl (zcons (zpeq (by omega)) (zcons rfl (zcons rfl (zcons rfl (zcons (zpeq (by omega)) rfl))))))))))
          -- J57.11
          exact L57 _ 0 0 0 (-2) (-2) (-1) 0 (fun _ => 0) a (F 17) (Ar 15) _ _ _ (Nat.lt_succ_self _) (by first | assumption | omega) (by first | assumption | omega) (by first | assumption | omega) (by first | assumption | omega) (by first | exact Or.inl ⟨rfl, rfl, rfl⟩ | exact Or.inr ⟨Nat.succ_pos _, rfl, by (show _ = ((r + 1 : Nat) : Int) - 1 - (rwF (fun r => md v 0 (r + 1) t) r : Int)); omega⟩) (by first | rfl | exact cB_it ⟨by omega, by omega⟩ ic | exact cB_if (fun q => by have := q.1; have := q.2; omega) ic) (by first | rfl | exact bg_l1 (f := (fun r => md v 0 (r + 1) t)) ⟨by omega, by omega⟩ | (rw [bg_l0 (f := (fun r => md v 0 (r + 1) t)) (fun q => by have := q.1; have := q.2; omega)]; exact il)) (by first | exact (dst_0 _ 0).symm | (rw [dst_succ (f := (fun r => md v 0 (r + 1) t)) (md_lt_1000 _ _ _ _)]; first | (rw [if_pos (by omega)]; omega) | (rw [if_neg (by omega)]; omega))) (by first | rfl | exact (congrArg (zmax mx_) (show _ = (rwF (fun r => md v 0 (r + 1) t) r : Int) by omega)).trans (mxD_s ix)) (by first | (intro x hx; rw [cnt_0 _ (Nat.le_refl _)]) | exact cnt_up imo (md_lt_1000 _ _ _ _) rfl) hH (z_lv (lv_sub hl [7, 8, 6, 5, 4, 3, 2, 1, 0] rfl) (zcons rfl (zcons rfl (zcons (zpeq (by omega)) (zcons rfl (zcons (zpeq (by omega)) (zcons rfl (zcons rfl (zcons rfl (zcons (zpeq (by omega)) rfl))))))))))
        · -- 20f
          refine z_aload_n hC 23 hl dX1_beginnings_23 rfl 0 rfl ?_
          refine zp_get (v := .ref (ad 19)) hC (va_P_l hH.1) 24 in_X1 rfl 19 (by decide) q229 0 rfl (rfl) dX1_beginnings_24 ?_
          refine z_iload_n hC 27 hl dX1_beginnings_27 rfl 2 rfl ?_
          refine z_iconst hC 28 dX1_beginnings_28 ?_
          refine sD_19 (f' := (va_up a (i) (0))) hC hH 29 (i) (by omega) (by omega) rfl dX1_beginnings_29 (fun H locs hH => ?_)
          have hH : zH s0 s1 G as0 (dW ad G F (va_up (va_up Ar 16 zZ) 19 (va_up a (i) (0))) kp pl PW) H locs := hH
          refine z_iinc (lv' := [(2, .int (iZ ((i : Int) + 1))), (0, .ref (ad 99)), (1, .int (iZ (q)))]) hC 30 hl dX1_beginnings_30 2 rfl (by omega) (by decide) rfl (fun ls hl => ?_)
          refine z_goto hC 33 16 dX1_beginnings_33 rfl ?_
          -- J16.12
          exact ih16 (i + 1) (va_up a (i) (0)) _ _ _ (by omega) (by first | assumption | omega) (by first | (intro j hj; omega) | exact z0_up iz) hH (z_lv (lv_sub hl [1, 2, 0] rfl) (zcons rfl (zcons rfl (zcons (zpeq (by omega)) rfl))))
    -- J16.13
    exact L16 _ 0 (Ar 19) _ _ _ (Nat.lt_succ_self _) (by first | assumption | omega) (by first | (intro j hj; omega) | exact z0_up iz) hH (z_lv (lv_sub hl [1, 2, 0] rfl) (zcons rfl (zcons rfl (zcons (zpeq (by omega)) rfl))))
  · -- 6=0
    refine z_if_ne_f hC 9 14 dX1_beginnings_9 rfl (by omega) (by omega) ?_
    refine z_iconst hC 12 dX1_beginnings_12 ?_
    -- R13.14
    exact z_iret hC hH hQ 13 (((-1), F, (va_up Ar 16 zZ))) dX1_beginnings_13 rfl ⟨by first | (unfold Sp_beginnings; rw [if_neg (by omega)]) | (unfold Sp_beginnings; rw [if_pos (by omega)]; (try simp only [Int.toNat_natCast, zt1]); first | done | trivial | rfl | omega | (rw [if_pos (by omega)]; first | done | trivial | rfl | omega) | (rw [if_neg (by omega)]; first | done | trivial | rfl | omega)), by first | assumption | exact ⟨fun k h1 h2 h3 h4 h5 => by first | rfl | (simp [va_up, h1, h2, h3, h4, h5]; done) | (simp [va_up, h1, h2, h3, h4, h5]; intro e9; rw [e9, hFn]), fun k h1 h2 h3 h4 h5 h6 => by first | rfl | simp [va_up, h1, h2, h3, h4, h5, h6]⟩⟩ rfl (Nat.le_refl _) (Nat.le_refl _)
