/-! methods of ModeDeskModel: 17.mg -/
set_option maxHeartbeats 4000000 in
set_option maxRecDepth 100000 in
theorem m_X7_tightest (lau : Launch) (s0 : State) (G : zG) (sz : Nat) (ad : Nat → Nat) (F : Nat → Int) (Ar : Nat → Nat → Int) (n : Nat) (v : Nat → Nat) (gv : Nat → Int) (t : Nat) (k0 : Int) (q : Int) (hn : n ≤ 120) (hv : ∀ i, i < n → v i < 1000) (ht : t < 4) (hr_k0 : -2147483648 ≤ k0 ∧ k0 < 2147483648) (hr_q : -2147483648 ≤ q ∧ q < 2147483648) : zMet (S := Int × (Nat → Int) × (Nat → Nat → Int)) lau yX7_tightest cX7_tightest 8 (some .int) 0 0 0 0 s0 G sz [.ref (ad 0), .int (iZ (k0)), .int (iZ (q))] (mW ad G (va_up (va_up F 5 ((n : Int))) 7 ((t : Int))) (va_up Ar 3 (cI (n) v gv))) (fun ((r_, F2, A2) : Int × (Nat → Int) × (Nat → Nat → Int)) => some (.int (iZ (r_)))) (fun ((r_, F2, A2) : Int × (Nat → Int) × (Nat → Nat → Int)) => (Sp_tightest n v k0 q r_) ∧ (MK (va_up (va_up F 5 ((n : Int))) 7 ((t : Int))) (va_up Ar 3 (cI (n) v gv)) F2 A2)) (fun ((r_, F2, A2) : Int × (Nat → Int) × (Nat → Nat → Int)) => (mW ad G F2 A2)) := by
  refine zMet.of (by decide) (Nat.le_of_ble_eq_true rfl) ?_
  intro pg ev s1 mi ar bl me cd ls Q as0 hC hH hl hQ hsz
  generalize s1.heap = H at hH ⊢
  generalize ([] : List Loc) = locs at hH ⊢
  have hl : lv_has ls 8 [(0, .ref (ad 0)), (1, .int (iZ (k0))), (2, .int (iZ (q)))] := hl
  refine z_aload_n hC 0 hl dX7_tightest_0 rfl 0 rfl ?_
  refine z_iconst hC 1 dX7_tightest_1 ?_
  refine pmW_0 hC hH 2 dX7_tightest_2 (fun H locs hH => ?_)
  have hH : zH s0 s1 G as0 (mW ad G (va_up (va_up (va_up F 0 (0)) 5 ((n : Int))) 7 ((t : Int))) (va_up Ar 3 (cI (n) v gv))) H locs := hH
  refine z_iload_n hC 5 hl dX7_tightest_5 rfl 1 rfl ?_
  refine z_iconst hC 6 dX7_tightest_6 ?_
  refine z_icmp_lt hC 7 19 dX7_tightest_7 rfl (by omega) (by omega) (fun hb1 => ?_) (fun hb1 => ?_)
  · -- 7t
    refine z_iconst hC 19 dX7_tightest_19 ?_
    -- R20.1
    exact z_iret hC hH hQ 20 (((-1), (va_up (va_up (va_up F 0 (0)) 5 ((n : Int))) 7 ((t : Int))), (va_up Ar 3 (cI (n) v gv)))) dX7_tightest_20 rfl ⟨by first | (unfold Sp_tightest; rw [if_neg (by omega)]) | (unfold Sp_tightest; rw [if_pos (by omega)]), by exact ⟨rfl, rfl, rfl, rfl, rfl, rfl, rfl, rfl, rfl, rfl, rfl, rfl, rfl, rfl, rfl, rfl⟩⟩ rfl (Nat.le_refl _) (Nat.le_refl _)
  · -- 7f
    refine z_iload_n hC 10 hl dX7_tightest_10 rfl 2 rfl ?_
    refine z_if_lt hC 11 19 dX7_tightest_11 rfl (by omega) (fun hb2 => ?_) (fun hb2 => ?_)
    · -- 11t
      refine z_iconst hC 19 dX7_tightest_19 ?_
      -- R20.2
      exact z_iret hC hH hQ 20 (((-1), (va_up (va_up (va_up F 0 (0)) 5 ((n : Int))) 7 ((t : Int))), (va_up Ar 3 (cI (n) v gv)))) dX7_tightest_20 rfl ⟨by first | (unfold Sp_tightest; rw [if_neg (by omega)]) | (unfold Sp_tightest; rw [if_pos (by omega)]), by exact ⟨rfl, rfl, rfl, rfl, rfl, rfl, rfl, rfl, rfl, rfl, rfl, rfl, rfl, rfl, rfl, rfl⟩⟩ rfl (Nat.le_refl _) (Nat.le_refl _)
    · -- 11f
      refine z_iload_n hC 14 hl dX7_tightest_14 rfl 2 rfl ?_
      refine z_iconst hC 15 dX7_tightest_15 ?_
      refine z_icmp_le hC 16 21 dX7_tightest_16 rfl (by omega) (by omega) (fun hb3 => ?_) (fun hb3 => ?_)
      · -- 16t
        refine z_bipush hC 21 dX7_tightest_21 rfl ?_
        refine z_istore_n (lv' := [(3, .int (iZ ((-2)))), (0, .ref (ad 0)), (1, .int (iZ (k0))), (2, .int (iZ (q)))]) hC 23 hl dX7_tightest_23 rfl (by decide) rfl (fun ls hl => ?_)
        refine z_bipush hC 24 dX7_tightest_24 rfl ?_
        refine z_istore (lv' := [(4, .int (iZ (121))), (3, .int (iZ ((-2)))), (0, .ref (ad 0)), (1, .int (iZ (k0))), (2, .int (iZ (q)))]) hC 26 hl dX7_tightest_26 (by decide) rfl (fun ls hl => ?_)
        refine z_iconst hC 28 dX7_tightest_28 ?_
        refine z_istore (lv' := [(5, .int (iZ (0))), (4, .int (iZ (121))), (3, .int (iZ ((-2)))), (0, .ref (ad 0)), (1, .int (iZ (k0))), (2, .int (iZ (q)))]) hC 29 hl dX7_tightest_29 (by decide) rfl (fun ls hl => ?_)
        have L31 : ∀ (N_ : Nat) (l : Nat) (bs : Int) (fw : Int) (H : Heap) (locs : List Loc) (ls : Array Slot), n - l < N_ → (l ≤ n) → (TB v n k0 l bs fw) → zH s0 s1 G as0 (mW ad G (va_up (va_up (va_up F 0 (0)) 5 ((n : Int))) 7 ((t : Int))) (va_up Ar 3 (cI (n) v gv))) H locs → lv_has ls 8 [(0, .ref (ad 0)), (1, .int (iZ (k0))), (2, .int (iZ (q))), (3, .int (iZ (bs))), (4, .int (iZ (fw))), (5, .int (iZ ((l : Int))))] → W pg lau ev (zRm 0 0 0 0) s1 mi ar bl me cd H locs 0 0 Q (F0 mi 31 ls []) := by
          intro N_
          induction N_ with
          | zero => intro l bs fw H locs ls hd; exact absurd hd (Nat.not_lt_zero _)
          | succ N_ ih31 =>
            intro l bs fw H locs ls hd31 i31_1 ib hH hl
            have hbb := TB_b ib
            refine z_iload hC 31 hl dX7_tightest_31 5 rfl ?_
            refine z_aload_n hC 33 hl dX7_tightest_33 rfl 0 rfl ?_
            refine gmW_5 (x := (n : Int)) hC hH 34 rfl dX7_tightest_34 ?_
            refine z_icmp_ge hC 37 130 dX7_tightest_37 rfl (by omega) (by omega) (fun hb4 => ?_) (fun hb4 => ?_)
            · -- 37t
              have el : (l) = n := by omega
              rw [el] at ib
              have hbb := TB_b ib
              refine z_iload_n hC 130 hl dX7_tightest_130 rfl 3 rfl ?_
              refine z_bipush hC 131 dX7_tightest_131 rfl ?_
              refine z_icmp_eq hC 133 140 dX7_tightest_133 rfl (by omega) (by omega) (fun hb5 => ?_) (fun hb5 => ?_)
              · -- 133t
                refine z_iload_n hC 140 hl dX7_tightest_140 rfl 3 rfl ?_
                refine z_goto hC 141 164 dX7_tightest_141 rfl ?_
                -- R164.3
                exact z_iret hC hH hQ 164 ((bs, (va_up (va_up (va_up F 0 (0)) 5 ((n : Int))) 7 ((t : Int))), (va_up Ar 3 (cI (n) v gv)))) dX7_tightest_164 rfl ⟨by (unfold Sp_tightest; rw [if_pos (by omega)]; exact ⟨bs, fw, ib, by first | (rw [if_pos (by omega)]; omega) | (rw [if_neg (by omega), if_pos (by omega)]; done) | (rw [if_neg (by omega), if_neg (by omega), if_pos (by omega)]; done) | (rw [if_neg (by omega), if_neg (by omega), if_neg (by omega)]; done)⟩), by exact ⟨rfl, rfl, rfl, rfl, rfl, rfl, rfl, rfl, rfl, rfl, rfl, rfl, rfl, rfl, rfl, rfl⟩⟩ rfl (Nat.le_refl _) (Nat.le_refl _)
              · -- 133f
                refine z_iload_n hC 136 hl dX7_tightest_136 rfl 2 rfl ?_
                refine z_if_ne hC 137 144 dX7_tightest_137 rfl (by omega) (fun hb6 => ?_) (fun hb6 => ?_)
                · -- 137t
                  refine z_iload_n hC 144 hl dX7_tightest_144 rfl 2 rfl ?_
                  refine z_iconst hC 145 dX7_tightest_145 ?_
                  refine z_icmp_ne hC 146 158 dX7_tightest_146 rfl (by omega) (by omega) (fun hb7 => ?_) (fun hb7 => ?_)
                  · -- 146t
                    have hvb := hv ((bs).toNat) (by omega)
                    refine z_aload_n hC 158 hl dX7_tightest_158 rfl 0 rfl ?_
                    refine gmW_3 hC hH 159 dX7_tightest_159 ?_
                    refine z_iload_n hC 162 hl dX7_tightest_162 rfl 3 rfl ?_
                    refine lmW_3 (x := ((v ((bs).toNat) : Nat) : Int)) hC hH 163 ((bs).toNat) (by omega) (by omega) (cI_lt (by omega)) dX7_tightest_163 ?_
                    -- R164.4
                    exact z_iret hC hH hQ 164 ((((v ((bs).toNat) : Nat) : Int), (va_up (va_up (va_up F 0 (0)) 5 ((n : Int))) 7 ((t : Int))), (va_up Ar 3 (cI (n) v gv)))) dX7_tightest_164 rfl ⟨by (unfold Sp_tightest; rw [if_pos (by omega)]; exact ⟨bs, fw, ib, by first | (rw [if_pos (by omega)]; omega) | (rw [if_neg (by omega), if_pos (by omega)]; done) | (rw [if_neg (by omega), if_neg (by omega), if_pos (by omega)]; done) | (rw [if_neg (by omega), if_neg (by omega), if_neg (by omega)]; done)⟩), by exact ⟨rfl, rfl, rfl, rfl, rfl, rfl, rfl, rfl, rfl, rfl, rfl, rfl, rfl, rfl, rfl, rfl⟩⟩ rfl (Nat.le_refl _) (Nat.le_refl _)
                  · -- 146f
                    refine z_iload_n hC 149 hl dX7_tightest_149 rfl 3 rfl ?_
                    refine z_iload hC 150 hl dX7_tightest_150 4 rfl ?_
                    refine z_iadd (e := bs + fw) hC 152 dX7_tightest_152 rfl ?_
                    refine z_iconst hC 153 dX7_tightest_153 ?_
                    refine z_isub (e := bs + fw - 1) hC 154 dX7_tightest_154 rfl ?_
                    refine z_goto hC 155 164 dX7_tightest_155 rfl ?_
                    -- R164.5
                    refine z_st (st' := [.int (iZ ((bs + fw - 1)))]) (zcons (zieq (by first | assumption | omega)) rfl) ?_
                    exact z_iret hC hH hQ 164 ((bs + fw - 1, (va_up (va_up (va_up F 0 (0)) 5 ((n : Int))) 7 ((t : Int))), (va_up Ar 3 (cI (n) v gv)))) dX7_tightest_164 rfl ⟨by (unfold Sp_tightest; rw [if_pos (by omega)]; exact ⟨bs, fw, ib, by first | (rw [if_pos (by omega)]; omega) | (rw [if_neg (by omega), if_pos (by omega)]; done) | (rw [if_neg (by omega), if_neg (by omega), if_pos (by omega)]; done) | (rw [if_neg (by omega), if_neg (by omega), if_neg (by omega)]; done)⟩), by exact ⟨rfl, rfl, rfl, rfl, rfl, rfl, rfl, rfl, rfl, rfl, rfl, rfl, rfl, rfl, rfl, rfl⟩⟩ rfl (Nat.le_refl _) (Nat.le_refl _)
                · -- 137f
                  refine z_iload_n hC 140 hl dX7_tightest_140 rfl 3 rfl ?_
                  refine z_goto hC 141 164 dX7_tightest_141 rfl ?_
                  -- R164.6
                  exact z_iret hC hH hQ 164 ((bs, (va_up (va_up (va_up F 0 (0)) 5 ((n : Int))) 7 ((t : Int))), (va_up Ar 3 (cI (n) v gv)))) dX7_tightest_164 rfl ⟨by (unfold Sp_tightest; rw [if_pos (by omega)]; exact ⟨bs, fw, ib, by first | (rw [if_pos (by omega)]; omega) | (rw [if_neg (by omega), if_pos (by omega)]; done) | (rw [if_neg (by omega), if_neg (by omega), if_pos (by omega)]; done) | (rw [if_neg (by omega), if_neg (by omega), if_neg (by omega)]; done)⟩), by exact ⟨rfl, rfl, rfl, rfl, rfl, rfl, rfl, rfl, rfl, rfl, rfl, rfl, rfl, rfl, rfl, rfl⟩⟩ rfl (Nat.le_refl _) (Nat.le_refl _)
            · -- 37f
              refine z_iconst hC 40 dX7_tightest_40 ?_
              refine z_istore (lv' := [(6, .int (iZ (0))), (0, .ref (ad 0)), (1, .int (iZ (k0))), (2, .int (iZ (q))), (3, .int (iZ (bs))), (4, .int (iZ (fw))), (5, .int (iZ ((l : Int))))]) hC 41 hl dX7_tightest_41 (by decide) rfl (fun ls hl => ?_)
              refine z_iload hC 43 hl dX7_tightest_43 6 rfl ?_
              refine z_istore (lv' := [(7, .int (iZ ((l : Int)))), (6, .int (iZ (0))), (0, .ref (ad 0)), (1, .int (iZ (k0))), (2, .int (iZ (q))), (3, .int (iZ (bs))), (4, .int (iZ (fw))), (5, .int (iZ ((l : Int))))]) hC 45 hl dX7_tightest_45 (by decide) rfl (fun ls hl => ?_)
              have L47 : ∀ (N_ : Nat) (r : Nat) (nn : Nat) (H : Heap) (locs : List Loc) (ls : Array Slot), n - r < N_ → (l ≤ r) → (r ≤ n) → (nn = cnt v l r (v l)) → (nn ≤ r - l) → (∀ m1, m1 < r - l → (cnt v l (l + m1) (v l) : Int) < k0) → zH s0 s1 G as0 (mW ad G (va_up (va_up (va_up F 0 (0)) 5 ((n : Int))) 7 ((t : Int))) (va_up Ar 3 (cI (n) v gv))) H locs → lv_has ls 8 [(0, .ref (ad 0)), (1, .int (iZ (k0))), (2, .int (iZ (q))), (3, .int (iZ (bs))), (4, .int (iZ (fw))), (5, .int (iZ ((l : Int)))), (6, .int (iZ ((nn : Int)))), (7, .int (iZ ((r : Int))))] → W pg lau ev (zRm 0 0 0 0) s1 mi ar bl me cd H locs 0 0 Q (F0 mi 47 ls []) := by
                intro N_
                induction N_ with
                | zero => intro r nn H locs ls hd; exact absurd hd (Nat.not_lt_zero _)
                | succ N_ ih47 =>
                  intro r nn H locs ls hd47 i47_1 i47_2 inn i47_4 im hH hl
                  refine z_iload hC 47 hl dX7_tightest_47 7 rfl ?_
                  refine z_aload_n hC 49 hl dX7_tightest_49 rfl 0 rfl ?_
                  refine gmW_5 (x := (n : Int)) hC hH 50 rfl dX7_tightest_50 ?_
                  refine z_icmp_ge hC 53 95 dX7_tightest_53 rfl (by omega) (by omega) (fun hb8 => ?_) (fun hb8 => ?_)
                  · -- 53t
                    refine z_iload hC 95 hl dX7_tightest_95 6 rfl ?_
                    refine z_iload_n hC 97 hl dX7_tightest_97 rfl 1 rfl ?_
                    refine z_icmp_lt hC 98 124 dX7_tightest_98 rfl (by omega) (by omega) (fun hb9 => ?_) (fun hb9 => ?_)
                    · -- 98t
                      refine z_iinc (lv' := [(5, .int (iZ ((l : Int) + 1))), (0, .ref (ad 0)), (1, .int (iZ (k0))), (2, .int (iZ (q))), (3, .int (iZ (bs))), (4, .int (iZ (fw))), (6, .int (iZ ((nn : Int)))), (7, .int (iZ ((r : Int))))]) hC 124 hl dX7_tightest_124 5 rfl (by omega) (by decide) rfl (fun ls hl => ?_)
                      refine z_goto hC 127 31 dX7_tightest_127 rfl ?_
                      -- J31.7
                      exact ih31 (l + 1) bs fw _ _ _ (by omega) (by first | assumption | omega) (by first | exact TB_0 | exact TB_new2 ib (by omega) (TW_this im (by omega) (by omega) (by omega)) (by omega) | exact TB_skip ib (fun m hm => absurd hm (TW_none im (by omega) (by omega) (by omega) m)) (fun _ m => TW_none im (by omega) (by omega) (by omega) m) | exact TB_skip2 ib (by omega) (TW_this im (by omega) (by omega) (by omega)) (by omega) (fun e => by omega) (by omega) | (exfalso; omega)) hH (z_lv (lv_sub hl [1, 2, 3, 4, 5, 0] rfl) (zcons rfl (zcons rfl (zcons rfl (zcons rfl (zcons rfl (zcons (zpeq (by omega)) rfl)))))))
                    · -- 98f
                      refine z_iload hC 101 hl dX7_tightest_101 7 rfl ?_
                      refine z_iload hC 103 hl dX7_tightest_103 5 rfl ?_
                      refine z_isub (e := (r : Int) - (l : Int)) hC 105 dX7_tightest_105 rfl ?_
                      refine z_iload hC 106 hl dX7_tightest_106 4 rfl ?_
                      refine z_icmp_lt hC 108 114 dX7_tightest_108 rfl (by omega) (by omega) (fun hb10 => ?_) (fun hb10 => ?_)
                      · -- 108t
                        refine z_iload hC 114 hl dX7_tightest_114 5 rfl ?_
                        refine z_istore_n (lv' := [(3, .int (iZ ((l : Int)))), (0, .ref (ad 0)), (1, .int (iZ (k0))), (2, .int (iZ (q))), (4, .int (iZ (fw))), (5, .int (iZ ((l : Int)))), (6, .int (iZ ((nn : Int)))), (7, .int (iZ ((r : Int))))]) hC 116 hl dX7_tightest_116 rfl (by decide) rfl (fun ls hl => ?_)
                        refine z_iload hC 117 hl dX7_tightest_117 7 rfl ?_
                        refine z_iload hC 119 hl dX7_tightest_119 5 rfl ?_
                        refine z_isub (e := (r : Int) - (l : Int)) hC 121 dX7_tightest_121 rfl ?_
                        refine z_istore (lv' := [(4, .int (iZ ((r : Int) - (l : Int)))), (3, .int (iZ ((l : Int)))), (0, .ref (ad 0)), (1, .int (iZ (k0))), (2, .int (iZ (q))), (5, .int (iZ ((l : Int)))), (6, .int (iZ ((nn : Int)))), (7, .int (iZ ((r : Int))))]) hC 122 hl dX7_tightest_122 (by decide) rfl (fun ls hl => ?_)
                        refine z_iinc (lv' := [(5, .int (iZ ((l : Int) + 1))), (4, .int (iZ ((r : Int) - (l : Int)))), (3, .int (iZ ((l : Int)))), (0, .ref (ad 0)), (1, .int (iZ (k0))), (2, .int (iZ (q))), (6, .int (iZ ((nn : Int)))), (7, .int (iZ ((r : Int))))]) hC 124 hl dX7_tightest_124 5 rfl (by omega) (by decide) rfl (fun ls hl => ?_)
                        refine z_goto hC 127 31 dX7_tightest_127 rfl ?_
                        -- J31.8
                        exact ih31 (l + 1) (l : Int) ((r : Int) - (l : Int)) _ _ _ (by omega) (by first | assumption | omega) (by first | exact TB_0 | exact TB_new2 ib (by omega) (TW_this im (by omega) (by omega) (by omega)) (by omega) | exact TB_skip ib (fun m hm => absurd hm (TW_none im (by omega) (by omega) (by omega) m)) (fun _ m => TW_none im (by omega) (by omega) (by omega) m) | exact TB_skip2 ib (by omega) (TW_this im (by omega) (by omega) (by omega)) (by omega) (fun e => by omega) (by omega) | (exfalso; omega)) hH (z_lv (lv_sub hl [3, 4, 5, 2, 1, 0] rfl) (zcons rfl (zcons rfl (zcons rfl (zcons rfl (zcons (zpeq (by omega)) (zcons (zpeq (by omega)) rfl)))))))
                      · -- 108f
                        refine z_goto hC 111 124 dX7_tightest_111 rfl ?_
                        refine z_iinc (lv' := [(5, .int (iZ ((l : Int) + 1))), (0, .ref (ad 0)), (1, .int (iZ (k0))), (2, .int (iZ (q))), (3, .int (iZ (bs))), (4, .int (iZ (fw))), (6, .int (iZ ((nn : Int)))), (7, .int (iZ ((r : Int))))]) hC 124 hl dX7_tightest_124 5 rfl (by omega) (by decide) rfl (fun ls hl => ?_)
                        refine z_goto hC 127 31 dX7_tightest_127 rfl ?_
                        -- J31.9
                        exact ih31 (l + 1) bs fw _ _ _ (by omega) (by first | assumption | omega) (by first | exact TB_0 | exact TB_new2 ib (by omega) (TW_this im (by omega) (by omega) (by omega)) (by omega) | exact TB_skip ib (fun m hm => absurd hm (TW_none im (by omega) (by omega) (by omega) m)) (fun _ m => TW_none im (by omega) (by omega) (by omega) m) | exact TB_skip2 ib (by omega) (TW_this im (by omega) (by omega) (by omega)) (by omega) (fun e => by omega) (by omega) | (exfalso; omega)) hH (z_lv (lv_sub hl [1, 2, 3, 4, 5, 0] rfl) (zcons rfl (zcons rfl (zcons rfl (zcons rfl (zcons rfl (zcons (zpeq (by omega)) rfl)))))))
                  · -- 53f
                    refine z_iload hC 56 hl dX7_tightest_56 6 rfl ?_
                    refine z_iload_n hC 58 hl dX7_tightest_58 rfl 1 rfl ?_
                    refine z_icmp_ge hC 59 95 dX7_tightest_59 rfl (by omega) (by omega) (fun hb11 => ?_) (fun hb11 => ?_)
                    · -- 59t
                      refine z_iload hC 95 hl dX7_tightest_95 6 rfl ?_
                      refine z_iload_n hC 97 hl dX7_tightest_97 rfl 1 rfl ?_
                      refine z_icmp_lt hC 98 124 dX7_tightest_98 rfl (by omega) (by omega) (fun hb12 => ?_) (fun hb12 => ?_)
                      · -- 98t
                        refine z_iinc (lv' := [(5, .int (iZ ((l : Int) + 1))), (0, .ref (ad 0)), (1, .int (iZ (k0))), (2, .int (iZ (q))), (3, .int (iZ (bs))), (4, .int (iZ (fw))), (6, .int (iZ ((nn : Int)))), (7, .int (iZ ((r : Int))))]) hC 124 hl dX7_tightest_124 5 rfl (by omega) (by decide) rfl (fun ls hl => ?_)
                        refine z_goto hC 127 31 dX7_tightest_127 rfl ?_
                        -- J31.10
                        exact ih31 (l + 1) bs fw _ _ _ (by omega) (by first | assumption | omega) (by first | exact TB_0 | exact TB_new2 ib (by omega) (TW_this im (by omega) (by omega) (by omega)) (by omega) | exact TB_skip ib (fun m hm => absurd hm (TW_none im (by omega) (by omega) (by omega) m)) (fun _ m => TW_none im (by omega) (by omega) (by omega) m) | exact TB_skip2 ib (by omega) (TW_this im (by omega) (by omega) (by omega)) (by omega) (fun e => by omega) (by omega) | (exfalso; omega)) hH (z_lv (lv_sub hl [1, 2, 3, 4, 5, 0] rfl) (zcons rfl (zcons rfl (zcons rfl (zcons rfl (zcons rfl (zcons (zpeq (by omega)) rfl)))))))
                      · -- 98f
                        refine z_iload hC 101 hl dX7_tightest_101 7 rfl ?_
                        refine z_iload hC 103 hl dX7_tightest_103 5 rfl ?_
                        refine z_isub (e := (r : Int) - (l : Int)) hC 105 dX7_tightest_105 rfl ?_
                        refine z_iload hC 106 hl dX7_tightest_106 4 rfl ?_
                        refine z_icmp_lt hC 108 114 dX7_tightest_108 rfl (by omega) (by omega) (fun hb13 => ?_) (fun hb13 => ?_)
                        · -- 108t
                          refine z_iload hC 114 hl dX7_tightest_114 5 rfl ?_
                          refine z_istore_n (lv' := [(3, .int (iZ ((l : Int)))), (0, .ref (ad 0)), (1, .int (iZ (k0))), (2, .int (iZ (q))), (4, .int (iZ (fw))), (5, .int (iZ ((l : Int)))), (6, .int (iZ ((nn : Int)))), (7, .int (iZ ((r : Int))))]) hC 116 hl dX7_tightest_116 rfl (by decide) rfl (fun ls hl => ?_)
                          refine z_iload hC 117 hl dX7_tightest_117 7 rfl ?_
                          refine z_iload hC 119 hl dX7_tightest_119 5 rfl ?_
                          refine z_isub (e := (r : Int) - (l : Int)) hC 121 dX7_tightest_121 rfl ?_
                          refine z_istore (lv' := [(4, .int (iZ ((r : Int) - (l : Int)))), (3, .int (iZ ((l : Int)))), (0, .ref (ad 0)), (1, .int (iZ (k0))), (2, .int (iZ (q))), (5, .int (iZ ((l : Int)))), (6, .int (iZ ((nn : Int)))), (7, .int (iZ ((r : Int))))]) hC 122 hl dX7_tightest_122 (by decide) rfl (fun ls hl => ?_)
                          refine z_iinc (lv' := [(5, .int (iZ ((l : Int) + 1))), (4, .int (iZ ((r : Int) - (l : Int)))), (3, .int (iZ ((l : Int)))), (0, .ref (ad 0)), (1, .int (iZ (k0))), (2, .int (iZ (q))), (6, .int (iZ ((nn : Int)))), (7, .int (iZ ((r : Int))))]) hC 124 hl dX7_tightest_124 5 rfl (by omega) (by decide) rfl (fun ls hl => ?_)
                          refine z_goto hC 127 31 dX7_tightest_127 rfl ?_
                          -- J31.11
                          exact ih31 (l + 1) (l : Int) ((r : Int) - (l : Int)) _ _ _ (by omega) (by first | assumption | omega) (by first | exact TB_0 | exact TB_new2 ib (by omega) (TW_this im (by omega) (by omega) (by omega)) (by omega) | exact TB_skip ib (fun m hm => absurd hm (TW_none im (by omega) (by omega) (by omega) m)) (fun _ m => TW_none im (by omega) (by omega) (by omega) m) | exact TB_skip2 ib (by omega) (TW_this im (by omega) (by omega) (by omega)) (by omega) (fun e => by omega) (by omega) | (exfalso; omega)) hH (z_lv (lv_sub hl [3, 4, 5, 2, 1, 0] rfl) (zcons rfl (zcons rfl (zcons rfl (zcons rfl (zcons (zpeq (by omega)) (zcons (zpeq (by omega)) rfl)))))))
                        · -- 108f
                          refine z_goto hC 111 124 dX7_tightest_111 rfl ?_
                          refine z_iinc (lv' := [(5, .int (iZ ((l : Int) + 1))), (0, .ref (ad 0)), (1, .int (iZ (k0))), (2, .int (iZ (q))), (3, .int (iZ (bs))), (4, .int (iZ (fw))), (6, .int (iZ ((nn : Int)))), (7, .int (iZ ((r : Int))))]) hC 124 hl dX7_tightest_124 5 rfl (by omega) (by decide) rfl (fun ls hl => ?_)
                          refine z_goto hC 127 31 dX7_tightest_127 rfl ?_
                          -- J31.12
                          exact ih31 (l + 1) bs fw _ _ _ (by omega) (by first | assumption | omega) (by first | exact TB_0 | exact TB_new2 ib (by omega) (TW_this im (by omega) (by omega) (by omega)) (by omega) | exact TB_skip ib (fun m hm => absurd hm (TW_none im (by omega) (by omega) (by omega) m)) (fun _ m => TW_none im (by omega) (by omega) (by omega) m) | exact TB_skip2 ib (by omega) (TW_this im (by omega) (by omega) (by omega)) (by omega) (fun e => by omega) (by omega) | (exfalso; omega)) hH (z_lv (lv_sub hl [1, 2, 3, 4, 5, 0] rfl) (zcons rfl (zcons rfl (zcons rfl (zcons rfl (zcons rfl (zcons (zpeq (by omega)) rfl)))))))
                    · -- 59f
                      have hc := cnt_succ v (v l) (show l ≤ (r) by omega)
                      have hvr := hv (r) (by omega)
                      have hvl := hv (l) (by omega)
                      refine z_iload hC 62 hl dX7_tightest_62 6 rfl ?_
                      refine z_aload_n hC 64 hl dX7_tightest_64 rfl 0 rfl ?_
                      refine gmW_3 hC hH 65 dX7_tightest_65 ?_
                      refine z_iload hC 68 hl dX7_tightest_68 7 rfl ?_
                      refine lmW_3 (x := ((v r : Nat) : Int)) hC hH 70 (r) (by omega) (by omega) (cI_lt (by omega)) dX7_tightest_70 ?_
                      refine z_aload_n hC 71 hl dX7_tightest_71 rfl 0 rfl ?_
                      refine gmW_3 hC hH 72 dX7_tightest_72 ?_
                      refine z_iload hC 75 hl dX7_tightest_75 5 rfl ?_
                      refine lmW_3 (x := ((v l : Nat) : Int)) hC hH 77 (l) (by omega) (by omega) (cI_lt (by omega)) dX7_tightest_77 ?_
                      refine z_icmp_ne hC 78 85 dX7_tightest_78 rfl (by omega) (by omega) (fun hb14 => ?_) (fun hb14 => ?_)
                      · -- 78t
                        refine z_iconst hC 85 dX7_tightest_85 ?_
                        refine z_iadd (e := (nn : Int)) hC 86 dX7_tightest_86 (by omega) ?_
                        refine z_istore (lv' := [(6, .int (iZ ((nn : Int)))), (0, .ref (ad 0)), (1, .int (iZ (k0))), (2, .int (iZ (q))), (3, .int (iZ (bs))), (4, .int (iZ (fw))), (5, .int (iZ ((l : Int)))), (7, .int (iZ ((r : Int))))]) hC 87 hl dX7_tightest_87 (by decide) rfl (fun ls hl => ?_)
                        refine z_iinc (lv' := [(7, .int (iZ ((r : Int) + 1))), (6, .int (iZ ((nn : Int)))), (0, .ref (ad 0)), (1, .int (iZ (k0))), (2, .int (iZ (q))), (3, .int (iZ (bs))), (4, .int (iZ (fw))), (5, .int (iZ ((l : Int))))]) hC 89 hl dX7_tightest_89 7 rfl (by omega) (by decide) rfl (fun ls hl => ?_)
                        refine z_goto hC 92 47 dX7_tightest_92 rfl ?_
                        -- J47.13
                        exact ih47 (r + 1) nn _ _ _ (by omega) (by first | assumption | omega) (by first | assumption | omega) (by first | exact (cnt_0 v (Nat.le_refl _)).symm | (split at hc <;> omega)) (by first | assumption | omega) (by first | (intro m1 q1; omega) | exact TW_im im (by omega) (by omega)) hH (z_lv (lv_sub hl [2, 3, 4, 5, 6, 7, 1, 0] rfl) (zcons rfl (zcons rfl (zcons rfl (zcons rfl (zcons rfl (zcons rfl (zcons rfl (zcons (zpeq (by omega)) rfl)))))))))
                      · -- 78f
                        refine z_iconst hC 81 dX7_tightest_81 ?_
                        refine z_goto hC 82 86 dX7_tightest_82 rfl ?_
                        refine z_iadd (e := (nn : Int) + 1) hC 86 dX7_tightest_86 rfl ?_
                        refine z_istore (lv' := [(6, .int (iZ ((nn : Int) + 1))), (0, .ref (ad 0)), (1, .int (iZ (k0))), (2, .int (iZ (q))), (3, .int (iZ (bs))), (4, .int (iZ (fw))), (5, .int (iZ ((l : Int)))), (7, .int (iZ ((r : Int))))]) hC 87 hl dX7_tightest_87 (by decide) rfl (fun ls hl => ?_)
                        refine z_iinc (lv' := [(7, .int (iZ ((r : Int) + 1))), (6, .int (iZ ((nn : Int) + 1))), (0, .ref (ad 0)), (1, .int (iZ (k0))), (2, .int (iZ (q))), (3, .int (iZ (bs))), (4, .int (iZ (fw))), (5, .int (iZ ((l : Int))))]) hC 89 hl dX7_tightest_89 7 rfl (by omega) (by decide) rfl (fun ls hl => ?_)
                        refine z_goto hC 92 47 dX7_tightest_92 rfl ?_
                        -- J47.14
                        exact ih47 (r + 1) (nn + 1) _ _ _ (by omega) (by first | assumption | omega) (by first | assumption | omega) (by first | exact (cnt_0 v (Nat.le_refl _)).symm | (split at hc <;> omega)) (by first | assumption | omega) (by first | (intro m1 q1; omega) | exact TW_im im (by omega) (by omega)) hH (z_lv (lv_sub hl [2, 3, 4, 5, 6, 7, 1, 0] rfl) (zcons rfl (zcons rfl (zcons rfl (zcons rfl (zcons rfl (zcons rfl (zcons (zpeq (by omega)) (zcons (zpeq (by omega)) rfl)))))))))
              -- J47.15
              exact L47 _ l 0 _ _ _ (Nat.lt_succ_self _) (by first | assumption | omega) (by first | assumption | omega) (by first | exact (cnt_0 v (Nat.le_refl _)).symm | (split at hc <;> omega)) (by first | assumption | omega) (by first | (intro m1 q1; omega) | exact TW_im im (by omega) (by omega)) hH (z_lv (lv_sub hl [2, 3, 4, 5, 6, 7, 1, 0] rfl) (zcons rfl (zcons rfl (zcons rfl (zcons rfl (zcons rfl (zcons rfl (zcons (zpeq (by omega)) (zcons rfl rfl)))))))))
        -- J31.16
        exact L31 _ 0 (-2) 121 _ _ _ (Nat.lt_succ_self _) (by first | assumption | omega) (by first | exact TB_0 | exact TB_new2 ib (by omega) (TW_this im (by omega) (by omega) (by omega)) (by omega) | exact TB_skip ib (fun m hm => absurd hm (TW_none im (by omega) (by omega) (by omega) m)) (fun _ m => TW_none im (by omega) (by omega) (by omega) m) | exact TB_skip2 ib (by omega) (TW_this im (by omega) (by omega) (by omega)) (by omega) (fun e => by omega) (by omega) | (exfalso; omega)) hH (z_lv (lv_sub hl [3, 4, 5, 2, 1, 0] rfl) (zcons rfl (zcons rfl (zcons rfl (zcons rfl (zcons rfl (zcons (zpeq (by omega)) rfl)))))))
      · -- 16f
        refine z_iconst hC 19 dX7_tightest_19 ?_
        -- R20.17
        exact z_iret hC hH hQ 20 (((-1), (va_up (va_up (va_up F 0 (0)) 5 ((n : Int))) 7 ((t : Int))), (va_up Ar 3 (cI (n) v gv)))) dX7_tightest_20 rfl ⟨by first | (unfold Sp_tightest; rw [if_neg (by omega)]) | (unfold Sp_tightest; rw [if_pos (by omega)]), by exact ⟨rfl, rfl, rfl, rfl, rfl, rfl, rfl, rfl, rfl, rfl, rfl, rfl, rfl, rfl, rfl, rfl⟩⟩ rfl (Nat.le_refl _) (Nat.le_refl _)

set_option maxHeartbeats 4000000 in
set_option maxRecDepth 100000 in
theorem m_X7_over (lau : Launch) (s0 : State) (G : zG) (sz : Nat) (ad : Nat → Nat) (F : Nat → Int) (Ar : Nat → Nat → Int) (w : Nat → Nat) (wl : Nat) (wr : Nat) (o : Nat → Nat) (go : Nat → Int) (fo : Nat → Int) (la : Nat → Int) (k : Nat) (u : Nat → Nat) (gu : Nat → Int) (x : Nat) (m : Int) (hCO : CO w wl wr o fo la k u) (hwr : wr ≤ 120) (hx : x < 1000) (hm : -1 ≤ m ∧ m ≤ 2000) : zMet (S := Unit) lau yX7_over cX7_over 6 (some .int) 0 0 0 0 s0 G sz [.ref (ad 0), .int (iZ (m)), .int (iZ ((x : Int)))] (mW ad G (va_up F 38 ((k : Int))) (va_up (va_up (va_up (va_up Ar 34 (cI (1000) o go)) 35 fo) 36 la) 37 (cI (k) u gu))) (fun (_ : Unit) => some (.int (iZ (((ov w wl wr x m : Nat) : Int))))) (fun (_ : Unit) => (ov w wl wr x m ≤ 121000)) (fun (_ : Unit) => (mW ad G (va_up F 38 ((k : Int))) (va_up (va_up (va_up (va_up Ar 34 (cI (1000) o go)) 35 fo) 36 la) 37 (cI (k) u gu)))) := by
  refine zMet.of (by decide) (Nat.le_of_ble_eq_true rfl) ?_
  intro pg ev s1 mi ar bl me cd ls Q as0 hC hH hl hQ hsz
  generalize s1.heap = H at hH ⊢
  generalize ([] : List Loc) = locs at hH ⊢
  have hl : lv_has ls 6 [(0, .ref (ad 0)), (1, .int (iZ (m))), (2, .int (iZ ((x : Int))))] := hl
  have hK := hCO.2.2.1
  refine z_iconst hC 0 dX7_over_0 ?_
  refine z_istore_n (lv' := [(3, .int (iZ (0))), (0, .ref (ad 0)), (1, .int (iZ (m))), (2, .int (iZ ((x : Int))))]) hC 1 hl dX7_over_1 rfl (by decide) rfl (fun ls hl => ?_)
  refine z_iconst hC 2 dX7_over_2 ?_
  refine z_istore (lv' := [(4, .int (iZ (0))), (3, .int (iZ (0))), (0, .ref (ad 0)), (1, .int (iZ (m))), (2, .int (iZ ((x : Int))))]) hC 3 hl dX7_over_3 (by decide) rfl (fun ls hl => ?_)
  have L5 : ∀ (N_ : Nat) (i : Nat) (c : Nat) (H : Heap) (locs : List Loc) (ls : Array Slot), k - i < N_ → (i ≤ k) → (c = sm (fun j => ovF w wl wr x m (u j)) 0 i) → (c ≤ i * 121) → zH s0 s1 G as0 (mW ad G (va_up F 38 ((k : Int))) (va_up (va_up (va_up (va_up Ar 34 (cI (1000) o go)) 35 fo) 36 la) 37 (cI (k) u gu))) H locs → lv_has ls 6 [(0, .ref (ad 0)), (1, .int (iZ (m))), (2, .int (iZ ((x : Int)))), (3, .int (iZ ((c : Int)))), (4, .int (iZ ((i : Int))))] → W pg lau ev (zRm 0 0 0 0) s1 mi ar bl me cd H locs 0 0 Q (F0 mi 5 ls []) := by
    intro N_
    induction N_ with
    | zero => intro i c H locs ls hd; exact absurd hd (Nat.not_lt_zero _)
    | succ N_ ih5 =>
      intro i c H locs ls hd5 i5_1 ic i5_3 hH hl
      refine z_iload hC 5 hl dX7_over_5 4 rfl ?_
      refine z_aload_n hC 7 hl dX7_over_7 rfl 0 rfl ?_
      refine gmW_38 (x := (k : Int)) hC hH 8 rfl dX7_over_8 ?_
      refine z_icmp_ge hC 11 62 dX7_over_11 rfl (by omega) (by omega) (fun hb1 => ?_) (fun hb1 => ?_)
      · -- 11t
        obtain rfl : k = (i) := by omega
        have hoe := ov_enum (x := x) (m := m) hCO.2.2
        refine z_iload_n hC 62 hl dX7_over_62 rfl 3 rfl ?_
        -- R63.1
        refine z_st (st' := [.int (iZ (((ov w wl wr x m : Nat) : Int)))]) (zcons (zieq (by first | assumption | omega)) rfl) ?_
        exact z_iret hC hH hQ 63 (()) dX7_over_63 rfl (by exact Nat.le_trans (sm_le (fun p _ => ovF_le hm.1 hwr)) (by omega)) rfl (Nat.le_refl _) (Nat.le_refl _)
      · -- 11f
        have hu := hCO.2.2.2.1 (i) (by omega)
        have ho1 := hCO.1 (u (i)) hu.1
        have hc1 := cnt_le w wl wr (u (i))
        have hov : ovF w wl wr x m (u (i)) = if u (i) ≠ x ∧ m < (cnt w wl wr (u (i)) : Int) ∧ 0 < cnt w wl wr (u (i)) then ((cnt w wl wr (u (i)) : Int) - m).toNat else 0 := rfl
        have hovb := ovF_le (v := w) (l := wl) (x := x) (y := u (i)) hm.1 hwr
        refine z_aload_n hC 14 hl dX7_over_14 rfl 0 rfl ?_
        refine gmW_37 hC hH 15 dX7_over_15 ?_
        refine z_iload hC 18 hl dX7_over_18 4 rfl ?_
        refine lmW_37 (x := ((u i : Nat) : Int)) hC hH 20 (i) (by omega) (by omega) (cI_lt (by omega)) dX7_over_20 ?_
        refine z_istore (lv' := [(5, .int (iZ (((u i : Nat) : Int)))), (0, .ref (ad 0)), (1, .int (iZ (m))), (2, .int (iZ ((x : Int)))), (3, .int (iZ ((c : Int)))), (4, .int (iZ ((i : Int))))]) hC 21 hl dX7_over_21 (by decide) rfl (fun ls hl => ?_)
        refine z_iload_n hC 23 hl dX7_over_23 rfl 4 rfl ?_
        refine z_iload hC 24 hl dX7_over_24 0 rfl ?_
        refine z_iload_n hC 26 hl dX7_over_26 rfl 3 rfl ?_
        refine z_icmp_eq hC 27 53 dX7_over_27 rfl (by omega) (by omega) (fun hb2 => ?_) (fun hb2 => ?_)
        · -- 27t
          refine z_iconst hC 53 dX7_over_53 ?_
          refine z_iadd (e := (c : Int)) hC 54 dX7_over_54 (by omega) ?_
          refine z_istore_n (lv' := [(3, .int (iZ ((c : Int)))), (5, .int (iZ (((u i : Nat) : Int)))), (0, .ref (ad 0)), (1, .int (iZ (m))), (2, .int (iZ ((x : Int)))), (4, .int (iZ ((i : Int))))]) hC 55 hl dX7_over_55 rfl (by decide) rfl (fun ls hl => ?_)
          refine z_iinc (lv' := [(4, .int (iZ ((i : Int) + 1))), (3, .int (iZ ((c : Int)))), (5, .int (iZ (((u i : Nat) : Int)))), (0, .ref (ad 0)), (1, .int (iZ (m))), (2, .int (iZ ((x : Int))))]) hC 56 hl dX7_over_56 5 rfl (by omega) (by decide) rfl (fun ls hl => ?_)
          refine z_goto hC 59 5 dX7_over_59 rfl ?_
          -- J5.2
          exact ih5 (i + 1) c _ _ _ (by omega) (by first | assumption | omega) (by first | rfl | (rw [sm_succ _ (Nat.zero_le _)]; split at hov <;> omega)) (by first | assumption | omega) hH (z_lv (lv_sub hl [3, 4, 5, 1, 0] rfl) (zcons rfl (zcons rfl (zcons rfl (zcons rfl (zcons (zpeq (by omega)) rfl))))))
        · -- 27f
          refine z_aload_n hC 30 hl dX7_over_30 rfl 1 rfl ?_
          refine gmW_34 hC hH 31 dX7_over_31 ?_
          refine z_iload hC 34 hl dX7_over_34 0 rfl ?_
          refine lmW_34 (x := ((o (u i) : Nat) : Int)) hC hH 36 ((u i)) (by omega) (by omega) (cI_lt (by omega)) dX7_over_36 ?_
          refine z_iload_n hC 37 hl dX7_over_37 rfl 2 rfl ?_
          refine z_icmp_le hC 38 53 dX7_over_38 rfl (by omega) (by omega) (fun hb3 => ?_) (fun hb3 => ?_)
          · -- 38t
            refine z_iconst hC 53 dX7_over_53 ?_
            refine z_iadd (e := (c : Int)) hC 54 dX7_over_54 (by omega) ?_
            refine z_istore_n (lv' := [(3, .int (iZ ((c : Int)))), (5, .int (iZ (((u i : Nat) : Int)))), (0, .ref (ad 0)), (1, .int (iZ (m))), (2, .int (iZ ((x : Int)))), (4, .int (iZ ((i : Int))))]) hC 55 hl dX7_over_55 rfl (by decide) rfl (fun ls hl => ?_)
            refine z_iinc (lv' := [(4, .int (iZ ((i : Int) + 1))), (3, .int (iZ ((c : Int)))), (5, .int (iZ (((u i : Nat) : Int)))), (0, .ref (ad 0)), (1, .int (iZ (m))), (2, .int (iZ ((x : Int))))]) hC 56 hl dX7_over_56 5 rfl (by omega) (by decide) rfl (fun ls hl => ?_)
            refine z_goto hC 59 5 dX7_over_59 rfl ?_
            -- J5.3
            exact ih5 (i + 1) c _ _ _ (by omega) (by first | assumption | omega) (by first | rfl | (rw [sm_succ _ (Nat.zero_le _)]; split at hov <;> omega)) (by first | assumption | omega) hH (z_lv (lv_sub hl [3, 4, 5, 1, 0] rfl) (zcons rfl (zcons rfl (zcons rfl (zcons rfl (zcons (zpeq (by omega)) rfl))))))
          · -- 38f
            refine z_aload_n hC 41 hl dX7_over_41 rfl 1 rfl ?_
            refine gmW_34 hC hH 42 dX7_over_42 ?_
            refine z_iload hC 45 hl dX7_over_45 0 rfl ?_
            refine lmW_34 (x := ((o (u i) : Nat) : Int)) hC hH 47 ((u i)) (by omega) (by omega) (cI_lt (by omega)) dX7_over_47 ?_
            refine z_iload_n hC 48 hl dX7_over_48 rfl 2 rfl ?_
            refine z_isub (e := ((o (u i) : Nat) : Int) - m) hC 49 dX7_over_49 rfl ?_
            refine z_goto hC 50 54 dX7_over_50 rfl ?_
            refine z_iadd (e := (c : Int) + ((o (u i) : Nat) : Int) - m) hC 54 dX7_over_54 (by omega) ?_
            refine z_istore_n (lv' := [(3, .int (iZ ((c : Int) + ((o (u i) : Nat) : Int) - m))), (5, .int (iZ (((u i : Nat) : Int)))), (0, .ref (ad 0)), (1, .int (iZ (m))), (2, .int (iZ ((x : Int)))), (4, .int (iZ ((i : Int))))]) hC 55 hl dX7_over_55 rfl (by decide) rfl (fun ls hl => ?_)
            refine z_iinc (lv' := [(4, .int (iZ ((i : Int) + 1))), (3, .int (iZ ((c : Int) + ((o (u i) : Nat) : Int) - m))), (5, .int (iZ (((u i : Nat) : Int)))), (0, .ref (ad 0)), (1, .int (iZ (m))), (2, .int (iZ ((x : Int))))]) hC 56 hl dX7_over_56 5 rfl (by omega) (by decide) rfl (fun ls hl => ?_)
            refine z_goto hC 59 5 dX7_over_59 rfl ?_
            -- J5.4
            exact ih5 (i + 1) (((c : Int) + ((o (u i) : Nat) : Int) - m).toNat) _ _ _ (by omega) (by first | assumption | omega) (by first | rfl | (rw [sm_succ _ (Nat.zero_le _)]; split at hov <;> omega)) (by first | assumption | omega) hH (z_lv (lv_sub hl [3, 4, 5, 1, 0] rfl) (zcons rfl (zcons rfl (zcons rfl (zcons (zpeq (by omega)) (zcons (zpeq (by omega)) rfl))))))
  -- J5.5
  exact L5 _ 0 0 _ _ _ (Nat.lt_succ_self _) (by first | assumption | omega) (by first | rfl | (rw [sm_succ _ (Nat.zero_le _)]; split at hov <;> omega)) (by first | assumption | omega) hH (z_lv (lv_sub hl [2, 3, 4, 1, 0] rfl) (zcons rfl (zcons rfl (zcons rfl (zcons (zpeq (by omega)) (zcons (zpeq (by omega)) rfl))))))

set_option maxHeartbeats 4000000 in
set_option maxRecDepth 100000 in
theorem m_X7_needed (lau : Launch) (s0 : State) (G : zG) (sz : Nat) (ad : Nat → Nat) (F : Nat → Int) (Ar : Nat → Nat → Int) (n : Nat) (v : Nat → Nat) (gv : Nat → Int) (t : Nat) (l : Int) (r : Int) (x : Int) (hn : n ≤ 120) (hv : ∀ i, i < n → v i < 1000) (ht : t < 4) (hr_l : -2147483648 ≤ l ∧ l < 2147483648) (hr_r : -2147483648 ≤ r ∧ r < 2147483648) (hr_x : -2147483648 ≤ x ∧ x < 2147483648) : zMet (S := Int × (Nat → Int) × (Nat → Nat → Int)) lau yX7_needed cX7_needed 5 (some .int) 1 25 0 0 s0 G sz [.ref (ad 0), .int (iZ (l)), .int (iZ (r)), .int (iZ (x))] (mW ad G (va_up (va_up F 5 ((n : Int))) 7 ((t : Int))) (va_up Ar 3 (cI (n) v gv))) (fun ((r_, F2, A2) : Int × (Nat → Int) × (Nat → Nat → Int)) => some (.int (iZ (r_)))) (fun ((r_, F2, A2) : Int × (Nat → Int) × (Nat → Nat → Int)) => (Sp_needed n v l r x r_) ∧ (MK (va_up (va_up F 5 ((n : Int))) 7 ((t : Int))) (va_up Ar 3 (cI (n) v gv)) F2 A2)) (fun ((r_, F2, A2) : Int × (Nat → Int) × (Nat → Nat → Int)) => (mW ad G F2 A2)) := by
  refine zMet.of (by decide) (Nat.le_of_ble_eq_true rfl) ?_
  intro pg ev s1 mi ar bl me cd ls Q as0 hC hH hl hQ hsz
  generalize s1.heap = H at hH ⊢
  generalize ([] : List Loc) = locs at hH ⊢
  have hl : lv_has ls 5 [(0, .ref (ad 0)), (1, .int (iZ (l))), (2, .int (iZ (r))), (3, .int (iZ (x)))] := hl
  refine z_aload_n hC 0 hl dX7_needed_0 rfl 0 rfl ?_
  refine z_iconst hC 1 dX7_needed_1 ?_
  refine pmW_0 hC hH 2 dX7_needed_2 (fun H locs hH => ?_)
  have hH : zH s0 s1 G as0 (mW ad G (va_up (va_up (va_up F 0 (0)) 5 ((n : Int))) 7 ((t : Int))) (va_up Ar 3 (cI (n) v gv))) H locs := hH
  refine z_aload_n hC 5 hl dX7_needed_5 rfl 0 rfl ?_
  refine z_iload_n hC 6 hl dX7_needed_6 rfl 1 rfl ?_
  refine z_iload_n hC 7 hl dX7_needed_7 rfl 2 rfl ?_
  refine z_same (z_runV hC hH.2.2 hl.1 hH.1 hH.2.1 2 (As := [.int (iZ (l)), .int (iZ (r))]) (rest := []) (m_X7_isSpan lau s0 G _ ad (va_up (va_up (va_up F 0 (0)) 5 ((n : Int))) 7 ((t : Int))) (va_up Ar 3 (cI (n) v gv)) n l r (by first | assumption | omega) (by first | assumption | omega) (by first | assumption | omega)) (lw_V q1712 q1714 qs68 q95 q1715) ⟨rfl, by decide, by decide, by decide +kernel⟩ (q0 := 0) (ci := 0) rfl rfl rfl rfl (Nat.le_of_ble_eq_true rfl) ⟨Nat.le_of_ble_eq_true rfl, Nat.le_of_ble_eq_true rfl⟩ ⟨Nat.le_of_ble_eq_true rfl, Nat.le_of_ble_eq_true rfl⟩ dX7_needed_8) hH (fun r_8 H locs hpost hH => ?_)
  have hb_8 : (r_8 = 1 ∧ (0 ≤ l ∧ l ≤ r ∧ r < (n : Int))) ∨ (r_8 = 0 ∧ ¬ (0 ≤ l ∧ l ≤ r ∧ r < (n : Int))) := hpost
  have hH : zH s0 s1 G as0 (mW ad G (va_up (va_up (va_up F 0 (0)) 5 ((n : Int))) 7 ((t : Int))) (va_up Ar 3 (cI (n) v gv))) H locs := hH
  refine z_st (st' := [.int (iZ (r_8))]) rfl ?_
  rcases hb_8 with ⟨rfl, hb_8⟩ | ⟨rfl, hb_8⟩
  · -- 8=1
    refine z_if_eq_f hC 11 21 dX7_needed_11 rfl (by omega) (by omega) ?_
    refine z_iload_n hC 14 hl dX7_needed_14 rfl 3 rfl ?_
    refine z_same (z_runS hC hH.2.2 hl.1 hH.1 hH.2.1 1 (As := [.int (iZ (x))]) (rest := []) (m_X7_isValue lau s0 G _ ad (va_up (va_up (va_up F 0 (0)) 5 ((n : Int))) 7 ((t : Int))) (va_up Ar 3 (cI (n) v gv)) x (by first | assumption | omega)) (lw_S q1677 q1678 q95 q1679) ⟨by decide, by decide, by decide +kernel⟩ rfl rfl (Nat.le_of_ble_eq_true rfl) ⟨Nat.le_of_ble_eq_true rfl, Nat.le_of_ble_eq_true rfl⟩ ⟨Nat.le_of_ble_eq_true rfl, Nat.le_of_ble_eq_true rfl⟩ dX7_needed_15) hH (fun r_15 H locs hpost hH => ?_)
    have hb_15 : (r_15 = 1 ∧ (0 ≤ x ∧ x < 1000)) ∨ (r_15 = 0 ∧ ¬ (0 ≤ x ∧ x < 1000)) := hpost
    have hH : zH s0 s1 G as0 (mW ad G (va_up (va_up (va_up F 0 (0)) 5 ((n : Int))) 7 ((t : Int))) (va_up Ar 3 (cI (n) v gv))) H locs := hH
    refine z_st (st' := [.int (iZ (r_15))]) rfl ?_
    rcases hb_15 with ⟨rfl, hb_15⟩ | ⟨rfl, hb_15⟩
    · -- 15=1
      refine z_if_ne_t hC 18 23 dX7_needed_18 rfl (by omega) (by omega) ?_
      obtain ⟨l1, rfl⟩ := Int.eq_ofNat_of_zero_le (show 0 ≤ l by omega)
      obtain ⟨r1, rfl⟩ := Int.eq_ofNat_of_zero_le (show 0 ≤ r by omega)
      obtain ⟨x1, rfl⟩ := Int.eq_ofNat_of_zero_le (show 0 ≤ x by omega)
      refine z_aload_n hC 23 hl dX7_needed_23 rfl 0 rfl ?_
      refine z_iload_n hC 24 hl dX7_needed_24 rfl 1 rfl ?_
      refine z_iload_n hC 25 hl dX7_needed_25 rfl 2 rfl ?_
      refine z_iconst hC 26 dX7_needed_26 ?_
      refine z_st (st' := [.int (iZ ((-1))), .int (iZ (((r1 + 1 : Nat) : Int) - 1)), .int (iZ ((l1 : Int))), .ref (ad 0)]) (zcons rfl (zcons (zieq (by omega)) (zcons rfl rfl))) ?_
      refine z_same (z_runV hC hH.2.2 hl.1 hH.1 hH.2.1 3 (As := [.int (iZ ((l1 : Int))), .int (iZ (((r1 + 1 : Nat) : Int) - 1)), .int (iZ ((-1)))]) (rest := []) (m_X7_counts lau s0 G _ ad (va_up (va_up (va_up F 0 (0)) 5 ((n : Int))) 7 ((t : Int))) (va_up Ar 3 (cI (n) v gv)) n v gv l1 (r1 + 1) (-1) v (by first | assumption | omega) (by first | assumption | omega) (by first | assumption | omega) (by first | assumption | omega) (by first | assumption | omega) (by exact fun i _ _ => ⟨fun q => by omega, fun _ => rfl⟩)) (lw_V q1764 q1766 qs73 q95 q1767) ⟨rfl, by decide, by decide, by decide +kernel⟩ (q0 := 0) (ci := 0) rfl rfl rfl rfl (Nat.le_of_ble_eq_true rfl) ⟨Nat.le_of_ble_eq_true rfl, Nat.le_of_ble_eq_true rfl⟩ ⟨Nat.le_of_ble_eq_true rfl, Nat.le_of_ble_eq_true rfl⟩ dX7_needed_27) hH (fun u_ H locs hpost hH => ?_)
      obtain ⟨o_27, go_27, fo_27, la_27, k_27, u_27, gu_27⟩ := u_
      have pCO_27 : CO v l1 (r1 + 1) o_27 fo_27 la_27 k_27 u_27 := hpost
      have hH : zH s0 s1 G as0 (mW ad G (va_up (va_up (va_up (va_up F 0 (0)) 5 ((n : Int))) 7 ((t : Int))) 38 ((k_27 : Int))) (va_up (va_up (va_up (va_up (va_up Ar 3 (cI (n) v gv)) 34 (cI (1000) o_27 go_27)) 35 fo_27) 36 la_27) 37 (cI (k_27) u_27 gu_27))) H locs := hH
      refine z_st (st' := []) rfl ?_
      have ho1 := pCO_27.1 x1 (by omega)
      have hc1 := cnt_le v l1 (r1 + 1) x1
      refine z_iconst hC 30 dX7_needed_30 ?_
      refine z_istore (lv' := [(4, .int (iZ (0))), (0, .ref (ad 0)), (1, .int (iZ ((l1 : Int)))), (2, .int (iZ ((r1 : Int)))), (3, .int (iZ ((x1 : Int))))]) hC 31 hl dX7_needed_31 (by decide) rfl (fun ls hl => ?_)
      have L33 : ∀ (N_ : Nat) (k : Nat) (H : Heap) (locs : List Loc) (ls : Array Slot), 200 - k < N_ → (∀ j : Nat, j < k → j < ov v l1 (r1 + 1) x1 ((cnt v l1 (r1 + 1) x1 : Int) + (j : Int) - 1)) → zH s0 s1 G as0 (mW ad G (va_up (va_up (va_up (va_up F 0 (0)) 5 ((n : Int))) 7 ((t : Int))) 38 ((k_27 : Int))) (va_up (va_up (va_up (va_up (va_up Ar 3 (cI (n) v gv)) 34 (cI (1000) o_27 go_27)) 35 fo_27) 36 la_27) 37 (cI (k_27) u_27 gu_27))) H locs → lv_has ls 5 [(0, .ref (ad 0)), (1, .int (iZ ((l1 : Int)))), (2, .int (iZ ((r1 : Int)))), (3, .int (iZ ((x1 : Int)))), (4, .int (iZ ((k : Int))))] → W pg lau ev (zRm 1 0 0 25) s1 mi ar bl me cd H locs 0 0 Q (F0 mi 33 ls []) := by
        intro N_
        induction N_ with
        | zero => intro k H locs ls hd; exact absurd hd (Nat.not_lt_zero _)
        | succ N_ ih33 =>
          intro k H locs ls hd33 ix hH hl
          have hxb : k < 200 := by rcases Nat.lt_or_ge k 200 with q1 | q1; (· exact q1); (· have q2 := ix 150 (by omega); rw [ov_0 (fun y => by have := cnt_le v l1 (r1 + 1) y; omega)] at q2; omega)
          refine z_aload_n hC 33 hl dX7_needed_33 rfl 0 rfl ?_
          refine z_aload_n hC 34 hl dX7_needed_34 rfl 0 rfl ?_
          refine gmW_34 hC hH 35 dX7_needed_35 ?_
          refine z_iload_n hC 38 hl dX7_needed_38 rfl 3 rfl ?_
          refine lmW_34 (x := ((o_27 x1 : Nat) : Int)) hC hH 39 (x1) (by omega) (by omega) (cI_lt (by omega)) dX7_needed_39 ?_
          refine z_iload hC 40 hl dX7_needed_40 4 rfl ?_
          refine z_iadd (e := ((o_27 x1 : Nat) : Int) + (k : Int)) hC 42 dX7_needed_42 rfl ?_
          refine z_iconst hC 43 dX7_needed_43 ?_
          refine z_isub (e := ((o_27 x1 : Nat) : Int) + (k : Int) - 1) hC 44 dX7_needed_44 rfl ?_
          refine z_iload_n hC 45 hl dX7_needed_45 rfl 3 rfl ?_
          refine z_st (st' := [.int (iZ ((x1 : Int))), .int (iZ ((((cnt v l1 (r1 + 1) x1 : Nat) : Int) + (k : Int) - 1))), .ref (ad 0)]) (zcons rfl (zcons (zieq (by omega)) rfl)) ?_
          refine z_same (z_runV hC hH.2.2 hl.1 hH.1 hH.2.1 2 (As := [.int (iZ ((((cnt v l1 (r1 + 1) x1 : Nat) : Int) + (k : Int) - 1))), .int (iZ ((x1 : Int)))]) (rest := []) (m_X7_over lau s0 G _ ad (va_up (va_up (va_up (va_up F 0 (0)) 5 ((n : Int))) 7 ((t : Int))) 38 ((k_27 : Int))) (va_up (va_up (va_up (va_up (va_up Ar 3 (cI (n) v gv)) 34 (cI (1000) o_27 go_27)) 35 fo_27) 36 la_27) 37 (cI (k_27) u_27 gu_27)) v l1 (r1 + 1) o_27 go_27 fo_27 la_27 k_27 u_27 gu_27 x1 (((cnt v l1 (r1 + 1) x1 : Nat) : Int) + (k : Int) - 1) (by first | assumption | omega) (by first | assumption | omega) (by first | assumption | omega) (by first | assumption | omega)) (lw_V q1892 q1894 qs85 q95 q1895) ⟨rfl, by decide, by decide, by decide +kernel⟩ (q0 := 0) (ci := 0) rfl rfl rfl rfl (Nat.le_of_ble_eq_true rfl) ⟨Nat.le_of_ble_eq_true rfl, Nat.le_of_ble_eq_true rfl⟩ ⟨Nat.le_of_ble_eq_true rfl, Nat.le_of_ble_eq_true rfl⟩ dX7_needed_46) hH (fun _ H locs hpost hH => ?_)
          have pb_46 : ov v l1 (r1 + 1) x1 (((cnt v l1 (r1 + 1) x1 : Nat) : Int) + (k : Int) - 1) ≤ 121000 := hpost
          have hH : zH s0 s1 G as0 (mW ad G (va_up (va_up (va_up (va_up F 0 (0)) 5 ((n : Int))) 7 ((t : Int))) 38 ((k_27 : Int))) (va_up (va_up (va_up (va_up (va_up Ar 3 (cI (n) v gv)) 34 (cI (1000) o_27 go_27)) 35 fo_27) 36 la_27) 37 (cI (k_27) u_27 gu_27))) H locs := hH
          refine z_st (st' := [.int (iZ (((ov v l1 (r1 + 1) x1 (((cnt v l1 (r1 + 1) x1 : Nat) : Int) + (k : Int) - 1) : Nat) : Int)))]) rfl ?_
          refine z_iload hC 49 hl dX7_needed_49 4 rfl ?_
          refine z_icmp_le hC 51 60 dX7_needed_51 rfl (by omega) (by omega) (fun hb1 => ?_) (fun hb1 => ?_)
          · -- 51t
            refine z_iload hC 60 hl dX7_needed_60 4 rfl ?_
            -- R62.1
            exact z_iret hC hH hQ 62 (((k : Int), (va_up (va_up (va_up (va_up F 0 (0)) 5 ((n : Int))) 7 ((t : Int))) 38 ((k_27 : Int))), (va_up (va_up (va_up (va_up (va_up Ar 3 (cI (n) v gv)) 34 (cI (1000) o_27 go_27)) 35 fo_27) 36 la_27) 37 (cI (k_27) u_27 gu_27)))) dX7_needed_62 rfl ⟨by (unfold Sp_needed; rw [if_pos (by omega)]; simp only [Int.toNat_natCast, zt1]; exact ⟨k, by omega, ix, rfl⟩), by exact ⟨rfl, rfl, rfl, rfl, rfl, rfl, rfl, rfl, rfl, rfl, rfl, rfl, rfl, rfl, rfl, rfl⟩⟩ rfl (Nat.le_refl _) (Nat.le_refl _)
          · -- 51f
            refine z_iinc (lv' := [(4, .int (iZ ((k : Int) + 1))), (0, .ref (ad 0)), (1, .int (iZ ((l1 : Int)))), (2, .int (iZ ((r1 : Int)))), (3, .int (iZ ((x1 : Int))))]) hC 54 hl dX7_needed_54 4 rfl (by omega) (by decide) rfl (fun ls hl => ?_)
            refine z_goto hC 57 33 dX7_needed_57 rfl ?_
            -- J33.2
            exact ih33 (k + 1) _ _ _ (by omega) (by first | (intro j q1; omega) | (intro j q1; by_cases e : j = k; (· subst e; omega); (· exact ix j (by omega)))) hH (z_lv (lv_sub hl [1, 2, 3, 4, 0] rfl) (zcons rfl (zcons rfl (zcons rfl (zcons rfl (zcons (zpeq (by omega)) rfl))))))
      -- J33.3
      exact L33 _ 0 _ _ _ (Nat.lt_succ_self _) (by first | (intro j q1; omega) | (intro j q1; by_cases e : j = k; (· subst e; omega); (· exact ix j (by omega)))) hH (z_lv (lv_sub hl [1, 2, 3, 4, 0] rfl) (zcons rfl (zcons rfl (zcons rfl (zcons rfl (zcons (zpeq (by omega)) rfl))))))
    · -- 15=0
      refine z_if_ne_f hC 18 23 dX7_needed_18 rfl (by omega) (by omega) ?_
      refine z_iconst hC 21 dX7_needed_21 ?_
      -- R22.4
      exact z_iret hC hH hQ 22 (((-1), (va_up (va_up (va_up F 0 (0)) 5 ((n : Int))) 7 ((t : Int))), (va_up Ar 3 (cI (n) v gv)))) dX7_needed_22 rfl ⟨by first | (unfold Sp_needed; rw [if_neg (by omega)]) | (unfold Sp_needed; rw [if_pos (by omega)]), by exact ⟨rfl, rfl, rfl, rfl, rfl, rfl, rfl, rfl, rfl, rfl, rfl, rfl, rfl, rfl, rfl, rfl⟩⟩ rfl (Nat.le_refl _) (Nat.le_refl _)
  · -- 8=0
    refine z_if_eq_t hC 11 21 dX7_needed_11 rfl (by omega) (by omega) ?_
    refine z_iconst hC 21 dX7_needed_21 ?_
    -- R22.5
    exact z_iret hC hH hQ 22 (((-1), (va_up (va_up (va_up F 0 (0)) 5 ((n : Int))) 7 ((t : Int))), (va_up Ar 3 (cI (n) v gv)))) dX7_needed_22 rfl ⟨by first | (unfold Sp_needed; rw [if_neg (by omega)]) | (unfold Sp_needed; rw [if_pos (by omega)]), by exact ⟨rfl, rfl, rfl, rfl, rfl, rfl, rfl, rfl, rfl, rfl, rfl, rfl, rfl, rfl, rfl, rfl⟩⟩ rfl (Nat.le_refl _) (Nat.le_refl _)

set_option maxHeartbeats 4000000 in
set_option maxRecDepth 100000 in
theorem m_X7_together (lau : Launch) (s0 : State) (G : zG) (sz : Nat) (ad : Nat → Nat) (F : Nat → Int) (Ar : Nat → Nat → Int) (n : Nat) (v : Nat → Nat) (gv : Nat → Int) (t : Nat) (l : Int) (r : Int) (m : Int) (k0 : Int) (q : Int) (hn : n ≤ 120) (hv : ∀ i, i < n → v i < 1000) (ht : t < 4) (hr_l : -2147483648 ≤ l ∧ l < 2147483648) (hr_r : -2147483648 ≤ r ∧ r < 2147483648) (hr_m : -2147483648 ≤ m ∧ m < 2147483648) (hr_k0 : -2147483648 ≤ k0 ∧ k0 < 2147483648) (hr_q : -2147483648 ≤ q ∧ q < 2147483648) : zMet (S := Int × (Nat → Int) × (Nat → Nat → Int)) lau yX7_together cX7_together 8 (some .int) 2 46 0 0 s0 G sz [.ref (ad 0), .int (iZ (l)), .int (iZ (r)), .int (iZ (m)), .int (iZ (k0)), .int (iZ (q))] (mW ad G (va_up (va_up F 5 ((n : Int))) 7 ((t : Int))) (va_up Ar 3 (cI (n) v gv))) (fun ((r_, F2, A2) : Int × (Nat → Int) × (Nat → Nat → Int)) => some (.int (iZ (r_)))) (fun ((r_, F2, A2) : Int × (Nat → Int) × (Nat → Nat → Int)) => (Sp_together n v t l r m k0 q r_) ∧ (MK (va_up (va_up F 5 ((n : Int))) 7 ((t : Int))) (va_up Ar 3 (cI (n) v gv)) F2 A2)) (fun ((r_, F2, A2) : Int × (Nat → Int) × (Nat → Nat → Int)) => (mW ad G F2 A2)) := by
  refine zMet.of (by decide) (Nat.le_of_ble_eq_true rfl) ?_
  intro pg ev s1 mi ar bl me cd ls Q as0 hC hH hl hQ hsz
  generalize s1.heap = H at hH ⊢
  generalize ([] : List Loc) = locs at hH ⊢
  have hl : lv_has ls 8 [(0, .ref (ad 0)), (1, .int (iZ (l))), (2, .int (iZ (r))), (3, .int (iZ (m))), (4, .int (iZ (k0))), (5, .int (iZ (q)))] := hl
  refine z_aload_n hC 0 hl dX7_together_0 rfl 0 rfl ?_
  refine z_iconst hC 1 dX7_together_1 ?_
  refine pmW_0 hC hH 2 dX7_together_2 (fun H locs hH => ?_)
  have hH : zH s0 s1 G as0 (mW ad G (va_up (va_up (va_up F 0 (0)) 5 ((n : Int))) 7 ((t : Int))) (va_up Ar 3 (cI (n) v gv))) H locs := hH
  refine z_aload_n hC 5 hl dX7_together_5 rfl 0 rfl ?_
  refine z_iload_n hC 6 hl dX7_together_6 rfl 1 rfl ?_
  refine z_iload_n hC 7 hl dX7_together_7 rfl 2 rfl ?_
  refine z_same (z_runV hC hH.2.2 hl.1 hH.1 hH.2.1 2 (As := [.int (iZ (l)), .int (iZ (r))]) (rest := []) (m_X7_isSpan lau s0 G _ ad (va_up (va_up (va_up F 0 (0)) 5 ((n : Int))) 7 ((t : Int))) (va_up Ar 3 (cI (n) v gv)) n l r (by first | assumption | omega) (by first | assumption | omega) (by first | assumption | omega)) (lw_V q1712 q1714 qs68 q95 q1715) ⟨rfl, by decide, by decide, by decide +kernel⟩ (q0 := 0) (ci := 0) rfl rfl rfl rfl (Nat.le_of_ble_eq_true rfl) ⟨Nat.le_of_ble_eq_true rfl, Nat.le_of_ble_eq_true rfl⟩ ⟨Nat.le_of_ble_eq_true rfl, Nat.le_of_ble_eq_true rfl⟩ dX7_together_8) hH (fun r_8 H locs hpost hH => ?_)
  have hb_8 : (r_8 = 1 ∧ (0 ≤ l ∧ l ≤ r ∧ r < (n : Int))) ∨ (r_8 = 0 ∧ ¬ (0 ≤ l ∧ l ≤ r ∧ r < (n : Int))) := hpost
  have hH : zH s0 s1 G as0 (mW ad G (va_up (va_up (va_up F 0 (0)) 5 ((n : Int))) 7 ((t : Int))) (va_up Ar 3 (cI (n) v gv))) H locs := hH
  refine z_st (st' := [.int (iZ (r_8))]) rfl ?_
  rcases hb_8 with ⟨rfl, hb_8⟩ | ⟨rfl, hb_8⟩
  · -- 8=1
    refine z_if_eq_f hC 11 35 dX7_together_11 rfl (by omega) (by omega) ?_
    refine z_aload_n hC 14 hl dX7_together_14 rfl 0 rfl ?_
    refine z_iload_n hC 15 hl dX7_together_15 rfl 3 rfl ?_
    refine z_iload hC 16 hl dX7_together_16 4 rfl ?_
    refine z_same (z_runV hC hH.2.2 hl.1 hH.1 hH.2.1 2 (As := [.int (iZ (m)), .int (iZ (k0))]) (rest := []) (m_X7_isSpan lau s0 G _ ad (va_up (va_up (va_up F 0 (0)) 5 ((n : Int))) 7 ((t : Int))) (va_up Ar 3 (cI (n) v gv)) n m k0 (by first | assumption | omega) (by first | assumption | omega) (by first | assumption | omega)) (lw_V q1712 q1714 qs68 q95 q1715) ⟨rfl, by decide, by decide, by decide +kernel⟩ (q0 := 0) (ci := 0) rfl rfl rfl rfl (Nat.le_of_ble_eq_true rfl) ⟨Nat.le_of_ble_eq_true rfl, Nat.le_of_ble_eq_true rfl⟩ ⟨Nat.le_of_ble_eq_true rfl, Nat.le_of_ble_eq_true rfl⟩ dX7_together_18) hH (fun r_18 H locs hpost hH => ?_)
    have hb_18 : (r_18 = 1 ∧ (0 ≤ m ∧ m ≤ k0 ∧ k0 < (n : Int))) ∨ (r_18 = 0 ∧ ¬ (0 ≤ m ∧ m ≤ k0 ∧ k0 < (n : Int))) := hpost
    have hH : zH s0 s1 G as0 (mW ad G (va_up (va_up (va_up F 0 (0)) 5 ((n : Int))) 7 ((t : Int))) (va_up Ar 3 (cI (n) v gv))) H locs := hH
    refine z_st (st' := [.int (iZ (r_18))]) rfl ?_
    rcases hb_18 with ⟨rfl, hb_18⟩ | ⟨rfl, hb_18⟩
    · -- 18=1
      refine z_if_eq_f hC 21 35 dX7_together_21 rfl (by omega) (by omega) ?_
      refine z_iload hC 24 hl dX7_together_24 5 rfl ?_
      refine z_if_lt hC 26 35 dX7_together_26 rfl (by omega) (fun hb1 => ?_) (fun hb1 => ?_)
      · -- 26t
        refine z_iconst hC 35 dX7_together_35 ?_
        -- R36.1
        exact z_iret hC hH hQ 36 (((-1), (va_up (va_up (va_up F 0 (0)) 5 ((n : Int))) 7 ((t : Int))), (va_up Ar 3 (cI (n) v gv)))) dX7_together_36 rfl ⟨by first | (unfold Sp_together; rw [if_neg (by omega)]) | (unfold Sp_together; rw [if_pos (by omega)]), by exact ⟨rfl, rfl, rfl, rfl, rfl, rfl, rfl, rfl, rfl, rfl, rfl, rfl, rfl, rfl, rfl, rfl⟩⟩ rfl (Nat.le_refl _) (Nat.le_refl _)
      · -- 26f
        refine z_iload hC 29 hl dX7_together_29 5 rfl ?_
        refine z_iconst hC 31 dX7_together_31 ?_
        refine z_icmp_le hC 32 37 dX7_together_32 rfl (by omega) (by omega) (fun hb2 => ?_) (fun hb2 => ?_)
        · -- 32t
          obtain ⟨l1, rfl⟩ := Int.eq_ofNat_of_zero_le (show 0 ≤ l by omega)
          obtain ⟨r1, rfl⟩ := Int.eq_ofNat_of_zero_le (show 0 ≤ r by omega)
          obtain ⟨m1, rfl⟩ := Int.eq_ofNat_of_zero_le (show 0 ≤ m by omega)
          obtain ⟨k1, rfl⟩ := Int.eq_ofNat_of_zero_le (show 0 ≤ k0 by omega)
          refine z_aload_n hC 37 hl dX7_together_37 rfl 0 rfl ?_
          refine z_iconst hC 38 dX7_together_38 ?_
          refine z_iconst hC 39 dX7_together_39 ?_
          refine z_iconst hC 40 dX7_together_40 ?_
          refine z_st (st' := [.int (iZ ((-1))), .int (iZ (((0 : Nat) : Int) - 1)), .int (iZ (((0 : Nat) : Int))), .ref (ad 0)]) (zcons rfl (zcons (zieq (by omega)) (zcons (zieq (by omega)) rfl))) ?_
          refine z_same (z_runV hC hH.2.2 hl.1 hH.1 hH.2.1 3 (As := [.int (iZ (((0 : Nat) : Int))), .int (iZ (((0 : Nat) : Int) - 1)), .int (iZ ((-1)))]) (rest := []) (m_X7_counts lau s0 G _ ad (va_up (va_up (va_up F 0 (0)) 5 ((n : Int))) 7 ((t : Int))) (va_up Ar 3 (cI (n) v gv)) n v gv 0 0 (-1) v (by first | assumption | omega) (by first | assumption | omega) (by first | assumption | omega) (by first | assumption | omega) (by first | assumption | omega) (by exact fun i _ _ => ⟨fun q => by omega, fun _ => rfl⟩)) (lw_V q1764 q1766 qs73 q95 q1767) ⟨rfl, by decide, by decide, by decide +kernel⟩ (q0 := 0) (ci := 0) rfl rfl rfl rfl (Nat.le_of_ble_eq_true rfl) ⟨Nat.le_of_ble_eq_true rfl, Nat.le_of_ble_eq_true rfl⟩ ⟨Nat.le_of_ble_eq_true rfl, Nat.le_of_ble_eq_true rfl⟩ dX7_together_41) hH (fun u_ H locs hpost hH => ?_)
          obtain ⟨o_41, go_41, fo_41, la_41, k_41, u_41, gu_41⟩ := u_
          have pCO_41 : CO v 0 0 o_41 fo_41 la_41 k_41 u_41 := hpost
          have hH : zH s0 s1 G as0 (mW ad G (va_up (va_up (va_up (va_up F 0 (0)) 5 ((n : Int))) 7 ((t : Int))) 38 ((k_41 : Int))) (va_up (va_up (va_up (va_up (va_up Ar 3 (cI (n) v gv)) 34 (cI (1000) o_41 go_41)) 35 fo_41) 36 la_41) 37 (cI (k_41) u_41 gu_41))) H locs := hH
          refine z_st (st' := []) rfl ?_
          refine z_iconst hC 44 dX7_together_44 ?_
          refine z_istore (lv' := [(6, .int (iZ (0))), (0, .ref (ad 0)), (1, .int (iZ ((l1 : Int)))), (2, .int (iZ ((r1 : Int)))), (3, .int (iZ ((m1 : Int)))), (4, .int (iZ ((k1 : Int)))), (5, .int (iZ (q)))]) hC 45 hl dX7_together_45 (by decide) rfl (fun ls hl => ?_)
          refine z_iload_n hC 47 hl dX7_together_47 rfl 2 rfl ?_
          refine z_istore (lv' := [(7, .int (iZ ((l1 : Int)))), (6, .int (iZ (0))), (0, .ref (ad 0)), (1, .int (iZ ((l1 : Int)))), (2, .int (iZ ((r1 : Int)))), (3, .int (iZ ((m1 : Int)))), (4, .int (iZ ((k1 : Int)))), (5, .int (iZ (q)))]) hC 48 hl dX7_together_48 (by decide) rfl (fun ls hl => ?_)
          have L50 : ∀ (N_ : Nat) (j : Nat) (o : Nat → Nat) (go : Nat → Int) (fo : Nat → Int) (la : Nat → Int) (k : Nat) (u : Nat → Nat) (gu : Nat → Int) (H : Heap) (locs : List Loc) (ls : Array Slot), r1 + 1 - l1 - j < N_ → (j ≤ r1 + 1 - l1) → (CO (tgA v l1 j).1 0 j o fo la k u) → zH s0 s1 G as0 (mW ad G (va_up (va_up (va_up (va_up F 0 (0)) 5 ((n : Int))) 7 ((t : Int))) 38 ((k : Int))) (va_up (va_up (va_up (va_up (va_up Ar 3 (cI (n) v gv)) 34 (cI (1000) o go)) 35 fo) 36 la) 37 (cI (k) u gu))) H locs → lv_has ls 8 [(0, .ref (ad 0)), (1, .int (iZ ((l1 : Int)))), (2, .int (iZ ((r1 : Int)))), (3, .int (iZ ((m1 : Int)))), (4, .int (iZ ((k1 : Int)))), (5, .int (iZ (q))), (6, .int (iZ ((j : Int)))), (7, .int (iZ ((l1 : Int) + (j : Int))))] → W pg lau ev (zRm 2 0 0 46) s1 mi ar bl me cd H locs 0 0 Q (F0 mi 50 ls []) := by
            intro N_
            induction N_ with
            | zero => intro j o go fo la k u gu H locs ls hd; exact absurd hd (Nat.not_lt_zero _)
            | succ N_ ih50 =>
              intro j o go fo la k u gu H locs ls hd50 i50_1 ico hH hl
              refine z_iload hC 50 hl dX7_together_50 7 rfl ?_
              refine z_iload_n hC 52 hl dX7_together_52 rfl 2 rfl ?_
              refine z_icmp_gt hC 53 78 dX7_together_53 rfl (by omega) (by omega) (fun hb3 => ?_) (fun hb3 => ?_)
              · -- 53t
                have ej : j = r1 + 1 - l1 := by omega
                have e0 : (tgB v l1 (r1 + 1) m1 0).2 = r1 + 1 - l1 := tgA_n v l1 _
                refine z_iload_n hC 78 hl dX7_together_78 rfl 3 rfl ?_
                refine z_istore (lv' := [(7, .int (iZ ((m1 : Int)))), (0, .ref (ad 0)), (1, .int (iZ ((l1 : Int)))), (2, .int (iZ ((r1 : Int)))), (3, .int (iZ ((m1 : Int)))), (4, .int (iZ ((k1 : Int)))), (5, .int (iZ (q))), (6, .int (iZ ((j : Int))))]) hC 79 hl dX7_together_79 (by decide) rfl (fun ls hl => ?_)
                have L81 : ∀ (N_ : Nat) (i : Nat) (o : Nat → Nat) (go : Nat → Int) (fo : Nat → Int) (la : Nat → Int) (k : Nat) (u : Nat → Nat) (gu : Nat → Int) (H : Heap) (locs : List Loc) (ls : Array Slot), k1 + 1 - m1 - i < N_ → (i ≤ k1 + 1 - m1) → (CO (tgB v l1 (r1 + 1) m1 i).1 0 (tgB v l1 (r1 + 1) m1 i).2 o fo la k u) → zH s0 s1 G as0 (mW ad G (va_up (va_up (va_up (va_up F 0 (0)) 5 ((n : Int))) 7 ((t : Int))) 38 ((k : Int))) (va_up (va_up (va_up (va_up (va_up Ar 3 (cI (n) v gv)) 34 (cI (1000) o go)) 35 fo) 36 la) 37 (cI (k) u gu))) H locs → lv_has ls 8 [(0, .ref (ad 0)), (1, .int (iZ ((l1 : Int)))), (2, .int (iZ ((r1 : Int)))), (3, .int (iZ ((m1 : Int)))), (4, .int (iZ ((k1 : Int)))), (5, .int (iZ (q))), (6, .int (iZ ((((tgB v l1 (r1 + 1) m1 i).2 : Nat) : Int)))), (7, .int (iZ ((m1 : Int) + (i : Int))))] → W pg lau ev (zRm 2 0 0 46) s1 mi ar bl me cd H locs 0 0 Q (F0 mi 81 ls []) := by
                  intro N_
                  induction N_ with
                  | zero => intro i o go fo la k u gu H locs ls hd; exact absurd hd (Nat.not_lt_zero _)
                  | succ N_ ih81 =>
                    intro i o go fo la k u gu H locs ls hd81 i81_1 ico2 hH hl
                    have htb := tgB_n v l1 (r1 + 1) m1 i
                    have htl := tgB_n2 (v := v) (l := l1) (R := r1 + 1) (m := m1) (n := n) (by omega) (by omega) i (by omega)
                    refine z_iload hC 81 hl dX7_together_81 7 rfl ?_
                    refine z_iload hC 83 hl dX7_together_83 4 rfl ?_
                    refine z_icmp_gt hC 85 125 dX7_together_85 rfl (by omega) (by omega) (fun hb4 => ?_) (fun hb4 => ?_)
                    · -- 85t
                      have ei : i = k1 + 1 - m1 := by omega
                      have hkk : 0 < k := tg_kpos ico2 (by omega) (tg_lt hv (by omega) (by omega) i (by omega))
                      have hmd2 := md_spec (t := t) ico2.2.2 hkk
                      rw [ei] at hmd2 htb htl
                      refine z_aload_n hC 125 hl dX7_together_125 rfl 0 rfl ?_
                      refine z_aload_n hC 126 hl dX7_together_126 rfl 0 rfl ?_
                      refine z_aload_n hC 127 hl dX7_together_127 rfl 0 rfl ?_
                      refine gmW_7 (x := (t : Int)) hC hH 128 rfl dX7_together_128 ?_
                      refine z_same (z_runV hC hH.2.2 hl.1 hH.1 hH.2.1 1 (As := [.int (iZ ((t : Int)))]) (rest := [.ref (ad 0)]) (m_X7_modeBy lau s0 G _ ad (va_up (va_up (va_up (va_up F 0 (0)) 5 ((n : Int))) 7 ((t : Int))) 38 ((k : Int))) (va_up (va_up (va_up (va_up (va_up Ar 3 (cI (n) v gv)) 34 (cI (1000) o go)) 35 fo) 36 la) 37 (cI (k) u gu)) ((tgB v l1 (r1 + 1) m1 (k1 + 1 - m1)).1) 0 ((tgB v l1 (r1 + 1) m1 (k1 + 1 - m1)).2) o go fo la k u gu t (by rw [← ei]; exact ico2) (by omega) (by first | assumption | omega)) (lw_V q1768 q1770 qs74 q95 q1771) ⟨rfl, by decide, by decide, by decide +kernel⟩ (q0 := 0) (ci := 0) rfl rfl rfl rfl (Nat.le_of_ble_eq_true rfl) ⟨Nat.le_of_ble_eq_true rfl, Nat.le_of_ble_eq_true rfl⟩ ⟨Nat.le_of_ble_eq_true rfl, Nat.le_of_ble_eq_true rfl⟩ dX7_together_131) hH (fun r_131 H locs hpost hH => ?_)
                      have p1_131 : (k = 0 ∧ r_131 = -1) ∨ (0 < k ∧ r_131 = (md ((tgB v l1 (r1 + 1) m1 (k1 + 1 - m1)).1) 0 ((tgB v l1 (r1 + 1) m1 (k1 + 1 - m1)).2) t : Int)) := hpost
                      have hH : zH s0 s1 G as0 (mW ad G (va_up (va_up (va_up (va_up F 0 (0)) 5 ((n : Int))) 7 ((t : Int))) 38 ((k : Int))) (va_up (va_up (va_up (va_up (va_up Ar 3 (cI (n) v gv)) 34 (cI (1000) o go)) 35 fo) 36 la) 37 (cI (k) u gu))) H locs := hH
                      refine z_st (st' := [.int (iZ (r_131)), .ref (ad 0)]) rfl ?_
                      obtain rfl : r_131 = ((md (tgB v l1 (r1 + 1) m1 (k1 + 1 - m1)).1 0 (tgB v l1 (r1 + 1) m1 (k1 + 1 - m1)).2 t : Nat) : Int) := by omega
                      refine z_iload hC 134 hl dX7_together_134 5 rfl ?_
                      refine z_same (z_runV hC hH.2.2 hl.1 hH.1 hH.2.1 2 (As := [.int (iZ (((md (tgB v l1 (r1 + 1) m1 (k1 + 1 - m1)).1 0 (tgB v l1 (r1 + 1) m1 (k1 + 1 - m1)).2 t : Nat) : Int))), .int (iZ (q))]) (rest := []) (m_X7_told lau s0 G _ ad (va_up (va_up (va_up (va_up F 0 (0)) 5 ((n : Int))) 7 ((t : Int))) 38 ((k : Int))) (va_up (va_up (va_up (va_up (va_up Ar 3 (cI (n) v gv)) 34 (cI (1000) o go)) 35 fo) 36 la) 37 (cI (k) u gu)) ((tgB v l1 (r1 + 1) m1 (k1 + 1 - m1)).1) 0 ((tgB v l1 (r1 + 1) m1 (k1 + 1 - m1)).2) o go fo la k u gu (md (tgB v l1 (r1 + 1) m1 (k1 + 1 - m1)).1 0 (tgB v l1 (r1 + 1) m1 (k1 + 1 - m1)).2 t) q (by rw [← ei]; exact ico2) (by omega) (by first | assumption | omega) (by exact hmd2.1) (by exact hmd2.2.1)) (lw_V q1776 q1778 qs76 q95 q1779) ⟨rfl, by decide, by decide, by decide +kernel⟩ (q0 := 0) (ci := 0) rfl rfl rfl rfl (Nat.le_of_ble_eq_true rfl) ⟨Nat.le_of_ble_eq_true rfl, Nat.le_of_ble_eq_true rfl⟩ ⟨Nat.le_of_ble_eq_true rfl, Nat.le_of_ble_eq_true rfl⟩ dX7_together_136) hH (fun _ H locs hpost hH => ?_)
                      have hH : zH s0 s1 G as0 (mW ad G (va_up (va_up (va_up (va_up F 0 (0)) 5 ((n : Int))) 7 ((t : Int))) 38 ((k : Int))) (va_up (va_up (va_up (va_up (va_up Ar 3 (cI (n) v gv)) 34 (cI (1000) o go)) 35 fo) 36 la) 37 (cI (k) u gu))) H locs := hH
                      refine z_st (st' := [.int (iZ ((toldZ ((tgB v l1 (r1 + 1) m1 (k1 + 1 - m1)).1) 0 ((tgB v l1 (r1 + 1) m1 (k1 + 1 - m1)).2) (md (tgB v l1 (r1 + 1) m1 (k1 + 1 - m1)).1 0 (tgB v l1 (r1 + 1) m1 (k1 + 1 - m1)).2 t) q)))]) rfl ?_
                      -- R139.2
                      exact z_iret hC hH hQ 139 (((toldZ ((tgB v l1 (r1 + 1) m1 (k1 + 1 - m1)).1) 0 ((tgB v l1 (r1 + 1) m1 (k1 + 1 - m1)).2) (md (tgB v l1 (r1 + 1) m1 (k1 + 1 - m1)).1 0 (tgB v l1 (r1 + 1) m1 (k1 + 1 - m1)).2 t) q), (va_up (va_up (va_up (va_up F 0 (0)) 5 ((n : Int))) 7 ((t : Int))) 38 ((k : Int))), (va_up (va_up (va_up (va_up (va_up Ar 3 (cI (n) v gv)) 34 (cI (1000) o go)) 35 fo) 36 la) 37 (cI (k) u gu)))) dX7_together_139 rfl ⟨by (unfold Sp_together; rw [if_pos (by omega)]; (try simp only [Int.toNat_natCast, zt1]); first | done | trivial | rfl | omega | (rw [if_pos (by omega)]; first | done | trivial | rfl | omega) | (rw [if_neg (by omega)]; first | done | trivial | rfl | omega)), by exact ⟨rfl, rfl, rfl, rfl, rfl, rfl, rfl, rfl, rfl, rfl, rfl, rfl, rfl, rfl, rfl, rfl⟩⟩ rfl (Nat.le_refl _) (Nat.le_refl _)
                    · -- 85f
                      refine z_iload hC 88 hl dX7_together_88 7 rfl ?_
                      refine z_iload_n hC 90 hl dX7_together_90 rfl 1 rfl ?_
                      refine z_icmp_lt hC 91 103 dX7_together_91 rfl (by omega) (by omega) (fun hb5 => ?_) (fun hb5 => ?_)
                      · -- 91t
                        have e2 := tgB_out (v := v) (l := l1) (R := r1 + 1) (m := m1) (k := i) (by omega)
                        have e3 : (tgB v l1 (r1 + 1) m1 (i + 1)).2 = (tgB v l1 (r1 + 1) m1 i).2 + 1 := by rw [e2]; rfl
                        have htl2 := tgB_n2 (v := v) (l := l1) (R := r1 + 1) (m := m1) (n := n) (by omega) (by omega) (i + 1) (by omega)
                        have hvp := hv (m1 + i) (by omega)
                        refine z_aload_n hC 103 hl dX7_together_103 rfl 0 rfl ?_
                        refine z_aload_n hC 104 hl dX7_together_104 rfl 0 rfl ?_
                        refine gmW_3 hC hH 105 dX7_together_105 ?_
                        refine z_iload hC 108 hl dX7_together_108 7 rfl ?_
                        refine lmW_3 (x := ((v (m1 + i) : Nat) : Int)) hC hH 110 (m1 + i) (by omega) (by omega) (cI_lt (by omega)) dX7_together_110 ?_
                        refine z_iload hC 111 hl dX7_together_111 6 rfl ?_
                        refine z_same (z_runV hC hH.2.2 hl.1 hH.1 hH.2.1 2 (As := [.int (iZ (((v (m1 + i) : Nat) : Int))), .int (iZ ((((tgB v l1 (r1 + 1) m1 i).2 : Nat) : Int)))]) (rest := []) (m_X7_stands lau s0 G _ ad (va_up (va_up (va_up (va_up F 0 (0)) 5 ((n : Int))) 7 ((t : Int))) 38 ((k : Int))) (va_up (va_up (va_up (va_up (va_up Ar 3 (cI (n) v gv)) 34 (cI (1000) o go)) 35 fo) 36 la) 37 (cI (k) u gu)) ((tgB v l1 (r1 + 1) m1 (i + 1)).1) 0 ((tgB v l1 (r1 + 1) m1 i).2) o go fo la k u gu (v (m1 + i)) (by exact CO_congr ico2 (fun p _ h => by rw [tgB_out (by omega)]; exact va_up_ne _ _ (by omega))) (by first | assumption | omega) (by first | assumption | omega) (by exact hv _ (by omega)) (by rw [tgB_out (by omega)]; exact va_up_self _ _ _)) (lw_V q1876 q1878 qs84 q95 q1879) ⟨rfl, by decide, by decide, by decide +kernel⟩ (q0 := 0) (ci := 0) rfl rfl rfl rfl (Nat.le_of_ble_eq_true rfl) ⟨Nat.le_of_ble_eq_true rfl, Nat.le_of_ble_eq_true rfl⟩ ⟨Nat.le_of_ble_eq_true rfl, Nat.le_of_ble_eq_true rfl⟩ dX7_together_113) hH (fun u_ H locs hpost hH => ?_)
                        obtain ⟨o2_113, go2_113, fo2_113, la2_113, k2_113, u2_113, gu2_113⟩ := u_
                        have pCO_113 : CO ((tgB v l1 (r1 + 1) m1 (i + 1)).1) 0 (((tgB v l1 (r1 + 1) m1 i).2) + 1) o2_113 fo2_113 la2_113 k2_113 u2_113 := hpost
                        have hH : zH s0 s1 G as0 (mW ad G (va_up (va_up (va_up (va_up F 0 (0)) 5 ((n : Int))) 7 ((t : Int))) 38 ((k2_113 : Int))) (va_up (va_up (va_up (va_up (va_up Ar 3 (cI (n) v gv)) 34 (cI (1000) o2_113 go2_113)) 35 fo2_113) 36 la2_113) 37 (cI (k2_113) u2_113 gu2_113))) H locs := hH
                        refine z_st (st' := []) rfl ?_
                        refine z_iinc (lv' := [(6, .int (iZ ((((tgB v l1 (r1 + 1) m1 i).2 : Nat) : Int) + 1))), (0, .ref (ad 0)), (1, .int (iZ ((l1 : Int)))), (2, .int (iZ ((r1 : Int)))), (3, .int (iZ ((m1 : Int)))), (4, .int (iZ ((k1 : Int)))), (5, .int (iZ (q))), (7, .int (iZ ((m1 : Int) + (i : Int))))]) hC 116 hl dX7_together_116 6 rfl (by omega) (by decide) rfl (fun ls hl => ?_)
                        refine z_iinc (lv' := [(7, .int (iZ ((m1 : Int) + (i : Int) + 1))), (6, .int (iZ ((((tgB v l1 (r1 + 1) m1 i).2 : Nat) : Int) + 1))), (0, .ref (ad 0)), (1, .int (iZ ((l1 : Int)))), (2, .int (iZ ((r1 : Int)))), (3, .int (iZ ((m1 : Int)))), (4, .int (iZ ((k1 : Int)))), (5, .int (iZ (q)))]) hC 119 hl dX7_together_119 7 rfl (by omega) (by decide) rfl (fun ls hl => ?_)
                        refine z_goto hC 122 81 dX7_together_122 rfl ?_
                        -- J81.3
                        exact ih81 (i + 1) o2_113 go2_113 fo2_113 la2_113 k2_113 u2_113 gu2_113 _ _ _ (by omega) (by first | assumption | omega) (by first | exact tgB_co (by rw [← ej]; exact ico) | (rw [tgB_in (by omega)]; exact ico2) | (rw [e3]; exact pCO_113)) hH (z_lv (lv_sub hl [2, 3, 4, 5, 6, 7, 1, 0] rfl) (zcons rfl (zcons rfl (zcons rfl (zcons rfl (zcons rfl (zcons rfl (zcons (zpeq (by omega)) (zcons (zpeq (by omega)) rfl)))))))))
                      · -- 91f
                        refine z_iload hC 94 hl dX7_together_94 7 rfl ?_
                        refine z_iload_n hC 96 hl dX7_together_96 rfl 2 rfl ?_
                        refine z_icmp_gt hC 97 103 dX7_together_97 rfl (by omega) (by omega) (fun hb6 => ?_) (fun hb6 => ?_)
                        · -- 97t
                          have e2 := tgB_out (v := v) (l := l1) (R := r1 + 1) (m := m1) (k := i) (by omega)
                          have e3 : (tgB v l1 (r1 + 1) m1 (i + 1)).2 = (tgB v l1 (r1 + 1) m1 i).2 + 1 := by rw [e2]; rfl
                          have htl2 := tgB_n2 (v := v) (l := l1) (R := r1 + 1) (m := m1) (n := n) (by omega) (by omega) (i + 1) (by omega)
                          have hvp := hv (m1 + i) (by omega)
                          refine z_aload_n hC 103 hl dX7_together_103 rfl 0 rfl ?_
                          refine z_aload_n hC 104 hl dX7_together_104 rfl 0 rfl ?_
                          refine gmW_3 hC hH 105 dX7_together_105 ?_
                          refine z_iload hC 108 hl dX7_together_108 7 rfl ?_
                          refine lmW_3 (x := ((v (m1 + i) : Nat) : Int)) hC hH 110 (m1 + i) (by omega) (by omega) (cI_lt (by omega)) dX7_together_110 ?_
                          refine z_iload hC 111 hl dX7_together_111 6 rfl ?_
                          refine z_same (z_runV hC hH.2.2 hl.1 hH.1 hH.2.1 2 (As := [.int (iZ (((v (m1 + i) : Nat) : Int))), .int (iZ ((((tgB v l1 (r1 + 1) m1 i).2 : Nat) : Int)))]) (rest := []) (m_X7_stands lau s0 G _ ad (va_up (va_up (va_up (va_up F 0 (0)) 5 ((n : Int))) 7 ((t : Int))) 38 ((k : Int))) (va_up (va_up (va_up (va_up (va_up Ar 3 (cI (n) v gv)) 34 (cI (1000) o go)) 35 fo) 36 la) 37 (cI (k) u gu)) ((tgB v l1 (r1 + 1) m1 (i + 1)).1) 0 ((tgB v l1 (r1 + 1) m1 i).2) o go fo la k u gu (v (m1 + i)) (by exact CO_congr ico2 (fun p _ h => by rw [tgB_out (by omega)]; exact va_up_ne _ _ (by omega))) (by first | assumption | omega) (by first | assumption | omega) (by exact hv _ (by omega)) (by rw [tgB_out (by omega)]; exact va_up_self _ _ _)) (lw_V q1876 q1878 qs84 q95 q1879) ⟨rfl, by decide, by decide, by decide +kernel⟩ (q0 := 0) (ci := 0) rfl rfl rfl rfl (Nat.le_of_ble_eq_true rfl) ⟨Nat.le_of_ble_eq_true rfl, Nat.le_of_ble_eq_true rfl⟩ ⟨Nat.le_of_ble_eq_true rfl, Nat.le_of_ble_eq_true rfl⟩ dX7_together_113) hH (fun u_ H locs hpost hH => ?_)
                          obtain ⟨o2_7, go2_8, fo2_9, la2_10, k2_11, u2_12, gu2_13⟩ := u_
                          have pCO_113 : CO ((tgB v l1 (r1 + 1) m1 (i + 1)).1) 0 (((tgB v l1 (r1 + 1) m1 i).2) + 1) o2_7 fo2_9 la2_10 k2_11 u2_12 := hpost
                          have hH : zH s0 s1 G as0 (mW ad G (va_up (va_up (va_up (va_up F 0 (0)) 5 ((n : Int))) 7 ((t : Int))) 38 ((k2_11 : Int))) (va_up (va_up (va_up (va_up (va_up Ar 3 (cI (n) v gv)) 34 (cI (1000) o2_7 go2_8)) 35 fo2_9) 36 la2_10) 37 (cI (k2_11) u2_12 gu2_13))) H locs := hH
                          refine z_st (st' := []) rfl ?_
                          refine z_iinc (lv' := [(6, .int (iZ ((((tgB v l1 (r1 + 1) m1 i).2 : Nat) : Int) + 1))), (0, .ref (ad 0)), (1, .int (iZ ((l1 : Int)))), (2, .int (iZ ((r1 : Int)))), (3, .int (iZ ((m1 : Int)))), (4, .int (iZ ((k1 : Int)))), (5, .int (iZ (q))), (7, .int (iZ ((m1 : Int) + (i : Int))))]) hC 116 hl dX7_together_116 6 rfl (by omega) (by decide) rfl (fun ls hl => ?_)
                          refine z_iinc (lv' := [(7, .int (iZ ((m1 : Int) + (i : Int) + 1))), (6, .int (iZ ((((tgB v l1 (r1 + 1) m1 i).2 : Nat) : Int) + 1))), (0, .ref (ad 0)), (1, .int (iZ ((l1 : Int)))), (2, .int (iZ ((r1 : Int)))), (3, .int (iZ ((m1 : Int)))), (4, .int (iZ ((k1 : Int)))), (5, .int (iZ (q)))]) hC 119 hl dX7_together_119 7 rfl (by omega) (by decide) rfl (fun ls hl => ?_)
                          refine z_goto hC 122 81 dX7_together_122 rfl ?_
                          -- J81.4
                          exact ih81 (i + 1) o2_7 go2_8 fo2_9 la2_10 k2_11 u2_12 gu2_13 _ _ _ (by omega) (by first | assumption | omega) (by first | exact tgB_co (by rw [← ej]; exact ico) | (rw [tgB_in (by omega)]; exact ico2) | (rw [e3]; exact pCO_113)) hH (z_lv (lv_sub hl [2, 3, 4, 5, 6, 7, 1, 0] rfl) (zcons rfl (zcons rfl (zcons rfl (zcons rfl (zcons rfl (zcons rfl (zcons (zpeq (by omega)) (zcons (zpeq (by omega)) rfl)))))))))
                        · -- 97f
                          have e4 : (tgB v l1 (r1 + 1) m1 (i + 1)).2 = (tgB v l1 (r1 + 1) m1 i).2 := by rw [tgB_in (by omega)]
                          refine z_goto hC 100 119 dX7_together_100 rfl ?_
                          refine z_iinc (lv' := [(7, .int (iZ ((m1 : Int) + (i : Int) + 1))), (0, .ref (ad 0)), (1, .int (iZ ((l1 : Int)))), (2, .int (iZ ((r1 : Int)))), (3, .int (iZ ((m1 : Int)))), (4, .int (iZ ((k1 : Int)))), (5, .int (iZ (q))), (6, .int (iZ ((((tgB v l1 (r1 + 1) m1 i).2 : Nat) : Int))))]) hC 119 hl dX7_together_119 7 rfl (by omega) (by decide) rfl (fun ls hl => ?_)
                          refine z_goto hC 122 81 dX7_together_122 rfl ?_
                          -- J81.5
                          exact ih81 (i + 1) o go fo la k u gu _ _ _ (by omega) (by first | assumption | omega) (by first | exact tgB_co (by rw [← ej]; exact ico) | (rw [tgB_in (by omega)]; exact ico2) | (rw [e3]; exact pCO_113)) hH (z_lv (lv_sub hl [1, 2, 3, 4, 5, 6, 7, 0] rfl) (zcons rfl (zcons rfl (zcons rfl (zcons rfl (zcons rfl (zcons rfl (zcons (zpeq (by omega)) (zcons (zpeq (by omega)) rfl)))))))))
                -- J81.6
                exact L81 _ 0 o go fo la k u gu _ _ _ (Nat.lt_succ_self _) (by first | assumption | omega) (by first | exact tgB_co (by rw [← ej]; exact ico) | (rw [tgB_in (by omega)]; exact ico2) | (rw [e3]; exact pCO_113)) hH (z_lv (lv_sub hl [1, 2, 3, 4, 5, 6, 7, 0] rfl) (zcons rfl (zcons rfl (zcons rfl (zcons rfl (zcons rfl (zcons rfl (zcons (zpeq (by omega)) (zcons (zpeq (by omega)) rfl)))))))))
              · -- 53f
                refine z_aload_n hC 56 hl dX7_together_56 rfl 0 rfl ?_
                refine z_aload_n hC 57 hl dX7_together_57 rfl 0 rfl ?_
                refine gmW_3 hC hH 58 dX7_together_58 ?_
                refine z_iload hC 61 hl dX7_together_61 7 rfl ?_
                refine lmW_3 (x := ((v (l1 + j) : Nat) : Int)) hC hH 63 (l1 + j) (by omega) (by omega) (cI_lt (by omega)) dX7_together_63 ?_
                have hvp := hv (l1 + j) (by omega)
                refine z_iload hC 64 hl dX7_together_64 6 rfl ?_
                refine z_same (z_runV hC hH.2.2 hl.1 hH.1 hH.2.1 2 (As := [.int (iZ (((v (l1 + j) : Nat) : Int))), .int (iZ ((j : Int)))]) (rest := []) (m_X7_stands lau s0 G _ ad (va_up (va_up (va_up (va_up F 0 (0)) 5 ((n : Int))) 7 ((t : Int))) 38 ((k : Int))) (va_up (va_up (va_up (va_up (va_up Ar 3 (cI (n) v gv)) 34 (cI (1000) o go)) 35 fo) 36 la) 37 (cI (k) u gu)) ((tgA v l1 (j + 1)).1) 0 j o go fo la k u gu (v (l1 + j)) (by exact CO_congr ico (fun p _ h => tgA_lt h)) (by first | assumption | omega) (by first | assumption | omega) (by exact hv _ (by omega)) (by exact tgA_at v l1 j)) (lw_V q1876 q1878 qs84 q95 q1879) ⟨rfl, by decide, by decide, by decide +kernel⟩ (q0 := 0) (ci := 0) rfl rfl rfl rfl (Nat.le_of_ble_eq_true rfl) ⟨Nat.le_of_ble_eq_true rfl, Nat.le_of_ble_eq_true rfl⟩ ⟨Nat.le_of_ble_eq_true rfl, Nat.le_of_ble_eq_true rfl⟩ dX7_together_66) hH (fun u_ H locs hpost hH => ?_)
                obtain ⟨o2_66, go2_66, fo2_66, la2_66, k2_66, u2_66, gu2_66⟩ := u_
                have pCO_66 : CO ((tgA v l1 (j + 1)).1) 0 (j + 1) o2_66 fo2_66 la2_66 k2_66 u2_66 := hpost
                have hH : zH s0 s1 G as0 (mW ad G (va_up (va_up (va_up (va_up F 0 (0)) 5 ((n : Int))) 7 ((t : Int))) 38 ((k2_66 : Int))) (va_up (va_up (va_up (va_up (va_up Ar 3 (cI (n) v gv)) 34 (cI (1000) o2_66 go2_66)) 35 fo2_66) 36 la2_66) 37 (cI (k2_66) u2_66 gu2_66))) H locs := hH
                refine z_st (st' := []) rfl ?_
                refine z_iinc (lv' := [(6, .int (iZ ((j : Int) + 1))), (0, .ref (ad 0)), (1, .int (iZ ((l1 : Int)))), (2, .int (iZ ((r1 : Int)))), (3, .int (iZ ((m1 : Int)))), (4, .int (iZ ((k1 : Int)))), (5, .int (iZ (q))), (7, .int (iZ ((l1 : Int) + (j : Int))))]) hC 69 hl dX7_together_69 6 rfl (by omega) (by decide) rfl (fun ls hl => ?_)
                refine z_iinc (lv' := [(7, .int (iZ ((l1 : Int) + (j : Int) + 1))), (6, .int (iZ ((j : Int) + 1))), (0, .ref (ad 0)), (1, .int (iZ ((l1 : Int)))), (2, .int (iZ ((r1 : Int)))), (3, .int (iZ ((m1 : Int)))), (4, .int (iZ ((k1 : Int)))), (5, .int (iZ (q)))]) hC 72 hl dX7_together_72 7 rfl (by omega) (by decide) rfl (fun ls hl => ?_)
                refine z_goto hC 75 50 dX7_together_75 rfl ?_
                -- J50.7
                exact ih50 (j + 1) o2_66 go2_66 fo2_66 la2_66 k2_66 u2_66 gu2_66 _ _ _ (by omega) (by first | assumption | omega) (by first | exact CO_congr pCO_41 (fun p _ h => by omega) | exact pCO_66) hH (z_lv (lv_sub hl [2, 3, 4, 5, 6, 7, 1, 0] rfl) (zcons rfl (zcons rfl (zcons rfl (zcons rfl (zcons rfl (zcons rfl (zcons (zpeq (by omega)) (zcons (zpeq (by omega)) rfl)))))))))
          -- J50.8
          exact L50 _ 0 o_41 go_41 fo_41 la_41 k_41 u_41 gu_41 _ _ _ (Nat.lt_succ_self _) (by first | assumption | omega) (by first | exact CO_congr pCO_41 (fun p _ h => by omega) | exact pCO_66) hH (z_lv (lv_sub hl [2, 3, 4, 5, 6, 7, 1, 0] rfl) (zcons rfl (zcons rfl (zcons rfl (zcons rfl (zcons rfl (zcons rfl (zcons (zpeq (by omega)) (zcons (zpeq (by omega)) rfl)))))))))
        · -- 32f
          refine z_iconst hC 35 dX7_together_35 ?_
          -- R36.9
          exact z_iret hC hH hQ 36 (((-1), (va_up (va_up (va_up F 0 (0)) 5 ((n : Int))) 7 ((t : Int))), (va_up Ar 3 (cI (n) v gv)))) dX7_together_36 rfl ⟨by first | (unfold Sp_together; rw [if_neg (by omega)]) | (unfold Sp_together; rw [if_pos (by omega)]), by exact ⟨rfl, rfl, rfl, rfl, rfl, rfl, rfl, rfl, rfl, rfl, rfl, rfl, rfl, rfl, rfl, rfl⟩⟩ rfl (Nat.le_refl _) (Nat.le_refl _)
    · -- 18=0
      refine z_if_eq_t hC 21 35 dX7_together_21 rfl (by omega) (by omega) ?_
      refine z_iconst hC 35 dX7_together_35 ?_
      -- R36.10
      exact z_iret hC hH hQ 36 (((-1), (va_up (va_up (va_up F 0 (0)) 5 ((n : Int))) 7 ((t : Int))), (va_up Ar 3 (cI (n) v gv)))) dX7_together_36 rfl ⟨by first | (unfold Sp_together; rw [if_neg (by omega)]) | (unfold Sp_together; rw [if_pos (by omega)]), by exact ⟨rfl, rfl, rfl, rfl, rfl, rfl, rfl, rfl, rfl, rfl, rfl, rfl, rfl, rfl, rfl, rfl⟩⟩ rfl (Nat.le_refl _) (Nat.le_refl _)
  · -- 8=0
    refine z_if_eq_t hC 11 35 dX7_together_11 rfl (by omega) (by omega) ?_
    refine z_iconst hC 35 dX7_together_35 ?_
    -- R36.11
    exact z_iret hC hH hQ 36 (((-1), (va_up (va_up (va_up F 0 (0)) 5 ((n : Int))) 7 ((t : Int))), (va_up Ar 3 (cI (n) v gv)))) dX7_together_36 rfl ⟨by first | (unfold Sp_together; rw [if_neg (by omega)]) | (unfold Sp_together; rw [if_pos (by omega)]), by exact ⟨rfl, rfl, rfl, rfl, rfl, rfl, rfl, rfl, rfl, rfl, rfl, rfl, rfl, rfl, rfl, rfl⟩⟩ rfl (Nat.le_refl _) (Nat.le_refl _)
