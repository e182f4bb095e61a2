/-! methods of ModeDesk: 41.de -/
set_option maxHeartbeats 4000000 in
set_option maxRecDepth 100000 in
theorem u_X1_plainMode (lau : Launch) (s0 : State) (G : zG) (ad : Nat → Nat) (F : Nat → Int) (Ar : Nat → Nat → Int) (kp : Nat → Nat) (pl : Nat → Option Nat) (ro : Nat) (rv : Nat) (rw : Nat) (rm : Int) (fv : Nat → Int) (n : Nat) (l : Nat) (r : Nat) (t : Nat) (v : Nat → Nat) (w : Nat → Nat) (out : Int) (hn : n ≤ 120) (hFt : F 8 = (t : Int)) (ht : t < 4) (hfv : ∀ i, i < n → fv i = (v i : Int)) (hrn : r ≤ n) (hlr : l < r) (hw1 : ∀ p, p < n → (p : Int) = out → w p = 1000) (hw2 : ∀ p, p < n → ¬ (p : Int) = out → w p = v p ∧ w p < 1000) (hr_out : -2147483648 ≤ out ∧ out < 2147483648) : zPur (S := Int) lau yX1_plainMode cX1_plainMode 11 (some .int) 1 24 s0 G [.ref (ad 99), .ref (ro), .int (iZ ((l : Int))), .int (iZ ((r : Int) - 1)), .int (iZ (out))] (dW0 ad G F Ar kp pl ++ wRow G ro rv rw rm fv) (fun (r_ : Int) => some (.int (iZ (r_)))) (fun (r_ : Int) => ((r_ = -2 ∧ ∀ q, l ≤ q → q < r → 1000 ≤ w q) ∨ (r_ = (md w l r t : Int) ∧ ∃ q, l ≤ q ∧ q < r ∧ w q < 1000))) := by
  refine zPur.of (by decide) (Nat.le_of_ble_eq_true rfl) ?_
  intro pg ev s1 mi ar bl me cd ls Q hC hP hl hQ
  have hl : lv_has ls 11 [(0, .ref (ad 99)), (1, .ref (ro)), (2, .int (iZ ((l : Int)))), (3, .int (iZ ((r : Int) - 1))), (4, .int (iZ (out)))] := hl
  refine z_iconst hC 0 dX1_plainMode_0 ?_
  refine z_istore (lv' := [(5, .int (iZ ((-1)))), (0, .ref (ad 99)), (1, .ref (ro)), (2, .int (iZ ((l : Int)))), (3, .int (iZ ((r : Int) - 1))), (4, .int (iZ (out)))]) hC 1 hl dX1_plainMode_1 (by decide) rfl (fun ls hl => ?_)
  refine z_iconst hC 3 dX1_plainMode_3 ?_
  refine z_istore (lv' := [(6, .int (iZ (0))), (5, .int (iZ ((-1)))), (0, .ref (ad 99)), (1, .ref (ro)), (2, .int (iZ ((l : Int)))), (3, .int (iZ ((r : Int) - 1))), (4, .int (iZ (out)))]) hC 4 hl dX1_plainMode_4 (by decide) rfl (fun ls hl => ?_)
  refine z_iload_n hC 6 hl dX1_plainMode_6 rfl 4 rfl ?_
  refine z_istore (lv' := [(7, .int (iZ ((l : Int)))), (6, .int (iZ (0))), (5, .int (iZ ((-1)))), (0, .ref (ad 99)), (1, .ref (ro)), (2, .int (iZ ((l : Int)))), (3, .int (iZ ((r : Int) - 1))), (4, .int (iZ (out)))]) hC 7 hl dX1_plainMode_7 (by decide) rfl (fun ls hl => ?_)
  have L9 : ∀ (N_ : Nat) (p : Nat) (mo : Nat) (be : Int) (ls : Array Slot), r - p < N_ → (l ≤ p) → (p ≤ r) → (PMo w l r t p be mo) → (-1 ≤ be ∧ be < 120) → (mo ≤ 120) → lv_has ls 11 [(0, .ref (ad 99)), (1, .ref (ro)), (2, .int (iZ ((l : Int)))), (3, .int (iZ ((r : Int) - 1))), (4, .int (iZ (out))), (5, .int (iZ (be))), (6, .int (iZ ((mo : Int)))), (7, .int (iZ ((p : Int))))] → W pg lau ev (zRm 1 0 0 24) s1 mi ar bl me cd s1.heap [] 0 0 Q (F0 mi 9 ls []) := by
    intro N_
    induction N_ with
    | zero => intro p mo be ls hd; exact absurd hd (Nat.not_lt_zero _)
    | succ N_ ih9 =>
      intro p mo be ls hd9 i9_1 i9_2 ip i9_4 i9_5 hl
      refine z_iload hC 9 hl dX1_plainMode_9 7 rfl ?_
      refine z_iload_n hC 11 hl dX1_plainMode_11 rfl 3 rfl ?_
      refine z_icmp_gt hC 12 183 dX1_plainMode_12 rfl (by omega) (by omega) (fun hb1 => ?_) (fun hb1 => ?_)
      · -- 12t
        have ipr : PMo w l r t r be mo := (show p = r by omega) ▸ ip
        refine z_iload hC 183 hl dX1_plainMode_183 5 rfl ?_
        refine z_iconst hC 185 dX1_plainMode_185 ?_
        refine z_icmp_ne hC 186 194 dX1_plainMode_186 rfl (by omega) (by omega) (fun hb2 => ?_) (fun hb2 => ?_)
        · -- 186t
          obtain ⟨b, rfl, hbb, hbr, hbq⟩ := pmo_get ipr (by assumption)
          have hPb : PMb w l r t r b := ⟨hbr, hbq⟩
          have hwb := hw2 b (by omega) (fun q9 => by have := hw1 b (by omega) q9; omega)
          have hpe := pmo_end ⟨hbb.1, hbb.2.1, hbb.2.2.1⟩ hPb
          refine z_aload_n hC 194 hl dX1_plainMode_194 rfl 1 rfl ?_
          refine zp_getN (v := .ref (rv)) hC (va_P_r hP) 195 in_X2 rfl 0 (by decide) q141 0 rfl (rfl) dX1_plainMode_195 ?_
          refine z_iload hC 198 hl dX1_plainMode_198 5 rfl ?_
          refine zp_iald (x := ((v (b) : Nat) : Int)) hC (va_P_r hP) 200 1 (b) rfl (by decide) (by omega) (by omega) (hfv (b) (by omega)) dX1_plainMode_200 ?_
          -- R201.1
          exact zp_iret hC hQ 201 (((v (b) : Nat) : Int)) dX1_plainMode_201 rfl (by first | exact Or.inr ⟨by omega, b, hbb.1, hbb.2.1, hbb.2.2.1⟩ | exact Or.inl ⟨rfl, pmo_none2 ipr (by omega)⟩)
        · -- 186f
          refine z_bipush hC 189 dX1_plainMode_189 rfl ?_
          refine z_goto hC 191 201 dX1_plainMode_191 rfl ?_
          -- R201.2
          exact zp_iret hC hQ 201 ((-2)) dX1_plainMode_201 rfl (by first | exact Or.inr ⟨by omega, b, hbb.1, hbb.2.1, hbb.2.2.1⟩ | exact Or.inl ⟨rfl, pmo_none2 ipr (by omega)⟩)
      · -- 12f
        have L177 : ∀ (be2 : Int) (mo2 : Nat) (ls : Array Slot), (PMo w l r t (p + 1) be2 mo2) → (-1 ≤ be2 ∧ be2 < 120) → (mo2 ≤ 120) → lv_has ls 11 [(0, .ref (ad 99)), (1, .ref (ro)), (2, .int (iZ ((l : Int)))), (3, .int (iZ ((r : Int) - 1))), (4, .int (iZ (out))), (5, .int (iZ (be2))), (6, .int (iZ ((mo2 : Int)))), (7, .int (iZ ((p : Int))))] → W pg lau ev (zRm 1 0 0 24) s1 mi ar bl me cd s1.heap [] 0 0 Q (F0 mi 177 ls []) := by
          intro be2 mo2 ls ip2 i177_2 i177_3 hl
          refine z_iinc (lv' := [(7, .int (iZ ((p : Int) + 1))), (0, .ref (ad 99)), (1, .ref (ro)), (2, .int (iZ ((l : Int)))), (3, .int (iZ ((r : Int) - 1))), (4, .int (iZ (out))), (5, .int (iZ (be2))), (6, .int (iZ ((mo2 : Int))))]) hC 177 hl dX1_plainMode_177 7 rfl (by omega) (by decide) rfl (fun ls hl => ?_)
          refine z_goto hC 180 9 dX1_plainMode_180 rfl ?_
          -- J9.3
          exact ih9 (p + 1) mo2 be2 _ (by omega) (by first | assumption | omega) (by first | assumption | omega) (by first | assumption | exact pmo_0) (by first | assumption | omega) (by first | assumption | omega)  (z_lv (lv_sub hl [1, 2, 3, 4, 5, 6, 7, 0] rfl) (zcons rfl (zcons rfl (zcons rfl (zcons rfl (zcons rfl (zcons rfl (zcons rfl (zcons (zpeq (by omega)) rfl)))))))))
        refine z_iload hC 15 hl dX1_plainMode_15 7 rfl ?_
        refine z_iload hC 17 hl dX1_plainMode_17 4 rfl ?_
        refine z_icmp_ne hC 19 25 dX1_plainMode_19 rfl (by omega) (by omega) (fun hb3 => ?_) (fun hb3 => ?_)
        · -- 19t
          have hwp := hw2 p (by omega) (by omega)
          refine z_iconst hC 25 dX1_plainMode_25 ?_
          refine z_istore (lv' := [(8, .int (iZ (0))), (0, .ref (ad 99)), (1, .ref (ro)), (2, .int (iZ ((l : Int)))), (3, .int (iZ ((r : Int) - 1))), (4, .int (iZ (out))), (5, .int (iZ (be))), (6, .int (iZ ((mo : Int)))), (7, .int (iZ ((p : Int))))]) hC 26 hl dX1_plainMode_26 (by decide) rfl (fun ls hl => ?_)
          refine z_iconst hC 28 dX1_plainMode_28 ?_
          refine z_istore (lv' := [(9, .int (iZ (0))), (8, .int (iZ (0))), (0, .ref (ad 99)), (1, .ref (ro)), (2, .int (iZ ((l : Int)))), (3, .int (iZ ((r : Int) - 1))), (4, .int (iZ (out))), (5, .int (iZ (be))), (6, .int (iZ ((mo : Int)))), (7, .int (iZ ((p : Int))))]) hC 29 hl dX1_plainMode_29 (by decide) rfl (fun ls hl => ?_)
          refine z_iload_n hC 31 hl dX1_plainMode_31 rfl 4 rfl ?_
          refine z_istore (lv' := [(10, .int (iZ ((l : Int)))), (9, .int (iZ (0))), (8, .int (iZ (0))), (0, .ref (ad 99)), (1, .ref (ro)), (2, .int (iZ ((l : Int)))), (3, .int (iZ ((r : Int) - 1))), (4, .int (iZ (out))), (5, .int (iZ (be))), (6, .int (iZ ((mo : Int)))), (7, .int (iZ ((p : Int))))]) hC 32 hl dX1_plainMode_32 (by decide) rfl (fun ls hl => ?_)
          have L34 : ∀ (N_ : Nat) (q : Nat) (c : Nat) (a : Nat) (ls : Array Slot), r - q < N_ → (l ≤ q) → (q ≤ r) → (c = cnt w l q (w p)) → (a = cnt w l (min q p) (w p)) → lv_has ls 11 [(0, .ref (ad 99)), (1, .ref (ro)), (2, .int (iZ ((l : Int)))), (3, .int (iZ ((r : Int) - 1))), (4, .int (iZ (out))), (5, .int (iZ (be))), (6, .int (iZ ((mo : Int)))), (7, .int (iZ ((p : Int)))), (8, .int (iZ ((c : Int)))), (9, .int (iZ ((a : Int)))), (10, .int (iZ ((q : Int))))] → W pg lau ev (zRm 1 0 0 24) s1 mi ar bl me cd s1.heap [] 0 0 Q (F0 mi 34 ls []) := by
            intro N_
            induction N_ with
            | zero => intro q c a ls hd; exact absurd hd (Nat.not_lt_zero _)
            | succ N_ ih34 =>
              intro q c a ls hd34 i34_1 i34_2 ic ia hl
              have hcl := cnt_le w l q (w p)
              have hal := cnt_le w l (min q p) (w p)
              refine z_iload hC 34 hl dX1_plainMode_34 10 rfl ?_
              refine z_iload_n hC 36 hl dX1_plainMode_36 rfl 3 rfl ?_
              refine z_icmp_gt hC 37 93 dX1_plainMode_37 rfl (by omega) (by omega) (fun hb4 => ?_) (fun hb4 => ?_)
              · -- 37t
                have L121 : ∀  (ls : Array Slot), (rep w l r t p) → lv_has ls 11 [(0, .ref (ad 99)), (1, .ref (ro)), (2, .int (iZ ((l : Int)))), (3, .int (iZ ((r : Int) - 1))), (4, .int (iZ (out))), (5, .int (iZ (be))), (6, .int (iZ ((mo : Int)))), (7, .int (iZ ((p : Int)))), (8, .int (iZ ((c : Int))))] → W pg lau ev (zRm 1 0 0 24) s1 mi ar bl me cd s1.heap [] 0 0 Q (F0 mi 121 ls []) := by
                  intro  ls irep hl
                  have eq9 : q = r := by omega
                  have ica : c = cnt w l r (w p) := eq9 ▸ ic
                  have iaa := pma_e ia eq9 (show p < r by omega)
                  have hri := rep_iff (w := w) (t := t) (show l ≤ p by omega) (show p < r by omega)
                  have L169 : ∀  (ls : Array Slot), (PMo w l r t (p + 1) (p : Int) (cnt w l r (w p))) → lv_has ls 11 [(0, .ref (ad 99)), (1, .ref (ro)), (2, .int (iZ ((l : Int)))), (3, .int (iZ ((r : Int) - 1))), (4, .int (iZ (out))), (5, .int (iZ (be))), (6, .int (iZ ((mo : Int)))), (7, .int (iZ ((p : Int)))), (8, .int (iZ ((c : Int))))] → W pg lau ev (zRm 1 0 0 24) s1 mi ar bl me cd s1.heap [] 0 0 Q (F0 mi 169 ls []) := by
                    intro  ls iwin hl
                    refine z_iload hC 169 hl dX1_plainMode_169 7 rfl ?_
                    refine z_istore (lv' := [(5, .int (iZ ((p : Int)))), (0, .ref (ad 99)), (1, .ref (ro)), (2, .int (iZ ((l : Int)))), (3, .int (iZ ((r : Int) - 1))), (4, .int (iZ (out))), (6, .int (iZ ((mo : Int)))), (7, .int (iZ ((p : Int)))), (8, .int (iZ ((c : Int))))]) hC 171 hl dX1_plainMode_171 (by decide) rfl (fun ls hl => ?_)
                    refine z_iload hC 173 hl dX1_plainMode_173 8 rfl ?_
                    refine z_istore (lv' := [(6, .int (iZ ((c : Int)))), (5, .int (iZ ((p : Int)))), (0, .ref (ad 99)), (1, .ref (ro)), (2, .int (iZ ((l : Int)))), (3, .int (iZ ((r : Int) - 1))), (4, .int (iZ (out))), (7, .int (iZ ((p : Int)))), (8, .int (iZ ((c : Int))))]) hC 175 hl dX1_plainMode_175 (by decide) rfl (fun ls hl => ?_)
                    -- J177.4
                    exact L177 (p : Int) c _ (by first | assumption | exact pmo_skip ip hnr | (rw [ica]; exact iwin) | exact pmo_lose hPb hbb (Or.inl (by omega)) | exact pmo_lose hPb hbb (pmo_tie irep hbr (by omega) (by omega) (by omega) (by omega) (by omega) hnt)) (by first | assumption | omega) (by first | assumption | omega)  (lv_sub hl [2, 3, 4, 5, 6, 1, 0, 7] rfl)
                  refine z_iload hC 121 hl dX1_plainMode_121 5 rfl ?_
                  refine z_iconst hC 123 dX1_plainMode_123 ?_
                  refine z_icmp_eq hC 124 169 dX1_plainMode_124 rfl (by omega) (by omega) (fun hb5 => ?_) (fun hb5 => ?_)
                  · -- 124t
                    -- J169.5
                    exact L169  _ (by first | exact pmo_win hPb (by omega) hwp.2 irep (Or.inl (by omega)) | exact pmo_win hPb (by omega) hwp.2 irep (Or.inr ⟨by omega, (tt_iff irep hbr).mp (by rw [hwp.1, hwb.1]; exact hb_160)⟩) | exact pmo_new2 ip (by omega) (by omega) hwp.2 irep)  (lv_sub hl [0, 1, 2, 3, 4, 5, 6, 7, 8] rfl)
                  · -- 124f
                    obtain ⟨b, rfl, hbb, hbr, hbq⟩ := pmo_get ip (by assumption)
                    have hPb : PMb w l r t p b := ⟨hbr, hbq⟩
                    have hwb := hw2 b (by omega) (fun q9 => by have := hw1 b (by omega) q9; omega)
                    refine z_iload hC 127 hl dX1_plainMode_127 8 rfl ?_
                    refine z_iload hC 129 hl dX1_plainMode_129 6 rfl ?_
                    refine z_icmp_lt hC 131 177 dX1_plainMode_131 rfl (by omega) (by omega) (fun hb6 => ?_) (fun hb6 => ?_)
                    · -- 131t
                      -- J177.6
                      exact L177 (b : Int) mo _ (by first | assumption | exact pmo_skip ip hnr | (rw [ica]; exact iwin) | exact pmo_lose hPb hbb (Or.inl (by omega)) | exact pmo_lose hPb hbb (pmo_tie irep hbr (by omega) (by omega) (by omega) (by omega) (by omega) hnt)) (by first | assumption | omega) (by first | assumption | omega)  (lv_sub hl [0, 1, 2, 3, 4, 5, 6, 7] rfl)
                    · -- 131f
                      refine z_iload hC 134 hl dX1_plainMode_134 8 rfl ?_
                      refine z_iload hC 136 hl dX1_plainMode_136 6 rfl ?_
                      refine z_icmp_ne hC 138 169 dX1_plainMode_138 rfl (by omega) (by omega) (fun hb7 => ?_) (fun hb7 => ?_)
                      · -- 138t
                        -- J169.7
                        exact L169  _ (by first | exact pmo_win hPb (by omega) hwp.2 irep (Or.inl (by omega)) | exact pmo_win hPb (by omega) hwp.2 irep (Or.inr ⟨by omega, (tt_iff irep hbr).mp (by rw [hwp.1, hwb.1]; exact hb_160)⟩) | exact pmo_new2 ip (by omega) (by omega) hwp.2 irep)  (z_lv (lv_sub hl [0, 1, 2, 3, 4, 5, 6, 7, 8] rfl) (zcons rfl (zcons rfl (zcons rfl (zcons rfl (zcons rfl (zcons (zpeq (by omega)) (zcons rfl (zcons rfl (zcons rfl rfl))))))))))
                      · -- 138f
                        refine z_aload_n hC 141 hl dX1_plainMode_141 rfl 0 rfl ?_
                        refine z_aload_n hC 142 hl dX1_plainMode_142 rfl 1 rfl ?_
                        refine zp_getN (v := .ref (rv)) hC (va_P_r hP) 143 in_X2 rfl 0 (by decide) q141 0 rfl (rfl) dX1_plainMode_143 ?_
                        refine z_iload hC 146 hl dX1_plainMode_146 7 rfl ?_
                        refine zp_iald (x := ((v (p) : Nat) : Int)) hC (va_P_r hP) 148 1 (p) rfl (by decide) (by omega) (by omega) (hfv (p) (by omega)) dX1_plainMode_148 ?_
                        refine z_aload_n hC 149 hl dX1_plainMode_149 rfl 1 rfl ?_
                        refine zp_getN (v := .ref (rv)) hC (va_P_r hP) 150 in_X2 rfl 0 (by decide) q141 0 rfl (rfl) dX1_plainMode_150 ?_
                        refine z_iload hC 153 hl dX1_plainMode_153 5 rfl ?_
                        refine zp_iald (x := ((v (b) : Nat) : Int)) hC (va_P_r hP) 155 1 (b) rfl (by decide) (by omega) (by omega) (hfv (b) (by omega)) dX1_plainMode_155 ?_
                        refine z_iload hC 156 hl dX1_plainMode_156 7 rfl ?_
                        refine z_iload hC 158 hl dX1_plainMode_158 5 rfl ?_
                        refine zp_back (zp_runV hC (zS0) hl.1 (va_P_l hP) 4 (As := [.int (iZ (((v (p) : Nat) : Int))), .int (iZ (((v (b) : Nat) : Int))), .int (iZ ((p : Int))), .int (iZ ((b : Int)))]) (rest := []) (u_X1_isTieAhead lau s0 G ad F Ar kp pl t ((v (p) : Nat) : Int) ((v (b) : Nat) : Int) (p : Int) (b : Int) (by first | assumption | omega) (by first | assumption | omega) (by first | assumption | omega) (by first | assumption | omega) (by first | assumption | omega) (by first | assumption | omega)) (lw_V q1254 q1256 qs40 q89 q1257) ⟨rfl, by decide, by decide, by decide +kernel⟩ (q0 := 0) (ci := 1) rfl rfl rfl rfl (Nat.le_of_ble_eq_true rfl) ⟨Nat.le_of_ble_eq_true rfl, Nat.le_of_ble_eq_true rfl⟩ ⟨by first | decide | omega, by first | decide | omega⟩ dX1_plainMode_160) (fun r_160 hpost => ?_)
                        have hb_160 : (r_160 = 1 ∧ (if t = 0 then (p : Int) < (b : Int) else if t = 1 then (b : Int) < (p : Int) else if t = 2 then ((v (p) : Nat) : Int) < ((v (b) : Nat) : Int) else ((v (b) : Nat) : Int) < ((v (p) : Nat) : Int))) ∨ (r_160 = 0 ∧ ¬ (if t = 0 then (p : Int) < (b : Int) else if t = 1 then (b : Int) < (p : Int) else if t = 2 then ((v (p) : Nat) : Int) < ((v (b) : Nat) : Int) else ((v (b) : Nat) : Int) < ((v (p) : Nat) : Int))) := hpost
                        refine z_st (st' := [.int (iZ (r_160))]) rfl ?_
                        rcases hb_160 with ⟨rfl, hb_160⟩ | ⟨rfl, hb_160⟩
                        · -- 160=1
                          refine z_if_ne_t hC 163 169 dX1_plainMode_163 rfl (by omega) (by omega) ?_
                          -- J169.8
                          exact L169  _ (by first | exact pmo_win hPb (by omega) hwp.2 irep (Or.inl (by omega)) | exact pmo_win hPb (by omega) hwp.2 irep (Or.inr ⟨by omega, (tt_iff irep hbr).mp (by rw [hwp.1, hwb.1]; exact hb_160)⟩) | exact pmo_new2 ip (by omega) (by omega) hwp.2 irep)  (z_lv (lv_sub hl [0, 1, 2, 3, 4, 5, 6, 7, 8] rfl) (zcons rfl (zcons rfl (zcons rfl (zcons rfl (zcons rfl (zcons (zpeq (by omega)) (zcons rfl (zcons rfl (zcons rfl rfl))))))))))
                        · -- 160=0
                          refine z_if_ne_f hC 163 169 dX1_plainMode_163 rfl (by omega) (by omega) ?_
                          have hnt : ¬ ttA t (w p : Int) (w b : Int) (p : Int) (b : Int) := by rw [hwp.1, hwb.1]; exact hb_160
                          refine z_goto hC 166 177 dX1_plainMode_166 rfl ?_
                          -- J177.9
                          exact L177 (b : Int) mo _ (by first | assumption | exact pmo_skip ip hnr | (rw [ica]; exact iwin) | exact pmo_lose hPb hbb (Or.inl (by omega)) | exact pmo_lose hPb hbb (pmo_tie irep hbr (by omega) (by omega) (by omega) (by omega) (by omega) hnt)) (by first | assumption | omega) (by first | assumption | omega)  (lv_sub hl [0, 1, 2, 3, 4, 5, 6, 7] rfl)
                have eq9 : q = r := by omega
                have ica : c = cnt w l r (w p) := eq9 ▸ ic
                have iaa := pma_e ia eq9 (show p < r by omega)
                have hri := rep_iff (w := w) (t := t) (show l ≤ p by omega) (show p < r by omega)
                refine z_aload_n hC 93 hl dX1_plainMode_93 rfl 0 rfl ?_
                refine zp_get (v := .int (iZ ((t : Int)))) hC (va_P_l hP) 94 in_X1 rfl 8 (by decide) q218 0 rfl (by rw [← hFt]; rfl) dX1_plainMode_94 ?_
                refine z_iconst hC 97 dX1_plainMode_97 ?_
                refine z_icmp_ne hC 98 113 dX1_plainMode_98 rfl (by omega) (by omega) (fun hb8 => ?_) (fun hb8 => ?_)
                · -- 98t
                  refine z_iload hC 113 hl dX1_plainMode_113 9 rfl ?_
                  refine z_if_eq hC 115 121 dX1_plainMode_115 rfl (by omega) (fun hb9 => ?_) (fun hb9 => ?_)
                  · -- 115t
                    -- J121.10
                    exact L121  _ (by first | exact hri.mpr (by rw [if_pos (by omega)]; omega) | exact hri.mpr (by rw [if_neg (by omega)]; omega))  (lv_sub hl [0, 1, 2, 3, 4, 5, 6, 7, 8] rfl)
                  · -- 115f
                    have hnr : w p < 1000 → ¬ rep w l r t p := fun _ q9 => by have q8 := hri.mp q9; rw [if_neg (by omega)] at q8; omega
                    refine z_goto hC 118 177 dX1_plainMode_118 rfl ?_
                    -- J177.11
                    exact L177 be mo _ (by first | assumption | exact pmo_skip ip hnr | (rw [ica]; exact iwin) | exact pmo_lose hPb hbb (Or.inl (by omega)) | exact pmo_lose hPb hbb (pmo_tie irep hbr (by omega) (by omega) (by omega) (by omega) (by omega) hnt)) (by first | assumption | omega) (by first | assumption | omega)  (lv_sub hl [0, 1, 2, 3, 4, 5, 6, 7] rfl)
                · -- 98f
                  refine z_iload hC 101 hl dX1_plainMode_101 9 rfl ?_
                  refine z_iload hC 103 hl dX1_plainMode_103 8 rfl ?_
                  refine z_iconst hC 105 dX1_plainMode_105 ?_
                  refine z_isub (e := (c : Int) - 1) hC 106 dX1_plainMode_106 rfl ?_
                  refine z_icmp_eq hC 107 121 dX1_plainMode_107 rfl (by omega) (by omega) (fun hb10 => ?_) (fun hb10 => ?_)
                  · -- 107t
                    -- J121.12
                    exact L121  _ (by first | exact hri.mpr (by rw [if_pos (by omega)]; omega) | exact hri.mpr (by rw [if_neg (by omega)]; omega))  (lv_sub hl [0, 1, 2, 3, 4, 5, 6, 7, 8] rfl)
                  · -- 107f
                    have hnr : w p < 1000 → ¬ rep w l r t p := fun _ q9 => by have q8 := hri.mp q9; rw [if_pos (by omega)] at q8; omega
                    refine z_goto hC 110 177 dX1_plainMode_110 rfl ?_
                    -- J177.13
                    exact L177 be mo _ (by first | assumption | exact pmo_skip ip hnr | (rw [ica]; exact iwin) | exact pmo_lose hPb hbb (Or.inl (by omega)) | exact pmo_lose hPb hbb (pmo_tie irep hbr (by omega) (by omega) (by omega) (by omega) (by omega) hnt)) (by first | assumption | omega) (by first | assumption | omega)  (lv_sub hl [0, 1, 2, 3, 4, 5, 6, 7] rfl)
              · -- 37f
                have L87 : ∀ (c2 : Nat) (a2 : Nat) (ls : Array Slot), (c2 = cnt w l (q + 1) (w p)) → (a2 = cnt w l (min (q + 1) p) (w p)) → lv_has ls 11 [(0, .ref (ad 99)), (1, .ref (ro)), (2, .int (iZ ((l : Int)))), (3, .int (iZ ((r : Int) - 1))), (4, .int (iZ (out))), (5, .int (iZ (be))), (6, .int (iZ ((mo : Int)))), (7, .int (iZ ((p : Int)))), (8, .int (iZ ((c2 : Int)))), (9, .int (iZ ((a2 : Int)))), (10, .int (iZ ((q : Int))))] → W pg lau ev (zRm 1 0 0 24) s1 mi ar bl me cd s1.heap [] 0 0 Q (F0 mi 87 ls []) := by
                  intro c2 a2 ls ic2 ia2 hl
                  have hcl2 := cnt_le w l (q + 1) (w p)
                  have hal2 := cnt_le w l (min (q + 1) p) (w p)
                  refine z_iinc (lv' := [(10, .int (iZ ((q : Int) + 1))), (0, .ref (ad 99)), (1, .ref (ro)), (2, .int (iZ ((l : Int)))), (3, .int (iZ ((r : Int) - 1))), (4, .int (iZ (out))), (5, .int (iZ (be))), (6, .int (iZ ((mo : Int)))), (7, .int (iZ ((p : Int)))), (8, .int (iZ ((c2 : Int)))), (9, .int (iZ ((a2 : Int))))]) hC 87 hl dX1_plainMode_87 10 rfl (by omega) (by decide) rfl (fun ls hl => ?_)
                  refine z_goto hC 90 34 dX1_plainMode_90 rfl ?_
                  -- J34.14
                  exact ih34 (q + 1) c2 a2 _ (by omega) (by first | assumption | omega) (by first | assumption | omega) (by first | assumption | exact (cnt_0 w (Nat.le_refl _)).symm) (by first | assumption | exact (cnt_0 w (by omega)).symm)  (z_lv (lv_sub hl [1, 2, 3, 4, 5, 6, 7, 8, 9, 10, 0] rfl) (zcons rfl (zcons rfl (zcons rfl (zcons rfl (zcons rfl (zcons rfl (zcons rfl (zcons rfl (zcons rfl (zcons rfl (zcons (zpeq (by omega)) rfl))))))))))))
                have hwo := hw1 q (by omega)
                refine z_iload hC 40 hl dX1_plainMode_40 10 rfl ?_
                refine z_iload hC 42 hl dX1_plainMode_42 4 rfl ?_
                refine z_icmp_eq hC 44 87 dX1_plainMode_44 rfl (by omega) (by omega) (fun hb11 => ?_) (fun hb11 => ?_)
                · -- 44t
                  -- J87.15
                  exact L87 c a _ (by first | exact pmc_t ic (by omega) (by omega) | exact pmc_f ic (by omega) (by omega)) (by first | exact pma_t ia (by omega) (by omega) (by omega) | exact pma_p ia (by omega) | exact pma_f ia (by omega) (by omega))  (lv_sub hl [0, 1, 2, 3, 4, 5, 6, 7, 8, 9, 10] rfl)
                · -- 44f
                  have hwq := hw2 q (by omega) (by omega)
                  refine z_aload_n hC 47 hl dX1_plainMode_47 rfl 1 rfl ?_
                  refine zp_getN (v := .ref (rv)) hC (va_P_r hP) 48 in_X2 rfl 0 (by decide) q141 0 rfl (rfl) dX1_plainMode_48 ?_
                  refine z_iload hC 51 hl dX1_plainMode_51 10 rfl ?_
                  refine zp_iald (x := ((v (q) : Nat) : Int)) hC (va_P_r hP) 53 1 (q) rfl (by decide) (by omega) (by omega) (hfv (q) (by omega)) dX1_plainMode_53 ?_
                  refine z_aload_n hC 54 hl dX1_plainMode_54 rfl 1 rfl ?_
                  refine zp_getN (v := .ref (rv)) hC (va_P_r hP) 55 in_X2 rfl 0 (by decide) q141 0 rfl (rfl) dX1_plainMode_55 ?_
                  refine z_iload hC 58 hl dX1_plainMode_58 7 rfl ?_
                  refine zp_iald (x := ((v (p) : Nat) : Int)) hC (va_P_r hP) 60 1 (p) rfl (by decide) (by omega) (by omega) (hfv (p) (by omega)) dX1_plainMode_60 ?_
                  refine z_icmp_eq hC 61 67 dX1_plainMode_61 rfl (by omega) (by omega) (fun hb12 => ?_) (fun hb12 => ?_)
                  · -- 61t
                    refine z_iinc (lv' := [(8, .int (iZ ((c : Int) + 1))), (0, .ref (ad 99)), (1, .ref (ro)), (2, .int (iZ ((l : Int)))), (3, .int (iZ ((r : Int) - 1))), (4, .int (iZ (out))), (5, .int (iZ (be))), (6, .int (iZ ((mo : Int)))), (7, .int (iZ ((p : Int)))), (9, .int (iZ ((a : Int)))), (10, .int (iZ ((q : Int))))]) hC 67 hl dX1_plainMode_67 8 rfl (by omega) (by decide) rfl (fun ls hl => ?_)
                    refine z_iload hC 70 hl dX1_plainMode_70 9 rfl ?_
                    refine z_iload hC 72 hl dX1_plainMode_72 10 rfl ?_
                    refine z_iload hC 74 hl dX1_plainMode_74 8 rfl ?_
                    refine z_icmp_ge hC 76 83 dX1_plainMode_76 rfl (by omega) (by omega) (fun hb13 => ?_) (fun hb13 => ?_)
                    · -- 76t
                      refine z_iconst hC 83 dX1_plainMode_83 ?_
                      refine z_iadd (e := (a : Int)) hC 84 dX1_plainMode_84 (by omega) ?_
                      refine z_istore (lv' := [(9, .int (iZ ((a : Int)))), (8, .int (iZ ((c : Int) + 1))), (0, .ref (ad 99)), (1, .ref (ro)), (2, .int (iZ ((l : Int)))), (3, .int (iZ ((r : Int) - 1))), (4, .int (iZ (out))), (5, .int (iZ (be))), (6, .int (iZ ((mo : Int)))), (7, .int (iZ ((p : Int)))), (10, .int (iZ ((q : Int))))]) hC 85 hl dX1_plainMode_85 (by decide) rfl (fun ls hl => ?_)
                      -- J87.16
                      exact L87 (c + 1) a _ (by first | exact pmc_t ic (by omega) (by omega) | exact pmc_f ic (by omega) (by omega)) (by first | exact pma_t ia (by omega) (by omega) (by omega) | exact pma_p ia (by omega) | exact pma_f ia (by omega) (by omega))  (z_lv (lv_sub hl [2, 3, 4, 5, 6, 7, 8, 9, 1, 0, 10] rfl) (zcons rfl (zcons rfl (zcons rfl (zcons rfl (zcons rfl (zcons rfl (zcons rfl (zcons rfl (zcons (zpeq (by omega)) (zcons rfl (zcons rfl rfl))))))))))))
                    · -- 76f
                      refine z_iconst hC 79 dX1_plainMode_79 ?_
                      refine z_goto hC 80 84 dX1_plainMode_80 rfl ?_
                      refine z_iadd (e := (a : Int) + 1) hC 84 dX1_plainMode_84 rfl ?_
                      refine z_istore (lv' := [(9, .int (iZ ((a : Int) + 1))), (8, .int (iZ ((c : Int) + 1))), (0, .ref (ad 99)), (1, .ref (ro)), (2, .int (iZ ((l : Int)))), (3, .int (iZ ((r : Int) - 1))), (4, .int (iZ (out))), (5, .int (iZ (be))), (6, .int (iZ ((mo : Int)))), (7, .int (iZ ((p : Int)))), (10, .int (iZ ((q : Int))))]) hC 85 hl dX1_plainMode_85 (by decide) rfl (fun ls hl => ?_)
                      -- J87.17
                      exact L87 (c + 1) (a + 1) _ (by first | exact pmc_t ic (by omega) (by omega) | exact pmc_f ic (by omega) (by omega)) (by first | exact pma_t ia (by omega) (by omega) (by omega) | exact pma_p ia (by omega) | exact pma_f ia (by omega) (by omega))  (z_lv (lv_sub hl [2, 3, 4, 5, 6, 7, 8, 9, 1, 0, 10] rfl) (zcons rfl (zcons rfl (zcons rfl (zcons rfl (zcons rfl (zcons rfl (zcons rfl (zcons rfl (zcons (zpeq (by omega)) (zcons (zpeq (by omega)) (zcons rfl rfl))))))))))))
                  · -- 61f
                    refine z_goto hC 64 87 dX1_plainMode_64 rfl ?_
                    -- J87.18
                    exact L87 c a _ (by first | exact pmc_t ic (by omega) (by omega) | exact pmc_f ic (by omega) (by omega)) (by first | exact pma_t ia (by omega) (by omega) (by omega) | exact pma_p ia (by omega) | exact pma_f ia (by omega) (by omega))  (lv_sub hl [0, 1, 2, 3, 4, 5, 6, 7, 8, 9, 10] rfl)
          -- J34.19
          exact L34 _ l 0 0 _ (Nat.lt_succ_self _) (by first | assumption | omega) (by first | assumption | omega) (by first | assumption | exact (cnt_0 w (Nat.le_refl _)).symm) (by first | assumption | exact (cnt_0 w (by omega)).symm)  (z_lv (lv_sub hl [3, 4, 5, 6, 7, 8, 9, 10, 2, 1, 0] rfl) (zcons rfl (zcons rfl (zcons rfl (zcons rfl (zcons rfl (zcons rfl (zcons rfl (zcons rfl (zcons (zpeq (by omega)) (zcons (zpeq (by omega)) (zcons rfl rfl))))))))))))
        · -- 19f
          have hnr : w p < 1000 → ¬ rep w l r t p := fun q9 => by have := hw1 p (by omega) (by omega); omega
          refine z_goto hC 22 177 dX1_plainMode_22 rfl ?_
          -- J177.20
          exact L177 be mo _ (by first | assumption | exact pmo_skip ip hnr | (rw [ica]; exact iwin) | exact pmo_lose hPb hbb (Or.inl (by omega)) | exact pmo_lose hPb hbb (pmo_tie irep hbr (by omega) (by omega) (by omega) (by omega) (by omega) hnt)) (by first | assumption | omega) (by first | assumption | omega)  (lv_sub hl [0, 1, 2, 3, 4, 5, 6, 7] rfl)
  -- J9.21
  exact L9 _ l 0 (-1) _ (Nat.lt_succ_self _) (by first | assumption | omega) (by first | assumption | omega) (by first | assumption | exact pmo_0) (by first | assumption | omega) (by first | assumption | omega)  (z_lv (lv_sub hl [3, 4, 5, 6, 7, 2, 1, 0] rfl) (zcons rfl (zcons rfl (zcons rfl (zcons rfl (zcons rfl (zcons rfl (zcons (zpeq (by omega)) (zcons rfl rfl)))))))))
