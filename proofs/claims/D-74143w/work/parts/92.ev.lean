/-! methods of ModeDesk that write: 92.ev -/
set_option maxHeartbeats 4000000 in
set_option maxRecDepth 100000 in
theorem m_X12_of (lau : Launch) (s0 : State) (G : zG) (sz : Nat) (ad : Nat → Nat) (F : Nat → Int) (Ar : Nat → Nat → Int) (kp : Nat → Nat) (pl : Nat → Option Nat) (PW : va_W) (n : Nat) (v : Nat → Nat) (pr : Nat → Nat) (pa : Nat → Nat) (pm : Nat → Nat) (pf : Nat → Nat → Nat) (nw : Nat) (wt : Nat → Nat) (x : Nat) (w : Nat) (l : Nat) (r : Nat) (hn : n ≤ 120) (hFn : F 200 = (n : Int)) (hv : ∀ i, i < n → v i < 1000) (hAv : ∀ i, i < n → Ar 201 i = (v i : Int)) (hwt : ∀ i, i < n → 1 ≤ wt i ∧ wt i ≤ 9) (hAw : ∀ i, i < n → Ar 202 i = (wt i : Int)) (hpl : ∀ y, y < 1000 → (pl y = some (pr y) ∨ (pl y = none ∧ pr y = nw))) (hnw : zNwh s0 nw) (hpc : ∀ y, y < 1000 → PlC n v y (pm y) (pf y)) (hpp : zPool s0 G PW pr pa pm pf) (hB : zBxs s0) (hx : x < 1000) (hlr : l ≤ r) (hrn : r < n) : zMet (S := Unit) lau yX12_of cX12_of 5 (some .int) 3 60 1 2 s0 G sz [.ref (w), .int (iZ ((x : Int)))] (dW ad G F Ar kp pl (PW ++ [(w, .inr (11, [.int (iZ (l : Int)), .int (iZ (r : Int)), .ref (ad 99)]))])) (fun (_ : Unit) => some (.int (iZ (((wsum v wt l x (r + 1) : Nat) : Int))))) (fun (_ : Unit) => (wsum v wt l x (r + 1) ≤ 1080)) (fun (_ : Unit) => (dW ad G F Ar kp pl (PW ++ [(w, .inr (11, [.int (iZ (l : Int)), .int (iZ (r : Int)), .ref (ad 99)]))]))) := by
  refine zMet.of (by decide) (Nat.le_of_ble_eq_true rfl) ?_
  intro pg ev s1 mi ar bl me cd ls Q as0 hC hH hl hQ hsz
  generalize s1.heap = H at hH ⊢
  generalize ([] : List Loc) = locs at hH ⊢
  have hl : lv_has ls 5 [(0, .ref (w)), (1, .int (iZ ((x : Int))))] := hl
  have hpp : zPool s0 G (PW ++ [(w, .inr (11, [.int (iZ (l : Int)), .int (iZ (r : Int)), .ref (ad 99)]))]) pr pa pm pf := zPool_app hpp
  have hs0 : SCL wt (pf x) l (r + 1) 0 = 0 := rfl
  refine z_iconst hC 0 dX12_of_0 ?_
  refine z_istore_n (lv' := [(2, .int (iZ (0))), (0, .ref (w)), (1, .int (iZ ((x : Int))))]) hC 1 hl dX12_of_1 rfl (by decide) rfl (fun ls hl => ?_)
  refine z_aload_n hC 2 hl dX12_of_2 rfl 1 rfl ?_
  refine zp_get (v := .ref (ad 99)) hC (dW_xP hH.1) 3 in_X12 rfl 2 (by decide) q1099 0 rfl (rfl) dX12_of_3 ?_
  refine z_iload_n hC 6 hl dX12_of_6 rfl 2 rfl ?_
  refine zp_back (zp_runVN hC (hH.2.2) hl.1 (va_P_l hH.1) 1 (As := [.int (iZ ((x : Int)))]) (rest := []) (u_X1_of lau s0 G ad F Ar kp pl x (pr x) nw (by first | assumption | omega) (by first | exact hpl | (first | assumption | exact hpl _ (by omega)) | assumption | omega) (by first | exact hnw | assumption | omega)) (lw_meth q739) q1111 ⟨q738, qs17, q89⟩ ⟨by decide, by decide, by decide +kernel⟩ (q0 := 0) (ci := 1) rfl rfl rfl rfl (Nat.le_of_ble_eq_true rfl) ⟨Nat.le_of_ble_eq_true rfl, Nat.le_of_ble_eq_true rfl⟩ ⟨by first | decide | omega, by first | decide | omega⟩ dX12_of_7) (fun _ hpost => ?_)
  refine z_st (st' := [.ref ((pr x))]) rfl ?_
  have hpy := hpc x (by omega)
  have hmx := PlC_120 hpy hn
  refine z_iter hC hH hl.1 (dWp hH hpp (y := x) (by omega)) 10 q1112 (rest := []) (Nat.le_of_ble_eq_true rfl) ⟨Nat.le_of_ble_eq_true rfl, Nat.le_of_ble_eq_true rfl⟩ ⟨by first | decide | omega, by first | decide | omega⟩ dX12_of_10 (fun w10 H locs hH => ?_)
  rw [dW_app] at hH
  have hH : zH s0 s1 G as0 (dW ad G F Ar kp pl ((PW ++ [(w, .inr (11, [.int (iZ (l : Int)), .int (iZ (r : Int)), .ref (ad 99)]))]) ++ [(w10, .inr (10, [.int (iZ ((0 : Nat) : Int)), .ref (pr x)]))])) H locs := hH
  refine z_astore_n (lv' := [(3, .ref (w10)), (2, .int (iZ (0))), (0, .ref (w)), (1, .int (iZ ((x : Int))))]) hC 13 hl dX12_of_13 rfl (by decide) rfl (fun ls hl => ?_)
  have L14 : ∀ (N_ : Nat) (k : Nat) (H : Heap) (locs : List Loc) (ls : Array Slot), pm x - k < N_ → (k ≤ pm x) → zH s0 s1 G as0 (dW ad G F Ar kp pl ((PW ++ [(w, .inr (11, [.int (iZ (l : Int)), .int (iZ (r : Int)), .ref (ad 99)]))]) ++ [(w10, .inr (10, [.int (iZ ((k : Nat) : Int)), .ref (pr x)]))])) H locs → lv_has ls 5 [(0, .ref (w)), (1, .int (iZ ((x : Int)))), (2, .int (iZ (((SCL wt (pf x) l (r + 1) k : Nat) : Int)))), (3, .ref (w10))] → W pg lau ev (zRm 3 1 2 60) s1 mi ar bl me cd H locs (0 + 1) (0 + 2) Q (F0 mi 14 ls []) := by
    intro N_
    induction N_ with
    | zero => intro k H locs ls hd; exact absurd hd (Nat.not_lt_zero _)
    | succ N_ ih14 =>
      intro k H locs ls hd14 i14_1 hH hl
      have hsc := SCL_le (l := l) (r := r + 1) hwt (k := k) (fun j hj => (hpy.2 j (by omega)).1)
      refine z_aload_n hC 14 hl dX12_of_14 rfl 3 rfl ?_
      refine z_hasN (k := k) (y := x) hC hH hl.1 hpp (by omega) hmx (by omega) 15 q1114 (rest := []) (Nat.le_of_ble_eq_true rfl) ⟨Nat.le_of_ble_eq_true rfl, Nat.le_of_ble_eq_true rfl⟩ ⟨by first | decide | omega, by first | decide | omega⟩ dX12_of_15 (fun r_ hb_15 => ?_)
      rcases hb_15 with ⟨rfl, hb_15⟩ | ⟨rfl, hb_15⟩
      · -- 15=1
        refine z_if_eq_f hC 20 79 dX12_of_20 rfl (by omega) (by omega) ?_
        refine z_aload_n hC 23 hl dX12_of_23 rfl 3 rfl ?_
        have hfk := hpy.2 (k) (by omega)
        refine z_nextN (k := k) (y := x) hC hH hl.1 hpp (by omega) hmx (by omega) (by omega) hB 24 q1116 (rest := []) (Nat.le_of_ble_eq_true rfl) ⟨Nat.le_of_ble_eq_true rfl, Nat.le_of_ble_eq_true rfl⟩ ⟨by first | decide | omega, by first | decide | omega⟩ dX12_of_24 (fun b_24 H locs hbx hH => ?_)
        have hH : zH s0 s1 G as0 (dW ad G F Ar kp pl ((PW ++ [(w, .inr (11, [.int (iZ (l : Int)), .int (iZ (r : Int)), .ref (ad 99)]))]) ++ [(w10, .inr (10, [.int (iZ ((k + 1 : Nat) : Int)), .ref (pr x)]))])) H locs := hH
        refine z_castB hC hH.2.2 29 hbx q1117 dX12_of_29 ?_
        refine z_intV hC hH.2.2 hl.1 hbx 32 q1118 (rest := []) (Nat.le_of_ble_eq_true rfl) ⟨Nat.le_of_ble_eq_true rfl, Nat.le_of_ble_eq_true rfl⟩ ⟨by first | decide | omega, by first | decide | omega⟩ dX12_of_32 ?_
        refine z_istore (lv' := [(4, .int (iZ (((pf x (k) : Nat) : Int)))), (0, .ref (w)), (1, .int (iZ ((x : Int)))), (2, .int (iZ (((SCL wt (pf x) l (r + 1) k : Nat) : Int)))), (3, .ref (w10))]) hC 35 hl dX12_of_35 (by decide) rfl (fun ls hl => ?_)
        refine z_iload_n hC 37 hl dX12_of_37 rfl 3 rfl ?_
        have hwf := hwt (pf x k) (by omega)
        refine z_iload hC 38 hl dX12_of_38 0 rfl ?_
        refine z_i2l hC 40 dX12_of_40 (by omega) ?_
        refine z_aload_n hC 41 hl dX12_of_41 rfl 1 rfl ?_
        refine zp_get (v := .int (iZ ((l : Int)))) hC (va_P_r (va_P_l (va_P_r hH.1))) 42 in_X12 rfl 0 (by decide) q1097 0 rfl (rfl) dX12_of_42 ?_
        refine z_i2l hC 45 dX12_of_45 (by omega) ?_
        refine z_aload_n hC 46 hl dX12_of_46 rfl 1 rfl ?_
        refine zp_get (v := .int (iZ ((r : Int)))) hC (va_P_r (va_P_l (va_P_r hH.1))) 47 in_X12 rfl 1 (by decide) q1098 0 rfl (rfl) dX12_of_47 ?_
        refine z_i2l hC 50 dX12_of_50 (by omega) ?_
        refine zp_back (zp_runSN hC (hH.2.2) hl.1 (zp_nil) 3 (As := [.long (lZ (((pf x (k) : Nat) : Int))), .long (lZ ((l : Int))), .long (lZ ((r : Int)))]) (rest := [.int (iZ (((SCL wt (pf x) l (r + 1) k : Nat) : Int)))]) (u_X1_isIn lau s0 G ((pf x (k) : Nat) : Int) (l : Int) (r : Int) (by first | assumption | omega) (by first | assumption | omega) (by first | assumption | omega)) (lw_meth q305) q1119 ⟨q304, q89⟩ ⟨by decide, by decide, by decide +kernel⟩ rfl rfl (Nat.le_of_ble_eq_true rfl) ⟨Nat.le_of_ble_eq_true rfl, Nat.le_of_ble_eq_true rfl⟩ ⟨by first | decide | omega, by first | decide | omega⟩ dX12_of_51) (fun r_51 hpost => ?_)
        have hb_51 : (r_51 = 1 ∧ ((l : Int) ≤ ((pf x (k) : Nat) : Int) ∧ ((pf x (k) : Nat) : Int) ≤ (r : Int))) ∨ (r_51 = 0 ∧ ¬ ((l : Int) ≤ ((pf x (k) : Nat) : Int) ∧ ((pf x (k) : Nat) : Int) ≤ (r : Int))) := hpost
        refine z_st (st' := [.int (iZ (r_51)), .int (iZ (((SCL wt (pf x) l (r + 1) k : Nat) : Int)))]) rfl ?_
        rcases hb_51 with ⟨rfl, hb_51⟩ | ⟨rfl, hb_51⟩
        · -- 51=1
          refine z_if_eq_f hC 54 73 dX12_of_54 rfl (by omega) (by omega) ?_
          refine z_aload_n hC 57 hl dX12_of_57 rfl 1 rfl ?_
          refine zp_get (v := .ref (ad 99)) hC (va_P_r (va_P_l (va_P_r hH.1))) 58 in_X12 rfl 2 (by decide) q1099 0 rfl (rfl) dX12_of_58 ?_
          refine zp_getN (v := .ref (ad 200)) hC (va_P_l hH.1) 61 in_X1 rfl 4 (by decide) q212 0 rfl (rfl) dX12_of_61 ?_
          refine zp_getN (v := .ref (ad 202)) hC (va_P_l hH.1) 64 in_X2 rfl 1 (by decide) q143 11 rfl (rfl) dX12_of_64 ?_
          refine z_iload hC 67 hl dX12_of_67 0 rfl ?_
          refine zp_iald (f := (Ar 202)) (x := ((wt ((pf x (k))) : Nat) : Int)) hC (va_P_l hH.1) 69 13 ((pf x (k))) rfl (by decide) (by omega) (by omega) (hAw ((pf x (k))) (by omega)) dX12_of_69 ?_
          refine z_goto hC 70 74 dX12_of_70 rfl ?_
          refine z_iadd (e := ((SCL wt (pf x) l (r + 1) k : Nat) : Int) + ((wt ((pf x (k))) : Nat) : Int)) hC 74 dX12_of_74 rfl ?_
          have hss : SCL wt (pf x) l (r + 1) (k + 1) = SCL wt (pf x) l (r + 1) k + if l ≤ pf x k ∧ pf x k < r + 1 then wt (pf x k) else 0 := rfl
          first | rw [if_pos (by omega)] at hss | rw [if_neg (by omega)] at hss
          refine z_istore_n (lv' := [(2, .int (iZ (((SCL wt (pf x) l (r + 1) k : Nat) : Int) + ((wt ((pf x (k))) : Nat) : Int)))), (4, .int (iZ (((pf x (k) : Nat) : Int)))), (0, .ref (w)), (1, .int (iZ ((x : Int)))), (3, .ref (w10))]) hC 75 hl dX12_of_75 rfl (by decide) rfl (fun ls hl => ?_)
          refine z_goto hC 76 14 dX12_of_76 rfl ?_
          -- J14.1
          exact ih14 (k + 1) _ _ _ (by omega) (by first | assumption | omega) hH (z_lv (lv_sub hl [2, 3, 0, 4] rfl) (zcons rfl (zcons rfl (zcons (zpeq (by omega)) (zcons rfl rfl)))))
        · -- 51=0
          refine z_if_eq_t hC 54 73 dX12_of_54 rfl (by omega) (by omega) ?_
          refine z_iconst hC 73 dX12_of_73 ?_
          refine z_iadd (e := ((SCL wt (pf x) l (r + 1) k : Nat) : Int)) hC 74 dX12_of_74 (by omega) ?_
          have hss : SCL wt (pf x) l (r + 1) (k + 1) = SCL wt (pf x) l (r + 1) k + if l ≤ pf x k ∧ pf x k < r + 1 then wt (pf x k) else 0 := rfl
          first | rw [if_pos (by omega)] at hss | rw [if_neg (by omega)] at hss
          refine z_istore_n (lv' := [(2, .int (iZ (((SCL wt (pf x) l (r + 1) k : Nat) : Int)))), (4, .int (iZ (((pf x (k) : Nat) : Int)))), (0, .ref (w)), (1, .int (iZ ((x : Int)))), (3, .ref (w10))]) hC 75 hl dX12_of_75 rfl (by decide) rfl (fun ls hl => ?_)
          refine z_goto hC 76 14 dX12_of_76 rfl ?_
          -- J14.2
          exact ih14 (k + 1) _ _ _ (by omega) (by first | assumption | omega) hH (z_lv (lv_sub hl [2, 3, 0, 4] rfl) (zcons rfl (zcons rfl (zcons (zpeq (by omega)) (zcons rfl rfl)))))
      · -- 15=0
        refine z_if_eq_t hC 20 79 dX12_of_20 rfl (by omega) (by omega) ?_
        refine z_iload_n hC 79 hl dX12_of_79 rfl 2 rfl ?_
        rw [← dW_app] at hH
        have hH := zH_l hH
        -- R80.3
        refine z_st (st' := [.int (iZ (((wsum v wt l x (r + 1) : Nat) : Int)))]) (zcons (zieq (by (rw [SCL_e (k := k) hpy (by omega) (by omega)]))) rfl) ?_
        exact z_iret hC hH hQ 80 (()) dX12_of_80 rfl (by (rw [← SCL_e (k := k) hpy (by omega) (by omega)]; omega)) rfl (by first | decide | omega) (by first | decide | omega)
  -- J14.4
  exact L14 _ 0 _ _ _ (Nat.lt_succ_self _) (by first | assumption | omega) hH (z_lv (lv_sub hl [2, 3, 1, 0] rfl) (zcons rfl (zcons rfl (zcons (zpeq (by omega)) (zcons rfl rfl)))))
