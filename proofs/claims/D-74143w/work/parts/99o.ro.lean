/-! the Reader: the Fault's constructors, its pure methods -/
set_option maxRecDepth 100000
/-- the tape and what stands on it -/
def RTX (ad : Nat → Nat) (D : List Value) (f : Nat → Int) (tn : Nat) (tt : Nat → Nat) : Prop := D[0]? = some (.ref (ad 5)) ∧ tn ≤ 900 ∧ (∀ i, i < tn → f i = sb (tt i)) ∧ ∀ i, i < tn → tt i < 256
set_option maxHeartbeats 8000000 in
theorem m_J9_init_2 (lau : Launch) (s0 : State) (G : zG) (sz : Nat) (hth : zThr s0) (x0 : Nat) : zMet (S := Unit) lau yJ9_init_2 cJ9_init_2 5 (none) 1 12 0 0 s0 G sz [.ref x0, .null, .null, .int (iZ 0), .int (iZ 0)] ([(x0, .inr (8, [.null, .null, .null, .null, .null, .int (0), .int (0), .int (0)]))]) (fun _ => (none : Option Value)) (fun _ => True) (fun _ => [(x0, .inr (8, [.null, .null, .null, .null, .null, .int (0), .int (0), .int (0)]))]) := by
  refine zMet.of (by decide) (Nat.le_of_ble_eq_true rfl) ?_
  intro pg ev s1 mi ar bl me cd ls Q as0 hC hH hl hQ hsz
  generalize s1.heap = H at hH ⊢
  generalize ([] : List Loc) = locs at hH ⊢
  have hl : lv_has ls 5 [(0, .ref x0), (1, .null), (2, .null), (3, .int (iZ 0)), (4, .int (iZ 0))] := hl
  refine z_aload_n hC 0 hl dJ9_init_2_0 rfl 0 rfl ?_
  refine z_objI hC hl.1 1 q616 ⟨Nat.le_of_ble_eq_true rfl, Nat.le_of_ble_eq_true rfl⟩ dJ9_init_2_1 ?_
  obtain ⟨q1, q2, r1, r2, z1, z2⟩ := hth
  refine z_aload_n hC 4 hl dJ9_init_2_4 rfl 0 rfl ?_
  refine z_aload_n hC 5 hl dJ9_init_2_5 rfl 0 rfl ?_
  refine z_put hC hH 6 tyX9 in_X9 tyX9_ok nmX9 rfl 0 (by decide) q648 0 rfl rfl rfl rfl (Nat.le_of_ble_eq_true rfl) rfl dJ9_init_2_6 (fun H locs hH => ?_)
  have hH : zH s0 s1 G as0 ([(x0, .inr (8, [.ref x0, .null, .null, .null, .null, .int (0), .int (0), .int (0)]))]) H locs := hH
  refine z_aload_n hC 9 hl dJ9_init_2_9 rfl 0 rfl ?_
  refine zp_gets hC hH.2.2 10 z1 q617 dJ9_init_2_10 ?_
  refine z_put hC hH 13 tyX9 in_X9 tyX9_ok nmX9 rfl 1 (by decide) q649 0 rfl rfl (by cases q1 <;> first | rfl | cases r1) (by cases q1 <;> first | rfl | cases r1) (Nat.le_of_ble_eq_true rfl) rfl dJ9_init_2_13 (fun H locs hH => ?_)
  have hH : zH s0 s1 G as0 ([(x0, .inr (8, [.ref x0, q1, .null, .null, .null, .int (0), .int (0), .int (0)]))]) H locs := hH
  refine z_aload_n hC 16 hl dJ9_init_2_16 rfl 0 rfl ?_
  refine zp_gets hC hH.2.2 17 z2 q619 dJ9_init_2_17 ?_
  refine z_put hC hH 20 tyX9 in_X9 tyX9_ok nmX9 rfl 2 (by decide) q650 0 rfl rfl (by cases q2 <;> first | rfl | cases r2) (by cases q2 <;> first | rfl | cases r2) (Nat.le_of_ble_eq_true rfl) rfl dJ9_init_2_20 (fun H locs hH => ?_)
  have hH : zH s0 s1 G as0 ([(x0, .inr (8, [.ref x0, q1, q2, .null, .null, .int (0), .int (0), .int (0)]))]) H locs := hH
  refine z_iload hC 23 hl dJ9_init_2_23 4 rfl ?_
  refine z_if_eq_t hC 25 36 dJ9_init_2_25 rfl (by omega) (by omega) ?_
  refine z_aload_n hC 36 hl dJ9_init_2_36 rfl 0 rfl ?_
  refine lv_null hC.1.1 hC.1.2.1 dJ9_init_2_37 ?_
  refine z_put hC hH 38 tyX9 in_X9 tyX9_ok nmX9 rfl 1 (by decide) q649 0 rfl rfl rfl rfl (Nat.le_of_ble_eq_true rfl) rfl dJ9_init_2_38 (fun H locs hH => ?_)
  have hH : zH s0 s1 G as0 ([(x0, .inr (8, [.ref x0, .null, q2, .null, .null, .int (0), .int (0), .int (0)]))]) H locs := hH
  refine z_aload_n hC 41 hl dJ9_init_2_41 rfl 0 rfl ?_
  refine z_aloadN hC 42 hl dJ9_init_2_42 rfl 1 rfl ?_
  refine z_put hC hH 43 tyX9 in_X9 tyX9_ok nmX9 rfl 3 (by decide) q647 0 rfl rfl rfl rfl (Nat.le_of_ble_eq_true rfl) rfl dJ9_init_2_43 (fun H locs hH => ?_)
  have hH : zH s0 s1 G as0 ([(x0, .inr (8, [.ref x0, .null, q2, .null, .null, .int (0), .int (0), .int (0)]))]) H locs := hH
  refine z_aload_n hC 46 hl dJ9_init_2_46 rfl 0 rfl ?_
  refine z_aloadN hC 47 hl dJ9_init_2_47 rfl 2 rfl ?_
  refine z_put hC hH 48 tyX9 in_X9 tyX9_ok nmX9 rfl 0 (by decide) q648 0 rfl rfl rfl rfl (Nat.le_of_ble_eq_true rfl) rfl dJ9_init_2_48 (fun H locs hH => ?_)
  have hH : zH s0 s1 G as0 ([(x0, .inr (8, [.null, .null, q2, .null, .null, .int (0), .int (0), .int (0)]))]) H locs := hH
  refine z_iload_n hC 51 hl dJ9_init_2_51 rfl 3 rfl ?_
  refine z_if_ne_f hC 52 60 dJ9_init_2_52 rfl (by omega) (by omega) ?_
  refine z_aload_n hC 55 hl dJ9_init_2_55 rfl 0 rfl ?_
  refine lv_null hC.1.1 hC.1.2.1 dJ9_init_2_56 ?_
  refine z_put hC hH 57 tyX9 in_X9 tyX9_ok nmX9 rfl 2 (by decide) q650 0 rfl rfl rfl rfl (Nat.le_of_ble_eq_true rfl) rfl dJ9_init_2_57 (fun H locs hH => ?_)
  have hH : zH s0 s1 G as0 ([(x0, .inr (8, [.null, .null, .null, .null, .null, .int (0), .int (0), .int (0)]))]) H locs := hH
  exact z_vret hC hH hQ 60 () dJ9_init_2_60 rfl trivial rfl (Nat.le_of_ble_eq_true rfl) (Nat.le_of_ble_eq_true rfl)

set_option maxHeartbeats 8000000 in
theorem m_J10_init (lau : Launch) (s0 : State) (G : zG) (sz : Nat) (hth : zThr s0) (x0 : Nat) : zMet (S := Unit) lau yJ10_init cJ10_init 5 (none) 2 36 0 0 s0 G sz [.ref x0, .null, .null, .int (iZ 0), .int (iZ 0)] ([(x0, .inr (8, [.null, .null, .null, .null, .null, .int (0), .int (0), .int (0)]))]) (fun _ => (none : Option Value)) (fun _ => True) (fun _ => [(x0, .inr (8, [.null, .null, .null, .null, .null, .int (0), .int (0), .int (0)]))]) := by
  refine zMet.of (by decide) (Nat.le_of_ble_eq_true rfl) ?_
  intro pg ev s1 mi ar bl me cd ls Q as0 hC hH hl hQ hsz
  generalize s1.heap = H at hH ⊢
  generalize ([] : List Loc) = locs at hH ⊢
  have hl : lv_has ls 5 [(0, .ref x0), (1, .null), (2, .null), (3, .int (iZ 0)), (4, .int (iZ 0))] := hl
  refine z_aload_n hC 0 hl dJ10_init_0 rfl 0 rfl ?_
  refine z_aloadN hC 1 hl dJ10_init_1 rfl 1 rfl ?_
  refine z_aloadN hC 2 hl dJ10_init_2 rfl 2 rfl ?_
  refine z_iload_n hC 3 hl dJ10_init_3 rfl 3 rfl ?_
  refine z_iload hC 4 hl dJ10_init_4 4 rfl ?_
  refine z_same (z_runI hC hH.2.2 hl.1 hH.1 hH.2.1 4 (As := [.null, .null, .int (iZ 0), .int (iZ 0)]) (rest := []) (m_J9_init_2 lau s0 G _ hth x0) (lw_meth q641) q639 ⟨q107, q640⟩ rfl ⟨by decide, by decide, by decide +kernel⟩ rfl rfl (Nat.le_of_ble_eq_true rfl) ⟨Nat.le_of_ble_eq_true rfl, Nat.le_of_ble_eq_true rfl⟩ ⟨Nat.le_of_ble_eq_true rfl, Nat.le_of_ble_eq_true rfl⟩ dJ10_init_6) hH (fun _ H locs _ hH => ?_)
  refine z_st (st' := []) rfl ?_
  exact z_vret hC hH hQ 9 () dJ10_init_9 rfl trivial rfl (Nat.le_of_ble_eq_true rfl) (Nat.le_of_ble_eq_true rfl)

set_option maxHeartbeats 8000000 in
theorem m_X9_init (lau : Launch) (s0 : State) (G : zG) (sz : Nat) (hth : zThr s0) (x0 k p : Nat) : zMet (S := Unit) lau yX9_init cX9_init 3 (none) 3 64 0 0 s0 G sz [.ref x0, .int (iZ (k : Int)), .int (iZ (p : Int))] ([(x0, .inr (8, [.null, .null, .null, .null, .null, .int (0), .int (0), .int (0)]))]) (fun _ => (none : Option Value)) (fun _ => True) (fun _ => [(x0, .inr (8, [.null, .null, .null, .null, .null, .int (0), .int (iZ (k : Int)), .int (iZ (p : Int))]))]) := by
  refine zMet.ofI (by decide) (Nat.le_of_ble_eq_true rfl) ?_
  intro pg ev s1 mi ar bl me cd ls Q as0 hC hin hH hl hQ hsz
  have hin : me.name = "<init>" := hin
  generalize s1.heap = H at hH ⊢
  generalize ([] : List Loc) = locs at hH ⊢
  have hl : lv_has ls 3 [(0, .ref x0), (1, .int (iZ (k : Int))), (2, .int (iZ (p : Int)))] := hl
  refine z_aload_n hC 0 hl dX9_init_0 rfl 0 rfl ?_
  refine lv_null hC.1.1 hC.1.2.1 dX9_init_1 ?_
  refine lv_null hC.1.1 hC.1.2.1 dX9_init_2 ?_
  refine z_iconst hC 3 dX9_init_3 ?_
  refine z_iconst hC 4 dX9_init_4 ?_
  refine z_same (z_runI hC hH.2.2 hl.1 hH.1 hH.2.1 4 (As := [.null, .null, .int (iZ 0), .int (iZ 0)]) (rest := []) (m_J10_init lau s0 G _ hth x0) (lw_meth q638) q636 ⟨q108, q637⟩ rfl ⟨by decide, by decide, by decide +kernel⟩ rfl rfl (Nat.le_of_ble_eq_true rfl) ⟨Nat.le_of_ble_eq_true rfl, Nat.le_of_ble_eq_true rfl⟩ ⟨Nat.le_of_ble_eq_true rfl, Nat.le_of_ble_eq_true rfl⟩ dX9_init_5) hH (fun _ H locs _ hH => ?_)
  refine z_st (st' := []) rfl ?_
  refine z_aload_n hC 8 hl dX9_init_8 rfl 0 rfl ?_
  refine z_iload_n hC 9 hl dX9_init_9 rfl 1 rfl ?_
  refine z_putF hC hin hH 10 tyX9 in_X9 tyX9_ok nmX9 rfl 6 (by decide) q642 0 rfl rfl rfl rfl rfl (Nat.le_of_ble_eq_true rfl) rfl dX9_init_10 (fun H locs hH => ?_)
  have hH : zH s0 s1 G as0 ([(x0, .inr (8, [.null, .null, .null, .null, .null, .int (0), .int (iZ (k : Int)), .int (0)]))]) H locs := hH
  refine z_aload_n hC 13 hl dX9_init_13 rfl 0 rfl ?_
  refine z_iload_n hC 14 hl dX9_init_14 rfl 2 rfl ?_
  refine z_putF hC hin hH 15 tyX9 in_X9 tyX9_ok nmX9 rfl 7 (by decide) q644 0 rfl rfl rfl rfl rfl (Nat.le_of_ble_eq_true rfl) rfl dX9_init_15 (fun H locs hH => ?_)
  have hH : zH s0 s1 G as0 ([(x0, .inr (8, [.null, .null, .null, .null, .null, .int (0), .int (iZ (k : Int)), .int (iZ (p : Int))]))]) H locs := hH
  exact z_vret hC hH hQ 18 () dX9_init_18 rfl trivial rfl (Nat.le_of_ble_eq_true rfl) (Nat.le_of_ble_eq_true rfl)

set_option maxHeartbeats 4000000 in
theorem u_R_see (lau : Launch) (s0 : State) (G : zG) (ad : Nat → Nat) (D : List Value) (f : Nat → Int) (tn : Nat) (tt : Nat → Nat) (hT : RTX ad D f tn tt) (a0 ki wh pe ln bk ti hb ht mn : Int) (wd : Value) (v w : Nat → Int) (k : Nat) (hk : k ≤ 900) : zPur (S := Unit) lau yX8_see cX8_see 2 (some .int) 0 0 s0 G [.ref (ad 0), .int (iZ ((k : Int)))] (rdW G ad ((tn : Int)) (a0) (ki) (wh) (pe) (ln) (bk) (ti) (hb) (ht) (mn) (wd) (v) (w) D f) (fun _ => some (.int (iZ (hereZ tt tn k)))) (fun _ => True) := by
  refine zPur.of (by decide) (Nat.le_of_ble_eq_true rfl) ?_
  intro pg ev s1 mi ar bl me cd ls Q hC hP hl hQ
  have hl : lv_has ls 2 [(0, .ref (ad 0)), (1, .int (iZ ((k : Int))))] := hl
  obtain ⟨hD, htn, htp, htb⟩ := id hT
  refine z_iload_n hC 0 hl dX8_see_0 rfl 1 rfl ?_
  refine z_aload_n hC 1 hl dX8_see_1 rfl 0 rfl ?_
  refine zp_get (v := .int (iZ ((tn : Int)))) hC hP 2 in_X8 rfl 0 (by decide) q314 0 rfl rfl dX8_see_2 ?_
  by_cases hk2 : k < tn
  · refine z_icmp_ge_f hC 5 24 dX8_see_5 rfl (by omega) (by omega) (by omega) ?_
    refine z_aload_n hC 8 hl dX8_see_8 rfl 0 rfl ?_
    refine zp_get (v := .ref (ad 4)) hC hP 9 in_X8 rfl 12 (by decide) q330 0 rfl rfl dX8_see_9 ?_
    refine zp_getN (v := .ref (ad 5)) hC hP 12 in_X1 rfl 0 (by decide) q206 4 rfl hT.1 dX8_see_12 ?_
    refine z_iload_n hC 15 hl dX8_see_15 rfl 1 rfl ?_
    refine zp_bald (x := sb (tt k)) hC hP 16 5 k rfl (by decide) rfl (by omega) (htp k hk2) dX8_see_16 ?_
    refine z_sipush hC 17 dX8_see_17 rfl ?_
    refine z_iand (e := (tt k : Int)) hC 20 dX8_see_20 (sb_and (htb k hk2)) ?_
    refine z_goto hC 21 25 dX8_see_21 rfl ?_
    exact zp_iret hC hQ 25 () dX8_see_25 (by rw [hereZ_1 hk2]) trivial
  · refine z_icmp_ge_t hC 5 24 dX8_see_5 rfl (by omega) (by omega) (by omega) ?_
    refine z_iconst hC 24 dX8_see_24 ?_
    exact zp_iret hC hQ 25 () dX8_see_25 (by rw [← hereZ_2 hk2]) trivial

set_option maxHeartbeats 4000000 in
theorem u_R_isSmall (lau : Launch) (s0 : State) (G : zG) (ad : Nat → Nat) (D : List Value) (f : Nat → Int) (tn : Nat) (tt : Nat → Nat) (hT : RTX ad D f tn tt) (a0 ki wh pe ln bk ti hb ht mn : Int) (wd : Value) (v w : Nat → Int) (k : Nat) (hk : k ≤ 900) : zPur (S := Int) lau yX8_isSmall cX8_isSmall 2 (some .boolean) 1 25 s0 G [.ref (ad 0), .int (iZ ((k : Int)))] (rdW G ad ((tn : Int)) (a0) (ki) (wh) (pe) (ln) (bk) (ti) (hb) (ht) (mn) (wd) (v) (w) D f) (fun r => some (.int (iZ r))) (fun r => (r = 1 ∧ tS (hereZ tt tn k)) ∨ (r = 0 ∧ ¬ tS (hereZ tt tn k))) := by
  refine zPur.of (by decide) (Nat.le_of_ble_eq_true rfl) ?_
  intro pg ev s1 mi ar bl me cd ls Q hC hP hl hQ
  have hl : lv_has ls 2 [(0, .ref (ad 0)), (1, .int (iZ ((k : Int))))] := hl
  have hhr := hereZ_r (k := k) hT.2.2.2
  refine z_aload_n hC 0 hl dX8_isSmall_0 rfl 0 rfl ?_
  refine z_iload_n hC 1 hl dX8_isSmall_1 rfl 1 rfl ?_
  refine zp_back (zp_runV hC zS0 hl.1 hP 1 (As := [.int (iZ ((k : Int)))]) (rest := []) (u_R_see lau s0 G ad D f tn tt hT (a0) (ki) (wh) (pe) (ln) (bk) (ti) (hb) (ht) (mn) (wd) (v) (w) k (by omega)) (lw_V q366 q368 qs1 q96 q369) ⟨rfl, by decide, by decide, by decide +kernel⟩ (q0 := 0) (ci := 7) rfl rfl rfl rfl (Nat.le_of_ble_eq_true rfl) ⟨Nat.le_of_ble_eq_true rfl, Nat.le_of_ble_eq_true rfl⟩ ⟨by first | decide | omega, by first | decide | omega⟩ dX8_isSmall_2) (fun _ _ => ?_)
  refine z_st (st' := [.int (iZ (hereZ tt tn k))]) rfl ?_
  refine z_i2l hC 5 dX8_isSmall_5 (by omega) ?_
  refine z_ldc2 (a := 97) hC 6 q374 rfl dX8_isSmall_6 ?_
  refine z_ldc2 (a := 122) hC 9 q375 rfl dX8_isSmall_9 ?_
  refine zp_back (zp_runSN hC zS0 hl.1 zp_nil 3 (As := [.long (lZ (hereZ tt tn k)), .long (lZ (97)), .long (lZ (122))]) (rest := []) (u_X1_isIn lau s0 G (hereZ tt tn k) 97 122 (by omega) (by omega) (by omega)) (lw_meth q305) q376 ⟨q304, q89⟩ ⟨by decide, by decide, by decide +kernel⟩ rfl rfl (Nat.le_of_ble_eq_true rfl) ⟨Nat.le_of_ble_eq_true rfl, Nat.le_of_ble_eq_true rfl⟩ ⟨by first | decide | omega, by first | decide | omega⟩ dX8_isSmall_12) (fun r hr => ?_)
  refine z_st (st' := [.int (iZ r)]) rfl ?_
  have hr : (r = 1 ∧ tS (hereZ tt tn k)) ∨ (r = 0 ∧ ¬ tS (hereZ tt tn k)) := hr
  exact zp_zret hC hQ 15 r dX8_isSmall_15 (zbool2 (by omega)) rfl hr

set_option maxHeartbeats 4000000 in
theorem u_R_isDigit (lau : Launch) (s0 : State) (G : zG) (ad : Nat → Nat) (D : List Value) (f : Nat → Int) (tn : Nat) (tt : Nat → Nat) (hT : RTX ad D f tn tt) (a0 ki wh pe ln bk ti hb ht mn : Int) (wd : Value) (v w : Nat → Int) (k : Nat) (hk : k ≤ 900) : zPur (S := Int) lau yX8_isDigit cX8_isDigit 2 (some .boolean) 1 25 s0 G [.ref (ad 0), .int (iZ ((k : Int)))] (rdW G ad ((tn : Int)) (a0) (ki) (wh) (pe) (ln) (bk) (ti) (hb) (ht) (mn) (wd) (v) (w) D f) (fun r => some (.int (iZ r))) (fun r => (r = 1 ∧ tD (hereZ tt tn k)) ∨ (r = 0 ∧ ¬ tD (hereZ tt tn k))) := by
  refine zPur.of (by decide) (Nat.le_of_ble_eq_true rfl) ?_
  intro pg ev s1 mi ar bl me cd ls Q hC hP hl hQ
  have hl : lv_has ls 2 [(0, .ref (ad 0)), (1, .int (iZ ((k : Int))))] := hl
  have hhr := hereZ_r (k := k) hT.2.2.2
  refine z_aload_n hC 0 hl dX8_isDigit_0 rfl 0 rfl ?_
  refine z_iload_n hC 1 hl dX8_isDigit_1 rfl 1 rfl ?_
  refine zp_back (zp_runV hC zS0 hl.1 hP 1 (As := [.int (iZ ((k : Int)))]) (rest := []) (u_R_see lau s0 G ad D f tn tt hT (a0) (ki) (wh) (pe) (ln) (bk) (ti) (hb) (ht) (mn) (wd) (v) (w) k (by omega)) (lw_V q366 q368 qs1 q96 q369) ⟨rfl, by decide, by decide, by decide +kernel⟩ (q0 := 0) (ci := 7) rfl rfl rfl rfl (Nat.le_of_ble_eq_true rfl) ⟨Nat.le_of_ble_eq_true rfl, Nat.le_of_ble_eq_true rfl⟩ ⟨by first | decide | omega, by first | decide | omega⟩ dX8_isDigit_2) (fun _ _ => ?_)
  refine z_st (st' := [.int (iZ (hereZ tt tn k))]) rfl ?_
  refine z_i2l hC 5 dX8_isDigit_5 (by omega) ?_
  refine z_ldc2 (a := 48) hC 6 q568 rfl dX8_isDigit_6 ?_
  refine z_ldc2 (a := 57) hC 9 q569 rfl dX8_isDigit_9 ?_
  refine zp_back (zp_runSN hC zS0 hl.1 zp_nil 3 (As := [.long (lZ (hereZ tt tn k)), .long (lZ (48)), .long (lZ (57))]) (rest := []) (u_X1_isIn lau s0 G (hereZ tt tn k) 48 57 (by omega) (by omega) (by omega)) (lw_meth q305) q376 ⟨q304, q89⟩ ⟨by decide, by decide, by decide +kernel⟩ rfl rfl (Nat.le_of_ble_eq_true rfl) ⟨Nat.le_of_ble_eq_true rfl, Nat.le_of_ble_eq_true rfl⟩ ⟨by first | decide | omega, by first | decide | omega⟩ dX8_isDigit_12) (fun r hr => ?_)
  refine z_st (st' := [.int (iZ r)]) rfl ?_
  have hr : (r = 1 ∧ tD (hereZ tt tn k)) ∨ (r = 0 ∧ ¬ tD (hereZ tt tn k)) := hr
  exact zp_zret hC hQ 15 r dX8_isDigit_15 (zbool2 (by omega)) rfl hr

set_option maxHeartbeats 4000000 in
theorem u_R_must (lau : Launch) (s0 : State) (G : zG) (ad : Nat → Nat) (D : List Value) (f : Nat → Int) (sz a0 ki wh pe ln bk ti hb ht mn : Int) (wd : Value) (v w : Nat → Int) (k : Int) : zPur (S := Unit) lau yX8_must cX8_must 3 (none) 0 0 s0 G [.ref (ad 0), .int (iZ 1), .int (iZ k)] (rdW G ad (sz) (a0) (ki) (wh) (pe) (ln) (bk) (ti) (hb) (ht) (mn) (wd) (v) (w) D f) (fun _ => (none : Option Value)) (fun _ => True) := by
  refine zPur.of (by decide) (Nat.le_of_ble_eq_true rfl) ?_
  intro pg ev s1 mi ar bl me cd ls Q hC hP hl hQ
  have hl : lv_has ls 3 [(0, .ref (ad 0)), (1, .int (iZ 1)), (2, .int (iZ k))] := hl
  refine z_iload_n hC 0 hl dX8_must_0 rfl 1 rfl ?_
  refine z_if_ne_t hC 1 17 dX8_must_1 rfl (by omega) (by omega) ?_
  exact zp_vret hC hQ 17 () dX8_must_17 rfl trivial

set_option maxHeartbeats 4000000 in
theorem u_R_isWord (lau : Launch) (s0 : State) (G : zG) (ad : Nat → Nat) (D : List Value) (f : Nat → Int) (tn : Nat) (tt : Nat → Nat) (hT : RTX ad D f tn tt) (a wh pe ln bk ti hb ht mn : Int) (wd : Value) (v w : Nat → Int) (WS : va_W) (so pl vl nx : Nat) (hso : so ≤ 4) (hx : so = 1 → wIx tt pl nx vl ∧ WDX G tt pl nx wd WS) (q2 va k : Nat) (hk : k < 8) (hs : zStr s0 q2 va (wL k) (wD k)) (hcs : zCS s0) (hne : so = 1 → wd ≠ .ref q2) : zPur (S := Int) lau yX8_isWord cX8_isWord 2 (some .boolean) 2 52 s0 G [.ref (ad 0), .ref q2] (rdW G ad ((tn : Int)) (a) ((so : Int)) (wh) (pe) (ln) (bk) (ti) (hb) (ht) (mn) (wd) (v) (w) D f ++ WS) (fun r => some (.int (iZ r))) (fun r => (r = 1 ∧ (so = 1 ∧ vl = k)) ∨ (r = 0 ∧ ¬ (so = 1 ∧ vl = k))) := by
  refine zPur.of (by decide) (Nat.le_of_ble_eq_true rfl) ?_
  intro pg ev s1 mi ar bl me cd ls Q hC hP hl hQ
  have hl : lv_has ls 2 [(0, .ref (ad 0)), (1, .ref q2)] := hl
  refine z_aload_n hC 0 hl dX8_isWord_0 rfl 0 rfl ?_
  refine zp_get (v := .int (iZ ((so : Int)))) hC hP 1 in_X8 rfl 3 (by decide) q318 0 rfl rfl dX8_isWord_1 ?_
  refine z_iconst hC 4 dX8_isWord_4 ?_
  by_cases h1 : so = 1
  · refine z_icmp_ne_f hC 5 23 dX8_isWord_5 rfl (by omega) (by omega) (by omega) ?_
    obtain ⟨hx1, q, wa, kk, g, e1, e2, e3, e4, e5, e6, e7⟩ := hx h1
    have hne := hne h1
    subst e1 e2
    refine z_aload_n hC 8 hl dX8_isWord_8 rfl 0 rfl ?_
    refine zp_get (v := .ref q) hC hP 9 in_X8 rfl 11 (by decide) q329 0 rfl rfl dX8_isWord_9 ?_
    refine z_aload_n hC 12 hl dX8_isWord_12 rfl 1 rfl ?_
    refine zp_back (zp_runV hC zS0 hl.1 (va_P_r hP) 1 (As := [.ref q2]) (rest := []) (u_J2_equals lau s0 G q wa kk g e4 e3 q2 va (wL k) (wD k) hs hcs (fun h => hne (by rw [h]))) (lw_V q577 q578 q579 q99 q580) ⟨rfl, by decide, by decide, by decide +kernel⟩ (q0 := 0) (ci := 17) rfl rfl rfl rfl (Nat.le_of_ble_eq_true rfl) ⟨Nat.le_of_ble_eq_true rfl, Nat.le_of_ble_eq_true rfl⟩ ⟨by first | decide | omega, by first | decide | omega⟩ dX8_isWord_13) (fun r hr => ?_)
    refine z_st (st' := [.int (iZ (r : Int))]) rfl ?_
    have hw := eq_word (tt := tt) (pl := pl) (nx := nx) hk hx1 e5 e6 e7
    obtain ⟨hr1, hr2⟩ := hr
    rcases hr1 with rfl | rfl
    · refine z_if_eq_t hC 16 23 dX8_isWord_16 rfl (by omega) (by omega) ?_
      refine z_iconst hC 23 dX8_isWord_23 ?_
      exact zp_zret hC hQ 24 0 dX8_isWord_24 (by rfl) rfl (Or.inr ⟨rfl, fun h => absurd (hr2.mpr (hw.mpr h.2)) (by decide)⟩)
    · refine z_if_eq_f hC 16 23 dX8_isWord_16 rfl (by omega) (by omega) ?_
      refine z_iconst hC 19 dX8_isWord_19 ?_
      refine z_goto hC 20 24 dX8_isWord_20 rfl ?_
      exact zp_zret hC hQ 24 1 dX8_isWord_24 (by rfl) rfl (Or.inl ⟨rfl, h1, hw.mp (hr2.mp rfl)⟩)
  · refine z_icmp_ne_t hC 5 23 dX8_isWord_5 rfl (by omega) (by omega) (by omega) ?_
    refine z_iconst hC 23 dX8_isWord_23 ?_
    exact zp_zret hC hQ 24 0 dX8_isWord_24 (by rfl) rfl (Or.inr ⟨rfl, fun h => h1 h.1⟩)

