/-! Reader.must, number -/
set_option maxRecDepth 100000
theorem rd_ne {s0 s : State} {G : zG} {as0 : List Nat} {ad : Nat → Nat} {sz a0 ki wh pe ln bk ti hb ht mn : Int} {wd : Value} {v w : Nat → Int} {D : List Value} {f : Nat → Int} {WS : va_W} {H : Heap} {locs : List Loc} {tt : Nat → Nat} {pl nx q2 va n : Nat} {g : Nat → Nat} (hH : zH s0 s G as0 (rdW G ad sz a0 ki wh pe ln bk ti hb ht mn wd v w D f ++ WS) H locs) (hx : WDX G tt pl nx wd WS) (hs : zStr s0 q2 va n g) : wd ≠ .ref q2 := by
  obtain ⟨q, a, k, g2, rfl, rfl, -⟩ := hx
  intro h
  obtain rfl := Value.ref.inj h
  obtain ⟨cell, -, -, -, hA⟩ := hs.1
  exact hA (hH.2.1.2 6 _ rfl).1
set_option maxHeartbeats 8000000 in
theorem m_R_must0 (lau : Launch) (s0 : State) (G : zG) (sz : Nat) (hth : zThr s0) (ad : Nat → Nat) (D : List Value) (f : Nat → Int) (sy a0 ki wh ln bk ti hb ht mn : Int) (wd : Value) (v w : Nat → Int) (kk p : Nat) : zxMet (S := Unit) lau yX8_must cX8_must 3 (none) 4 90 1 8 s0 G sz [.ref (ad 0), .int (iZ 0), .int (iZ (kk : Int))] (rdW G ad (sy) (a0) (ki) (wh) ((p : Int)) (ln) (bk) (ti) (hb) (ht) (mn) (wd) (v) (w) D f) (fun _ => (none : Option Value)) (fun _ => False) (fun _ => rdW G ad (sy) (a0) (ki) (wh) ((p : Int)) (ln) (bk) (ti) (hb) (ht) (mn) (wd) (v) (w) D f) (ad 4) (ad 5) D f (fun k q => k = kk ∧ q = p) := by
  refine zxMet.of (by decide) (Nat.le_of_ble_eq_true rfl) ?_
  intro pg ev s1 mi ar bl me cd ls Q as0 hC hx0 hH hl hQ hsz
  generalize s1.heap = H at hH ⊢
  generalize ([] : List Loc) = locs at hH ⊢
  have hl : lv_has ls 3 [(0, .ref (ad 0)), (1, .int (iZ 0)), (2, .int (iZ (kk : Int)))] := hl
  refine z_iload_n hC 0 hl dX8_must_0 rfl 1 rfl ?_
  refine z_if_ne_f hC 1 17 dX8_must_1 rfl (by omega) (by omega) ?_
  refine z_new (ci := 8) (N := 8) hC hH 4 [.null, .null, .null, .null, .null, .int (0), .int (0), .int (0)] tyX9 in_X9 tyX9_ok rfl q593 q594 q109 (fun j hj => by rcases (show j = 0 ∨ j = 1 ∨ j = 2 ∨ j = 3 ∨ j = 4 ∨ j = 5 ∨ j = 6 ∨ j = 7 from by omega) with rfl | rfl | rfl | rfl | rfl | rfl | rfl | rfl <;> rfl) ⟨Nat.le_of_ble_eq_true rfl, Nat.le_of_ble_eq_true rfl⟩ dX8_must_4 (fun q H hH => ?_)
  refine z_dup hC 7 dX8_must_7 rfl ?_
  refine z_iload_n hC 8 hl dX8_must_8 rfl 2 rfl ?_
  refine z_aload_n hC 9 hl dX8_must_9 rfl 0 rfl ?_
  refine zp_get (v := .int (iZ ((p : Int)))) hC hH.1 10 in_X8 rfl 5 (by decide) q320 0 rfl rfl dX8_must_10 ?_
  refine z_sub (z_runI hC hH.2.2 hl.1 (z_subP hH.1 [6] rfl) (z_subD hH.2.1 [6] (by decide) rfl) 2 (As := [.int (iZ (kk : Int)), .int (iZ (p : Int))]) (rest := [.ref q]) (m_X9_init lau s0 G _ hth q kk p) (lw_meth q635) q633 ⟨q109, q634⟩ rfl ⟨by decide, by decide, by decide +kernel⟩ rfl rfl (Nat.le_of_ble_eq_true rfl) ⟨Nat.le_of_ble_eq_true rfl, Nat.le_of_ble_eq_true rfl⟩ ⟨Nat.le_of_ble_eq_true rfl, Nat.le_of_ble_eq_true rfl⟩ dX8_must_13) hH [6] rfl (by decide) (fun _ => rfl) (fun _ H locs _ hH => ?_)
  refine z_st (st' := [.ref q]) rfl ?_
  have hH : zH s0 s1 G as0 (rdW G ad (sy) (a0) (ki) (wh) ((p : Int)) (ln) (bk) (ti) (hb) (ht) (mn) (wd) (v) (w) D f ++ [(q, .inr (8, [.null, .null, .null, .null, .null, .int (0), .int (iZ (kk : Int)), .int (iZ (p : Int))]))]) H locs := hH
  refine zx_athrow hC 16 dX8_must_16 ?_
  exact zx_out hC hx0 (q := q) (k := kk) (p := p) ⟨z_subP hH.1 [4, 5, 6] rfl, z_subD hH.2.1 [4, 5, 6] (by decide) rfl, hH.2.2⟩ hQ ⟨rfl, rfl⟩ (Nat.le_of_ble_eq_true rfl) (Nat.le_of_ble_eq_true rfl)

set_option maxHeartbeats 8000000 in
theorem m_R_number (lau : Launch) (s0 : State) (G : zG) (sz : Nat) (hcs : zCS s0) (ad : Nat → Nat) (D : List Value) (f : Nat → Int) (tn : Nat) (tt : Nat → Nat) (hT : RTX ad D f tn tt) (wh ln bk ti hb ht mn : Int) (wd : Value) (v w : Nat → Int) (so pl vl nx lo hi : Nat) (hso : so = 2) (hwh : ∃ N : Nat, wh = (N : Int) ∧ NUMD N vl) (hrng : lo ≤ vl ∧ vl ≤ hi) (hhi : hi ≤ 999) (hnx : nx ≤ tn) (kw : Nat) (hkw : ∀ p, SKP tW tt tn nx p → tS (hereZ tt tn p) → 1 ≤ kw) : zMet (S := Nat × Nat × Nat × Nat × Int × Value × va_W) lau yX8_number cX8_number 4 (some .int) 7 210 (4 * kw) (31 * kw) s0 G sz [.ref (ad 0), .int (iZ (lo : Int)), .int (iZ (hi : Int))] (rdW G ad ((tn : Int)) ((nx : Int)) ((so : Int)) (wh) ((pl : Int)) (ln) (bk) (ti) (hb) (ht) (mn) (wd) (v) (w) D f) (fun (s, p, u, x, M, wd2, WS) => some (.int (iZ (vl : Int)))) (fun (s, p, u, x, M, wd2, WS) => TOK tt tn nx s p u x ∧ RTK G tt tn s p u x M wd2 WS) (fun (s, p, u, x, M, wd2, WS) => rdW G ad ((tn : Int)) ((x : Int)) ((s : Int)) (M) ((p : Int)) (ln) (bk) (ti) (hb) (ht) (mn) (wd2) (v) (w) D f ++ WS) := by
  refine zMet.of (by decide) (Nat.le_of_ble_eq_true rfl) ?_
  intro pg ev s1 mi ar bl me cd ls Q as0 hC hH hl hQ hsz
  generalize s1.heap = H at hH ⊢
  generalize ([] : List Loc) = locs at hH ⊢
  have hl : lv_has ls 4 [(0, .ref (ad 0)), (1, .int (iZ (lo : Int))), (2, .int (iZ (hi : Int)))] := hl
  obtain ⟨N, hwN, hN⟩ := hwh
  obtain rfl : wh = (vl : Int) := by rw [hwN, NUMD_v hN (by omega)]
  refine z_aload_n hC 0 hl dX8_number_0 rfl 0 rfl ?_
  refine z_aload_n hC 1 hl dX8_number_1 rfl 0 rfl ?_
  refine zp_get (v := .int (iZ ((so : Int)))) hC hH.1 2 in_X8 rfl 3 (by decide) q318 0 rfl rfl dX8_number_2 ?_
  refine z_iconst hC 5 dX8_number_5 ?_
  refine z_icmp_ne_f hC 6 13 dX8_number_6 rfl (by omega) (by omega) (by omega) ?_
  refine z_iconst hC 9 dX8_number_9 ?_
  refine z_goto hC 10 14 dX8_number_10 rfl ?_
  refine z_iconst hC 14 dX8_number_14 ?_
  refine zp_back (zp_runV hC hH.2.2 hl.1 hH.1 2 (As := [.int (iZ (1)), .int (iZ (1))]) (rest := []) (u_R_must lau s0 G ad D f ((tn : Int)) ((nx : Int)) ((so : Int)) ((vl : Int)) ((pl : Int)) (ln) (bk) (ti) (hb) (ht) (mn) (wd) (v) (w) ((1))) (lw_V q589 q591 qs6 q96 q592) ⟨rfl, by decide, by decide, by decide +kernel⟩ (q0 := 0) (ci := 7) rfl rfl rfl rfl (Nat.le_of_ble_eq_true rfl) ⟨Nat.le_of_ble_eq_true rfl, Nat.le_of_ble_eq_true rfl⟩ ⟨by first | decide | omega, by first | decide | omega⟩ dX8_number_15) (fun _ _ => ?_)
  refine z_st (st' := []) rfl ?_
  refine z_aload_n hC 18 hl dX8_number_18 rfl 0 rfl ?_
  refine z_aload_n hC 19 hl dX8_number_19 rfl 0 rfl ?_
  refine zp_get (v := .int (iZ ((vl : Int)))) hC hH.1 20 in_X8 rfl 4 (by decide) q319 0 rfl rfl dX8_number_20 ?_
  refine z_i2l hC 23 dX8_number_23 (by omega) ?_
  refine z_iload_n hC 24 hl dX8_number_24 rfl 1 rfl ?_
  refine z_i2l hC 25 dX8_number_25 (by omega) ?_
  refine z_iload_n hC 26 hl dX8_number_26 rfl 2 rfl ?_
  refine z_i2l hC 27 dX8_number_27 (by omega) ?_
  refine zp_back (zp_runSN hC hH.2.2 hl.1 zp_nil 3 (As := [.long (lZ ((vl : Int))), .long (lZ (lo : Int)), .long (lZ (hi : Int))]) (rest := [.ref (ad 0)]) (u_X1_isIn lau s0 G (((vl : Int))) ((lo : Int)) ((hi : Int)) (by omega) (by omega) (by omega)) (lw_meth q305) q376 ⟨q304, q89⟩ ⟨by decide, by decide, by decide +kernel⟩ rfl rfl (Nat.le_of_ble_eq_true rfl) ⟨Nat.le_of_ble_eq_true rfl, Nat.le_of_ble_eq_true rfl⟩ ⟨by first | decide | omega, by first | decide | omega⟩ dX8_number_28) (fun r hr => ?_)
  refine z_st (st' := [.int (iZ r), .ref (ad 0)]) rfl ?_
  have hr : (r = 1 ∧ ((lo : Int) ≤ ((vl : Int)) ∧ ((vl : Int)) ≤ (hi : Int))) ∨ (r = 0 ∧ ¬ ((lo : Int) ≤ ((vl : Int)) ∧ ((vl : Int)) ≤ (hi : Int))) := hr
  obtain rfl : r = 1 := by omega
  refine z_iconst hC 31 dX8_number_31 ?_
  refine zp_back (zp_runV hC hH.2.2 hl.1 hH.1 2 (As := [.int (iZ 1), .int (iZ (2))]) (rest := []) (u_R_must lau s0 G ad D f ((tn : Int)) ((nx : Int)) ((so : Int)) ((vl : Int)) ((pl : Int)) (ln) (bk) (ti) (hb) (ht) (mn) (wd) (v) (w) ((2))) (lw_V q589 q591 qs6 q96 q592) ⟨rfl, by decide, by decide, by decide +kernel⟩ (q0 := 0) (ci := 7) rfl rfl rfl rfl (Nat.le_of_ble_eq_true rfl) ⟨Nat.le_of_ble_eq_true rfl, Nat.le_of_ble_eq_true rfl⟩ ⟨by first | decide | omega, by first | decide | omega⟩ dX8_number_32) (fun _ _ => ?_)
  refine z_st (st' := []) rfl ?_
  refine z_aload_n hC 35 hl dX8_number_35 rfl 0 rfl ?_
  refine zp_get (v := .int (iZ ((vl : Int)))) hC hH.1 36 in_X8 rfl 4 (by decide) q319 0 rfl rfl dX8_number_36 ?_
  refine z_istore_n (lv' := [(3, .int (iZ ((vl : Int)))), (0, .ref (ad 0)), (1, .int (iZ (lo : Int))), (2, .int (iZ (hi : Int)))]) hC 39 hl dX8_number_39 rfl (by decide) rfl (fun ls hl => ?_)
  refine z_aload_n hC 40 hl dX8_number_40 rfl 1 rfl ?_
  refine z_same (z_runV hC hH.2.2 hl.1 hH.1 hH.2.1 0 (As := []) (rest := []) (m_R_take lau s0 G _ hcs ad D f tn tt hT ((so : Int)) ((vl : Int)) ((pl : Int)) (ln) (bk) (ti) (hb) (ht) (mn) (wd) (v) (w) (nx) (kw) hnx (hkw)) (lw_V q362 q364 qs0 q96 q365) ⟨rfl, by decide, by decide, by decide +kernel⟩ (q0 := 0) (ci := 7) rfl rfl rfl rfl (Nat.le_of_ble_eq_true rfl) ⟨Nat.le_of_ble_eq_true rfl, Nat.le_of_ble_eq_true rfl⟩ ⟨by show 0 + 4 * kw ≤ 4 * kw; omega, by show 0 + 31 * kw ≤ 31 * kw; omega⟩ dX8_number_41) hH (fun u9 H locs hpost hH => ?_)
  obtain ⟨e2, p2, u2, x2, M2, wd2, WS2⟩ := u9
  obtain ⟨hk2, hr2⟩ := hpost
  have hk2 : TOK tt tn (nx) e2 p2 u2 x2 := hk2
  have hr2 : RTK G tt tn e2 p2 u2 x2 M2 wd2 WS2 := hr2
  have hb2 := RTK_b hr2
  have hd2 := (TOK_b hk2 hnx).1
  refine z_st (st' := []) rfl ?_
  have hH : zH s0 s1 G as0 (rdW G ad ((tn : Int)) ((x2 : Int)) ((e2 : Int)) (M2) ((p2 : Int)) (ln) (bk) (ti) (hb) (ht) (mn) (wd2) (v) (w) D f ++ WS2) H locs := hH
  refine z_iload_n hC 44 hl dX8_number_44 rfl 0 rfl ?_
  exact z_iret hC hH hQ 45 (e2, p2, u2, x2, M2, wd2, WS2) dX8_number_45 rfl ⟨hk2, hr2⟩ rfl (by show 0 + 4 * kw ≤ 4 * kw; omega) (by show 0 + 31 * kw ≤ 31 * kw; omega)

set_option maxHeartbeats 8000000 in
theorem m_R_numbad (lau : Launch) (s0 : State) (G : zG) (sz : Nat) (hth : zThr s0) (ad : Nat → Nat) (D : List Value) (f : Nat → Int) (tn : Nat) (tt : Nat → Nat) (hT : RTX ad D f tn tt) (wh ln bk ti hb ht mn : Int) (wd : Value) (v w : Nat → Int) (so pl vl nx lo hi : Nat) (hs4 : so ≤ 4) (hlh : lo ≤ hi) (hhi : hi ≤ 999) (hb9 : so ≠ 2 ∨ (so = 2 ∧ (∃ N : Nat, wh = (N : Int) ∧ NUMD N vl) ∧ ¬ (lo ≤ vl ∧ vl ≤ hi))) : zxMet (S := Unit) lau yX8_number cX8_number 4 (some .int) 5 120 1 8 s0 G sz [.ref (ad 0), .int (iZ (lo : Int)), .int (iZ (hi : Int))] (rdW G ad ((tn : Int)) ((nx : Int)) ((so : Int)) (wh) ((pl : Int)) (ln) (bk) (ti) (hb) (ht) (mn) (wd) (v) (w) D f) (fun _ => some (.int 0)) (fun _ => False) (fun _ => rdW G ad ((tn : Int)) ((nx : Int)) ((so : Int)) (wh) ((pl : Int)) (ln) (bk) (ti) (hb) (ht) (mn) (wd) (v) (w) D f) (ad 4) (ad 5) D f (fun k q => NUMr tt tn lo hi so pl vl nx (.inl (k, q))) := by
  refine zxMet.of (by decide) (Nat.le_of_ble_eq_true rfl) ?_
  intro pg ev s1 mi ar bl me cd ls Q as0 hC hx0 hH hl hQ hsz
  generalize s1.heap = H at hH ⊢
  generalize ([] : List Loc) = locs at hH ⊢
  have hl : lv_has ls 4 [(0, .ref (ad 0)), (1, .int (iZ (lo : Int))), (2, .int (iZ (hi : Int)))] := hl
  refine z_aload_n hC 0 hl dX8_number_0 rfl 0 rfl ?_
  refine z_aload_n hC 1 hl dX8_number_1 rfl 0 rfl ?_
  refine zp_get (v := .int (iZ ((so : Int)))) hC hH.1 2 in_X8 rfl 3 (by decide) q318 0 rfl rfl dX8_number_2 ?_
  refine z_iconst hC 5 dX8_number_5 ?_
  rcases hb9 with h2 | ⟨h2, ⟨N, rfl, hN⟩, h3⟩
  · refine z_icmp_ne_t hC 6 13 dX8_number_6 rfl (by omega) (by omega) (by omega) ?_
    refine z_iconst hC 13 dX8_number_13 ?_
    refine z_iconst hC 14 dX8_number_14 ?_
    refine zx_same (zx_runV hC hH.2.2 hl.1 hH.1 hH.2.1 2 (As := [.int (iZ (0)), .int (iZ (1))]) (rest := []) (m_R_must0 lau s0 G _ hth ad D f ((tn : Int)) ((nx : Int)) ((so : Int)) (wh) (ln) (bk) (ti) (hb) (ht) (mn) (wd) (v) (w) (1) (pl)) (lw_V q589 q591 qs6 q96 q592) ⟨rfl, by decide, by decide, by decide +kernel⟩ (q0 := 0) (ci := 7) rfl rfl rfl rfl (Nat.le_of_ble_eq_true rfl) ⟨Nat.le_of_ble_eq_true rfl, Nat.le_of_ble_eq_true rfl⟩ ⟨by show 0 + 1 ≤ 1; omega, by show 0 + 8 ≤ 8; omega⟩ dX8_number_15) hH (fun k9 p9 q9 H9 locs9 hX hH9 => ?_) (fun _ _ _ h _ => h.elim)
    obtain ⟨rfl, rfl⟩ := hX
    exact zx_out hC hx0 hH9 hQ (NUMr_1 h2) (by show 0 + 1 ≤ 1; omega) (by show 0 + 8 ≤ 8; omega)
  · have hNb := NUMD_b hN
    have h4 : ¬ ((lo : Int) ≤ (N : Int) ∧ (N : Int) ≤ (hi : Int)) := fun h => h3 ((NUMD_n hN hhi).mp h)
    refine z_icmp_ne_f hC 6 13 dX8_number_6 rfl (by omega) (by omega) (by omega) ?_
    refine z_iconst hC 9 dX8_number_9 ?_
    refine z_goto hC 10 14 dX8_number_10 rfl ?_
    refine z_iconst hC 14 dX8_number_14 ?_
    refine zp_back (zp_runV hC hH.2.2 hl.1 hH.1 2 (As := [.int (iZ (1)), .int (iZ (1))]) (rest := []) (u_R_must lau s0 G ad D f ((tn : Int)) ((nx : Int)) ((so : Int)) ((N : Int)) ((pl : Int)) (ln) (bk) (ti) (hb) (ht) (mn) (wd) (v) (w) ((1))) (lw_V q589 q591 qs6 q96 q592) ⟨rfl, by decide, by decide, by decide +kernel⟩ (q0 := 0) (ci := 7) rfl rfl rfl rfl (Nat.le_of_ble_eq_true rfl) ⟨Nat.le_of_ble_eq_true rfl, Nat.le_of_ble_eq_true rfl⟩ ⟨by first | decide | omega, by first | decide | omega⟩ dX8_number_15) (fun _ _ => ?_)
    refine z_st (st' := []) rfl ?_
    refine z_aload_n hC 18 hl dX8_number_18 rfl 0 rfl ?_
    refine z_aload_n hC 19 hl dX8_number_19 rfl 0 rfl ?_
    refine zp_get (v := .int (iZ ((N : Int)))) hC hH.1 20 in_X8 rfl 4 (by decide) q319 0 rfl rfl dX8_number_20 ?_
    refine z_i2l hC 23 dX8_number_23 (by omega) ?_
    refine z_iload_n hC 24 hl dX8_number_24 rfl 1 rfl ?_
    refine z_i2l hC 25 dX8_number_25 (by omega) ?_
    refine z_iload_n hC 26 hl dX8_number_26 rfl 2 rfl ?_
    refine z_i2l hC 27 dX8_number_27 (by omega) ?_
    refine zp_back (zp_runSN hC hH.2.2 hl.1 zp_nil 3 (As := [.long (lZ ((N : Int))), .long (lZ (lo : Int)), .long (lZ (hi : Int))]) (rest := [.ref (ad 0)]) (u_X1_isIn lau s0 G (((N : Int))) ((lo : Int)) ((hi : Int)) (by omega) (by omega) (by omega)) (lw_meth q305) q376 ⟨q304, q89⟩ ⟨by decide, by decide, by decide +kernel⟩ rfl rfl (Nat.le_of_ble_eq_true rfl) ⟨Nat.le_of_ble_eq_true rfl, Nat.le_of_ble_eq_true rfl⟩ ⟨by first | decide | omega, by first | decide | omega⟩ dX8_number_28) (fun r hr => ?_)
    refine z_st (st' := [.int (iZ r), .ref (ad 0)]) rfl ?_
    have hr : (r = 1 ∧ ((lo : Int) ≤ ((N : Int)) ∧ ((N : Int)) ≤ (hi : Int))) ∨ (r = 0 ∧ ¬ ((lo : Int) ≤ ((N : Int)) ∧ ((N : Int)) ≤ (hi : Int))) := hr
    obtain rfl : r = 0 := by omega
    refine z_iconst hC 31 dX8_number_31 ?_
    refine zx_same (zx_runV hC hH.2.2 hl.1 hH.1 hH.2.1 2 (As := [.int (iZ 0), .int (iZ (2))]) (rest := []) (m_R_must0 lau s0 G _ hth ad D f ((tn : Int)) ((nx : Int)) ((so : Int)) ((N : Int)) (ln) (bk) (ti) (hb) (ht) (mn) (wd) (v) (w) (2) (pl)) (lw_V q589 q591 qs6 q96 q592) ⟨rfl, by decide, by decide, by decide +kernel⟩ (q0 := 0) (ci := 7) rfl rfl rfl rfl (Nat.le_of_ble_eq_true rfl) ⟨Nat.le_of_ble_eq_true rfl, Nat.le_of_ble_eq_true rfl⟩ ⟨by show 0 + 1 ≤ 1; omega, by show 0 + 8 ≤ 8; omega⟩ dX8_number_32) hH (fun k9 p9 q9 H9 locs9 hX hH9 => ?_) (fun _ _ _ h _ => h.elim)
    obtain ⟨rfl, rfl⟩ := hX
    exact zx_out hC hx0 hH9 hQ (NUMr_2 h2 h3) (by show 0 + 1 ≤ 1; omega) (by show 0 + 8 ≤ 8; omega)

