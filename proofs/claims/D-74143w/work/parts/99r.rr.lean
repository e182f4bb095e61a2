/-! Reader.values weight block ties -/
set_option maxRecDepth 100000
theorem kw_ex (tt : Nat → Nat) (tn a : Nat) : ∃ kw : Nat, (∀ p, SKP tW tt tn a p → tS (hereZ tt tn p) → 1 ≤ kw) ∧ kw ≤ 1 ∧ (kw = 0 ∨ ∃ p, SKP tW tt tn a p ∧ tS (hereZ tt tn p)) := by
  by_cases h : ∃ p, SKP tW tt tn a p ∧ tS (hereZ tt tn p)
  · exact ⟨1, fun _ _ _ => Nat.le_refl _, Nat.le_refl _, Or.inr h⟩
  · exact ⟨0, fun p h1 h2 => absurd ⟨p, h1, h2⟩ h, by omega, Or.inl rfl⟩
set_option maxHeartbeats 8000000 in
theorem m_R_values (lau : Launch) (s0 : State) (G : zG) (sz : Nat) (hcs : zCS s0) (hth : zThr s0) (ad : Nat → Nat) (D : List Value) (f : Nat → Int) (tn : Nat) (tt : Nat → Nat) (hT : RTX ad D f tn tt) (ki wh pe ln bk ti hb ht : Int) (wd : Value) (nx m : Nat) (vv ww : Nat → Nat) (hnx : nx ≤ tn) (hm : m ≤ 120) : zxMet (S := Nat × Nat × Nat × Nat × Nat × (Nat → Nat) × (Nat → Nat) × Int × Value × va_W) lau yX8_values cX8_values 1 (none) 8 240 9 70 s0 G sz [.ref (ad 0)] (rdW G ad ((tn : Int)) ((nx : Int)) (ki) (wh) (pe) (ln) (bk) (ti) (hb) (ht) ((m : Int)) (wd) ((fun j => (vv j : Int))) ((fun j => (ww j : Int))) D f) (fun (s, p, u, x, m2, v2, w2, M, wd2, WS) => (none : Option Value)) (fun (s, p, u, x, m2, v2, w2, M, wd2, WS) => RWr tt tn nx m vv ww (.inr (s, p, u, x, m2, v2, w2)) ∧ RTK G tt tn s p u x M wd2 WS ∧ nx ≤ p ∧ m2 ≤ 120) (fun (s, p, u, x, m2, v2, w2, M, wd2, WS) => rdW G ad ((tn : Int)) ((x : Int)) ((s : Int)) (M) ((p : Int)) (ln) (bk) (ti) (hb) (ht) ((m2 : Int)) (wd2) ((fun j => (v2 j : Int))) ((fun j => (w2 j : Int))) D f ++ WS) (ad 4) (ad 5) D f (fun k q => RWr tt tn nx m vv ww (.inl (k, q))) := by
  refine zxMet.of (by decide) (Nat.le_of_ble_eq_true rfl) ?_
  intro pg ev s1 mi ar bl me cd ls Q as0 hC hx0 hH hl hQ hsz
  generalize s1.heap = H at hH ⊢
  generalize ([] : List Loc) = locs at hH ⊢
  have hl : lv_has ls 1 [(0, .ref (ad 0))] := hl
  refine z_aload_n hC 0 hl dX8_values_0 rfl 0 rfl ?_
  refine z_same (z_runV hC hH.2.2 hl.1 hH.1 hH.2.1 0 (As := []) (rest := []) (m_R_take lau s0 G _ hcs ad D f tn tt hT (ki) (wh) (pe) (ln) (bk) (ti) (hb) (ht) ((m : Int)) (wd) ((fun j => (vv j : Int))) ((fun j => (ww j : Int))) (nx) (1) hnx (fun _ _ _ => Nat.le_refl _)) (lw_V q362 q364 qs0 q96 q365) ⟨rfl, by decide, by decide, by decide +kernel⟩ (q0 := 0) (ci := 7) rfl rfl rfl rfl (Nat.le_of_ble_eq_true rfl) ⟨Nat.le_of_ble_eq_true rfl, Nat.le_of_ble_eq_true rfl⟩ ⟨by show 0 + 4 * 1 ≤ 9; omega, by show 0 + 31 * 1 ≤ 70; omega⟩ dX8_values_1) hH (fun u9 H locs hpost hH => ?_)
  obtain ⟨e1, p1, u1, x1, M1, wd1, WS1⟩ := u9
  obtain ⟨hk1, hr1⟩ := hpost
  have hk1 : TOK tt tn (nx) e1 p1 u1 x1 := hk1
  have hr1 : RTK G tt tn e1 p1 u1 x1 M1 wd1 WS1 := hr1
  have hb1 := RTK_b hr1
  have hd1 := (TOK_b hk1 hnx).1
  refine z_st (st' := []) rfl ?_
  have hH : zH s0 s1 G as0 (rdW G ad ((tn : Int)) ((x1 : Int)) ((e1 : Int)) (M1) ((p1 : Int)) (ln) (bk) (ti) (hb) (ht) ((m : Int)) (wd1) ((fun j => (vv j : Int))) ((fun j => (ww j : Int))) D f ++ WS1) H locs := hH
  have hH : zH s0 s1 G as0 (rdW G ad ((tn : Int)) ((x1 : Int)) ((e1 : Int)) (M1) ((p1 : Int)) (ln) (bk) (ti) (hb) (ht) ((m : Int)) (wd1) ((fun j => (vv j : Int))) ((fun j => (ww j : Int))) D f) H locs := zH_l hH
  have LV : ∀ (d s p u x m' : Nat) (v' w' : Nat → Nat) (M : Int) (wd : Value) (WS : va_W) (H : Heap) (locs : List Loc), x + d = tn → RTK G tt tn s p u x M wd WS → nx ≤ p → m' ≤ 120 → (∀ r, ROWr tt tn s p u x m' v' w' r → RWr tt tn nx m vv ww r) → zH s0 s1 G as0 (rdW G ad ((tn : Int)) ((x : Int)) ((s : Int)) (M) ((p : Int)) (ln) (bk) (ti) (hb) (ht) ((m' : Int)) (wd) ((fun j => (v' j : Int))) ((fun j => (w' j : Int))) D f) H locs → W pg lau ev (zRm 8 9 70 240) s1 mi ar bl me cd H locs (0 + 4 * 1) (0 + 31 * 1) Q (F0 mi 4 ls []) := by
    intro d
    induction d using Nat.strongRecOn with
    | ind d ih =>
      intro s p u x m' v' w' M wd WS H locs hxd hr hnp hm9 K hH
      have hbb := RTK_b hr
      refine z_aload_n hC 4 hl dX8_values_4 rfl 0 rfl ?_
      refine z_aload_n hC 5 hl dX8_values_5 rfl 0 rfl ?_
      refine zp_get (v := .int (iZ ((s : Int)))) hC hH.1 6 in_X8 rfl 3 (by decide) q318 0 rfl rfl dX8_values_6 ?_
      refine z_iconst hC 9 dX8_values_9 ?_
      by_cases h2 : s = 2
      · refine z_icmp_ne_f hC 10 17 dX8_values_10 rfl (by omega) (by omega) (by omega) ?_
        obtain ⟨N, rfl, hN⟩ := hr.2.2.2.2.1 h2
        refine z_iconst hC 13 dX8_values_13 ?_
        refine z_goto hC 14 18 dX8_values_14 rfl ?_
        refine z_iconst hC 18 dX8_values_18 ?_
        refine zp_back (zp_runV hC hH.2.2 hl.1 hH.1 2 (As := [.int (iZ (1)), .int (iZ (1))]) (rest := []) (u_R_must lau s0 G ad D f ((tn : Int)) ((x : Int)) ((s : Int)) ((N : Int)) ((p : Int)) (ln) (bk) (ti) (hb) (ht) ((m' : Int)) (wd) ((fun j => (v' j : Int))) ((fun j => (w' j : Int))) ((1))) (lw_V q589 q591 qs6 q96 q592) ⟨rfl, by decide, by decide, by decide +kernel⟩ (q0 := 0) (ci := 7) rfl rfl rfl rfl (Nat.le_of_ble_eq_true rfl) ⟨Nat.le_of_ble_eq_true rfl, Nat.le_of_ble_eq_true rfl⟩ ⟨by show (0 + 4 * 1) + 0 ≤ 9; omega, by show (0 + 31 * 1) + 0 ≤ 70; omega⟩ dX8_values_19) (fun _ _ => ?_)
        refine z_st (st' := []) rfl ?_
        refine z_aload_n hC 22 hl dX8_values_22 rfl 0 rfl ?_
        refine z_aload_n hC 23 hl dX8_values_23 rfl 0 rfl ?_
        refine zp_get (v := .ref (ad 1)) hC hH.1 24 in_X8 rfl 1 (by decide) q315 0 rfl rfl dX8_values_24 ?_
        refine zp_getN (v := .int (iZ ((m' : Int)))) hC hH.1 27 in_X2 rfl 2 (by decide) q150 1 rfl rfl dX8_values_27 ?_
        refine z_bipush hC 30 dX8_values_30 rfl ?_
        by_cases h3 : m' = 120
        · refine z_icmp_ge_t hC 32 39 dX8_values_32 rfl (by omega) (by omega) (by omega) ?_
          refine z_iconst hC 39 dX8_values_39 ?_
          refine z_iconst hC 40 dX8_values_40 ?_
          refine zx_same (zx_runV hC hH.2.2 hl.1 hH.1 hH.2.1 2 (As := [.int (iZ (0)), .int (iZ (2))]) (rest := []) (m_R_must0 lau s0 G _ hth ad D f ((tn : Int)) ((x : Int)) ((s : Int)) ((N : Int)) (ln) (bk) (ti) (hb) (ht) ((m' : Int)) (wd) ((fun j => (v' j : Int))) ((fun j => (w' j : Int))) (2) (p)) (lw_V q589 q591 qs6 q96 q592) ⟨rfl, by decide, by decide, by decide +kernel⟩ (q0 := 0) (ci := 7) rfl rfl rfl rfl (Nat.le_of_ble_eq_true rfl) ⟨Nat.le_of_ble_eq_true rfl, Nat.le_of_ble_eq_true rfl⟩ ⟨by show (0 + 4 * 1) + 1 ≤ 9; omega, by show (0 + 31 * 1) + 8 ≤ 70; omega⟩ dX8_values_41) hH (fun k9 p9 q9 H9 locs9 hX hH9 => ?_) (fun _ _ _ h _ => h.elim)
          obtain ⟨rfl, rfl⟩ := hX
          exact zx_out hC hx0 hH9 hQ (K _ (ROW_e2 h2 h3)) (by show (0 + 4 * 1) + 1 ≤ 9; omega) (by show (0 + 31 * 1) + 8 ≤ 70; omega)
        · refine z_icmp_ge_f hC 32 39 dX8_values_32 rfl (by omega) (by omega) (by omega) ?_
          refine z_iconst hC 35 dX8_values_35 ?_
          refine z_goto hC 36 40 dX8_values_36 rfl ?_
          refine z_iconst hC 40 dX8_values_40 ?_
          refine zp_back (zp_runV hC hH.2.2 hl.1 hH.1 2 (As := [.int (iZ (1)), .int (iZ (2))]) (rest := []) (u_R_must lau s0 G ad D f ((tn : Int)) ((x : Int)) ((s : Int)) ((N : Int)) ((p : Int)) (ln) (bk) (ti) (hb) (ht) ((m' : Int)) (wd) ((fun j => (v' j : Int))) ((fun j => (w' j : Int))) ((2))) (lw_V q589 q591 qs6 q96 q592) ⟨rfl, by decide, by decide, by decide +kernel⟩ (q0 := 0) (ci := 7) rfl rfl rfl rfl (Nat.le_of_ble_eq_true rfl) ⟨Nat.le_of_ble_eq_true rfl, Nat.le_of_ble_eq_true rfl⟩ ⟨by show (0 + 4 * 1) + 0 ≤ 9; omega, by show (0 + 31 * 1) + 0 ≤ 70; omega⟩ dX8_values_41) (fun _ _ => ?_)
          refine z_st (st' := []) rfl ?_
          refine z_aload_n hC 44 hl dX8_values_44 rfl 0 rfl ?_
          refine zp_get (v := .ref (ad 1)) hC hH.1 45 in_X8 rfl 1 (by decide) q315 0 rfl rfl dX8_values_45 ?_
          refine z_aload_n hC 48 hl dX8_values_48 rfl 0 rfl ?_
          refine z_iconst hC 49 dX8_values_49 ?_
          refine z_sipush hC 50 dX8_values_50 rfl ?_
          by_cases hv : u ≤ 999
          · obtain ⟨kw, hkw, hk01, hkp⟩ := kw_ex tt tn x
            refine z_same (z_runV hC hH.2.2 hl.1 hH.1 hH.2.1 2 (As := [.int (iZ (0)), .int (iZ (999))]) (rest := [.ref (ad 1)]) (m_R_number lau s0 G _ hcs ad D f tn tt hT ((N : Int)) (ln) (bk) (ti) (hb) (ht) ((m' : Int)) (wd) ((fun j => (v' j : Int))) ((fun j => (w' j : Int))) s p u x 0 999 h2 ⟨N, rfl, hN⟩ ⟨Nat.zero_le _, hv⟩ (by omega) (by omega) kw (hkw)) (lw_V q663 q665 qs8 q96 q666) ⟨rfl, by decide, by decide, by decide +kernel⟩ (q0 := 0) (ci := 7) rfl rfl rfl rfl (Nat.le_of_ble_eq_true rfl) ⟨Nat.le_of_ble_eq_true rfl, Nat.le_of_ble_eq_true rfl⟩ ⟨by show (0 + 4 * 1) + 4 * kw ≤ 9; omega, by show (0 + 31 * 1) + 31 * kw ≤ 70; omega⟩ dX8_values_53) hH (fun u9 H locs hpost hH => ?_)
            obtain ⟨e3, p3, u3, x3, M3, wd3, WS3⟩ := u9
            obtain ⟨hk3, hr3⟩ := hpost
            have hk3 : TOK tt tn x e3 p3 u3 x3 := hk3
            have hr3 : RTK G tt tn e3 p3 u3 x3 M3 wd3 WS3 := hr3
            have hb3 := RTK_b hr3
            have hd3 := (TOK_b hk3 (by omega)).1
            refine z_st (st' := [.int (iZ (u : Int)), .ref (ad 1)]) rfl ?_
            have hH : zH s0 s1 G as0 (rdW G ad ((tn : Int)) ((x3 : Int)) ((e3 : Int)) (M3) ((p3 : Int)) (ln) (bk) (ti) (hb) (ht) ((m' : Int)) (wd3) ((fun j => (v' j : Int))) ((fun j => (w' j : Int))) D f ++ WS3) H locs := hH
            have hnum : NUMr tt tn 0 999 s p u x (.inr (u, e3, p3, u3, x3)) := NUMr_o h2 ⟨Nat.zero_le _, hv⟩ hk3 rfl
            refine z_sub (z_runV hC hH.2.2 hl.1 (z_subP hH.1 [1, 2, 3] rfl) (z_subD hH.2.1 [1, 2, 3] (by decide) rfl) 1 (As := [.int (iZ (u : Int))]) (rest := []) (m_X2_adds lau s0 G _ (fun j => ad (j + 1)) (fun _ => 0) (fun _ _ => 0) m' (u : Int) (fun j => (v' j : Int)) (fun j => (w' j : Int)) (by omega)) (lw_V q667 q668 q669 q90 q670) ⟨rfl, by decide, by decide, by decide +kernel⟩ (q0 := 0) (ci := 2) rfl rfl rfl rfl (Nat.le_of_ble_eq_true rfl) ⟨Nat.le_of_ble_eq_true rfl, Nat.le_of_ble_eq_true rfl⟩ ⟨by show ((0 + 4 * 1) + 4 * kw) + 0 ≤ 9; omega, by show ((0 + 31 * 1) + 31 * kw) + 0 ≤ 70; omega⟩ dX8_values_56) hH [1, 2, 3] rfl (by decide) (fun _ => rfl) (fun _ H locs _ hH => ?_)
            refine z_st (st' := []) rfl ?_
            have hH : zH s0 s1 G as0 (rdW G ad ((tn : Int)) ((x3 : Int)) ((e3 : Int)) (M3) ((p3 : Int)) (ln) (bk) (ti) (hb) (ht) (((m' : Int) + 1)) (wd3) ((va_up (fun j => (v' j : Int)) m' (u : Int))) ((va_up (fun j => (w' j : Int)) m' ((1 : Nat) : Int))) D f ++ WS3) H locs := hH
            rw [upZ, upZ, show ((m' : Int) + 1) = ((m' + 1 : Nat) : Int) from rfl] at hH
            have hH : zH s0 s1 G as0 (rdW G ad ((tn : Int)) ((x3 : Int)) ((e3 : Int)) (M3) ((p3 : Int)) (ln) (bk) (ti) (hb) (ht) (((m' + 1 : Nat) : Int)) (wd3) ((fun j => ((va_up v' m' u j : Nat) : Int))) ((fun j => ((va_up w' m' 1 j : Nat) : Int))) D f ++ WS3) H locs := hH
            refine z_aload_n hC 59 hl dX8_values_59 rfl 0 rfl ?_
            refine zp_get (v := .int (iZ ((e3 : Int)))) hC hH.1 60 in_X8 rfl 3 (by decide) q318 0 rfl rfl dX8_values_60 ?_
            refine z_iconst hC 63 dX8_values_63 ?_
            by_cases h6 : e3 = 2
            · refine z_icmp_eq_t hC 64 4 dX8_values_64 rfl (by omega) (by omega) (by omega) ?_
              have hk0 : kw = 0 := hkp.resolve_right (fun ⟨p9, h7, h8⟩ => by have := TOK_w hk3 h7 h8; omega)
              subst hk0
              have hH : zH s0 s1 G as0 (rdW G ad ((tn : Int)) ((x3 : Int)) ((e3 : Int)) (M3) ((p3 : Int)) (ln) (bk) (ti) (hb) (ht) (((m' + 1 : Nat) : Int)) (wd3) ((fun j => ((va_up v' m' u j : Nat) : Int))) ((fun j => ((va_up w' m' 1 j : Nat) : Int))) D f) H locs := zH_l hH
              exact ih (tn - x3) (by omega) e3 p3 u3 x3 (m' + 1) (va_up v' m' u) (va_up w' m' 1) M3 wd3 WS3 H locs (by omega) hr3 (by omega) (by omega) (fun r hr => K r (ROW_c h2 h3 hnum h6 hr)) hH
            · refine z_icmp_eq_f hC 64 4 dX8_values_64 rfl (by omega) (by omega) (by omega) ?_
              exact zx_vret hC hH hQ 67 (e3, p3, u3, x3, m' + 1, va_up v' m' u, va_up w' m' 1, M3, wd3, WS3) dX8_values_67 rfl ⟨K _ (ROW_s h2 h3 hnum h6), hr3, by omega, by omega⟩ rfl (by show ((0 + 4 * 1) + 4 * kw) + 0 ≤ 9; omega) (by show ((0 + 31 * 1) + 31 * kw) + 0 ≤ 70; omega)
          · refine zx_same (zx_runV hC hH.2.2 hl.1 hH.1 hH.2.1 2 (As := [.int (iZ (0)), .int (iZ (999))]) (rest := [.ref (ad 1)]) (m_R_numbad lau s0 G _ hth ad D f tn tt hT ((N : Int)) (ln) (bk) (ti) (hb) (ht) ((m' : Int)) (wd) ((fun j => (v' j : Int))) ((fun j => (w' j : Int))) s p u x 0 999 (by omega) (by omega) (by omega) (Or.inr ⟨h2, ⟨N, rfl, hN⟩, fun h => hv h.2⟩)) (lw_V q663 q665 qs8 q96 q666) ⟨rfl, by decide, by decide, by decide +kernel⟩ (q0 := 0) (ci := 7) rfl rfl rfl rfl (Nat.le_of_ble_eq_true rfl) ⟨Nat.le_of_ble_eq_true rfl, Nat.le_of_ble_eq_true rfl⟩ ⟨by show (0 + 4 * 1) + 1 ≤ 9; omega, by show (0 + 31 * 1) + 8 ≤ 70; omega⟩ dX8_values_53) hH (fun k9 p9 q9 H9 locs9 hX hH9 => ?_) (fun _ _ _ h _ => h.elim)
            exact zx_out hC hx0 hH9 hQ (K _ (ROW_e3 h2 h3 hX)) (by show (0 + 4 * 1) + 1 ≤ 9; omega) (by show (0 + 31 * 1) + 8 ≤ 70; omega)
      · refine z_icmp_ne_t hC 10 17 dX8_values_10 rfl (by omega) (by omega) (by omega) ?_
        refine z_iconst hC 17 dX8_values_17 ?_
        refine z_iconst hC 18 dX8_values_18 ?_
        refine zx_same (zx_runV hC hH.2.2 hl.1 hH.1 hH.2.1 2 (As := [.int (iZ (0)), .int (iZ (1))]) (rest := []) (m_R_must0 lau s0 G _ hth ad D f ((tn : Int)) ((x : Int)) ((s : Int)) (M) (ln) (bk) (ti) (hb) (ht) ((m' : Int)) (wd) ((fun j => (v' j : Int))) ((fun j => (w' j : Int))) (1) (p)) (lw_V q589 q591 qs6 q96 q592) ⟨rfl, by decide, by decide, by decide +kernel⟩ (q0 := 0) (ci := 7) rfl rfl rfl rfl (Nat.le_of_ble_eq_true rfl) ⟨Nat.le_of_ble_eq_true rfl, Nat.le_of_ble_eq_true rfl⟩ ⟨by show (0 + 4 * 1) + 1 ≤ 9; omega, by show (0 + 31 * 1) + 8 ≤ 70; omega⟩ dX8_values_19) hH (fun k9 p9 q9 H9 locs9 hX hH9 => ?_) (fun _ _ _ h _ => h.elim)
        obtain ⟨rfl, rfl⟩ := hX
        exact zx_out hC hx0 hH9 hQ (K _ (ROW_e1 h2)) (by show (0 + 4 * 1) + 1 ≤ 9; omega) (by show (0 + 31 * 1) + 8 ≤ 70; omega)
  exact LV (tn - x1) e1 p1 u1 x1 m vv ww M1 wd1 WS1 H locs (by omega) hr1 (by omega) hm (fun r h => ⟨e1, p1, u1, x1, hk1, h⟩) hH

set_option maxHeartbeats 8000000 in
theorem m_R_weight (lau : Launch) (s0 : State) (G : zG) (sz : Nat) (hcs : zCS s0) (hth : zThr s0) (ad : Nat → Nat) (D : List Value) (f : Nat → Int) (tn : Nat) (tt : Nat → Nat) (hT : RTX ad D f tn tt) (ki wh pe ln bk ti hb ht : Int) (wd : Value) (v : Nat → Int) (nx m : Nat) (ww : Nat → Nat) (hnx : nx ≤ tn) (hm : m ≤ 120) : zxMet (S := Nat × Nat × Nat × Nat × (Nat → Nat) × Int × Value × va_W) lau yX8_weight cX8_weight 2 (none) 8 240 13 101 s0 G sz [.ref (ad 0)] (rdW G ad ((tn : Int)) ((nx : Int)) (ki) (wh) (pe) (ln) (bk) (ti) (hb) (ht) ((m : Int)) (wd) (v) ((fun j => (ww j : Int))) D f) (fun (s, p, u, x, w2, M, wd2, WS) => (none : Option Value)) (fun (s, p, u, x, w2, M, wd2, WS) => WGr tt tn nx m ww (.inr (s, p, u, x, w2)) ∧ RTK G tt tn s p u x M wd2 WS ∧ nx ≤ p) (fun (s, p, u, x, w2, M, wd2, WS) => rdW G ad ((tn : Int)) ((x : Int)) ((s : Int)) (M) ((p : Int)) (ln) (bk) (ti) (hb) (ht) ((m : Int)) (wd2) (v) ((fun j => (w2 j : Int))) D f ++ WS) (ad 4) (ad 5) D f (fun k q => WGr tt tn nx m ww (.inl (k, q))) := by
  refine zxMet.of (by decide) (Nat.le_of_ble_eq_true rfl) ?_
  intro pg ev s1 mi ar bl me cd ls Q as0 hC hx0 hH hl hQ hsz
  generalize s1.heap = H at hH ⊢
  generalize ([] : List Loc) = locs at hH ⊢
  have hl : lv_has ls 2 [(0, .ref (ad 0))] := hl
  refine z_aload_n hC 0 hl dX8_weight_0 rfl 0 rfl ?_
  refine z_same (z_runV hC hH.2.2 hl.1 hH.1 hH.2.1 0 (As := []) (rest := []) (m_R_take lau s0 G _ hcs ad D f tn tt hT (ki) (wh) (pe) (ln) (bk) (ti) (hb) (ht) ((m : Int)) (wd) (v) ((fun j => (ww j : Int))) (nx) (1) hnx (fun _ _ _ => Nat.le_refl _)) (lw_V q362 q364 qs0 q96 q365) ⟨rfl, by decide, by decide, by decide +kernel⟩ (q0 := 0) (ci := 7) rfl rfl rfl rfl (Nat.le_of_ble_eq_true rfl) ⟨Nat.le_of_ble_eq_true rfl, Nat.le_of_ble_eq_true rfl⟩ ⟨by show 0 + 4 * 1 ≤ 13; omega, by show 0 + 31 * 1 ≤ 101; omega⟩ dX8_weight_1) hH (fun u9 H locs hpost hH => ?_)
  obtain ⟨e1, p1, u1, x1, M1, wd1, WS1⟩ := u9
  obtain ⟨hk1, hr1⟩ := hpost
  have hk1 : TOK tt tn (nx) e1 p1 u1 x1 := hk1
  have hr1 : RTK G tt tn e1 p1 u1 x1 M1 wd1 WS1 := hr1
  have hb1 := RTK_b hr1
  have hd1 := (TOK_b hk1 hnx).1
  refine z_st (st' := []) rfl ?_
  have hH : zH s0 s1 G as0 (rdW G ad ((tn : Int)) ((x1 : Int)) ((e1 : Int)) (M1) ((p1 : Int)) (ln) (bk) (ti) (hb) (ht) ((m : Int)) (wd1) (v) ((fun j => (ww j : Int))) D f ++ WS1) H locs := hH
  have hH : zH s0 s1 G as0 (rdW G ad ((tn : Int)) ((x1 : Int)) ((e1 : Int)) (M1) ((p1 : Int)) (ln) (bk) (ti) (hb) (ht) ((m : Int)) (wd1) (v) ((fun j => (ww j : Int))) D f) H locs := zH_l hH
  refine z_aload_n hC 4 hl dX8_weight_4 rfl 0 rfl ?_
  refine z_aload_n hC 5 hl dX8_weight_5 rfl 0 rfl ?_
  refine zp_get (v := .int (iZ ((e1 : Int)))) hC hH.1 6 in_X8 rfl 3 (by decide) q318 0 rfl rfl dX8_weight_6 ?_
  refine z_iconst hC 9 dX8_weight_9 ?_
  by_cases h2 : e1 = 2
  · refine z_icmp_ne_f hC 10 31 dX8_weight_10 rfl (by omega) (by omega) (by omega) ?_
    obtain ⟨N, rfl, hN⟩ := hr1.2.2.2.2.1 h2
    have hNl := NUMD_l hN hm
    have hNb := NUMD_b hN
    refine z_aload_n hC 13 hl dX8_weight_13 rfl 0 rfl ?_
    refine zp_get (v := .int (iZ ((N : Int)))) hC hH.1 14 in_X8 rfl 4 (by decide) q319 0 rfl rfl dX8_weight_14 ?_
    refine z_aload_n hC 17 hl dX8_weight_17 rfl 0 rfl ?_
    refine zp_get (v := .ref (ad 1)) hC hH.1 18 in_X8 rfl 1 (by decide) q315 0 rfl rfl dX8_weight_18 ?_
    refine zp_getN (v := .int (iZ ((m : Int)))) hC hH.1 21 in_X2 rfl 2 (by decide) q150 1 rfl rfl dX8_weight_21 ?_
    by_cases h3 : N < m
    · refine z_icmp_ge_f hC 24 31 dX8_weight_24 rfl (by omega) (by omega) (by omega) ?_
      refine z_iconst hC 27 dX8_weight_27 ?_
      refine z_goto hC 28 32 dX8_weight_28 rfl ?_
      refine z_iconst hC 32 dX8_weight_32 ?_
      refine zp_back (zp_runV hC hH.2.2 hl.1 hH.1 2 (As := [.int (iZ (1)), .int (iZ (1))]) (rest := []) (u_R_must lau s0 G ad D f ((tn : Int)) ((x1 : Int)) ((e1 : Int)) ((N : Int)) ((p1 : Int)) (ln) (bk) (ti) (hb) (ht) ((m : Int)) (wd1) (v) ((fun j => (ww j : Int))) ((1))) (lw_V q589 q591 qs6 q96 q592) ⟨rfl, by decide, by decide, by decide +kernel⟩ (q0 := 0) (ci := 7) rfl rfl rfl rfl (Nat.le_of_ble_eq_true rfl) ⟨Nat.le_of_ble_eq_true rfl, Nat.le_of_ble_eq_true rfl⟩ ⟨by show (0 + 4 * 1) + 0 ≤ 13; omega, by show (0 + 31 * 1) + 0 ≤ 101; omega⟩ dX8_weight_33) (fun _ _ => ?_)
      refine z_st (st' := []) rfl ?_
      refine z_aload_n hC 36 hl dX8_weight_36 rfl 0 rfl ?_
      refine zp_get (v := .int (iZ ((N : Int)))) hC hH.1 37 in_X8 rfl 4 (by decide) q319 0 rfl rfl dX8_weight_37 ?_
      refine z_istore_n (lv' := [(1, .int (iZ ((N : Int)))), (0, .ref (ad 0))]) hC 40 hl dX8_weight_40 rfl (by decide) rfl (fun ls hl => ?_)
      refine z_aload_n hC 41 hl dX8_weight_41 rfl 1 rfl ?_
      refine z_same (z_runV hC hH.2.2 hl.1 hH.1 hH.2.1 0 (As := []) (rest := []) (m_R_take lau s0 G _ hcs ad D f tn tt hT ((e1 : Int)) ((N : Int)) ((p1 : Int)) (ln) (bk) (ti) (hb) (ht) ((m : Int)) (wd1) (v) ((fun j => (ww j : Int))) (x1) (1) (by omega) (fun _ _ _ => Nat.le_refl _)) (lw_V q362 q364 qs0 q96 q365) ⟨rfl, by decide, by decide, by decide +kernel⟩ (q0 := 0) (ci := 7) rfl rfl rfl rfl (Nat.le_of_ble_eq_true rfl) ⟨Nat.le_of_ble_eq_true rfl, Nat.le_of_ble_eq_true rfl⟩ ⟨by show (0 + 4 * 1) + 4 * 1 ≤ 13; omega, by show (0 + 31 * 1) + 31 * 1 ≤ 101; omega⟩ dX8_weight_42) hH (fun u9 H locs hpost hH => ?_)
      obtain ⟨e2, p2, u2, x2, M2, wd2, WS2⟩ := u9
      obtain ⟨hk2, hr2⟩ := hpost
      have hk2 : TOK tt tn (x1) e2 p2 u2 x2 := hk2
      have hr2 : RTK G tt tn e2 p2 u2 x2 M2 wd2 WS2 := hr2
      have hb2 := RTK_b hr2
      have hd2 := (TOK_b hk2 (by omega)).1
      refine z_st (st' := []) rfl ?_
      have hH : zH s0 s1 G as0 (rdW G ad ((tn : Int)) ((x2 : Int)) ((e2 : Int)) (M2) ((p2 : Int)) (ln) (bk) (ti) (hb) (ht) ((m : Int)) (wd2) (v) ((fun j => (ww j : Int))) D f ++ WS2) H locs := hH
      have hH : zH s0 s1 G as0 (rdW G ad ((tn : Int)) ((x2 : Int)) ((e2 : Int)) (M2) ((p2 : Int)) (ln) (bk) (ti) (hb) (ht) ((m : Int)) (wd2) (v) ((fun j => (ww j : Int))) D f) H locs := zH_l hH
      refine z_aload_n hC 45 hl dX8_weight_45 rfl 1 rfl ?_
      refine zp_get (v := .ref (ad 1)) hC hH.1 46 in_X8 rfl 1 (by decide) q315 0 rfl rfl dX8_weight_46 ?_
      refine zp_getN (v := .ref (ad 3)) hC hH.1 49 in_X2 rfl 1 (by decide) q144 1 rfl rfl dX8_weight_49 ?_
      refine z_iload_n hC 52 hl dX8_weight_52 rfl 0 rfl ?_
      refine z_aload_n hC 53 hl dX8_weight_53 rfl 1 rfl ?_
      refine z_iconst hC 54 dX8_weight_54 ?_
      refine z_bipush hC 55 dX8_weight_55 rfl ?_
      have hvN := NUMD_v hN (by omega)
      by_cases h4 : e2 = 2 ∧ (1 ≤ u2 ∧ u2 ≤ 9)
      · refine z_same (z_runV hC hH.2.2 hl.1 hH.1 hH.2.1 2 (As := [.int (iZ (1)), .int (iZ (9))]) (rest := [.int (iZ ((N : Int))), .ref (ad 3)]) (m_R_number lau s0 G _ hcs ad D f tn tt hT (M2) (ln) (bk) (ti) (hb) (ht) ((m : Int)) (wd2) (v) ((fun j => (ww j : Int))) e2 p2 u2 x2 1 9 h4.1 (hr2.2.2.2.2.1 h4.1) h4.2 (by omega) (by omega) 1 (fun _ _ _ => Nat.le_refl _)) (lw_V q663 q665 qs8 q96 q666) ⟨rfl, by decide, by decide, by decide +kernel⟩ (q0 := 0) (ci := 7) rfl rfl rfl rfl (Nat.le_of_ble_eq_true rfl) ⟨Nat.le_of_ble_eq_true rfl, Nat.le_of_ble_eq_true rfl⟩ ⟨by show ((0 + 4 * 1) + 4 * 1) + 4 * 1 ≤ 13; omega, by show ((0 + 31 * 1) + 31 * 1) + 31 * 1 ≤ 101; omega⟩ dX8_weight_57) hH (fun u9 H locs hpost hH => ?_)
        obtain ⟨e3, p3, u3, x3, M3, wd3, WS3⟩ := u9
        obtain ⟨hk3, hr3⟩ := hpost
        have hk3 : TOK tt tn x2 e3 p3 u3 x3 := hk3
        have hr3 : RTK G tt tn e3 p3 u3 x3 M3 wd3 WS3 := hr3
        have hb3 := RTK_b hr3
        have hd3 := (TOK_b hk3 (by omega)).1
        refine z_st (st' := [.int (iZ (u2 : Int)), .int (iZ ((N : Int))), .ref (ad 3)]) rfl ?_
        have hH : zH s0 s1 G as0 (rdW G ad ((tn : Int)) ((x3 : Int)) ((e3 : Int)) (M3) ((p3 : Int)) (ln) (bk) (ti) (hb) (ht) ((m : Int)) (wd3) (v) ((fun j => (ww j : Int))) D f ++ WS3) H locs := hH
        have hnum : NUMr tt tn 1 9 e2 p2 u2 x2 (.inr (u2, e3, p3, u3, x3)) := NUMr_o h4.1 h4.2 hk3 rfl
        refine z_iast hC hH 60 3 N rfl (by decide) rfl (by omega) rfl rfl dX8_weight_60 (fun H locs hH => ?_)
        have hH : zH s0 s1 G as0 (rdW G ad ((tn : Int)) ((x3 : Int)) ((e3 : Int)) (M3) ((p3 : Int)) (ln) (bk) (ti) (hb) (ht) ((m : Int)) (wd3) (v) ((va_up (fun j => (ww j : Int)) N (u2 : Int))) D f ++ WS3) H locs := hH
        rw [upZ] at hH
        have hH : zH s0 s1 G as0 (rdW G ad ((tn : Int)) ((x3 : Int)) ((e3 : Int)) (M3) ((p3 : Int)) (ln) (bk) (ti) (hb) (ht) ((m : Int)) (wd3) (v) ((fun j => ((va_up ww N u2 j : Nat) : Int))) D f ++ WS3) H locs := hH
        exact zx_vret hC hH hQ 61 (e3, p3, u3, x3, va_up ww N u2, M3, wd3, WS3) dX8_weight_61 rfl ⟨WGr_o hk1 ⟨h2, by omega⟩ hk2 hnum hvN, hr3, by omega⟩ rfl (by show (((0 + 4 * 1) + 4 * 1) + 4 * 1) + 0 ≤ 13; omega) (by show (((0 + 31 * 1) + 31 * 1) + 31 * 1) + 0 ≤ 101; omega)
      · have hbad : e2 ≠ 2 ∨ (e2 = 2 ∧ (∃ N : Nat, M2 = (N : Int) ∧ NUMD N u2) ∧ ¬ (1 ≤ u2 ∧ u2 ≤ 9)) := by
          by_cases h9 : e2 = 2
          · exact Or.inr ⟨h9, hr2.2.2.2.2.1 h9, fun h => h4 ⟨h9, h⟩⟩
          · exact Or.inl h9
        refine zx_same (zx_runV hC hH.2.2 hl.1 hH.1 hH.2.1 2 (As := [.int (iZ (1)), .int (iZ (9))]) (rest := [.int (iZ ((N : Int))), .ref (ad 3)]) (m_R_numbad lau s0 G _ hth ad D f tn tt hT (M2) (ln) (bk) (ti) (hb) (ht) ((m : Int)) (wd2) (v) ((fun j => (ww j : Int))) e2 p2 u2 x2 1 9 (by omega) (by omega) (by omega) (hbad)) (lw_V q663 q665 qs8 q96 q666) ⟨rfl, by decide, by decide, by decide +kernel⟩ (q0 := 0) (ci := 7) rfl rfl rfl rfl (Nat.le_of_ble_eq_true rfl) ⟨Nat.le_of_ble_eq_true rfl, Nat.le_of_ble_eq_true rfl⟩ ⟨by show ((0 + 4 * 1) + 4 * 1) + 1 ≤ 13; omega, by show ((0 + 31 * 1) + 31 * 1) + 8 ≤ 101; omega⟩ dX8_weight_57) hH (fun k9 p9 q9 H9 locs9 hX hH9 => ?_) (fun _ _ _ h _ => h.elim)
        exact zx_out hC hx0 hH9 hQ (WGr_2 hk1 ⟨h2, by omega⟩ hk2 hX) (by show ((0 + 4 * 1) + 4 * 1) + 1 ≤ 13; omega) (by show ((0 + 31 * 1) + 31 * 1) + 8 ≤ 101; omega)
    · refine z_icmp_ge_t hC 24 31 dX8_weight_24 rfl (by omega) (by omega) (by omega) ?_
      refine z_iconst hC 31 dX8_weight_31 ?_
      refine z_iconst hC 32 dX8_weight_32 ?_
      refine zx_same (zx_runV hC hH.2.2 hl.1 hH.1 hH.2.1 2 (As := [.int (iZ (0)), .int (iZ (1))]) (rest := []) (m_R_must0 lau s0 G _ hth ad D f ((tn : Int)) ((x1 : Int)) ((e1 : Int)) ((N : Int)) (ln) (bk) (ti) (hb) (ht) ((m : Int)) (wd1) (v) ((fun j => (ww j : Int))) (1) (p1)) (lw_V q589 q591 qs6 q96 q592) ⟨rfl, by decide, by decide, by decide +kernel⟩ (q0 := 0) (ci := 7) rfl rfl rfl rfl (Nat.le_of_ble_eq_true rfl) ⟨Nat.le_of_ble_eq_true rfl, Nat.le_of_ble_eq_true rfl⟩ ⟨by show (0 + 4 * 1) + 1 ≤ 13; omega, by show (0 + 31 * 1) + 8 ≤ 101; omega⟩ dX8_weight_33) hH (fun k9 p9 q9 H9 locs9 hX hH9 => ?_) (fun _ _ _ h _ => h.elim)
      obtain ⟨rfl, rfl⟩ := hX
      exact zx_out hC hx0 hH9 hQ (WGr_1 hk1 (fun h => h3 (hNl.mpr h.2))) (by show (0 + 4 * 1) + 1 ≤ 13; omega) (by show (0 + 31 * 1) + 8 ≤ 101; omega)
  · refine z_icmp_ne_t hC 10 31 dX8_weight_10 rfl (by omega) (by omega) (by omega) ?_
    refine z_iconst hC 31 dX8_weight_31 ?_
    refine z_iconst hC 32 dX8_weight_32 ?_
    refine zx_same (zx_runV hC hH.2.2 hl.1 hH.1 hH.2.1 2 (As := [.int (iZ (0)), .int (iZ (1))]) (rest := []) (m_R_must0 lau s0 G _ hth ad D f ((tn : Int)) ((x1 : Int)) ((e1 : Int)) (M1) (ln) (bk) (ti) (hb) (ht) ((m : Int)) (wd1) (v) ((fun j => (ww j : Int))) (1) (p1)) (lw_V q589 q591 qs6 q96 q592) ⟨rfl, by decide, by decide, by decide +kernel⟩ (q0 := 0) (ci := 7) rfl rfl rfl rfl (Nat.le_of_ble_eq_true rfl) ⟨Nat.le_of_ble_eq_true rfl, Nat.le_of_ble_eq_true rfl⟩ ⟨by show (0 + 4 * 1) + 1 ≤ 13; omega, by show (0 + 31 * 1) + 8 ≤ 101; omega⟩ dX8_weight_33) hH (fun k9 p9 q9 H9 locs9 hX hH9 => ?_) (fun _ _ _ h _ => h.elim)
    obtain ⟨rfl, rfl⟩ := hX
    exact zx_out hC hx0 hH9 hQ (WGr_1 hk1 (fun h => h2 h.1)) (by show (0 + 4 * 1) + 1 ≤ 13; omega) (by show (0 + 31 * 1) + 8 ≤ 101; omega)

set_option maxHeartbeats 8000000 in
theorem m_R_block (lau : Launch) (s0 : State) (G : zG) (sz : Nat) (hcs : zCS s0) (hth : zThr s0) (ad : Nat → Nat) (D : List Value) (f : Nat → Int) (tn : Nat) (tt : Nat → Nat) (hT : RTX ad D f tn tt) (ki wh ln bk ti ht mn : Int) (wd : Value) (v w : Nat → Int) (pl nx hb : Nat) (hnx : nx ≤ tn) (hhb : hb ≤ 1) : zxMet (S := Nat × Nat × Nat × Nat × Nat × Int × Value × va_W) lau yX8_block cX8_block 1 (none) 8 240 9 70 s0 G sz [.ref (ad 0)] (rdW G ad ((tn : Int)) ((nx : Int)) (ki) (wh) ((pl : Int)) (ln) (bk) (ti) ((hb : Int)) (ht) (mn) (wd) (v) (w) D f) (fun (z, s, p, u, x, M, wd2, WS) => (none : Option Value)) (fun (z, s, p, u, x, M, wd2, WS) => BLr tt tn pl nx hb (.inr (z, s, p, u, x)) ∧ RTK G tt tn s p u x M wd2 WS ∧ nx ≤ p ∧ 2 ≤ z ∧ z ≤ 20) (fun (z, s, p, u, x, M, wd2, WS) => rdW G ad ((tn : Int)) ((x : Int)) ((s : Int)) (M) ((p : Int)) (ln) ((z : Int)) (ti) (((1 : Nat) : Int)) (ht) (mn) (wd2) (v) (w) D f ++ WS) (ad 4) (ad 5) D f (fun k q => BLr tt tn pl nx hb (.inl (k, q))) := by
  refine zxMet.of (by decide) (Nat.le_of_ble_eq_true rfl) ?_
  intro pg ev s1 mi ar bl me cd ls Q as0 hC hx0 hH hl hQ hsz
  generalize s1.heap = H at hH ⊢
  generalize ([] : List Loc) = locs at hH ⊢
  have hl : lv_has ls 1 [(0, .ref (ad 0))] := hl
  refine z_aload_n hC 0 hl dX8_block_0 rfl 0 rfl ?_
  refine z_aload_n hC 1 hl dX8_block_1 rfl 0 rfl ?_
  refine zp_get (v := .int (iZ ((hb : Int)))) hC hH.1 2 in_X8 rfl 9 (by decide) q327 0 rfl rfl dX8_block_2 ?_
  by_cases h1 : hb = 0
  · refine z_if_ne_f hC 5 12 dX8_block_5 rfl (by omega) (by omega) ?_
    refine z_iconst hC 8 dX8_block_8 ?_
    refine z_goto hC 9 13 dX8_block_9 rfl ?_
    refine z_iconst hC 13 dX8_block_13 ?_
    refine zp_back (zp_runV hC hH.2.2 hl.1 hH.1 2 (As := [.int (iZ (1)), .int (iZ (3))]) (rest := []) (u_R_must lau s0 G ad D f ((tn : Int)) ((nx : Int)) (ki) (wh) ((pl : Int)) (ln) (bk) (ti) ((hb : Int)) (ht) (mn) (wd) (v) (w) ((3))) (lw_V q589 q591 qs6 q96 q592) ⟨rfl, by decide, by decide, by decide +kernel⟩ (q0 := 0) (ci := 7) rfl rfl rfl rfl (Nat.le_of_ble_eq_true rfl) ⟨Nat.le_of_ble_eq_true rfl, Nat.le_of_ble_eq_true rfl⟩ ⟨by show 0 + 0 ≤ 9; omega, by show 0 + 0 ≤ 70; omega⟩ dX8_block_14) (fun _ _ => ?_)
    refine z_st (st' := []) rfl ?_
    refine z_aload_n hC 17 hl dX8_block_17 rfl 0 rfl ?_
    refine z_iconst hC 18 dX8_block_18 ?_
    refine z_put hC hH 19 tyX8 in_X8 tyX8_ok nmX8 rfl 9 (by decide) q327 0 rfl rfl rfl rfl (Nat.le_of_ble_eq_true rfl) rfl dX8_block_19 (fun H locs hH => ?_)
    have hH : zH s0 s1 G as0 (rdW G ad ((tn : Int)) ((nx : Int)) (ki) (wh) ((pl : Int)) (ln) (bk) (ti) ((1)) (ht) (mn) (wd) (v) (w) D f) H locs := hH
    have hH : zH s0 s1 G as0 (rdW G ad ((tn : Int)) ((nx : Int)) (ki) (wh) ((pl : Int)) (ln) (bk) (ti) (((1 : Nat) : Int)) (ht) (mn) (wd) (v) (w) D f) H locs := hH
    refine z_aload_n hC 22 hl dX8_block_22 rfl 0 rfl ?_
    refine z_same (z_runV hC hH.2.2 hl.1 hH.1 hH.2.1 0 (As := []) (rest := []) (m_R_take lau s0 G _ hcs ad D f tn tt hT (ki) (wh) ((pl : Int)) (ln) (bk) (ti) (((1 : Nat) : Int)) (ht) (mn) (wd) (v) (w) (nx) (1) hnx (fun _ _ _ => Nat.le_refl _)) (lw_V q362 q364 qs0 q96 q365) ⟨rfl, by decide, by decide, by decide +kernel⟩ (q0 := 0) (ci := 7) rfl rfl rfl rfl (Nat.le_of_ble_eq_true rfl) ⟨Nat.le_of_ble_eq_true rfl, Nat.le_of_ble_eq_true rfl⟩ ⟨by show 0 + 4 * 1 ≤ 9; omega, by show 0 + 31 * 1 ≤ 70; omega⟩ dX8_block_23) hH (fun u9 H locs hpost hH => ?_)
    obtain ⟨e1, p1, u1, x1, M1, wd1, WS1⟩ := u9
    obtain ⟨hk1, hr1⟩ := hpost
    have hk1 : TOK tt tn (nx) e1 p1 u1 x1 := hk1
    have hr1 : RTK G tt tn e1 p1 u1 x1 M1 wd1 WS1 := hr1
    have hb1 := RTK_b hr1
    have hd1 := (TOK_b hk1 hnx).1
    refine z_st (st' := []) rfl ?_
    have hH : zH s0 s1 G as0 (rdW G ad ((tn : Int)) ((x1 : Int)) ((e1 : Int)) (M1) ((p1 : Int)) (ln) (bk) (ti) (((1 : Nat) : Int)) (ht) (mn) (wd1) (v) (w) D f ++ WS1) H locs := hH
    have hH : zH s0 s1 G as0 (rdW G ad ((tn : Int)) ((x1 : Int)) ((e1 : Int)) (M1) ((p1 : Int)) (ln) (bk) (ti) (((1 : Nat) : Int)) (ht) (mn) (wd1) (v) (w) D f) H locs := zH_l hH
    refine z_aload_n hC 26 hl dX8_block_26 rfl 0 rfl ?_
    refine z_aload_n hC 27 hl dX8_block_27 rfl 0 rfl ?_
    refine z_iconst hC 28 dX8_block_28 ?_
    refine z_bipush hC 29 dX8_block_29 rfl ?_
    by_cases h4 : e1 = 2 ∧ (2 ≤ u1 ∧ u1 ≤ 20)
    · refine z_same (z_runV hC hH.2.2 hl.1 hH.1 hH.2.1 2 (As := [.int (iZ (2)), .int (iZ (20))]) (rest := [.ref (ad 0)]) (m_R_number lau s0 G _ hcs ad D f tn tt hT (M1) (ln) (bk) (ti) (((1 : Nat) : Int)) (ht) (mn) (wd1) (v) (w) e1 p1 u1 x1 2 20 h4.1 (hr1.2.2.2.2.1 h4.1) h4.2 (by omega) (by omega) 1 (fun _ _ _ => Nat.le_refl _)) (lw_V q663 q665 qs8 q96 q666) ⟨rfl, by decide, by decide, by decide +kernel⟩ (q0 := 0) (ci := 7) rfl rfl rfl rfl (Nat.le_of_ble_eq_true rfl) ⟨Nat.le_of_ble_eq_true rfl, Nat.le_of_ble_eq_true rfl⟩ ⟨by show (0 + 4 * 1) + 4 * 1 ≤ 9; omega, by show (0 + 31 * 1) + 31 * 1 ≤ 70; omega⟩ dX8_block_31) hH (fun u9 H locs hpost hH => ?_)
      obtain ⟨e3, p3, u3, x3, M3, wd3, WS3⟩ := u9
      obtain ⟨hk3, hr3⟩ := hpost
      have hk3 : TOK tt tn x1 e3 p3 u3 x3 := hk3
      have hr3 : RTK G tt tn e3 p3 u3 x3 M3 wd3 WS3 := hr3
      have hb3 := RTK_b hr3
      have hd3 := (TOK_b hk3 (by omega)).1
      refine z_st (st' := [.int (iZ (u1 : Int)), .ref (ad 0)]) rfl ?_
      have hH : zH s0 s1 G as0 (rdW G ad ((tn : Int)) ((x3 : Int)) ((e3 : Int)) (M3) ((p3 : Int)) (ln) (bk) (ti) (((1 : Nat) : Int)) (ht) (mn) (wd3) (v) (w) D f ++ WS3) H locs := hH
      have hnum : NUMr tt tn 2 20 e1 p1 u1 x1 (.inr (u1, e3, p3, u3, x3)) := NUMr_o h4.1 h4.2 hk3 rfl
      refine z_put hC hH 34 tyX8 in_X8 tyX8_ok nmX8 rfl 7 (by decide) q323 0 rfl rfl rfl rfl (Nat.le_of_ble_eq_true rfl) rfl dX8_block_34 (fun H locs hH => ?_)
      have hH : zH s0 s1 G as0 (rdW G ad ((tn : Int)) ((x3 : Int)) ((e3 : Int)) (M3) ((p3 : Int)) (ln) ((u1 : Int)) (ti) (((1 : Nat) : Int)) (ht) (mn) (wd3) (v) (w) D f ++ WS3) H locs := hH
      exact zx_vret hC hH hQ 37 (u1, e3, p3, u3, x3, M3, wd3, WS3) dX8_block_37 rfl ⟨Or.inr ⟨h1, e1, p1, u1, x1, hk1, hnum⟩, hr3, by omega, h4.2⟩ rfl (by show ((0 + 4 * 1) + 4 * 1) + 0 ≤ 9; omega) (by show ((0 + 31 * 1) + 31 * 1) + 0 ≤ 70; omega)
    · have hbad : e1 ≠ 2 ∨ (e1 = 2 ∧ (∃ N : Nat, M1 = (N : Int) ∧ NUMD N u1) ∧ ¬ (2 ≤ u1 ∧ u1 ≤ 20)) := by
        by_cases h9 : e1 = 2
        · exact Or.inr ⟨h9, hr1.2.2.2.2.1 h9, fun h => h4 ⟨h9, h⟩⟩
        · exact Or.inl h9
      refine zx_same (zx_runV hC hH.2.2 hl.1 hH.1 hH.2.1 2 (As := [.int (iZ (2)), .int (iZ (20))]) (rest := [.ref (ad 0)]) (m_R_numbad lau s0 G _ hth ad D f tn tt hT (M1) (ln) (bk) (ti) (((1 : Nat) : Int)) (ht) (mn) (wd1) (v) (w) e1 p1 u1 x1 2 20 (by omega) (by omega) (by omega) (hbad)) (lw_V q663 q665 qs8 q96 q666) ⟨rfl, by decide, by decide, by decide +kernel⟩ (q0 := 0) (ci := 7) rfl rfl rfl rfl (Nat.le_of_ble_eq_true rfl) ⟨Nat.le_of_ble_eq_true rfl, Nat.le_of_ble_eq_true rfl⟩ ⟨by show (0 + 4 * 1) + 1 ≤ 9; omega, by show (0 + 31 * 1) + 8 ≤ 70; omega⟩ dX8_block_31) hH (fun k9 p9 q9 H9 locs9 hX hH9 => ?_) (fun _ _ _ h _ => h.elim)
      exact zx_out hC hx0 hH9 hQ (Or.inr ⟨h1, e1, p1, u1, x1, hk1, hX⟩) (by show (0 + 4 * 1) + 1 ≤ 9; omega) (by show (0 + 31 * 1) + 8 ≤ 70; omega)
  · refine z_if_ne_t hC 5 12 dX8_block_5 rfl (by omega) (by omega) ?_
    refine z_iconst hC 12 dX8_block_12 ?_
    refine z_iconst hC 13 dX8_block_13 ?_
    refine zx_same (zx_runV hC hH.2.2 hl.1 hH.1 hH.2.1 2 (As := [.int (iZ (0)), .int (iZ (3))]) (rest := []) (m_R_must0 lau s0 G _ hth ad D f ((tn : Int)) ((nx : Int)) (ki) (wh) (ln) (bk) (ti) ((hb : Int)) (ht) (mn) (wd) (v) (w) (3) (pl)) (lw_V q589 q591 qs6 q96 q592) ⟨rfl, by decide, by decide, by decide +kernel⟩ (q0 := 0) (ci := 7) rfl rfl rfl rfl (Nat.le_of_ble_eq_true rfl) ⟨Nat.le_of_ble_eq_true rfl, Nat.le_of_ble_eq_true rfl⟩ ⟨by show 0 + 1 ≤ 9; omega, by show 0 + 8 ≤ 70; omega⟩ dX8_block_14) hH (fun k9 p9 q9 H9 locs9 hX hH9 => ?_) (fun _ _ _ h _ => h.elim)
    obtain ⟨rfl, rfl⟩ := hX
    exact zx_out hC hx0 hH9 hQ (Or.inl ⟨h1, rfl⟩) (by show 0 + 1 ≤ 9; omega) (by show 0 + 8 ≤ 70; omega)

set_option maxHeartbeats 8000000 in
theorem m_R_ties (lau : Launch) (s0 : State) (G : zG) (sz : Nat) (hcs : zCS s0) (hth : zThr s0) (wq wv : Nat → Nat) (hW : zRW s0 wq wv) (ad : Nat → Nat) (D : List Value) (f : Nat → Int) (tn : Nat) (tt : Nat → Nat) (hT : RTX ad D f tn tt) (wh ln bk ti hb mn : Int) (wd : Value) (v w : Nat → Int) (WS : va_W) (so pl vl nx ht : Nat) (hr : RTK G tt tn so pl vl nx wh wd WS) (hht : ht ≤ 1) : zxMet (S := Nat × Nat × Nat × Nat × Nat × Int × Value × va_W) lau yX8_ties cX8_ties 1 (none) 8 240 9 70 s0 G sz [.ref (ad 0)] (rdW G ad ((tn : Int)) ((nx : Int)) ((so : Int)) (wh) ((pl : Int)) (ln) (bk) (ti) (hb) ((ht : Int)) (mn) (wd) (v) (w) D f ++ WS) (fun (z, s, p, u, x, M, wd2, WS2) => (none : Option Value)) (fun (z, s, p, u, x, M, wd2, WS2) => (so = 1 ∧ vl = 7) ∧ TIr tt tn pl nx ht (.inr (z, s, p, u, x)) ∧ RTK G tt tn s p u x M wd2 WS2 ∧ nx ≤ p ∧ z ≤ 3) (fun (z, s, p, u, x, M, wd2, WS2) => rdW G ad ((tn : Int)) ((x : Int)) ((s : Int)) (M) ((p : Int)) (ln) (bk) ((z : Int)) (hb) (((1 : Nat) : Int)) (mn) (wd2) (v) (w) D f ++ WS2) (ad 4) (ad 5) D f (fun k q => (¬ (so = 1 ∧ vl = 7) ∧ k = 1 ∧ q = pl) ∨ ((so = 1 ∧ vl = 7) ∧ TIr tt tn pl nx ht (.inl (k, q)))) := by
  refine zxMet.of (by decide) (Nat.le_of_ble_eq_true rfl) ?_
  intro pg ev s1 mi ar bl me cd ls Q as0 hC hx0 hH hl hQ hsz
  generalize s1.heap = H at hH ⊢
  generalize ([] : List Loc) = locs at hH ⊢
  have hl : lv_has ls 1 [(0, .ref (ad 0))] := hl
  have hbb := RTK_b hr
  refine z_aload_n hC 0 hl dX8_ties_0 rfl 0 rfl ?_
  refine z_aload_n hC 1 hl dX8_ties_1 rfl 0 rfl ?_
  refine zp_ldcS hC 2 hW.2.2.2.2.2.2.2.1 dX8_ties_2 ?_
  refine zp_back (zp_runV hC hH.2.2 hl.1 hH.1 1 (As := [.ref (wq 7)]) (rest := [.ref (ad 0)]) (u_R_isWord lau s0 G ad D f tn tt hT ((nx : Int)) (wh) ((pl : Int)) (ln) (bk) (ti) (hb) ((ht : Int)) (mn) (wd) (v) (w) WS so pl vl nx hr.1 hr.2.2.2.2.2 (wq 7) (wv 7) 7 (by decide) hW.2.2.2.2.2.2.2.2 hcs (fun h => rd_ne hH (hr.2.2.2.2.2 h).2 hW.2.2.2.2.2.2.2.2)) (lw_V q573 q575 qs4 q96 q576) ⟨rfl, by decide, by decide, by decide +kernel⟩ (q0 := 0) (ci := 7) rfl rfl rfl rfl (Nat.le_of_ble_eq_true rfl) ⟨Nat.le_of_ble_eq_true rfl, Nat.le_of_ble_eq_true rfl⟩ ⟨by show 0 + 0 ≤ 9; omega, by show 0 + 0 ≤ 70; omega⟩ dX8_ties_4) (fun r9 hr9 => ?_)
  refine z_st (st' := [.int (iZ r9), .ref (ad 0)]) rfl ?_
  rcases hr9 with ⟨rfl, h1⟩ | ⟨rfl, h1⟩
  · refine z_iconst hC 7 dX8_ties_7 ?_
    refine zp_back (zp_runV hC hH.2.2 hl.1 (va_P_l hH.1) 2 (As := [.int (iZ 1), .int (iZ (1))]) (rest := []) (u_R_must lau s0 G ad D f ((tn : Int)) ((nx : Int)) ((so : Int)) (wh) ((pl : Int)) (ln) (bk) (ti) (hb) ((ht : Int)) (mn) (wd) (v) (w) ((1))) (lw_V q589 q591 qs6 q96 q592) ⟨rfl, by decide, by decide, by decide +kernel⟩ (q0 := 0) (ci := 7) rfl rfl rfl rfl (Nat.le_of_ble_eq_true rfl) ⟨Nat.le_of_ble_eq_true rfl, Nat.le_of_ble_eq_true rfl⟩ ⟨by show 0 + 0 ≤ 9; omega, by show 0 + 0 ≤ 70; omega⟩ dX8_ties_8) (fun _ _ => ?_)
    refine z_st (st' := []) rfl ?_
    refine z_aload_n hC 11 hl dX8_ties_11 rfl 0 rfl ?_
    refine z_aload_n hC 12 hl dX8_ties_12 rfl 0 rfl ?_
    refine zp_get (v := .int (iZ ((ht : Int)))) hC hH.1 13 in_X8 rfl 10 (by decide) q328 0 rfl rfl dX8_ties_13 ?_
    by_cases h2 : ht = 0
    · refine z_if_ne_f hC 16 23 dX8_ties_16 rfl (by omega) (by omega) ?_
      refine z_iconst hC 19 dX8_ties_19 ?_
      refine z_goto hC 20 24 dX8_ties_20 rfl ?_
      refine z_iconst hC 24 dX8_ties_24 ?_
      refine zp_back (zp_runV hC hH.2.2 hl.1 (va_P_l hH.1) 2 (As := [.int (iZ (1)), .int (iZ (3))]) (rest := []) (u_R_must lau s0 G ad D f ((tn : Int)) ((nx : Int)) ((so : Int)) (wh) ((pl : Int)) (ln) (bk) (ti) (hb) ((ht : Int)) (mn) (wd) (v) (w) ((3))) (lw_V q589 q591 qs6 q96 q592) ⟨rfl, by decide, by decide, by decide +kernel⟩ (q0 := 0) (ci := 7) rfl rfl rfl rfl (Nat.le_of_ble_eq_true rfl) ⟨Nat.le_of_ble_eq_true rfl, Nat.le_of_ble_eq_true rfl⟩ ⟨by show 0 + 0 ≤ 9; omega, by show 0 + 0 ≤ 70; omega⟩ dX8_ties_25) (fun _ _ => ?_)
      refine z_st (st' := []) rfl ?_
      refine z_aload_n hC 28 hl dX8_ties_28 rfl 0 rfl ?_
      refine z_iconst hC 29 dX8_ties_29 ?_
      refine z_put hC hH 30 tyX8 in_X8 tyX8_ok nmX8 rfl 10 (by decide) q328 0 rfl rfl rfl rfl (Nat.le_of_ble_eq_true rfl) rfl dX8_ties_30 (fun H locs hH => ?_)
      have hH : zH s0 s1 G as0 (rdW G ad ((tn : Int)) ((nx : Int)) ((so : Int)) (wh) ((pl : Int)) (ln) (bk) (ti) (hb) ((1)) (mn) (wd) (v) (w) D f ++ WS) H locs := hH
      have hH : zH s0 s1 G as0 (rdW G ad ((tn : Int)) ((nx : Int)) ((so : Int)) (wh) ((pl : Int)) (ln) (bk) (ti) (hb) (((1 : Nat) : Int)) (mn) (wd) (v) (w) D f ++ WS) H locs := hH
      have hH : zH s0 s1 G as0 (rdW G ad ((tn : Int)) ((nx : Int)) ((so : Int)) (wh) ((pl : Int)) (ln) (bk) (ti) (hb) (((1 : Nat) : Int)) (mn) (wd) (v) (w) D f) H locs := zH_l hH
      refine z_aload_n hC 33 hl dX8_ties_33 rfl 0 rfl ?_
      refine z_same (z_runV hC hH.2.2 hl.1 hH.1 hH.2.1 0 (As := []) (rest := []) (m_R_take lau s0 G _ hcs ad D f tn tt hT ((so : Int)) (wh) ((pl : Int)) (ln) (bk) (ti) (hb) (((1 : Nat) : Int)) (mn) (wd) (v) (w) (nx) (1) (by omega) (fun _ _ _ => Nat.le_refl _)) (lw_V q362 q364 qs0 q96 q365) ⟨rfl, by decide, by decide, by decide +kernel⟩ (q0 := 0) (ci := 7) rfl rfl rfl rfl (Nat.le_of_ble_eq_true rfl) ⟨Nat.le_of_ble_eq_true rfl, Nat.le_of_ble_eq_true rfl⟩ ⟨by show 0 + 4 * 1 ≤ 9; omega, by show 0 + 31 * 1 ≤ 70; omega⟩ dX8_ties_34) hH (fun u9 H locs hpost hH => ?_)
      obtain ⟨e1, p1, u1, x1, M1, wd1, WS1⟩ := u9
      obtain ⟨hk1, hr1⟩ := hpost
      have hk1 : TOK tt tn (nx) e1 p1 u1 x1 := hk1
      have hr1 : RTK G tt tn e1 p1 u1 x1 M1 wd1 WS1 := hr1
      have hb1 := RTK_b hr1
      have hd1 := (TOK_b hk1 (by omega)).1
      refine z_st (st' := []) rfl ?_
      have hH : zH s0 s1 G as0 (rdW G ad ((tn : Int)) ((x1 : Int)) ((e1 : Int)) (M1) ((p1 : Int)) (ln) (bk) (ti) (hb) (((1 : Nat) : Int)) (mn) (wd1) (v) (w) D f ++ WS1) H locs := hH
      refine z_aload_n hC 37 hl dX8_ties_37 rfl 0 rfl ?_
      refine z_aload_n hC 38 hl dX8_ties_38 rfl 0 rfl ?_
      refine zp_ldcS hC 39 hW.1.1 dX8_ties_39 ?_
      refine zp_back (zp_runV hC hH.2.2 hl.1 hH.1 1 (As := [.ref (wq 0)]) (rest := [.ref (ad 0)]) (u_R_isWord lau s0 G ad D f tn tt hT ((x1 : Int)) (M1) ((p1 : Int)) (ln) (bk) (ti) (hb) (((1 : Nat) : Int)) (mn) (wd1) (v) (w) WS1 e1 p1 u1 x1 hr1.1 hr1.2.2.2.2.2 (wq 0) (wv 0) 0 (by decide) hW.1.2 hcs (fun h => rd_ne hH (hr1.2.2.2.2.2 h).2 hW.1.2)) (lw_V q573 q575 qs4 q96 q576) ⟨rfl, by decide, by decide, by decide +kernel⟩ (q0 := 0) (ci := 7) rfl rfl rfl rfl (Nat.le_of_ble_eq_true rfl) ⟨Nat.le_of_ble_eq_true rfl, Nat.le_of_ble_eq_true rfl⟩ ⟨by show (0 + 4 * 1) + 0 ≤ 9; omega, by show (0 + 31 * 1) + 0 ≤ 70; omega⟩ dX8_ties_41) (fun r0 hr0 => ?_)
      refine z_st (st' := [.int (iZ r0), .ref (ad 0)]) rfl ?_
      rcases hr0 with ⟨rfl, hz⟩ | ⟨rfl, hz0⟩
      · refine z_if_eq_f hC 44 51 dX8_ties_44 rfl (by omega) (by omega) ?_
        refine z_iconst hC 47 dX8_ties_47 ?_
        refine z_goto hC 48 91 dX8_ties_48 rfl ?_
        refine z_put hC hH 91 tyX8 in_X8 tyX8_ok nmX8 rfl 8 (by decide) q326 0 rfl rfl rfl rfl (Nat.le_of_ble_eq_true rfl) rfl dX8_ties_91 (fun H locs hH => ?_)
        have hH : zH s0 s1 G as0 (rdW G ad ((tn : Int)) ((x1 : Int)) ((e1 : Int)) (M1) ((p1 : Int)) (ln) (bk) ((0)) (hb) (((1 : Nat) : Int)) (mn) (wd1) (v) (w) D f ++ WS1) H locs := hH
        have hH : zH s0 s1 G as0 (rdW G ad ((tn : Int)) ((x1 : Int)) ((e1 : Int)) (M1) ((p1 : Int)) (ln) (bk) (((0 : Nat) : Int)) (hb) (((1 : Nat) : Int)) (mn) (wd1) (v) (w) D f ++ WS1) H locs := hH
        refine z_aload_n hC 94 hl dX8_ties_94 rfl 0 rfl ?_
        refine z_aload_n hC 95 hl dX8_ties_95 rfl 0 rfl ?_
        refine zp_get (v := .int (iZ (((0 : Nat) : Int)))) hC hH.1 96 in_X8 rfl 8 (by decide) q326 0 rfl rfl dX8_ties_96 ?_
        refine z_iconst hC 99 dX8_ties_99 ?_
        refine z_icmp_eq_f hC 100 107 dX8_ties_100 rfl (by omega) (by omega) (by omega) ?_
        refine z_iconst hC 103 dX8_ties_103 ?_
        refine z_goto hC 104 108 dX8_ties_104 rfl ?_
        refine z_iconst hC 108 dX8_ties_108 ?_
        refine zp_back (zp_runV hC hH.2.2 hl.1 (va_P_l hH.1) 2 (As := [.int (iZ (1)), .int (iZ (1))]) (rest := []) (u_R_must lau s0 G ad D f ((tn : Int)) ((x1 : Int)) ((e1 : Int)) (M1) ((p1 : Int)) (ln) (bk) (((0 : Nat) : Int)) (hb) (((1 : Nat) : Int)) (mn) (wd1) (v) (w) ((1))) (lw_V q589 q591 qs6 q96 q592) ⟨rfl, by decide, by decide, by decide +kernel⟩ (q0 := 0) (ci := 7) rfl rfl rfl rfl (Nat.le_of_ble_eq_true rfl) ⟨Nat.le_of_ble_eq_true rfl, Nat.le_of_ble_eq_true rfl⟩ ⟨by show (0 + 4 * 1) + 0 ≤ 9; omega, by show (0 + 31 * 1) + 0 ≤ 70; omega⟩ dX8_ties_109) (fun _ _ => ?_)
        refine z_st (st' := []) rfl ?_
        refine z_aload_n hC 112 hl dX8_ties_112 rfl 0 rfl ?_
        have hH : zH s0 s1 G as0 (rdW G ad ((tn : Int)) ((x1 : Int)) ((e1 : Int)) (M1) ((p1 : Int)) (ln) (bk) (((0 : Nat) : Int)) (hb) (((1 : Nat) : Int)) (mn) (wd1) (v) (w) D f) H locs := zH_l hH
        refine z_same (z_runV hC hH.2.2 hl.1 hH.1 hH.2.1 0 (As := []) (rest := []) (m_R_take lau s0 G _ hcs ad D f tn tt hT ((e1 : Int)) (M1) ((p1 : Int)) (ln) (bk) (((0 : Nat) : Int)) (hb) (((1 : Nat) : Int)) (mn) (wd1) (v) (w) (x1) (1) (by omega) (fun _ _ _ => Nat.le_refl _)) (lw_V q362 q364 qs0 q96 q365) ⟨rfl, by decide, by decide, by decide +kernel⟩ (q0 := 0) (ci := 7) rfl rfl rfl rfl (Nat.le_of_ble_eq_true rfl) ⟨Nat.le_of_ble_eq_true rfl, Nat.le_of_ble_eq_true rfl⟩ ⟨by show (0 + 4 * 1) + 4 * 1 ≤ 9; omega, by show (0 + 31 * 1) + 31 * 1 ≤ 70; omega⟩ dX8_ties_113) hH (fun u9 H locs hpost hH => ?_)
        obtain ⟨e2, p2, u2, x2, M2, wd2, WS2⟩ := u9
        obtain ⟨hk2, hr2⟩ := hpost
        have hk2 : TOK tt tn (x1) e2 p2 u2 x2 := hk2
        have hr2 : RTK G tt tn e2 p2 u2 x2 M2 wd2 WS2 := hr2
        have hb2 := RTK_b hr2
        have hd2 := (TOK_b hk2 (by omega)).1
        refine z_st (st' := []) rfl ?_
        have hH : zH s0 s1 G as0 (rdW G ad ((tn : Int)) ((x2 : Int)) ((e2 : Int)) (M2) ((p2 : Int)) (ln) (bk) (((0 : Nat) : Int)) (hb) (((1 : Nat) : Int)) (mn) (wd2) (v) (w) D f ++ WS2) H locs := hH
        exact zx_vret hC hH hQ 116 (0, e2, p2, u2, x2, M2, wd2, WS2) dX8_ties_116 rfl ⟨h1, Or.inr ⟨h2, e1, p1, u1, x1, hk1, Or.inr ⟨⟨hz.1, by omega⟩, e2, p2, u2, x2, hk2, by rw [hz.2]⟩⟩, hr2, by omega, by omega⟩ rfl (by show ((0 + 4 * 1) + 4 * 1) + 0 ≤ 9; omega) (by show ((0 + 31 * 1) + 31 * 1) + 0 ≤ 70; omega)
      · refine z_if_eq_t hC 44 51 dX8_ties_44 rfl (by omega) (by omega) ?_
        refine z_aload_n hC 51 hl dX8_ties_51 rfl 0 rfl ?_
        refine zp_ldcS hC 52 hW.2.1.1 dX8_ties_52 ?_
        refine zp_back (zp_runV hC hH.2.2 hl.1 hH.1 1 (As := [.ref (wq 1)]) (rest := [.ref (ad 0)]) (u_R_isWord lau s0 G ad D f tn tt hT ((x1 : Int)) (M1) ((p1 : Int)) (ln) (bk) (ti) (hb) (((1 : Nat) : Int)) (mn) (wd1) (v) (w) WS1 e1 p1 u1 x1 hr1.1 hr1.2.2.2.2.2 (wq 1) (wv 1) 1 (by decide) hW.2.1.2 hcs (fun h => rd_ne hH (hr1.2.2.2.2.2 h).2 hW.2.1.2)) (lw_V q573 q575 qs4 q96 q576) ⟨rfl, by decide, by decide, by decide +kernel⟩ (q0 := 0) (ci := 7) rfl rfl rfl rfl (Nat.le_of_ble_eq_true rfl) ⟨Nat.le_of_ble_eq_true rfl, Nat.le_of_ble_eq_true rfl⟩ ⟨by show (0 + 4 * 1) + 0 ≤ 9; omega, by show (0 + 31 * 1) + 0 ≤ 70; omega⟩ dX8_ties_54) (fun r1 hr1 => ?_)
        refine z_st (st' := [.int (iZ r1), .ref (ad 0)]) rfl ?_
        rcases hr1 with ⟨rfl, hz⟩ | ⟨rfl, hz1⟩
        · refine z_if_eq_f hC 57 64 dX8_ties_57 rfl (by omega) (by omega) ?_
          refine z_iconst hC 60 dX8_ties_60 ?_
          refine z_goto hC 61 91 dX8_ties_61 rfl ?_
          refine z_put hC hH 91 tyX8 in_X8 tyX8_ok nmX8 rfl 8 (by decide) q326 0 rfl rfl rfl rfl (Nat.le_of_ble_eq_true rfl) rfl dX8_ties_91 (fun H locs hH => ?_)
          have hH : zH s0 s1 G as0 (rdW G ad ((tn : Int)) ((x1 : Int)) ((e1 : Int)) (M1) ((p1 : Int)) (ln) (bk) ((1)) (hb) (((1 : Nat) : Int)) (mn) (wd1) (v) (w) D f ++ WS1) H locs := hH
          have hH : zH s0 s1 G as0 (rdW G ad ((tn : Int)) ((x1 : Int)) ((e1 : Int)) (M1) ((p1 : Int)) (ln) (bk) (((1 : Nat) : Int)) (hb) (((1 : Nat) : Int)) (mn) (wd1) (v) (w) D f ++ WS1) H locs := hH
          refine z_aload_n hC 94 hl dX8_ties_94 rfl 0 rfl ?_
          refine z_aload_n hC 95 hl dX8_ties_95 rfl 0 rfl ?_
          refine zp_get (v := .int (iZ (((1 : Nat) : Int)))) hC hH.1 96 in_X8 rfl 8 (by decide) q326 0 rfl rfl dX8_ties_96 ?_
          refine z_iconst hC 99 dX8_ties_99 ?_
          refine z_icmp_eq_f hC 100 107 dX8_ties_100 rfl (by omega) (by omega) (by omega) ?_
          refine z_iconst hC 103 dX8_ties_103 ?_
          refine z_goto hC 104 108 dX8_ties_104 rfl ?_
          refine z_iconst hC 108 dX8_ties_108 ?_
          refine zp_back (zp_runV hC hH.2.2 hl.1 (va_P_l hH.1) 2 (As := [.int (iZ (1)), .int (iZ (1))]) (rest := []) (u_R_must lau s0 G ad D f ((tn : Int)) ((x1 : Int)) ((e1 : Int)) (M1) ((p1 : Int)) (ln) (bk) (((1 : Nat) : Int)) (hb) (((1 : Nat) : Int)) (mn) (wd1) (v) (w) ((1))) (lw_V q589 q591 qs6 q96 q592) ⟨rfl, by decide, by decide, by decide +kernel⟩ (q0 := 0) (ci := 7) rfl rfl rfl rfl (Nat.le_of_ble_eq_true rfl) ⟨Nat.le_of_ble_eq_true rfl, Nat.le_of_ble_eq_true rfl⟩ ⟨by show (0 + 4 * 1) + 0 ≤ 9; omega, by show (0 + 31 * 1) + 0 ≤ 70; omega⟩ dX8_ties_109) (fun _ _ => ?_)
          refine z_st (st' := []) rfl ?_
          refine z_aload_n hC 112 hl dX8_ties_112 rfl 0 rfl ?_
          have hH : zH s0 s1 G as0 (rdW G ad ((tn : Int)) ((x1 : Int)) ((e1 : Int)) (M1) ((p1 : Int)) (ln) (bk) (((1 : Nat) : Int)) (hb) (((1 : Nat) : Int)) (mn) (wd1) (v) (w) D f) H locs := zH_l hH
          refine z_same (z_runV hC hH.2.2 hl.1 hH.1 hH.2.1 0 (As := []) (rest := []) (m_R_take lau s0 G _ hcs ad D f tn tt hT ((e1 : Int)) (M1) ((p1 : Int)) (ln) (bk) (((1 : Nat) : Int)) (hb) (((1 : Nat) : Int)) (mn) (wd1) (v) (w) (x1) (1) (by omega) (fun _ _ _ => Nat.le_refl _)) (lw_V q362 q364 qs0 q96 q365) ⟨rfl, by decide, by decide, by decide +kernel⟩ (q0 := 0) (ci := 7) rfl rfl rfl rfl (Nat.le_of_ble_eq_true rfl) ⟨Nat.le_of_ble_eq_true rfl, Nat.le_of_ble_eq_true rfl⟩ ⟨by show (0 + 4 * 1) + 4 * 1 ≤ 9; omega, by show (0 + 31 * 1) + 31 * 1 ≤ 70; omega⟩ dX8_ties_113) hH (fun u9 H locs hpost hH => ?_)
          obtain ⟨e2, p2, u2, x2, M2, wd2, WS2⟩ := u9
          obtain ⟨hk2, hr2⟩ := hpost
          have hk2 : TOK tt tn (x1) e2 p2 u2 x2 := hk2
          have hr2 : RTK G tt tn e2 p2 u2 x2 M2 wd2 WS2 := hr2
          have hb2 := RTK_b hr2
          have hd2 := (TOK_b hk2 (by omega)).1
          refine z_st (st' := []) rfl ?_
          have hH : zH s0 s1 G as0 (rdW G ad ((tn : Int)) ((x2 : Int)) ((e2 : Int)) (M2) ((p2 : Int)) (ln) (bk) (((1 : Nat) : Int)) (hb) (((1 : Nat) : Int)) (mn) (wd2) (v) (w) D f ++ WS2) H locs := hH
          exact zx_vret hC hH hQ 116 (1, e2, p2, u2, x2, M2, wd2, WS2) dX8_ties_116 rfl ⟨h1, Or.inr ⟨h2, e1, p1, u1, x1, hk1, Or.inr ⟨⟨hz.1, by omega⟩, e2, p2, u2, x2, hk2, by rw [hz.2]⟩⟩, hr2, by omega, by omega⟩ rfl (by show ((0 + 4 * 1) + 4 * 1) + 0 ≤ 9; omega) (by show ((0 + 31 * 1) + 31 * 1) + 0 ≤ 70; omega)
        · refine z_if_eq_t hC 57 64 dX8_ties_57 rfl (by omega) (by omega) ?_
          refine z_aload_n hC 64 hl dX8_ties_64 rfl 0 rfl ?_
          refine zp_ldcS hC 65 hW.2.2.1.1 dX8_ties_65 ?_
          refine zp_back (zp_runV hC hH.2.2 hl.1 hH.1 1 (As := [.ref (wq 2)]) (rest := [.ref (ad 0)]) (u_R_isWord lau s0 G ad D f tn tt hT ((x1 : Int)) (M1) ((p1 : Int)) (ln) (bk) (ti) (hb) (((1 : Nat) : Int)) (mn) (wd1) (v) (w) WS1 e1 p1 u1 x1 hr1.1 hr1.2.2.2.2.2 (wq 2) (wv 2) 2 (by decide) hW.2.2.1.2 hcs (fun h => rd_ne hH (hr1.2.2.2.2.2 h).2 hW.2.2.1.2)) (lw_V q573 q575 qs4 q96 q576) ⟨rfl, by decide, by decide, by decide +kernel⟩ (q0 := 0) (ci := 7) rfl rfl rfl rfl (Nat.le_of_ble_eq_true rfl) ⟨Nat.le_of_ble_eq_true rfl, Nat.le_of_ble_eq_true rfl⟩ ⟨by show (0 + 4 * 1) + 0 ≤ 9; omega, by show (0 + 31 * 1) + 0 ≤ 70; omega⟩ dX8_ties_67) (fun r2 hr2 => ?_)
          refine z_st (st' := [.int (iZ r2), .ref (ad 0)]) rfl ?_
          rcases hr2 with ⟨rfl, hz⟩ | ⟨rfl, hz2⟩
          · refine z_if_eq_f hC 70 77 dX8_ties_70 rfl (by omega) (by omega) ?_
            refine z_iconst hC 73 dX8_ties_73 ?_
            refine z_goto hC 74 91 dX8_ties_74 rfl ?_
            refine z_put hC hH 91 tyX8 in_X8 tyX8_ok nmX8 rfl 8 (by decide) q326 0 rfl rfl rfl rfl (Nat.le_of_ble_eq_true rfl) rfl dX8_ties_91 (fun H locs hH => ?_)
            have hH : zH s0 s1 G as0 (rdW G ad ((tn : Int)) ((x1 : Int)) ((e1 : Int)) (M1) ((p1 : Int)) (ln) (bk) ((2)) (hb) (((1 : Nat) : Int)) (mn) (wd1) (v) (w) D f ++ WS1) H locs := hH
            have hH : zH s0 s1 G as0 (rdW G ad ((tn : Int)) ((x1 : Int)) ((e1 : Int)) (M1) ((p1 : Int)) (ln) (bk) (((2 : Nat) : Int)) (hb) (((1 : Nat) : Int)) (mn) (wd1) (v) (w) D f ++ WS1) H locs := hH
            refine z_aload_n hC 94 hl dX8_ties_94 rfl 0 rfl ?_
            refine z_aload_n hC 95 hl dX8_ties_95 rfl 0 rfl ?_
            refine zp_get (v := .int (iZ (((2 : Nat) : Int)))) hC hH.1 96 in_X8 rfl 8 (by decide) q326 0 rfl rfl dX8_ties_96 ?_
            refine z_iconst hC 99 dX8_ties_99 ?_
            refine z_icmp_eq_f hC 100 107 dX8_ties_100 rfl (by omega) (by omega) (by omega) ?_
            refine z_iconst hC 103 dX8_ties_103 ?_
            refine z_goto hC 104 108 dX8_ties_104 rfl ?_
            refine z_iconst hC 108 dX8_ties_108 ?_
            refine zp_back (zp_runV hC hH.2.2 hl.1 (va_P_l hH.1) 2 (As := [.int (iZ (1)), .int (iZ (1))]) (rest := []) (u_R_must lau s0 G ad D f ((tn : Int)) ((x1 : Int)) ((e1 : Int)) (M1) ((p1 : Int)) (ln) (bk) (((2 : Nat) : Int)) (hb) (((1 : Nat) : Int)) (mn) (wd1) (v) (w) ((1))) (lw_V q589 q591 qs6 q96 q592) ⟨rfl, by decide, by decide, by decide +kernel⟩ (q0 := 0) (ci := 7) rfl rfl rfl rfl (Nat.le_of_ble_eq_true rfl) ⟨Nat.le_of_ble_eq_true rfl, Nat.le_of_ble_eq_true rfl⟩ ⟨by show (0 + 4 * 1) + 0 ≤ 9; omega, by show (0 + 31 * 1) + 0 ≤ 70; omega⟩ dX8_ties_109) (fun _ _ => ?_)
            refine z_st (st' := []) rfl ?_
            refine z_aload_n hC 112 hl dX8_ties_112 rfl 0 rfl ?_
            have hH : zH s0 s1 G as0 (rdW G ad ((tn : Int)) ((x1 : Int)) ((e1 : Int)) (M1) ((p1 : Int)) (ln) (bk) (((2 : Nat) : Int)) (hb) (((1 : Nat) : Int)) (mn) (wd1) (v) (w) D f) H locs := zH_l hH
            refine z_same (z_runV hC hH.2.2 hl.1 hH.1 hH.2.1 0 (As := []) (rest := []) (m_R_take lau s0 G _ hcs ad D f tn tt hT ((e1 : Int)) (M1) ((p1 : Int)) (ln) (bk) (((2 : Nat) : Int)) (hb) (((1 : Nat) : Int)) (mn) (wd1) (v) (w) (x1) (1) (by omega) (fun _ _ _ => Nat.le_refl _)) (lw_V q362 q364 qs0 q96 q365) ⟨rfl, by decide, by decide, by decide +kernel⟩ (q0 := 0) (ci := 7) rfl rfl rfl rfl (Nat.le_of_ble_eq_true rfl) ⟨Nat.le_of_ble_eq_true rfl, Nat.le_of_ble_eq_true rfl⟩ ⟨by show (0 + 4 * 1) + 4 * 1 ≤ 9; omega, by show (0 + 31 * 1) + 31 * 1 ≤ 70; omega⟩ dX8_ties_113) hH (fun u9 H locs hpost hH => ?_)
            obtain ⟨e2, p2, u2, x2, M2, wd2, WS2⟩ := u9
            obtain ⟨hk2, hr2⟩ := hpost
            have hk2 : TOK tt tn (x1) e2 p2 u2 x2 := hk2
            have hr2 : RTK G tt tn e2 p2 u2 x2 M2 wd2 WS2 := hr2
            have hb2 := RTK_b hr2
            have hd2 := (TOK_b hk2 (by omega)).1
            refine z_st (st' := []) rfl ?_
            have hH : zH s0 s1 G as0 (rdW G ad ((tn : Int)) ((x2 : Int)) ((e2 : Int)) (M2) ((p2 : Int)) (ln) (bk) (((2 : Nat) : Int)) (hb) (((1 : Nat) : Int)) (mn) (wd2) (v) (w) D f ++ WS2) H locs := hH
            exact zx_vret hC hH hQ 116 (2, e2, p2, u2, x2, M2, wd2, WS2) dX8_ties_116 rfl ⟨h1, Or.inr ⟨h2, e1, p1, u1, x1, hk1, Or.inr ⟨⟨hz.1, by omega⟩, e2, p2, u2, x2, hk2, by rw [hz.2]⟩⟩, hr2, by omega, by omega⟩ rfl (by show ((0 + 4 * 1) + 4 * 1) + 0 ≤ 9; omega) (by show ((0 + 31 * 1) + 31 * 1) + 0 ≤ 70; omega)
          · refine z_if_eq_t hC 70 77 dX8_ties_70 rfl (by omega) (by omega) ?_
            refine z_aload_n hC 77 hl dX8_ties_77 rfl 0 rfl ?_
            refine zp_ldcS hC 78 hW.2.2.2.1.1 dX8_ties_78 ?_
            refine zp_back (zp_runV hC hH.2.2 hl.1 hH.1 1 (As := [.ref (wq 3)]) (rest := [.ref (ad 0)]) (u_R_isWord lau s0 G ad D f tn tt hT ((x1 : Int)) (M1) ((p1 : Int)) (ln) (bk) (ti) (hb) (((1 : Nat) : Int)) (mn) (wd1) (v) (w) WS1 e1 p1 u1 x1 hr1.1 hr1.2.2.2.2.2 (wq 3) (wv 3) 3 (by decide) hW.2.2.2.1.2 hcs (fun h => rd_ne hH (hr1.2.2.2.2.2 h).2 hW.2.2.2.1.2)) (lw_V q573 q575 qs4 q96 q576) ⟨rfl, by decide, by decide, by decide +kernel⟩ (q0 := 0) (ci := 7) rfl rfl rfl rfl (Nat.le_of_ble_eq_true rfl) ⟨Nat.le_of_ble_eq_true rfl, Nat.le_of_ble_eq_true rfl⟩ ⟨by show (0 + 4 * 1) + 0 ≤ 9; omega, by show (0 + 31 * 1) + 0 ≤ 70; omega⟩ dX8_ties_80) (fun r3 hr3 => ?_)
            refine z_st (st' := [.int (iZ r3), .ref (ad 0)]) rfl ?_
            rcases hr3 with ⟨rfl, hz⟩ | ⟨rfl, hz3⟩
            · refine z_if_eq_f hC 83 90 dX8_ties_83 rfl (by omega) (by omega) ?_
              refine z_iconst hC 86 dX8_ties_86 ?_
              refine z_goto hC 87 91 dX8_ties_87 rfl ?_
              refine z_put hC hH 91 tyX8 in_X8 tyX8_ok nmX8 rfl 8 (by decide) q326 0 rfl rfl rfl rfl (Nat.le_of_ble_eq_true rfl) rfl dX8_ties_91 (fun H locs hH => ?_)
              have hH : zH s0 s1 G as0 (rdW G ad ((tn : Int)) ((x1 : Int)) ((e1 : Int)) (M1) ((p1 : Int)) (ln) (bk) ((3)) (hb) (((1 : Nat) : Int)) (mn) (wd1) (v) (w) D f ++ WS1) H locs := hH
              have hH : zH s0 s1 G as0 (rdW G ad ((tn : Int)) ((x1 : Int)) ((e1 : Int)) (M1) ((p1 : Int)) (ln) (bk) (((3 : Nat) : Int)) (hb) (((1 : Nat) : Int)) (mn) (wd1) (v) (w) D f ++ WS1) H locs := hH
              refine z_aload_n hC 94 hl dX8_ties_94 rfl 0 rfl ?_
              refine z_aload_n hC 95 hl dX8_ties_95 rfl 0 rfl ?_
              refine zp_get (v := .int (iZ (((3 : Nat) : Int)))) hC hH.1 96 in_X8 rfl 8 (by decide) q326 0 rfl rfl dX8_ties_96 ?_
              refine z_iconst hC 99 dX8_ties_99 ?_
              refine z_icmp_eq_f hC 100 107 dX8_ties_100 rfl (by omega) (by omega) (by omega) ?_
              refine z_iconst hC 103 dX8_ties_103 ?_
              refine z_goto hC 104 108 dX8_ties_104 rfl ?_
              refine z_iconst hC 108 dX8_ties_108 ?_
              refine zp_back (zp_runV hC hH.2.2 hl.1 (va_P_l hH.1) 2 (As := [.int (iZ (1)), .int (iZ (1))]) (rest := []) (u_R_must lau s0 G ad D f ((tn : Int)) ((x1 : Int)) ((e1 : Int)) (M1) ((p1 : Int)) (ln) (bk) (((3 : Nat) : Int)) (hb) (((1 : Nat) : Int)) (mn) (wd1) (v) (w) ((1))) (lw_V q589 q591 qs6 q96 q592) ⟨rfl, by decide, by decide, by decide +kernel⟩ (q0 := 0) (ci := 7) rfl rfl rfl rfl (Nat.le_of_ble_eq_true rfl) ⟨Nat.le_of_ble_eq_true rfl, Nat.le_of_ble_eq_true rfl⟩ ⟨by show (0 + 4 * 1) + 0 ≤ 9; omega, by show (0 + 31 * 1) + 0 ≤ 70; omega⟩ dX8_ties_109) (fun _ _ => ?_)
              refine z_st (st' := []) rfl ?_
              refine z_aload_n hC 112 hl dX8_ties_112 rfl 0 rfl ?_
              have hH : zH s0 s1 G as0 (rdW G ad ((tn : Int)) ((x1 : Int)) ((e1 : Int)) (M1) ((p1 : Int)) (ln) (bk) (((3 : Nat) : Int)) (hb) (((1 : Nat) : Int)) (mn) (wd1) (v) (w) D f) H locs := zH_l hH
              refine z_same (z_runV hC hH.2.2 hl.1 hH.1 hH.2.1 0 (As := []) (rest := []) (m_R_take lau s0 G _ hcs ad D f tn tt hT ((e1 : Int)) (M1) ((p1 : Int)) (ln) (bk) (((3 : Nat) : Int)) (hb) (((1 : Nat) : Int)) (mn) (wd1) (v) (w) (x1) (1) (by omega) (fun _ _ _ => Nat.le_refl _)) (lw_V q362 q364 qs0 q96 q365) ⟨rfl, by decide, by decide, by decide +kernel⟩ (q0 := 0) (ci := 7) rfl rfl rfl rfl (Nat.le_of_ble_eq_true rfl) ⟨Nat.le_of_ble_eq_true rfl, Nat.le_of_ble_eq_true rfl⟩ ⟨by show (0 + 4 * 1) + 4 * 1 ≤ 9; omega, by show (0 + 31 * 1) + 31 * 1 ≤ 70; omega⟩ dX8_ties_113) hH (fun u9 H locs hpost hH => ?_)
              obtain ⟨e2, p2, u2, x2, M2, wd2, WS2⟩ := u9
              obtain ⟨hk2, hr2⟩ := hpost
              have hk2 : TOK tt tn (x1) e2 p2 u2 x2 := hk2
              have hr2 : RTK G tt tn e2 p2 u2 x2 M2 wd2 WS2 := hr2
              have hb2 := RTK_b hr2
              have hd2 := (TOK_b hk2 (by omega)).1
              refine z_st (st' := []) rfl ?_
              have hH : zH s0 s1 G as0 (rdW G ad ((tn : Int)) ((x2 : Int)) ((e2 : Int)) (M2) ((p2 : Int)) (ln) (bk) (((3 : Nat) : Int)) (hb) (((1 : Nat) : Int)) (mn) (wd2) (v) (w) D f ++ WS2) H locs := hH
              exact zx_vret hC hH hQ 116 (3, e2, p2, u2, x2, M2, wd2, WS2) dX8_ties_116 rfl ⟨h1, Or.inr ⟨h2, e1, p1, u1, x1, hk1, Or.inr ⟨⟨hz.1, by omega⟩, e2, p2, u2, x2, hk2, by rw [hz.2]⟩⟩, hr2, by omega, by omega⟩ rfl (by show ((0 + 4 * 1) + 4 * 1) + 0 ≤ 9; omega) (by show ((0 + 31 * 1) + 31 * 1) + 0 ≤ 70; omega)
            · refine z_if_eq_t hC 83 90 dX8_ties_83 rfl (by omega) (by omega) ?_
              refine z_iconst hC 90 dX8_ties_90 ?_
              refine z_put hC hH 91 tyX8 in_X8 tyX8_ok nmX8 rfl 8 (by decide) q326 0 rfl rfl rfl rfl (Nat.le_of_ble_eq_true rfl) rfl dX8_ties_91 (fun H locs hH => ?_)
              have hH : zH s0 s1 G as0 (rdW G ad ((tn : Int)) ((x1 : Int)) ((e1 : Int)) (M1) ((p1 : Int)) (ln) (bk) ((-1)) (hb) (((1 : Nat) : Int)) (mn) (wd1) (v) (w) D f ++ WS1) H locs := hH
              refine z_aload_n hC 94 hl dX8_ties_94 rfl 0 rfl ?_
              refine z_aload_n hC 95 hl dX8_ties_95 rfl 0 rfl ?_
              refine zp_get (v := .int (iZ ((-1)))) hC hH.1 96 in_X8 rfl 8 (by decide) q326 0 rfl rfl dX8_ties_96 ?_
              refine z_iconst hC 99 dX8_ties_99 ?_
              refine z_icmp_eq_t hC 100 107 dX8_ties_100 rfl (by omega) (by omega) (by omega) ?_
              refine z_iconst hC 107 dX8_ties_107 ?_
              refine z_iconst hC 108 dX8_ties_108 ?_
              have hH : zH s0 s1 G as0 (rdW G ad ((tn : Int)) ((x1 : Int)) ((e1 : Int)) (M1) ((p1 : Int)) (ln) (bk) ((-1)) (hb) (((1 : Nat) : Int)) (mn) (wd1) (v) (w) D f) H locs := zH_l hH
              refine zx_same (zx_runV hC hH.2.2 hl.1 hH.1 hH.2.1 2 (As := [.int (iZ (0)), .int (iZ (1))]) (rest := []) (m_R_must0 lau s0 G _ hth ad D f ((tn : Int)) ((x1 : Int)) ((e1 : Int)) (M1) (ln) (bk) ((-1)) (hb) (((1 : Nat) : Int)) (mn) (wd1) (v) (w) (1) (p1)) (lw_V q589 q591 qs6 q96 q592) ⟨rfl, by decide, by decide, by decide +kernel⟩ (q0 := 0) (ci := 7) rfl rfl rfl rfl (Nat.le_of_ble_eq_true rfl) ⟨Nat.le_of_ble_eq_true rfl, Nat.le_of_ble_eq_true rfl⟩ ⟨by show (0 + 4 * 1) + 1 ≤ 9; omega, by show (0 + 31 * 1) + 8 ≤ 70; omega⟩ dX8_ties_109) hH (fun k9 p9 q9 H9 locs9 hX hH9 => ?_) (fun _ _ _ h _ => h.elim)
              obtain ⟨rfl, rfl⟩ := hX
              exact zx_out hC hx0 hH9 hQ (Or.inr ⟨h1, Or.inr ⟨h2, e1, _, u1, x1, hk1, Or.inl ⟨fun h => by omega, rfl⟩⟩⟩) (by show (0 + 4 * 1) + 1 ≤ 9; omega) (by show (0 + 31 * 1) + 8 ≤ 70; omega)
    · refine z_if_ne_t hC 16 23 dX8_ties_16 rfl (by omega) (by omega) ?_
      refine z_iconst hC 23 dX8_ties_23 ?_
      refine z_iconst hC 24 dX8_ties_24 ?_
      have hH : zH s0 s1 G as0 (rdW G ad ((tn : Int)) ((nx : Int)) ((so : Int)) (wh) ((pl : Int)) (ln) (bk) (ti) (hb) ((ht : Int)) (mn) (wd) (v) (w) D f) H locs := zH_l hH
      refine zx_same (zx_runV hC hH.2.2 hl.1 hH.1 hH.2.1 2 (As := [.int (iZ (0)), .int (iZ (3))]) (rest := []) (m_R_must0 lau s0 G _ hth ad D f ((tn : Int)) ((nx : Int)) ((so : Int)) (wh) (ln) (bk) (ti) (hb) ((ht : Int)) (mn) (wd) (v) (w) (3) (pl)) (lw_V q589 q591 qs6 q96 q592) ⟨rfl, by decide, by decide, by decide +kernel⟩ (q0 := 0) (ci := 7) rfl rfl rfl rfl (Nat.le_of_ble_eq_true rfl) ⟨Nat.le_of_ble_eq_true rfl, Nat.le_of_ble_eq_true rfl⟩ ⟨by show 0 + 1 ≤ 9; omega, by show 0 + 8 ≤ 70; omega⟩ dX8_ties_25) hH (fun k9 p9 q9 H9 locs9 hX hH9 => ?_) (fun _ _ _ h _ => h.elim)
      obtain ⟨rfl, rfl⟩ := hX
      exact zx_out hC hx0 hH9 hQ (Or.inr ⟨h1, Or.inl ⟨h2, rfl⟩⟩) (by show 0 + 1 ≤ 9; omega) (by show 0 + 8 ≤ 70; omega)
  · refine z_iconst hC 7 dX8_ties_7 ?_
    have hH : zH s0 s1 G as0 (rdW G ad ((tn : Int)) ((nx : Int)) ((so : Int)) (wh) ((pl : Int)) (ln) (bk) (ti) (hb) ((ht : Int)) (mn) (wd) (v) (w) D f) H locs := zH_l hH
    refine zx_same (zx_runV hC hH.2.2 hl.1 hH.1 hH.2.1 2 (As := [.int (iZ 0), .int (iZ (1))]) (rest := []) (m_R_must0 lau s0 G _ hth ad D f ((tn : Int)) ((nx : Int)) ((so : Int)) (wh) (ln) (bk) (ti) (hb) ((ht : Int)) (mn) (wd) (v) (w) (1) (pl)) (lw_V q589 q591 qs6 q96 q592) ⟨rfl, by decide, by decide, by decide +kernel⟩ (q0 := 0) (ci := 7) rfl rfl rfl rfl (Nat.le_of_ble_eq_true rfl) ⟨Nat.le_of_ble_eq_true rfl, Nat.le_of_ble_eq_true rfl⟩ ⟨by show 0 + 1 ≤ 9; omega, by show 0 + 8 ≤ 70; omega⟩ dX8_ties_8) hH (fun k9 p9 q9 H9 locs9 hX hH9 => ?_) (fun _ _ _ h _ => h.elim)
    obtain ⟨rfl, rfl⟩ := hX
    exact zx_out hC hx0 hH9 hQ (Or.inl ⟨h1, rfl, rfl⟩) (by show 0 + 1 ≤ 9; omega) (by show 0 + 8 ≤ 70; omega)

