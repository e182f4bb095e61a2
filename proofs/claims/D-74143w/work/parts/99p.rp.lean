/-! Reader.take -/
set_option maxRecDepth 100000
set_option maxHeartbeats 8000000 in
theorem m_R_take (lau : Launch) (s0 : State) (G : zG) (sz : Nat) (hcs : zCS s0) (ad : Nat → Nat) (D : List Value) (f : Nat → Int) (tn : Nat) (tt : Nat → Nat) (hT : RTX ad D f tn tt) (ki wh pe ln bk ti hb ht mn : Int) (wd : Value) (v w : Nat → Int) (a kw : Nat) (ha : a ≤ tn) (hkw : ∀ p, SKP tW tt tn a p → tS (hereZ tt tn p) → 1 ≤ kw) : zMet (S := Nat × Nat × Nat × Nat × Int × Value × va_W) lau yX8_take cX8_take 2 (none) 6 180 (4 * kw) (31 * kw) s0 G sz [.ref (ad 0)] (rdW G ad ((tn : Int)) ((a : Int)) (ki) (wh) (pe) (ln) (bk) (ti) (hb) (ht) (mn) (wd) (v) (w) D f) (fun (so, pl, vl, nx, M, wd2, WS) => (none : Option Value)) (fun (so, pl, vl, nx, M, wd2, WS) => TOK tt tn a so pl vl nx ∧ RTK G tt tn so pl vl nx M wd2 WS) (fun (so, pl, vl, nx, M, wd2, WS) => rdW G ad ((tn : Int)) ((nx : Int)) ((so : Int)) (M) ((pl : Int)) (ln) (bk) (ti) (hb) (ht) (mn) (wd2) (v) (w) D f ++ WS) := by
  refine zMet.of (by decide) (Nat.le_of_ble_eq_true rfl) ?_
  intro pg ev s1 mi ar bl me cd ls Q as0 hC hH hl hQ hsz
  generalize s1.heap = H at hH ⊢
  generalize ([] : List Loc) = locs at hH ⊢
  have hl : lv_has ls 2 [(0, .ref (ad 0))] := hl
  have hX := hT
  obtain ⟨hD, htn, htp, htb⟩ := hX
  have LA : ∀ (d b : Nat) (H : Heap) (locs : List Loc), b + d = tn → SKi tW tt tn a b → zH s0 s1 G as0 (rdW G ad ((tn : Int)) ((b : Int)) (ki) (wh) (pe) (ln) (bk) (ti) (hb) (ht) (mn) (wd) (v) (w) D f) H locs → W pg lau ev (zRm 6 (4 * kw) (31 * kw) 180) s1 mi ar bl me cd H locs 0 0 Q (F0 mi 0 ls []) := by
    intro d
    induction d using Nat.strongRecOn with
    | ind d ih =>
      intro b H locs hbd hsk hH
      have hhr := hereZ_r (k := b) htb
      refine z_aload_n hC 0 hl dX8_take_0 rfl 0 rfl ?_
      refine z_aload_n hC 1 hl dX8_take_1 rfl 0 rfl ?_
      refine zp_get (v := .int (iZ ((b : Int)))) hC hH.1 2 in_X8 rfl 2 (by decide) q317 0 rfl rfl dX8_take_2 ?_
      refine zp_back (zp_runV hC hH.2.2 hl.1 hH.1 1 (As := [.int (iZ ((b : Int)))]) (rest := []) (u_R_see lau s0 G ad D f tn tt hT ((b : Int)) (ki) (wh) (pe) (ln) (bk) (ti) (hb) (ht) (mn) (wd) (v) (w) b (by omega)) (lw_V q366 q368 qs1 q96 q369) ⟨rfl, by decide, by decide, by decide +kernel⟩ (q0 := 0) (ci := 7) rfl rfl rfl rfl (Nat.le_of_ble_eq_true rfl) ⟨Nat.le_of_ble_eq_true rfl, Nat.le_of_ble_eq_true rfl⟩ ⟨by first | decide | omega, by first | decide | omega⟩ dX8_take_5) (fun _ _ => ?_)
      refine z_st (st' := [.int (iZ (hereZ tt tn b))]) rfl ?_
      refine z_bipush hC 8 dX8_take_8 rfl ?_
      by_cases h1 : hereZ tt tn b = 10
      · refine z_icmp_eq_t hC 10 26 dX8_take_10 rfl (by omega) (by omega) (by omega) ?_
        have hb9 := hz_lt (t := tt) (n := tn) (k := b) (by omega)
        refine z_aload_n hC 26 hl dX8_take_26 rfl 0 rfl ?_
        refine z_dup hC 27 dX8_take_27 rfl ?_
        refine zp_get (v := .int (iZ ((b : Int)))) hC hH.1 28 in_X8 rfl 2 (by decide) q317 0 rfl rfl dX8_take_28 ?_
        refine z_iconst hC 31 dX8_take_31 ?_
        refine z_iadd (e := ((b + 1 : Nat) : Int)) hC 32 dX8_take_32 (by omega) ?_
        refine z_put hC hH 33 tyX8 in_X8 tyX8_ok nmX8 rfl 2 (by decide) q317 0 rfl rfl rfl rfl (Nat.le_of_ble_eq_true rfl) rfl dX8_take_33 (fun H locs hH => ?_)
        have hH : zH s0 s1 G as0 (rdW G ad ((tn : Int)) ((((b + 1 : Nat) : Int))) (ki) (wh) (pe) (ln) (bk) (ti) (hb) (ht) (mn) (wd) (v) (w) D f) H locs := hH
        refine z_goto hC 36 0 dX8_take_36 rfl ?_
        exact ih (d - 1) (by omega) (b + 1) H locs (by omega) (SKi_s hsk (by unfold tW; omega)) hH
      · refine z_icmp_eq_f hC 10 26 dX8_take_10 rfl (by omega) (by omega) (by omega) ?_
        refine z_aload_n hC 13 hl dX8_take_13 rfl 0 rfl ?_
        refine z_aload_n hC 14 hl dX8_take_14 rfl 0 rfl ?_
        refine zp_get (v := .int (iZ ((b : Int)))) hC hH.1 15 in_X8 rfl 2 (by decide) q317 0 rfl rfl dX8_take_15 ?_
        refine zp_back (zp_runV hC hH.2.2 hl.1 hH.1 1 (As := [.int (iZ ((b : Int)))]) (rest := []) (u_R_see lau s0 G ad D f tn tt hT ((b : Int)) (ki) (wh) (pe) (ln) (bk) (ti) (hb) (ht) (mn) (wd) (v) (w) b (by omega)) (lw_V q366 q368 qs1 q96 q369) ⟨rfl, by decide, by decide, by decide +kernel⟩ (q0 := 0) (ci := 7) rfl rfl rfl rfl (Nat.le_of_ble_eq_true rfl) ⟨Nat.le_of_ble_eq_true rfl, Nat.le_of_ble_eq_true rfl⟩ ⟨by first | decide | omega, by first | decide | omega⟩ dX8_take_18) (fun _ _ => ?_)
        refine z_st (st' := [.int (iZ (hereZ tt tn b))]) rfl ?_
        refine z_bipush hC 21 dX8_take_21 rfl ?_
        by_cases h2 : hereZ tt tn b = 32
        · refine z_icmp_ne_f hC 23 39 dX8_take_23 rfl (by omega) (by omega) (by omega) ?_
          have hb9 := hz_lt (t := tt) (n := tn) (k := b) (by omega)
          refine z_aload_n hC 26 hl dX8_take_26 rfl 0 rfl ?_
          refine z_dup hC 27 dX8_take_27 rfl ?_
          refine zp_get (v := .int (iZ ((b : Int)))) hC hH.1 28 in_X8 rfl 2 (by decide) q317 0 rfl rfl dX8_take_28 ?_
          refine z_iconst hC 31 dX8_take_31 ?_
          refine z_iadd (e := ((b + 1 : Nat) : Int)) hC 32 dX8_take_32 (by omega) ?_
          refine z_put hC hH 33 tyX8 in_X8 tyX8_ok nmX8 rfl 2 (by decide) q317 0 rfl rfl rfl rfl (Nat.le_of_ble_eq_true rfl) rfl dX8_take_33 (fun H locs hH => ?_)
          have hH : zH s0 s1 G as0 (rdW G ad ((tn : Int)) ((((b + 1 : Nat) : Int))) (ki) (wh) (pe) (ln) (bk) (ti) (hb) (ht) (mn) (wd) (v) (w) D f) H locs := hH
          refine z_goto hC 36 0 dX8_take_36 rfl ?_
          exact ih (d - 1) (by omega) (b + 1) H locs (by omega) (SKi_s hsk (by unfold tW; omega)) hH
        · refine z_icmp_ne_t hC 23 39 dX8_take_23 rfl (by omega) (by omega) (by omega) ?_
          have hsp : SKP tW tt tn a b := ⟨hsk, fun h => h.elim h1 h2⟩
          have hba := hsk.1
          refine z_aload_n hC 39 hl dX8_take_39 rfl 0 rfl ?_
          refine z_aload_n hC 40 hl dX8_take_40 rfl 0 rfl ?_
          refine zp_get (v := .int (iZ ((b : Int)))) hC hH.1 41 in_X8 rfl 2 (by decide) q317 0 rfl rfl dX8_take_41 ?_
          refine z_put hC hH 44 tyX8 in_X8 tyX8_ok nmX8 rfl 5 (by decide) q320 0 rfl rfl rfl rfl (Nat.le_of_ble_eq_true rfl) rfl dX8_take_44 (fun H locs hH => ?_)
          have hH : zH s0 s1 G as0 (rdW G ad ((tn : Int)) ((b : Int)) (ki) (wh) (((b : Int))) (ln) (bk) (ti) (hb) (ht) (mn) (wd) (v) (w) D f) H locs := hH
          refine z_aload_n hC 47 hl dX8_take_47 rfl 0 rfl ?_
          refine zp_get (v := .int (iZ ((b : Int)))) hC hH.1 48 in_X8 rfl 2 (by decide) q317 0 rfl rfl dX8_take_48 ?_
          refine z_aload_n hC 51 hl dX8_take_51 rfl 0 rfl ?_
          refine zp_get (v := .int (iZ ((tn : Int)))) hC hH.1 52 in_X8 rfl 0 (by decide) q314 0 rfl rfl dX8_take_52 ?_
          by_cases h3 : b < tn
          · refine z_icmp_lt_t hC 55 66 dX8_take_55 rfl (by omega) (by omega) (by omega) ?_
            refine z_aload_n hC 66 hl dX8_take_66 rfl 0 rfl ?_
            refine z_aload_n hC 67 hl dX8_take_67 rfl 0 rfl ?_
            refine zp_get (v := .int (iZ ((b : Int)))) hC hH.1 68 in_X8 rfl 2 (by decide) q317 0 rfl rfl dX8_take_68 ?_
            refine zp_back (zp_runV hC hH.2.2 hl.1 hH.1 1 (As := [.int (iZ ((b : Int)))]) (rest := []) (u_R_isSmall lau s0 G ad D f tn tt hT ((b : Int)) (ki) (wh) (((b : Int))) (ln) (bk) (ti) (hb) (ht) (mn) (wd) (v) (w) b (by omega)) (lw_V q370 q372 qs2 q96 q373) ⟨rfl, by decide, by decide, by decide +kernel⟩ (q0 := 0) (ci := 7) rfl rfl rfl rfl (Nat.le_of_ble_eq_true rfl) ⟨Nat.le_of_ble_eq_true rfl, Nat.le_of_ble_eq_true rfl⟩ ⟨by first | decide | omega, by first | decide | omega⟩ dX8_take_71) (fun r hr => ?_)
            refine z_st (st' := [.int (iZ r)]) rfl ?_
            rcases hr with ⟨rfl, hs⟩ | ⟨rfl, hs⟩
            · refine z_if_eq_f hC 74 148 dX8_take_74 rfl (by omega) (by omega) ?_
              have hk1 := hkw b hsp hs
              refine z_new (ci := 16) (N := 4) hC hH 77 [.null, .int (0), .int (0), .int (0)] tyJ1 in_J1 tyJ1_ok rfl q377 q378 q98 (fun j hj => by rcases (show j = 0 ∨ j = 1 ∨ j = 2 ∨ j = 3 from by omega) with rfl | rfl | rfl | rfl <;> rfl) ⟨by show 0 + 1 ≤ 4 * kw; omega, by show 0 + 4 ≤ 31 * kw; omega⟩ dX8_take_77 (fun q H hH => ?_)
              refine z_dup hC 80 dX8_take_80 rfl ?_
              refine z_subN (z_runI hC hH.2.2 hl.1 (z_subP hH.1 [6] rfl) (z_subD hH.2.1 [6] (by decide) rfl) 0 (As := []) (rest := [.ref q]) (m_J1_init lau s0 G _ hcs q) (lw_meth q381) q379 ⟨q98, q380⟩ rfl ⟨by decide, by decide, by decide +kernel⟩ rfl rfl (Nat.le_of_ble_eq_true rfl) ⟨Nat.le_of_ble_eq_true rfl, Nat.le_of_ble_eq_true rfl⟩ ⟨by show 0 + 1 + 1 ≤ 4 * kw; omega, by show 0 + 4 + 16 ≤ 31 * kw; omega⟩ dX8_take_81) hH [6] rfl (by decide) (fun _ => rfl) (fun bs H locs hpost hH => ?_)
              refine z_st (st' := [.ref q]) rfl ?_
              have hH : zH s0 s1 G as0 (rdW G ad ((tn : Int)) ((b : Int)) (ki) (wh) (((b : Int))) (ln) (bk) (ti) (hb) (ht) (mn) (wd) (v) (w) D f ++ sbW G q bs 0 (fun j => (((fun _ => 0 : Nat → Nat) j : Nat) : Int))) H locs := hH
              refine z_astore_n (lv' := [(1, .ref q), (0, .ref (ad 0))]) hC 84 hl dX8_take_84 rfl (by decide) rfl (fun ls hl => ?_)
              have LB : ∀ (d e c : Nat) (g : Nat → Nat) (H : Heap) (locs : List Loc), e + d = tn → SKi tS tt tn b e → (e - b ≤ 7 → c = e - b) → (7 ≤ e - b → c = 7) → (∀ j, j < c → g j = tt (b + j)) → (∀ j, j < c → g j < 128) → zH s0 s1 G as0 (rdW G ad ((tn : Int)) ((e : Int)) (ki) (wh) (((b : Int))) (ln) (bk) (ti) (hb) (ht) (mn) (wd) (v) (w) D f ++ sbW G q bs c (fun j => (g j : Int))) H locs → W pg lau ev (zRm 6 (4 * kw) (31 * kw) 180) s1 mi ar bl me cd H locs 2 20 Q (F0 mi 85 ls []) := by
                intro d
                induction d using Nat.strongRecOn with
                | ind d ih2 =>
                  intro e c g H locs hed hsi hc1 hc2 hg hg2 hH
                  have hhe := hereZ_r (k := e) htb
                  have hbe := hsi.1
                  refine z_aload_n hC 85 hl dX8_take_85 rfl 1 rfl ?_
                  refine z_aload_n hC 86 hl dX8_take_86 rfl 1 rfl ?_
                  refine zp_get (v := .int (iZ ((e : Int)))) hC hH.1 87 in_X8 rfl 2 (by decide) q317 0 rfl rfl dX8_take_87 ?_
                  refine zp_back (zp_runV hC hH.2.2 hl.1 (va_P_l hH.1) 1 (As := [.int (iZ ((e : Int)))]) (rest := []) (u_R_isSmall lau s0 G ad D f tn tt hT ((e : Int)) (ki) (wh) (((b : Int))) (ln) (bk) (ti) (hb) (ht) (mn) (wd) (v) (w) e (by omega)) (lw_V q370 q372 qs2 q96 q373) ⟨rfl, by decide, by decide, by decide +kernel⟩ (q0 := 0) (ci := 7) rfl rfl rfl rfl (Nat.le_of_ble_eq_true rfl) ⟨Nat.le_of_ble_eq_true rfl, Nat.le_of_ble_eq_true rfl⟩ ⟨by show 2 + 0 ≤ 4 * kw; omega, by show 20 + 0 ≤ 31 * kw; omega⟩ dX8_take_90) (fun r hr => ?_)
                  refine z_st (st' := [.int (iZ r)]) rfl ?_
                  rcases hr with ⟨rfl, hs2⟩ | ⟨rfl, hs2⟩
                  · refine z_if_eq_f hC 93 132 dX8_take_93 rfl (by omega) (by omega) ?_
                    obtain ⟨cc, hc128, hcz, hct⟩ := tS_c hs2
                    have he := tS_lt hs2
                    refine z_aload_n hC 96 hl dX8_take_96 rfl 0 rfl ?_
                    refine zp_back (zp_runV hC hH.2.2 hl.1 (z_subP hH.1 [6] rfl) 0 (As := []) (rest := []) (u_J1_length lau s0 G q bs c) (lw_V q408 q409 q410 q98 q411) ⟨rfl, by decide, by decide, by decide +kernel⟩ (q0 := 0) (ci := 16) rfl rfl rfl rfl (Nat.le_of_ble_eq_true rfl) ⟨Nat.le_of_ble_eq_true rfl, Nat.le_of_ble_eq_true rfl⟩ ⟨by show 2 + 0 ≤ 4 * kw; omega, by show 20 + 0 ≤ 31 * kw; omega⟩ dX8_take_97) (fun _ _ => ?_)
                    refine z_st (st' := [.int (iZ (c : Int))]) rfl ?_
                    refine z_bipush hC 100 dX8_take_100 rfl ?_
                    by_cases h7 : c ≤ 6
                    · refine z_icmp_gt_f hC 102 119 dX8_take_102 rfl (by omega) (by omega) (by omega) ?_
                      refine z_aload_n hC 105 hl dX8_take_105 rfl 0 rfl ?_
                      refine z_aload_n hC 106 hl dX8_take_106 rfl 1 rfl ?_
                      refine z_aload_n hC 107 hl dX8_take_107 rfl 1 rfl ?_
                      refine zp_get (v := .int (iZ ((e : Int)))) hC hH.1 108 in_X8 rfl 2 (by decide) q317 0 rfl rfl dX8_take_108 ?_
                      refine zp_back (zp_runV hC hH.2.2 hl.1 (va_P_l hH.1) 1 (As := [.int (iZ ((e : Int)))]) (rest := [.ref q]) (u_R_see lau s0 G ad D f tn tt hT ((e : Int)) (ki) (wh) (((b : Int))) (ln) (bk) (ti) (hb) (ht) (mn) (wd) (v) (w) e (by omega)) (lw_V q366 q368 qs1 q96 q369) ⟨rfl, by decide, by decide, by decide +kernel⟩ (q0 := 0) (ci := 7) rfl rfl rfl rfl (Nat.le_of_ble_eq_true rfl) ⟨Nat.le_of_ble_eq_true rfl, Nat.le_of_ble_eq_true rfl⟩ ⟨by show 2 + 0 ≤ 4 * kw; omega, by show 20 + 0 ≤ 31 * kw; omega⟩ dX8_take_111) (fun _ _ => ?_)
                      refine z_st (st' := [.int (iZ (hereZ tt tn e)), .ref q]) rfl ?_
                      rw [hcz]
                      refine z_i2c hC 114 (by omega) dX8_take_114 ?_
                      refine z_sub (z_runV hC hH.2.2 hl.1 (z_subP hH.1 [6, 7] rfl) (z_subD hH.2.1 [6, 7] (by decide) rfl) 1 (As := [.int (iZ (cc : Int))]) (rest := []) (m_J1_append lau s0 G _ hcs q bs c cc (fun j => (g j : Int)) (by omega) hc128) (lw_V q415 q416 q417 q98 q418) ⟨rfl, by decide, by decide, by decide +kernel⟩ (q0 := 0) (ci := 16) rfl rfl rfl rfl (Nat.le_of_ble_eq_true rfl) ⟨Nat.le_of_ble_eq_true rfl, Nat.le_of_ble_eq_true rfl⟩ ⟨by show 2 + 0 ≤ 4 * kw; omega, by show 20 + 0 ≤ 31 * kw; omega⟩ dX8_take_115) hH [6, 7] rfl (by decide) (fun _ => rfl) (fun _ H locs _ hH => ?_)
                      refine z_st (st' := [.ref q]) rfl ?_
                      have hH : zH s0 s1 G as0 (rdW G ad ((tn : Int)) ((e : Int)) (ki) (wh) (((b : Int))) (ln) (bk) (ti) (hb) (ht) (mn) (wd) (v) (w) D f ++ sbW G q bs (c + 1) (va_up (fun j => (g j : Int)) c (cc : Int))) H locs := hH
                      rw [upZ] at hH
                      refine z_pop hC 118 dX8_take_118 rfl ?_
                      refine z_aload_n hC 119 hl dX8_take_119 rfl 1 rfl ?_
                      refine z_dup hC 120 dX8_take_120 rfl ?_
                      refine zp_get (v := .int (iZ ((e : Int)))) hC hH.1 121 in_X8 rfl 2 (by decide) q317 0 rfl rfl dX8_take_121 ?_
                      refine z_iconst hC 124 dX8_take_124 ?_
                      refine z_iadd (e := ((e + 1 : Nat) : Int)) hC 125 dX8_take_125 (by omega) ?_
                      refine z_put hC hH 126 tyX8 in_X8 tyX8_ok nmX8 rfl 2 (by decide) q317 0 rfl rfl rfl rfl (Nat.le_of_ble_eq_true rfl) rfl dX8_take_126 (fun H locs hH => ?_)
                      have hH : zH s0 s1 G as0 (rdW G ad ((tn : Int)) ((((e + 1 : Nat) : Int))) (ki) (wh) (((b : Int))) (ln) (bk) (ti) (hb) (ht) (mn) (wd) (v) (w) D f ++ sbW G q bs (c + 1) (fun j => ((va_up g c cc j : Nat) : Int))) H locs := hH
                      refine z_goto hC 129 85 dX8_take_129 rfl ?_
                      exact ih2 (d - 1) (by omega) (e + 1) (c + 1) (va_up g c cc) H locs (by omega) (SKi_s hsi hs2) (fun _ => by omega) (fun _ => by omega) (fun j hj => by
                        unfold va_up
                        split
                        · rename_i h9; rw [h9, show b + c = e from by omega]; exact hct.symm
                        · exact hg j (by omega)) (fun j hj => by
                        unfold va_up
                        split
                        · exact hc128
                        · exact hg2 j (by omega)) hH
                    · refine z_icmp_gt_t hC 102 119 dX8_take_102 rfl (by omega) (by omega) (by omega) ?_
                      refine z_aload_n hC 119 hl dX8_take_119 rfl 1 rfl ?_
                      refine z_dup hC 120 dX8_take_120 rfl ?_
                      refine zp_get (v := .int (iZ ((e : Int)))) hC hH.1 121 in_X8 rfl 2 (by decide) q317 0 rfl rfl dX8_take_121 ?_
                      refine z_iconst hC 124 dX8_take_124 ?_
                      refine z_iadd (e := ((e + 1 : Nat) : Int)) hC 125 dX8_take_125 (by omega) ?_
                      refine z_put hC hH 126 tyX8 in_X8 tyX8_ok nmX8 rfl 2 (by decide) q317 0 rfl rfl rfl rfl (Nat.le_of_ble_eq_true rfl) rfl dX8_take_126 (fun H locs hH => ?_)
                      have hH : zH s0 s1 G as0 (rdW G ad ((tn : Int)) ((((e + 1 : Nat) : Int))) (ki) (wh) (((b : Int))) (ln) (bk) (ti) (hb) (ht) (mn) (wd) (v) (w) D f ++ sbW G q bs c (fun j => (g j : Int))) H locs := hH
                      refine z_goto hC 129 85 dX8_take_129 rfl ?_
                      exact ih2 (d - 1) (by omega) (e + 1) c g H locs (by omega) (SKi_s hsi hs2) (fun _ => by omega) (fun _ => by omega) hg hg2 hH
                  · refine z_if_eq_t hC 93 132 dX8_take_93 rfl (by omega) (by omega) ?_
                    refine z_aload_n hC 132 hl dX8_take_132 rfl 1 rfl ?_
                    refine z_aload_n hC 133 hl dX8_take_133 rfl 0 rfl ?_
                    refine z_subN (wc := sbW G q bs c (fun j => (g j : Int))) (w1 := fun _ => sbW G q bs c (fun j => (g j : Int))) (x1 := fun u : Nat × Nat => stW G u.1 u.2 c (fun j => (g j : Int))) (z_runV hC hH.2.2 hl.1 (z_subP hH.1 [6, 7] rfl) (z_subD hH.2.1 [6, 7] (by decide) rfl) 0 (As := []) (rest := [.ref (ad 0)]) (m_J1_toString lau s0 G _ hcs q bs c (fun j => (g j : Int)) (by omega) (fun i hi => by have := hg2 i hi; omega)) (lw_V q510 q511 q512 q98 q513) ⟨rfl, by decide, by decide, by decide +kernel⟩ (q0 := 0) (ci := 16) rfl rfl rfl rfl (Nat.le_of_ble_eq_true rfl) ⟨Nat.le_of_ble_eq_true rfl, Nat.le_of_ble_eq_true rfl⟩ ⟨by show 2 + 2 ≤ 4 * kw; omega, by show 20 + 11 ≤ 31 * kw; omega⟩ dX8_take_134) hH [6, 7] rfl (by decide) (fun _ => rfl) (fun u H locs _ hH => ?_)
                    refine z_st (st' := [.ref u.1, .ref (ad 0)]) rfl ?_
                    have hH : zH s0 s1 G as0 (rdW G ad ((tn : Int)) ((e : Int)) (ki) (wh) (((b : Int))) (ln) (bk) (ti) (hb) (ht) (mn) (wd) (v) (w) D f ++ (sbW G q bs c (fun j => (g j : Int)) ++ stW G u.1 u.2 c (fun j => (g j : Int)))) H locs := hH
                    refine z_put hC hH 137 tyX8 in_X8 tyX8_ok nmX8 rfl 11 (by decide) q329 0 rfl rfl rfl rfl (Nat.le_of_ble_eq_true rfl) rfl dX8_take_137 (fun H locs hH => ?_)
                    have hH : zH s0 s1 G as0 (rdW G ad ((tn : Int)) ((e : Int)) (ki) (wh) (((b : Int))) (ln) (bk) (ti) (hb) (ht) (mn) (.ref u.1) (v) (w) D f ++ (sbW G q bs c (fun j => (g j : Int)) ++ stW G u.1 u.2 c (fun j => (g j : Int)))) H locs := hH
                    refine z_aload_n hC 140 hl dX8_take_140 rfl 1 rfl ?_
                    refine z_iconst hC 141 dX8_take_141 ?_
                    refine z_put hC hH 142 tyX8 in_X8 tyX8_ok nmX8 rfl 3 (by decide) q318 0 rfl rfl rfl rfl (Nat.le_of_ble_eq_true rfl) rfl dX8_take_142 (fun H locs hH => ?_)
                    have hH : zH s0 s1 G as0 (rdW G ad ((tn : Int)) ((e : Int)) ((1)) (wh) (((b : Int))) (ln) (bk) (ti) (hb) (ht) (mn) (.ref u.1) (v) (w) D f ++ (sbW G q bs c (fun j => (g j : Int)) ++ stW G u.1 u.2 c (fun j => (g j : Int)))) H locs := hH
                    refine z_goto hC 145 253 dX8_take_145 rfl ?_
                    have hsp2 : SKP tS tt tn b e := ⟨hsi, hs2⟩
                    have hen := SKP_n hsp2 nS (by omega)
                    obtain ⟨x, hx⟩ := wIx_ex tt b e
                    have hk9 := TOK_word hsp hs hsp2 hx
                    have hH : zH s0 s1 G as0 (rdW G ad ((tn : Int)) ((e : Int)) ((1)) (wh) (((b : Int))) (ln) (bk) (ti) (hb) (ht) (mn) (.ref u.1) (v) (w) D f ++ stW G u.1 u.2 c (fun j => (g j : Int))) H locs := ⟨z_subP hH.1 [0, 1, 2, 3, 4, 5, 8, 9] rfl, z_subD hH.2.1 [0, 1, 2, 3, 4, 5, 8, 9] (by decide) rfl, hH.2.2⟩
                    exact z_vret hC hH hQ 253 (1, b, x, e, wh, .ref u.1, stW G u.1 u.2 c (fun j => (g j : Int))) dX8_take_253 rfl ⟨hk9, RTK_of hk9 ha (fun h => absurd h (by decide)) (fun _ => ⟨hx, u.1, u.2, c, g, rfl, rfl, by omega, hg2, hg, hc1, hc2⟩)⟩ rfl (by show 2 + 2 ≤ 4 * kw; omega) (by show 20 + 11 ≤ 31 * kw; omega)
              exact LB (tn - b) b 0 (fun _ => 0) H locs (by omega) SKi_0 (fun _ => by omega) (fun h => by omega) (fun j hj => by omega) (fun j hj => by omega) hH
            · refine z_if_eq_t hC 74 148 dX8_take_74 rfl (by omega) (by omega) ?_
              refine z_aload_n hC 148 hl dX8_take_148 rfl 0 rfl ?_
              refine z_aload_n hC 149 hl dX8_take_149 rfl 0 rfl ?_
              refine zp_get (v := .int (iZ ((b : Int)))) hC hH.1 150 in_X8 rfl 2 (by decide) q317 0 rfl rfl dX8_take_150 ?_
              refine zp_back (zp_runV hC hH.2.2 hl.1 hH.1 1 (As := [.int (iZ ((b : Int)))]) (rest := []) (u_R_isDigit lau s0 G ad D f tn tt hT ((b : Int)) (ki) (wh) (((b : Int))) (ln) (bk) (ti) (hb) (ht) (mn) (wd) (v) (w) b (by omega)) (lw_V q564 q566 qs3 q96 q567) ⟨rfl, by decide, by decide, by decide +kernel⟩ (q0 := 0) (ci := 7) rfl rfl rfl rfl (Nat.le_of_ble_eq_true rfl) ⟨Nat.le_of_ble_eq_true rfl, Nat.le_of_ble_eq_true rfl⟩ ⟨by first | decide | omega, by first | decide | omega⟩ dX8_take_153) (fun r hr => ?_)
              refine z_st (st' := [.int (iZ r)]) rfl ?_
              rcases hr with ⟨rfl, hd⟩ | ⟨rfl, hd⟩
              · refine z_if_eq_f hC 156 221 dX8_take_156 rfl (by omega) (by omega) ?_
                refine z_aload_n hC 159 hl dX8_take_159 rfl 0 rfl ?_
                refine z_iconst hC 160 dX8_take_160 ?_
                refine z_put hC hH 161 tyX8 in_X8 tyX8_ok nmX8 rfl 3 (by decide) q318 0 rfl rfl rfl rfl (Nat.le_of_ble_eq_true rfl) rfl dX8_take_161 (fun H locs hH => ?_)
                have hH : zH s0 s1 G as0 (rdW G ad ((tn : Int)) ((b : Int)) ((2)) (wh) (((b : Int))) (ln) (bk) (ti) (hb) (ht) (mn) (wd) (v) (w) D f) H locs := hH
                refine z_aload_n hC 164 hl dX8_take_164 rfl 0 rfl ?_
                refine z_iconst hC 165 dX8_take_165 ?_
                refine z_put hC hH 166 tyX8 in_X8 tyX8_ok nmX8 rfl 4 (by decide) q319 0 rfl rfl rfl rfl (Nat.le_of_ble_eq_true rfl) rfl dX8_take_166 (fun H locs hH => ?_)
                have hH : zH s0 s1 G as0 (rdW G ad ((tn : Int)) ((b : Int)) ((2)) ((0)) (((b : Int))) (ln) (bk) (ti) (hb) (ht) (mn) (wd) (v) (w) D f) H locs := hH
                have LC : ∀ (d e N : Nat) (H : Heap) (locs : List Loc), e + d = tn → SKi tD tt tn b e → NUMD N (numV tt b (e - b)) → zH s0 s1 G as0 (rdW G ad ((tn : Int)) ((e : Int)) ((2)) ((N : Int)) (((b : Int))) (ln) (bk) (ti) (hb) (ht) (mn) (wd) (v) (w) D f) H locs → W pg lau ev (zRm 6 (4 * kw) (31 * kw) 180) s1 mi ar bl me cd H locs 0 0 Q (F0 mi 169 ls []) := by
                  intro d
                  induction d using Nat.strongRecOn with
                  | ind d ih2 =>
                    intro e N H locs hed hsi hN hH
                    have hhe := hereZ_r (k := e) htb
                    have hbe := hsi.1
                    have hNb := NUMD_b hN
                    refine z_aload_n hC 169 hl dX8_take_169 rfl 0 rfl ?_
                    refine z_aload_n hC 170 hl dX8_take_170 rfl 0 rfl ?_
                    refine zp_get (v := .int (iZ ((e : Int)))) hC hH.1 171 in_X8 rfl 2 (by decide) q317 0 rfl rfl dX8_take_171 ?_
                    refine zp_back (zp_runV hC hH.2.2 hl.1 hH.1 1 (As := [.int (iZ ((e : Int)))]) (rest := []) (u_R_isDigit lau s0 G ad D f tn tt hT ((e : Int)) ((2)) ((N : Int)) (((b : Int))) (ln) (bk) (ti) (hb) (ht) (mn) (wd) (v) (w) e (by omega)) (lw_V q564 q566 qs3 q96 q567) ⟨rfl, by decide, by decide, by decide +kernel⟩ (q0 := 0) (ci := 7) rfl rfl rfl rfl (Nat.le_of_ble_eq_true rfl) ⟨Nat.le_of_ble_eq_true rfl, Nat.le_of_ble_eq_true rfl⟩ ⟨by first | decide | omega, by first | decide | omega⟩ dX8_take_174) (fun r hr => ?_)
                    refine z_st (st' := [.int (iZ r)]) rfl ?_
                    rcases hr with ⟨rfl, hs2⟩ | ⟨rfl, hs2⟩
                    · refine z_if_eq_f hC 177 253 dX8_take_177 rfl (by omega) (by omega) ?_
                      have he := tD_lt hs2
                      have hs3 : 48 ≤ hereZ tt tn e ∧ hereZ tt tn e ≤ 57 := hs2
                      have hte := hz_at (t := tt) (n := tn) (k := e) (by omega)
                      refine z_aload_n hC 180 hl dX8_take_180 rfl 0 rfl ?_
                      refine z_bipush hC 181 dX8_take_181 rfl ?_
                      refine z_aload_n hC 183 hl dX8_take_183 rfl 0 rfl ?_
                      refine zp_get (v := .int (iZ ((N : Int)))) hC hH.1 184 in_X8 rfl 4 (by decide) q319 0 rfl rfl dX8_take_184 ?_
                      refine z_imul (e := ((10)) * (((N : Int)))) hC 187 dX8_take_187 rfl ?_
                      refine z_aload_n hC 188 hl dX8_take_188 rfl 0 rfl ?_
                      refine z_aload_n hC 189 hl dX8_take_189 rfl 0 rfl ?_
                      refine zp_get (v := .int (iZ ((e : Int)))) hC hH.1 190 in_X8 rfl 2 (by decide) q317 0 rfl rfl dX8_take_190 ?_
                      refine zp_back (zp_runV hC hH.2.2 hl.1 hH.1 1 (As := [.int (iZ ((e : Int)))]) (rest := [.int (iZ (((10)) * (((N : Int))))), .ref (ad 0)]) (u_R_see lau s0 G ad D f tn tt hT ((e : Int)) ((2)) ((N : Int)) (((b : Int))) (ln) (bk) (ti) (hb) (ht) (mn) (wd) (v) (w) e (by omega)) (lw_V q366 q368 qs1 q96 q369) ⟨rfl, by decide, by decide, by decide +kernel⟩ (q0 := 0) (ci := 7) rfl rfl rfl rfl (Nat.le_of_ble_eq_true rfl) ⟨Nat.le_of_ble_eq_true rfl, Nat.le_of_ble_eq_true rfl⟩ ⟨by first | decide | omega, by first | decide | omega⟩ dX8_take_193) (fun _ _ => ?_)
                      refine z_st (st' := [.int (iZ (hereZ tt tn e)), .int (iZ (((10)) * (((N : Int))))), .ref (ad 0)]) rfl ?_
                      refine z_iadd (e := ((((10)) * (((N : Int))))) + ((hereZ tt tn e))) hC 196 dX8_take_196 rfl ?_
                      refine z_bipush hC 197 dX8_take_197 rfl ?_
                      refine z_isub (e := ((((((10)) * (((N : Int))))) + ((hereZ tt tn e)))) - ((48))) hC 199 dX8_take_199 rfl ?_
                      refine zp_ldc (z := 100000) hC 200 q570 (by decide) dX8_take_200 ?_
                      refine z_min hC hl.1 202 q571 dX8_take_202 (by omega) (by omega) ⟨Nat.le_of_ble_eq_true rfl, Nat.le_of_ble_eq_true rfl⟩ ⟨Nat.zero_le _, Nat.zero_le _⟩ ?_
                      obtain ⟨M, hM, hM2⟩ := NUMD_z hN hs3.1
                      rw [show zmin (10 * (N : Int) + hereZ tt tn e - 48) 100000 = (M : Int) from hM.symm]
                      refine z_put hC hH 205 tyX8 in_X8 tyX8_ok nmX8 rfl 4 (by decide) q319 0 rfl rfl rfl rfl (Nat.le_of_ble_eq_true rfl) rfl dX8_take_205 (fun H locs hH => ?_)
                      have hH : zH s0 s1 G as0 (rdW G ad ((tn : Int)) ((e : Int)) ((2)) ((M : Int)) (((b : Int))) (ln) (bk) (ti) (hb) (ht) (mn) (wd) (v) (w) D f) H locs := hH
                      refine z_aload_n hC 208 hl dX8_take_208 rfl 0 rfl ?_
                      refine z_dup hC 209 dX8_take_209 rfl ?_
                      refine zp_get (v := .int (iZ ((e : Int)))) hC hH.1 210 in_X8 rfl 2 (by decide) q317 0 rfl rfl dX8_take_210 ?_
                      refine z_iconst hC 213 dX8_take_213 ?_
                      refine z_iadd (e := ((e + 1 : Nat) : Int)) hC 214 dX8_take_214 (by omega) ?_
                      refine z_put hC hH 215 tyX8 in_X8 tyX8_ok nmX8 rfl 2 (by decide) q317 0 rfl rfl rfl rfl (Nat.le_of_ble_eq_true rfl) rfl dX8_take_215 (fun H locs hH => ?_)
                      have hH : zH s0 s1 G as0 (rdW G ad ((tn : Int)) ((((e + 1 : Nat) : Int))) ((2)) ((M : Int)) (((b : Int))) (ln) (bk) (ti) (hb) (ht) (mn) (wd) (v) (w) D f) H locs := hH
                      refine z_goto hC 218 169 dX8_take_218 rfl ?_
                      exact ih2 (d - 1) (by omega) (e + 1) M H locs (by omega) (SKi_s hsi hs2) (by
                        rw [show e + 1 - b = (e - b) + 1 from by omega]
                        exact NUMD_s hN (d := tt e) (by rw [show b + (e - b) = e from by omega]) (by omega) (by omega) (by rw [hM, hte])) hH
                    · refine z_if_eq_t hC 177 253 dX8_take_177 rfl (by omega) (by omega) ?_
                      have hsp2 : SKP tD tt tn b e := ⟨hsi, hs2⟩
                      have hk9 := TOK_num hsp hd hsp2
                      exact z_vret hC hH hQ 253 (2, b, numV tt b (e - b), e, (N : Int), wd, []) dX8_take_253 rfl ⟨hk9, RTK_of hk9 ha (fun _ => ⟨N, rfl, hN⟩) (fun h => absurd h (by decide))⟩ rfl (Nat.zero_le _) (Nat.zero_le _)
                exact LC (tn - b) b 0 H locs (by omega) SKi_0 (by rw [Nat.sub_self]; exact NUMD_0) hH
              · refine z_if_eq_t hC 156 221 dX8_take_156 rfl (by omega) (by omega) ?_
                refine z_aload_n hC 221 hl dX8_take_221 rfl 0 rfl ?_
                refine z_aload_n hC 222 hl dX8_take_222 rfl 0 rfl ?_
                refine z_aload_n hC 223 hl dX8_take_223 rfl 0 rfl ?_
                refine zp_get (v := .int (iZ ((b : Int)))) hC hH.1 224 in_X8 rfl 2 (by decide) q317 0 rfl rfl dX8_take_224 ?_
                refine zp_back (zp_runV hC hH.2.2 hl.1 hH.1 1 (As := [.int (iZ ((b : Int)))]) (rest := [.ref (ad 0)]) (u_R_see lau s0 G ad D f tn tt hT ((b : Int)) (ki) (wh) (((b : Int))) (ln) (bk) (ti) (hb) (ht) (mn) (wd) (v) (w) b (by omega)) (lw_V q366 q368 qs1 q96 q369) ⟨rfl, by decide, by decide, by decide +kernel⟩ (q0 := 0) (ci := 7) rfl rfl rfl rfl (Nat.le_of_ble_eq_true rfl) ⟨Nat.le_of_ble_eq_true rfl, Nat.le_of_ble_eq_true rfl⟩ ⟨by first | decide | omega, by first | decide | omega⟩ dX8_take_227) (fun _ _ => ?_)
                refine z_st (st' := [.int (iZ (hereZ tt tn b)), .ref (ad 0)]) rfl ?_
                refine z_bipush hC 230 dX8_take_230 rfl ?_
                by_cases h5 : hereZ tt tn b = 59
                · refine z_icmp_ne_f hC 232 239 dX8_take_232 rfl (by omega) (by omega) (by omega) ?_
                  refine z_iconst hC 235 dX8_take_235 ?_
                  refine z_goto hC 236 240 dX8_take_236 rfl ?_
                  refine z_put hC hH 240 tyX8 in_X8 tyX8_ok nmX8 rfl 3 (by decide) q318 0 rfl rfl rfl rfl (Nat.le_of_ble_eq_true rfl) rfl dX8_take_240 (fun H locs hH => ?_)
                  have hH : zH s0 s1 G as0 (rdW G ad ((tn : Int)) ((b : Int)) ((3)) (wh) (((b : Int))) (ln) (bk) (ti) (hb) (ht) (mn) (wd) (v) (w) D f) H locs := hH
                  have hk9 := TOK_stop hsp h3 h5
                  refine z_aload_n hC 243 hl dX8_take_243 rfl 0 rfl ?_
                  refine z_dup hC 244 dX8_take_244 rfl ?_
                  refine zp_get (v := .int (iZ ((b : Int)))) hC hH.1 245 in_X8 rfl 2 (by decide) q317 0 rfl rfl dX8_take_245 ?_
                  refine z_iconst hC 248 dX8_take_248 ?_
                  refine z_iadd (e := ((b + 1 : Nat) : Int)) hC 249 dX8_take_249 (by omega) ?_
                  refine z_put hC hH 250 tyX8 in_X8 tyX8_ok nmX8 rfl 2 (by decide) q317 0 rfl rfl rfl rfl (Nat.le_of_ble_eq_true rfl) rfl dX8_take_250 (fun H locs hH => ?_)
                  have hH : zH s0 s1 G as0 (rdW G ad ((tn : Int)) ((((b + 1 : Nat) : Int))) ((3)) (wh) (((b : Int))) (ln) (bk) (ti) (hb) (ht) (mn) (wd) (v) (w) D f) H locs := hH
                  exact z_vret hC hH hQ 253 (3, b, 0, b + 1, wh, wd, []) dX8_take_253 rfl ⟨hk9, RTK_of hk9 ha (fun h => absurd h (by decide)) (fun h => absurd h (by decide))⟩ rfl (Nat.zero_le _) (Nat.zero_le _)
                · refine z_icmp_ne_t hC 232 239 dX8_take_232 rfl (by omega) (by omega) (by omega) ?_
                  refine z_iconst hC 239 dX8_take_239 ?_
                  refine z_put hC hH 240 tyX8 in_X8 tyX8_ok nmX8 rfl 3 (by decide) q318 0 rfl rfl rfl rfl (Nat.le_of_ble_eq_true rfl) rfl dX8_take_240 (fun H locs hH => ?_)
                  have hH : zH s0 s1 G as0 (rdW G ad ((tn : Int)) ((b : Int)) ((4)) (wh) (((b : Int))) (ln) (bk) (ti) (hb) (ht) (mn) (wd) (v) (w) D f) H locs := hH
                  have hk9 := TOK_none hsp h3 hs hd h5
                  refine z_aload_n hC 243 hl dX8_take_243 rfl 0 rfl ?_
                  refine z_dup hC 244 dX8_take_244 rfl ?_
                  refine zp_get (v := .int (iZ ((b : Int)))) hC hH.1 245 in_X8 rfl 2 (by decide) q317 0 rfl rfl dX8_take_245 ?_
                  refine z_iconst hC 248 dX8_take_248 ?_
                  refine z_iadd (e := ((b + 1 : Nat) : Int)) hC 249 dX8_take_249 (by omega) ?_
                  refine z_put hC hH 250 tyX8 in_X8 tyX8_ok nmX8 rfl 2 (by decide) q317 0 rfl rfl rfl rfl (Nat.le_of_ble_eq_true rfl) rfl dX8_take_250 (fun H locs hH => ?_)
                  have hH : zH s0 s1 G as0 (rdW G ad ((tn : Int)) ((((b + 1 : Nat) : Int))) ((4)) (wh) (((b : Int))) (ln) (bk) (ti) (hb) (ht) (mn) (wd) (v) (w) D f) H locs := hH
                  exact z_vret hC hH hQ 253 (4, b, 0, b + 1, wh, wd, []) dX8_take_253 rfl ⟨hk9, RTK_of hk9 ha (fun h => absurd h (by decide)) (fun h => absurd h (by decide))⟩ rfl (Nat.zero_le _) (Nat.zero_le _)
          · refine z_icmp_lt_f hC 55 66 dX8_take_55 rfl (by omega) (by omega) (by omega) ?_
            refine z_aload_n hC 58 hl dX8_take_58 rfl 0 rfl ?_
            refine z_iconst hC 59 dX8_take_59 ?_
            refine z_put hC hH 60 tyX8 in_X8 tyX8_ok nmX8 rfl 3 (by decide) q318 0 rfl rfl rfl rfl (Nat.le_of_ble_eq_true rfl) rfl dX8_take_60 (fun H locs hH => ?_)
            have hH : zH s0 s1 G as0 (rdW G ad ((tn : Int)) ((b : Int)) ((0)) (wh) (((b : Int))) (ln) (bk) (ti) (hb) (ht) (mn) (wd) (v) (w) D f) H locs := hH
            refine z_goto hC 63 253 dX8_take_63 rfl ?_
            have hk9 := TOK_end hsp (Nat.le_of_not_lt h3)
            exact z_vret hC hH hQ 253 (0, b, 0, b, wh, wd, []) dX8_take_253 rfl ⟨hk9, RTK_of hk9 ha (fun h => absurd h (by decide)) (fun h => absurd h (by decide))⟩ rfl (Nat.zero_le _) (Nat.zero_le _)
  exact LA (tn - a) a H locs (by omega) SKi_0 hH

