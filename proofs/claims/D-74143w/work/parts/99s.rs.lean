/-! Reader.reads -/
set_option maxRecDepth 100000
set_option maxHeartbeats 8000000 in
theorem m_R_reads (lau : Launch) (s0 : State) (G : zG) (sz : Nat) (hcs : zCS s0) (hth : zThr s0) (wq wv : Nat → Nat) (hW : zRW s0 wq wv) (ad : Nat → Nat) (D : List Value) (f : Nat → Int) (tn : Nat) (tt : Nat → Nat) (hT : RTX ad D f tn tt) (ki wh pe : Int) (wd : Value) : zxMet (S := Nat × (Nat → Nat) × (Nat → Nat) × Nat × Nat × Nat × Nat × Nat × Int × Nat × Nat × Nat × Value) lau yX8_reads cX8_reads 1 (none) 9 270 15322 118971 s0 G sz [.ref (ad 0)] (rdW G ad ((tn : Int)) (((0 : Nat) : Int)) (ki) (wh) (pe) (((0 : Nat) : Int)) (((8 : Nat) : Int)) (((0 : Nat) : Int)) (((0 : Nat) : Int)) (((0 : Nat) : Int)) (((0 : Nat) : Int)) (wd) ((fun j => (((fun _ => 0 : Nat → Nat) j : Nat) : Int))) ((fun j => (((fun _ => 0 : Nat → Nat) j : Nat) : Int))) D f) (fun (m2, v2, w2, b2, t2, l2, x, s, M, p, h2, k2, wd2) => (none : Option Value)) (fun (m2, v2, w2, b2, t2, l2, x, s, M, p, h2, k2, wd2) => TXTr tt tn (.inr (m2, v2, w2, b2, t2, l2))) (fun (m2, v2, w2, b2, t2, l2, x, s, M, p, h2, k2, wd2) => rdW G ad ((tn : Int)) ((x : Int)) ((s : Int)) (M) ((p : Int)) ((l2 : Int)) ((b2 : Int)) ((t2 : Int)) ((h2 : Int)) ((k2 : Int)) ((m2 : Int)) (wd2) ((fun j => (v2 j : Int))) ((fun j => (w2 j : Int))) D f) (ad 4) (ad 5) D f (fun k q => TXTr tt tn (.inl (k, q))) := by
  refine zxMet.of (by decide) (Nat.le_of_ble_eq_true rfl) ?_
  intro pg ev s1 mi ar bl me cd ls Q as0 hC hx0 hH hl hQ hsz
  generalize s1.heap = H at hH ⊢
  generalize ([] : List Loc) = locs at hH ⊢
  have hl : lv_has ls 1 [(0, .ref (ad 0))] := hl
  have hX9 := hT.2.1
  refine z_aload_n hC 0 hl dX8_reads_0 rfl 0 rfl ?_
  refine z_same (z_runV hC hH.2.2 hl.1 hH.1 hH.2.1 0 (As := []) (rest := []) (m_R_take lau s0 G _ hcs ad D f tn tt hT (ki) (wh) (pe) (((0 : Nat) : Int)) (((8 : Nat) : Int)) (((0 : Nat) : Int)) (((0 : Nat) : Int)) (((0 : Nat) : Int)) (((0 : Nat) : Int)) (wd) ((fun j => (((fun _ => 0 : Nat → Nat) j : Nat) : Int))) ((fun j => (((fun _ => 0 : Nat → Nat) j : Nat) : Int))) (0) (1) (Nat.zero_le _) (fun _ _ _ => Nat.le_refl _)) (lw_V q362 q364 qs0 q96 q365) ⟨rfl, by decide, by decide, by decide +kernel⟩ (q0 := 0) (ci := 7) rfl rfl rfl rfl (Nat.le_of_ble_eq_true rfl) ⟨Nat.le_of_ble_eq_true rfl, Nat.le_of_ble_eq_true rfl⟩ ⟨by show 0 + 4 * 1 ≤ 15322; omega, by show 0 + 31 * 1 ≤ 118971; omega⟩ dX8_reads_1) hH (fun u9 H locs hpost hH => ?_)
  obtain ⟨e0, p0, u0, x0, M0, wd0, WS0⟩ := u9
  obtain ⟨hk0, hr0⟩ := hpost
  have hk0 : TOK tt tn (0) e0 p0 u0 x0 := hk0
  have hr0 : RTK G tt tn e0 p0 u0 x0 M0 wd0 WS0 := hr0
  have hb0 := RTK_b hr0
  have hd0 := (TOK_b hk0 (Nat.zero_le _)).1
  refine z_st (st' := []) rfl ?_
  have hH : zH s0 s1 G as0 (rdW G ad ((tn : Int)) ((x0 : Int)) ((e0 : Int)) (M0) ((p0 : Int)) (((0 : Nat) : Int)) (((8 : Nat) : Int)) (((0 : Nat) : Int)) (((0 : Nat) : Int)) (((0 : Nat) : Int)) (((0 : Nat) : Int)) (wd0) ((fun j => (((fun _ => 0 : Nat → Nat) j : Nat) : Int))) ((fun j => (((fun _ => 0 : Nat → Nat) j : Nat) : Int))) D f ++ WS0) H locs := hH
  have LR : ∀ (d so pl vl nx m : Nat) (vv ww : Nat → Nat) (bk ti hb ht i : Nat) (M : Int) (wd : Value) (WS : va_W) (H : Heap) (locs : List Loc), nx + d = tn → RTK G tt tn so pl vl nx M wd WS → m ≤ 120 → hb ≤ 1 → ht ≤ 1 → i ≤ pl → (∀ r, PARr tt tn ((so, pl, vl, nx), m, vv, ww, bk, ti, hb, ht) i r → TXTr tt tn r) → zH s0 s1 G as0 (rdW G ad ((tn : Int)) ((nx : Int)) ((so : Int)) (M) ((pl : Int)) ((i : Int)) ((bk : Int)) ((ti : Int)) ((hb : Int)) ((ht : Int)) ((m : Int)) (wd) ((fun j => (vv j : Int))) ((fun j => (ww j : Int))) D f ++ WS) H locs → W pg lau ev (zRm 9 15322 118971 270) s1 mi ar bl me cd H locs (4 + 17 * i) (31 + 132 * i) Q (F0 mi 4 ls []) := by
    intro d
    induction d using Nat.strongRecOn with
    | ind d ih =>
      intro so pl vl nx m vv ww bk ti hb ht i M wd WS H locs hxd hr hm hhb hht hi K hH
      have hbb := RTK_b hr
      refine z_aload_n hC 4 hl dX8_reads_4 rfl 0 rfl ?_
      refine zp_get (v := .int (iZ ((so : Int)))) hC hH.1 5 in_X8 rfl 3 (by decide) q318 0 rfl rfl dX8_reads_5 ?_
      by_cases h0 : so = 0
      · refine z_if_eq_t hC 8 98 dX8_reads_8 rfl (by omega) (by omega) ?_
        have hH : zH s0 s1 G as0 (rdW G ad ((tn : Int)) ((nx : Int)) ((so : Int)) (M) ((pl : Int)) ((i : Int)) ((bk : Int)) ((ti : Int)) ((hb : Int)) ((ht : Int)) ((m : Int)) (wd) ((fun j => (vv j : Int))) ((fun j => (ww j : Int))) D f) H locs := zH_l hH
        exact zx_vret hC hH hQ 98 (m, vv, ww, bk, ti, i, nx, so, M, pl, hb, ht, wd) dX8_reads_98 rfl (K _ (PAR_0 h0)) rfl (by show (4 + 17 * i) + 0 ≤ 15322; omega) (by show (31 + 132 * i) + 0 ≤ 118971; omega)
      · refine z_if_eq_f hC 8 98 dX8_reads_8 rfl (by omega) (by omega) ?_
        have TAIL : ∀ (s p u x m' : Nat) (v' w' : Nat → Nat) (bk' ti' hb' ht' : Nat) (M2 : Int) (wd2 : Value) (WS2 : va_W) (H : Heap) (locs : List Loc), LNr tt tn so pl vl nx m vv ww bk ti hb ht (.inr ((s, p, u, x), m', v', w', bk', ti', hb', ht')) → RTK G tt tn s p u x M2 wd2 WS2 → nx ≤ p → m' ≤ 120 → hb' ≤ 1 → ht' ≤ 1 → zH s0 s1 G as0 (rdW G ad ((tn : Int)) ((x : Int)) ((s : Int)) (M2) ((p : Int)) ((i : Int)) ((bk' : Int)) ((ti' : Int)) ((hb' : Int)) ((ht' : Int)) ((m' : Int)) (wd2) ((fun j => (v' j : Int))) ((fun j => (w' j : Int))) D f ++ WS2) H locs → W pg lau ev (zRm 9 15322 118971 270) s1 mi ar bl me cd H locs (4 + 17 * i + 13) (31 + 132 * i + 101) Q (F0 mi 63 ls []) := by
          intro s p u x m' v' w' bk' ti' hb' ht' M2 wd2 WS2 H locs hln hr2 hnp hm2 hhb2 hht2 hH
          have hbb2 := RTK_b hr2
          refine z_aload_n hC 63 hl dX8_reads_63 rfl 0 rfl ?_
          refine z_aload_n hC 64 hl dX8_reads_64 rfl 0 rfl ?_
          refine zp_get (v := .int (iZ ((s : Int)))) hC hH.1 65 in_X8 rfl 3 (by decide) q318 0 rfl rfl dX8_reads_65 ?_
          refine z_iconst hC 68 dX8_reads_68 ?_
          by_cases h3 : s = 3
          · refine z_icmp_ne_f hC 69 76 dX8_reads_69 rfl (by omega) (by omega) (by omega) ?_
            refine z_iconst hC 72 dX8_reads_72 ?_
            refine z_goto hC 73 77 dX8_reads_73 rfl ?_
            refine z_iconst hC 77 dX8_reads_77 ?_
            refine zp_back (zp_runV hC hH.2.2 hl.1 (va_P_l hH.1) 2 (As := [.int (iZ (1)), .int (iZ (1))]) (rest := []) (u_R_must lau s0 G ad D f ((tn : Int)) ((x : Int)) ((s : Int)) (M2) ((p : Int)) ((i : Int)) ((bk' : Int)) ((ti' : Int)) ((hb' : Int)) ((ht' : Int)) ((m' : Int)) (wd2) ((fun j => (v' j : Int))) ((fun j => (w' j : Int))) ((1))) (lw_V q589 q591 qs6 q96 q592) ⟨rfl, by decide, by decide, by decide +kernel⟩ (q0 := 0) (ci := 7) rfl rfl rfl rfl (Nat.le_of_ble_eq_true rfl) ⟨Nat.le_of_ble_eq_true rfl, Nat.le_of_ble_eq_true rfl⟩ ⟨by show (4 + 17 * i + 13) + 0 ≤ 15322; omega, by show (31 + 132 * i + 101) + 0 ≤ 118971; omega⟩ dX8_reads_78) (fun _ _ => ?_)
            refine z_st (st' := []) rfl ?_
            refine z_aload_n hC 81 hl dX8_reads_81 rfl 0 rfl ?_
            have hH : zH s0 s1 G as0 (rdW G ad ((tn : Int)) ((x : Int)) ((s : Int)) (M2) ((p : Int)) ((i : Int)) ((bk' : Int)) ((ti' : Int)) ((hb' : Int)) ((ht' : Int)) ((m' : Int)) (wd2) ((fun j => (v' j : Int))) ((fun j => (w' j : Int))) D f) H locs := zH_l hH
            refine z_same (z_runV hC hH.2.2 hl.1 hH.1 hH.2.1 0 (As := []) (rest := []) (m_R_take lau s0 G _ hcs ad D f tn tt hT ((s : Int)) (M2) ((p : Int)) ((i : Int)) ((bk' : Int)) ((ti' : Int)) ((hb' : Int)) ((ht' : Int)) ((m' : Int)) (wd2) ((fun j => (v' j : Int))) ((fun j => (w' j : Int))) (x) (1) (by omega) (fun _ _ _ => Nat.le_refl _)) (lw_V q362 q364 qs0 q96 q365) ⟨rfl, by decide, by decide, by decide +kernel⟩ (q0 := 0) (ci := 7) rfl rfl rfl rfl (Nat.le_of_ble_eq_true rfl) ⟨Nat.le_of_ble_eq_true rfl, Nat.le_of_ble_eq_true rfl⟩ ⟨by show (4 + 17 * i + 13) + 4 * 1 ≤ 15322; omega, by show (31 + 132 * i + 101) + 31 * 1 ≤ 118971; omega⟩ dX8_reads_82) hH (fun u9 H locs hpost hH => ?_)
            obtain ⟨e4, p4, u4, x4, M4, wd4, WS4⟩ := u9
            obtain ⟨hk4, hr4⟩ := hpost
            have hk4 : TOK tt tn (x) e4 p4 u4 x4 := hk4
            have hr4 : RTK G tt tn e4 p4 u4 x4 M4 wd4 WS4 := hr4
            have hb4 := RTK_b hr4
            have hd4 := (TOK_b hk4 (by omega)).1
            refine z_st (st' := []) rfl ?_
            have hH : zH s0 s1 G as0 (rdW G ad ((tn : Int)) ((x4 : Int)) ((e4 : Int)) (M4) ((p4 : Int)) ((i : Int)) ((bk' : Int)) ((ti' : Int)) ((hb' : Int)) ((ht' : Int)) ((m' : Int)) (wd4) ((fun j => (v' j : Int))) ((fun j => (w' j : Int))) D f ++ WS4) H locs := hH
            refine z_aload_n hC 85 hl dX8_reads_85 rfl 0 rfl ?_
            refine z_dup hC 86 dX8_reads_86 rfl ?_
            refine zp_get (v := .int (iZ ((i : Int)))) hC hH.1 87 in_X8 rfl 6 (by decide) q322 0 rfl rfl dX8_reads_87 ?_
            refine z_iconst hC 90 dX8_reads_90 ?_
            refine z_iadd (e := ((i + 1 : Nat) : Int)) hC 91 dX8_reads_91 (by omega) ?_
            refine z_put hC hH 92 tyX8 in_X8 tyX8_ok nmX8 rfl 6 (by decide) q322 0 rfl rfl rfl rfl (Nat.le_of_ble_eq_true rfl) rfl dX8_reads_92 (fun H locs hH => ?_)
            have hH : zH s0 s1 G as0 (rdW G ad ((tn : Int)) ((x4 : Int)) ((e4 : Int)) (M4) ((p4 : Int)) ((((i + 1 : Nat) : Int))) ((bk' : Int)) ((ti' : Int)) ((hb' : Int)) ((ht' : Int)) ((m' : Int)) (wd4) ((fun j => (v' j : Int))) ((fun j => (w' j : Int))) D f ++ WS4) H locs := hH
            refine z_goto hC 95 4 dX8_reads_95 rfl ?_
            exact W.widen (by show 4 + 17 * i + 13 + 4 * 1 ≤ 4 + 17 * (i + 1); omega) (by show 31 + 132 * i + 101 + 31 * 1 ≤ 31 + 132 * (i + 1); omega) (ih (tn - x4) (by omega) e4 p4 u4 x4 m' v' w' bk' ti' hb' ht' (i + 1) M4 wd4 WS4 H locs (by omega) hr4 hm2 hhb2 hht2 (by omega) (fun r hr9 => K r (PAR_c h0 (LN2_o hln h3 hk4) hr9)) hH)
          · refine z_icmp_ne_t hC 69 76 dX8_reads_69 rfl (by omega) (by omega) (by omega) ?_
            refine z_iconst hC 76 dX8_reads_76 ?_
            refine z_iconst hC 77 dX8_reads_77 ?_
            have hH : zH s0 s1 G as0 (rdW G ad ((tn : Int)) ((x : Int)) ((s : Int)) (M2) ((p : Int)) ((i : Int)) ((bk' : Int)) ((ti' : Int)) ((hb' : Int)) ((ht' : Int)) ((m' : Int)) (wd2) ((fun j => (v' j : Int))) ((fun j => (w' j : Int))) D f) H locs := zH_l hH
            refine zx_same (zx_runV hC hH.2.2 hl.1 hH.1 hH.2.1 2 (As := [.int (iZ (0)), .int (iZ (1))]) (rest := []) (m_R_must0 lau s0 G _ hth ad D f ((tn : Int)) ((x : Int)) ((s : Int)) (M2) ((i : Int)) ((bk' : Int)) ((ti' : Int)) ((hb' : Int)) ((ht' : Int)) ((m' : Int)) (wd2) ((fun j => (v' j : Int))) ((fun j => (w' j : Int))) (1) (p)) (lw_V q589 q591 qs6 q96 q592) ⟨rfl, by decide, by decide, by decide +kernel⟩ (q0 := 0) (ci := 7) rfl rfl rfl rfl (Nat.le_of_ble_eq_true rfl) ⟨Nat.le_of_ble_eq_true rfl, Nat.le_of_ble_eq_true rfl⟩ ⟨by show (4 + 17 * i + 13) + 1 ≤ 15322; omega, by show (31 + 132 * i + 101) + 8 ≤ 118971; omega⟩ dX8_reads_78) hH (fun k9 p9 q9 H9 locs9 hX hH9 => ?_) (fun _ _ _ h _ => h.elim)
            obtain ⟨rfl, rfl⟩ := hX
            exact zx_out hC hx0 hH9 hQ (K _ (PAR_e h0 (LN2_1 hln h3))) (by show (4 + 17 * i + 13) + 1 ≤ 15322; omega) (by show (31 + 132 * i + 101) + 8 ≤ 118971; omega)
        refine z_aload_n hC 11 hl dX8_reads_11 rfl 0 rfl ?_
        refine zp_ldcS hC 12 hW.2.2.2.2.1.1 dX8_reads_12 ?_
        refine zp_back (zp_runV hC hH.2.2 hl.1 hH.1 1 (As := [.ref (wq 4)]) (rest := []) (u_R_isWord lau s0 G ad D f tn tt hT ((nx : Int)) (M) ((pl : Int)) ((i : Int)) ((bk : Int)) ((ti : Int)) ((hb : Int)) ((ht : Int)) ((m : Int)) (wd) ((fun j => (vv j : Int))) ((fun j => (ww j : Int))) WS so pl vl nx hr.1 hr.2.2.2.2.2 (wq 4) (wv 4) 4 (by decide) hW.2.2.2.2.1.2 hcs (fun h => rd_ne hH (hr.2.2.2.2.2 h).2 hW.2.2.2.2.1.2)) (lw_V q573 q575 qs4 q96 q576) ⟨rfl, by decide, by decide, by decide +kernel⟩ (q0 := 0) (ci := 7) rfl rfl rfl rfl (Nat.le_of_ble_eq_true rfl) ⟨Nat.le_of_ble_eq_true rfl, Nat.le_of_ble_eq_true rfl⟩ ⟨by show (4 + 17 * i) + 0 ≤ 15322; omega, by show (31 + 132 * i) + 0 ≤ 118971; omega⟩ dX8_reads_14) (fun r4 hr4 => ?_)
        refine z_st (st' := [.int (iZ r4)]) rfl ?_
        rcases hr4 with ⟨rfl, h4⟩ | ⟨rfl, h4⟩
        · refine z_if_eq_f hC 17 27 dX8_reads_17 rfl (by omega) (by omega) ?_
          refine z_aload_n hC 20 hl dX8_reads_20 rfl 0 rfl ?_
          have hH : zH s0 s1 G as0 (rdW G ad ((tn : Int)) ((nx : Int)) ((so : Int)) (M) ((pl : Int)) ((i : Int)) ((bk : Int)) ((ti : Int)) ((hb : Int)) ((ht : Int)) ((m : Int)) (wd) ((fun j => (vv j : Int))) ((fun j => (ww j : Int))) D f) H locs := zH_l hH
          refine zx_same (zx_runV hC hH.2.2 hl.1 hH.1 hH.2.1 0 (As := []) (rest := []) (m_R_values lau s0 G _ hcs hth ad D f tn tt hT ((so : Int)) (M) ((pl : Int)) ((i : Int)) ((bk : Int)) ((ti : Int)) ((hb : Int)) ((ht : Int)) wd nx m vv ww (by omega) hm) (lw_V q585 q587 qs5 q96 q588) ⟨rfl, by decide, by decide, by decide +kernel⟩ (q0 := 0) (ci := 7) rfl rfl rfl rfl (Nat.le_of_ble_eq_true rfl) ⟨Nat.le_of_ble_eq_true rfl, Nat.le_of_ble_eq_true rfl⟩ ⟨by show (4 + 17 * i) + 9 ≤ 15322; omega, by show (31 + 132 * i) + 70 ≤ 118971; omega⟩ dX8_reads_21) hH (fun k9 p9 q9 H9 locs9 hX hH9 => ?_) (fun u9 H locs hpost hH => ?_)
          · exact zx_out hC hx0 hH9 hQ (K _ (PAR_e h0 (LN2_e (LN_re h4.1 h4.2 hX)))) (by show (4 + 17 * i) + 9 ≤ 15322; omega) (by show (31 + 132 * i) + 70 ≤ 118971; omega)
          · obtain ⟨s, p, u, x, m2, v2, w2, M2, wd2, WS2⟩ := u9
            obtain ⟨hq, hr2, hp2, hm2⟩ := hpost
            have hq : RWr tt tn nx m vv ww (.inr (s, p, u, x, m2, v2, w2)) := hq
            refine z_st (st' := []) rfl ?_
            refine z_goto hC 24 63 dX8_reads_24 rfl ?_
            refine W.widen (by show 4 + 17 * i + 9 ≤ 4 + 17 * i + 13; omega) (by show 31 + 132 * i + 70 ≤ 31 + 132 * i + 101; omega) ?_
            exact TAIL s p u x m2 v2 w2 bk ti hb ht M2 wd2 WS2 H locs (LN_r h4.1 h4.2 hq) hr2 hp2 hm2 hhb hht hH
        · refine z_if_eq_t hC 17 27 dX8_reads_17 rfl (by omega) (by omega) ?_
          refine z_aload_n hC 27 hl dX8_reads_27 rfl 0 rfl ?_
          refine zp_ldcS hC 28 hW.2.2.2.2.2.1.1 dX8_reads_28 ?_
          refine zp_back (zp_runV hC hH.2.2 hl.1 hH.1 1 (As := [.ref (wq 5)]) (rest := []) (u_R_isWord lau s0 G ad D f tn tt hT ((nx : Int)) (M) ((pl : Int)) ((i : Int)) ((bk : Int)) ((ti : Int)) ((hb : Int)) ((ht : Int)) ((m : Int)) (wd) ((fun j => (vv j : Int))) ((fun j => (ww j : Int))) WS so pl vl nx hr.1 hr.2.2.2.2.2 (wq 5) (wv 5) 5 (by decide) hW.2.2.2.2.2.1.2 hcs (fun h => rd_ne hH (hr.2.2.2.2.2 h).2 hW.2.2.2.2.2.1.2)) (lw_V q573 q575 qs4 q96 q576) ⟨rfl, by decide, by decide, by decide +kernel⟩ (q0 := 0) (ci := 7) rfl rfl rfl rfl (Nat.le_of_ble_eq_true rfl) ⟨Nat.le_of_ble_eq_true rfl, Nat.le_of_ble_eq_true rfl⟩ ⟨by show (4 + 17 * i) + 0 ≤ 15322; omega, by show (31 + 132 * i) + 0 ≤ 118971; omega⟩ dX8_reads_30) (fun r5 hr5 => ?_)
          refine z_st (st' := [.int (iZ r5)]) rfl ?_
          rcases hr5 with ⟨rfl, h5⟩ | ⟨rfl, h5⟩
          · refine z_if_eq_f hC 33 43 dX8_reads_33 rfl (by omega) (by omega) ?_
            refine z_aload_n hC 36 hl dX8_reads_36 rfl 0 rfl ?_
            have hH : zH s0 s1 G as0 (rdW G ad ((tn : Int)) ((nx : Int)) ((so : Int)) (M) ((pl : Int)) ((i : Int)) ((bk : Int)) ((ti : Int)) ((hb : Int)) ((ht : Int)) ((m : Int)) (wd) ((fun j => (vv j : Int))) ((fun j => (ww j : Int))) D f) H locs := zH_l hH
            refine zx_same (zx_runV hC hH.2.2 hl.1 hH.1 hH.2.1 0 (As := []) (rest := []) (m_R_weight lau s0 G _ hcs hth ad D f tn tt hT ((so : Int)) (M) ((pl : Int)) ((i : Int)) ((bk : Int)) ((ti : Int)) ((hb : Int)) ((ht : Int)) wd ((fun j => (vv j : Int))) nx m ww (by omega) hm) (lw_V q672 q674 qs9 q96 q675) ⟨rfl, by decide, by decide, by decide +kernel⟩ (q0 := 0) (ci := 7) rfl rfl rfl rfl (Nat.le_of_ble_eq_true rfl) ⟨Nat.le_of_ble_eq_true rfl, Nat.le_of_ble_eq_true rfl⟩ ⟨by show (4 + 17 * i) + 13 ≤ 15322; omega, by show (31 + 132 * i) + 101 ≤ 118971; omega⟩ dX8_reads_37) hH (fun k9 p9 q9 H9 locs9 hX hH9 => ?_) (fun u9 H locs hpost hH => ?_)
            · exact zx_out hC hx0 hH9 hQ (K _ (PAR_e h0 (LN2_e (LN_we h5.1 h5.2 hX)))) (by show (4 + 17 * i) + 13 ≤ 15322; omega) (by show (31 + 132 * i) + 101 ≤ 118971; omega)
            · obtain ⟨s, p, u, x, w2, M2, wd2, WS2⟩ := u9
              obtain ⟨hq, hr2, hp2⟩ := hpost
              have hq : WGr tt tn nx m ww (.inr (s, p, u, x, w2)) := hq
              refine z_st (st' := []) rfl ?_
              refine z_goto hC 40 63 dX8_reads_40 rfl ?_
              refine W.widen (by show 4 + 17 * i + 13 ≤ 4 + 17 * i + 13; omega) (by show 31 + 132 * i + 101 ≤ 31 + 132 * i + 101; omega) ?_
              exact TAIL s p u x m vv w2 bk ti hb ht M2 wd2 WS2 H locs (LN_w h5.1 h5.2 hq) hr2 hp2 hm hhb hht hH
          · refine z_if_eq_t hC 33 43 dX8_reads_33 rfl (by omega) (by omega) ?_
            refine z_aload_n hC 43 hl dX8_reads_43 rfl 0 rfl ?_
            refine zp_ldcS hC 44 hW.2.2.2.2.2.2.1.1 dX8_reads_44 ?_
            refine zp_back (zp_runV hC hH.2.2 hl.1 hH.1 1 (As := [.ref (wq 6)]) (rest := []) (u_R_isWord lau s0 G ad D f tn tt hT ((nx : Int)) (M) ((pl : Int)) ((i : Int)) ((bk : Int)) ((ti : Int)) ((hb : Int)) ((ht : Int)) ((m : Int)) (wd) ((fun j => (vv j : Int))) ((fun j => (ww j : Int))) WS so pl vl nx hr.1 hr.2.2.2.2.2 (wq 6) (wv 6) 6 (by decide) hW.2.2.2.2.2.2.1.2 hcs (fun h => rd_ne hH (hr.2.2.2.2.2 h).2 hW.2.2.2.2.2.2.1.2)) (lw_V q573 q575 qs4 q96 q576) ⟨rfl, by decide, by decide, by decide +kernel⟩ (q0 := 0) (ci := 7) rfl rfl rfl rfl (Nat.le_of_ble_eq_true rfl) ⟨Nat.le_of_ble_eq_true rfl, Nat.le_of_ble_eq_true rfl⟩ ⟨by show (4 + 17 * i) + 0 ≤ 15322; omega, by show (31 + 132 * i) + 0 ≤ 118971; omega⟩ dX8_reads_46) (fun r6 hr6 => ?_)
            refine z_st (st' := [.int (iZ r6)]) rfl ?_
            rcases hr6 with ⟨rfl, h6⟩ | ⟨rfl, h6⟩
            · refine z_if_eq_f hC 49 59 dX8_reads_49 rfl (by omega) (by omega) ?_
              refine z_aload_n hC 52 hl dX8_reads_52 rfl 0 rfl ?_
              have hH : zH s0 s1 G as0 (rdW G ad ((tn : Int)) ((nx : Int)) ((so : Int)) (M) ((pl : Int)) ((i : Int)) ((bk : Int)) ((ti : Int)) ((hb : Int)) ((ht : Int)) ((m : Int)) (wd) ((fun j => (vv j : Int))) ((fun j => (ww j : Int))) D f) H locs := zH_l hH
              refine zx_same (zx_runV hC hH.2.2 hl.1 hH.1 hH.2.1 0 (As := []) (rest := []) (m_R_block lau s0 G _ hcs hth ad D f tn tt hT ((so : Int)) (M) ((i : Int)) ((bk : Int)) ((ti : Int)) ((ht : Int)) ((m : Int)) wd ((fun j => (vv j : Int))) ((fun j => (ww j : Int))) pl nx hb (by omega) hhb) (lw_V q677 q679 qs10 q96 q680) ⟨rfl, by decide, by decide, by decide +kernel⟩ (q0 := 0) (ci := 7) rfl rfl rfl rfl (Nat.le_of_ble_eq_true rfl) ⟨Nat.le_of_ble_eq_true rfl, Nat.le_of_ble_eq_true rfl⟩ ⟨by show (4 + 17 * i) + 9 ≤ 15322; omega, by show (31 + 132 * i) + 70 ≤ 118971; omega⟩ dX8_reads_53) hH (fun k9 p9 q9 H9 locs9 hX hH9 => ?_) (fun u9 H locs hpost hH => ?_)
              · exact zx_out hC hx0 hH9 hQ (K _ (PAR_e h0 (LN2_e (LN_be h6.1 h6.2 hX)))) (by show (4 + 17 * i) + 9 ≤ 15322; omega) (by show (31 + 132 * i) + 70 ≤ 118971; omega)
              · obtain ⟨z, s, p, u, x, M2, wd2, WS2⟩ := u9
                obtain ⟨hq, hr2, hp2, hz2⟩ := hpost
                have hq : BLr tt tn pl nx hb (.inr (z, s, p, u, x)) := hq
                refine z_st (st' := []) rfl ?_
                refine z_goto hC 56 63 dX8_reads_56 rfl ?_
                refine W.widen (by show 4 + 17 * i + 9 ≤ 4 + 17 * i + 13; omega) (by show 31 + 132 * i + 70 ≤ 31 + 132 * i + 101; omega) ?_
                exact TAIL s p u x m vv ww z ti 1 ht M2 wd2 WS2 H locs (LN_b h6.1 h6.2 hq) hr2 hp2 hm (Nat.le_refl _) hht hH
            · refine z_if_eq_t hC 49 59 dX8_reads_49 rfl (by omega) (by omega) ?_
              refine z_aload_n hC 59 hl dX8_reads_59 rfl 0 rfl ?_
              refine zx_same (zx_runV hC hH.2.2 hl.1 hH.1 hH.2.1 0 (As := []) (rest := []) (m_R_ties lau s0 G _ hcs hth wq wv hW ad D f tn tt hT (M) ((i : Int)) ((bk : Int)) ((ti : Int)) ((hb : Int)) ((m : Int)) wd ((fun j => (vv j : Int))) ((fun j => (ww j : Int))) WS so pl vl nx ht hr hht) (lw_V q681 q683 qs11 q96 q684) ⟨rfl, by decide, by decide, by decide +kernel⟩ (q0 := 0) (ci := 7) rfl rfl rfl rfl (Nat.le_of_ble_eq_true rfl) ⟨Nat.le_of_ble_eq_true rfl, Nat.le_of_ble_eq_true rfl⟩ ⟨by show (4 + 17 * i) + 9 ≤ 15322; omega, by show (31 + 132 * i) + 70 ≤ 118971; omega⟩ dX8_reads_60) hH (fun k9 p9 q9 H9 locs9 hX hH9 => ?_) (fun u9 H locs hpost hH => ?_)
              · exact zx_out hC hx0 hH9 hQ (hX.elim (fun h => by obtain ⟨h7, rfl, rfl⟩ := h; exact K _ (PAR_e h0 (LN2_e (LN_x (fun h9 => by omega))))) (fun h => K _ (PAR_e h0 (LN2_e (LN_te h.1.1 h.1.2 h.2))))) (by show (4 + 17 * i) + 9 ≤ 15322; omega) (by show (31 + 132 * i) + 70 ≤ 118971; omega)
              · obtain ⟨z, s, p, u, x, M2, wd2, WS2⟩ := u9
                obtain ⟨h7, hq, hr2, hp2, hz2⟩ := hpost
                have hq : TIr tt tn pl nx ht (.inr (z, s, p, u, x)) := hq
                refine z_st (st' := []) rfl ?_
                refine W.widen (by show 4 + 17 * i + 9 ≤ 4 + 17 * i + 13; omega) (by show 31 + 132 * i + 70 ≤ 31 + 132 * i + 101; omega) ?_
                exact TAIL s p u x m vv ww bk z hb 1 M2 wd2 WS2 H locs (LN_t h7.1 h7.2 hq) hr2 hp2 hm hhb (Nat.le_refl _) hH
  exact LR (tn - x0) e0 p0 u0 x0 0 (fun _ => 0) (fun _ => 0) 8 0 0 0 0 M0 wd0 WS0 H locs (by omega) hr0 (by omega) (by omega) (by omega) (by omega) (fun r h => TXT_of hk0 h) hH

