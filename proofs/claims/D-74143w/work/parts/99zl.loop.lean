/-! the law: its loop -/
set_option maxRecDepth 100000
theorem zand63 (x : Int) : 0 ≤ zand x 63 ∧ zand x 63 < 64 := by
  have e : (iZ x &&& iZ 63) = nI ((iZ x).toBitVec.toNat % 2 ^ 6) := pk_and _ 6 (by decide)
  have h := Nat.mod_lt (iZ x).toBitVec.toNat (show 0 < 2 ^ 6 by decide)
  unfold zand
  rw [e, ← iZ_nI, iZ_toInt (by omega)]
  omega
set_option maxHeartbeats 4000000 in
theorem L_disp {pg : Program} {l : Launch} {ev : Env} {s : State} {m : MethodId} {ar : Array Value} {bl : List Frame} {me : Method} {c : Code} {Q : State → Prop} {G : zG} {sc LL : Nat} {xs : Nat → Int32} {nw : Nat} {wq wv : Nat → Nat} {lq lva : Nat} {ls : Array Slot} {H : Heap} {locs : List Loc} {ce sl : Nat} {ad adm : Nat → Nat} {o j : Nat} (CX : LCT pg l s m ar me c G sc LL xs nw wq wv lq lva) (hj : j + 6 ≤ LL) (hl : lv_has ls 7 [(4, .int (iZ (j : Int))), (3, .ref o), (2, .ref (adm 0)), (1, .ref (ad 99)), (0, .ref sc)]) (hS : LST s G nw ad adm o H locs) (hce : ce + 40000 ≤ 1200144) (hsl : sl + 200000 ≤ 5497402) (K : ∀ (ls1 : Array Slot) (H1 : Heap) (locs1 : List Loc), lv_has ls1 7 [(4, .int (iZ (j : Int))), (3, .ref o), (2, .ref (adm 0)), (1, .ref (ad 99)), (0, .ref sc)] → LST s G nw ad adm o H1 locs1 → W pg l ev room_1 s m ar bl me c H1 locs1 (ce + 40000) (sl + 200000) Q (F0 m 2566 ls1 [])) {z : Int} : ∀ (k : Nat), k ≤ 54 → z = (k : Int) → W pg l ev room_1 s m ar bl me c H locs ce sl Q (F0 m 40 ls [.int (iZ z)])
  | 0 => fun _ h0 => z_tsw_in CX.1 40 276 dL_law_40 (by omega) h0 (by decide) (by decide) rfl rfl (L_0 CX hj hl hS hce hsl K)
  | 1 => fun _ h0 => z_tsw_in CX.1 40 349 dL_law_40 (by omega) h0 (by decide) (by decide) rfl rfl (L_1 CX hj hl hS hce hsl K)
  | 2 => fun _ h0 => z_tsw_in CX.1 40 374 dL_law_40 (by omega) h0 (by decide) (by decide) rfl rfl (L_2 CX hj hl hS hce hsl K)
  | 3 => fun _ h0 => z_tsw_in CX.1 40 399 dL_law_40 (by omega) h0 (by decide) (by decide) rfl rfl (L_3 CX hj hl hS hce hsl K)
  | 4 => fun _ h0 => z_tsw_in CX.1 40 467 dL_law_40 (by omega) h0 (by decide) (by decide) rfl rfl (L_4 CX hj hl hS hce hsl K)
  | 5 => fun _ h0 => z_tsw_in CX.1 40 504 dL_law_40 (by omega) h0 (by decide) (by decide) rfl rfl (L_5 CX hj hl hS hce hsl K)
  | 6 => fun _ h0 => z_tsw_in CX.1 40 541 dL_law_40 (by omega) h0 (by decide) (by decide) rfl rfl (L_6 CX hj hl hS hce hsl K)
  | 7 => fun _ h0 => z_tsw_in CX.1 40 578 dL_law_40 (by omega) h0 (by decide) (by decide) rfl rfl (L_7 CX hj hl hS hce hsl K)
  | 8 => fun _ h0 => z_tsw_in CX.1 40 603 dL_law_40 (by omega) h0 (by decide) (by decide) rfl rfl (L_8 CX hj hl hS hce hsl K)
  | 9 => fun _ h0 => z_tsw_in CX.1 40 652 dL_law_40 (by omega) h0 (by decide) (by decide) rfl rfl (L_9 CX hj hl hS hce hsl K)
  | 10 => fun _ h0 => z_tsw_in CX.1 40 689 dL_law_40 (by omega) h0 (by decide) (by decide) rfl rfl (L_10 CX hj hl hS hce hsl K)
  | 11 => fun _ h0 => z_tsw_in CX.1 40 726 dL_law_40 (by omega) h0 (by decide) (by decide) rfl rfl (L_11 CX hj hl hS hce hsl K)
  | 12 => fun _ h0 => z_tsw_in CX.1 40 775 dL_law_40 (by omega) h0 (by decide) (by decide) rfl rfl (L_12 CX hj hl hS hce hsl K)
  | 13 => fun _ h0 => z_tsw_in CX.1 40 812 dL_law_40 (by omega) h0 (by decide) (by decide) rfl rfl (L_13 CX hj hl hS hce hsl K)
  | 14 => fun _ h0 => z_tsw_in CX.1 40 877 dL_law_40 (by omega) h0 (by decide) (by decide) rfl rfl (L_14 CX hj hl hS hce hsl K)
  | 15 => fun _ h0 => z_tsw_in CX.1 40 890 dL_law_40 (by omega) h0 (by decide) (by decide) rfl rfl (L_15 CX hj hl hS hce hsl K)
  | 16 => fun _ h0 => z_tsw_in CX.1 40 903 dL_law_40 (by omega) h0 (by decide) (by decide) rfl rfl (L_16 CX hj hl hS hce hsl K)
  | 17 => fun _ h0 => z_tsw_in CX.1 40 940 dL_law_40 (by omega) h0 (by decide) (by decide) rfl rfl (L_17 CX hj hl hS hce hsl K)
  | 18 => fun _ h0 => z_tsw_in CX.1 40 989 dL_law_40 (by omega) h0 (by decide) (by decide) rfl rfl (L_18 CX hj hl hS hce hsl K)
  | 19 => fun _ h0 => z_tsw_in CX.1 40 1050 dL_law_40 (by omega) h0 (by decide) (by decide) rfl rfl (L_19 CX hj hl hS hce hsl K)
  | 20 => fun _ h0 => z_tsw_in CX.1 40 1099 dL_law_40 (by omega) h0 (by decide) (by decide) rfl rfl (L_20 CX hj hl hS hce hsl K)
  | 21 => fun _ h0 => z_tsw_in CX.1 40 1148 dL_law_40 (by omega) h0 (by decide) (by decide) rfl rfl (L_21 CX hj hl hS hce hsl K)
  | 22 => fun _ h0 => z_tsw_in CX.1 40 1185 dL_law_40 (by omega) h0 (by decide) (by decide) rfl rfl (L_22 CX hj hl hS hce hsl K)
  | 23 => fun _ h0 => z_tsw_in CX.1 40 1222 dL_law_40 (by omega) h0 (by decide) (by decide) rfl rfl (L_23 CX hj hl hS hce hsl K)
  | 24 => fun _ h0 => z_tsw_in CX.1 40 1271 dL_law_40 (by omega) h0 (by decide) (by decide) rfl rfl (L_24 CX hj hl hS hce hsl K)
  | 25 => fun _ h0 => z_tsw_in CX.1 40 1308 dL_law_40 (by omega) h0 (by decide) (by decide) rfl rfl (L_25 CX hj hl hS hce hsl K)
  | 26 => fun _ h0 => z_tsw_in CX.1 40 1357 dL_law_40 (by omega) h0 (by decide) (by decide) rfl rfl (L_26 CX hj hl hS hce hsl K)
  | 27 => fun _ h0 => z_tsw_in CX.1 40 1406 dL_law_40 (by omega) h0 (by decide) (by decide) rfl rfl (L_27 CX hj hl hS hce hsl K)
  | 28 => fun _ h0 => z_tsw_in CX.1 40 1455 dL_law_40 (by omega) h0 (by decide) (by decide) rfl rfl (L_28 CX hj hl hS hce hsl K)
  | 29 => fun _ h0 => z_tsw_in CX.1 40 1492 dL_law_40 (by omega) h0 (by decide) (by decide) rfl rfl (L_29 CX hj hl hS hce hsl K)
  | 30 => fun _ h0 => z_tsw_in CX.1 40 1529 dL_law_40 (by omega) h0 (by decide) (by decide) rfl rfl (L_30 CX hj hl hS hce hsl K)
  | 31 => fun _ h0 => z_tsw_in CX.1 40 1578 dL_law_40 (by omega) h0 (by decide) (by decide) rfl rfl (L_31 CX hj hl hS hce hsl K)
  | 32 => fun _ h0 => z_tsw_in CX.1 40 1627 dL_law_40 (by omega) h0 (by decide) (by decide) rfl rfl (L_32 CX hj hl hS hce hsl K)
  | 33 => fun _ h0 => z_tsw_in CX.1 40 1664 dL_law_40 (by omega) h0 (by decide) (by decide) rfl rfl (L_33 CX hj hl hS hce hsl K)
  | 34 => fun _ h0 => z_tsw_in CX.1 40 1701 dL_law_40 (by omega) h0 (by decide) (by decide) rfl rfl (L_34 CX hj hl hS hce hsl K)
  | 35 => fun _ h0 => z_tsw_in CX.1 40 1726 dL_law_40 (by omega) h0 (by decide) (by decide) rfl rfl (L_35 CX hj hl hS hce hsl K)
  | 36 => fun _ h0 => z_tsw_in CX.1 40 1763 dL_law_40 (by omega) h0 (by decide) (by decide) rfl rfl (L_36 CX hj hl hS hce hsl K)
  | 37 => fun _ h0 => z_tsw_in CX.1 40 1800 dL_law_40 (by omega) h0 (by decide) (by decide) rfl rfl (L_37 CX hj hl hS hce hsl K)
  | 38 => fun _ h0 => z_tsw_in CX.1 40 1849 dL_law_40 (by omega) h0 (by decide) (by decide) rfl rfl (L_38 CX hj hl hS hce hsl K)
  | 39 => fun _ h0 => z_tsw_in CX.1 40 1910 dL_law_40 (by omega) h0 (by decide) (by decide) rfl rfl (L_39 CX hj hl hS hce hsl K)
  | 40 => fun _ h0 => z_tsw_in CX.1 40 1959 dL_law_40 (by omega) h0 (by decide) (by decide) rfl rfl (L_40 CX hj hl hS hce hsl K)
  | 41 => fun _ h0 => z_tsw_in CX.1 40 2008 dL_law_40 (by omega) h0 (by decide) (by decide) rfl rfl (L_41 CX hj hl hS hce hsl K)
  | 42 => fun _ h0 => z_tsw_in CX.1 40 2045 dL_law_40 (by omega) h0 (by decide) (by decide) rfl rfl (L_42 CX hj hl hS hce hsl K)
  | 43 => fun _ h0 => z_tsw_in CX.1 40 2094 dL_law_40 (by omega) h0 (by decide) (by decide) rfl rfl (L_43 CX hj hl hS hce hsl K)
  | 44 => fun _ h0 => z_tsw_in CX.1 40 2159 dL_law_40 (by omega) h0 (by decide) (by decide) rfl rfl (L_44 CX hj hl hS hce hsl K)
  | 45 => fun _ h0 => z_tsw_in CX.1 40 2208 dL_law_40 (by omega) h0 (by decide) (by decide) rfl rfl (L_45 CX hj hl hS hce hsl K)
  | 46 => fun _ h0 => z_tsw_in CX.1 40 2281 dL_law_40 (by omega) h0 (by decide) (by decide) rfl rfl (L_46 CX hj hl hS hce hsl K)
  | 47 => fun _ h0 => z_tsw_in CX.1 40 2330 dL_law_40 (by omega) h0 (by decide) (by decide) rfl rfl (L_47 CX hj hl hS hce hsl K)
  | 48 => fun _ h0 => z_tsw_in CX.1 40 2379 dL_law_40 (by omega) h0 (by decide) (by decide) rfl rfl (L_48 CX hj hl hS hce hsl K)
  | 49 => fun _ h0 => z_tsw_in CX.1 40 2416 dL_law_40 (by omega) h0 (by decide) (by decide) rfl rfl (L_49 CX hj hl hS hce hsl K)
  | 50 => fun _ h0 => z_tsw_in CX.1 40 2441 dL_law_40 (by omega) h0 (by decide) (by decide) rfl rfl (L_50 CX hj hl hS hce hsl K)
  | 51 => fun _ h0 => z_tsw_in CX.1 40 2466 dL_law_40 (by omega) h0 (by decide) (by decide) rfl rfl (L_51 CX hj hl hS hce hsl K)
  | 52 => fun _ h0 => z_tsw_in CX.1 40 2491 dL_law_40 (by omega) h0 (by decide) (by decide) rfl rfl (L_52 CX hj hl hS hce hsl K)
  | 53 => fun _ h0 => z_tsw_in CX.1 40 2516 dL_law_40 (by omega) h0 (by decide) (by decide) rfl rfl (L_53 CX hj hl hS hce hsl K)
  | 54 => fun _ h0 => z_tsw_in CX.1 40 2541 dL_law_40 (by omega) h0 (by decide) (by decide) rfl rfl (L_54 CX hj hl hS hce hsl K)
  | k + 55 => fun h _ => absurd h (by omega)
set_option maxHeartbeats 4000000 in
theorem L_loop {pg : Program} {l : Launch} {ev : Env} {s : State} {m : MethodId} {bl : List Frame} {me : Method} {c : Code} {G : zG} {sc LL : Nat} {xs : Nat → Int32} {nw : Nat} {wq wv : Nat → Nat} {lq lva : Nat} {ad adm : Nat → Nat} {o : Nat} (CX : LCT pg l s m #[Value.ref sc] me c G sc LL xs nw wq wv lq lva) : ∀ (d j : Nat) (ls : Array Slot) (H : Heap) (locs : List Loc) (ce sl : Nat), lv_has ls 7 [(4, .int (iZ (j : Int))), (3, .ref o), (2, .ref (adm 0)), (1, .ref (ad 99)), (0, .ref sc)] → LL < j + 6 * d + 6 → j ≤ LL + 6 → ce + 40000 * d ≤ 1200144 → sl + 200000 * d ≤ 5497402 → LST s G nw ad adm o H locs → W pg l ev room_1 s m #[Value.ref sc] bl me c H locs ce sl (lw_Z bl #[Value.ref sc] s) (F0 m 23 ls []) := by
  have CX0 := CX
  obtain ⟨C, ⟨hX, hsc, hL⟩, -⟩ := CX
  intro d
  induction d with
  | zero =>
    intro j ls H locs ce sl hl hd hjL hce hsl hS
    have hS0 := hS
    obtain ⟨tt, tp, ln, fa, fp, b, t, n, v, wt, un, hm, hvv, hww, fr, F, Ar, kp, L, pl, pr, pa, pm, pf, Fm, Am, fo, -, -, hH⟩ := hS
    refine z_iload C 23 hl dL_law_23 0 rfl ?_
    refine z_aload_n C 25 hl dL_law_25 rfl 4 rfl ?_
    refine va_slen C.1.1 C.1.2.1 hX hsc (fun h => Nat.not_le.mpr hsc h.1) hH.2.2 dL_law_26 ?_
    refine z_st (st' := [.int (iZ (LL : Int)), .int (iZ (j : Int))]) (by rw [show Int32.ofNat LL = iZ (LL : Int) from by rw [iZ_nI]; rfl]) ?_
    refine z_bipush C 27 dL_law_27 rfl ?_
    refine z_isub (e := (LL : Int) - 6) C 29 dL_law_29 rfl ?_
    refine z_icmp_gt_t C 30 2572 dL_law_30 rfl (by omega) (by omega) (by omega) ?_
    refine lv_iconst (v := 1) C.1.1 C.1.2.1 dL_law_2572 (by decide) ?_
    refine va_forget (fun q hq => (hH.2.2.2.2 q hq).1) ?_
    refine W.widen (k := 1200144) (n := 5497402) (by omega) (by omega) ?_
    exact lw_ret C.1.1 C.1.2.1 C.2.1 C.2.2.1 dL_law_2573
  | succ d ih =>
    intro j ls H locs ce sl hl hd hjL hce hsl hS
    have hS0 := hS
    obtain ⟨tt, tp, ln, fa, fp, b, t, n, v, wt, un, hm, hvv, hww, fr, F, Ar, kp, L, pl, pr, pa, pm, pf, Fm, Am, fo, -, -, hH⟩ := hS
    refine z_iload C 23 hl dL_law_23 0 rfl ?_
    refine z_aload_n C 25 hl dL_law_25 rfl 4 rfl ?_
    refine va_slen C.1.1 C.1.2.1 hX hsc (fun h => Nat.not_le.mpr hsc h.1) hH.2.2 dL_law_26 ?_
    refine z_st (st' := [.int (iZ (LL : Int)), .int (iZ (j : Int))]) (by rw [show Int32.ofNat LL = iZ (LL : Int) from by rw [iZ_nI]; rfl]) ?_
    refine z_bipush C 27 dL_law_27 rfl ?_
    refine z_isub (e := (LL : Int) - 6) C 29 dL_law_29 rfl ?_
    by_cases hj : j + 6 ≤ LL
    · have K : ∀ (ls1 : Array Slot) (H1 : Heap) (locs1 : List Loc), lv_has ls1 7 [(4, .int (iZ (j : Int))), (3, .ref o), (2, .ref (adm 0)), (1, .ref (ad 99)), (0, .ref sc)] → LST s G nw ad adm o H1 locs1 → W pg l ev room_1 s m #[Value.ref sc] bl me c H1 locs1 (ce + 40000) (sl + 200000) (lw_Z bl #[Value.ref sc] s) (F0 m 2566 ls1 []) := by
        intro ls1 H1 locs1 hl1 hS1
        refine z_iinc (lv' := [(4, .int (iZ ((j + 6 : Nat) : Int))), (3, .ref o), (2, .ref (adm 0)), (1, .ref (ad 99)), (0, .ref sc)]) C 2566 hl1 dL_law_2566 0 rfl (by omega) (by decide) rfl (fun ls hl => ?_)
        refine z_goto C 2569 23 dL_law_2569 rfl ?_
        exact ih (j + 6) ls H1 locs1 (ce + 40000) (sl + 200000) hl (by omega) (by omega) (by omega) (by omega) hS1
      refine z_icmp_gt_f C 30 2572 dL_law_30 rfl (by omega) (by omega) (by omega) ?_
      refine z_aload_n C 33 hl dL_law_33 rfl 4 rfl ?_
      refine z_iload C 34 hl dL_law_34 0 rfl ?_
      refine va_sld C.1.1 C.1.2.1 hX hsc (fun h => Nat.not_le.mpr hsc h.1) hH.2.2 (iZ_in (show j < LL by omega) (by omega)) dL_law_36 ?_
      refine z_st (st' := [.int (iZ (sx xs j 0))]) (by rw [iZ_clamp j (by omega)]; exact congrArg (fun x => [Value.int x]) (sx_e (xs := xs) (j := j) (k := 0))) ?_
      refine z_bipush C 37 dL_law_37 rfl ?_
      obtain ⟨z, hz⟩ : ∃ z, z = zand (sx xs j 0) 63 := ⟨_, rfl⟩
      have hz6 := zand63 (sx xs j 0)
      rw [← hz] at hz6
      refine z_iand (e := z) C 39 dL_law_39 hz.symm ?_
      by_cases hz54 : z ≤ 54
      · have a1 : ce + 40000 ≤ 1200144 := Nat.le_trans (Nat.add_le_add_left (by rw [Nat.mul_succ]; exact Nat.le_add_left _ _) ce) hce
        have a2 : sl + 200000 ≤ 5497402 := Nat.le_trans (Nat.add_le_add_left (by rw [Nat.mul_succ]; exact Nat.le_add_left _ _) sl) hsl
        have a3 : z.toNat ≤ 54 := by omega
        have a4 : z = (z.toNat : Int) := by omega
        clear hce hsl hd
        exact L_disp (z := z) CX0 hj hl hS0 a1 a2 K z.toNat a3 a4
      · refine z_tsw_out C 40 2566 dL_law_40 (by omega) (by omega) rfl ?_
        exact W.widen (by omega) (by omega) (K ls H locs hl hS0)
    · skip
      refine z_icmp_gt_t C 30 2572 dL_law_30 rfl (by omega) (by omega) (by omega) ?_
      refine lv_iconst (v := 1) C.1.1 C.1.2.1 dL_law_2572 (by decide) ?_
      refine va_forget (fun q hq => (hH.2.2.2.2 q hq).1) ?_
      refine W.widen (k := 1200144) (n := 5497402) (by omega) (by omega) ?_
      exact lw_ret C.1.1 C.1.2.1 C.2.1 C.2.2.1 dL_law_2573
