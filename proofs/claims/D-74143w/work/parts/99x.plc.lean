/-! the desk's place: it answers, or throws one of two exceptions -/
set_option maxRecDepth 100000
theorem nx_f {n p y m k : Nat} {v f : Nat → Nat} (hc : PlC n v y m f) (hp : p < n) (hv : v p = y) (hk : k = cnt v 0 p y) : (k + 1 < m → (f (k + 1) : Int) = nxR v n (p + 1) p y 1) ∧ (¬ k + 1 < m → (-2 : Int) = nxR v n (p + 1) p y 1) := by
  have h1 := cnt_at hv
  have h2 : cnt v 0 n y = cnt v 0 (p + 1) y + cnt v (p + 1) n y := cnt_split (Nat.zero_le _) hp
  have h3 := hc.1
  refine ⟨fun h => ?_, fun h => ?_⟩
  · obtain ⟨a1, a2, a3⟩ := hc.2 (k + 1) h
    have hge : p + 1 ≤ f (k + 1) := by
      rcases Nat.lt_or_ge p (f (k + 1)) with q | q
      · exact q
      · have := cnt_mono (v := v) (a := 0) (x := y) q
        omega
    have h4 : cnt v 0 (f (k + 1)) y = cnt v 0 (p + 1) y + cnt v (p + 1) (f (k + 1)) y := cnt_split (Nat.zero_le _) hge
    unfold nxR
    rw [if_pos rfl]
    exact nxF_hit (by omega) hge a1 a2
  · unfold nxR
    rw [if_pos rfl]
    exact nxF_none (by omega)
theorem nx_b {n p y m k : Nat} {v f : Nat → Nat} (hc : PlC n v y m f) (hp : p < n) (hv : v p = y) (hk : k = cnt v 0 p y) : (0 < k → (f (k - 1) : Int) = nxR v n (p + 1) p y (-1)) ∧ (¬ 0 < k → (-2 : Int) = nxR v n (p + 1) p y (-1)) := by
  have h1 := cnt_at hv
  have h2 : cnt v 0 n y = cnt v 0 (p + 1) y + cnt v (p + 1) n y := cnt_split (Nat.zero_le _) hp
  have h3 := hc.1
  refine ⟨fun h => ?_, fun h => ?_⟩
  · obtain ⟨a1, a2, a3⟩ := hc.2 (k - 1) (by omega)
    have hlt : f (k - 1) < p := by
      rcases Nat.lt_or_ge (f (k - 1)) p with q | q
      · exact q
      · have := cnt_mono (v := v) (a := 0) (x := y) q
        omega
    have h4 := cnt_at a2
    have h5 : cnt v 0 p y = cnt v 0 (f (k - 1) + 1) y + cnt v (f (k - 1) + 1) p y := cnt_split (Nat.zero_le _) hlt
    unfold nxR
    rw [if_neg (by decide)]
    exact nxB_hit (by omega) hlt a2
  · unfold nxR
    rw [if_neg (by decide)]
    exact nxB_none (by omega)
section PLC0
variable {pg : Program} {l : Launch} {ev : Env} {s0 s : State} {m : MethodId} {ar : Array Value} {bl : List Frame} {me : Method} {c : Code} {H : Heap} {locs : List Loc} {G : zG} {cc : ByteArray} {nL : Nat} {own : String} {ret : Option FieldType} {as0 : List Nat} {w : va_W}
theorem hat_io (C : zC pg s0 s m ar me c G cc nL own ret) : ∀ w ∈ vx_at0 "ModeDesk" 164 "java/lang/IndexOutOfBoundsException" zNup, w.before ar s = true := by
  obtain ⟨⟨bb, hb, -⟩, -⟩ := C.2.2.2.1
  have hD : ∀ x : MethodName, Cond.declares x ∈ lw_tbl → (Cond.declares x).before ar s = true := fun x hx => va_Nw.use rfl (va_Nw.warmD C.2.2.2.2.1.1 (va_Nw.of rfl (hb _ hx)))
  exact vx_hat (fun w hw => C.1.2.2.2.2 _ (List.mem_filter.mpr ⟨at_io1 w hw, (List.mem_filter.mp hw).2⟩)) at_io2 (vx_c (hD _ q937) (vx_c (hD _ q596) (vx_c (hD _ q598) (vx_c (va_Nw.use rfl (va_Nw.warmC C.2.2.2.2.1.1 (va_Nw.of rfl (hb _ q1399)))) vx_n))))
theorem hgd_io : ∀ w ∈ Cond.classLink "ModeDesk" 162 "java/lang/IndexOutOfBoundsException" :: Cond.initialized "java/lang/IndexOutOfBoundsException" :: vx_at0 "ModeDesk" 164 "java/lang/IndexOutOfBoundsException" zNup, vx_ot w = true := by decide +kernel
theorem hat_ns (C : zC pg s0 s m ar me c G cc nL own ret) : ∀ w ∈ vx_at0 "ModeDesk" 181 "java/util/NoSuchElementException" zNup, w.before ar s = true := by
  obtain ⟨⟨bb, hb, -⟩, -⟩ := C.2.2.2.1
  have hD : ∀ x : MethodName, Cond.declares x ∈ lw_tbl → (Cond.declares x).before ar s = true := fun x hx => va_Nw.use rfl (va_Nw.warmD C.2.2.2.2.1.1 (va_Nw.of rfl (hb _ hx)))
  exact vx_hat (fun w hw => C.1.2.2.2.2 _ (List.mem_filter.mpr ⟨at_ns1 w hw, (List.mem_filter.mp hw).2⟩)) at_ns2 (vx_c (hD _ q937) (vx_c (hD _ q596) (vx_c (hD _ q598) (vx_c (va_Nw.use rfl (va_Nw.warmC C.2.2.2.2.1.1 (va_Nw.of rfl (hb _ q936)))) vx_n))))
theorem hgd_ns : ∀ w ∈ Cond.classLink "ModeDesk" 179 "java/util/NoSuchElementException" :: Cond.initialized "java/util/NoSuchElementException" :: vx_at0 "ModeDesk" 181 "java/util/NoSuchElementException" zNup, vx_ot w = true := by decide +kernel
end PLC0
set_option maxHeartbeats 8000000 in
theorem m_X1_place (lau : Launch) (s0 : State) (G : zG) (sz : Nat) (hlt : lau.stackTraces = false) (hthq : zThq s0) (ad : Nat → Nat) (F : Nat → Int) (Ar : Nat → Nat → Int) (kp : Nat → Nat) (pl : Nat → Option Nat) (PW : va_W) (pr pa pm : Nat → Nat) (pf : Nat → Nat → Nat) (nw n : Nat) (v wt : Nat → Nat) (b : Nat) (p q : Int) (hn : n ≤ 120) (hFn : F 200 = (n : Int)) (hv : ∀ i, i < n → v i < 1000) (hAv : ∀ i, i < n → Ar 201 i = (v i : Int)) (hwt : ∀ i, i < n → 1 ≤ wt i ∧ wt i ≤ 9) (hAw : ∀ i, i < n → Ar 202 i = (wt i : Int)) (hb : 2 ≤ b ∧ b ≤ 20) (hFb : F 7 = (b : Int)) (hpl : ∀ y, y < 1000 → (pl y = some (pr y) ∨ (pl y = none ∧ pr y = nw))) (hnw : zNwh s0 nw) (hpc : ∀ y, y < 1000 → PlC n v y (pm y) (pf y)) (hpp : zPool s0 G PW pr pa pm pf) (hp : -2147483648 ≤ p ∧ p < 2147483648) (hq : -2147483648 ≤ q ∧ q < 2147483648) : zyMet (S := Int) lau yX1_place cX1_place 5 (some .int) 6 90 1 6 s0 G sz [.ref (ad 99), .int (iZ p), .int (iZ q)] (dW ad G F Ar kp pl PW) (fun z => some (.int (iZ z))) (fun z => Sp_place n v wt b p q 0 z ∧ -2147483648 ≤ z ∧ z < 2147483648) (fun _ => dW ad G F Ar kp pl PW) (fun E => (E = "java/lang/IndexOutOfBoundsException" ∧ ¬ (0 ≤ p ∧ p < (n : Int))) ∨ (E = "java/util/NoSuchElementException" ∧ (0 ≤ p ∧ p < (n : Int)) ∧ ¬ (0 ≤ q ∧ q ≤ 5))) := by
  refine zyMet.of (by decide) (Nat.le_of_ble_eq_true rfl) ?_
  intro pg ev s1 mi ar bl me cd ls Q as0 hC hx0 hml hH hl hQ hsz
  have hl : lv_has ls 5 [(0, .ref (ad 99)), (1, .int (iZ p)), (2, .int (iZ q))] := hl
  refine z_aload_n hC 0 hl dX1_place_0 rfl 0 rfl ?_
  refine z_iload_n hC 1 hl dX1_place_1 rfl 1 rfl ?_
  refine zp_back (zp_runV hC hH.2.2 hl.1 (va_P_l hH.1) 1 (As := [.int (iZ p)]) (rest := []) (u_X1_isPlace lau s0 G ad F Ar kp pl n p hn hFn hp) (lw_V q799 q801 qs20 q89 q802) ⟨rfl, by decide, by decide, by decide +kernel⟩ (q0 := 0) (ci := 1) rfl rfl rfl rfl (Nat.le_of_ble_eq_true rfl) ⟨Nat.le_of_ble_eq_true rfl, Nat.le_of_ble_eq_true rfl⟩ ⟨by first | decide | omega, by first | decide | omega⟩ dX1_place_2) (fun r hr => ?_)
  have hr : (r = 1 ∧ (0 ≤ p ∧ p < (n : Int))) ∨ (r = 0 ∧ ¬ (0 ≤ p ∧ p < (n : Int))) := hr
  refine z_st (st' := [.int (iZ r)]) rfl ?_
  rcases hr with ⟨rfl, hpp2⟩ | ⟨rfl, hpp2⟩
  · refine z_if_ne_t hC 5 16 dX1_place_5 rfl (by omega) (by omega) ?_
    obtain ⟨p1, rfl⟩ : ∃ p1 : Nat, p = (p1 : Int) := ⟨p.toNat, by omega⟩
    have hp1 : p1 < n := by omega
    obtain ⟨y, hy⟩ : ∃ y, v p1 = y := ⟨_, rfl⟩
    have hy1 : y < 1000 := hy ▸ hv p1 hp1
    have hcy := hpc y hy1
    have hmx := PlC_pos (l := 0) hcy (cnt_pos.mpr ⟨p1, Nat.zero_le _, hp1, hy⟩) (Nat.le_refl n)
    have hmn := qlc_n hcy hn
    have hw9 := hwt p1 hp1
    have hzd : zdiv p1 b ≤ p1 := Nat.div_le_self _ _
    refine z_aload_n hC 16 hl dX1_place_16 rfl 0 rfl ?_
    refine z_aload_n hC 17 hl dX1_place_17 rfl 0 rfl ?_
    refine zp_get (v := .ref (ad 200)) hC hH.1 18 in_X1 rfl 4 (by decide) q210 0 rfl rfl dX1_place_18 ?_
    refine zp_getN (v := .ref (ad 201)) hC hH.1 21 in_X2 rfl 0 (by decide) q141 11 rfl rfl dX1_place_21 ?_
    refine z_iload_n hC 24 hl dX1_place_24 rfl 1 rfl ?_
    refine zp_iald (f := Ar 201) (x := (y : Int)) hC hH.1 25 12 p1 rfl (by decide) rfl (by omega) (by rw [hAv p1 hp1, hy]) dX1_place_25 ?_
    refine zp_back (zp_runV hC hH.2.2 hl.1 (va_P_l hH.1) 1 (As := [.int (iZ (y : Int))]) (rest := []) (u_X1_of lau s0 G ad F Ar kp pl y (pr y) nw hy1 (hpl y hy1) hnw) (lw_V q736 q738 qs17 q89 q739) ⟨rfl, by decide, by decide, by decide +kernel⟩ (q0 := 0) (ci := 1) rfl rfl rfl rfl (Nat.le_of_ble_eq_true rfl) ⟨Nat.le_of_ble_eq_true rfl, Nat.le_of_ble_eq_true rfl⟩ ⟨by first | decide | omega, by first | decide | omega⟩ dX1_place_26) (fun _ _ => ?_)
    refine z_st (st' := [.ref (pr y)]) rfl ?_
    refine z_astore_n (lv' := [(3, .ref (pr y)), (0, .ref (ad 99)), (1, .int (iZ (p1 : Int))), (2, .int (iZ q))]) hC 29 hl dX1_place_29 rfl (by decide) rfl (fun ls hl => ?_)
    refine z_aload_n hC 30 hl dX1_place_30 rfl 0 rfl ?_
    refine z_iload_n hC 31 hl dX1_place_31 rfl 2 rfl ?_
    have hPq := dWq hH hpp (y := y) hy1 (by omega)
    refine zp_back (zp_runV hC hH.2.2 hl.1 hPq 1 (As := [.int (iZ (p1 : Int))]) (rest := []) (u_X10_ahead lau s0 G (pr y) (pa y) (pm y) (pf y) n v y (p1 : Int) hn hcy (by omega)) (lw_V q764 q747 q748 q110 q749) ⟨rfl, by decide, by decide, by decide +kernel⟩ (q0 := 0) (ci := 9) rfl rfl rfl rfl (Nat.le_of_ble_eq_true rfl) ⟨Nat.le_of_ble_eq_true rfl, Nat.le_of_ble_eq_true rfl⟩ ⟨by first | decide | omega, by first | decide | omega⟩ dX1_place_32) (fun _ _ => ?_)
    obtain ⟨k, hk⟩ : ∃ k, k = cnt v 0 p1 y := ⟨_, rfl⟩
    refine z_st (st' := [.int (iZ (k : Int))]) (by rw [hk, plq_n (show p1 ≤ n by omega)]; rfl) ?_
    refine z_istore (lv' := [(4, .int (iZ (k : Int))), (3, .ref (pr y)), (0, .ref (ad 99)), (1, .int (iZ (p1 : Int))), (2, .int (iZ q))]) hC 35 hl dX1_place_35 (by decide) rfl (fun ls hl => ?_)
    have hkn : k < pm y := by
      have h1 := cnt_at hy
      have h2 : cnt v 0 n y = cnt v 0 (p1 + 1) y + cnt v (p1 + 1) n y := cnt_split (Nat.zero_le _) hp1
      have h3 := hcy.1
      omega
    refine z_iload_n hC 37 hl dX1_place_37 rfl 4 rfl ?_
    have hsp : ∀ z : Int, (0 ≤ q ∧ q ≤ 5) → z = (if q = 0 then (v p1 : Int) else if q = 1 then (wt p1 : Int) else if q = 2 then ((zdiv p1 b : Nat) : Int) else if q = 3 then (cnt v 0 p1 (v p1) : Int) else if q = 4 then nxR v n (p1 + 1) p1 (v p1) 1 else nxR v n (p1 + 1) p1 (v p1) (-1)) → Sp_place n v wt b (p1 : Int) q 0 z := fun z h1 h2 => by
      unfold Sp_place
      rw [if_pos hpp2, if_pos h1]
      exact ⟨rfl, h2⟩
    by_cases hq5 : 0 ≤ q ∧ q ≤ 5
    · rcases (show q = 0 ∨ q = 1 ∨ q = 2 ∨ q = 3 ∨ q = 4 ∨ q = 5 from by omega) with rfl | rfl | rfl | rfl | rfl | rfl
      · refine z_tsw_in hC 38 76 dX1_place_38 (by omega) rfl (by decide) (by decide) rfl rfl ?_
        refine z_aload_n hC 76 hl dX1_place_76 rfl 2 rfl ?_
        refine zp_get (v := .ref (ad 200)) hC hH.1 77 in_X1 rfl 4 (by decide) q210 0 rfl rfl dX1_place_77 ?_
        refine zp_getN (v := .ref (ad 201)) hC hH.1 80 in_X2 rfl 0 (by decide) q141 11 rfl rfl dX1_place_80 ?_
        refine z_iload_n hC 83 hl dX1_place_83 rfl 3 rfl ?_
        refine zp_iald (f := Ar 201) (x := (y : Int)) hC hH.1 84 12 p1 rfl (by decide) rfl (by omega) (by rw [hAv p1 hp1, hy]) dX1_place_84 ?_
        exact zy_iret hC hH hQ 85 ((y : Int)) dX1_place_85 rfl ⟨hsp _ hq5 (by rw [if_pos rfl, hy]), by omega, by omega⟩ rfl (Nat.zero_le _) (Nat.zero_le _)
      · refine z_tsw_in hC 38 86 dX1_place_38 (by omega) rfl (by decide) (by decide) rfl rfl ?_
        refine z_aload_n hC 86 hl dX1_place_86 rfl 2 rfl ?_
        refine zp_get (v := .ref (ad 200)) hC hH.1 87 in_X1 rfl 4 (by decide) q210 0 rfl rfl dX1_place_87 ?_
        refine zp_getN (v := .ref (ad 202)) hC hH.1 90 in_X2 rfl 1 (by decide) q145 11 rfl rfl dX1_place_90 ?_
        refine z_iload_n hC 93 hl dX1_place_93 rfl 3 rfl ?_
        refine zp_iald (f := Ar 202) (x := (wt p1 : Int)) hC hH.1 94 13 p1 rfl (by decide) rfl (by omega) (hAw p1 hp1) dX1_place_94 ?_
        exact zy_iret hC hH hQ 95 ((wt p1 : Int)) dX1_place_95 rfl ⟨hsp _ hq5 (by rw [if_neg (by decide), if_pos rfl]), by omega, by omega⟩ rfl (Nat.zero_le _) (Nat.zero_le _)
      · refine z_tsw_in hC 38 96 dX1_place_38 (by omega) rfl (by decide) (by decide) rfl rfl ?_
        refine z_iload_n hC 96 hl dX1_place_96 rfl 3 rfl ?_
        refine z_aload_n hC 97 hl dX1_place_97 rfl 2 rfl ?_
        refine zp_get (v := .int (iZ (b : Int))) hC hH.1 98 in_X1 rfl 7 (by decide) q216 0 rfl (by rw [← hFb]; rfl) dX1_place_98 ?_
        refine z_idiv hC 101 p1 b dX1_place_101 (by omega) (by omega) (by omega) (by omega) (zdiv p1 b) rfl ?_
        exact zy_iret hC hH hQ 102 (((zdiv p1 b : Nat) : Int)) dX1_place_102 rfl ⟨hsp _ hq5 (by rw [if_neg (by decide), if_neg (by decide), if_pos rfl]), by omega, by omega⟩ rfl (Nat.zero_le _) (Nat.zero_le _)
      · refine z_tsw_in hC 38 103 dX1_place_38 (by omega) rfl (by decide) (by decide) rfl rfl ?_
        refine z_iload hC 103 hl dX1_place_103 0 rfl ?_
        exact zy_iret hC hH hQ 105 ((k : Int)) dX1_place_105 rfl ⟨hsp _ hq5 (by rw [if_neg (by decide), if_neg (by decide), if_neg (by decide), if_pos rfl, hy, hk]), by omega, by omega⟩ rfl (Nat.zero_le _) (Nat.zero_le _)
      · refine z_tsw_in hC 38 106 dX1_place_38 (by omega) rfl (by decide) (by decide) rfl rfl ?_
        have hnx := nx_f hcy hp1 hy hk
        refine z_iload hC 106 hl dX1_place_106 0 rfl ?_
        refine z_iconst hC 108 dX1_place_108 ?_
        refine z_iadd (e := ((k + 1 : Nat) : Int)) hC 109 dX1_place_109 (by omega) ?_
        refine z_aload_n hC 110 hl dX1_place_110 rfl 1 rfl ?_
        refine zp_getN (v := .int (iZ (pm y : Int))) hC hPq 111 in_X10 rfl 1 (by decide) q709 0 rfl rfl dX1_place_111 ?_
        by_cases hkm : k + 1 < pm y
        · have hf9 := (hcy.2 (k + 1) hkm).1
          refine z_icmp_ge_f hC 114 129 dX1_place_114 rfl (by omega) (by omega) (by omega) ?_
          refine z_aload_n hC 117 hl dX1_place_117 rfl 1 rfl ?_
          refine zp_getN (v := .ref (pa y)) hC hPq 118 in_X10 rfl 0 (by decide) q706 0 rfl rfl dX1_place_118 ?_
          refine z_iload hC 121 hl dX1_place_121 0 rfl ?_
          refine z_iconst hC 123 dX1_place_123 ?_
          refine z_iadd (e := ((k + 1 : Nat) : Int)) hC 124 dX1_place_124 (by omega) ?_
          refine zp_iald (x := ((pf y (k + 1) : Nat) : Int)) hC hPq 125 1 (k + 1) rfl (by decide) rfl (by omega) rfl dX1_place_125 ?_
          refine z_goto hC 126 131 dX1_place_126 rfl ?_
          exact zy_iret hC hH hQ 131 (((pf y (k + 1) : Nat) : Int)) dX1_place_131 rfl ⟨hsp _ hq5 (by rw [if_neg (by decide), if_neg (by decide), if_neg (by decide), if_neg (by decide), if_pos rfl, hy]; exact hnx.1 hkm), by omega, by omega⟩ rfl (Nat.zero_le _) (Nat.zero_le _)
        · refine z_icmp_ge_t hC 114 129 dX1_place_114 rfl (by omega) (by omega) (by omega) ?_
          refine z_bipush hC 129 dX1_place_129 rfl ?_
          exact zy_iret hC hH hQ 131 (-2) dX1_place_131 rfl ⟨hsp _ hq5 (by rw [if_neg (by decide), if_neg (by decide), if_neg (by decide), if_neg (by decide), if_pos rfl, hy]; exact hnx.2 hkm), by omega, by omega⟩ rfl (Nat.zero_le _) (Nat.zero_le _)
      · refine z_tsw_in hC 38 132 dX1_place_38 (by omega) rfl (by decide) (by decide) rfl rfl ?_
        have hnx := nx_b hcy hp1 hy hk
        refine z_iload hC 132 hl dX1_place_132 0 rfl ?_
        by_cases hkm : 0 < k
        · have hf9 := (hcy.2 (k - 1) (by omega)).1
          refine z_if_le_f hC 134 149 dX1_place_134 rfl (by omega) (by omega) ?_
          refine z_aload_n hC 137 hl dX1_place_137 rfl 1 rfl ?_
          refine zp_getN (v := .ref (pa y)) hC hPq 138 in_X10 rfl 0 (by decide) q706 0 rfl rfl dX1_place_138 ?_
          refine z_iload hC 141 hl dX1_place_141 0 rfl ?_
          refine z_iconst hC 143 dX1_place_143 ?_
          refine z_isub (e := ((k - 1 : Nat) : Int)) hC 144 dX1_place_144 (by omega) ?_
          refine zp_iald (x := ((pf y (k - 1) : Nat) : Int)) hC hPq 145 1 (k - 1) rfl (by decide) rfl (by omega) rfl dX1_place_145 ?_
          refine z_goto hC 146 151 dX1_place_146 rfl ?_
          exact zy_iret hC hH hQ 151 (((pf y (k - 1) : Nat) : Int)) dX1_place_151 rfl ⟨hsp _ hq5 (by rw [if_neg (by decide), if_neg (by decide), if_neg (by decide), if_neg (by decide), if_neg (by decide), hy]; exact hnx.1 hkm), by omega, by omega⟩ rfl (Nat.zero_le _) (Nat.zero_le _)
        · refine z_if_le_t hC 134 149 dX1_place_134 rfl (by omega) (by omega) ?_
          refine z_bipush hC 149 dX1_place_149 rfl ?_
          exact zy_iret hC hH hQ 151 (-2) dX1_place_151 rfl ⟨hsp _ hq5 (by rw [if_neg (by decide), if_neg (by decide), if_neg (by decide), if_neg (by decide), if_neg (by decide), hy]; exact hnx.2 hkm), by omega, by omega⟩ rfl (Nat.zero_le _) (Nat.zero_le _)
    · refine z_tsw_out hC 38 152 dX1_place_38 (by omega) (by omega) rfl ?_
      obtain ⟨rfl, rfl⟩ := hQ
      exact vx_throw0 (pc := 152) (cls := "java/util/NoSuchElementException") (names := zNup) (ik := 179) (ic := 181) hC.1.1 hC.1.2.1 hlt hC.1.2.2.2.1 (by decide) (by decide) (hC.1.2.2.2.2 _ q1412) (hC.1.2.2.2.2 _ q114) (hat_ns hC) hgd_ns (zZq_up hC hthq.1) (zZq_up hC hthq.2) hH.2.2 (hl.1.trans hml.symm) dX1_place_152 dX1_place_155 dX1_place_156 dX1_place_159 (fun x hx => (hx0 x hx).elim) (by decide) (by decide) (by decide) (by decide) hC.2.2.1 (fun t _ h1 h2 => ⟨Or.inr ⟨rfl, hpp2, hq5⟩, h1, h2⟩) (fun z hz => nomatch hz) (by decide) (by decide)
  · refine z_if_ne_f hC 5 16 dX1_place_5 rfl (by omega) (by omega) ?_
    obtain ⟨rfl, rfl⟩ := hQ
    exact vx_throw0 (pc := 8) (cls := "java/lang/IndexOutOfBoundsException") (names := zNup) (ik := 162) (ic := 164) hC.1.1 hC.1.2.1 hlt hC.1.2.2.2.1 (by decide) (by decide) (hC.1.2.2.2.2 _ q1397) (hC.1.2.2.2.2 _ q112) (hat_io hC) hgd_io (zZq_up hC hthq.1) (zZq_up hC hthq.2) hH.2.2 (hl.1.trans hml.symm) dX1_place_8 dX1_place_11 dX1_place_12 dX1_place_15 (fun x hx => (hx0 x hx).elim) (by decide) (by decide) (by decide) (by decide) hC.2.2.1 (fun t _ h1 h2 => ⟨Or.inl ⟨rfl, hpp2⟩, h1, h2⟩) (fun z hz => nomatch hz) (by decide) (by decide)
