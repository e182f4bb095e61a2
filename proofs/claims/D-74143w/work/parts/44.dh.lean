/-! methods of ModeDesk: 44.dh -/
set_option maxHeartbeats 4000000 in
set_option maxRecDepth 100000 in
theorem u_X13_hasNext (lau : Launch) (s0 : State) (G : zG) (ad : Nat → Nat) (F : Nat → Int) (Ar : Nat → Nat → Int) (kp : Nat → Nat) (pl : Nat → Option Nat) (wi : Nat) (wd : Nat) (wl : Nat) (n : Nat) (hn : n ≤ 120) (hFn : F 200 = (n : Int)) (hwd : wd ≤ 1000) (hwl : wl ≤ 1000) : zPur (S := Int) lau yX13_hasNext cX13_hasNext 1 (some .boolean) 0 0 s0 G [.ref (wi)] (dW0 ad G F Ar kp pl ++ [(wi, .inr (12, [.int (iZ (wd : Int)), .int (iZ (wl : Int)), .ref (ad 99)]))]) (fun (r_ : Int) => some (.int (iZ r_))) (fun (r_ : Int) => ((r_ = 1 ∧ (wl + wd ≤ n)) ∨ (r_ = 0 ∧ ¬ (wl + wd ≤ n)))) := by
  refine zPur.of (by decide) (Nat.le_of_ble_eq_true rfl) ?_
  intro pg ev s1 mi ar bl me cd ls Q hC hP hl hQ
  have hl : lv_has ls 1 [(0, .ref (wi))] := hl
  refine z_aload_n hC 0 hl dX13_hasNext_0 rfl 0 rfl ?_
  refine zp_get (v := .int (iZ ((wl : Int)))) hC (va_P_r hP) 1 in_X13 rfl 1 (by decide) q1164 0 rfl (rfl) dX13_hasNext_1 ?_
  refine z_aload_n hC 4 hl dX13_hasNext_4 rfl 0 rfl ?_
  refine zp_get (v := .int (iZ ((wd : Int)))) hC (va_P_r hP) 5 in_X13 rfl 0 (by decide) q1163 0 rfl (rfl) dX13_hasNext_5 ?_
  refine z_iadd (e := (wl : Int) + (wd : Int)) hC 8 dX13_hasNext_8 rfl ?_
  refine z_aload_n hC 9 hl dX13_hasNext_9 rfl 0 rfl ?_
  refine zp_get (v := .ref (ad 99)) hC (va_P_r hP) 10 in_X13 rfl 2 (by decide) q1165 0 rfl (rfl) dX13_hasNext_10 ?_
  refine zp_getN (v := .ref (ad 200)) hC (va_P_l hP) 13 in_X1 rfl 4 (by decide) q211 0 rfl (rfl) dX13_hasNext_13 ?_
  refine zp_getN (v := .int (iZ ((n : Int)))) hC (va_P_l hP) 16 in_X2 rfl 2 (by decide) q146 11 rfl (by rw [← hFn]; rfl) dX13_hasNext_16 ?_
  refine z_icmp_gt hC 19 26 dX13_hasNext_19 rfl (by omega) (by omega) (fun hb1 => ?_) (fun hb1 => ?_)
  · -- 19t
    refine z_iconst hC 26 dX13_hasNext_26 ?_
    -- R27.1
    exact zp_zret hC hQ 27 (0) dX13_hasNext_27 (by rfl) rfl (Or.inr ⟨rfl, by first | assumption | omega⟩)
  · -- 19f
    refine z_iconst hC 22 dX13_hasNext_22 ?_
    refine z_goto hC 23 27 dX13_hasNext_23 rfl ?_
    -- R27.2
    exact zp_zret hC hQ 27 (1) dX13_hasNext_27 (by rfl) rfl (Or.inl ⟨rfl, by first | assumption | omega⟩)

set_option maxHeartbeats 4000000 in
set_option maxRecDepth 100000 in
theorem u_X11_hasNext (lau : Launch) (s0 : State) (G : zG) (it : Nat) (p : Nat) (pa : Nat) (k : Nat) (x : Nat) (hx : x ≤ 120) (hk : k ≤ 120) : zPur (S := Int) lau yX11_hasNext cX11_hasNext 1 (some .boolean) 0 0 s0 G [.ref (it)] ([(it, .inr (10, [.int (iZ (k : Int)), .ref p])), (p, .inr (9, [.ref pa, .int (iZ (x : Int))]))]) (fun (r_ : Int) => some (.int (iZ r_))) (fun (r_ : Int) => ((r_ = 1 ∧ (k < x)) ∨ (r_ = 0 ∧ ¬ (k < x)))) := by
  refine zPur.of (by decide) (Nat.le_of_ble_eq_true rfl) ?_
  intro pg ev s1 mi ar bl me cd ls Q hC hP hl hQ
  have hl : lv_has ls 1 [(0, .ref (it))] := hl
  refine z_aload_n hC 0 hl dX11_hasNext_0 rfl 0 rfl ?_
  refine zp_get (v := .int (iZ ((k : Int)))) hC hP 1 in_X11 rfl 0 (by decide) q898 0 rfl (rfl) dX11_hasNext_1 ?_
  refine z_aload_n hC 4 hl dX11_hasNext_4 rfl 0 rfl ?_
  refine zp_get (v := .ref (p)) hC hP 5 in_X11 rfl 1 (by decide) q899 0 rfl (rfl) dX11_hasNext_5 ?_
  refine zp_getN (v := .int (iZ ((x : Int)))) hC hP 8 in_X10 rfl 1 (by decide) q708 1 rfl (rfl) dX11_hasNext_8 ?_
  refine z_icmp_ge hC 11 18 dX11_hasNext_11 rfl (by omega) (by omega) (fun hb1 => ?_) (fun hb1 => ?_)
  · -- 11t
    refine z_iconst hC 18 dX11_hasNext_18 ?_
    -- R19.1
    exact zp_zret hC hQ 19 (0) dX11_hasNext_19 (by rfl) rfl (Or.inr ⟨rfl, by first | assumption | omega⟩)
  · -- 11f
    refine z_iconst hC 14 dX11_hasNext_14 ?_
    refine z_goto hC 15 19 dX11_hasNext_15 rfl ?_
    -- R19.2
    exact zp_zret hC hQ 19 (1) dX11_hasNext_19 (by rfl) rfl (Or.inl ⟨rfl, by first | assumption | omega⟩)
