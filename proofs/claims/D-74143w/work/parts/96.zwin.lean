/-! Windows.next -/
set_option maxRecDepth 100000
section ZRUNVN
variable {pg : Program} {l : Launch} {ev : Env} {R : Room} {s0 s : State} {m : MethodId} {ar : Array Value} {bl : List Frame} {me : Method} {c : Code} {H : Heap} {locs : List Loc} {ce sl : Nat} {Q : State → Prop} {G : zG} {cc : ByteArray} {nL : Nat} {own : String} {ret : Option FieldType} {ls : Array Slot} {st : List Value} {as0 : List Nat} {w : va_W}
theorem z_runVN (C : zC pg s0 s m ar me c G cc nL own ret) (hS : va_S (zB s0 s.heap.size as0) s.heap H locs) (hlz : ls.size = nL) {wc : va_W} (hP : va_P G.1 vwCl wc H) (hD : va_D (zB s0 s.heap.size as0) wc) {S : Type} {y : MethodName} {code' : ByteArray} {nL' fr lo mc ms idx ci N b q0 pc : Nat} {ret' : Option FieldType} {CN host : String} {T : u_T} {fs : List Value} (n : Nat) {As rest : List Value} {res : S → Option Value} {P : S → Prop} {w' : S → va_W} (hM : zMet l y code' nL' ret' fr lo mc ms s0 G H.size (.ref b :: As) wc res P w')
    (hG : GoodIn lw_all (ws_ y code' nL' ret')) (hl : Cond.methodLinkNest own idx y host ∈ lw_tbl) (hx : Cond.instanceMethod y ∈ lw_all ∧ Cond.selects CN y y ∈ lw_all ∧ Cond.initialized y.cls ∈ lw_all) (hd : y.cls ≠ "java/lang/invoke/MethodHandle" ∧ y.cls ≠ "java/lang/invoke/VarHandle" ∧ (parseMethodDescriptor y.desc).map (fun d => d.parameters.length) = some n) (hq : wc[q0]? = some (b, .inr (ci, fs))) (hc : vwCl[ci]? = some (CN, T, N)) (hn : As.length = n) (hst : st = As.reverse ++ .ref b :: rest) (hW : (rest.map fun v => v.category).sum ≤ 8) (hR : fr + 1 ≤ R.frames ∧ 8 + (nL' + 11) + lo ≤ R.locals) (hf : ce + mc ≤ R.cells ∧ sl + ms ≤ R.slots) (hdg : decode cc pc = .ok (.invokevirtual idx, 3)) :
    va_Run pg l ev R s m ar bl me c H locs ce sl mc ms (F0 m pc ls st) rest (zQc s0 G wc res P w' (Value.ref b :: As).toArray) (zB s0 H.size (wc.map Prod.fst)) :=
  va_runVN (As := As) (rest := rest) C.1 hM ⟨va_cnB n C.1.2.2.2.2 hG rfl rfl rfl (zNwM C.2.2.2.1 C.2.2.2.2.1 hl) (C.1.2.2.2.2 _ hx.2.2) hd hR, C.1.2.2.2.2 _ hx.1, C.1.2.2.2.2 _ hx.2.1⟩ ⟨zPc_blind, va_recv C.2.2.2.2.2 hP hc hq, z_pre C hS hP hD _⟩ rfl hn hlz hst (lv_room (pc := pc) (ls := ls) (rest := st) hW) hdg hf
end ZRUNVN
abbrev WNS : Type := (Nat × (Nat → Nat) × (Nat → Int)) × Nat × va_W
set_option maxHeartbeats 8000000 in
theorem m_X13_next_2 (lau : Launch) (s0 : State) (G : zG) (sz : Nat) (ad : Nat → Nat) (F : Nat → Int) (Ar : Nat → Nat → Int) (kp : Nat → Nat) (pl : Nat → Option Nat) (PW : va_W) (n : Nat) (v : Nat → Nat) (pr : Nat → Nat) (pa : Nat → Nat) (pm : Nat → Nat) (pf : Nat → Nat → Nat) (nw : Nat) (b : Nat) (t : Nat) (wi wd wl : Nat) (hn : n ≤ 120) (hFn : F 200 = (n : Int)) (hv : ∀ i, i < n → v i < 1000) (hAv : ∀ i, i < n → Ar 201 i = (v i : Int)) (hb : 2 ≤ b ∧ b ≤ 20) (hFb : F 7 = (b : Int)) (ht : t < 4) (hFt : F 8 = (t : Int)) (hpl : ∀ y, y < 1000 → (pl y = some (pr y) ∨ (pl y = none ∧ pr y = nw))) (hnw : zNwh s0 nw) (hpc : ∀ y, y < 1000 → PlC n v y (pm y) (pf y)) (hpp : zPool s0 G PW pr pa pm pf) (hmo : ∀ i j, i ≤ j → b * j < n → Ar 12 (60 * i + j) = (md v (b * i) (bEnd b j n) t : Int)) (hwd : 1 ≤ wd) (hw : wl + wd ≤ n) (hB : zBxs s0) :
    zMet (S := WNS) lau yX13_next_2 cX13_next_2 1 (some (.object "java/lang/Integer")) 6 160 1 1 s0 G sz [.ref wi] (dW ad G F (va_up Ar 16 zZ) kp pl (PW ++ [(wi, .inr (12, [.int (iZ (wd : Int)), .int (iZ (wl : Int)), .ref (ad 99)]))])) (fun u => some (.ref u.2.1)) (fun u => zBN s0 u.2.1 ((md v wl (wl + wd) t : Nat) : Int) u.2.2) (fun u => dW ad G (va_up F 17 ((u.1.1 : Int))) (va_up (va_up Ar 15 (cI (u.1.1) u.1.2.1 u.1.2.2)) 16 zZ) kp pl ((PW ++ [(wi, .inr (12, [.int (iZ (wd : Int)), .int (iZ ((wl + 1 : Nat) : Int)), .ref (ad 99)]))]) ++ u.2.2)) := by
  refine zMet.of (by decide) (Nat.le_of_ble_eq_true rfl) ?_
  intro pg ev s1 mi ar bl me cd ls Q as0 hC hH hl hQ hsz
  generalize s1.heap = H at hH ⊢
  generalize ([] : List Loc) = locs at hH ⊢
  have hl : lv_has ls 1 [(0, .ref wi)] := hl
  refine z_aload_n hC 0 hl dX13_next_2_0 rfl 0 rfl ?_
  refine zp_back (zp_runV hC hH.2.2 hl.1 (va_P.app (va_P_l hH.1) (dW_xP hH.1)) 0 (As := []) (rest := []) (u_X13_hasNext lau s0 G ad F (va_up Ar 16 zZ) kp pl wi wd wl n hn hFn (by omega) (by omega)) (lw_V q986 q918 q1980 q120 q920) ⟨rfl, by decide, by decide, by decide +kernel⟩ (q0 := 60) (ci := 12) rfl rfl rfl rfl (Nat.le_of_ble_eq_true rfl) ⟨Nat.le_of_ble_eq_true rfl, Nat.le_of_ble_eq_true rfl⟩ ⟨Nat.le_of_ble_eq_true rfl, Nat.le_of_ble_eq_true rfl⟩ dX13_next_2_1) (fun r_ hpost => ?_)
  rcases hpost with ⟨rfl, _⟩ | ⟨_, hno⟩
  rotate_left
  · exact absurd hw hno
  refine z_st (st' := [.int (iZ 1)]) rfl ?_
  refine z_if_ne_t hC 4 15 dX13_next_2_4 rfl (by omega) (by omega) ?_
  refine z_aload_n hC 15 hl dX13_next_2_15 rfl 0 rfl ?_
  refine z_dup hC 16 dX13_next_2_16 rfl ?_
  refine zp_get (v := .int (iZ ((wl : Int)))) hC (dW_xP hH.1) 17 in_X13 rfl 1 (by decide) q1164 0 rfl rfl dX13_next_2_17 ?_
  refine z_iconst hC 20 dX13_next_2_20 ?_
  refine z_iadd (e := ((wl + 1 : Nat) : Int)) hC 21 dX13_next_2_21 (by omega) ?_
  refine z_put hC hH 22 tyX13 in_X13 tyX13_ok nmX13 rfl 1 (by decide) q1164 (60 + PW.length) dW_x rfl rfl rfl (Nat.le_of_ble_eq_true rfl) rfl dX13_next_2_22 (fun H locs hH => ?_)
  have hH : zH s0 s1 G as0 ((dW ad G F (va_up Ar 16 zZ) kp pl (PW ++ [(wi, .inr (12, [.int (iZ (wd : Int)), .int (iZ (wl : Int)), .ref (ad 99)]))])).set (60 + PW.length) (wi, .inr (12, [.int (iZ (wd : Int)), .int (iZ ((wl + 1 : Nat) : Int)), .ref (ad 99)]))) H locs := hH
  rw [dW_xset] at hH
  refine z_aload_n hC 25 hl dX13_next_2_25 rfl 0 rfl ?_
  refine zp_get (v := .ref (ad 99)) hC (dW_xP hH.1) 26 in_X13 rfl 2 (by decide) q1165 0 rfl rfl dX13_next_2_26 ?_
  refine z_aload_n hC 29 hl dX13_next_2_29 rfl 0 rfl ?_
  refine zp_get (v := .int (iZ (((wl + 1 : Nat) : Int)))) hC (dW_xP hH.1) 30 in_X13 rfl 1 (by decide) q1164 0 rfl rfl dX13_next_2_30 ?_
  refine z_iconst hC 33 dX13_next_2_33 ?_
  refine z_isub (e := (wl : Int)) hC 34 dX13_next_2_34 (by omega) ?_
  refine z_aload_n hC 35 hl dX13_next_2_35 rfl 0 rfl ?_
  refine zp_get (v := .int (iZ (((wl + 1 : Nat) : Int)))) hC (dW_xP hH.1) 36 in_X13 rfl 1 (by decide) q1164 0 rfl rfl dX13_next_2_36 ?_
  refine z_aload_n hC 39 hl dX13_next_2_39 rfl 0 rfl ?_
  refine zp_get (v := .int (iZ ((wd : Int)))) hC (dW_xP hH.1) 40 in_X13 rfl 0 (by decide) q1163 0 rfl rfl dX13_next_2_40 ?_
  refine z_iadd (e := ((wl + 1 + wd : Nat) : Int)) hC 43 dX13_next_2_43 (by omega) ?_
  refine z_iconst hC 44 dX13_next_2_44 ?_
  refine z_isub (e := ((wl + wd : Nat) : Int) - 1) hC 45 dX13_next_2_45 (by omega) ?_
  have hpp9 : zPool s0 G (PW ++ [(wi, .inr (12, [.int (iZ (wd : Int)), .int (iZ ((wl + 1 : Nat) : Int)), .ref (ad 99)]))]) pr pa pm pf := zPool_app hpp
  refine z_same (z_runVN hC hH.2.2 hl.1 hH.1 hH.2.1 2 (As := [.int (iZ (wl : Int)), .int (iZ (((wl + wd : Nat) : Int) - 1))]) (rest := []) (m_X1_modeOf lau s0 G _ ad F Ar kp pl (PW ++ [(wi, .inr (12, [.int (iZ (wd : Int)), .int (iZ ((wl + 1 : Nat) : Int)), .ref (ad 99)]))]) n v pr pa pm pf nw b t wl (wl + wd) hn hFn hv hAv hb hFb ht hFt hpl hnw hpc hpp9 hmo (by omega) hw) (lw_meth q992) q989 ⟨q991, qs27, q89⟩ ⟨by decide, by decide, by decide +kernel⟩ (q0 := 0) (ci := 1) rfl rfl rfl rfl (Nat.le_of_ble_eq_true rfl) ⟨Nat.le_of_ble_eq_true rfl, Nat.le_of_ble_eq_true rfl⟩ ⟨Nat.le_of_ble_eq_true rfl, Nat.le_of_ble_eq_true rfl⟩ dX13_next_2_46) hH (fun u_ H locs hpost hH => ?_)
  obtain ⟨k, u, gu⟩ := u_
  have hmd := md_lt_1000 v wl (wl + wd) t
  refine z_st (st' := [.int (iZ ((md v wl (wl + wd) t : Nat) : Int))]) rfl ?_
  refine z_subN (S := Nat × va_W) (w1 := fun _ => []) (x1 := fun z => z.2) (z_runS hC hH.2.2 hl.1 zp_nil va_D_nil 1 (As := [.int (iZ ((md v wl (wl + wd) t : Nat) : Int))]) (rest := []) (m_J16_valueOf lau s0 G _ ((md v wl (wl + wd) t : Nat) : Int) (by omega) hB) (lw_S q1017 q958 q117 q959) ⟨by decide, by decide, by decide +kernel⟩ rfl rfl (Nat.le_of_ble_eq_true rfl) ⟨Nat.le_of_ble_eq_true rfl, Nat.le_of_ble_eq_true rfl⟩ ⟨Nat.le_of_ble_eq_true rfl, Nat.le_of_ble_eq_true rfl⟩ dX13_next_2_49) hH [] rfl List.nodup_nil (fun _ => rfl) (fun bX H locs hbx hH => ?_)
  have hH : zH s0 s1 G as0 (dW ad G (va_up F 17 (k : Int)) (va_up (va_up Ar 15 (cI k u gu)) 16 zZ) kp pl (PW ++ [(wi, .inr (12, [.int (iZ (wd : Int)), .int (iZ ((wl + 1 : Nat) : Int)), .ref (ad 99)]))]) ++ bX.2) H locs := hH
  rw [dW_app] at hH
  refine z_st (st' := [.ref bX.1]) rfl ?_
  exact z_aret hC hH hQ 52 ((k, u, gu), bX) dX13_next_2_52 rfl hbx rfl (Nat.le_of_ble_eq_true rfl) (Nat.le_of_ble_eq_true rfl)
