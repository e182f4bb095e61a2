/-! the law's own place -/
set_option maxRecDepth 100000
section LPL0
variable {pg : Program} {l : Launch} {ev : Env} {R : Room} {s0 s : State} {m : MethodId} {ar : Array Value} {bl : List Frame} {me : Method} {c : Code} {H : Heap} {locs : List Loc} {ce sl : Nat} {Q : State → Prop} {G : zG} {cc : ByteArray} {nL : Nat} {own : String} {ret : Option FieldType} {ls : Array Slot} {st : List Value} {lv : List (Nat × Value)} {as0 : List Nat} {w : va_W}
theorem zy_runV (C : zC pg s0 s m ar me c G cc nL own ret) (hS : va_S (zB s0 s.heap.size as0) s.heap H locs) (hlz : ls.size = nL) {wc : va_W} (hP : va_P G.1 vwCl wc H) (hD : va_D (zB s0 s.heap.size as0) wc) {S : Type} {y : MethodName} {code' : ByteArray} {nL' fr lo mc ms idx ci N b q0 pc : Nat} {ret' : Option FieldType} {CN : String} {T : u_T} {fs : List Value} (n : Nat) {As rest : List Value} {res : S → Option Value} {P : S → Prop} {w' : S → va_W} {X : String → Prop} (hM : zyMet l y code' nL' ret' fr lo mc ms s0 G H.size (.ref b :: As) wc res P w' X)
    (hG : GoodIn lw_all (wsV own idx CN y (ws_ y code' nL' ret'))) (hd : y.cls = CN ∧ y.cls ≠ "java/lang/invoke/MethodHandle" ∧ y.cls ≠ "java/lang/invoke/VarHandle" ∧ (parseMethodDescriptor y.desc).map (fun d => d.parameters.length) = some n) (hq : wc[q0]? = some (b, .inr (ci, fs))) (hc : vwCl[ci]? = some (CN, T, N)) (hn : As.length = n) (hst : st = As.reverse ++ .ref b :: rest) (hW : (rest.map fun v => v.category).sum ≤ 8) (hR : fr + 1 ≤ R.frames ∧ 8 + (nL' + 11) + lo ≤ R.locals) (hf : ce + mc ≤ R.cells ∧ sl + ms ≤ R.slots) (hdg : decode cc pc = .ok (.invokevirtual idx, 3)) :
    vx_Run pg l ev R s m ar bl me c H locs ce sl mc ms (F0 m pc ls st) rest (zQc s0 G wc res P w' (Value.ref b :: As).toArray) (zyX X) (zB s0 H.size (wc.map Prod.fst)) :=
  vx_runV (As := As) (rest := rest) C.1 hM (cwV n C.1.2.2.2.2 hG rfl rfl rfl hd hR) ⟨zPc_blind, va_recv C.2.2.2.2.2 hP hc hq, z_pre C hS hP hD _⟩ rfl hn hlz hst (lv_room (pc := pc) (ls := ls) (rest := st) hW) hdg hf
theorem zh_runS (C : zC pg s0 s m ar me c G cc nL own ret) (hS : va_S (zB s0 s.heap.size as0) s.heap H locs) (hlz : ls.size = nL) {wc : va_W} (hP : va_P G.1 vwCl wc H) (hD : va_D (zB s0 s.heap.size as0) wc) {S : Type} {y : MethodName} {code' : ByteArray} {nL' fr lo mc ms idx pc : Nat} {ret' : Option FieldType} {hh : List (Nat × Nat × Nat × Nat)} (n : Nat) {As rest : List Value} {res : S → Option Value} {P : S → Prop} {w' : S → va_W} (hM : zhMet l y code' nL' ret' hh fr lo mc ms s0 G H.size As wc res P w')
    (hG : GoodIn lw_all (va_wsS own idx y (wsW_ y code' nL' ret' hh))) (hd : y.cls ≠ "java/lang/invoke/MethodHandle" ∧ y.cls ≠ "java/lang/invoke/VarHandle" ∧ (parseMethodDescriptor y.desc).map (fun d => d.parameters.length) = some n) (hn : As.length = n) (hst : st = As.reverse ++ rest) (hW : (rest.map fun v => v.category).sum ≤ 8) (hR : fr + 1 ≤ R.frames ∧ 8 + (nL' + 11) + lo ≤ R.locals) (hf : ce + mc ≤ R.cells ∧ sl + ms ≤ R.slots) (hdg : decode cc pc = .ok (.invokestatic idx, 3)) :
    va_Run pg l ev R s m ar bl me c H locs ce sl mc ms (F0 m pc ls st) rest (zQc s0 G wc res P w' As.toArray) (zB s0 H.size (wc.map Prod.fst)) :=
  vx_runSW (As := As) (rest := rest) C.1 hM (vx_cwSW n C.1.2.2.2.2 hG rfl rfl rfl hd hR) ⟨zPc_blind, z_pre C hS hP hD _⟩ rfl hn hlz hst (lv_room (pc := pc) (ls := ls) (rest := st) hW) hdg hf
def zNNI (s0 : State) : Prop := va_Nc "java/util/NoSuchElementException" "java/lang/IndexOutOfBoundsException" s0
theorem zPre_nni {s0 : State} {G : zG} (h : zSt s0 G) : zNNI s0 := by
  obtain ⟨⟨b, hb, hg⟩, -⟩ := h
  exact va_Nc.of (nw_leaf (c_right hg) 193 rfl : (Cond.not (Cond.castable "java/util/NoSuchElementException" "java/lang/IndexOutOfBoundsException")).before #[.ref b] s0 = true)
/-- caught by one of the two rows -/
theorem zy_catch {q a b hp ct hp2 ct2 : Nat} {E : String} {cell : Cell} (C : zC pg s0 s m ar me c G cc nL own ret) (htb : c.exceptionTable.toList = tableOf [(a, b, hp, ct), (a, b, hp2, ct2)]) {pc : Nat} {rest : List Value} (h1 : a ≤ pc) (h2 : pc < b) (h0 : ct ≠ 0) (h02 : ct2 ≠ 0) (hlk : Cond.classLink own ct "java/lang/IndexOutOfBoundsException" ∈ lw_all) (hlk2 : Cond.classLink own ct2 "java/util/NoSuchElementException" ∈ lw_all) (hN : zNNI s0) (hg1 : H[q]? = some cell) (hg2 : cell.vm = .none) (hg3 : s.vm.findClass E = some cell.cls)
    (k1 : E = "java/lang/IndexOutOfBoundsException" → W pg l ev R s m ar bl me c H locs ce sl Q (F0 m hp ls [.ref q])) (k2 : E = "java/util/NoSuchElementException" → W pg l ev R s m ar bl me c H locs ce sl Q (F0 m hp2 ls [.ref q])) (hE : E = "java/lang/IndexOutOfBoundsException" ∨ E = "java/util/NoSuchElementException") : vx_W pg l ev R s m ar bl me c H locs ce sl Q (F0 m pc ls rest) q := by
  obtain ⟨⟨bb, hb, -⟩, -⟩ := C.2.2.2.1
  rcases hE with rfl | rfl
  · exact vx_catch (E := "java/lang/IndexOutOfBoundsException") (ce := cell) C.1.2.2.2.1 [] _ _ htb (fun z hz => nomatch hz) (by unfold covers; simp [h1, h2]) h0 (C.1.2.2.2.2 _ hlk) (va_Nw.use rfl (va_Nw.warmC C.2.2.2.2.1.1 (va_Nw.of rfl (hb _ q1399)))) hg1 hg2 hg3 (k1 rfl)
  · exact vx_catch (E := "java/util/NoSuchElementException") (ce := cell) C.1.2.2.2.1 [_] _ [] htb (fun z hz => by
      rw [List.mem_singleton.mp hz]
      exact Or.inr ⟨h0, _, C.1.2.2.2.2 _ hlk, hN.moved C.2.2.2.2.1.1.alike⟩) (by unfold covers; simp [h1, h2]) h02 (C.1.2.2.2.2 _ hlk2) (va_Nw.use rfl (va_Nw.warmC C.2.2.2.2.1.1 (va_Nw.of rfl (hb _ q936)))) hg1 hg2 hg3 (k2 rfl)
end LPL0
set_option maxHeartbeats 8000000 in
theorem m_X0_place (lau : Launch) (s0 : State) (G : zG) (sz : Nat) (hlt : lau.stackTraces = false) (hthq : zThq s0) (ad : Nat → Nat) (F : Nat → Int) (Ar : Nat → Nat → Int) (kp : Nat → Nat) (pl : Nat → Option Nat) (PW : va_W) (pr pa pm : Nat → Nat) (pf : Nat → Nat → Nat) (nw n : Nat) (v wt : Nat → Nat) (b : Nat) (p q : Int) (hn : n ≤ 120) (hFn : F 200 = (n : Int)) (hv : ∀ i, i < n → v i < 1000) (hAv : ∀ i, i < n → Ar 201 i = (v i : Int)) (hwt : ∀ i, i < n → 1 ≤ wt i ∧ wt i ≤ 9) (hAw : ∀ i, i < n → Ar 202 i = (wt i : Int)) (hb : 2 ≤ b ∧ b ≤ 20) (hFb : F 7 = (b : Int)) (hpl : ∀ y, y < 1000 → (pl y = some (pr y) ∨ (pl y = none ∧ pr y = nw))) (hnw : zNwh s0 nw) (hpc : ∀ y, y < 1000 → PlC n v y (pm y) (pf y)) (hpp : zPool s0 G PW pr pa pm pf) (hp : -2147483648 ≤ p ∧ p < 2147483648) (hq : -2147483648 ≤ q ∧ q < 2147483648) (hni : zNNI s0) (o : Nat) (fo : Nat → Int64) : zhMet (S := Int × Int × (Nat → Int64)) lau yX0_place cX0_place 5 (some .int) [((0 : Nat), (10 : Nat), (13 : Nat), (13 : Nat)), ((0 : Nat), (10 : Nat), (17 : Nat), (15 : Nat))] 7 120 1 6 s0 G sz [.ref (ad 99), .int (iZ p), .int (iZ q), .ref o] (dW ad G F Ar kp pl PW ++ [(o, .inl (G.2 3, 1, .inr (.inl fo)))]) (fun (r, _, _) => some (.int (iZ r))) (fun (r, z, f2) => Sp_place n v wt b p q r z ∧ (r = 0 → f2 0 = lZ z ∧ -2147483648 ≤ z ∧ z < 2147483648)) (fun (_, _, f2) => (dW ad G F Ar kp pl PW ++ [(o, .inl (G.2 3, 1, .inr (.inl f2)))])) := by
  refine zhMet.of (by decide) (Nat.le_of_ble_eq_true rfl) ?_
  intro pg ev s1 mi ar bl me cd ls Q as0 hC htb hH hl hQ hsz
  generalize s1.heap = H at hH ⊢
  generalize ([] : List Loc) = locs at hH ⊢
  have hl : lv_has ls 5 [(0, .ref (ad 99)), (1, .int (iZ p)), (2, .int (iZ q)), (3, .ref o)] := hl
  refine z_aload_n hC 0 hl dX0_place_0 rfl 3 rfl ?_
  refine z_iconst hC 1 dX0_place_1 ?_
  refine z_aload_n hC 2 hl dX0_place_2 rfl 0 rfl ?_
  refine z_iload_n hC 3 hl dX0_place_3 rfl 1 rfl ?_
  refine z_iload_n hC 4 hl dX0_place_4 rfl 2 rfl ?_
  have hpp2 := zPool_app (X := [(o, .inl (G.2 3, 1, .inr (.inl fo)))]) hpp
  rw [dW_app] at hH
  refine zy_back (wc := []) (zy_runV hC hH.2.2 hl.1 hH.1 hH.2.1 2 (As := [.int (iZ p), .int (iZ q)]) (rest := [.int (iZ 0), .ref o]) (m_X1_place lau s0 G _ hlt hthq ad F Ar kp pl (PW ++ [(o, .inl (G.2 3, 1, .inr (.inl fo)))]) pr pa pm pf nw n v wt b p q hn hFn hv hAv hwt hAw hb hFb hpl hnw hpc hpp2 hp hq) (lw_V q1393 q1394 q1395 q89 q1396) ⟨rfl, by decide, by decide, by decide +kernel⟩ (q0 := 0) (ci := 1) rfl rfl rfl rfl (Nat.le_of_ble_eq_true rfl) ⟨Nat.le_of_ble_eq_true rfl, Nat.le_of_ble_eq_true rfl⟩ ⟨Nat.le_of_ble_eq_true rfl, Nat.le_of_ble_eq_true rfl⟩ dX0_place_5) hH (fun q9 E cell H9 locs9 hX g1 g2 g3 hH9 => ?_) (fun z H locs hz hH => ?_)
  · have hX : (E = "java/lang/IndexOutOfBoundsException" ∧ ¬ (0 ≤ p ∧ p < (n : Int))) ∨ (E = "java/util/NoSuchElementException" ∧ (0 ≤ p ∧ p < (n : Int)) ∧ ¬ (0 ≤ q ∧ q ≤ 5)) := hX
    rw [← dW_app] at hH9
    refine zy_catch hC htb (by decide) (by decide) (by decide) (by decide) q1365 q1392 hni g1 g2 g3 (fun hE => ?_) (fun hE => ?_) (hX.imp And.left And.left)
    · have hX := hX.resolve_right (fun h => by rw [hE] at h; exact absurd h.1 (by decide))
      refine z_astore (lv' := [(4, .ref q9), (0, .ref (ad 99)), (1, .int (iZ p)), (2, .int (iZ q)), (3, .ref o)]) hC 13 hl dX0_place_13 (by decide) rfl (fun ls hl => ?_)
      refine z_iconst hC 15 dX0_place_15 ?_
      exact z_iret hC hH9 hQ 16 (1, 0, fo) dX0_place_16 rfl ⟨by unfold Sp_place; rw [if_neg hX.2]; exact ⟨rfl, rfl⟩, fun h => absurd h (by decide)⟩ rfl (Nat.le_of_ble_eq_true rfl) (Nat.le_of_ble_eq_true rfl)
    · have hX := hX.resolve_left (fun h => by rw [hE] at h; exact absurd h.1 (by decide))
      refine z_astore (lv' := [(4, .ref q9), (0, .ref (ad 99)), (1, .int (iZ p)), (2, .int (iZ q)), (3, .ref o)]) hC 17 hl dX0_place_17 (by decide) rfl (fun ls hl => ?_)
      refine z_iconst hC 19 dX0_place_19 ?_
      exact z_iret hC hH9 hQ 20 (2, 0, fo) dX0_place_20 rfl ⟨by unfold Sp_place; rw [if_pos hX.2.1, if_neg hX.2.2]; exact ⟨rfl, rfl⟩, fun h => absurd h (by decide)⟩ rfl (Nat.le_of_ble_eq_true rfl) (Nat.le_of_ble_eq_true rfl)
  · obtain ⟨hz, hzr⟩ : Sp_place n v wt b p q 0 z ∧ -2147483648 ≤ z ∧ z < 2147483648 := hz
    refine z_st (st' := [.int (iZ z), .int (iZ 0), .ref o]) rfl ?_
    refine z_i2l hC 8 dX0_place_8 hzr ?_
    have hx : (dW ad G F Ar kp pl (PW ++ [(o, .inl (G.2 3, 1, .inr (.inl fo)))]))[60 + PW.length]? = some (o, .inl (G.2 3, 1, .inr (.inl fo))) := dW_x
    refine va_last hC.1.1 hC.1.2.1 hC.2.2.2.2.2 hH.1 hH.2.1 hH.2.2 (60 + PW.length) 3 hx rfl (iZ_in (show 0 < 1 by decide) (by decide)) dX0_place_9 ?_
    rw [show (iZ 0).toNatClampNeg = 0 from by decide]
    intro H1 locs1 p1 d1 z1
    rw [dW_xset] at p1 d1
    rw [← dW_app] at p1 d1
    have hH1 : zH s0 s1 G as0 (dW ad G F Ar kp pl PW ++ [(o, .inl (G.2 3, 1, .inr (.inl (va_up fo 0 (lZ z)))))]) H1 locs1 := ⟨p1, d1, z1⟩
    refine z_goto hC 10 21 dX0_place_10 rfl ?_
    refine z_iconst hC 21 dX0_place_21 ?_
    exact z_iret hC hH1 hQ 22 (0, z, va_up fo 0 (lZ z)) dX0_place_22 rfl ⟨hz, fun _ => ⟨rfl, hzr⟩⟩ rfl (Nat.le_of_ble_eq_true rfl) (Nat.le_of_ble_eq_true rfl)
