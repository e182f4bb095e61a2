/-! iterators over Places -/
set_option maxRecDepth 100000
section ZITER
variable {pg : Program} {l : Launch} {ev : Env} {R : Room} {s0 s : State} {m : MethodId} {ar : Array Value} {bl : List Frame} {me : Method} {c : Code} {H : Heap} {locs : List Loc} {ce sl : Nat} {Q : State → Prop} {G : zG} {cc : ByteArray} {nL : Nat} {own : String} {ret : Option FieldType} {ls : Array Slot} {st : List Value} {as0 : List Nat} {w : va_W} {p pa x : Nat} {f : Nat → Nat}
theorem va_D_nil {A : Nat → Prop} : va_D A [] := ⟨fun i j p q h => by simp at h, fun k q h => by simp at h⟩
theorem z_runVR (C : zC pg s0 s m ar me c G cc nL own ret) (hS : va_S (zB s0 s.heap.size as0) s.heap H locs) (hlz : ls.size = nL) {S : Type} {y : MethodName} {code' : ByteArray} {nL' fr lo mc ms idx b pc : Nat} {ret' : Option FieldType} {CN : String} (hr : ∃ cell : Cell, H[b]? = some cell ∧ cell.vm.isStatics = false ∧ s.vm.findClass CN = some cell.cls) (n : Nat) {As rest : List Value} {res : S → Option Value} {P : S → Prop} {w' : S → va_W} (hM : zMet l y code' nL' ret' fr lo mc ms s0 G H.size (.ref b :: As) [] res P w')
    (hG : GoodIn lw_all (wsV own idx CN y (ws_ y code' nL' ret'))) (hd : y.cls = CN ∧ y.cls ≠ "java/lang/invoke/MethodHandle" ∧ y.cls ≠ "java/lang/invoke/VarHandle" ∧ (parseMethodDescriptor y.desc).map (fun d => d.parameters.length) = some n) (hn : As.length = n) (hst : st = As.reverse ++ .ref b :: rest) (hW : (rest.map fun v => v.category).sum ≤ 8) (hR : fr + 1 ≤ R.frames ∧ 8 + (nL' + 11) + lo ≤ R.locals) (hf : ce + mc ≤ R.cells ∧ sl + ms ≤ R.slots) (hdg : decode cc pc = .ok (.invokevirtual idx, 3)) :
    va_Run pg l ev R s m ar bl me c H locs ce sl mc ms (F0 m pc ls st) rest (zQc s0 G [] res P w' (Value.ref b :: As).toArray) (zB s0 H.size (([] : va_W).map Prod.fst)) :=
  va_runV (As := As) (rest := rest) C.1 hM (cwV n C.1.2.2.2.2 hG rfl rfl rfl hd hR) ⟨zPc_blind, hr, z_pre C hS zp_nil va_D_nil _⟩ rfl hn hlz hst (lv_room (pc := pc) (ls := ls) (rest := st) hW) hdg hf
theorem z_runF (C : zC pg s0 s m ar me c G cc nL own ret) (hS : va_S (zB s0 s.heap.size as0) s.heap H locs) (hlz : ls.size = nL) {wc : va_W} (hP : va_P G.1 vwCl wc H) (hD : va_D (zB s0 s.heap.size as0) wc) {S : Type} {x y : MethodName} {code' : ByteArray} {nL' fr lo mc ms idx cnt ci N b q0 pc : Nat} {ret' : Option FieldType} {CN : String} {T : u_T} {fs : List Value} (n : Nat) {As rest : List Value} {res : S → Option Value} {P : S → Prop} {w' : S → va_W} (hM : zMet l y code' nL' ret' fr lo mc ms s0 G H.size (.ref b :: As) wc res P w')
    (hG : GoodIn lw_all (va_wsF own idx CN x y (ws_ y code' nL' ret'))) (hF : ∀ U : State, zSt U G → va_Fw CN x y U) (hd : x.cls ≠ "java/lang/invoke/MethodHandle" ∧ x.cls ≠ "java/lang/invoke/VarHandle" ∧ (parseMethodDescriptor x.desc).map (fun d => d.parameters.length) = some n) (hq : wc[q0]? = some (b, .inr (ci, fs))) (hc : vwCl[ci]? = some (CN, T, N)) (hn : As.length = n) (hst : st = As.reverse ++ .ref b :: rest) (hW : (rest.map fun v => v.category).sum ≤ 8) (hR : fr + 1 ≤ R.frames ∧ 8 + (nL' + 11) + lo ≤ R.locals) (hf : ce + mc ≤ R.cells ∧ sl + ms ≤ R.slots) (hdg : decode cc pc = .ok (.invokeinterface idx cnt, 5)) :
    va_Run5 pg l ev R s m ar bl me c H locs ce sl mc ms (F0 m pc ls st) rest (zQc s0 G wc res P w' (Value.ref b :: As).toArray) (zB s0 H.size (wc.map Prod.fst)) :=
  va_runF (As := As) (rest := rest) (C.2.2.2.2.2.1 ci _ hc).2 C.1 hM (va_cwF n C.1.2.2.2.2 hG rfl rfl rfl ((hF s0 C.2.2.2.1).moved ⟨hd.1, hd.2.1⟩ C.2.2.2.2.1.1.alike) hd hR) ⟨zPc_blind, va_recv C.2.2.2.2.2 hP hc hq, z_pre C hS hP hD _⟩ rfl hn hlz hst (lv_room (pc := pc) (ls := ls) (rest := st) hW) hdg hf
theorem zPl_recv (C : zC pg s0 s m ar me c G cc nL own ret) (hS : va_S (zB s0 s.heap.size as0) s.heap H locs) (hP : zPl s0 G H p pa x f) : ∃ cell : Cell, H[p]? = some cell ∧ cell.vm.isStatics = false ∧ s.vm.findClass RX10 = some cell.cls := by
  rcases hP with hP | ⟨_, hO⟩
  · exact va_recv (q0 := 0) C.2.2.2.2.2 hP (show vwCl[9]? = some (RX10, TX10, 2) from rfl) rfl
  · exact va_Orecv (zNwO_o C hO) hS
end ZITER
set_option maxHeartbeats 4000000 in
theorem m_X10_iterator (lau : Launch) (s0 : State) (G : zG) (sz : Nat) (p : Nat) : zMet (S := Nat) lau yX10_iterator cX10_iterator 1 (some (.object "java/util/Iterator")) 2 33 1 2 s0 G sz [.ref p] [] (fun q => some (.ref q)) (fun _ => True) (fun q => [(q, .inr (10, [.int (iZ ((0 : Nat) : Int)), .ref p]))]) := by
  refine zMet.of (by decide) (Nat.le_of_ble_eq_true rfl) ?_
  intro pg ev s1 mi ar bl me cd ls Q as0 hC hH hl hQ hsz
  generalize s1.heap = H at hH ⊢
  generalize ([] : List Loc) = locs at hH ⊢
  have hl : lv_has ls 1 [(0, .ref p)] := hl
  refine z_new (ci := 10) (N := 2) hC hH 0 [.int (0), .null] tyX11 in_X11 tyX11_ok rfl q892 q893 q115 (fun j hj => by rcases (show j = 0 ∨ j = 1 from by omega) with rfl | rfl <;> rfl) ⟨Nat.le_of_ble_eq_true rfl, Nat.le_of_ble_eq_true rfl⟩ dX10_iterator_0 (fun q H hH => ?_)
  refine z_dup hC 3 dX10_iterator_3 rfl ?_
  refine z_aload_n hC 4 hl dX10_iterator_4 rfl 0 rfl ?_
  refine z_subN (z_runI hC hH.2.2 hl.1 (z_subP hH.1 [0] rfl) (z_subD hH.2.1 [0] (by decide) rfl) 1 (As := [.ref p]) (rest := [.ref q]) (m_X11_init lau s0 G _ q p) (lw_meth q896) q894 ⟨q115, q895⟩ rfl ⟨by decide, by decide, by decide +kernel⟩ rfl rfl (Nat.le_of_ble_eq_true rfl) ⟨Nat.le_of_ble_eq_true rfl, Nat.le_of_ble_eq_true rfl⟩ ⟨Nat.le_of_ble_eq_true rfl, Nat.le_of_ble_eq_true rfl⟩ dX10_iterator_5) hH [0] rfl (by decide) (fun _ => rfl) (fun _ H locs hpost hH => ?_)
  refine z_st (st' := [.ref q]) rfl ?_
  exact z_aret hC hH hQ 8 q dX10_iterator_8 rfl trivial rfl (Nat.le_of_ble_eq_true rfl) (Nat.le_of_ble_eq_true rfl)
set_option maxHeartbeats 4000000 in
theorem u_X11_hasNext_nw (lau : Launch) (s0 : State) (G : zG) (it p k x : Nat) (hx : x = 0) (hk : k ≤ 120) (hO : zNwo s0 p) : zPur (S := Int) lau yX11_hasNext cX11_hasNext 1 (some .boolean) 0 0 s0 G [.ref it] [(it, .inr (10, [.int (iZ (k : Int)), .ref p]))] (fun (r_ : Int) => some (.int (iZ r_))) (fun (r_ : Int) => ((r_ = 1 ∧ (k < x)) ∨ (r_ = 0 ∧ ¬ (k < x)))) := by
  refine zPur.of (by decide) (Nat.le_of_ble_eq_true rfl) ?_
  intro pg ev s1 mi ar bl me cd ls Q hC hP hl hQ
  have hl : lv_has ls 1 [(0, .ref (it))] := hl
  refine z_aload_n hC 0 hl dX11_hasNext_0 rfl 0 rfl ?_
  refine zp_get (v := .int (iZ ((k : Int)))) hC hP 1 in_X11 rfl 0 (by decide) q898 0 rfl (rfl) dX11_hasNext_1 ?_
  refine z_aload_n hC 4 hl dX11_hasNext_4 rfl 0 rfl ?_
  refine zp_get (v := .ref (p)) hC hP 5 in_X11 rfl 1 (by decide) q899 0 rfl (rfl) dX11_hasNext_5 ?_
  refine zp_getON hC zS0 8 (zNwO_f (as0 := []) hC hO) q708 dX11_hasNext_8 ?_
  refine z_icmp_ge hC 11 18 dX11_hasNext_11 rfl (by omega) (by omega) (fun hb1 => ?_) (fun hb1 => ?_)
  · refine z_iconst hC 18 dX11_hasNext_18 ?_
    exact zp_zret hC hQ 19 (0) dX11_hasNext_19 (by rfl) rfl (Or.inr ⟨rfl, by omega⟩)
  · exfalso
    omega
set_option maxHeartbeats 4000000 in
theorem m_X11_next_2 (lau : Launch) (s0 : State) (G : zG) (sz : Nat) (it p pa k x : Nat) (f : Nat → Nat) (hk : k < x) (hx : x ≤ 120) (hf : f k < 120) (hB : zBxs s0) : zMet (S := Nat) lau yX11_next_2 cX11_next_2 1 (some (.object "java/lang/Integer")) 1 20 0 0 s0 G sz [.ref it] ((it, .inr (10, [.int (iZ (k : Int)), .ref p])) :: wPl G p pa x f) (fun y => some (.ref y)) (fun y => zBo s0 y (f k)) (fun _ => (it, .inr (10, [.int (iZ ((k + 1 : Nat) : Int)), .ref p])) :: wPl G p pa x f) := by
  refine zMet.of (by decide) (Nat.le_of_ble_eq_true rfl) ?_
  intro pg ev s1 mi ar bl me cd ls Q as0 hC hH hl hQ hsz
  generalize s1.heap = H at hH ⊢
  generalize ([] : List Loc) = locs at hH ⊢
  have hl : lv_has ls 1 [(0, .ref it)] := hl
  refine z_aload_n hC 0 hl dX11_next_2_0 rfl 0 rfl ?_
  refine zp_get (v := .int (iZ ((k : Int)))) hC hH.1 1 in_X11 rfl 0 (by decide) q898 0 rfl rfl dX11_next_2_1 ?_
  refine z_aload_n hC 4 hl dX11_next_2_4 rfl 0 rfl ?_
  refine zp_get (v := .ref p) hC hH.1 5 in_X11 rfl 1 (by decide) q899 0 rfl rfl dX11_next_2_5 ?_
  refine zp_getN (v := .int (iZ ((x : Int)))) hC hH.1 8 in_X10 rfl 1 (by decide) q708 1 rfl rfl dX11_next_2_8 ?_
  refine z_icmp_ne_t hC 11 22 dX11_next_2_11 rfl (by omega) (by omega) (by omega) ?_
  refine z_aload_n hC 22 hl dX11_next_2_22 rfl 0 rfl ?_
  refine z_dup hC 23 dX11_next_2_23 rfl ?_
  refine zp_get (v := .int (iZ ((k : Int)))) hC hH.1 24 in_X11 rfl 0 (by decide) q898 0 rfl rfl dX11_next_2_24 ?_
  refine z_iconst hC 27 dX11_next_2_27 ?_
  refine z_iadd (e := ((k + 1 : Nat) : Int)) hC 28 dX11_next_2_28 (by omega) ?_
  refine z_put hC hH 29 tyX11 in_X11 tyX11_ok nmX11 rfl 0 (by decide) q898 0 rfl rfl rfl rfl (Nat.le_of_ble_eq_true rfl) rfl dX11_next_2_29 (fun H locs hH => ?_)
  have hH : zH s0 s1 G as0 ((it, .inr (10, [.int (iZ ((k + 1 : Nat) : Int)), .ref p])) :: wPl G p pa x f) H locs := hH
  refine z_aload_n hC 32 hl dX11_next_2_32 rfl 0 rfl ?_
  refine zp_get (v := .ref p) hC hH.1 33 in_X11 rfl 1 (by decide) q899 0 rfl rfl dX11_next_2_33 ?_
  refine zp_getN (v := .ref pa) hC hH.1 36 in_X10 rfl 0 (by decide) q705 1 rfl rfl dX11_next_2_36 ?_
  refine z_aload_n hC 39 hl dX11_next_2_39 rfl 0 rfl ?_
  refine zp_get (v := .int (iZ (((k + 1 : Nat) : Int)))) hC hH.1 40 in_X11 rfl 0 (by decide) q898 0 rfl rfl dX11_next_2_40 ?_
  refine z_iconst hC 43 dX11_next_2_43 ?_
  refine z_isub (e := (k : Int)) hC 44 dX11_next_2_44 (by omega) ?_
  refine zp_iald (x := ((f k : Nat) : Int)) hC hH.1 45 2 k rfl (by decide) rfl (by omega) rfl dX11_next_2_45 ?_
  refine zp_back (zp_runS hC hH.2.2 hl.1 zp_nil 1 (As := [.int (iZ ((f k : Nat) : Int))]) (rest := []) (u_J16_valueOf lau s0 G ((f k : Nat) : Int) (by omega) hB) (lw_S q957 q958 q117 q959) ⟨by decide, by decide, by decide +kernel⟩ rfl rfl (Nat.le_of_ble_eq_true rfl) ⟨Nat.le_of_ble_eq_true rfl, Nat.le_of_ble_eq_true rfl⟩ ⟨Nat.le_of_ble_eq_true rfl, Nat.le_of_ble_eq_true rfl⟩ dX11_next_2_46) (fun y hpost => ?_)
  refine z_st (st' := [.ref y]) rfl ?_
  exact z_aret hC hH hQ 49 y dX11_next_2_49 rfl hpost rfl (Nat.le_refl _) (Nat.le_refl _)
set_option maxHeartbeats 4000000 in
theorem m_X11_next (lau : Launch) (s0 : State) (G : zG) (sz : Nat) (it p pa k x : Nat) (f : Nat → Nat) (hk : k < x) (hx : x ≤ 120) (hf : f k < 120) (hB : zBxs s0) : zMet (S := Nat) lau yX11_next cX11_next 1 (some (.object "java/lang/Object")) 2 40 0 0 s0 G sz [.ref it] ((it, .inr (10, [.int (iZ (k : Int)), .ref p])) :: wPl G p pa x f) (fun y => some (.ref y)) (fun y => zBo s0 y (f k)) (fun _ => (it, .inr (10, [.int (iZ ((k + 1 : Nat) : Int)), .ref p])) :: wPl G p pa x f) := by
  refine zMet.of (by decide) (Nat.le_of_ble_eq_true rfl) ?_
  intro pg ev s1 mi ar bl me cd ls Q as0 hC hH hl hQ hsz
  generalize s1.heap = H at hH ⊢
  generalize ([] : List Loc) = locs at hH ⊢
  have hl : lv_has ls 1 [(0, .ref it)] := hl
  refine z_aload_n hC 0 hl dX11_next_0 rfl 0 rfl ?_
  refine z_same (z_runV hC hH.2.2 hl.1 hH.1 hH.2.1 0 (As := []) (rest := []) (m_X11_next_2 lau s0 G _ it p pa k x f hk hx hf hB) (lw_V q930 q931 q932 q115 q933) ⟨rfl, by decide, by decide, by decide +kernel⟩ (q0 := 0) (ci := 10) rfl rfl rfl rfl (Nat.le_of_ble_eq_true rfl) ⟨Nat.le_of_ble_eq_true rfl, Nat.le_of_ble_eq_true rfl⟩ ⟨Nat.le_of_ble_eq_true rfl, Nat.le_of_ble_eq_true rfl⟩ dX11_next_1) hH (fun y H locs hpost hH => ?_)
  refine z_st (st' := [.ref y]) rfl ?_
  exact z_aret hC hH hQ 4 y dX11_next_4 rfl hpost rfl (Nat.le_refl _) (Nat.le_refl _)
