/-! the desk's world: 99 the desk, its arrays under their fields' numbers, 200.. row before tried kept (a row: object, values, weights), 301.. the four rules -/
set_option maxRecDepth 100000
def dW0 (ad : Nat → Nat) (G : zG) (F : Nat → Int) (Ar : Nat → Nat → Int) (kp : Nat → Nat) (pl : Nat → Option Nat) : va_W := [(ad 99, .inr (1, [.ref (ad 0), .int (iZ (F 1)), .int (iZ (F 2)), .int (iZ (F 3)), .ref (ad 200), .ref (ad 203), .int (iZ (F 6)), .int (iZ (F 7)), .int (iZ (F 8)), .int (iZ (F 9)), .ref (ad 10), .ref (ad 11), .ref (ad 12), .ref (ad 13), .int (iZ (F 14)), .ref (ad 15), .ref (ad 16), .int (iZ (F 17)), .ref (ad 18), .ref (ad 19), .int (iZ (F 20)), .int (iZ (F 21)), .int (iZ (F 22)), .ref (ad 206), .ref (ad 24)])),
  (ad 10, .inl (G.2 5, 1000, .inr (.inr (.inr (.inr pl))))),
  (ad 11, .inl (G.2 6, 4, .inr (.inr (.inr (.inr (fun j => some (ad (301 + j)))))))),
  (ad 13, .inl (G.2 4, 12, .inr (.inr (.inr (.inr (fun j => some (ad (kp j)))))))),
  (ad 0, .inl (G.2 1, 900, .inl (zA (Ar 0)))),
  (ad 12, .inl (G.2 0, 3600, .inl (zA (Ar 12)))),
  (ad 15, .inl (G.2 0, 120, .inl (zA (Ar 15)))),
  (ad 16, .inl (G.2 2, 1000, .inl (zA (Ar 16)))),
  (ad 18, .inl (G.2 0, 120, .inl (zA (Ar 18)))),
  (ad 19, .inl (G.2 0, 1000, .inl (zA (Ar 19)))),
  (ad 24, .inl (G.2 0, 121, .inl (zA (Ar 24)))),
  (ad 200, .inr (2, [.ref (ad 201), .ref (ad 202), .int (iZ (F 200))])),
  (ad 201, .inl (G.2 0, 120, .inl (zA (Ar 201)))),
  (ad 202, .inl (G.2 0, 120, .inl (zA (Ar 202)))),
  (ad 203, .inr (2, [.ref (ad 204), .ref (ad 205), .int (iZ (F 203))])),
  (ad 204, .inl (G.2 0, 120, .inl (zA (Ar 204)))),
  (ad 205, .inl (G.2 0, 120, .inl (zA (Ar 205)))),
  (ad 206, .inr (2, [.ref (ad 207), .ref (ad 208), .int (iZ (F 206))])),
  (ad 207, .inl (G.2 0, 120, .inl (zA (Ar 207)))),
  (ad 208, .inl (G.2 0, 120, .inl (zA (Ar 208)))),
  (ad 209, .inr (2, [.ref (ad 210), .ref (ad 211), .int (iZ (F 209))])),
  (ad 210, .inl (G.2 0, 120, .inl (zA (Ar 210)))),
  (ad 211, .inl (G.2 0, 120, .inl (zA (Ar 211)))),
  (ad 212, .inr (2, [.ref (ad 213), .ref (ad 214), .int (iZ (F 212))])),
  (ad 213, .inl (G.2 0, 120, .inl (zA (Ar 213)))),
  (ad 214, .inl (G.2 0, 120, .inl (zA (Ar 214)))),
  (ad 215, .inr (2, [.ref (ad 216), .ref (ad 217), .int (iZ (F 215))])),
  (ad 216, .inl (G.2 0, 120, .inl (zA (Ar 216)))),
  (ad 217, .inl (G.2 0, 120, .inl (zA (Ar 217)))),
  (ad 218, .inr (2, [.ref (ad 219), .ref (ad 220), .int (iZ (F 218))])),
  (ad 219, .inl (G.2 0, 120, .inl (zA (Ar 219)))),
  (ad 220, .inl (G.2 0, 120, .inl (zA (Ar 220)))),
  (ad 221, .inr (2, [.ref (ad 222), .ref (ad 223), .int (iZ (F 221))])),
  (ad 222, .inl (G.2 0, 120, .inl (zA (Ar 222)))),
  (ad 223, .inl (G.2 0, 120, .inl (zA (Ar 223)))),
  (ad 224, .inr (2, [.ref (ad 225), .ref (ad 226), .int (iZ (F 224))])),
  (ad 225, .inl (G.2 0, 120, .inl (zA (Ar 225)))),
  (ad 226, .inl (G.2 0, 120, .inl (zA (Ar 226)))),
  (ad 227, .inr (2, [.ref (ad 228), .ref (ad 229), .int (iZ (F 227))])),
  (ad 228, .inl (G.2 0, 120, .inl (zA (Ar 228)))),
  (ad 229, .inl (G.2 0, 120, .inl (zA (Ar 229)))),
  (ad 230, .inr (2, [.ref (ad 231), .ref (ad 232), .int (iZ (F 230))])),
  (ad 231, .inl (G.2 0, 120, .inl (zA (Ar 231)))),
  (ad 232, .inl (G.2 0, 120, .inl (zA (Ar 232)))),
  (ad 233, .inr (2, [.ref (ad 234), .ref (ad 235), .int (iZ (F 233))])),
  (ad 234, .inl (G.2 0, 120, .inl (zA (Ar 234)))),
  (ad 235, .inl (G.2 0, 120, .inl (zA (Ar 235)))),
  (ad 236, .inr (2, [.ref (ad 237), .ref (ad 238), .int (iZ (F 236))])),
  (ad 237, .inl (G.2 0, 120, .inl (zA (Ar 237)))),
  (ad 238, .inl (G.2 0, 120, .inl (zA (Ar 238)))),
  (ad 239, .inr (2, [.ref (ad 240), .ref (ad 241), .int (iZ (F 239))])),
  (ad 240, .inl (G.2 0, 120, .inl (zA (Ar 240)))),
  (ad 241, .inl (G.2 0, 120, .inl (zA (Ar 241)))),
  (ad 242, .inr (2, [.ref (ad 243), .ref (ad 244), .int (iZ (F 242))])),
  (ad 243, .inl (G.2 0, 120, .inl (zA (Ar 243)))),
  (ad 244, .inl (G.2 0, 120, .inl (zA (Ar 244)))),
  (ad 301, .inr (3, [.ref (ad 99)])),
  (ad 302, .inr (4, [.ref (ad 99)])),
  (ad 303, .inr (5, [.ref (ad 99)])),
  (ad 304, .inr (6, [.ref (ad 99)]))]
def dPl (G : zG) (pr pa pm : Nat → Nat) (pf : Nat → Nat → Nat) : Nat → va_W
  | 0 => []
  | y + 1 => (if pm y = 0 then [] else wPl G (pr y) (pa y) (pm y) (pf y)) ++ dPl G pr pa pm pf y
def dP (ad : Nat → Nat) (G : zG) (F : Nat → Int) (Ar : Nat → Nat → Int) (kp : Nat → Nat) (pl : Nat → Option Nat) (pr pa pm : Nat → Nat) (pf : Nat → Nat → Nat) : va_W := dW0 ad G F Ar kp pl ++ dPl G pr pa pm pf 1000
theorem va_P_l {D : va_G} {cl : List vw_C} {w1 w2 : va_W} {H : Heap} (h : va_P D cl (w1 ++ w2) H) : va_P D cl w1 H := fun k q hk => h k q (by
  rw [List.getElem?_append_left (List.getElem?_eq_some_iff.mp hk).1]; exact hk)
theorem va_P_r {D : va_G} {cl : List vw_C} {w1 w2 : va_W} {H : Heap} (h : va_P D cl (w1 ++ w2) H) : va_P D cl w2 H := fun k q hk => h (w1.length + k) q (by
  rw [List.getElem?_append_right (Nat.le_add_right _ _), Nat.add_sub_cancel_left]; exact hk)
theorem dPl_at {D : va_G} {cl : List vw_C} {G : zG} {pr pa pm : Nat → Nat} {pf : Nat → Nat → Nat} {H : Heap} {y : Nat} : ∀ {N : Nat}, va_P D cl (dPl G pr pa pm pf N) H → y < N → 0 < pm y → va_P D cl (wPl G (pr y) (pa y) (pm y) (pf y)) H
  | 0, _, h, _ => absurd h (Nat.not_lt_zero _)
  | N + 1, hP, h, hm => by
    by_cases e : y = N
    · subst e
      have h1 := va_P_l hP
      rw [if_neg (by omega)] at h1
      exact h1
    · exact dPl_at (va_P_r hP) (by omega) hm
theorem dPl_mk {D : va_G} {cl : List vw_C} {G : zG} {pr pa pm : Nat → Nat} {pf : Nat → Nat → Nat} {H : Heap} : ∀ {N : Nat}, (∀ y, y < N → 0 < pm y → va_P D cl (wPl G (pr y) (pa y) (pm y) (pf y)) H) → va_P D cl (dPl G pr pa pm pf N) H
  | 0, _ => zp_nil
  | N + 1, h => va_P.app (by split; exact zp_nil; exact h N (Nat.lt_succ_self _) (by omega)) (dPl_mk (fun y hy => h y (by omega)))
theorem dP_l {D : va_G} {cl : List vw_C} {ad : Nat → Nat} {G : zG} {F : Nat → Int} {Ar : Nat → Nat → Int} {kp : Nat → Nat} {pl : Nat → Option Nat} {pr pa pm : Nat → Nat} {pf : Nat → Nat → Nat} {H : Heap} (h : va_P D cl (dP ad G F Ar kp pl pr pa pm pf) H) : va_P D cl (dW0 ad G F Ar kp pl) H := va_P_l h
theorem dP_p {D : va_G} {cl : List vw_C} {ad : Nat → Nat} {G : zG} {F : Nat → Int} {Ar : Nat → Nat → Int} {kp : Nat → Nat} {pl : Nat → Option Nat} {pr pa pm : Nat → Nat} {pf : Nat → Nat → Nat} {H : Heap} {y : Nat} (h : va_P D cl (dP ad G F Ar kp pl pr pa pm pf) H) (hy : y < 1000) (hm : 0 < pm y) : va_P D cl (wPl G (pr y) (pa y) (pm y) (pf y)) H := dPl_at (va_P_r h) hy hm
/-- NOWHERE's address -/
def zNwh (s0 : State) (nw : Nat) : Prop := va_Z "ModeDesk" "NOWHERE" "LModeDesk$Places;" (.ref nw) (fun q => s0.heap.size ≤ q) s0 s0.heap
section NWH
variable {pg : Program} {l : Launch} {ev : Env} {R : Room} {s0 s : State} {m : MethodId} {ar : Array Value} {bl : List Frame} {me : Method} {c : Code} {H : Heap} {locs : List Loc} {ce sl : Nat} {Q : State → Prop} {G : zG} {cc : ByteArray} {nL : Nat} {own : String} {ret : Option FieldType} {ls : Array Slot} {st : List Value} {as0 : List Nat}
theorem zp_gets (C : zC pg s0 s m ar me c G cc nL own ret) (hS : va_S (zB s0 s.heap.size as0) s.heap H locs) (pc : Nat) {idx : Nat} {CN n d : String} {v : Value} (hZ : va_Z CN n d v (fun q => s0.heap.size ≤ q) s0 s0.heap) (hq : Cond.fieldLink own idx CN n d ∈ lw_all) (hdg : decode cc pc = .ok (.getstatic idx, 3)) (kk : W pg l ev R s m ar bl me c H locs ce sl Q (F0 m (pc + 3) ls (v :: st))) : W pg l ev R s m ar bl me c H locs ce sl Q (F0 m pc ls st) := by
  obtain ⟨a1, a2, a3⟩ := C.2.2.2.2.1
  have h1 := (va_Z.moved a1.alike hZ).kept (H1 := s.heap) (fun a ha _ => a3 a ha)
  exact va_gets C.1.1 C.1.2.1 (va_Z.narrow h1 (B := zB s0 s.heap.size as0) (fun q hq => hq.1)) hS C.1.2.2.2.1 (C.1.2.2.2.2 _ hq) (fun _ h => h) hdg kk
end NWH
set_option maxHeartbeats 4000000 in
theorem u_X1_of (lau : Launch) (s0 : State) (G : zG) (ad : Nat → Nat) (F : Nat → Int) (Ar : Nat → Nat → Int) (kp : Nat → Nat) (pl : Nat → Option Nat) (y q nw : Nat) (hy : y < 1000) (hpl : pl y = some q ∨ (pl y = none ∧ q = nw)) (hnw : zNwh s0 nw) : zPur (S := Unit) lau yX1_of cX1_of 2 (some (.object "ModeDesk$Places")) 0 0 s0 G [.ref (ad 99), .int (iZ (y : Int))] (dW0 ad G F Ar kp pl) (fun _ => some (.ref q)) (fun _ => True) := by
  refine zPur.of (by decide) (Nat.le_of_ble_eq_true rfl) ?_
  intro pg ev s1 mi ar bl me cd ls Q hC hP hl hQ
  have hl : lv_has ls 2 [(0, .ref (ad 99)), (1, .int (iZ (y : Int)))] := hl
  refine z_aload_n hC 0 hl dX1_of_0 rfl 0 rfl ?_
  refine zp_get (v := .ref (ad 10)) hC hP 1 in_X1 rfl 10 (by decide) q220 0 rfl rfl dX1_of_1 ?_
  refine z_iload_n hC 4 hl dX1_of_4 rfl 1 rfl ?_
  rcases hpl with hpl | ⟨hpl, rfl⟩
  · refine zp_aldq (CN := RX10) (v := .ref q) hC hP 5 1 5 y rfl rfl (by decide) rfl (by omega) (by rw [hpl]; rfl) dX1_of_5 ?_
    refine lv_ifnonnull hC.1.1 hC.1.2.1 dX1_of_6 (tgt := 15) rfl ?_
    refine z_aload_n hC 15 hl dX1_of_15 rfl 0 rfl ?_
    refine zp_get (v := .ref (ad 10)) hC hP 16 in_X1 rfl 10 (by decide) q220 0 rfl rfl dX1_of_16 ?_
    refine z_iload_n hC 19 hl dX1_of_19 rfl 1 rfl ?_
    refine zp_aldq (CN := RX10) (v := .ref q) hC hP 20 1 5 y rfl rfl (by decide) rfl (by omega) (by rw [hpl]; rfl) dX1_of_20 ?_
    exact zp_aret hC hQ 21 () dX1_of_21 rfl trivial
  · refine zp_aldq (CN := RX10) (v := .null) hC hP 5 1 5 y rfl rfl (by decide) rfl (by omega) (by rw [hpl]; rfl) dX1_of_5 ?_
    refine lv_ifnonnullN hC.1.1 hC.1.2.1 dX1_of_6 ?_
    refine zp_gets hC zS0 9 hnw q740 dX1_of_9 ?_
    refine z_goto hC 12 21 dX1_of_12 rfl ?_
    exact zp_aret hC hQ 21 () dX1_of_21 rfl trivial
/-- NOWHERE as the premise tells it: an object of the class, whose many is 0 -/
def zNwo (s0 : State) (nw : Nat) : Prop := va_O RX10 nw (fun q => s0.heap.size ≤ q) s0 s0.heap ∧ va_OF RX10 "many" "I" (.int (iZ ((0 : Nat) : Int))) nw (fun q => s0.heap.size ≤ q) s0 s0.heap
def zPl (s0 : State) (G : zG) (H : Heap) (p pa x : Nat) (f : Nat → Nat) : Prop := va_P G.1 vwCl (wPl G p pa x f) H ∨ (x = 0 ∧ zNwo s0 p)
section NWO
variable {pg : Program} {l : Launch} {ev : Env} {R : Room} {s0 s : State} {m : MethodId} {ar : Array Value} {bl : List Frame} {me : Method} {c : Code} {H : Heap} {locs : List Loc} {ce sl : Nat} {Q : State → Prop} {G : zG} {cc : ByteArray} {nL : Nat} {own : String} {ret : Option FieldType} {ls : Array Slot} {st : List Value} {as0 : List Nat} {p pa x : Nat} {f : Nat → Nat}
theorem zNwO_o (C : zC pg s0 s m ar me c G cc nL own ret) (h : zNwo s0 p) : va_O RX10 p (zB s0 s.heap.size as0) s s.heap := by
  obtain ⟨a1, a2, a3⟩ := C.2.2.2.2.1
  exact ((va_O.moved a1.alike h.1).kept (H1 := s.heap) (fun a ha _ => a3 a ha)).narrow (fun q hq => hq.1)
theorem zNwO_f (C : zC pg s0 s m ar me c G cc nL own ret) (h : zNwo s0 p) : va_OF RX10 "many" "I" (.int (iZ ((0 : Nat) : Int))) p (zB s0 s.heap.size as0) s s.heap := by
  obtain ⟨a1, a2, a3⟩ := C.2.2.2.2.1
  exact ((va_OF.moved a1.alike h.2).kept (H1 := s.heap) (fun a ha _ => a3 a ha)).narrow (fun q hq => hq.1)
theorem zp_getO (C : zC pg s0 s m ar me c G cc nL own ret) (hS : va_S (zB s0 s.heap.size as0) s.heap H locs) (pc : Nat) {idx a : Nat} {o n d : String} {v : Value} (hF : va_OF o n d v a (zB s0 s.heap.size as0) s s.heap) (hq : Cond.fieldLink own idx o n d ∈ lw_all) (hdg : decode cc pc = .ok (.getfield idx, 3)) (kk : W pg l ev R s m ar bl me c H locs ce sl Q (F0 m (pc + 3) ls (v :: st))) : W pg l ev R s m ar bl me c H locs ce sl Q (F0 m pc ls (.ref a :: st)) := by
  obtain ⟨cf, k, fi, f, cell, h1, h2, h3, h4, h5, h6⟩ := hF.kept hS.2.1
  exact W.getf C.1.1 C.1.2.1 C.1.2.2.2.1 (C.1.2.2.2.2 _ hq) h1 h2 h3 h4 (v := v) h5 rfl rfl hdg kk
theorem zp_getON (C : zC pg s0 s m ar me c G cc nL own ret) (hS : va_S (zB s0 s.heap.size as0) s.heap H locs) (pc : Nat) {idx a : Nat} {o n d host : String} {v : Value} (hF : va_OF o n d v a (zB s0 s.heap.size as0) s s.heap) (hq : Cond.fieldLinkNest own idx o n d host ∈ lw_tbl) (hdg : decode cc pc = .ok (.getfield idx, 3)) (kk : W pg l ev R s m ar bl me c H locs ce sl Q (F0 m (pc + 3) ls (v :: st))) : W pg l ev R s m ar bl me c H locs ce sl Q (F0 m pc ls (.ref a :: st)) := by
  obtain ⟨cf, k, fi, f, cell, h1, h2, h3, h4, h5, h6⟩ := hF.kept hS.2.1
  exact va_Wgetf C.1.1 C.1.2.1 C.1.2.2.2.1 (va_Nw.use rfl (zNwF C.2.2.2.1 C.2.2.2.2.1 hq)) h1 h2 h3 h4 (v := v) h5 rfl rfl hdg kk
theorem zp_runVO (C : zC pg s0 s m ar me c G cc nL own ret) (hS : va_S (zB s0 s.heap.size as0) s.heap H locs) (hlz : ls.size = nL) {S : Type} {y : MethodName} {code' : ByteArray} {nL' fr lo idx b pc : Nat} {ret' : Option FieldType} {CN : String} (hO : va_O CN b (zB s0 s.heap.size as0) s s.heap) (n : Nat) {As rest : List Value} {res : S → Option Value} {P : S → Prop} (hM : zPur l y code' nL' ret' fr lo s0 G (.ref b :: As) [] res P)
    (hG : GoodIn lw_all (wsV own idx CN y (ws_ y code' nL' ret'))) (hd : y.cls = CN ∧ y.cls ≠ "java/lang/invoke/MethodHandle" ∧ y.cls ≠ "java/lang/invoke/VarHandle" ∧ (parseMethodDescriptor y.desc).map (fun d => d.parameters.length) = some n) (hn : As.length = n) (hst : st = As.reverse ++ .ref b :: rest) (hW : (rest.map fun v => v.category).sum ≤ 8) (hR : fr + 1 ≤ R.frames ∧ 8 + (nL' + 11) + lo ≤ R.locals) (hf : ce + 0 ≤ R.cells ∧ sl + 0 ≤ R.slots) (hdg : decode cc pc = .ok (.invokevirtual idx, 3)) :
    va_Run pg l ev R s m ar bl me c H locs ce sl 0 0 (F0 m pc ls st) rest (zPq res P (Value.ref b :: As).toArray) zNo :=
  va_runV (As := As) (rest := rest) C.1 hM (cwV n C.1.2.2.2.2 hG rfl rfl rfl hd hR) ⟨zPp_blind, va_Orecv hO hS, zp_pre C hS zp_nil _⟩ rfl hn hlz hst (lv_room (pc := pc) (ls := ls) (rest := st) hW) hdg hf
/-- a call on a Places object, or on NOWHERE -/
theorem zw_run (C : zC pg s0 s m ar me c G cc nL own ret) (hS : va_S (zB s0 s.heap.size as0) s.heap H locs) (hlz : ls.size = nL) (hP : zPl s0 G H p pa x f) {S : Type} {y : MethodName} {code' : ByteArray} {nL' fr lo idx pc : Nat} {ret' : Option FieldType} (n : Nat) {As rest : List Value} {res : S → Option Value} {P : S → Prop} (hM : zPur l y code' nL' ret' fr lo s0 G (.ref p :: As) (wPl G p pa x f) res P) (hM0 : x = 0 → zNwo s0 p → zPur l y code' nL' ret' fr lo s0 G (.ref p :: As) [] res P)
    (hG : GoodIn lw_all (wsV own idx RX10 y (ws_ y code' nL' ret'))) (hd : y.cls = RX10 ∧ y.cls ≠ "java/lang/invoke/MethodHandle" ∧ y.cls ≠ "java/lang/invoke/VarHandle" ∧ (parseMethodDescriptor y.desc).map (fun d => d.parameters.length) = some n) (hn : As.length = n) (hst : st = As.reverse ++ .ref p :: rest) (hW : (rest.map fun v => v.category).sum ≤ 8) (hR : fr + 1 ≤ R.frames ∧ 8 + (nL' + 11) + lo ≤ R.locals) (hf : ce + 0 ≤ R.cells ∧ sl + 0 ≤ R.slots) (hdg : decode cc pc = .ok (.invokevirtual idx, 3)) :
    va_Run pg l ev R s m ar bl me c H locs ce sl 0 0 (F0 m pc ls st) rest (zPq res P (Value.ref p :: As).toArray) zNo := by
  rcases hP with hP | ⟨hx, hO⟩
  · exact zp_runV C hS hlz hP n hM hG hd (q0 := 0) (ci := 9) rfl rfl hn hst hW hR hf hdg
  · exact zp_runVO C hS hlz (zNwO_o C hO) n (hM0 hx hO) hG hd hn hst hW hR hf hdg
theorem zw_manyN (C : zC pg s0 s m ar me c G cc nL own ret) (hS : va_S (zB s0 s.heap.size as0) s.heap H locs) (hP : zPl s0 G H p pa x f) (pc : Nat) {idx : Nat} {host : String} (hq : Cond.fieldLinkNest own idx RX10 "many" "I" host ∈ lw_tbl) (hdg : decode cc pc = .ok (.getfield idx, 3)) (kk : W pg l ev R s m ar bl me c H locs ce sl Q (F0 m (pc + 3) ls (.int (iZ (x : Int)) :: st))) : W pg l ev R s m ar bl me c H locs ce sl Q (F0 m pc ls (.ref p :: st)) := by
  rcases hP with hP | ⟨rfl, hO⟩
  · exact zp_getN C hP pc in_X10 rfl 1 (by decide) hq 0 rfl rfl hdg kk
  · exact zp_getON C hS pc (zNwO_f C hO) hq hdg kk
end NWO
set_option maxHeartbeats 4000000 in
theorem u_X10_ahead_nw (lau : Launch) (s0 : State) (G : zG) (p : Nat) (pa : Nat) (x : Nat) (f : Nat → Nat) (n : Nat) (v : Nat → Nat) (y : Nat) (q : Int) (hn : n ≤ 120) (hc : PlC n v y x f) (hr_q : -2147483648 ≤ q ∧ q < 2147483648) (hx : x = 0) (hO : zNwo s0 p) : zPur (S := Unit) lau yX10_ahead cX10_ahead 5 (some .int) 0 0 s0 G [.ref (p), .int (iZ (q))] [] (fun (_ : Unit) => some (.int (iZ (((cnt v 0 (plq q n) y : Nat) : Int))))) (fun (_ : Unit) => True) := by
  refine zPur.of (by decide) (Nat.le_of_ble_eq_true rfl) ?_
  intro pg ev s1 mi ar bl me cd ls Q hC hP hl hQ
  have hl : lv_has ls 5 [(0, .ref (p)), (1, .int (iZ (q)))] := hl
  have e : cnt v 0 (plq q n) y = 0 := by
    have h1 := cnt_mono (v := v) (a := 0) (x := y) (show plq q n ≤ n by unfold plq; omega)
    have h2 := hc.1
    omega
  refine z_iconst hC 0 dX10_ahead_0 ?_
  refine z_istore_n (lv' := [(2, .int (iZ (0))), (0, .ref (p)), (1, .int (iZ (q)))]) hC 1 hl dX10_ahead_1 rfl (by decide) rfl (fun ls hl => ?_)
  refine z_aload_n hC 2 hl dX10_ahead_2 rfl 1 rfl ?_
  refine zp_getO hC zS0 3 (zNwO_f (as0 := []) hC hO) q707 dX10_ahead_3 ?_
  refine z_istore_n (lv' := [(3, .int (iZ ((0 : Nat) : Int))), (2, .int (iZ (0))), (0, .ref (p)), (1, .int (iZ (q)))]) hC 6 hl dX10_ahead_6 rfl (by decide) rfl (fun ls hl => ?_)
  refine z_iload_n hC 7 hl dX10_ahead_7 rfl 1 rfl ?_
  refine z_iload_n hC 8 hl dX10_ahead_8 rfl 0 rfl ?_
  refine z_icmp_ge hC 9 44 dX10_ahead_9 rfl (by omega) (by omega) (fun hb1 => ?_) (fun hb1 => ?_)
  · refine z_iload_n hC 44 hl dX10_ahead_44 rfl 1 rfl ?_
    rw [e] at hQ
    exact zp_iret hC hQ 45 (()) dX10_ahead_45 rfl trivial
  · exfalso
    omega
set_option maxHeartbeats 4000000 in
theorem u_X10_within_nw (lau : Launch) (s0 : State) (G : zG) (p : Nat) (pa : Nat) (x : Nat) (f : Nat → Nat) (n : Nat) (v : Nat → Nat) (y : Nat) (l : Nat) (r : Nat) (hn : n ≤ 120) (hc : PlC n v y x f) (hlr : l ≤ r) (hrn : r ≤ n) (hx : x = 0) (hO : zNwo s0 p) : zPur (S := Unit) lau yX10_within cX10_within 3 (some .int) 1 24 s0 G [.ref (p), .int (iZ ((l : Int))), .int (iZ ((r : Int) - 1))] [] (fun (_ : Unit) => some (.int (iZ (((cnt v l r y : Nat) : Int))))) (fun (_ : Unit) => True) := by
  refine zPur.of (by decide) (Nat.le_of_ble_eq_true rfl) ?_
  intro pg ev s1 mi ar bl me cd ls Q hC hP hl hQ
  have hl : lv_has ls 3 [(0, .ref (p)), (1, .int (iZ ((l : Int)))), (2, .int (iZ ((r : Int) - 1)))] := hl
  refine z_aload_n hC 0 hl dX10_within_0 rfl 0 rfl ?_
  refine z_iload_n hC 1 hl dX10_within_1 rfl 2 rfl ?_
  refine z_iconst hC 2 dX10_within_2 ?_
  refine z_iadd (e := (r : Int)) hC 3 dX10_within_3 (by omega) ?_
  refine zp_back (zp_runVO hC (zS0) hl.1 (zNwO_o (as0 := []) hC hO) 1 (As := [.int (iZ ((r : Int)))]) (rest := []) (u_X10_ahead_nw lau s0 G p pa x f n v y (r : Int) hn hc (by omega) hx hO) (lw_V q746 q747 q748 q110 q749) ⟨rfl, by decide, by decide, by decide +kernel⟩ rfl rfl (Nat.le_of_ble_eq_true rfl) ⟨Nat.le_of_ble_eq_true rfl, Nat.le_of_ble_eq_true rfl⟩ ⟨by first | decide | omega, by first | decide | omega⟩ dX10_within_4) (fun _ hpost => ?_)
  refine z_st (st' := [.int (iZ (((cnt v 0 (plq (r : Int) n) y : Nat) : Int)))]) rfl ?_
  refine z_aload_n hC 7 hl dX10_within_7 rfl 0 rfl ?_
  refine z_iload_n hC 8 hl dX10_within_8 rfl 1 rfl ?_
  refine zp_back (zp_runVO hC (zS0) hl.1 (zNwO_o (as0 := []) hC hO) 1 (As := [.int (iZ ((l : Int)))]) (rest := [.int (iZ (((cnt v 0 (plq (r : Int) n) y : Nat) : Int)))]) (u_X10_ahead_nw lau s0 G p pa x f n v y (l : Int) hn hc (by omega) hx hO) (lw_V q746 q747 q748 q110 q749) ⟨rfl, by decide, by decide, by decide +kernel⟩ rfl rfl (Nat.le_of_ble_eq_true rfl) ⟨Nat.le_of_ble_eq_true rfl, Nat.le_of_ble_eq_true rfl⟩ ⟨by first | decide | omega, by first | decide | omega⟩ dX10_within_9) (fun _ hpost => ?_)
  refine z_st (st' := [.int (iZ (((cnt v 0 (plq (l : Int) n) y : Nat) : Int))), .int (iZ (((cnt v 0 (plq (r : Int) n) y : Nat) : Int)))]) rfl ?_
  refine z_isub (e := ((cnt v 0 (plq (r : Int) n) y : Nat) : Int) - ((cnt v 0 (plq (l : Int) n) y : Nat) : Int)) hC 12 dX10_within_12 rfl ?_
  refine z_st (st' := [.int (iZ (((cnt v l r y : Nat) : Int)))]) (zcons (zieq (by exact qlc_in hlr hrn)) rfl) ?_
  exact zp_iret hC hQ 13 (()) dX10_within_13 rfl trivial
