/-! iterators in the desk's world -/
set_option maxRecDepth 100000
theorem set_same {α : Type} : ∀ {l : List α} {i : Nat} {a : α}, l[i]? = some a → l.set i a = l
  | [], _, _, _ => rfl
  | x :: l, 0, a, h => by cases h; rfl
  | x :: l, i + 1, a, h => by
    show x :: l.set i a = x :: l
    rw [set_same (by simpa using h)]
theorem PlC_120 {n y m : Nat} {v f : Nat → Nat} (h : PlC n v y m f) (hn : n ≤ 120) : m ≤ 120 := by
  have h1 := h.1
  have h2 := cnt_le v 0 n y
  omega
def xHasN : MethodName := ⟨"java/util/Iterator", "hasNext", "()Z"⟩
def xNext : MethodName := ⟨"java/util/Iterator", "next", "()Ljava/lang/Object;"⟩
section ZIT2
variable {pg : Program} {l : Launch} {ev : Env} {R : Room} {s0 s : State} {m : MethodId} {ar : Array Value} {bl : List Frame} {me : Method} {c : Code} {H : Heap} {locs : List Loc} {ce sl : Nat} {Q : State → Prop} {G : zG} {cc : ByteArray} {nL : Nat} {own : String} {ret : Option FieldType} {ls : Array Slot} {st : List Value} {as0 : List Nat} {w : va_W} {ad : Nat → Nat} {F : Nat → Int} {Ar : Nat → Nat → Int} {kp : Nat → Nat} {pl : Nat → Option Nat} {PW : va_W} {pr pa pm : Nat → Nat} {pf : Nat → Nat → Nat}
theorem z_iter (C : zC pg s0 s m ar me c G cc nL own ret) (hH : zH s0 s G as0 w H locs) (hlz : ls.size = nL) {p pa x : Nat} {f : Nat → Nat} (hP : zPl s0 G H p pa x f) (pc : Nat) {idx : Nat} (hq : Cond.methodLink own idx yX10_iterator ∈ lw_all) {rest : List Value} (hW : (rest.map fun v => v.category).sum ≤ 8) (hR : 2 + 1 ≤ R.frames ∧ 8 + (1 + 11) + 33 ≤ R.locals) (hf : ce + 1 ≤ R.cells ∧ sl + 2 ≤ R.slots) (hdg : decode cc pc = .ok (.invokevirtual idx, 3))
    (kk : ∀ (q : Nat) (H1 : Heap) (locs1 : List Loc), zH s0 s G as0 (w ++ [(q, .inr (10, [.int (iZ ((0 : Nat) : Int)), .ref p]))]) H1 locs1 → W pg l ev R s m ar bl me c H1 locs1 (ce + 1) (sl + 2) Q (F0 m (pc + 3) ls (.ref q :: rest))) : W pg l ev R s m ar bl me c H locs ce sl Q (F0 m pc ls (.ref p :: rest)) :=
  z_subN (w1 := fun _ => []) (x1 := fun q => [(q, .inr (10, [.int (iZ ((0 : Nat) : Int)), .ref p]))]) (z_runVR C hH.2.2 hlz (zPl_recv C hH.2.2 hP) 0 (As := []) (m_X10_iterator l s0 G _ p) (lw_V hq q889 q890 q110 q891) ⟨rfl, by decide, by decide, by decide +kernel⟩ rfl rfl hW hR hf hdg) hH [] rfl List.nodup_nil (fun _ => rfl) (fun q H1 locs1 _ hH => kk q H1 locs1 hH)
theorem zPl_x {X : va_W} (hH : zH s0 s G as0 (dW ad G F Ar kp pl (PW ++ X)) H locs) (hpp : zPool s0 G PW pr pa pm pf) {y : Nat} (hy : y < 1000) : zPl s0 G H (pr y) (pa y) (pm y) (pf y) := dWp (D := dW0 ad G F Ar kp pl) hH (zPool_app hpp) hy
theorem z_hasN (C : zC pg s0 s m ar me c G cc nL own ret) {q k y : Nat} (hH : zH s0 s G as0 (dW ad G F Ar kp pl (PW ++ [(q, .inr (10, [.int (iZ (k : Int)), .ref (pr y)]))])) H locs) (hlz : ls.size = nL) (hpp : zPool s0 G PW pr pa pm pf) (hy : y < 1000) (hx : pm y ≤ 120) (hk : k ≤ 120) (pc : Nat) {idx cnt : Nat} (hq : Cond.methodLink own idx xHasN ∈ lw_all) {rest : List Value} (hW : (rest.map fun v => v.category).sum ≤ 8) (hR : 0 + 1 ≤ R.frames ∧ 8 + (1 + 11) + 0 ≤ R.locals) (hf : ce + 0 ≤ R.cells ∧ sl + 0 ≤ R.slots) (hdg : decode cc pc = .ok (.invokeinterface idx cnt, 5))
    (kk : ∀ r_ : Int, ((r_ = 1 ∧ k < pm y) ∨ (r_ = 0 ∧ ¬ k < pm y)) → W pg l ev R s m ar bl me c H locs ce sl Q (F0 m (pc + 5) ls (.int (iZ r_) :: rest))) : W pg l ev R s m ar bl me c H locs ce sl Q (F0 m pc ls (.ref q :: rest)) := by
  rcases zPl_x hH hpp hy with hP | ⟨h0, hO⟩
  · exact zp_back5 (zp_runF (x := xHasN) (rest := rest) (As := []) C hH.2.2 hlz (va_P.app (dW_xP hH.1) (va_P_1 hP 0 rfl)) 0 (u_X11_hasNext l s0 G q (pr y) (pa y) k (pm y) hx hk) (lw_F hq q910 q912 q115 q914) (fun U hU => zFw hU q908 q907 q913 q911 q909) ⟨by decide, by decide, by decide +kernel⟩ (q0 := 0) (ci := 10) rfl rfl rfl rfl hW hR hf hdg) (fun r_ hp => kk r_ hp)
  · exact zp_back5 (zp_runF (x := xHasN) (rest := rest) (As := []) C hH.2.2 hlz (dW_xP hH.1) 0 (u_X11_hasNext_nw l s0 G q (pr y) k (pm y) h0 hk hO) (lw_F hq q910 q912 q115 q914) (fun U hU => zFw hU q908 q907 q913 q911 q909) ⟨by decide, by decide, by decide +kernel⟩ (q0 := 0) (ci := 10) rfl rfl rfl rfl hW hR hf hdg) (fun r_ hp => kk r_ hp)
theorem z_nextN (C : zC pg s0 s m ar me c G cc nL own ret) {q k y : Nat} (hH : zH s0 s G as0 (dW ad G F Ar kp pl (PW ++ [(q, .inr (10, [.int (iZ (k : Int)), .ref (pr y)]))])) H locs) (hlz : ls.size = nL) (hpp : zPool s0 G PW pr pa pm pf) (hy : y < 1000) (hx : pm y ≤ 120) (hk : k < pm y) (hfk : pf y k < 120) (hB : zBxs s0) (pc : Nat) {idx cnt : Nat} (hq : Cond.methodLink own idx xNext ∈ lw_all) {rest : List Value} (hW : (rest.map fun v => v.category).sum ≤ 8) (hR : 2 + 1 ≤ R.frames ∧ 8 + (1 + 11) + 40 ≤ R.locals) (hf : ce + 0 ≤ R.cells ∧ sl + 0 ≤ R.slots) (hdg : decode cc pc = .ok (.invokeinterface idx cnt, 5))
    (kk : ∀ (b : Nat) (H1 : Heap) (locs1 : List Loc), zBo s0 b ((pf y k : Nat) : Int) → zH s0 s G as0 (dW ad G F Ar kp pl (PW ++ [(q, .inr (10, [.int (iZ ((k + 1 : Nat) : Int)), .ref (pr y)]))])) H1 locs1 → W pg l ev R s m ar bl me c H1 locs1 ce sl Q (F0 m (pc + 5) ls (.ref b :: rest))) : W pg l ev R s m ar bl me c H locs ce sl Q (F0 m pc ls (.ref q :: rest)) := by
  obtain ⟨i, h1, h2⟩ := (hpp y hy).resolve_right (fun z => by have := z.1; omega)
  have l1 := (List.getElem?_eq_some_iff.mp h1).1
  have l2 := (List.getElem?_eq_some_iff.mp h2).1
  have g1 : ∀ X : va_W, (dW ad G F Ar kp pl (PW ++ X))[60 + i]? = some (pr y, .inr (9, [.ref (pa y), .int (iZ (pm y : Int))])) := fun X => dW_at (by rw [List.getElem?_append_left l1]; exact h1)
  have g2 : ∀ X : va_W, (dW ad G F Ar kp pl (PW ++ X))[60 + (i + 1)]? = some (pa y, .inl (G.2 0, 120, .inl (zA (nA (pf y))))) := fun X => dW_at (by rw [List.getElem?_append_left l2]; exact h2)
  have hk3 : ([60 + PW.length, 60 + i, 60 + (i + 1)] : List Nat).map (fun j => (dW ad G F Ar kp pl (PW ++ [(q, .inr (10, [.int (iZ (k : Int)), .ref (pr y)]))]))[j]?) = (((q, .inr (10, [.int (iZ (k : Int)), .ref (pr y)])) : Nat × va_E) :: wPl G (pr y) (pa y) (pm y) (pf y)).map some := by
    show [_, _, _] = [some _, some _, some _]
    dsimp only
    rw [dW_x, g1, g2]
  have hn3 : ([60 + PW.length, 60 + i, 60 + (i + 1)] : List Nat).Nodup := by
    simp
    omega
  refine z_subN5 (w1 := fun _ => ((q, .inr (10, [.int (iZ ((k + 1 : Nat) : Int)), .ref (pr y)])) : Nat × va_E) :: wPl G (pr y) (pa y) (pm y) (pf y)) (x1 := fun _ => []) (z_runF (x := xNext) (rest := rest) (As := []) C hH.2.2 hlz (z_subP hH.1 _ hk3) (z_subD hH.2.1 _ hn3 hk3) 0 (m_X11_next l s0 G _ q (pr y) (pa y) k (pm y) (pf y) hk hx hfk hB) (lw_F hq q925 q927 q115 q929) (fun U hU => zFw hU q924 q923 q928 q926 q909) ⟨by decide, by decide, by decide +kernel⟩ (q0 := 0) (ci := 10) rfl rfl rfl rfl hW hR hf hdg) hH _ hk3 hn3 (fun _ => rfl) (fun b H1 locs1 hb hH => kk b H1 locs1 hb ?_)
  have e : setL (dW ad G F Ar kp pl (PW ++ [(q, .inr (10, [.int (iZ (k : Int)), .ref (pr y)]))])) [60 + PW.length, 60 + i, 60 + (i + 1)] (((q, .inr (10, [.int (iZ ((k + 1 : Nat) : Int)), .ref (pr y)])) : Nat × va_E) :: wPl G (pr y) (pa y) (pm y) (pf y)) ++ [] = dW ad G F Ar kp pl (PW ++ [(q, .inr (10, [.int (iZ ((k + 1 : Nat) : Int)), .ref (pr y)]))]) := by
    rw [List.append_nil]
    show (((dW ad G F Ar kp pl (PW ++ [(q, .inr (10, [.int (iZ (k : Int)), .ref (pr y)]))])).set (60 + PW.length) (q, .inr (10, [.int (iZ ((k + 1 : Nat) : Int)), .ref (pr y)]))).set (60 + i) (pr y, .inr (9, [.ref (pa y), .int (iZ (pm y : Int))]))).set (60 + (i + 1)) (pa y, .inl (G.2 0, 120, .inl (zA (nA (pf y))))) = _
    rw [dW_xset, set_same (g1 _), set_same (g2 _)]
  rw [← e]
  exact hH
theorem z_intV (C : zC pg s0 s m ar me c G cc nL own ret) (hS : va_S (zB s0 s.heap.size as0) s.heap H locs) (hlz : ls.size = nL) {b : Nat} {z : Int} (hB : zBo s0 b z) (pc : Nat) {idx : Nat} (hq : Cond.methodLink own idx yJ16_intValue ∈ lw_all) {rest : List Value} (hW : (rest.map fun v => v.category).sum ≤ 8) (hR : 0 + 1 ≤ R.frames ∧ 8 + (1 + 11) + 0 ≤ R.locals) (hf : ce + 0 ≤ R.cells ∧ sl + 0 ≤ R.slots) (hdg : decode cc pc = .ok (.invokevirtual idx, 3)) (kk : W pg l ev R s m ar bl me c H locs ce sl Q (F0 m (pc + 3) ls (.int (iZ z) :: rest))) : W pg l ev R s m ar bl me c H locs ce sl Q (F0 m pc ls (.ref b :: rest)) :=
  zp_back (zp_runVO C hS hlz (zO_up (as0 := as0) C hB.1) 0 (As := []) (u_J16_intValue l s0 G b z hB) (lw_V hq q1020 q1021 q117 q1022) ⟨rfl, by decide, by decide, by decide +kernel⟩ rfl rfl hW hR hf hdg) (fun _ _ => kk)
end ZIT2
