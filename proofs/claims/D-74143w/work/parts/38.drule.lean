/-! a rule of ties, called through its interface -/
set_option maxRecDepth 100000
theorem va_P_1 {D : va_G} {cl : List vw_C} {w : va_W} {H : Heap} (h : va_P D cl w H) (k : Nat) {e : Nat × va_E} (hk : w[k]? = some e) : va_P D cl [e] H := fun j q hj => by
  have hj2 : j = 0 := by
    have := (List.getElem?_eq_some_iff.mp hj).1
    simp at this
    exact this
  subst hj2
  cases hj
  exact h k _ hk
theorem lw_F {own : String} {idx : Nat} {C : String} {x y : MethodName} {b : ByteArray} {L : Nat} {r : Option FieldType} (h1 : Cond.methodLink own idx x ∈ lw_all) (h2 : Cond.selects C x y ∈ lw_all) (h3 : Cond.instanceMethod y ∈ lw_all) (h4 : Cond.initialized y.cls ∈ lw_all) (h5 : Cond.code y b L r ∈ lw_all) : GoodIn lw_all (va_wsF own idx C x y (ws_ y b L r)) := by
  refine lw_app ?_ (lw_meth h5)
  intro w hw
  simp only [List.mem_cons, List.not_mem_nil, or_false] at hw
  rcases hw with e | e | e | e
  · rw [e]; exact h1
  · rw [e]; exact h2
  · rw [e]; exact h3
  · rw [e]; exact h4
def xAhead : MethodName := ⟨"ModeDesk$Ahead", "is", "(IIII)Z"⟩
theorem rule_t0 {v : Nat → Nat} {l r x y : Nat} : (fsP v l x r < fsP v l y r) = tieA v l r 0 x y := by unfold tieA; simp
theorem rule_t1 {v : Nat → Nat} {l r x y : Nat} : (lsP v y r < lsP v x r) = tieA v l r 1 x y := by unfold tieA; simp
theorem rule_t2 {v : Nat → Nat} {l r x y : Nat} : ((x : Int) < (y : Int)) = tieA v l r 2 x y := by unfold tieA; simp
theorem rule_t3 {v : Nat → Nat} {l r x y : Nat} : ((y : Int) < (x : Int)) = tieA v l r 3 x y := by unfold tieA; simp
theorem ahd_eq0 {v : Nat → Nat} {l r t x y : Nat} (h : (x : Int) = (y : Int)) : ¬ ahd v l r t x y := by
  have e : x = y := by omega
  subst e
  unfold ahd tieA
  intro q
  rcases q with q | ⟨_, q⟩
  · omega
  · (repeat' split at q) <;> omega
theorem ahd_lt0 {v : Nat → Nat} {l r t x y : Nat} (h : cnt v l r x < cnt v l r y) : ¬ ahd v l r t x y := by
  unfold ahd
  intro q
  rcases q with q | ⟨q, _⟩ <;> omega
theorem ahd_no {v : Nat → Nat} {l r t x y : Nat} (h : cnt v l r x = cnt v l r y) (h2 : ¬ tieA v l r t x y) : ¬ ahd v l r t x y := by
  unfold ahd
  intro q
  rcases q with q | ⟨_, q⟩
  · omega
  · exact h2 q
section RULE
variable {pg : Program} {l9 : Launch} {ev : Env} {R : Room} {s0 s : State} {m : MethodId} {ar : Array Value} {bl : List Frame} {me : Method} {c : Code} {H : Heap} {locs : List Loc} {ce sl : Nat} {Q : State → Prop} {G : zG} {cc : ByteArray} {nL : Nat} {ret : Option FieldType} {ls : Array Slot} {as0 : List Nat}
set_option maxHeartbeats 4000000 in
theorem z_rule (hC : zC pg s0 s m ar me c G cc nL RX1 ret) (hS : va_S (zB s0 s.heap.size as0) s.heap H locs) (hlz : ls.size = nL) {ad : Nat → Nat} {F : Nat → Int} {Ar : Nat → Nat → Int} {kp : Nat → Nat} {pl : Nat → Option Nat} {pr pa pm : Nat → Nat} {pf : Nat → Nat → Nat} (hP : va_P G.1 vwCl (dP ad G F Ar kp pl pr pa pm pf) H) (pc : Nat) {n : Nat} {v : Nat → Nat} {x y l r nw t : Nat} (hn : n ≤ 120) (hv : ∀ i, i < n → v i < 1000) (hpl : ∀ y, y < 1000 → (pl y = some (pr y) ∨ (pl y = none ∧ pr y = nw))) (hnw : zNwh s0 nw) (hpc : ∀ y, y < 1000 → PlC n v y (pm y) (pf y)) (hlr : l ≤ r) (hrn : r ≤ n) (hx : x < 1000) (hy : y < 1000) (px : 0 < cnt v l r x) (py : 0 < cnt v l r y) (ht : t < 4)
    {rest : List Value} (hW : (rest.map fun v => v.category).sum ≤ 8) (hR : 3 ≤ R.frames ∧ 8 + (5 + 11) + 46 ≤ R.locals) (hf : ce + 0 ≤ R.cells ∧ sl + 0 ≤ R.slots) (hdg : decode cc pc = .ok (.invokeinterface 186 5, 5))
    (kk : ∀ r_ : Int, ((r_ = 1 ∧ tieA v l r t x y) ∨ (r_ = 0 ∧ ¬ tieA v l r t x y)) → W pg l9 ev R s m ar bl me c H locs ce sl Q (F0 m (pc + 5) ls (.int (iZ r_) :: rest))) : W pg l9 ev R s m ar bl me c H locs ce sl Q (F0 m pc ls (.int (iZ ((r : Int) - 1)) :: .int (iZ (l : Int)) :: .int (iZ (y : Int)) :: .int (iZ (x : Int)) :: .ref (ad (301 + t)) :: rest)) := by
  rcases (show t = 0 ∨ t = 1 ∨ t = 2 ∨ t = 3 from by omega) with rfl | rfl | rfl | rfl
  · refine zp_back5 (zp_runF (x := xAhead) (rest := rest) (As := [.int (iZ (x : Int)), .int (iZ (y : Int)), .int (iZ (l : Int)), .int (iZ ((r : Int) - 1))]) hC hS hlz (hP) 4 (u_X3_is l9 s0 G ad F Ar kp pl pr pa pm pf n v x y l r nw hn hv hpl hnw hpc hlr hrn hx hy px py) (lw_F q751 q755 q757 q91 q759) (fun U hU => zFw hU q753 q752 q758 q756 q754) ⟨by decide, by decide, by decide +kernel⟩ (q0 := 56) (ci := 3) rfl rfl rfl rfl hW ⟨by omega, by omega⟩ hf hdg) (fun r_ hp => kk r_ ?_)
    rw [← rule_t0]
    exact hp
  · refine zp_back5 (zp_runF (x := xAhead) (rest := rest) (As := [.int (iZ (x : Int)), .int (iZ (y : Int)), .int (iZ (l : Int)), .int (iZ ((r : Int) - 1))]) hC hS hlz (hP) 4 (u_X4_is l9 s0 G ad F Ar kp pl pr pa pm pf n v x y l r nw hn hv hpl hnw hpc hlr hrn hx hy px py) (lw_F q751 q766 q768 q92 q770) (fun U hU => zFw hU q753 q752 q769 q767 q765) ⟨by decide, by decide, by decide +kernel⟩ (q0 := 57) (ci := 4) rfl rfl rfl rfl hW ⟨by omega, by omega⟩ hf hdg) (fun r_ hp => kk r_ ?_)
    rw [← rule_t1]
    exact hp
  · refine zp_back5 (zp_runF (x := xAhead) (rest := rest) (As := [.int (iZ (x : Int)), .int (iZ (y : Int)), .int (iZ (l : Int)), .int (iZ ((r : Int) - 1))]) hC hS hlz (va_P_1 hP 58 rfl) 4 (u_X5_is l9 s0 G (ad 303) (ad 99) (x : Int) (y : Int) (l : Int) ((r : Int) - 1) (by omega) (by omega)) (lw_F q751 q776 q778 q93 q780) (fun U hU => zFw hU q753 q752 q779 q777 q775) ⟨by decide, by decide, by decide +kernel⟩ (q0 := 0) (ci := 5) rfl rfl rfl rfl hW ⟨by omega, by omega⟩ hf hdg) (fun r_ hp => kk r_ ?_)
    rw [← rule_t2]
    exact hp
  · refine zp_back5 (zp_runF (x := xAhead) (rest := rest) (As := [.int (iZ (x : Int)), .int (iZ (y : Int)), .int (iZ (l : Int)), .int (iZ ((r : Int) - 1))]) hC hS hlz (va_P_1 hP 59 rfl) 4 (u_X6_is l9 s0 G (ad 304) (ad 99) (x : Int) (y : Int) (l : Int) ((r : Int) - 1) (by omega) (by omega)) (lw_F q751 q782 q784 q94 q786) (fun U hU => zFw hU q753 q752 q785 q783 q781) ⟨by decide, by decide, by decide +kernel⟩ (q0 := 0) (ci := 6) rfl rfl rfl rfl hW ⟨by omega, by omega⟩ hf hdg) (fun r_ hp => kk r_ ?_)
    rw [← rule_t3]
    exact hp
end RULE
