/-! one more object behind the pool; calls of a method that the receiver's class inherits or overrides; what Walk computes -/
set_option maxRecDepth 100000
section DX
variable {ad : Nat → Nat} {G : zG} {F : Nat → Int} {Ar : Nat → Nat → Int} {kp : Nat → Nat} {pl : Nat → Option Nat} {PW X : va_W} {x y : Nat × va_E}
theorem dW_x : (dW ad G F Ar kp pl (PW ++ [x]))[60 + PW.length]? = some x := dW_at (by rw [List.getElem?_append_right (Nat.le_refl _), Nat.sub_self]; rfl)
theorem dW_xset : (dW ad G F Ar kp pl (PW ++ [x])).set (60 + PW.length) y = dW ad G F Ar kp pl (PW ++ [y]) := by
  rw [dW_set, List.set_append_right _ _ (Nat.le_refl _), Nat.sub_self]
  rfl
theorem dW_xk : ([60 + PW.length] : List Nat).map (fun k => (dW ad G F Ar kp pl (PW ++ [x]))[k]?) = [x].map some := by
  show [(dW ad G F Ar kp pl (PW ++ [x]))[60 + PW.length]?] = [some x]
  rw [dW_x]
theorem setL_x : setL (dW ad G F Ar kp pl (PW ++ [x])) [60 + PW.length] [y] ++ [] = dW ad G F Ar kp pl (PW ++ [y]) := by
  rw [List.append_nil]
  show (dW ad G F Ar kp pl (PW ++ [x])).set (60 + PW.length) y = _
  exact dW_xset
theorem dW_xP {D : va_G} {cl : List vw_C} {H : Heap} (h : va_P D cl (dW ad G F Ar kp pl (PW ++ [x])) H) : va_P D cl [x] H := va_P_r (va_P_r h)
theorem zPool_app {s0 : State} {pr pa pm : Nat → Nat} {pf : Nat → Nat → Nat} (h : zPool s0 G PW pr pa pm pf) : zPool s0 G (PW ++ X) pr pa pm pf := fun y hy => by
  rcases h y hy with ⟨k, h1, h2⟩ | q
  · exact Or.inl ⟨k, by rw [List.getElem?_append_left (List.getElem?_eq_some_iff.mp h1).1]; exact h1, by rw [List.getElem?_append_left (List.getElem?_eq_some_iff.mp h2).1]; exact h2⟩
  · exact Or.inr q
end DX
theorem lw_U {own : String} {idx : Nat} {C owner : String} {x y : MethodName} {b : ByteArray} {L : Nat} {r : Option FieldType} (h1 : Cond.methodLink own idx x ∈ lw_all) (h2 : Cond.sameMethod x.cls owner x.name x.desc ∈ lw_all) (h3 : Cond.selects C x y ∈ lw_all) (h4 : Cond.instanceMethod y ∈ lw_all) (h5 : Cond.initialized y.cls ∈ lw_all) (h6 : Cond.code y b L r ∈ lw_all) : GoodIn lw_all (va_wsU own idx C owner x y (ws_ y b L r)) := by
  refine lw_app ?_ (lw_meth h6)
  intro w hw
  simp only [List.mem_cons, List.not_mem_nil, or_false] at hw
  rcases hw with e | e | e | e | e
  · rw [e]; exact h1
  · rw [e]; exact h2
  · rw [e]; exact h3
  · rw [e]; exact h4
  · rw [e]; exact h5
section ZRUNA
variable {pg : Program} {l : Launch} {ev : Env} {R : Room} {s0 s : State} {m : MethodId} {ar : Array Value} {bl : List Frame} {me : Method} {c : Code} {H : Heap} {locs : List Loc} {ce sl : Nat} {Q : State → Prop} {G : zG} {cc : ByteArray} {nL : Nat} {own : String} {ret : Option FieldType} {ls : Array Slot} {st : List Value} {as0 : List Nat} {w : va_W}
theorem z_runA (C : zC pg s0 s m ar me c G cc nL own ret) (hS : va_S (zB s0 s.heap.size as0) s.heap H locs) (hlz : ls.size = nL) {wc : va_W} (hP : va_P G.1 vwCl wc H) (hD : va_D (zB s0 s.heap.size as0) wc) {S : Type} {x y : MethodName} {code' : ByteArray} {nL' fr lo mc ms idx ci N b q0 pc : Nat} {ret' : Option FieldType} {CN owner : String} {T : u_T} {fs : List Value} (n : Nat) {As rest : List Value} {res : S → Option Value} {P : S → Prop} {w' : S → va_W} (hM : zMet l y code' nL' ret' fr lo mc ms s0 G H.size (.ref b :: As) wc res P w')
    (hG : GoodIn lw_all (va_wsU own idx CN owner x y (ws_ y code' nL' ret'))) (hz : Cond.declares ⟨owner, x.name, x.desc⟩ ∈ lw_tbl) (hd : owner ≠ "java/lang/invoke/MethodHandle" ∧ owner ≠ "java/lang/invoke/VarHandle" ∧ (parseMethodDescriptor x.desc).map (fun d => d.parameters.length) = some n) (hq : wc[q0]? = some (b, .inr (ci, fs))) (hc : vwCl[ci]? = some (CN, T, N)) (hn : As.length = n) (hst : st = As.reverse ++ .ref b :: rest) (hW : (rest.map fun v => v.category).sum ≤ 8) (hR : fr + 1 ≤ R.frames ∧ 8 + (nL' + 11) + lo ≤ R.locals) (hf : ce + mc ≤ R.cells ∧ sl + ms ≤ R.slots) (hdg : decode cc pc = .ok (.invokevirtual idx, 3)) :
    va_Run pg l ev R s m ar bl me c H locs ce sl mc ms (F0 m pc ls st) rest (zQc s0 G wc res P w' (Value.ref b :: As).toArray) (zB s0 H.size (wc.map Prod.fst)) := by
  have hnw : va_Nw (.declares ⟨owner, x.name, x.desc⟩) s := by
    obtain ⟨⟨b, hb, -⟩, -⟩ := C.2.2.2.1
    exact va_Nw.warmD C.2.2.2.2.1.1 (va_Nw.of rfl (hb _ hz))
  exact va_runU (As := As) (rest := rest) C.1 hM (va_cwA n C.1.2.2.2.2 hG rfl rfl rfl hnw hd hR) ⟨zPc_blind, va_recv C.2.2.2.2.2 hP hc hq, z_pre C hS hP hD _⟩ rfl hn hlz hst (lv_room (pc := pc) (ls := ls) (rest := st) hW) hdg hf
end ZRUNA
/-- the mode so far, as Walk.goes keeps it -/
noncomputable def wkB (v : Nat → Nat) (t l r : Nat) : Nat := if r = l then v l else md v l r t
theorem wkB_0 {v : Nat → Nat} {t l : Nat} : wkB v t l l = v l := if_pos rfl
theorem wkB_s {v : Nat → Nat} {t l r : Nat} (h : l ≤ r) : wkB v t l (r + 1) = md v l (r + 1) t := if_neg (by omega)
theorem wkB_lt {v : Nat → Nat} {t l r : Nat} (hv : v l < 1000) : wkB v t l r < 1000 := by
  unfold wkB
  split
  · exact hv
  · exact md_lt_1000 _ _ _ _
theorem wkB_p {v : Nat → Nat} {t l r : Nat} (hv : ∀ i, i < r + 1 → v i < 1000) (h : l ≤ r) : 0 < cnt v l (r + 1) (wkB v t l r) := by
  unfold wkB
  split
  · rename_i e
    subst e
    exact cnt_in (Nat.le_refl _) (Nat.lt_succ_self _)
  · have h1 := (md_spec2 (v := v) (l := l) (r := r) (t := t) (fun i hi => hv i (by omega)) (by omega)).2.1
    have h2 := cnt_mono (v := v) (a := l) (x := md v l r t) (show r ≤ r + 1 by omega)
    omega
theorem wkB_t {v : Nat → Nat} {t l r : Nat} (hv : ∀ i, i < r + 1 → v i < 1000) (h : l ≤ r) (ha : ahd v l (r + 1) t (v r) (wkB v t l r)) : v r = wkB v t l (r + 1) := by
  rw [wkB_s h]
  unfold wkB at ha
  split at ha
  · rename_i e
    subst e
    exact absurd ha ahd_irr
  · exact ((md_ext hv (by omega)).1 ha).symm
theorem wkB_f {v : Nat → Nat} {t l r : Nat} (hv : ∀ i, i < r + 1 → v i < 1000) (h : l ≤ r) (ha : ¬ ahd v l (r + 1) t (v r) (wkB v t l r)) : wkB v t l r = wkB v t l (r + 1) := by
  rw [wkB_s h]
  unfold wkB at ha ⊢
  split at ha
  · rename_i e
    subst e
    rw [if_pos rfl, md_1 (hv r (by omega))]
  · rename_i e
    rw [if_neg e]
    exact ((md_ext hv (by omega)).2 ha).symm
/-- what a walk has found: the length, the ends -/
def WK (S : Nat → Nat → Prop) (n l r : Nat) (f fl fr : Int) : Prop := (f = 0 ∧ BS S n l r (-2) 0) ∨ (0 < f ∧ BS S n l r fl f ∧ fr = fl + f - 1)
def WMT (c : Prop) (l r f fl fr f2 fl2 fr2 : Int) : Prop := (c ∧ f2 = r - l + 1 ∧ fl2 = l ∧ fr2 = r) ∨ (¬ c ∧ f2 = f ∧ fl2 = fl ∧ fr2 = fr)
theorem WK_b {S : Nat → Nat → Prop} {n l r : Nat} {f fl fr : Int} (h : WK S n l r f fl fr) : 0 ≤ f ∧ f ≤ n := by
  rcases h with ⟨h1, _⟩ | ⟨_, h2, _⟩
  · omega
  · have := BS_b h2; omega
theorem WK_0 {S : Nat → Nat → Prop} {n : Nat} {fl fr : Int} : WK S n 0 0 0 fl fr := Or.inl ⟨rfl, BS_0⟩
theorem WK_row {S : Nat → Nat → Prop} {n l : Nat} {f fl fr : Int} (h : WK S n l 0 f fl fr) : WK S n l l f fl fr := h.elim (fun q => Or.inl ⟨q.1, BS_row q.2⟩) (fun q => Or.inr ⟨q.1, BS_row q.2.1, q.2.2⟩)
theorem WK_next {S : Nat → Nat → Prop} {n l r : Nat} {f fl fr : Int} (h : WK S n l r f fl fr) (e : r = n) : WK S n (l + 1) 0 f fl fr := by
  subst e
  exact h.elim (fun q => Or.inl ⟨q.1, BS_next q.2⟩) (fun q => Or.inr ⟨q.1, BS_next q.2.1, q.2.2⟩)
theorem WK_s {S : Nat → Nat → Prop} {n l r : Nat} {c : Prop} {f fl fr f2 fl2 fr2 : Int} (h : WK S n l r f fl fr) (hlr : l ≤ r) (hr : r < n) (hm : WMT c l r f fl fr f2 fl2 fr2) (hc : c ↔ (S l r ∧ f < (r : Int) - l + 1)) : WK S n l (r + 1) f2 fl2 fr2 := by
  rcases hm with ⟨h1, rfl, rfl, rfl⟩ | ⟨h1, rfl, rfl, rfl⟩
  · obtain ⟨q1, q2⟩ := hc.mp h1
    refine Or.inr ⟨by omega, ?_, by omega⟩
    rcases h with ⟨_, h3⟩ | ⟨_, h3, _⟩
    · exact BS_new h3 hlr hr q1 (by omega)
    · exact BS_new h3 hlr hr q1 (by omega)
  · have hn : ¬ S l r ∨ (r : Int) + 1 - l ≤ f2 := by
      by_cases z : S l r
      · right
        by_cases y : f2 < (r : Int) - l + 1
        · exact absurd (hc.mpr ⟨z, y⟩) h1
        · omega
      · exact Or.inl z
    rcases h with ⟨h2, h3⟩ | ⟨h2, h3, h4⟩
    · exact Or.inl ⟨h2, BS_skip h3 hlr (hn.imp id (fun q => by omega))⟩
    · exact Or.inr ⟨h2, BS_skip h3 hlr hn, h4⟩
theorem WK_end {S : Nat → Nat → Prop} {n l : Nat} {f fl fr q z : Int} (h : WK S n l 0 f fl fr) (e : l = n) (hz : (f = 0 ∧ z = -2) ∨ (f ≠ 0 ∧ z = if q = 0 then fl else fr)) : SpBest S n q z := by
  subst e
  rcases h with ⟨h1, h2⟩ | ⟨h1, h2, h3⟩
  · exact BS_end h2 (Or.inl ⟨rfl, by omega⟩)
  · have hb := BS_b h2
    rcases hz with q1 | ⟨q1, q2⟩
    · omega
    · refine BS_end h2 (Or.inr ⟨fun e => ?_, by rw [q2, h3]⟩)
      rcases h2 with ⟨_, q3, _⟩ | ⟨_, _, _, q3, _⟩ <;> omega
theorem cnt_two {v : Nat → Nat} {l x y : Nat} (h : x ≠ y) : ∀ {r : Nat}, cnt v l r x + cnt v l r y ≤ r - l
  | 0 => by rw [cnt_0 v (Nat.zero_le _), cnt_0 v (Nat.zero_le _)]; omega
  | r + 1 => by
    have ih := cnt_two (v := v) (l := l) h (r := r)
    by_cases z : l ≤ r
    · rw [cnt_succ v x z, cnt_succ v y z]
      by_cases a : v r = x
      · rw [if_pos a, if_neg (fun q => h (a.symm.trans q))]; omega
      · rw [if_neg a]; split <;> omega
    · rw [cnt_0 v (by omega), cnt_0 v (by omega)]; omega
/-- a majority is the mode -/
theorem maj_mode {v : Nat → Nat} {t l r x : Nat} (hv : ∀ i, i < r → v i < 1000) (hx : x < 1000) (h : r - l < 2 * cnt v l r x) : md v l r t = x := by
  have hlr : l < r := by
    by_cases z : l < r
    · exact z
    · have := cnt_le v l r x; omega
  refine (md_uniq hx (by omega) (fun y hy py hne => Or.inl ?_)).symm
  have h1 := cnt_two (v := v) (l := l) (r := r) (x := x) (y := y) (fun e => hne e.symm)
  omega
