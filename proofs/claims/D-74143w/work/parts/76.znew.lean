/-! objects and arrays that are made; constructors -/
set_option maxRecDepth 100000
theorem zMet.ofI {S : Type} {l : Launch} {y : MethodName} {cc : ByteArray} {nL : Nat} {ret : Option FieldType} {fr lo mc ms : Nat} {s0 : State} {G : zG} {sz : Nat} {av : List Value} {w : va_W} {res : S → Option Value} {P : S → Prop} {w' : S → va_W} (hy : plainName y.cls = true) (hnl : (lg_sl av).length ≤ nL)
    (body : ∀ (pg : Program) (ev : Env) (s : State) (m : MethodId) (ar : Array Value) (bl : List Frame) (me : Method) (c : Code) (ls : Array Slot) (Q : State → Prop) (as0 : List Nat), zC pg s0 s m ar me c G cc nL y.cls ret → me.name = y.name → zH s0 s G as0 w s.heap [] → lv_has ls nL (lv_args 0 av) → zQd Q bl ar s0 s G as0 w res P w' mc ms → s.heap.size = sz →
      W pg l ev (zRm fr mc ms lo) s m ar bl me c s.heap [] 0 0 Q (F0 m 0 ls [])) : zMet l y cc nL ret fr lo mc ms s0 G sz av w res P w' := by
  refine Met.ofW (cc := cc) (maxL := nL) (ret := ret) hy rfl ?_
  intro p e s m args below meth c s₁ B hml hv
  obtain ⟨rfl, hsz, hst, ham, hP, hD⟩ := hv
  subst hsz
  have hts := atoms_spec (ws := ws_ y cc nL ret) B.pre
  have hts : ∀ x ∈ lw_all, x.before av.toArray s = true := fun x h => hts x (List.mem_cons_of_mem _ h)
  have hl := lv_entry av (n := nL) hnl
  rw [lg_entry_eq]
  exact body p e s m av.toArray below meth c _ _ (w.map Prod.fst) ⟨⟨B.exec, B.bytes, hml, findClass_of_methodNamed B.named, hts⟩, B.returns, B.notSynchronized, hst, ham, ham.k hst⟩ (name_of_methodNamed B.named B.method).1
    ⟨hP, hD.weaken (fun k q hk h => ⟨h, Or.inl (List.mem_map.mpr ⟨q, List.mem_of_getElem? hk, rfl⟩)⟩), va_S.rf⟩ hl ⟨rfl, rfl⟩ rfl
section ZNEW
variable {pg : Program} {l : Launch} {ev : Env} {R : Room} {s0 s : State} {m : MethodId} {ar : Array Value} {bl : List Frame} {me : Method} {c : Code} {H : Heap} {locs : List Loc} {ce sl : Nat} {Q : State → Prop} {G : zG} {cc : ByteArray} {nL : Nat} {own : String} {ret : Option FieldType} {ls : Array Slot} {st : List Value} {as0 : List Nat} {w : va_W}
theorem zB_new (C : zC pg s0 s m ar me c G cc nL own ret) : ∀ q : Nat, s.heap.size ≤ q → zB s0 s.heap.size as0 q := fun _ hq => ⟨Nat.le_trans C.2.2.2.2.1.2.1 hq, Or.inr hq⟩
theorem z_new (C : zC pg s0 s m ar me c G cc nL own ret) (hH : zH s0 s G as0 w H locs) (pc : Nat) {idx ci N : Nat} {CN : String} {T : u_T} (fs : List Value) (ty0 : Nat → FieldType) (hin : ∀ x ∈ u_ws CN T N, x ∈ lw_all) (hty : ∀ k, k < N → parseFieldDescriptor (T k).2.2.1 = some (ty0 k)) (hc : vwCl[ci]? = some (CN, T, N)) (hcl : Cond.classLink own idx CN ∈ lw_all) (hinst : Cond.instantiable CN N ∈ lw_all) (hini : Cond.initialized CN ∈ lw_all) (hfs : ∀ j, j < N → defaultValue (ty0 j) = vp_V fs j) (hf : ce + 1 ≤ R.cells ∧ sl + N ≤ R.slots) (hdg : decode cc pc = .ok (.new idx, 3))
    (kk : ∀ (q : Nat) (H1 : Heap), zH s0 s G as0 (w ++ [(q, .inr (ci, fs))]) H1 locs → W pg l ev R s m ar bl me c H1 locs (ce + 1) (sl + N) Q (F0 m (pc + 3) ls (.ref q :: st))) : W pg l ev R s m ar bl me c H locs ce sl Q (F0 m pc ls st) :=
  va_new C.1.1 C.1.2.1 C.1.2.2.2.2 hin ty0 hty C.1.2.2.2.1 (C.1.2.2.2.2 _ hcl) (C.1.2.2.2.2 _ hinst) (C.1.2.2.2.2 _ hini) C.2.2.2.2.2 hH.1 hH.2.1 hH.2.2 (zB_new C) hc hfs hf.1 hf.2 hdg (fun q H1 p d z => kk q H1 ⟨p, d, z⟩)
theorem z_arrcls (C : zC pg s0 s m ar me c G cc nL own ret) {t0 : Nat} {cA cB : ClassId} {ty : FieldType} (h : (vTys G.2)[t0]? = some (cA, ty)) (hp : (match ty with | .object _ => False | _ => True)) (h2 : va_K G.1 vwCl (vTys G.2 ++ [(cB, ty)]) s) : cB = cA := by
  have h3 := (C.2.2.2.2.2.2 t0 _ h).2
  have h4 := (h2.2 (vTys G.2).length (cB, ty) (by rw [List.getElem?_append_right (Nat.le_refl _), Nat.sub_self]; rfl)).2
  cases ty with
  | object _ => exact hp.elim
  | _ => exact Option.some.inj ((show s.vm.findClass _ = some cB from h4).symm.trans (show s.vm.findClass _ = some cA from h3))
theorem z_newi (C : zC pg s0 s m ar me c G cc nL own ret) (hH : zH s0 s G as0 w H locs) (pc N : Nat) {e : Int} (he : e = N) (hN : N < 65536) (hf : ce + 1 ≤ R.cells ∧ sl + N ≤ R.slots) (hdg : decode cc pc = .ok (.newarray .int, 2))
    (kk : ∀ (q : Nat) (H1 : Heap), zH s0 s G as0 (w ++ [(q, .inl (G.2 0, N, .inl (zA (fun _ => 0))))]) H1 locs → W pg l ev R s m ar bl me c H1 locs (ce + 1) (sl + N) Q (F0 m (pc + 2) ls (.ref q :: st))) : W pg l ev R s m ar bl me c H locs ce sl Q (F0 m pc ls (.int (iZ e) :: st)) := by
  subst he
  refine va_newa (atype := .int) (ty := .int) C.1.1 C.1.2.1 (C.1.2.2.2.2 _ q159) rfl C.2.2.2.2.2 hH.1 hH.2.1 hH.2.2 (zB_new C) (N' := N) (a0 := (N, .inl (zA (fun _ => 0)))) (fun _ => rfl) (fun h => ?_) (iZ_clamp N (by omega)) (by show N * 4 ≤ _; omega) hf.1 hf.2 hdg (fun q cA H1 k p d z => ?_)
  · exact nI_pos (n := N) (by omega) (by rw [← iZ_nI]; exact h)
  · have := z_arrcls C (t0 := 0) rfl trivial k
    subst this
    exact kk q H1 ⟨p, d, z⟩
theorem z_newb (C : zC pg s0 s m ar me c G cc nL own ret) (hH : zH s0 s G as0 w H locs) (pc N : Nat) {e : Int} (he : e = N) (hN : N < 65536) (hf : ce + 1 ≤ R.cells ∧ sl + N ≤ R.slots) (hdg : decode cc pc = .ok (.newarray .byte, 2))
    (kk : ∀ (q : Nat) (H1 : Heap), zH s0 s G as0 (w ++ [(q, .inl (G.2 1, N, .inl (zA (fun _ => 0))))]) H1 locs → W pg l ev R s m ar bl me c H1 locs (ce + 1) (sl + N) Q (F0 m (pc + 2) ls (.ref q :: st))) : W pg l ev R s m ar bl me c H locs ce sl Q (F0 m pc ls (.int (iZ e) :: st)) := by
  subst he
  refine va_newa (atype := .byte) (ty := .byte) C.1.1 C.1.2.1 (C.1.2.2.2.2 _ q158) rfl C.2.2.2.2.2 hH.1 hH.2.1 hH.2.2 (zB_new C) (N' := N) (a0 := (N, .inl (zA (fun _ => 0)))) (fun _ => rfl) (fun h => ?_) (iZ_clamp N (by omega)) (by show N * 1 ≤ _; omega) hf.1 hf.2 hdg (fun q cA H1 k p d z => ?_)
  · exact nI_pos (n := N) (by omega) (by rw [← iZ_nI]; exact h)
  · have := z_arrcls C (t0 := 1) rfl trivial k
    subst this
    exact kk q H1 ⟨p, d, z⟩
theorem z_newz (C : zC pg s0 s m ar me c G cc nL own ret) (hH : zH s0 s G as0 w H locs) (pc N : Nat) {e : Int} (he : e = N) (hN : N < 65536) (hf : ce + 1 ≤ R.cells ∧ sl + N ≤ R.slots) (hdg : decode cc pc = .ok (.newarray .boolean, 2))
    (kk : ∀ (q : Nat) (H1 : Heap), zH s0 s G as0 (w ++ [(q, .inl (G.2 2, N, .inl (zA (fun _ => 0))))]) H1 locs → W pg l ev R s m ar bl me c H1 locs (ce + 1) (sl + N) Q (F0 m (pc + 2) ls (.ref q :: st))) : W pg l ev R s m ar bl me c H locs ce sl Q (F0 m pc ls (.int (iZ e) :: st)) := by
  subst he
  refine va_newa (atype := .boolean) (ty := .boolean) C.1.1 C.1.2.1 (C.1.2.2.2.2 _ q293) rfl C.2.2.2.2.2 hH.1 hH.2.1 hH.2.2 (zB_new C) (N' := N) (a0 := (N, .inl (zA (fun _ => 0)))) (fun _ => rfl) (fun h => ?_) (iZ_clamp N (by omega)) (by show N * 1 ≤ _; omega) hf.1 hf.2 hdg (fun q cA H1 k p d z => ?_)
  · exact nI_pos (n := N) (by omega) (by rw [← iZ_nI]; exact h)
  · have := z_arrcls C (t0 := 2) rfl trivial k
    subst this
    exact kk q H1 ⟨p, d, z⟩
theorem z_objI (C : zC pg s0 s m ar me c G cc nL own ret) (hlz : ls.size = nL) (pc : Nat) {idx a : Nat} (hq : Cond.methodLink own idx Lib.objectInit ∈ lw_all) (hR : 1 ≤ R.frames ∧ (st.map fun v => v.category).sum + 12 ≤ R.locals) (hdg : decode cc pc = .ok (.invokespecial idx, 3)) (kk : W pg l ev R s m ar bl me c H locs ce sl Q (F0 m (pc + 3) ls st)) : W pg l ev R s m ar bl me c H locs ce sl Q (F0 m pc ls (.ref a :: st)) := by
  refine W.objInit C.1.1 C.1.2.1 C.1.2.2.2.1 (C.1.2.2.2.2 _ hq) (C.1.2.2.2.2 _ q131) (C.1.2.2.2.2 _ q132) rfl (hlz.trans C.1.2.2.1.symm) rfl hdg hR.1 (by show 2 * 0 + _ + 12 ≤ _; omega) ?_
  exact W.eq (g2 := F0 m (pc + 3) ls st) rfl kk
theorem z_putF (C : zC pg s0 s m ar me c G cc nL own ret) (hin2 : me.name = "<init>") (hH : zH s0 s G as0 w H locs) (pc : Nat) {idx ci N a : Nat} {CN : String} {T : u_T} {fs : List Value} {v : Value} {w' : va_W} (ty0 : Nat → FieldType) (hin : ∀ x ∈ u_ws CN T N, x ∈ lw_all) (hty : ∀ k, k < N → parseFieldDescriptor (T k).2.2.1 = some (ty0 k)) (hnm : ∀ a, a < N → ∀ b, b < N → a ≠ b → (T a).2.1 ≠ (T b).2.1) (hc : vwCl[ci]? = some (CN, T, N)) (k : Nat) (hk : k < N) (hq : Cond.fieldLink own idx (T k).1 (T k).2.1 (T k).2.2.1 ∈ lw_all) (q0 : Nat) (he : w[q0]? = some (a, .inr (ci, fs))) (hfin : (T k).2.2.2 = true) (hdecl : (T k).1 = own) (hn : narrow (ty0 k) v = v) (hfit : fits (ty0 k) v = true) (hl : k < fs.length) (hw : w.set q0 (a, .inr (ci, fs.set k v)) = w') (hdg : decode cc pc = .ok (.putfield idx, 3)) (kk : ∀ (H1 : Heap) (locs1 : List Loc), zH s0 s G as0 w' H1 locs1 → W pg l ev R s m ar bl me c H1 locs1 ce sl Q (F0 m (pc + 3) ls st)) : W pg l ev R s m ar bl me c H locs ce sl Q (F0 m pc ls (v :: .ref a :: st)) :=
  va_putF C.1.1 C.1.2.1 C.1.2.2.2.2 hin ty0 hty hnm C.1.2.2.2.1 C.2.2.2.2.2 hH.1 hH.2.1 hH.2.2 q0 he hc k hk (C.1.2.2.2.2 _ hq) (fun _ h => h) hfin hin2 hdecl (hty k hk) hn hfit hl hdg (fun H1 l1 p d s => kk H1 l1 ⟨hw ▸ p, hw ▸ d, s⟩)
/-- a constructor's call -/
theorem z_runI (C : zC pg s0 s m ar me c G cc nL own ret) (hS : va_S (zB s0 s.heap.size as0) s.heap H locs) (hlz : ls.size = nL) {wc : va_W} (hP : va_P G.1 vwCl wc H) (hD : va_D (zB s0 s.heap.size as0) wc) {S : Type} {y : MethodName} {code' : ByteArray} {nL' fr lo mc ms idx b pc : Nat} (n : Nat) {As rest : List Value} {res : S → Option Value} {P : S → Prop} {w' : S → va_W} (hM : zMet l y code' nL' none fr lo mc ms s0 G H.size (.ref b :: As) wc res P w')
    (hG : GoodIn lw_all (ws_ y code' nL' none)) (hq : Cond.methodLink own idx y ∈ lw_all) (hx : Cond.initialized y.cls ∈ lw_all ∧ Cond.instanceMethod y ∈ lw_all) (hy : y.name = "<init>") (hd : y.cls ≠ "java/lang/invoke/MethodHandle" ∧ y.cls ≠ "java/lang/invoke/VarHandle" ∧ (parseMethodDescriptor y.desc).map (fun d => d.parameters.length) = some n) (hn : As.length = n) (hst : st = As.reverse ++ .ref b :: rest) (hW : (rest.map fun v => v.category).sum ≤ 8) (hR : fr + 1 ≤ R.frames ∧ 8 + (nL' + 11) + lo ≤ R.locals) (hf : ce + mc ≤ R.cells ∧ sl + ms ≤ R.slots) (hdg : decode cc pc = .ok (.invokespecial idx, 3)) :
    va_Run pg l ev R s m ar bl me c H locs ce sl mc ms (F0 m pc ls st) rest (zQc s0 G wc res P w' (Value.ref b :: As).toArray) (zB s0 H.size (wc.map Prod.fst)) :=
  va_runI (As := As) (rest := rest) C.1 hM (cwI n C.1.2.2.2.2 hG rfl rfl rfl (C.1.2.2.2.2 _ hx.1) (C.1.2.2.2.2 _ hq) (C.1.2.2.2.2 _ hx.2) hy hd hR) ⟨zPc_blind, z_pre C hS hP hD _⟩ rfl hn hlz hst (lv_room (pc := pc) (ls := ls) (rest := st) hW) hdg hf
/-- a nest mate's constructor's call -/
theorem z_runIN (C : zC pg s0 s m ar me c G cc nL own ret) (hS : va_S (zB s0 s.heap.size as0) s.heap H locs) (hlz : ls.size = nL) {wc : va_W} (hP : va_P G.1 vwCl wc H) (hD : va_D (zB s0 s.heap.size as0) wc) {S : Type} {y : MethodName} {code' : ByteArray} {nL' fr lo mc ms idx b pc : Nat} {host : String} (n : Nat) {As rest : List Value} {res : S → Option Value} {P : S → Prop} {w' : S → va_W} (hM : zMet l y code' nL' none fr lo mc ms s0 G H.size (.ref b :: As) wc res P w')
    (hG : GoodIn lw_all (ws_ y code' nL' none)) (hq : Cond.methodLinkNest own idx y host ∈ lw_tbl) (hx : Cond.initialized y.cls ∈ lw_all ∧ Cond.instanceMethod y ∈ lw_all) (hy : y.name = "<init>") (hd : y.cls ≠ "java/lang/invoke/MethodHandle" ∧ y.cls ≠ "java/lang/invoke/VarHandle" ∧ (parseMethodDescriptor y.desc).map (fun d => d.parameters.length) = some n) (hn : As.length = n) (hst : st = As.reverse ++ .ref b :: rest) (hW : (rest.map fun v => v.category).sum ≤ 8) (hR : fr + 1 ≤ R.frames ∧ 8 + (nL' + 11) + lo ≤ R.locals) (hf : ce + mc ≤ R.cells ∧ sl + ms ≤ R.slots) (hdg : decode cc pc = .ok (.invokespecial idx, 3)) :
    va_Run pg l ev R s m ar bl me c H locs ce sl mc ms (F0 m pc ls st) rest (zQc s0 G wc res P w' (Value.ref b :: As).toArray) (zB s0 H.size (wc.map Prod.fst)) :=
  va_runIN (As := As) (rest := rest) C.1 hM ⟨va_cnB n C.1.2.2.2.2 hG rfl rfl rfl (zNwM C.2.2.2.1 C.2.2.2.2.1 hq) (C.1.2.2.2.2 _ hx.1) hd hR, hy, C.1.2.2.2.2 _ hx.2⟩ ⟨zPc_blind, z_pre C hS hP hD _⟩ rfl hn hlz hst (lv_room (pc := pc) (ls := ls) (rest := st) hW) hdg hf
/-- a call on some of our cells, which come back in the same order with new ones behind them -/
theorem z_subN {wc : va_W} {S : Type} {res : S → Option Value} {P : S → Prop} {w1 x1 : S → va_W} {mc ms pc : Nat} {a : Array Value} {rest : List Value} (hr : va_Run pg l ev R s m ar bl me c H locs ce sl mc ms (F0 m pc ls st) rest (zQc s0 G wc res P (fun u => w1 u ++ x1 u) a) (zB s0 H.size (wc.map Prod.fst))) (hH : zH s0 s G as0 w H locs) (ks : List Nat) (hk : ks.map (fun k => w[k]?) = wc.map some) (hn : ks.Nodup) (hf : ∀ u, (w1 u).map Prod.fst = wc.map Prod.fst)
    (kk : ∀ (u : S) (H1 : Heap) (locs1 : List Loc), P u → zH s0 s G as0 (setL w ks (w1 u) ++ x1 u) H1 locs1 → W pg l ev R s m ar bl me c H1 locs1 (ce + mc) (sl + ms) Q (F0 m (pc + 3) ls ((res u).toList ++ rest))) : W pg l ev R s m ar bl me c H locs ce sl Q (F0 m pc ls st) := by
  have hsub : ∀ b ∈ wc.map Prod.fst, b ∈ w.map Prod.fst := fun b hb => by
    obtain ⟨q, hq, rfl⟩ := List.mem_map.mp hb
    obtain ⟨i, hi⟩ := List.getElem?_of_mem hq
    obtain ⟨k, -, h2⟩ := sub_at hk hi
    exact List.mem_map.mpr ⟨q, List.mem_of_getElem? h2, rfl⟩
  refine z_back hr hH hsub (fun u H1 locs1 hp hP1 hD1 hz hkp hS => kk u H1 locs1 hp ⟨va_P.app (fun j q hq => ?_) (va_P_r hP1), ?_, hS⟩)
  · by_cases e : j ∈ ks
    · obtain ⟨i, hi⟩ := List.getElem?_of_mem e
      obtain ⟨q0, a1, a2⟩ := sub_of hk hi
      have hl : i < (w1 u).length := by
        have := congrArg List.length (hf u)
        simp at this
        rw [this]
        exact (List.getElem?_eq_some_iff.mp a1).1
      obtain ⟨q1, hq1⟩ : ∃ q1, (w1 u)[i]? = some q1 := ⟨_, List.getElem?_eq_getElem hl⟩
      rw [setL_in ks (w1 u) w i j q1 hn hi hq1 (List.getElem?_eq_some_iff.mp a2).1] at hq
      cases hq
      exact va_P_l hP1 i _ hq1
    · rw [setL_out ks _ _ _ e] at hq
      have h1 := hH.1 j q hq
      refine h1.kept (hkp q.1 h1.lt (fun hmem => ?_))
      obtain ⟨q0, hq0, ea⟩ := List.mem_map.mp hmem
      obtain ⟨i, hi⟩ := List.getElem?_of_mem hq0
      obtain ⟨k, b1, b2⟩ := sub_at hk hi
      have := hH.2.1.1 k j q0 q b2 hq ea
      exact e (this ▸ List.mem_of_getElem? b1)
  · have key : ∀ (j : Nat) (q : Nat × va_E), (setL w ks (w1 u))[j]? = some q → ∃ q0, w[j]? = some q0 ∧ q0.1 = q.1 := by
      intro j q hq
      by_cases e : j ∈ ks
      · obtain ⟨i, hi⟩ := List.getElem?_of_mem e
        obtain ⟨q0, a1, a2⟩ := sub_of hk hi
        have h3 : ((w1 u).map Prod.fst)[i]? = (wc.map Prod.fst)[i]? := by rw [hf u]
        rw [List.getElem?_map, List.getElem?_map, a1] at h3
        cases hq1 : (w1 u)[i]? with
        | none => rw [hq1] at h3; simp at h3
        | some q1 =>
          rw [hq1] at h3
          rw [setL_in ks (w1 u) w i j q1 hn hi hq1 (List.getElem?_eq_some_iff.mp a2).1] at hq
          cases hq
          exact ⟨q0, a2, by simpa using h3.symm⟩
      · rw [setL_out ks _ _ _ e] at hq
        exact ⟨q, hq, rfl⟩
    have hnew : ∀ (j : Nat) (q : Nat × va_E), (x1 u)[j]? = some q → H.size ≤ q.1 ∧ s0.heap.size ≤ q.1 := by
      intro j q hq
      have h1 : (w1 u ++ x1 u)[(w1 u).length + j]? = some q := by rw [List.getElem?_append_right (Nat.le_add_right _ _), Nat.add_sub_cancel_left]; exact hq
      have h2 := hD1.2 _ q h1
      refine ⟨h2.2.elim (fun z => ?_) (fun z => z), h2.1⟩
      rw [← hf u] at z
      obtain ⟨q0, hq0, ea⟩ := List.mem_map.mp z
      obtain ⟨i, hi⟩ := List.getElem?_of_mem hq0
      have h3 : (w1 u ++ x1 u)[i]? = some q0 := by rw [List.getElem?_append_left (List.getElem?_eq_some_iff.mp hi).1]; exact hi
      have h4 := hD1.1 i _ q0 q h3 h1 ea
      have := (List.getElem?_eq_some_iff.mp hi).1
      omega
    refine va_D.app ⟨fun i j p q hp hq e => ?_, fun j q hq => ?_⟩ ⟨fun i j p q hp hq e => ?_, fun j q hq => ?_⟩ (fun i j p q hp hq e => ?_)
    · obtain ⟨p0, c1, c2⟩ := key i p hp
      obtain ⟨q0, d1, d2⟩ := key j q hq
      exact hH.2.1.1 i j p0 q0 c1 d1 (by rw [c2, d2, e])
    · obtain ⟨q0, d1, d2⟩ := key j q hq
      rw [← d2]
      exact hH.2.1.2 j q0 d1
    · have h1 : (w1 u ++ x1 u)[(w1 u).length + i]? = some p := by rw [List.getElem?_append_right (Nat.le_add_right _ _), Nat.add_sub_cancel_left]; exact hp
      have h2 : (w1 u ++ x1 u)[(w1 u).length + j]? = some q := by rw [List.getElem?_append_right (Nat.le_add_right _ _), Nat.add_sub_cancel_left]; exact hq
      have := hD1.1 _ _ p q h1 h2 e
      omega
    · obtain ⟨h1, h2⟩ := hnew j q hq
      exact ⟨h2, Or.inr (Nat.le_trans hH.2.2.1 h1)⟩
    · obtain ⟨p0, c1, c2⟩ := key i p hp
      have h1 := (hH.1 i p0 c1).lt
      have h2 := (hnew j q hq).1
      omega
theorem zH_l {w1 w2 : va_W} (hH : zH s0 s G as0 (w1 ++ w2) H locs) : zH s0 s G as0 w1 H locs :=
  ⟨va_P_l hH.1, ⟨fun i j p q hp hq e => hH.2.1.1 i j p q (by rw [List.getElem?_append_left (List.getElem?_eq_some_iff.mp hp).1]; exact hp) (by rw [List.getElem?_append_left (List.getElem?_eq_some_iff.mp hq).1]; exact hq) e, fun k q hk => hH.2.1.2 k q (by rw [List.getElem?_append_left (List.getElem?_eq_some_iff.mp hk).1]; exact hk)⟩, hH.2.2⟩
end ZNEW
/-- two final fields that one class lays lie apart, if their names or their owners differ -/
theorem zap2 {args : Array Value} {s : State} {C O f d O' f' d' : String} (h : (Cond.laysFinal C O f d).before args s = true) (h' : (Cond.laysFinal C O' f' d').before args s = true) {cf kf fi fd cf' kf' fi' fd'} (hi : s.fieldFound? O f d = some (cf, kf, fi, fd)) (hi' : s.fieldFound? O' f' d' = some (cf', kf', fi', fd')) (hne : O ≠ O' ∨ fd.name ≠ fd'.name) : fd.slot ≠ fd'.slot := by
  obtain ⟨a, _, _, _, _, _, ha, _, hg, _, _, _, ho, _, x, hx, hx1, hx2, _⟩ := Cond.laysFinal_spec h
  obtain ⟨a', _, _, _, _, _, ha', _, hg', _, _, _, ho', _, x', hx', hx1', hx2', _⟩ := Cond.laysFinal_spec h'
  cases hi.symm.trans hg
  cases hi'.symm.trans hg'
  cases ha.symm.trans ha'
  intro hs
  rw [hs] at hx
  cases hx.symm.trans hx'
  rcases hne with q | q
  · obtain ⟨k1, e1, n1⟩ := Vm.findClass_spec ho
    obtain ⟨k2, e2, n2⟩ := Vm.findClass_spec ho'
    cases e1.symm.trans (State.fieldFound?_class hi)
    cases e2.symm.trans (State.fieldFound?_class hi')
    exact q (by rw [← n1, ← n2, ← hx1, ← hx1'])
  · exact q (hx2.symm.trans hx2')
section ZPUT2
variable {pg : Program} {l : Launch} {ev : Env} {R : Room} {s0 s : State} {m : MethodId} {ar : Array Value} {bl : List Frame} {me : Method} {c : Code} {H : Heap} {locs : List Loc} {ce sl : Nat} {Q : State → Prop} {G : zG} {cc : ByteArray} {nL : Nat} {own : String} {ret : Option FieldType} {ls : Array Slot} {st : List Value} {as0 : List Nat} {w : va_W}
theorem zap3 (C : zC pg s0 s m ar me c G cc nL own ret) {ci N : Nat} {CN : String} {T : u_T} (ty0 : Nat → FieldType) (hin : ∀ x ∈ u_ws CN T N, x ∈ lw_all) (hty : ∀ k, k < N → parseFieldDescriptor (T k).2.2.1 = some (ty0 k)) (hnm : ∀ a, a < N → ∀ b, b < N → a ≠ b → (T a).1 ≠ (T b).1 ∨ (T a).2.1 ≠ (T b).2.1) (hall : ∀ a, a < N → (T a).2.2.2 = true) (hc : vwCl[ci]? = some (CN, T, N)) : ∀ x y, x < N → y < N → x ≠ y → (G.1.2 ci) x ≠ (G.1.2 ci) y := by
  intro x y hx hy hne
  obtain ⟨hS, -⟩ := C.2.2.2.2.2.1 ci _ hc
  obtain ⟨_, _, _, fa, hia, ea⟩ := hS x hx
  obtain ⟨_, _, _, fb, hib, eb⟩ := hS y hy
  have hl : ∀ k, k < N → (Cond.laysFinal CN (T k).1 (T k).2.1 (T k).2.2.1).before ar s = true := fun k hk => by
    have h := C.1.2.2.2.2 _ (hin _ (u_in_lay hk))
    unfold u_lay at h
    rw [if_pos (hall k hk)] at h
    exact h
  rw [← ea, ← eb]
  refine zap2 (hl x hx) (hl y hy) hia hib ?_
  rw [(State.fieldFound?_type hia (hty x hx)).1, (State.fieldFound?_type hib (hty y hy)).1]
  exact hnm x hx y hy hne
/-- a final field of a class with two fields of one name, in a constructor -/
theorem z_putF2 (C : zC pg s0 s m ar me c G cc nL own ret) (hin2 : me.name = "<init>") (hH : zH s0 s G as0 w H locs) (pc : Nat) {idx ci N a : Nat} {CN : String} {T : u_T} {fs : List Value} {v : Value} {w' : va_W} (ty0 : Nat → FieldType) (hin : ∀ x ∈ u_ws CN T N, x ∈ lw_all) (hty : ∀ k, k < N → parseFieldDescriptor (T k).2.2.1 = some (ty0 k)) (hnm : ∀ a, a < N → ∀ b, b < N → a ≠ b → (T a).1 ≠ (T b).1 ∨ (T a).2.1 ≠ (T b).2.1) (hall : ∀ a, a < N → (T a).2.2.2 = true) (hc : vwCl[ci]? = some (CN, T, N)) (k : Nat) (hk : k < N) (hq : Cond.fieldLink own idx (T k).1 (T k).2.1 (T k).2.2.1 ∈ lw_all) (q0 : Nat) (he : w[q0]? = some (a, .inr (ci, fs))) (hdecl : (T k).1 = own) (hn : narrow (ty0 k) v = v) (hfit : fits (ty0 k) v = true) (hl : k < fs.length) (hw : w.set q0 (a, .inr (ci, fs.set k v)) = w') (hdg : decode cc pc = .ok (.putfield idx, 3)) (kk : ∀ (H1 : Heap) (locs1 : List Loc), zH s0 s G as0 w' H1 locs1 → W pg l ev R s m ar bl me c H1 locs1 ce sl Q (F0 m (pc + 3) ls st)) : W pg l ev R s m ar bl me c H locs ce sl Q (F0 m pc ls (v :: .ref a :: st)) := by
  have hap := zap3 C ty0 hin hty hnm hall hc
  have hts := C.1.2.2.2.2
  obtain ⟨r, h1, cell, q1, q2, q3, q4⟩ := hH.1 q0 _ he
  have hr : r = (CN, T, N) := Option.some.inj (h1.symm.trans hc)
  subst hr
  obtain ⟨hS, hfc, kC, hkC, hkind⟩ := C.2.2.2.2.2.1 ci _ hc
  obtain ⟨cf, kf, fi, f, hi, hsl⟩ := hS k hk
  have hlay : (Cond.laysFinal CN (T k).1 (T k).2.1 (T k).2.2.1).before ar s = true := by
    have h := hts _ (hin _ (u_in_lay hk))
    unfold u_lay at h
    rw [if_pos (hall k hk)] at h
    exact h
  have hcf : m.cls = cf := by
    obtain ⟨_, _, c', _, _, _, -, -, hf', -, -, -, hown2, -⟩ := Cond.laysFinal_spec hlay
    have e1 : c' = cf := by have := hi.symm.trans hf'; simp at this; exact this.1.symm
    rw [hdecl] at hown2
    rw [← e1]
    exact Option.some.inj (C.1.2.2.2.1.symm.trans hown2)
  refine W.putFinK C.1.1 C.1.2.1 C.1.2.2.2.1 (hts _ hq) hi (u_facts hfc hkC (u_lays hts hin hk) hi).1 hcf hin2 (by rw [q2]; exact u_fits hfc hkC hkind (Or.inr hlay) hi (hty k hk) hn hfit) q1 q3 (by rw [hsl]; exact k2_hasslot (q4 k hk)) rfl rfl hdg fun H' e1 e2 e3 => ?_
  rw [hsl] at e1 ⊢
  subst hw
  exact kk H' _ ⟨hH.1.set hH.2.1 he ⟨_, hc, t_OB.to (V := updV (vp_V fs) k v) ⟨_, e1, q2, q3, t_set q4 hap hk v⟩ (fun j _ => vp_updV_set hl v j)⟩ e3, hH.2.1.set he, hH.2.2.put e2 e3 (hH.2.1.2 q0 _ he)⟩
end ZPUT2
