/-! calls of inherited, overriding and super methods; StringBuilder and String as they are made -/
set_option maxRecDepth 100000
theorem lw_O {own : String} {idx : Nat} {C owner : String} {x y : MethodName} {b : ByteArray} {L : Nat} {r : Option FieldType} (h1 : Cond.methodLink own idx x ∈ lw_all) (h2 : Cond.sameMethod x.cls owner x.name x.desc ∈ lw_all) (h0 : Cond.instanceMethod ⟨owner, x.name, x.desc⟩ ∈ lw_all) (h3 : Cond.selects C x y ∈ lw_all) (h4 : Cond.instanceMethod y ∈ lw_all) (h5 : Cond.initialized y.cls ∈ lw_all) (h6 : Cond.code y b L r ∈ lw_all) : GoodIn lw_all (va_wsO own idx C owner x y (ws_ y b L r)) := by
  refine lw_app ?_ (lw_meth h6)
  intro w hw
  simp only [List.mem_cons, List.not_mem_nil, or_false] at hw
  rcases hw with e | e | e | e | e | e
  · rw [e]; exact h1
  · rw [e]; exact h2
  · rw [e]; exact h0
  · rw [e]; exact h3
  · rw [e]; exact h4
  · rw [e]; exact h5
theorem lw_SU {own : String} {idx : Nat} {y : MethodName} {b : ByteArray} {L : Nat} {r : Option FieldType} (h1 : Cond.methodLink own idx y ∈ lw_all) (h2 : Cond.sameMethod y.cls y.cls y.name y.desc ∈ lw_all) (h3 : Cond.superclass own y.cls ∈ lw_all) (h4 : Cond.instanceMethod y ∈ lw_all) (h5 : Cond.initialized y.cls ∈ lw_all) (h6 : Cond.code y b L r ∈ lw_all) : GoodIn lw_all (va_wsSU own idx y (ws_ y b L r)) := by
  refine lw_app ?_ (lw_meth h6)
  intro w hw
  simp only [List.mem_cons, List.not_mem_nil, or_false] at hw
  rcases hw with e | e | e | e | e
  · rw [e]; exact h1
  · rw [e]; exact h2
  · rw [e]; exact h3
  · rw [e]; exact h4
  · rw [e]; exact h5
theorem fits_byte {x : Int} (h : -128 ≤ x ∧ x ≤ 127) : fits .byte (.int (iZ x)) = true := by
  unfold fits
  simp
  refine ⟨?_, ?_⟩
  · rw [show (-128 : Int32) = iZ (-128) from by decide]
    exact (iZ_le (by omega) (by omega)).mpr h.1
  · rw [show (127 : Int32) = iZ 127 from by decide]
    exact (iZ_le (by omega) (by omega)).mpr h.2
section ZSBR
variable {pg : Program} {l : Launch} {ev : Env} {R : Room} {s0 s : State} {m : MethodId} {ar : Array Value} {bl : List Frame} {me : Method} {c : Code} {H : Heap} {locs : List Loc} {ce sl : Nat} {Q : State → Prop} {G : zG} {cc : ByteArray} {nL : Nat} {own : String} {ret : Option FieldType} {ls : Array Slot} {st : List Value} {as0 : List Nat} {w : va_W}
/-- a pure method that is inherited -/
theorem zp_runU (C : zC pg s0 s m ar me c G cc nL own ret) (hS : va_S (zB s0 s.heap.size as0) s.heap H locs) (hlz : ls.size = nL) {wc : va_W} (hP : va_P G.1 vwCl wc H) {S : Type} {x y : MethodName} {code' : ByteArray} {nL' fr lo idx ci N b q0 pc : Nat} {ret' : Option FieldType} {CN owner : String} {T : u_T} {fs : List Value} (n : Nat) {As rest : List Value} {res : S → Option Value} {P : S → Prop} (hM : zPur l y code' nL' ret' fr lo s0 G (.ref b :: As) wc res P) (hG : GoodIn lw_all (va_wsU own idx CN owner x y (ws_ y code' nL' ret'))) (hyx : y = ⟨owner, x.name, x.desc⟩) (hd : owner ≠ "java/lang/invoke/MethodHandle" ∧ owner ≠ "java/lang/invoke/VarHandle" ∧ (parseMethodDescriptor x.desc).map (fun d => d.parameters.length) = some n) (hq : wc[q0]? = some (b, .inr (ci, fs))) (hc : vwCl[ci]? = some (CN, T, N)) (hn : As.length = n) (hst : st = As.reverse ++ .ref b :: rest) (hW : (rest.map fun v => v.category).sum ≤ 8) (hR : fr + 1 ≤ R.frames ∧ 8 + (nL' + 11) + lo ≤ R.locals) (hf : ce + 0 ≤ R.cells ∧ sl + 0 ≤ R.slots) (hdg : decode cc pc = .ok (.invokevirtual idx, 3)) : va_Run pg l ev R s m ar bl me c H locs ce sl 0 0 (F0 m pc ls st) rest (zPq res P (Value.ref b :: As).toArray) zNo :=
  va_runU (As := As) (rest := rest) C.1 hM (va_cwU n C.1.2.2.2.2 hG rfl rfl rfl hyx hd hR) ⟨zPp_blind, va_recv C.2.2.2.2.2 hP hc hq, zp_pre C hS hP _⟩ rfl hn hlz hst (lv_room (pc := pc) (ls := ls) (rest := st) hW) hdg hf
/-- a pure method that overrides what the reference names -/
theorem zp_runO (C : zC pg s0 s m ar me c G cc nL own ret) (hS : va_S (zB s0 s.heap.size as0) s.heap H locs) (hlz : ls.size = nL) {wc : va_W} (hP : va_P G.1 vwCl wc H) {S : Type} {x y : MethodName} {code' : ByteArray} {nL' fr lo idx ci N b q0 pc : Nat} {ret' : Option FieldType} {CN owner : String} {T : u_T} {fs : List Value} (n : Nat) {As rest : List Value} {res : S → Option Value} {P : S → Prop} (hM : zPur l y code' nL' ret' fr lo s0 G (.ref b :: As) wc res P) (hG : GoodIn lw_all (va_wsO own idx CN owner x y (ws_ y code' nL' ret'))) {b0 : ByteArray} {m0 : Nat} {r0 : Option FieldType} (h0 : Cond.code ⟨owner, x.name, x.desc⟩ b0 m0 r0 ∈ lw_all) (hd : owner ≠ "java/lang/invoke/MethodHandle" ∧ owner ≠ "java/lang/invoke/VarHandle" ∧ (parseMethodDescriptor x.desc).map (fun d => d.parameters.length) = some n) (hq : wc[q0]? = some (b, .inr (ci, fs))) (hc : vwCl[ci]? = some (CN, T, N)) (hn : As.length = n) (hst : st = As.reverse ++ .ref b :: rest) (hW : (rest.map fun v => v.category).sum ≤ 8) (hR : fr + 1 ≤ R.frames ∧ 8 + (nL' + 11) + lo ≤ R.locals) (hf : ce + 0 ≤ R.cells ∧ sl + 0 ≤ R.slots) (hdg : decode cc pc = .ok (.invokevirtual idx, 3)) : va_Run pg l ev R s m ar bl me c H locs ce sl 0 0 (F0 m pc ls st) rest (zPq res P (Value.ref b :: As).toArray) zNo :=
  va_runU (As := As) (rest := rest) C.1 hM (va_cwO n C.1.2.2.2.2 hG rfl rfl rfl h0 hd hR) ⟨zPp_blind, va_recv C.2.2.2.2.2 hP hc hq, zp_pre C hS hP _⟩ rfl hn hlz hst (lv_room (pc := pc) (ls := ls) (rest := st) hW) hdg hf
/-- a private method of a superclass, its selection being known -/
theorem zp_runVP (C : zC pg s0 s m ar me c G cc nL own ret) (hS : va_S (zB s0 s.heap.size as0) s.heap H locs) (hlz : ls.size = nL) {wc : va_W} (hP : va_P G.1 vwCl wc H) {S : Type} {y : MethodName} {code' : ByteArray} {nL' fr lo idx ci N b q0 pc : Nat} {ret' : Option FieldType} {CN : String} {T : u_T} {fs : List Value} (n : Nat) {As rest : List Value} {res : S → Option Value} {P : S → Prop} (hM : zPur l y code' nL' ret' fr lo s0 G (.ref b :: As) wc res P) (hG : GoodIn lw_all (ws_ y code' nL' ret')) (hx : Cond.methodLink own idx y ∈ lw_all ∧ Cond.instanceMethod y ∈ lw_all ∧ Cond.initialized y.cls ∈ lw_all) (hsel : (Cond.selects CN y y).before ar s = true) (hd : y.cls ≠ "java/lang/invoke/MethodHandle" ∧ y.cls ≠ "java/lang/invoke/VarHandle" ∧ (parseMethodDescriptor y.desc).map (fun d => d.parameters.length) = some n) (hq : wc[q0]? = some (b, .inr (ci, fs))) (hc : vwCl[ci]? = some (CN, T, N)) (hn : As.length = n) (hst : st = As.reverse ++ .ref b :: rest) (hW : (rest.map fun v => v.category).sum ≤ 8) (hR : fr + 1 ≤ R.frames ∧ 8 + (nL' + 11) + lo ≤ R.locals) (hf : ce + 0 ≤ R.cells ∧ sl + 0 ≤ R.slots) (hdg : decode cc pc = .ok (.invokevirtual idx, 3)) : va_Run pg l ev R s m ar bl me c H locs ce sl 0 0 (F0 m pc ls st) rest (zPq res P (Value.ref b :: As).toArray) zNo :=
  va_runV (As := As) (rest := rest) C.1 hM ⟨callB_of n C.1.2.2.2.2 hG rfl rfl rfl (C.1.2.2.2.2 _ hx.2.2) (C.1.2.2.2.2 _ hx.1) hd hR, C.1.2.2.2.2 _ hx.2.1, hsel⟩ ⟨zPp_blind, va_recv C.2.2.2.2.2 hP hc hq, zp_pre C hS hP _⟩ rfl hn hlz hst (lv_room (pc := pc) (ls := ls) (rest := st) hW) hdg hf
/-- a super method, pure -/
theorem zp_runSU (C : zC pg s0 s m ar me c G cc nL own ret) (hS : va_S (zB s0 s.heap.size as0) s.heap H locs) (hlz : ls.size = nL) {wc : va_W} (hP : va_P G.1 vwCl wc H) {S : Type} {y : MethodName} {code' : ByteArray} {nL' fr lo idx ci N b q0 pc : Nat} {ret' : Option FieldType} {CN : String} {T : u_T} {fs : List Value} (n : Nat) {As rest : List Value} {res : S → Option Value} {P : S → Prop} (hM : zPur l y code' nL' ret' fr lo s0 G (.ref b :: As) wc res P) (hG : GoodIn lw_all (va_wsSU own idx y (ws_ y code' nL' ret'))) (hd : y.name ≠ "<init>" ∧ (parseMethodDescriptor y.desc).map (fun d => d.parameters.length) = some n) (hq : wc[q0]? = some (b, .inr (ci, fs))) (hc : vwCl[ci]? = some (CN, T, N)) (hn : As.length = n) (hst : st = As.reverse ++ .ref b :: rest) (hW : (rest.map fun v => v.category).sum ≤ 8) (hR : fr + 1 ≤ R.frames ∧ 8 + (nL' + 11) + lo ≤ R.locals) (hf : ce + 0 ≤ R.cells ∧ sl + 0 ≤ R.slots) (hdg : decode cc pc = .ok (.invokespecial idx, 3)) : va_Run pg l ev R s m ar bl me c H locs ce sl 0 0 (F0 m pc ls st) rest (zPq res P (Value.ref b :: As).toArray) zNo :=
  va_runSU (As := As) (rest := rest) (C.2.2.2.2.2.1 ci _ hc).2 C.1 hM (va_cwSU n C.1.2.2.2.2 hG rfl rfl rfl hd hR) ⟨zPp_blind, va_recv C.2.2.2.2.2 hP hc hq, zp_pre C hS hP _⟩ rfl hn hlz hst (lv_room (pc := pc) (ls := ls) (rest := st) hW) hdg hf
/-- a super method -/
theorem z_runSU (C : zC pg s0 s m ar me c G cc nL own ret) (hS : va_S (zB s0 s.heap.size as0) s.heap H locs) (hlz : ls.size = nL) {wc : va_W} (hP : va_P G.1 vwCl wc H) (hD : va_D (zB s0 s.heap.size as0) wc) {S : Type} {y : MethodName} {code' : ByteArray} {nL' fr lo mc ms idx ci N b q0 pc : Nat} {ret' : Option FieldType} {CN : String} {T : u_T} {fs : List Value} (n : Nat) {As rest : List Value} {res : S → Option Value} {P : S → Prop} {w' : S → va_W} (hM : zMet l y code' nL' ret' fr lo mc ms s0 G H.size (.ref b :: As) wc res P w')
    (hG : GoodIn lw_all (va_wsSU own idx y (ws_ y code' nL' ret'))) (hd : y.name ≠ "<init>" ∧ (parseMethodDescriptor y.desc).map (fun d => d.parameters.length) = some n) (hq : wc[q0]? = some (b, .inr (ci, fs))) (hc : vwCl[ci]? = some (CN, T, N)) (hn : As.length = n) (hst : st = As.reverse ++ .ref b :: rest) (hW : (rest.map fun v => v.category).sum ≤ 8) (hR : fr + 1 ≤ R.frames ∧ 8 + (nL' + 11) + lo ≤ R.locals) (hf : ce + mc ≤ R.cells ∧ sl + ms ≤ R.slots) (hdg : decode cc pc = .ok (.invokespecial idx, 3)) :
    va_Run pg l ev R s m ar bl me c H locs ce sl mc ms (F0 m pc ls st) rest (zQc s0 G wc res P w' (Value.ref b :: As).toArray) (zB s0 H.size (wc.map Prod.fst)) :=
  va_runSU (As := As) (rest := rest) (C.2.2.2.2.2.1 ci _ hc).2 C.1 hM (va_cwSU n C.1.2.2.2.2 hG rfl rfl rfl hd hR) ⟨zPc_blind, va_recv C.2.2.2.2.2 hP hc hq, z_pre C hS hP hD _⟩ rfl hn hlz hst (lv_room (pc := pc) (ls := ls) (rest := st) hW) hdg hf
/-- a private method, by its table's words at the start -/
theorem sel_priv {args : Array Value} {U : State} {CN : String} {y z : MethodName} (hy : y.cls ≠ "java/lang/invoke/MethodHandle" ∧ y.cls ≠ "java/lang/invoke/VarHandle") (hcls : z.cls = y.cls) (hz : (Cond.selects CN z z).before args U = true) (hpriv : (Cond.privateMethod y).before args U = true) (hinst : (Cond.instanceMethod y).before args U = true) : (Cond.selects CN y y).before args U = true := by
  obtain ⟨c, r, mz, hc, -, hnz, -, kP, hkP, hkPi⟩ := Cond.selects_spec hz
  obtain ⟨mk, methM, hnamed, hmethM, -, -⟩ := Cond.instanceMethod_spec hinst
  have hfound : U.methodFound? y.cls y.name y.desc = some mk := State.methodFound?_of_named hnamed hy
  have hcl : mk.cls = mz.cls := Option.some.inj ((findClass_of_methodNamed hnamed).symm.trans ((congrArg U.vm.findClass hcls.symm).trans (findClass_of_methodNamed hnz)))
  have hsel : selectMethod {} U.vm c mk = .method mk := selectMethod_private hmethM (Cond.privateMethod_at hpriv mk methM hnamed hmethM)
  have hk : U.vm.classes[mk.cls]? = some kP := by rw [hcl]; exact hkP
  simp only [Cond.before, Cond.holds, Cond.value, hc, hfound, hnamed, hsel, hk]
  simp
  exact hkPi
theorem sel_ec {pg : Program} {s0 s : State} {m : MethodId} {ar : Array Value} {me : Method} {c : Code} {G : zG} {cc : ByteArray} {nL : Nat} {own : String} {ret : Option FieldType} (C : zC pg s0 s m ar me c G cc nL own ret) : (Cond.selects RJ1 yJ0_ensureCapacityInternal yJ0_ensureCapacityInternal).before ar s = true := by
  obtain ⟨⟨b, hb, -⟩, -⟩ := C.2.2.2.1
  have h1 : (Cond.selects RJ1 yJ0_ensureCapacityInternal yJ0_ensureCapacityInternal).before #[Value.ref b] s0 = true := sel_priv (z := yJ0_isLatin1) ⟨by decide, by decide⟩ rfl (hb _ (lw_all_tbl q460)) (hb _ q423) (hb _ (lw_all_tbl q424))
  exact word_at C.2.2.2.2.1.1 (Or.inl (by first | rfl | simp [Cond.onTables, Cond.keeps, Cond.steady])) h1
theorem z_dup_x1 (C : zC pg s0 s m ar me c G cc nL own ret) (pc : Nat) {v u : Value} (hdg : decode cc pc = .ok (.dup_x1, 1)) (hv : v.category = 1) (hu : u.category = 1) (kk : W pg l ev R s m ar bl me c H locs ce sl Q (F0 m (pc + 1) ls (v :: u :: v :: st))) : W pg l ev R s m ar bl me c H locs ce sl Q (F0 m pc ls (v :: u :: st)) := lv_dup_x1 C.1.1 C.1.2.1 hdg hv hu kk
theorem z_arrret {S : Type} {w0 : va_W} {res : S → Option Value} {P : S → Prop} {w' : S → va_W} {mc ms a : Nat} {ty : FieldType} (C : zC pg s0 s m ar me c G cc nL own (some (.array ty))) (hH : zH s0 s G as0 w H locs) (hQ : zQd Q bl ar s0 s G as0 w0 res P w' mc ms) (pc : Nat) (u : S) (hdg : decode cc pc = .ok (.areturn, 1)) (hres : res u = some (.ref a)) (hP : P u) (hw : w = w' u) (h1 : ce ≤ mc) (h2 : sl ≤ ms) : W pg l ev R s m ar bl me c H locs ce sl Q (F0 m pc ls [.ref a]) := by
  obtain ⟨rfl, rfl⟩ := hQ
  obtain ⟨e1, e2⟩ := z_end (ar := ar) hH u hP hw hres
  exact W.widen h1 h2 (W.aret C.1.1 C.1.2.1 C.2.1 (Or.inr ⟨ty, rfl⟩) (Or.inr ⟨a, rfl⟩) e1 e2 hdg C.2.2.1)
theorem zp_arrret {S : Type} {res : S → Option Value} {P : S → Prop} {a : Nat} {ty : FieldType} (C : zC pg s0 s m ar me c G cc nL own (some (.array ty))) (hQ : zPd Q bl ar s res P) (pc : Nat) (u : S) (hdg : decode cc pc = .ok (.areturn, 1)) (hres : res u = some (.ref a)) (hP : P u) : W pg l ev R s m ar bl me c s.heap [] 0 0 Q (F0 m pc ls [.ref a]) := by
  cases hQ
  exact W.aret C.1.1 C.1.2.1 C.2.1 (Or.inr ⟨ty, rfl⟩) (Or.inr ⟨a, rfl⟩) (fun t ht _ => ⟨u, by rw [hres], hP, ht⟩) (fun _ h => by cases h) hdg C.2.2.1
/-- System.arraycopy of n bytes, from the beginning of one array to the beginning of another one -/
theorem z_copyb (C : zC pg s0 s m ar me c G cc nL own ret) (hH : zH s0 s G as0 w H locs) (hlz : ls.size = nL) (pc q0 q1 n : Nat) {idx a0 a n0 n1 : Nat} {f g h : Nat → Int} {w' : va_W} (h0 : w[q0]? = some (a0, .inl (G.2 1, n0, .inl (zA f)))) (h1 : w[q1]? = some (a, .inl (G.2 1, n1, .inl (zA g)))) (hn : n ≤ 100) (hn0 : n ≤ n0) (hn1 : n ≤ n1) (hfit : ∀ i, i < n → -128 ≤ f i ∧ f i ≤ 127) (hh : ∀ j, j < n1 → h j = if j < n then f j else g j) (hw : w.set q1 (a, .inl (G.2 1, n1, .inl (zA h))) = w') (hq : Cond.methodLink own idx arraycopyName ∈ lw_all) (hR : 1 ≤ R.frames ∧ (st.map fun v => v.category).sum + 18 ≤ R.locals) (hdg : decode cc pc = .ok (.invokestatic idx, 3))
    (kk : ∀ (H1 : Heap) (locs1 : List Loc), zH s0 s G as0 w' H1 locs1 → W pg l ev R s m ar bl me c H1 locs1 ce sl Q (F0 m (pc + 3) ls st)) : W pg l ev R s m ar bl me c H locs ce sl Q (F0 m pc ls (.int (iZ (n : Int)) :: .int (iZ 0) :: .ref a :: .int (iZ 0) :: .ref a0 :: st)) := by
  subst hw
  have e0 : (iZ 0).toNatClampNeg = 0 := by decide
  have e1 : (iZ (n : Int)).toNatClampNeg = n := iZ_clamp n (by omega)
  have hneg : ¬ iZ (n : Int) < 0 := fun q => by
    have h9 := (iZ_lt (a := (n : Int)) (b := 0) (by omega) (by omega)).mp (by rw [show iZ 0 = (0 : Int32) from by decide]; exact q)
    omega
  refine va_copyi C.1.1 C.1.2.1 (C.1.2.2.1.trans hlz.symm) C.1.2.2.2.1 (C.1.2.2.2.2 _ hq) (C.1.2.2.2.2 _ q456) (C.1.2.2.2.2 _ q455) (C.1.2.2.2.2 _ q104) C.2.2.2.2.2 hH.1 hH.2.1 hH.2.2 q0 q1 1 1 h0 h1 rfl rfl rfl (by decide) (by decide) hneg (by rw [e0, e1]; omega) (by rw [e0, e1]; omega) (fun i hi => ?_) hR.1 (by exact hR.2) hdg ?_
  · rw [e1] at hi
    rw [e0, Nat.zero_add]
    exact fits_byte (hfit i hi)
  rw [e0, e1]
  intro H1 l1 p d z
  have hn9 : (w.set q1 (a, .inl (G.2 1, n1, .inl (va_cpy (zA f) (zA g) 0 0 n))))[q1]? = some (a, .inl (G.2 1, n1, .inl (va_cpy (zA f) (zA g) 0 0 n))) := List.getElem?_set_self (List.getElem?_eq_some_iff.mp h1).1
  have h2 := zH_arr (g := zA h) ⟨p, d, z⟩ hn9 (fun j hj => by
    show (if 0 ≤ j ∧ j < 0 + n then zA f (0 + (j - 0)) else zA g j) = zA h j
    unfold zA
    rw [hh j hj]
    by_cases q : j < n
    · rw [if_pos ⟨Nat.zero_le _, by omega⟩, if_pos q, Nat.zero_add, Nat.sub_zero]
    · rw [if_neg (by omega), if_neg q])
  rw [List.set_set] at h2
  exact kk H1 l1 h2
end ZSBR
