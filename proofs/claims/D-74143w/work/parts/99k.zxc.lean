/-! contracts of the Reader's methods: they return, or throw a Fault -/
set_option maxRecDepth 100000
/-- what a thrown Fault leaves: the desk's object, its tape, the Fault -/
def fltW (G : zG) (dk tp : Nat) (D : List Value) (f : Nat → Int) (q k p : Nat) : va_W := [(dk, .inr (1, D)), (tp, .inl (G.2 1, 900, .inl (zA f))), (q, .inr (8, [.null, .null, .null, .null, .null, .int (iZ 0), .int (iZ (k : Int)), .int (iZ (p : Int))]))]
def zQx (s0 : State) (G : zG) (w : va_W) (dk tp : Nat) (D : List Value) (f : Nat → Int) (X : Nat → Nat → Prop) : String → Addr → State → State → Prop := fun E q st t =>
  E = RX9 ∧ ∃ k p : Nat, X k p ∧ va_P G.1 vwCl (fltW G dk tp D f q k p) t.heap ∧ va_D (zB s0 st.heap.size (w.map Prod.fst)) (fltW G dk tp D f q k p) ∧ st.heap.size ≤ t.heap.size ∧ ∀ z : Nat, z < st.heap.size → z ∉ w.map Prod.fst → t.heap[z]? = st.heap[z]?
def zxMet {S : Type} (l : Launch) (y : MethodName) (code : ByteArray) (nL : Nat) (ret : Option FieldType) (fr lo mc ms : Nat) (s0 : State) (G : zG) (sz : Nat) (av : List Value) (w : va_W) (res : S → Option Value) (P : S → Prop) (w' : S → va_W) (dk tp : Nat) (D : List Value) (f : Nat → Int) (X : Nat → Nat → Prop) : Prop :=
  vq_Met l y (ws_ y code nL ret) (zRm fr mc ms lo) (zPc s0 G sz av w) (zQc s0 G w res P w') (zQx s0 G w dk tp D f X) mc ms (zB s0 sz (w.map Prod.fst))
def zxQd {S : Type} (Q : State → Prop) (bl : List Frame) (ar : Array Value) (s0 s : State) (G : zG) (as0 : List Nat) (w : va_W) (res : S → Option Value) (P : S → Prop) (w' : S → va_W) (mc ms : Nat) (dk tp : Nat) (D : List Value) (f : Nat → Int) (X : Nat → Nat → Prop) : Prop := as0 = w.map Prod.fst ∧ Q = vq_MQ bl (zQc s0 G w res P w') (zQx s0 G w dk tp D f X) ar s mc ms (zB s0 s.heap.size as0)
theorem zxMet.of {S : Type} {l : Launch} {y : MethodName} {cc : ByteArray} {nL : Nat} {ret : Option FieldType} {fr lo mc ms : Nat} {s0 : State} {G : zG} {sz : Nat} {av : List Value} {w : va_W} {res : S → Option Value} {P : S → Prop} {w' : S → va_W} {dk tp : Nat} {D : List Value} {f : Nat → Int} {X : Nat → Nat → Prop} (hy : plainName y.cls = true) (hnl : (lg_sl av).length ≤ nL)
    (body : ∀ (pg : Program) (ev : Env) (s : State) (m : MethodId) (ar : Array Value) (bl : List Frame) (me : Method) (c : Code) (ls : Array Slot) (Q : State → Prop) (as0 : List Nat), zC pg s0 s m ar me c G cc nL y.cls ret → (∀ x ∈ c.exceptionTable.toList, False) → zH s0 s G as0 w s.heap [] → lv_has ls nL (lv_args 0 av) → zxQd Q bl ar s0 s G as0 w res P w' mc ms dk tp D f X → s.heap.size = sz →
      W pg l ev (zRm fr mc ms lo) s m ar bl me c s.heap [] 0 0 Q (F0 m 0 ls [])) : zxMet l y cc nL ret fr lo mc ms s0 G sz av w res P w' dk tp D f X := by
  refine vq_ofW (cc := cc) (maxL := nL) (ret := ret) hy rfl ?_
  intro p e s m args below meth c s₁ B hml hx0 hv
  obtain ⟨rfl, hsz, hst, ham, hP, hD⟩ := hv
  subst hsz
  have hts := atoms_spec (ws := ws_ y cc nL ret) B.pre
  have hts : ∀ x ∈ lw_all, x.before av.toArray s = true := fun x h => hts x (List.mem_cons_of_mem _ h)
  have hl := lv_entry av (n := nL) hnl
  rw [lg_entry_eq]
  exact body p e s m av.toArray below meth c _ _ (w.map Prod.fst) ⟨⟨B.exec, B.bytes, hml, findClass_of_methodNamed B.named, hts⟩, B.returns, B.notSynchronized, hst, ham, ham.k hst⟩ hx0
    ⟨hP, hD.weaken (fun k q hk h => ⟨h, Or.inl (List.mem_map.mpr ⟨q, List.mem_of_getElem? hk, rfl⟩)⟩), va_S.rf⟩ hl ⟨rfl, rfl⟩ rfl
section ZXC
variable {pg : Program} {l : Launch} {ev : Env} {R : Room} {s0 s : State} {m : MethodId} {ar : Array Value} {bl : List Frame} {me : Method} {c : Code} {H : Heap} {locs : List Loc} {ce sl : Nat} {Q : State → Prop} {G : zG} {cc : ByteArray} {nL : Nat} {own : String} {ret : Option FieldType} {ls : Array Slot} {st : List Value} {lv : List (Nat × Value)} {as0 : List Nat} {w : va_W} {dk tp : Nat} {D : List Value} {f : Nat → Int} {X : Nat → Nat → Prop}
theorem zx_iret {S : Type} {w0 : va_W} {res : S → Option Value} {P : S → Prop} {w' : S → va_W} {mc ms : Nat} (C : zC pg s0 s m ar me c G cc nL own (some .int)) (hH : zH s0 s G as0 w H locs) (hQ : zxQd Q bl ar s0 s G as0 w0 res P w' mc ms dk tp D f X) (pc : Nat) (u : S) {v : Int32} (hdg : decode cc pc = .ok (.ireturn, 1)) (hres : res u = some (.int v)) (hP : P u) (hw : w = w' u) (h1 : ce ≤ mc) (h2 : sl ≤ ms) : W pg l ev R s m ar bl me c H locs ce sl Q (F0 m pc ls [.int v]) := by
  obtain ⟨rfl, rfl⟩ := hQ
  obtain ⟨e1, e2⟩ := z_end (ar := ar) hH u hP hw hres
  exact vq_ret (W.widen h1 h2 (W.iret C.1.1 C.1.2.1 C.2.1 e1 e2 hdg C.2.2.1))
theorem zx_vret {S : Type} {w0 : va_W} {res : S → Option Value} {P : S → Prop} {w' : S → va_W} {mc ms : Nat} (C : zC pg s0 s m ar me c G cc nL own none) (hH : zH s0 s G as0 w H locs) (hQ : zxQd Q bl ar s0 s G as0 w0 res P w' mc ms dk tp D f X) (pc : Nat) (u : S) (hdg : decode cc pc = .ok (.return_, 1)) (hres : res u = none) (hP : P u) (hw : w = w' u) (h1 : ce ≤ mc) (h2 : sl ≤ ms) : W pg l ev R s m ar bl me c H locs ce sl Q (F0 m pc ls []) := by
  obtain ⟨rfl, rfl⟩ := hQ
  obtain ⟨e1, e2⟩ := z_end (ar := ar) hH u hP hw hres
  exact vq_ret (W.widen h1 h2 (W.vret C.1.1 C.1.2.1 C.2.1 e1 e2 hdg C.2.2.1))
/-- the Fault leaves the method -/
theorem zx_out {S : Type} {w0 : va_W} {res : S → Option Value} {P : S → Prop} {w' : S → va_W} {mc ms : Nat} (C : zC pg s0 s m ar me c G cc nL own ret) (hx0 : ∀ x ∈ c.exceptionTable.toList, False) {q k p : Nat} (hH : zH s0 s G as0 (fltW G dk tp D f q k p) H locs) (hQ : zxQd Q bl ar s0 s G as0 w0 res P w' mc ms dk tp D f X) (hX : X k p) (h1 : ce ≤ mc) (h2 : sl ≤ ms) {pc : Nat} {rest : List Value} : vx_W pg l ev R s m ar bl me c H locs ce sl Q (F0 m pc ls rest) q := by
  obtain ⟨rfl, rfl⟩ := hQ
  obtain ⟨q', g0, cell, g1, g2, g3, -⟩ := hH.1 2 _ rfl
  exact vq_out (E := RX9) (ce := cell) (fun x hx => (hx0 x hx).elim) C.2.2.1 g1 g3 (by rw [g2]; exact (C.2.2.2.2.2.1 8 _ rfl).2.1) (fun t ht _ => ⟨rfl, k, p, hX, by rw [ht]; exact hH.1, hH.2.1, by rw [ht]; exact hH.2.2.1, fun z a1 a2 => by
    rw [ht]
    exact hH.2.2.2.1 z a1 (fun h => h.2.elim a2 (fun b => absurd a1 (Nat.not_lt.mpr b)))⟩) hH.2.2.2.2 h1 h2
theorem zx_runV (C : zC pg s0 s m ar me c G cc nL own ret) (hS : va_S (zB s0 s.heap.size as0) s.heap H locs) (hlz : ls.size = nL) {wc : va_W} (hP : va_P G.1 vwCl wc H) (hD : va_D (zB s0 s.heap.size as0) wc) {S : Type} {y : MethodName} {code' : ByteArray} {nL' fr lo mc ms idx ci N b q0 pc : Nat} {ret' : Option FieldType} {CN : String} {T : u_T} {fs : List Value} (n : Nat) {As rest : List Value} {res : S → Option Value} {P : S → Prop} {w' : S → va_W} (hM : zxMet l y code' nL' ret' fr lo mc ms s0 G H.size (.ref b :: As) wc res P w' dk tp D f X)
    (hG : GoodIn lw_all (wsV own idx CN y (ws_ y code' nL' ret'))) (hd : y.cls = CN ∧ y.cls ≠ "java/lang/invoke/MethodHandle" ∧ y.cls ≠ "java/lang/invoke/VarHandle" ∧ (parseMethodDescriptor y.desc).map (fun d => d.parameters.length) = some n) (hq : wc[q0]? = some (b, .inr (ci, fs))) (hc : vwCl[ci]? = some (CN, T, N)) (hn : As.length = n) (hst : st = As.reverse ++ .ref b :: rest) (hW : (rest.map fun v => v.category).sum ≤ 8) (hR : fr + 1 ≤ R.frames ∧ 8 + (nL' + 11) + lo ≤ R.locals) (hf : ce + mc ≤ R.cells ∧ sl + ms ≤ R.slots) (hdg : decode cc pc = .ok (.invokevirtual idx, 3)) :
    vq_Run pg l ev R s m ar bl me c H locs ce sl mc ms (F0 m pc ls st) rest (zQc s0 G wc res P w' (Value.ref b :: As).toArray) (zQx s0 G wc dk tp D f X) (zB s0 H.size (wc.map Prod.fst)) :=
  vq_runV (As := As) (rest := rest) C.1 hM (cwV n C.1.2.2.2.2 hG rfl rfl rfl hd hR) ⟨zPc_blind, va_recv C.2.2.2.2.2 hP hc hq, z_pre C hS hP hD _⟩ rfl hn hlz hst (lv_room (pc := pc) (ls := ls) (rest := st) hW) hdg hf
/-- behind a call that may throw: the callee's cells are some of ours -/
theorem zx_back {wc : va_W} {S : Type} {res : S → Option Value} {P : S → Prop} {w' : S → va_W} {mc ms pc : Nat} {a : Array Value} {rest : List Value} (hr : vq_Run pg l ev R s m ar bl me c H locs ce sl mc ms (F0 m pc ls st) rest (zQc s0 G wc res P w' a) (zQx s0 G wc dk tp D f X) (zB s0 H.size (wc.map Prod.fst))) (hH : zH s0 s G as0 w H locs) (hsub : ∀ b ∈ wc.map Prod.fst, b ∈ w.map Prod.fst)
    (kx : ∀ (k p q : Nat) (H1 : Heap) (locs1 : List Loc), X k p → va_P G.1 vwCl (fltW G dk tp D f q k p) H1 → va_D (zB s0 H.size (wc.map Prod.fst)) (fltW G dk tp D f q k p) → H.size ≤ H1.size → (∀ z : Nat, z < H.size → z ∉ wc.map Prod.fst → H1[z]? = H[z]?) → va_S (zB s0 s.heap.size as0) s.heap H1 locs1 → vx_W pg l ev R s m ar bl me c H1 locs1 (ce + mc) (sl + ms) Q (F0 m pc ls rest) q)
    (kk : ∀ (u : S) (H1 : Heap) (locs1 : List Loc), P u → va_P G.1 vwCl (w' u) H1 → va_D (zB s0 H.size (wc.map Prod.fst)) (w' u) → H.size ≤ H1.size → (∀ q : Nat, q < H.size → q ∉ wc.map Prod.fst → H1[q]? = H[q]?) → va_S (zB s0 s.heap.size as0) s.heap H1 locs1 → W pg l ev R s m ar bl me c H1 locs1 (ce + mc) (sl + ms) Q (F0 m (pc + 3) ls ((res u).toList ++ rest))) : W pg l ev R s m ar bl me c H locs ce sl Q (F0 m pc ls st) := by
  intro T hT X9
  have hin : ∀ q, q ∈ wc.map Prod.fst → zB s0 s.heap.size as0 q := fun q h => zD_in hH.2.1 (hsub q h)
  have hfree : ∀ q, zB s0 H.size (wc.map Prod.fst) q → zB s0 s.heap.size as0 q := fun q h => h.2.elim (hin q) (fun z => ⟨h.1, Or.inr (Nat.le_trans hH.2.2.1 z)⟩)
  rcases hr T hT X9 with ⟨v, st₀, t, T', L, h0, X', hL, e1, e2, ⟨u, hv, hp, hb, hd, hz, hk⟩, sg⟩ | ⟨q, st₀, t, T', L, E, ce0, h0, X', hL, e1, e2, ⟨hE, k, p, hp, hb, hd, hz, hk⟩, hce, hcv, hcl, sg⟩
  · cases hv
    rw [h0] at hz hk hd
    obtain ⟨t2, a1, b1⟩ := kk u T'.heap (locs ++ L) hp (by rw [e1]; exact hb) hd (by rw [e1]; exact hz) (fun q h1 h2 => by rw [e1]; exact hk q h1 h2)
      ⟨Nat.le_trans hH.2.2.1 (by rw [e1]; exact hz), fun q h1 h2 => by rw [e1, hk q (Nat.lt_of_lt_of_le h1 hH.2.2.1) (fun z => h2 (hin q z))]; exact hH.2.2.2.1 q h1 h2, fun q hq => by
        rcases List.mem_append.mp hq with h | h
        · exact hH.2.2.2.2 q h
        · exact hfree _ (hL q h)⟩ T' rfl X'
    exact ⟨t2, sg t2 a1, b1⟩
  · rw [h0] at hz hk hd
    obtain ⟨t2, a1, b1⟩ := kx k p q T'.heap (locs ++ L) hp (by rw [e1]; exact hb) hd (by rw [e1]; exact hz) (fun q h1 h2 => by rw [e1]; exact hk q h1 h2)
      ⟨Nat.le_trans hH.2.2.1 (by rw [e1]; exact hz), fun q h1 h2 => by rw [e1, hk q (Nat.lt_of_lt_of_le h1 hH.2.2.1) (fun z => h2 (hin q z))]; exact hH.2.2.2.1 q h1 h2, fun q hq => by
        rcases List.mem_append.mp hq with h | h
        · exact hH.2.2.2.2 q h
        · exact hfree _ (hL q h)⟩ T' rfl X'
    exact ⟨t2, sg.trans a1, b1⟩
/-- a call on the whole world -/
theorem zx_same {S : Type} {res : S → Option Value} {P : S → Prop} {w' : S → va_W} {mc ms pc : Nat} {a : Array Value} {rest : List Value} (hr : vq_Run pg l ev R s m ar bl me c H locs ce sl mc ms (F0 m pc ls st) rest (zQc s0 G w res P w' a) (zQx s0 G w dk tp D f X) (zB s0 H.size (w.map Prod.fst))) (hH : zH s0 s G as0 w H locs)
    (kx : ∀ (k p q : Nat) (H1 : Heap) (locs1 : List Loc), X k p → zH s0 s G as0 (fltW G dk tp D f q k p) H1 locs1 → vx_W pg l ev R s m ar bl me c H1 locs1 (ce + mc) (sl + ms) Q (F0 m pc ls rest) q)
    (kk : ∀ (u : S) (H1 : Heap) (locs1 : List Loc), P u → zH s0 s G as0 (w' u) H1 locs1 → W pg l ev R s m ar bl me c H1 locs1 (ce + mc) (sl + ms) Q (F0 m (pc + 3) ls ((res u).toList ++ rest))) : W pg l ev R s m ar bl me c H locs ce sl Q (F0 m pc ls st) :=
  zx_back hr hH (fun _ h => h) (fun k p q H1 locs1 hp hP hD hz hk hS => kx k p q H1 locs1 hp ⟨hP, hD.weaken (fun _ _ _ h => zB_up hH (fun _ z => z) (Nat.le_refl _) _ h), hS⟩) (fun u H1 locs1 hp hP hD hz hk hS => kk u H1 locs1 hp ⟨hP, hD.weaken (fun _ _ _ h => zB_up hH (fun _ z => z) (Nat.le_refl _) _ h), hS⟩)
theorem zx_athrow (C : zC pg s0 s m ar me c G cc nL own ret) (pc : Nat) {q : Nat} (hdg : decode cc pc = .ok (.athrow, 1)) (k : vx_W pg l ev R s m ar bl me c H locs ce sl Q (F0 m pc ls st) q) : W pg l ev R s m ar bl me c H locs ce sl Q (F0 m pc ls (.ref q :: st)) := vx_athrow C.1.1 C.1.2.1 hdg k
end ZXC
