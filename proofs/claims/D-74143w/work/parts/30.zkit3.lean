/-! PURE contracts: a method that leaves the heap as it is asks for a picture only, wherever its cells lie -/
set_option maxRecDepth 100000
def zPp (s0 : State) (G : zG) (av : List Value) (w : va_W) : Array Value → State → Prop :=
  va_Pc av (fun U => zSt s0 G ∧ zAm s0 U ∧ va_P G.1 vwCl w U.heap)
def zPq {S : Type} (res : S → Option Value) (P : S → Prop) : Array Value → State → Outcome → State → Prop := fun _ st oc t =>
  ∃ u : S, oc = .returned (res u) ∧ P u ∧ t.heap = st.heap
def zNo : Nat → Prop := fun _ => False
def zPur {S : Type} (l : Launch) (y : MethodName) (code : ByteArray) (nL : Nat) (ret : Option FieldType) (fr lo : Nat) (s0 : State) (G : zG) (av : List Value) (w : va_W) (res : S → Option Value) (P : S → Prop) : Prop :=
  Met l y (ws_ y code nL ret) (zRm fr 0 0 lo) (zPp s0 G av w) (zPq res P) 0 0 zNo
def zPd {S : Type} (Q : State → Prop) (bl : List Frame) (ar : Array Value) (s : State) (res : S → Option Value) (P : S → Prop) : Prop := Q = MQ bl (zPq res P) ar s 0 0 zNo
theorem zPur.of {S : Type} {l : Launch} {y : MethodName} {cc : ByteArray} {nL : Nat} {ret : Option FieldType} {fr lo : Nat} {s0 : State} {G : zG} {av : List Value} {w : va_W} {res : S → Option Value} {P : S → Prop} (hy : plainName y.cls = true) (hnl : (lg_sl av).length ≤ nL)
    (body : ∀ (pg : Program) (ev : Env) (s : State) (m : MethodId) (ar : Array Value) (bl : List Frame) (me : Method) (c : Code) (ls : Array Slot) (Q : State → Prop), zC pg s0 s m ar me c G cc nL y.cls ret → va_P G.1 vwCl w s.heap → lv_has ls nL (lv_args 0 av) → zPd Q bl ar s res P →
      W pg l ev (zRm fr 0 0 lo) s m ar bl me c s.heap [] 0 0 Q (F0 m 0 ls [])) : zPur l y cc nL ret fr lo s0 G av w res P := by
  refine Met.ofW (cc := cc) (maxL := nL) (ret := ret) hy rfl ?_
  intro p e s m args below meth c s₁ B hml hv
  obtain ⟨rfl, hst, ham, hP⟩ := hv
  have hts := atoms_spec (ws := ws_ y cc nL ret) B.pre
  have hts : ∀ x ∈ lw_all, x.before av.toArray s = true := fun x h => hts x (List.mem_cons_of_mem _ h)
  have hl := lv_entry av (n := nL) hnl
  rw [lg_entry_eq]
  exact body p e s m av.toArray below meth c _ _ ⟨⟨B.exec, B.bytes, hml, findClass_of_methodNamed B.named, hts⟩, B.returns, B.notSynchronized, hst, ham, ham.k hst⟩ hP hl rfl
theorem zPp_blind {s0 : State} {G : zG} {av : List Value} {w : va_W} : FrameBlind (zPp s0 G av w) := fun a U g mk q => by
  obtain ⟨q0, q1, q2, q3⟩ := q
  exact ⟨q0, q1, q2, q3⟩
theorem zNwM {s0 U : State} {G : zG} (h : zSt s0 G) (a : zAm s0 U) {o : String} {i : Nat} {x : MethodName} {n : String} (hq : Cond.methodLinkNest o i x n ∈ lw_tbl) : va_Nw (.methodLinkNest o i x n) U := by
  obtain ⟨⟨b, hb, -⟩, -⟩ := h
  exact va_Nw.warmM a.1 (va_Nw.of rfl (hb _ hq))
theorem zNwF {s0 U : State} {G : zG} (h : zSt s0 G) (a : zAm s0 U) {o : String} {i : Nat} {r n d k : String} (hq : Cond.fieldLinkNest o i r n d k ∈ lw_tbl) : va_Nw (.fieldLinkNest o i r n d k) U := by
  obtain ⟨⟨b, hb, -⟩, -⟩ := h
  exact va_Nw.warmF a.1 (va_Nw.of rfl (hb _ hq))
section ZPROWS
variable {pg : Program} {l : Launch} {ev : Env} {R : Room} {s0 s : State} {m : MethodId} {ar : Array Value} {bl : List Frame} {me : Method} {c : Code} {H : Heap} {locs : List Loc} {ce sl : Nat} {Q : State → Prop} {G : zG} {cc : ByteArray} {nL : Nat} {own : String} {ret : Option FieldType} {ls : Array Slot} {st : List Value} {lv : List (Nat × Value)} {as0 : List Nat} {w : va_W}
-- ends of a pure method
theorem zp_iret {S : Type} {res : S → Option Value} {P : S → Prop} (C : zC pg s0 s m ar me c G cc nL own (some .int)) (hQ : zPd Q bl ar s res P) (pc : Nat) (u : S) {v : Int32} (hdg : decode cc pc = .ok (.ireturn, 1)) (hres : res u = some (.int v)) (hP : P u) : W pg l ev R s m ar bl me c s.heap [] 0 0 Q (F0 m pc ls [.int v]) := by
  cases hQ
  exact W.iret C.1.1 C.1.2.1 C.2.1 (fun t ht _ => ⟨u, by rw [hres], hP, ht⟩) (fun _ h => by cases h) hdg C.2.2.1
theorem zp_zret {S : Type} {res : S → Option Value} {P : S → Prop} (C : zC pg s0 s m ar me c G cc nL own (some .boolean)) (hQ : zPd Q bl ar s res P) (pc : Nat) (u : S) {v : Int32} (hdg : decode cc pc = .ok (.ireturn, 1)) (hn : narrow .boolean (.int v) = .int v) (hres : res u = some (.int v)) (hP : P u) : W pg l ev R s m ar bl me c s.heap [] 0 0 Q (F0 m pc ls [.int v]) := by
  cases hQ
  exact W.zret C.1.1 C.1.2.1 C.2.1 hn (fun t ht _ => ⟨u, by rw [hres], hP, ht⟩) (fun _ h => by cases h) hdg C.2.2.1
theorem zp_aret {S : Type} {res : S → Option Value} {P : S → Prop} {a : Nat} {n : String} (C : zC pg s0 s m ar me c G cc nL own (some (.object n))) (hQ : zPd Q bl ar s res P) (pc : Nat) (u : S) (hdg : decode cc pc = .ok (.areturn, 1)) (hres : res u = some (.ref a)) (hP : P u) : W pg l ev R s m ar bl me c s.heap [] 0 0 Q (F0 m pc ls [.ref a]) := by
  cases hQ
  exact W.aret C.1.1 C.1.2.1 C.2.1 (Or.inl ⟨n, rfl⟩) (Or.inr ⟨a, rfl⟩) (fun t ht _ => ⟨u, by rw [hres], hP, ht⟩) (fun _ h => by cases h) hdg C.2.2.1
-- reads off a picture
theorem zp_get (C : zC pg s0 s m ar me c G cc nL own ret) (hP : va_P G.1 vwCl w H) (pc : Nat) {idx ci N a : Nat} {CN : String} {T : u_T} {fs : List Value} {v : Value} (hin : ∀ x ∈ u_ws CN T N, x ∈ lw_all) (hc : vwCl[ci]? = some (CN, T, N)) (k : Nat) (hk : k < N) (hq : Cond.fieldLink own idx (T k).1 (T k).2.1 (T k).2.2.1 ∈ lw_all) (q0 : Nat) (he : w[q0]? = some (a, .inr (ci, fs))) (hv : fs[k]? = some v) (hdg : decode cc pc = .ok (.getfield idx, 3)) (kk : W pg l ev R s m ar bl me c H locs ce sl Q (F0 m (pc + 3) ls (v :: st))) : W pg l ev R s m ar bl me c H locs ce sl Q (F0 m pc ls (.ref a :: st)) :=
  va_get C.1.1 C.1.2.1 C.1.2.2.2.2 hin C.1.2.2.2.1 C.2.2.2.2.2 hP q0 he hc k hk (C.1.2.2.2.2 _ hq) (fun _ h => h) hv hdg kk
theorem zp_getN (C : zC pg s0 s m ar me c G cc nL own ret) (hP : va_P G.1 vwCl w H) (pc : Nat) {idx ci N a : Nat} {CN host : String} {T : u_T} {fs : List Value} {v : Value} (hin : ∀ x ∈ u_ws CN T N, x ∈ lw_all) (hc : vwCl[ci]? = some (CN, T, N)) (k : Nat) (hk : k < N) (hq : Cond.fieldLinkNest own idx (T k).1 (T k).2.1 (T k).2.2.1 host ∈ lw_tbl) (q0 : Nat) (he : w[q0]? = some (a, .inr (ci, fs))) (hv : fs[k]? = some v) (hdg : decode cc pc = .ok (.getfield idx, 3)) (kk : W pg l ev R s m ar bl me c H locs ce sl Q (F0 m (pc + 3) ls (v :: st))) : W pg l ev R s m ar bl me c H locs ce sl Q (F0 m pc ls (.ref a :: st)) :=
  va_getN C.1.1 C.1.2.1 C.1.2.2.2.2 hin C.1.2.2.2.1 C.2.2.2.2.2 hP q0 he hc k hk (va_Nw.use rfl (zNwF C.2.2.2.1 C.2.2.2.2.1 hq)) (fun _ h => h) hv hdg kk
theorem zp_iald (C : zC pg s0 s m ar me c G cc nL own ret) (hP : va_P G.1 vwCl w H) (pc q0 n : Nat) {a len : Nat} {f : Nat → Int} {e x : Int} (he : w[q0]? = some (a, .inl (G.2 0, len, .inl (zA f)))) (hlen : len < 2147483648) (hi : e = n) (hlt : n < len) (hx : f n = x) (hdg : decode cc pc = .ok (.iaload, 1)) (kk : W pg l ev R s m ar bl me c H locs ce sl Q (F0 m (pc + 1) ls (.int (iZ x) :: st))) : W pg l ev R s m ar bl me c H locs ce sl Q (F0 m pc ls (.int (iZ e) :: .ref a :: st)) := by
  subst hi; subst hx
  refine va_iald C.1.1 C.1.2.1 C.2.2.2.2.2 hP q0 0 he rfl (iZ_in hlt hlen) hdg ?_
  rw [iZ_clamp n (by omega)]
  exact kk
theorem zp_bald (C : zC pg s0 s m ar me c G cc nL own ret) (hP : va_P G.1 vwCl w H) (pc q0 n : Nat) {a len : Nat} {f : Nat → Int} {e x : Int} (he : w[q0]? = some (a, .inl (G.2 1, len, .inl (zA f)))) (hlen : len < 2147483648) (hi : e = n) (hlt : n < len) (hx : f n = x) (hdg : decode cc pc = .ok (.baload, 1)) (kk : W pg l ev R s m ar bl me c H locs ce sl Q (F0 m (pc + 1) ls (.int (iZ x) :: st))) : W pg l ev R s m ar bl me c H locs ce sl Q (F0 m pc ls (.int (iZ e) :: .ref a :: st)) := by
  subst hi; subst hx
  refine va_bald C.1.1 C.1.2.1 C.2.2.2.2.2 hP q0 1 he rfl (iZ_in hlt hlen) hdg ?_
  rw [iZ_clamp n (by omega)]
  exact kk
theorem zp_zald (C : zC pg s0 s m ar me c G cc nL own ret) (hP : va_P G.1 vwCl w H) (pc q0 n : Nat) {a len : Nat} {f : Nat → Int} {e x : Int} (he : w[q0]? = some (a, .inl (G.2 2, len, .inl (zA f)))) (hlen : len < 2147483648) (hi : e = n) (hlt : n < len) (hx : f n = x) (hdg : decode cc pc = .ok (.baload, 1)) (kk : W pg l ev R s m ar bl me c H locs ce sl Q (F0 m (pc + 1) ls (.int (iZ x) :: st))) : W pg l ev R s m ar bl me c H locs ce sl Q (F0 m pc ls (.int (iZ e) :: .ref a :: st)) := by
  subst hi; subst hx
  refine va_zald C.1.1 C.1.2.1 C.2.2.2.2.2 hP q0 2 he rfl (iZ_in hlt hlen) hdg ?_
  rw [iZ_clamp n (by omega)]
  exact kk
theorem zp_aldq (C : zC pg s0 s m ar me c G cc nL own ret) (hP : va_P G.1 vwCl w H) (pc q0 t0 n : Nat) {cA : ClassId} {CN : String} {a len : Nat} {f : Nat → Option Nat} {e : Int} {v : Value} (he : w[q0]? = some (a, .inl (cA, len, .inr (.inr (.inr (.inr f)))))) (ht : (vTys G.2)[t0]? = some (cA, .object CN)) (hlen : len < 2147483648) (hi : e = n) (hlt : n < len) (hx : va_rf (f n) = v) (hdg : decode cc pc = .ok (.aaload, 1)) (kk : W pg l ev R s m ar bl me c H locs ce sl Q (F0 m (pc + 1) ls (v :: st))) : W pg l ev R s m ar bl me c H locs ce sl Q (F0 m pc ls (.int (iZ e) :: .ref a :: st)) := by
  subst hi; subst hx
  refine va_aldq C.1.1 C.1.2.1 C.2.2.2.2.2 hP q0 t0 he ht (iZ_in hlt hlen) hdg ?_
  rw [iZ_clamp n (by omega)]
  exact kk
-- calls of pure methods
theorem zp_pre (C : zC pg s0 s m ar me c G cc nL own ret) (hS : va_S (zB s0 s.heap.size as0) s.heap H locs) {wc : va_W} (hP : va_P G.1 vwCl wc H) (av : List Value) : ∀ U : State, U.heap = H → s.WarmedH U.vm → zPp s0 G av wc av.toArray U := fun U hU hW =>
  ⟨rfl, C.2.2.2.1, z_am C hS hU hW, by rw [hU]; exact hP⟩
theorem zp_runV (C : zC pg s0 s m ar me c G cc nL own ret) (hS : va_S (zB s0 s.heap.size as0) s.heap H locs) (hlz : ls.size = nL) {wc : va_W} (hP : va_P G.1 vwCl wc H) {S : Type} {y : MethodName} {code' : ByteArray} {nL' fr lo idx ci N b q0 pc : Nat} {ret' : Option FieldType} {CN : String} {T : u_T} {fs : List Value} (n : Nat) {As rest : List Value} {res : S → Option Value} {P : S → Prop} (hM : zPur l y code' nL' ret' fr lo s0 G (.ref b :: As) wc res P)
    (hG : GoodIn lw_all (wsV own idx CN y (ws_ y code' nL' ret'))) (hd : y.cls = CN ∧ y.cls ≠ "java/lang/invoke/MethodHandle" ∧ y.cls ≠ "java/lang/invoke/VarHandle" ∧ (parseMethodDescriptor y.desc).map (fun d => d.parameters.length) = some n) (hq : wc[q0]? = some (b, .inr (ci, fs))) (hc : vwCl[ci]? = some (CN, T, N)) (hn : As.length = n) (hst : st = As.reverse ++ .ref b :: rest) (hW : (rest.map fun v => v.category).sum ≤ 8) (hR : fr + 1 ≤ R.frames ∧ 8 + (nL' + 11) + lo ≤ R.locals) (hf : ce + 0 ≤ R.cells ∧ sl + 0 ≤ R.slots) (hdg : decode cc pc = .ok (.invokevirtual idx, 3)) :
    va_Run pg l ev R s m ar bl me c H locs ce sl 0 0 (F0 m pc ls st) rest (zPq res P (Value.ref b :: As).toArray) zNo :=
  va_runV (As := As) (rest := rest) C.1 hM (cwV n C.1.2.2.2.2 hG rfl rfl rfl hd hR) ⟨zPp_blind, va_recv C.2.2.2.2.2 hP hc hq, zp_pre C hS hP _⟩ rfl hn hlz hst (lv_room (pc := pc) (ls := ls) (rest := st) hW) hdg hf
theorem zp_runS (C : zC pg s0 s m ar me c G cc nL own ret) (hS : va_S (zB s0 s.heap.size as0) s.heap H locs) (hlz : ls.size = nL) {wc : va_W} (hP : va_P G.1 vwCl wc H) {S : Type} {y : MethodName} {code' : ByteArray} {nL' fr lo idx pc : Nat} {ret' : Option FieldType} (n : Nat) {As rest : List Value} {res : S → Option Value} {P : S → Prop} (hM : zPur l y code' nL' ret' fr lo s0 G As wc res P)
    (hG : GoodIn lw_all (va_wsS own idx y (ws_ y code' nL' ret'))) (hd : y.cls ≠ "java/lang/invoke/MethodHandle" ∧ y.cls ≠ "java/lang/invoke/VarHandle" ∧ (parseMethodDescriptor y.desc).map (fun d => d.parameters.length) = some n) (hn : As.length = n) (hst : st = As.reverse ++ rest) (hW : (rest.map fun v => v.category).sum ≤ 8) (hR : fr + 1 ≤ R.frames ∧ 8 + (nL' + 11) + lo ≤ R.locals) (hf : ce + 0 ≤ R.cells ∧ sl + 0 ≤ R.slots) (hdg : decode cc pc = .ok (.invokestatic idx, 3)) :
    va_Run pg l ev R s m ar bl me c H locs ce sl 0 0 (F0 m pc ls st) rest (zPq res P As.toArray) zNo :=
  va_runS (As := As) (rest := rest) C.1 hM (va_cwS n C.1.2.2.2.2 hG rfl rfl rfl hd hR) ⟨zPp_blind, zp_pre C hS hP _⟩ rfl hn hlz hst (lv_room (pc := pc) (ls := ls) (rest := st) hW) hdg hf
/-- a pure method of a nest mate -/
theorem zp_runVN (C : zC pg s0 s m ar me c G cc nL own ret) (hS : va_S (zB s0 s.heap.size as0) s.heap H locs) (hlz : ls.size = nL) {wc : va_W} (hP : va_P G.1 vwCl wc H) {S : Type} {y : MethodName} {code' : ByteArray} {nL' fr lo idx ci N b q0 pc : Nat} {ret' : Option FieldType} {CN host : String} {T : u_T} {fs : List Value} (n : Nat) {As rest : List Value} {res : S → Option Value} {P : S → Prop} (hM : zPur l y code' nL' ret' fr lo s0 G (.ref b :: As) wc res P)
    (hG : GoodIn lw_all (ws_ y code' nL' ret')) (hl : Cond.methodLinkNest own idx y host ∈ lw_tbl) (hx : Cond.instanceMethod y ∈ lw_all ∧ Cond.selects CN y y ∈ lw_all ∧ Cond.initialized y.cls ∈ lw_all) (hd : y.cls ≠ "java/lang/invoke/MethodHandle" ∧ y.cls ≠ "java/lang/invoke/VarHandle" ∧ (parseMethodDescriptor y.desc).map (fun d => d.parameters.length) = some n) (hq : wc[q0]? = some (b, .inr (ci, fs))) (hc : vwCl[ci]? = some (CN, T, N)) (hn : As.length = n) (hst : st = As.reverse ++ .ref b :: rest) (hW : (rest.map fun v => v.category).sum ≤ 8) (hR : fr + 1 ≤ R.frames ∧ 8 + (nL' + 11) + lo ≤ R.locals) (hf : ce + 0 ≤ R.cells ∧ sl + 0 ≤ R.slots) (hdg : decode cc pc = .ok (.invokevirtual idx, 3)) :
    va_Run pg l ev R s m ar bl me c H locs ce sl 0 0 (F0 m pc ls st) rest (zPq res P (Value.ref b :: As).toArray) zNo :=
  va_runVN (As := As) (rest := rest) C.1 hM ⟨va_cnB n C.1.2.2.2.2 hG rfl rfl rfl (zNwM C.2.2.2.1 C.2.2.2.2.1 hl) (C.1.2.2.2.2 _ hx.2.2) hd hR, C.1.2.2.2.2 _ hx.1, C.1.2.2.2.2 _ hx.2.1⟩ ⟨zPp_blind, va_recv C.2.2.2.2.2 hP hc hq, zp_pre C hS hP _⟩ rfl hn hlz hst (lv_room (pc := pc) (ls := ls) (rest := st) hW) hdg hf
theorem zpNil {L : List Loc} (h : ∀ q ∈ L, zNo q.base) : L = [] := by
  cases L with
  | nil => rfl
  | cons a _ => exact absurd (h a List.mem_cons_self) (fun z => z)
/-- behind a call of a pure method: all is as before -/
theorem zp_back {S : Type} {res : S → Option Value} {P : S → Prop} {pc : Nat} {a : Array Value} {rest : List Value} (hr : va_Run pg l ev R s m ar bl me c H locs ce sl 0 0 (F0 m pc ls st) rest (zPq res P a) zNo)
    (kk : ∀ (u : S), P u → W pg l ev R s m ar bl me c H locs ce sl Q (F0 m (pc + 3) ls ((res u).toList ++ rest))) : W pg l ev R s m ar bl me c H locs ce sl Q (F0 m pc ls st) := by
  intro T hT X
  obtain ⟨v, st₀, t, T', L, h0, X', hL, e1, e2, ⟨u, hv, hp, hb⟩, sg⟩ := hr T hT X
  cases hv
  have hL := zpNil hL
  subst hL
  rw [List.append_nil] at X'
  obtain ⟨t2, a1, b1⟩ := kk u hp T' (by rw [e1, hb, h0]) X'
  exact ⟨t2, sg t2 a1, b1⟩
theorem zp_back5 {S : Type} {res : S → Option Value} {P : S → Prop} {pc : Nat} {a : Array Value} {rest : List Value} (hr : va_Run5 pg l ev R s m ar bl me c H locs ce sl 0 0 (F0 m pc ls st) rest (zPq res P a) zNo)
    (kk : ∀ (u : S), P u → W pg l ev R s m ar bl me c H locs ce sl Q (F0 m (pc + 5) ls ((res u).toList ++ rest))) : W pg l ev R s m ar bl me c H locs ce sl Q (F0 m pc ls st) := by
  intro T hT X
  obtain ⟨v, st₀, t, T', L, h0, X', hL, e1, e2, ⟨u, hv, hp, hb⟩, sg⟩ := hr T hT X
  cases hv
  have hL := zpNil hL
  subst hL
  rw [List.append_nil] at X'
  obtain ⟨t2, a1, b1⟩ := kk u hp T' (by rw [e1, hb, h0]) X'
  exact ⟨t2, sg t2 a1, b1⟩
/-- an interface's method, the receiver's class known -/
theorem zp_runF (C : zC pg s0 s m ar me c G cc nL own ret) (hS : va_S (zB s0 s.heap.size as0) s.heap H locs) (hlz : ls.size = nL) {wc : va_W} (hP : va_P G.1 vwCl wc H) {S : Type} {x y : MethodName} {code' : ByteArray} {nL' fr lo idx cnt ci N b q0 pc : Nat} {ret' : Option FieldType} {CN : String} {T : u_T} {fs : List Value} (n : Nat) {As rest : List Value} {res : S → Option Value} {P : S → Prop} (hM : zPur l y code' nL' ret' fr lo s0 G (.ref b :: As) wc res P)
    (hG : GoodIn lw_all (va_wsF own idx CN x y (ws_ y code' nL' ret'))) (hF : ∀ U : State, zSt U G → va_Fw CN x y U) (hd : x.cls ≠ "java/lang/invoke/MethodHandle" ∧ x.cls ≠ "java/lang/invoke/VarHandle" ∧ (parseMethodDescriptor x.desc).map (fun d => d.parameters.length) = some n) (hq : wc[q0]? = some (b, .inr (ci, fs))) (hc : vwCl[ci]? = some (CN, T, N)) (hn : As.length = n) (hst : st = As.reverse ++ .ref b :: rest) (hW : (rest.map fun v => v.category).sum ≤ 8) (hR : fr + 1 ≤ R.frames ∧ 8 + (nL' + 11) + lo ≤ R.locals) (hf : ce + 0 ≤ R.cells ∧ sl + 0 ≤ R.slots) (hdg : decode cc pc = .ok (.invokeinterface idx cnt, 5)) :
    va_Run5 pg l ev R s m ar bl me c H locs ce sl 0 0 (F0 m pc ls st) rest (zPq res P (Value.ref b :: As).toArray) zNo :=
  va_runF (As := As) (rest := rest) (C.2.2.2.2.2.1 ci _ hc).2 C.1 hM (va_cwF n C.1.2.2.2.2 hG rfl rfl rfl ((hF s0 C.2.2.2.1).moved ⟨hd.1, hd.2.1⟩ C.2.2.2.2.1.1.alike) hd hR) ⟨zPp_blind, va_recv C.2.2.2.2.2 hP hc hq, zp_pre C hS hP _⟩ rfl hn hlz hst (lv_room (pc := pc) (ls := ls) (rest := st) hW) hdg hf
theorem zFw {s0 : State} {G : zG} {CN : String} {x y : MethodName} (h : zSt s0 G) (h1 : Cond.declares x ∈ lw_tbl) (h2 : Cond.interfaceMethod x.cls x.cls x.name x.desc ∈ lw_tbl) (h3 : Cond.publicMethod y ∈ lw_tbl) (h4 : Cond.unhidden CN x.name x.desc ∈ lw_tbl) (h5 : Cond.castable CN x.cls ∈ lw_tbl) : va_Fw CN x y s0 := by
  obtain ⟨⟨b, hb, -⟩, -⟩ := h
  exact va_Fw.of (hb _ h1) (hb _ h2) (hb _ h3) (hb _ h4) (hb _ h5)
end ZPROWS
