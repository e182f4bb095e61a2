/-! methods that may throw one of the machine's exceptions: contracts of the kit's, with our words -/
set_option maxRecDepth 100000
def zyX (X : String → Prop) : String → State → State → Prop := fun E st t => X E ∧ st.heap.size ≤ t.heap.size ∧ ∀ q : Nat, q < st.heap.size → t.heap[q]? = st.heap[q]?
def zyMet {S : Type} (l : Launch) (y : MethodName) (code : ByteArray) (nL : Nat) (ret : Option FieldType) (fr lo mc ms : Nat) (s0 : State) (G : zG) (sz : Nat) (av : List Value) (w : va_W) (res : S → Option Value) (P : S → Prop) (w' : S → va_W) (X : String → Prop) : Prop :=
  vx_Met l y (ws_ y code nL ret) (zRm fr mc ms lo) (zPc s0 G sz av w) (zQc s0 G w res P w') (zyX X) mc ms (zB s0 sz (w.map Prod.fst))
def zyQd {S : Type} (Q : State → Prop) (bl : List Frame) (ar : Array Value) (s0 s : State) (G : zG) (as0 : List Nat) (w : va_W) (res : S → Option Value) (P : S → Prop) (w' : S → va_W) (mc ms : Nat) (X : String → Prop) : Prop := as0 = w.map Prod.fst ∧ Q = vx_MQ bl (zQc s0 G w res P w') (zyX X) ar s mc ms (zB s0 s.heap.size as0)
theorem zyMet.of {S : Type} {l : Launch} {y : MethodName} {cc : ByteArray} {nL : Nat} {ret : Option FieldType} {fr lo mc ms : Nat} {s0 : State} {G : zG} {sz : Nat} {av : List Value} {w : va_W} {res : S → Option Value} {P : S → Prop} {w' : S → va_W} {X : String → Prop} (hy : plainName y.cls = true) (hnl : (lg_sl av).length ≤ nL)
    (body : ∀ (pg : Program) (ev : Env) (s : State) (m : MethodId) (ar : Array Value) (bl : List Frame) (me : Method) (c : Code) (ls : Array Slot) (Q : State → Prop) (as0 : List Nat), zC pg s0 s m ar me c G cc nL y.cls ret → (∀ x ∈ c.exceptionTable.toList, False) → c.maxLocals = nL → zH s0 s G as0 w s.heap [] → lv_has ls nL (lv_args 0 av) → zyQd Q bl ar s0 s G as0 w res P w' mc ms X → s.heap.size = sz →
      W pg l ev (zRm fr mc ms lo) s m ar bl me c s.heap [] 0 0 Q (F0 m 0 ls [])) : zyMet l y cc nL ret fr lo mc ms s0 G sz av w res P w' X := by
  refine vx_ofW (cc := cc) (maxL := nL) (ret := ret) hy rfl ?_
  intro p e s m args below meth c s₁ B hml hx0 hv
  obtain ⟨rfl, hsz, hst, ham, hP, hD⟩ := hv
  subst hsz
  have hts := atoms_spec (ws := ws_ y cc nL ret) B.pre
  have hts : ∀ x ∈ lw_all, x.before av.toArray s = true := fun x h => hts x (List.mem_cons_of_mem _ h)
  have hl := lv_entry av (n := nL) hnl
  rw [lg_entry_eq]
  exact body p e s m av.toArray below meth c _ _ (w.map Prod.fst) ⟨⟨B.exec, B.bytes, hml, findClass_of_methodNamed B.named, hts⟩, B.returns, B.notSynchronized, hst, ham, ham.k hst⟩ hx0 hml
    ⟨hP, hD.weaken (fun k q hk h => ⟨h, Or.inl (List.mem_map.mpr ⟨q, List.mem_of_getElem? hk, rfl⟩)⟩), va_S.rf⟩ hl ⟨rfl, rfl⟩ rfl
section ZPL
variable {pg : Program} {l : Launch} {ev : Env} {R : Room} {s0 s : State} {m : MethodId} {ar : Array Value} {bl : List Frame} {me : Method} {c : Code} {H : Heap} {locs : List Loc} {ce sl : Nat} {Q : State → Prop} {G : zG} {cc : ByteArray} {nL : Nat} {own : String} {ret : Option FieldType} {ls : Array Slot} {st : List Value} {lv : List (Nat × Value)} {as0 : List Nat} {w : va_W}
theorem zy_iret {S : Type} {w0 : va_W} {res : S → Option Value} {P : S → Prop} {w' : S → va_W} {mc ms : Nat} {X : String → Prop} (C : zC pg s0 s m ar me c G cc nL own (some .int)) (hH : zH s0 s G as0 w H locs) (hQ : zyQd Q bl ar s0 s G as0 w0 res P w' mc ms X) (pc : Nat) (u : S) {v : Int32} (hdg : decode cc pc = .ok (.ireturn, 1)) (hres : res u = some (.int v)) (hP : P u) (hw : w = w' u) (h1 : ce ≤ mc) (h2 : sl ≤ ms) : W pg l ev R s m ar bl me c H locs ce sl Q (F0 m pc ls [.int v]) := by
  obtain ⟨rfl, rfl⟩ := hQ
  obtain ⟨e1, e2⟩ := z_end (ar := ar) hH u hP hw hres
  exact vx_ret (W.widen h1 h2 (W.iret C.1.1 C.1.2.1 C.2.1 e1 e2 hdg C.2.2.1))
theorem zZq_up (C : zC pg s0 s m ar me c G cc nL own ret) {CN n d : String} (h : vx_Zq CN n d (fun q => s0.heap.size ≤ q) s0 s0.heap) : vx_Zq CN n d (zB s0 s.heap.size as0) s s.heap :=
  ((vx_Zq.moved C.2.2.2.2.1.1.alike h).kept (fun q h1 _ => C.2.2.2.2.1.2.2 q h1)).narrow (fun q h => h.1)
def zThq (s0 : State) : Prop := vx_Zq Bundle.tN "UNASSIGNED_STACK" Bundle.steD (fun q => s0.heap.size ≤ q) s0 s0.heap ∧ vx_Zq Bundle.tN "SUPPRESSED_SENTINEL" Bundle.listD (fun q => s0.heap.size ≤ q) s0 s0.heap
theorem zPre_thq {s0 : State} {G : zG} (h : zSt s0 G) : zThq s0 := by
  obtain ⟨⟨b, hb, hg⟩, -⟩ := h
  have hn := c_right hg
  have hA : ∀ q : Nat, q < s0.heap.size → ¬ (s0.heap.size ≤ q) := fun q h => Nat.not_le.mpr h
  have h2 : (Cond.isRef (.static "java/lang/Throwable" "UNASSIGNED_STACK" "[Ljava/lang/StackTraceElement;")).before #[.ref b] s0 = true := nw_leaf hn 7 rfl
  have h3 : (Cond.isRef (.static "java/lang/Throwable" "SUPPRESSED_SENTINEL" "Ljava/util/List;")).before #[.ref b] s0 = true := nw_leaf hn 8 rfl
  exact ⟨vx_Zqof (hb _ q618) (hb _ (lw_all_tbl q107)) h2 hA, vx_Zqof (hb _ q620) (hb _ (lw_all_tbl q107)) h3 hA⟩
def zNup : List String := ["java/lang/RuntimeException", "java/lang/Exception"]
theorem at_io1 : ∀ w ∈ (vx_at0 "ModeDesk" 164 "java/lang/IndexOutOfBoundsException" zNup).filter goodWord, w ∈ lw_tbl := by decide +kernel
theorem at_io2 : ∀ w ∈ (vx_at0 "ModeDesk" 164 "java/lang/IndexOutOfBoundsException" zNup).filter (fun w => !goodWord w), w ∈ ([.declares (Bundle.init0 "java/lang/RuntimeException"), .declares (Bundle.init0 "java/lang/Exception"), .declares (Bundle.init0 "java/lang/Throwable"), .castable "java/lang/IndexOutOfBoundsException" "java/lang/IndexOutOfBoundsException"] : List Cond) := by decide +kernel
theorem at_ns1 : ∀ w ∈ (vx_at0 "ModeDesk" 181 "java/util/NoSuchElementException" zNup).filter goodWord, w ∈ lw_tbl := by decide +kernel
theorem at_ns2 : ∀ w ∈ (vx_at0 "ModeDesk" 181 "java/util/NoSuchElementException" zNup).filter (fun w => !goodWord w), w ∈ ([.declares (Bundle.init0 "java/lang/RuntimeException"), .declares (Bundle.init0 "java/lang/Exception"), .declares (Bundle.init0 "java/lang/Throwable"), .castable "java/util/NoSuchElementException" "java/util/NoSuchElementException"] : List Cond) := by decide +kernel
end ZPL
