/-! methods with handlers; worlds put in another order; calls that may throw, on some of our cells -/
set_option maxRecDepth 100000
def zhMet {S : Type} (l : Launch) (y : MethodName) (code : ByteArray) (nL : Nat) (ret : Option FieldType) (hh : List (Nat × Nat × Nat × Nat)) (fr lo mc ms : Nat) (s0 : State) (G : zG) (sz : Nat) (av : List Value) (w : va_W) (res : S → Option Value) (P : S → Prop) (w' : S → va_W) : Prop :=
  Met l y (wsW_ y code nL ret hh) (zRm fr mc ms lo) (zPc s0 G sz av w) (zQc s0 G w res P w') mc ms (zB s0 sz (w.map Prod.fst))
theorem zhMet.of {S : Type} {l : Launch} {y : MethodName} {cc : ByteArray} {nL : Nat} {ret : Option FieldType} {hh : List (Nat × Nat × Nat × Nat)} {fr lo mc ms : Nat} {s0 : State} {G : zG} {sz : Nat} {av : List Value} {w : va_W} {res : S → Option Value} {P : S → Prop} {w' : S → va_W} (hy : plainName y.cls = true) (hnl : (lg_sl av).length ≤ nL)
    (body : ∀ (pg : Program) (ev : Env) (s : State) (m : MethodId) (ar : Array Value) (bl : List Frame) (me : Method) (c : Code) (ls : Array Slot) (Q : State → Prop) (as0 : List Nat), zC pg s0 s m ar me c G cc nL y.cls ret → c.exceptionTable.toList = tableOf hh → zH s0 s G as0 w s.heap [] → lv_has ls nL (lv_args 0 av) → zQd Q bl ar s0 s G as0 w res P w' mc ms → s.heap.size = sz →
      W pg l ev (zRm fr mc ms lo) s m ar bl me c s.heap [] 0 0 Q (F0 m 0 ls [])) : zhMet l y cc nL ret hh fr lo mc ms s0 G sz av w res P w' := by
  refine va_MetW (cc := cc) (maxL := nL) (ret := ret) (hh := hh) hy rfl ?_
  intro p e s m args below meth c s₁ B hml hv
  obtain ⟨rfl, hsz, hst, ham, hP, hD⟩ := hv
  subst hsz
  have hts := atoms_spec (ws := wsW_ y cc nL ret hh) B.pre
  have htb := vx_table (x := y) B (hts _ List.mem_cons_self)
  have hts : ∀ x ∈ lw_all, x.before av.toArray s = true := fun x h => hts x (List.mem_cons_of_mem _ h)
  have hl := lv_entry av (n := nL) hnl
  rw [lg_entry_eq]
  exact body p e s m av.toArray below meth c _ _ (w.map Prod.fst) ⟨⟨B.exec, B.bytes, hml, findClass_of_methodNamed B.named, hts⟩, B.returns, B.notSynchronized, hst, ham, ham.k hst⟩ htb
    ⟨hP, hD.weaken (fun k q hk h => ⟨h, Or.inl (List.mem_map.mpr ⟨q, List.mem_of_getElem? hk, rfl⟩)⟩), va_S.rf⟩ hl ⟨rfl, rfl⟩ rfl
section ZHW
variable {pg : Program} {l : Launch} {ev : Env} {R : Room} {s0 s : State} {m : MethodId} {ar : Array Value} {bl : List Frame} {me : Method} {c : Code} {H : Heap} {locs : List Loc} {ce sl : Nat} {Q : State → Prop} {G : zG} {cc : ByteArray} {nL : Nat} {own : String} {ret : Option FieldType} {ls : Array Slot} {st : List Value} {lv : List (Nat × Value)} {as0 : List Nat} {w : va_W} {dk tp : Nat} {D : List Value} {f : Nat → Int} {X : Nat → Nat → Prop}
/-- a call of a method with handlers -/
theorem zh_runV (C : zC pg s0 s m ar me c G cc nL own ret) (hS : va_S (zB s0 s.heap.size as0) s.heap H locs) (hlz : ls.size = nL) {wc : va_W} (hP : va_P G.1 vwCl wc H) (hD : va_D (zB s0 s.heap.size as0) wc) {S : Type} {y : MethodName} {code' : ByteArray} {nL' fr lo mc ms idx ci N b q0 pc : Nat} {ret' : Option FieldType} {hh : List (Nat × Nat × Nat × Nat)} {CN : String} {T : u_T} {fs : List Value} (n : Nat) {As rest : List Value} {res : S → Option Value} {P : S → Prop} {w' : S → va_W} (hM : zhMet l y code' nL' ret' hh fr lo mc ms s0 G H.size (.ref b :: As) wc res P w')
    (hG : GoodIn lw_all (wsV own idx CN y (wsW_ y code' nL' ret' hh))) (hd : y.cls = CN ∧ y.cls ≠ "java/lang/invoke/MethodHandle" ∧ y.cls ≠ "java/lang/invoke/VarHandle" ∧ (parseMethodDescriptor y.desc).map (fun d => d.parameters.length) = some n) (hq : wc[q0]? = some (b, .inr (ci, fs))) (hc : vwCl[ci]? = some (CN, T, N)) (hn : As.length = n) (hst : st = As.reverse ++ .ref b :: rest) (hW : (rest.map fun v => v.category).sum ≤ 8) (hR : fr + 1 ≤ R.frames ∧ 8 + (nL' + 11) + lo ≤ R.locals) (hf : ce + mc ≤ R.cells ∧ sl + ms ≤ R.slots) (hdg : decode cc pc = .ok (.invokevirtual idx, 3)) :
    va_Run pg l ev R s m ar bl me c H locs ce sl mc ms (F0 m pc ls st) rest (zQc s0 G wc res P w' (Value.ref b :: As).toArray) (zB s0 H.size (wc.map Prod.fst)) :=
  vx_runVW (As := As) (rest := rest) C.1 hM (vx_cwVW n C.1.2.2.2.2 hG rfl rfl rfl hd hR) ⟨zPc_blind, va_recv C.2.2.2.2.2 hP hc hq, z_pre C hS hP hD _⟩ rfl hn hlz hst (lv_room (pc := pc) (ls := ls) (rest := st) hW) hdg hf
theorem va_D_iff {A : Nat → Prop} {w : va_W} : va_D A w ↔ (w.map Prod.fst).Nodup ∧ ∀ q ∈ w, A q.1 := by
  constructor
  · intro h
    refine ⟨List.pairwise_iff_getElem.mpr (fun i j hi hj hij e => ?_), fun q hq => by obtain ⟨k, hk⟩ := List.getElem?_of_mem hq; exact h.2 k q hk⟩
    rw [List.length_map] at hi hj
    have := h.1 i j _ _ (List.getElem?_eq_getElem hi) (List.getElem?_eq_getElem hj) (by simpa using e)
    omega
  · rintro ⟨h1, h2⟩
    refine ⟨fun i j p q hp hq e => ?_, fun k q hk => h2 q (List.mem_of_getElem? hk)⟩
    obtain ⟨hi, hp⟩ := List.getElem?_eq_some_iff.mp hp
    obtain ⟨hj, hq⟩ := List.getElem?_eq_some_iff.mp hq
    have h3 := List.pairwise_iff_getElem.mp h1
    rcases Nat.lt_trichotomy i j with h | h | h
    · exact absurd (by rw [List.getElem_map, List.getElem_map, hp, hq, e]) (h3 i j (by simpa using hi) (by simpa using hj) h)
    · exact h
    · exact absurd (by rw [List.getElem_map, List.getElem_map, hp, hq, e]) (h3 j i (by simpa using hj) (by simpa using hi) h)
/-- a world in another order -/
theorem zH_perm {w' : va_W} (h : w.Perm w') (hH : zH s0 s G as0 w H locs) : zH s0 s G as0 w' H locs := by
  refine ⟨fun k q hk => ?_, ?_, hH.2.2⟩
  · obtain ⟨j, hj⟩ := List.getElem?_of_mem (h.mem_iff.mpr (List.mem_of_getElem? hk))
    exact hH.1 j q hj
  · obtain ⟨h1, h2⟩ := va_D_iff.mp hH.2.1
    exact va_D_iff.mpr ⟨(h.map Prod.fst).nodup_iff.mp h1, fun q hq => h2 q (h.mem_iff.mpr hq)⟩
theorem zH_swap {a b x : va_W} (hH : zH s0 s G as0 ((a ++ b) ++ x) H locs) : zH s0 s G as0 (a ++ (x ++ b)) H locs := zH_perm (by rw [List.append_assoc]; exact List.Perm.append_left a List.perm_append_comm) hH
theorem zH_drop {a b x : va_W} (hH : zH s0 s G as0 (a ++ (x ++ b)) H locs) : zH s0 s G as0 (a ++ b) H locs := zH_l (w2 := x) (zH_perm (by rw [List.append_assoc]; exact List.Perm.append_left a List.perm_append_comm) hH)
/-- after a throw: the desk's object and its tape as they were, the Fault, the rest untouched -/
theorem zx_cat {W0 RD wc : va_W} {i4 i5 : Nat} {e4 e5 eq : Nat × va_E} {H1 : Heap} {locs1 : List Loc} (hH : zH s0 s G as0 (W0 ++ RD) H locs) (hP : va_P G.1 vwCl [e4, e5, eq] H1) (hD : va_D (zB s0 H.size (wc.map Prod.fst)) [e4, e5, eq]) (hz : H.size ≤ H1.size) (hk : ∀ z : Nat, z < H.size → z ∉ wc.map Prod.fst → H1[z]? = H[z]?) (hS : va_S (zB s0 s.heap.size as0) s.heap H1 locs1) (h4 : W0[i4]? = some e4) (h5 : W0[i5]? = some e5) (hwc : ∀ a, a ∈ wc.map Prod.fst → a ∈ RD.map Prod.fst ∨ a = e4.1 ∨ a = e5.1) : zH s0 s G as0 (W0 ++ [eq]) H1 locs1 := by
  have hl : ∀ (j : Nat) (q : Nat × va_E), W0[j]? = some q → (W0 ++ RD)[j]? = some q := fun j q h => by rw [List.getElem?_append_left (List.getElem?_eq_some_iff.mp h).1]; exact h
  have hout : ∀ (j : Nat) (q : Nat × va_E), W0[j]? = some q → q.1 ∈ wc.map Prod.fst → j = i4 ∨ j = i5 := fun j q h hm => by
    rcases hwc _ hm with h1 | h1 | h1
    · obtain ⟨r, hr, er⟩ := List.mem_map.mp h1
      obtain ⟨k, hkk⟩ := List.getElem?_of_mem hr
      have h2 : (W0 ++ RD)[W0.length + k]? = some r := by rw [List.getElem?_append_right (by omega), Nat.add_sub_cancel_left]; exact hkk
      have h3 := hH.2.1.1 _ _ _ _ (hl j q h) h2 er.symm
      have h4 := (List.getElem?_eq_some_iff.mp h).1
      omega
    · exact Or.inl (hH.2.1.1 _ _ _ _ (hl j q h) (hl i4 e4 h4) h1)
    · exact Or.inr (hH.2.1.1 _ _ _ _ (hl j q h) (hl i5 e5 h5) h1)
  have hne : ∀ (j : Nat) (q : Nat × va_E), W0[j]? = some q → q.1 ≠ eq.1 := fun j q h e => by
    have hA : zB s0 H.size (wc.map Prod.fst) eq.1 := hD.2 2 eq rfl
    rcases hA.2 with h1 | h1
    · rcases hout j q h (e ▸ h1) with h2 | h2
      · subst h2
        cases h4.symm.trans h
        exact absurd (hD.1 0 2 _ _ rfl rfl e) (by decide)
      · subst h2
        cases h5.symm.trans h
        exact absurd (hD.1 1 2 _ _ rfl rfl e) (by decide)
    · have := (hH.1 j q (hl j q h)).lt
      rw [e] at this
      omega
  refine ⟨va_P.app (fun j q hq => ?_) (fun j q hq => ?_), ?_, hS⟩
  · by_cases e : q.1 ∈ wc.map Prod.fst
    · rcases hout j q hq e with h2 | h2
      · subst h2
        cases h4.symm.trans hq
        exact hP 0 _ rfl
      · subst h2
        cases h5.symm.trans hq
        exact hP 1 _ rfl
    · have h1 := hH.1 j q (hl j q hq)
      exact h1.kept (hk q.1 h1.lt e)
  · match j, hq with
    | 0, hq => cases hq; exact hP 2 _ rfl
    | j + 1, hq => simp at hq
  · obtain ⟨h1, h2⟩ := va_D_iff.mp hH.2.1
    refine va_D_iff.mpr ⟨?_, fun q hq => ?_⟩
    · rw [List.map_append] at h1 ⊢
      refine List.nodup_append.mpr ⟨(List.nodup_append.mp h1).1, by simp, fun a ha b hb e => ?_⟩
      obtain ⟨q, hq, rfl⟩ := List.mem_map.mp ha
      obtain ⟨j, hj⟩ := List.getElem?_of_mem hq
      have : b = eq.1 := by simpa using hb
      exact hne j q hj (e.trans this)
    · rcases List.mem_append.mp hq with h | h
      · exact h2 q (List.mem_append_left _ h)
      · have e : q = eq := by simpa using h
        subst e
        have hA : zB s0 H.size (wc.map Prod.fst) q.1 := hD.2 2 q rfl
        refine hA.2.elim (fun h3 => ?_) (fun h3 => ⟨hA.1, Or.inr (Nat.le_trans hH.2.2.1 h3)⟩)
        rcases hwc _ h3 with h4' | h4' | h4'
        · obtain ⟨r, hr, er⟩ := List.mem_map.mp h4'
          exact er ▸ h2 r (List.mem_append_right _ hr)
        · rw [h4']; exact h2 e4 (List.mem_append_left _ (List.mem_of_getElem? h4))
        · rw [h4']; exact h2 e5 (List.mem_append_left _ (List.mem_of_getElem? h5))
/-- caught by the only row of the table -/
theorem zh_catch {q a b hp ct i9 : Nat} {fs : List Value} (C : zC pg s0 s m ar me c G cc nL own ret) (htb : c.exceptionTable.toList = tableOf [(a, b, hp, ct)]) {pc : Nat} {rest : List Value} (h1 : a ≤ pc) (h2 : pc < b) (h0 : ct ≠ 0) (hlk : Cond.classLink own ct RX9 ∈ lw_all) (hca : Cond.castable RX9 RX9 ∈ lw_tbl) (hH : zH s0 s G as0 w H locs) (hq : w[i9]? = some (q, .inr (8, fs))) (kk : W pg l ev R s m ar bl me c H locs ce sl Q (F0 m hp ls [.ref q])) : vx_W pg l ev R s m ar bl me c H locs ce sl Q (F0 m pc ls rest) q := by
  obtain ⟨⟨bb, hb, -⟩, -⟩ := C.2.2.2.1
  obtain ⟨q', g0, cell, g1, g2, g3, -⟩ := hH.1 i9 _ hq
  exact vx_catch (E := RX9) (ce := cell) C.1.2.2.2.1 [] _ [] htb (fun z hz => nomatch hz) (by unfold covers; simp [h1, h2]) h0 (C.1.2.2.2.2 _ hlk) (va_Nw.use rfl (va_Nw.warmC C.2.2.2.2.1.1 (va_Nw.of rfl (hb _ hca)))) g1 g3 (by rw [g2]; exact (C.2.2.2.2.2.1 8 _ rfl).2.1) kk
end ZHW
