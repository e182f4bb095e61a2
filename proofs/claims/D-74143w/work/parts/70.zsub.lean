/-! calls on some of our cells; arrays' contents by what is below their length; copies of rows -/
set_option maxRecDepth 100000
def setL : va_W → List Nat → va_W → va_W
  | w, k :: ks, e :: es => setL (w.set k e) ks es
  | w, _, _ => w
theorem setL_out : ∀ (ks : List Nat) (es w : va_W) (j : Nat), j ∉ ks → (setL w ks es)[j]? = w[j]?
  | [], _, _, _, _ => by simp [setL]
  | _ :: _, [], _, _, _ => by simp [setL]
  | k :: ks, e :: es, w, j, h => by
    show (setL (w.set k e) ks es)[j]? = _
    rw [setL_out ks es _ j (fun q => h (List.mem_cons_of_mem _ q)), List.getElem?_set_ne (fun q => h (by rw [← q]; exact List.mem_cons_self))]
theorem setL_in : ∀ (ks : List Nat) (es w : va_W) (i j : Nat) (e : Nat × va_E), ks.Nodup → ks[i]? = some j → es[i]? = some e → j < w.length → (setL w ks es)[j]? = some e
  | [], _, _, i, _, _, _, h, _, _ => by simp at h
  | _ :: _, [], _, i, _, _, _, _, h, _ => by simp at h
  | k :: ks, e0 :: es, w, 0, j, e, hn, h1, h2, hl => by
    cases h1
    cases h2
    show (setL (w.set k e0) ks es)[k]? = _
    rw [setL_out ks es _ k (List.nodup_cons.mp hn).1, List.getElem?_set_self hl]
  | k :: ks, e0 :: es, w, i + 1, j, e, hn, h1, h2, hl => by
    show (setL (w.set k e0) ks es)[j]? = _
    exact setL_in ks es (w.set k e0) i j e (List.nodup_cons.mp hn).2 h1 h2 (by rw [List.length_set]; exact hl)
theorem sub_at {w wc : va_W} {ks : List Nat} (hk : ks.map (fun k => w[k]?) = wc.map some) {i : Nat} {q : Nat × va_E} (h : wc[i]? = some q) : ∃ k, ks[i]? = some k ∧ w[k]? = some q := by
  have h1 : (ks.map (fun k => w[k]?))[i]? = (wc.map some)[i]? := by rw [hk]
  rw [List.getElem?_map, List.getElem?_map, h] at h1
  cases hq : ks[i]? with
  | none => rw [hq] at h1; simp at h1
  | some k => rw [hq] at h1; exact ⟨k, rfl, by simpa using h1⟩
theorem sub_of {w wc : va_W} {ks : List Nat} (hk : ks.map (fun k => w[k]?) = wc.map some) {i k : Nat} (h : ks[i]? = some k) : ∃ q, wc[i]? = some q ∧ w[k]? = some q := by
  have h1 : (ks.map (fun k => w[k]?))[i]? = (wc.map some)[i]? := by rw [hk]
  rw [List.getElem?_map, List.getElem?_map, h] at h1
  cases hq : wc[i]? with
  | none => rw [hq] at h1; simp at h1
  | some q => rw [hq] at h1; exact ⟨q, rfl, by simpa using h1⟩
theorem z_subP {D : va_G} {cl : List vw_C} {w wc : va_W} {H : Heap} (h : va_P D cl w H) (ks : List Nat) (hk : ks.map (fun k => w[k]?) = wc.map some) : va_P D cl wc H := fun i q hq => by
  obtain ⟨k, -, h2⟩ := sub_at hk hq
  exact h k q h2
theorem z_subD {A : Nat → Prop} {w wc : va_W} (h : va_D A w) (ks : List Nat) (hn : ks.Nodup) (hk : ks.map (fun k => w[k]?) = wc.map some) : va_D A wc := by
  refine ⟨fun i j p q hp hq e => ?_, fun i q hq => ?_⟩
  · obtain ⟨k1, a1, b1⟩ := sub_at hk hp
    obtain ⟨k2, a2, b2⟩ := sub_at hk hq
    have := h.1 k1 k2 p q b1 b2 e
    subst this
    exact (List.getElem?_inj (List.getElem?_eq_some_iff.mp a1).1 hn).mp (a1.trans a2.symm)
  · obtain ⟨k, -, b⟩ := sub_at hk hq
    exact h.2 k q b
section ZSUB
variable {pg : Program} {l : Launch} {ev : Env} {R : Room} {s0 s : State} {m : MethodId} {ar : Array Value} {bl : List Frame} {me : Method} {c : Code} {H : Heap} {locs : List Loc} {ce sl : Nat} {Q : State → Prop} {G : zG} {cc : ByteArray} {nL : Nat} {own : String} {ret : Option FieldType} {ls : Array Slot} {st : List Value} {as0 : List Nat} {w : va_W}
/-- a call on some of our cells, which come back in the same order: the rest is as it was -/
theorem z_sub {wc : va_W} {S : Type} {res : S → Option Value} {P : S → Prop} {w' : S → va_W} {mc ms pc : Nat} {a : Array Value} {rest : List Value} (hr : va_Run pg l ev R s m ar bl me c H locs ce sl mc ms (F0 m pc ls st) rest (zQc s0 G wc res P w' a) (zB s0 H.size (wc.map Prod.fst))) (hH : zH s0 s G as0 w H locs) (ks : List Nat) (hk : ks.map (fun k => w[k]?) = wc.map some) (hn : ks.Nodup) (hf : ∀ u, (w' u).map Prod.fst = wc.map Prod.fst)
    (kk : ∀ (u : S) (H1 : Heap) (locs1 : List Loc), P u → zH s0 s G as0 (setL w ks (w' u)) H1 locs1 → W pg l ev R s m ar bl me c H1 locs1 (ce + mc) (sl + ms) Q (F0 m (pc + 3) ls ((res u).toList ++ rest))) : W pg l ev R s m ar bl me c H locs ce sl Q (F0 m pc ls st) := by
  have hlen : ks.length = wc.length := by have := congrArg List.length hk; simpa using this
  refine z_back hr hH (fun b hb => ?_) (fun u H1 locs1 hp hP1 hD1 hz hkp hS => kk u H1 locs1 hp ⟨fun j q hq => ?_, ?_, hS⟩)
  · obtain ⟨q, hq, rfl⟩ := List.mem_map.mp hb
    obtain ⟨i, hi⟩ := List.getElem?_of_mem hq
    obtain ⟨k, -, h2⟩ := sub_at hk hi
    exact List.mem_map.mpr ⟨q, List.mem_of_getElem? h2, rfl⟩
  · by_cases e : j ∈ ks
    · obtain ⟨i, hi⟩ := List.getElem?_of_mem e
      obtain ⟨q0, a1, a2⟩ := sub_of hk hi
      have hl : i < (w' u).length := by
        have := congrArg List.length (hf u)
        simp at this
        rw [this]
        exact (List.getElem?_eq_some_iff.mp a1).1
      obtain ⟨q1, hq1⟩ : ∃ q1, (w' u)[i]? = some q1 := ⟨_, List.getElem?_eq_getElem hl⟩
      rw [setL_in ks (w' u) w i j q1 hn hi hq1 (List.getElem?_eq_some_iff.mp a2).1] at hq
      cases hq
      exact hP1 i _ hq1
    · rw [setL_out ks _ _ _ e] at hq
      have h1 := hH.1 j q hq
      refine h1.kept (hkp q.1 h1.lt (fun hmem => ?_))
      obtain ⟨q0, hq0, ea⟩ := List.mem_map.mp hmem
      obtain ⟨i, hi⟩ := List.getElem?_of_mem hq0
      obtain ⟨k, b1, b2⟩ := sub_at hk hi
      have := hH.2.1.1 k j q0 q b2 hq ea
      exact e (this ▸ List.mem_of_getElem? b1)
  · have key : ∀ (j : Nat) (q : Nat × va_E), (setL w ks (w' u))[j]? = some q → ∃ q0, w[j]? = some q0 ∧ q0.1 = q.1 := by
      intro j q hq
      by_cases e : j ∈ ks
      · obtain ⟨i, hi⟩ := List.getElem?_of_mem e
        obtain ⟨q0, a1, a2⟩ := sub_of hk hi
        have h3 : ((w' u).map Prod.fst)[i]? = (wc.map Prod.fst)[i]? := by rw [hf u]
        rw [List.getElem?_map, List.getElem?_map, a1] at h3
        cases hq1 : (w' u)[i]? with
        | none => rw [hq1] at h3; simp at h3
        | some q1 =>
          rw [hq1] at h3
          rw [setL_in ks (w' u) w i j q1 hn hi hq1 (List.getElem?_eq_some_iff.mp a2).1] at hq
          cases hq
          exact ⟨q0, a2, by simpa using h3.symm⟩
      · rw [setL_out ks _ _ _ e] at hq
        exact ⟨q, hq, rfl⟩
    refine ⟨fun i j p q hp hq e => ?_, fun j q hq => ?_⟩
    · obtain ⟨p0, c1, c2⟩ := key i p hp
      obtain ⟨q0, d1, d2⟩ := key j q hq
      exact hH.2.1.1 i j p0 q0 c1 d1 (by rw [c2, d2, e])
    · obtain ⟨q0, d1, d2⟩ := key j q hq
      rw [← d2]
      exact hH.2.1.2 j q0 d1
theorem arrV_cg {cA : ClassId} {n : Nat} {f g : Nat → Value} (h : ∀ j, j < n → f j = g j) : arrV cA n f = arrV cA n g := by
  have e : (fun j : Fin n => f j.val) = (fun j : Fin n => g j.val) := funext fun j => h j.val j.isLt
  unfold arrV
  rw [e]
theorem vp_cg {cA : ClassId} {n : Nat} {f g : Nat → Int32} (h : ∀ j, j < n → f j = g j) : vp_cell cA (n, .inl f) = vp_cell cA (n, .inl g) := by
  rw [vp_cell_i, vp_cell_i]
  exact arrV_cg (fun j hj => by rw [h j hj])
/-- an array's cell under another name of its contents -/
theorem zH_arr (hH : zH s0 s G as0 w H locs) {k a n : Nat} {cA : ClassId} {f g : Nat → Int32} (hk : w[k]? = some (a, .inl (cA, n, .inl f))) (h : ∀ j, j < n → f j = g j) : zH s0 s G as0 (w.set k (a, .inl (cA, n, .inl g))) H locs := by
  refine ⟨fun j q hq => ?_, hH.2.1.set hk, hH.2.2⟩
  by_cases e : j = k
  · subst e
    rw [List.getElem?_set_self (List.getElem?_eq_some_iff.mp hk).1] at hq
    cases hq
    have h1 := hH.1 j _ hk
    show H[a]? = some (vp_cell cA (n, .inl g))
    rw [← vp_cg h]
    exact h1
  · rw [List.getElem?_set_ne (fun q => e q.symm)] at hq
    exact hH.1 j q hq
end ZSUB
