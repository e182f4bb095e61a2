/-! calls that may throw, on some of our cells; what a text brings lies in its bounds -/
set_option maxRecDepth 100000
section ZX2
variable {pg : Program} {l : Launch} {ev : Env} {R : Room} {s0 s : State} {m : MethodId} {ar : Array Value} {bl : List Frame} {me : Method} {c : Code} {H : Heap} {locs : List Loc} {ce sl : Nat} {Q : State → Prop} {G : zG} {cc : ByteArray} {nL : Nat} {own : String} {ret : Option FieldType} {ls : Array Slot} {st : List Value} {as0 : List Nat} {w : va_W} {dk tp : Nat} {D : List Value} {f : Nat → Int} {X : Nat → Nat → Prop}
theorem sub_zH {wc wu : va_W} {H1 : Heap} {locs1 : List Loc} (hH : zH s0 s G as0 w H locs) (ks : List Nat) (hk : ks.map (fun k => w[k]?) = wc.map some) (hn : ks.Nodup) (hf : wu.map Prod.fst = wc.map Prod.fst) (hP1 : va_P G.1 vwCl wu H1) (hkp : ∀ q : Nat, q < H.size → q ∉ wc.map Prod.fst → H1[q]? = H[q]?) (hS : va_S (zB s0 s.heap.size as0) s.heap H1 locs1) : zH s0 s G as0 (setL w ks wu) H1 locs1 := by
  have hlen : ks.length = wc.length := by have := congrArg List.length hk; simpa using this
  refine ⟨fun j q hq => ?_, ?_, hS⟩
  · by_cases e : j ∈ ks
    · obtain ⟨i, hi⟩ := List.getElem?_of_mem e
      obtain ⟨q0, a1, a2⟩ := sub_of hk hi
      have hl : i < wu.length := by
        have := congrArg List.length hf
        simp at this
        rw [this]
        exact (List.getElem?_eq_some_iff.mp a1).1
      obtain ⟨q1, hq1⟩ : ∃ q1, wu[i]? = some q1 := ⟨_, List.getElem?_eq_getElem hl⟩
      rw [setL_in ks wu w i j q1 hn hi hq1 (List.getElem?_eq_some_iff.mp a2).1] at hq
      cases hq
      exact hP1 i _ hq1
    · rw [setL_out ks _ _ _ e] at hq
      have h1 := hH.1 j q hq
      refine h1.kept (hkp q.1 h1.lt (fun hmem => ?_))
      obtain ⟨q0, hq0, ea⟩ := List.mem_map.mp hmem
      obtain ⟨i, hi⟩ := List.getElem?_of_mem hq0
      obtain ⟨k, b1, b2⟩ := sub_at hk hi
      have := hH.2.1.1 k j q0 q b2 hq ea
      exact e (this ▸ List.mem_of_getElem? b1)
  · have key : ∀ (j : Nat) (q : Nat × va_E), (setL w ks wu)[j]? = some q → ∃ q0, w[j]? = some q0 ∧ q0.1 = q.1 := by
      intro j q hq
      by_cases e : j ∈ ks
      · obtain ⟨i, hi⟩ := List.getElem?_of_mem e
        obtain ⟨q0, a1, a2⟩ := sub_of hk hi
        have h3 : (wu.map Prod.fst)[i]? = (wc.map Prod.fst)[i]? := by rw [hf]
        rw [List.getElem?_map, List.getElem?_map, a1] at h3
        cases hq1 : wu[i]? with
        | none => rw [hq1] at h3; simp at h3
        | some q1 =>
          rw [hq1] at h3
          rw [setL_in ks wu w i j q1 hn hi hq1 (List.getElem?_eq_some_iff.mp a2).1] at hq
          cases hq
          exact ⟨q0, a2, by simpa using h3.symm⟩
      · rw [setL_out ks _ _ _ e] at hq
        exact ⟨q, hq, rfl⟩
    refine ⟨fun i j p q hp hq e => ?_, fun j q hq => ?_⟩
    · obtain ⟨p0, c1, c2⟩ := key i p hp
      obtain ⟨q0, d1, d2⟩ := key j q hq
      exact hH.2.1.1 i j p0 q0 c1 d1 (by rw [c2, d2, e])
    · obtain ⟨q0, d1, d2⟩ := key j q hq
      rw [← d2]
      exact hH.2.1.2 j q0 d1
theorem zx_sub {wc : va_W} {S : Type} {res : S → Option Value} {P : S → Prop} {w' : S → va_W} {mc ms pc : Nat} {a : Array Value} {rest : List Value} (hr : vq_Run pg l ev R s m ar bl me c H locs ce sl mc ms (F0 m pc ls st) rest (zQc s0 G wc res P w' a) (zQx s0 G wc dk tp D f X) (zB s0 H.size (wc.map Prod.fst))) (hH : zH s0 s G as0 w H locs) (ks : List Nat) (hk : ks.map (fun k => w[k]?) = wc.map some) (hn : ks.Nodup) (hf : ∀ u, (w' u).map Prod.fst = wc.map Prod.fst)
    (kx : ∀ (k p q : Nat) (H1 : Heap) (locs1 : List Loc), X k p → va_P G.1 vwCl (fltW G dk tp D f q k p) H1 → va_D (zB s0 H.size (wc.map Prod.fst)) (fltW G dk tp D f q k p) → H.size ≤ H1.size → (∀ z : Nat, z < H.size → z ∉ wc.map Prod.fst → H1[z]? = H[z]?) → va_S (zB s0 s.heap.size as0) s.heap H1 locs1 → vx_W pg l ev R s m ar bl me c H1 locs1 (ce + mc) (sl + ms) Q (F0 m pc ls rest) q)
    (kk : ∀ (u : S) (H1 : Heap) (locs1 : List Loc), P u → zH s0 s G as0 (setL w ks (w' u)) H1 locs1 → W pg l ev R s m ar bl me c H1 locs1 (ce + mc) (sl + ms) Q (F0 m (pc + 3) ls ((res u).toList ++ rest))) : W pg l ev R s m ar bl me c H locs ce sl Q (F0 m pc ls st) :=
  zx_back hr hH (fun b hb => by
    obtain ⟨q, hq, rfl⟩ := List.mem_map.mp hb
    obtain ⟨i, hi⟩ := List.getElem?_of_mem hq
    obtain ⟨k, -, h2⟩ := sub_at hk hi
    exact List.mem_map.mpr ⟨q, List.mem_of_getElem? h2, rfl⟩) kx (fun u H1 locs1 hp hP1 hD1 hz hkp hS => kk u H1 locs1 hp (sub_zH hH ks hk hn (hf u) hP1 hkp hS))
end ZX2
-- bounds
def rwB (m : Nat) (v w : Nat → Nat) : Prop := m ≤ 120 ∧ ∀ j, j < m → v j < 1000 ∧ 1 ≤ w j ∧ w j ≤ 9
theorem rwB_s {m z : Nat} {v w : Nat → Nat} (h : rwB m v w) (hm : m ≠ 120) (hz : z ≤ 999) : rwB (m + 1) (va_up v m z) (va_up w m 1) := by
  refine ⟨by have := h.1; omega, fun j hj => ?_⟩
  unfold va_up
  by_cases e : j = m
  · rw [if_pos e, if_pos e]; omega
  · rw [if_neg e, if_neg e]; exact h.2 j (by omega)
theorem ROWf_B {t : Nat → Nat} {n : Nat} : ∀ (f so pl vl nx m : Nat) (v w : Nat → Nat) (y : rP), ROWf t n f so pl vl nx m v w (.inr y) → rwB m v w → rwB y.2.2.2.2.1 y.2.2.2.2.2.1 y.2.2.2.2.2.2 := by
  intro f
  induction f with
  | zero => intro so pl vl nx m v w y h; exact h.elim
  | succ f ih =>
    intro so pl vl nx m v w y h hB
    rcases h with ⟨-, h⟩ | ⟨-, -, h⟩ | ⟨-, -, -, h⟩ | ⟨h1, h2, h3, s, p, u, x, h4, h5⟩
    · cases h
    · cases h
    · cases h
    · rcases h5 with ⟨-, h5⟩ | ⟨-, h5⟩
      · cases h5
        exact rwB_s hB h2 h3
      · exact ih _ _ _ _ _ _ _ _ h5 (rwB_s hB h2 h3)
/-- what is read so far -/
def lnB (m : Nat) (v w : Nat → Nat) (bl ti : Nat) : Prop := rwB m v w ∧ 2 ≤ bl ∧ bl ≤ 20 ∧ ti ≤ 3
theorem LNr_B {t : Nat → Nat} {n so pl vl nx m : Nat} {v w : Nat → Nat} {bl ti hb ht : Nat} {y : lP} (h : LNr t n so pl vl nx m v w bl ti hb ht (.inr y)) (hB : lnB m v w bl ti) : lnB y.2.1 y.2.2.1 y.2.2.2.1 y.2.2.2.2.1 y.2.2.2.2.2.1 := by
  obtain ⟨hB, hb1, hb2, ht1⟩ := hB
  rcases h with ⟨-, -, q, h, e⟩ | ⟨-, -, q, h, e⟩ | ⟨-, -, q, h, e⟩ | ⟨-, -, q, h, e⟩ | ⟨-, e⟩
  · cases q with
    | inl q => cases e
    | inr q =>
      cases e
      obtain ⟨s, p, u, x, -, f, hf⟩ := h
      exact ⟨ROWf_B f _ _ _ _ _ _ _ _ hf hB, hb1, hb2, ht1⟩
  · cases q with
    | inl q => cases e
    | inr q =>
      cases e
      obtain ⟨s, p, u, x, -, h | ⟨⟨-, hu⟩, s2, p2, u2, x2, -, q2, h2, e2⟩⟩ := h
      · exact absurd h.2 (by simp)
      · cases q2 with
        | inl q2 => cases e2
        | inr q2 =>
          cases e2
          refine ⟨⟨hB.1, fun j hj => ⟨(hB.2 j hj).1, ?_⟩⟩, hb1, hb2, ht1⟩
          rcases h2 with ⟨-, h3⟩ | ⟨-, -, h3⟩ | ⟨-, hr, s3, p3, u3, x3, -, h3⟩
          · cases h3
          · cases h3
          · cases h3
            show 1 ≤ va_up w u u2 j ∧ va_up w u u2 j ≤ 9
            unfold va_up
            by_cases e : j = u
            · rw [if_pos e]; exact hr
            · rw [if_neg e]; exact (hB.2 j hj).2
  · cases q with
    | inl q => cases e
    | inr q =>
      cases e
      rcases h with ⟨-, h⟩ | ⟨-, s, p, u, x, -, h2⟩
      · cases h
      · rcases h2 with ⟨-, h3⟩ | ⟨-, -, h3⟩ | ⟨-, hr, s3, p3, u3, x3, -, h3⟩
        · cases h3
        · cases h3
        · cases h3
          exact ⟨hB, hr.1, hr.2, ht1⟩
  · cases q with
    | inl q => cases e
    | inr q =>
      cases e
      rcases h with ⟨-, h⟩ | ⟨-, s, p, u, x, -, h2⟩
      · cases h
      · rcases h2 with ⟨-, h3⟩ | ⟨⟨-, hu⟩, s2, p2, u2, x2, -, h3⟩
        · cases h3
        · cases h3
          exact ⟨hB, hb1, hb2, by show u ≤ 3; omega⟩
  · cases e
theorem PARf_B {t : Nat → Nat} {n : Nat} : ∀ (f : Nat) (y : lP) (ln : Nat) (z : pP), PARf t n f y ln (.inr z) → lnB y.2.1 y.2.2.1 y.2.2.2.1 y.2.2.2.2.1 y.2.2.2.2.2.1 → lnB z.1 z.2.1 z.2.2.1 z.2.2.2.1 z.2.2.2.2.1 := by
  intro f
  induction f with
  | zero => intro y ln z h; exact h.elim
  | succ f ih =>
    intro y ln z h hB
    rcases h with ⟨-, h⟩ | ⟨-, q, h1, h2⟩
    · cases h
      exact hB
    · rcases h2 with ⟨e, -, h2⟩ | ⟨z', rfl, h2⟩
      · cases h2
      · refine ih z' _ _ h2 ?_
        obtain ⟨q', h3, h4⟩ := h1
        rcases h4 with ⟨e, -, h4⟩ | ⟨y', rfl, h4⟩
        · cases h4
        · have hy := LNr_B h3 hB
          rcases h4 with ⟨-, h4⟩ | ⟨-, s, p, u, x, -, h4⟩
          · cases h4
          · cases h4
            exact hy
theorem TXT_B {t : Nat → Nat} {n m bl ti l : Nat} {v w : Nat → Nat} (h : TXTr t n (.inr (m, v, w, bl, ti, l))) : lnB m v w bl ti := by
  obtain ⟨s, p, u, x, -, f, hf⟩ := h
  exact PARf_B f _ _ _ hf ⟨⟨Nat.le_of_ble_eq_true rfl, fun j hj => absurd hj (Nat.not_lt_zero _)⟩, Nat.le_of_ble_eq_true rfl, Nat.le_of_ble_eq_true rfl, Nat.le_of_ble_eq_true rfl⟩
