/-! boxed ints and iterators -/
set_option maxRecDepth 100000
/-- a box of the cache, as the premise tells it -/
def zBo (s0 : State) (y : Nat) (z : Int) : Prop := va_O RJ16 y (fun q => s0.heap.size ≤ q) s0 s0.heap ∧ va_OF RJ16 "value" "I" (.int (iZ z)) y (fun q => s0.heap.size ≤ q) s0 s0.heap
def zBxs (s0 : State) : Prop := ∃ (bx : Nat → Nat) (t : Nat), (∀ k, k < 256 → zBo s0 (bx k) ((k : Int) - 128)) ∧ va_Z "java/lang/Integer$IntegerCache" "cache" "[Ljava/lang/Integer;" (.ref t) (fun q => s0.heap.size ≤ q) s0 s0.heap ∧ va_T (.object RJ16) t 256 (fun j => .ref (bx j)) (fun q => s0.heap.size ≤ q) s0 s0.heap ∧ va_Z "java/lang/Integer$IntegerCache" "high" "I" (.int (iZ 127)) (fun q => s0.heap.size ≤ q) s0 s0.heap
section ZBOX
variable {pg : Program} {l : Launch} {ev : Env} {R : Room} {s0 s : State} {m : MethodId} {ar : Array Value} {bl : List Frame} {me : Method} {c : Code} {H : Heap} {locs : List Loc} {ce sl : Nat} {Q : State → Prop} {G : zG} {cc : ByteArray} {nL : Nat} {own : String} {ret : Option FieldType} {ls : Array Slot} {st : List Value} {as0 : List Nat} {w : va_W}
theorem z_back5m {wc : va_W} {S : Type} {res : S → Option Value} {P : S → Prop} {w' : S → va_W} {mc ms pc : Nat} {a : Array Value} {rest : List Value} (hr : va_Run5 pg l ev R s m ar bl me c H locs ce sl mc ms (F0 m pc ls st) rest (zQc s0 G wc res P w' a) (zB s0 H.size (wc.map Prod.fst))) (hH : zH s0 s G as0 w H locs) (hsub : ∀ b ∈ wc.map Prod.fst, b ∈ w.map Prod.fst)
    (kk : ∀ (u : S) (H1 : Heap) (locs1 : List Loc), P u → va_P G.1 vwCl (w' u) H1 → va_D (zB s0 H.size (wc.map Prod.fst)) (w' u) → H.size ≤ H1.size → (∀ q : Nat, q < H.size → q ∉ wc.map Prod.fst → H1[q]? = H[q]?) → va_S (zB s0 s.heap.size as0) s.heap H1 locs1 → W pg l ev R s m ar bl me c H1 locs1 (ce + mc) (sl + ms) Q (F0 m (pc + 5) ls ((res u).toList ++ rest))) : W pg l ev R s m ar bl me c H locs ce sl Q (F0 m pc ls st) := by
  intro T hT X
  obtain ⟨v, st₀, t, T', L, h0, X', hL, e1, e2, ⟨u, hv, hp, hb, hd, hz, hk⟩, sg⟩ := hr T hT X
  cases hv
  rw [h0] at hz hk hd
  have hin : ∀ q, q ∈ wc.map Prod.fst → zB s0 s.heap.size as0 q := fun q h => zD_in hH.2.1 (hsub q h)
  have hfree : ∀ q, zB s0 H.size (wc.map Prod.fst) q → zB s0 s.heap.size as0 q := fun q h => h.2.elim (hin q) (fun z => ⟨h.1, Or.inr (Nat.le_trans hH.2.2.1 z)⟩)
  obtain ⟨t2, a1, b1⟩ := kk u T'.heap (locs ++ L) hp (by rw [e1]; exact hb) hd (by rw [e1]; exact hz) (fun q h1 h2 => by rw [e1]; exact hk q h1 h2)
    ⟨Nat.le_trans hH.2.2.1 (by rw [e1]; exact hz), fun q h1 h2 => by rw [e1, hk q (Nat.lt_of_lt_of_le h1 hH.2.2.1) (fun z => h2 (hin q z))]; exact hH.2.2.2.1 q h1 h2, fun q hq => by
      rcases List.mem_append.mp hq with h | h
      · exact hH.2.2.2.2 q h
      · exact hfree _ (hL q h)⟩ T' rfl X'
  exact ⟨t2, sg t2 a1, b1⟩
theorem z_subN5 {wc : va_W} {S : Type} {res : S → Option Value} {P : S → Prop} {w1 x1 : S → va_W} {mc ms pc : Nat} {a : Array Value} {rest : List Value} (hr : va_Run5 pg l ev R s m ar bl me c H locs ce sl mc ms (F0 m pc ls st) rest (zQc s0 G wc res P (fun u => w1 u ++ x1 u) a) (zB s0 H.size (wc.map Prod.fst))) (hH : zH s0 s G as0 w H locs) (ks : List Nat) (hk : ks.map (fun k => w[k]?) = wc.map some) (hn : ks.Nodup) (hf : ∀ u, (w1 u).map Prod.fst = wc.map Prod.fst)
    (kk : ∀ (u : S) (H1 : Heap) (locs1 : List Loc), P u → zH s0 s G as0 (setL w ks (w1 u) ++ x1 u) H1 locs1 → W pg l ev R s m ar bl me c H1 locs1 (ce + mc) (sl + ms) Q (F0 m (pc + 5) ls ((res u).toList ++ rest))) : W pg l ev R s m ar bl me c H locs ce sl Q (F0 m pc ls st) := by
  have hsub : ∀ b ∈ wc.map Prod.fst, b ∈ w.map Prod.fst := fun b hb => by
    obtain ⟨q, hq, rfl⟩ := List.mem_map.mp hb
    obtain ⟨i, hi⟩ := List.getElem?_of_mem hq
    obtain ⟨k, -, h2⟩ := sub_at hk hi
    exact List.mem_map.mpr ⟨q, List.mem_of_getElem? h2, rfl⟩
  refine z_back5m hr hH hsub (fun u H1 locs1 hp hP1 hD1 hz hkp hS => kk u H1 locs1 hp ⟨va_P.app (fun j q hq => ?_) (va_P_r hP1), ?_, hS⟩)
  · by_cases e : j ∈ ks
    · obtain ⟨i, hi⟩ := List.getElem?_of_mem e
      obtain ⟨q0, a1, a2⟩ := sub_of hk hi
      have hl : i < (w1 u).length := by
        have := congrArg List.length (hf u)
        simp at this
        rw [this]
        exact (List.getElem?_eq_some_iff.mp a1).1
      obtain ⟨q1, hq1⟩ : ∃ q1, (w1 u)[i]? = some q1 := ⟨_, List.getElem?_eq_getElem hl⟩
      rw [setL_in ks (w1 u) w i j q1 hn hi hq1 (List.getElem?_eq_some_iff.mp a2).1] at hq
      cases hq
      exact va_P_l hP1 i _ hq1
    · rw [setL_out ks _ _ _ e] at hq
      have h1 := hH.1 j q hq
      refine h1.kept (hkp q.1 h1.lt (fun hmem => ?_))
      obtain ⟨q0, hq0, ea⟩ := List.mem_map.mp hmem
      obtain ⟨i, hi⟩ := List.getElem?_of_mem hq0
      obtain ⟨k, b1, b2⟩ := sub_at hk hi
      have := hH.2.1.1 k j q0 q b2 hq ea
      exact e (this ▸ List.mem_of_getElem? b1)
  · have key : ∀ (j : Nat) (q : Nat × va_E), (setL w ks (w1 u))[j]? = some q → ∃ q0, w[j]? = some q0 ∧ q0.1 = q.1 := by
      intro j q hq
      by_cases e : j ∈ ks
      · obtain ⟨i, hi⟩ := List.getElem?_of_mem e
        obtain ⟨q0, a1, a2⟩ := sub_of hk hi
        have h3 : ((w1 u).map Prod.fst)[i]? = (wc.map Prod.fst)[i]? := by rw [hf u]
        rw [List.getElem?_map, List.getElem?_map, a1] at h3
        cases hq1 : (w1 u)[i]? with
        | none => rw [hq1] at h3; simp at h3
        | some q1 =>
          rw [hq1] at h3
          rw [setL_in ks (w1 u) w i j q1 hn hi hq1 (List.getElem?_eq_some_iff.mp a2).1] at hq
          cases hq
          exact ⟨q0, a2, by simpa using h3.symm⟩
      · rw [setL_out ks _ _ _ e] at hq
        exact ⟨q, hq, rfl⟩
    have hnew : ∀ (j : Nat) (q : Nat × va_E), (x1 u)[j]? = some q → H.size ≤ q.1 ∧ s0.heap.size ≤ q.1 := by
      intro j q hq
      have h1 : (w1 u ++ x1 u)[(w1 u).length + j]? = some q := by rw [List.getElem?_append_right (Nat.le_add_right _ _), Nat.add_sub_cancel_left]; exact hq
      have h2 := hD1.2 _ q h1
      refine ⟨h2.2.elim (fun z => ?_) (fun z => z), h2.1⟩
      rw [← hf u] at z
      obtain ⟨q0, hq0, ea⟩ := List.mem_map.mp z
      obtain ⟨i, hi⟩ := List.getElem?_of_mem hq0
      have h3 : (w1 u ++ x1 u)[i]? = some q0 := by rw [List.getElem?_append_left (List.getElem?_eq_some_iff.mp hi).1]; exact hi
      have h4 := hD1.1 i _ q0 q h3 h1 ea
      have := (List.getElem?_eq_some_iff.mp hi).1
      omega
    refine va_D.app ⟨fun i j p q hp hq e => ?_, fun j q hq => ?_⟩ ⟨fun i j p q hp hq e => ?_, fun j q hq => ?_⟩ (fun i j p q hp hq e => ?_)
    · obtain ⟨p0, c1, c2⟩ := key i p hp
      obtain ⟨q0, d1, d2⟩ := key j q hq
      exact hH.2.1.1 i j p0 q0 c1 d1 (by rw [c2, d2, e])
    · obtain ⟨q0, d1, d2⟩ := key j q hq
      rw [← d2]
      exact hH.2.1.2 j q0 d1
    · have h1 : (w1 u ++ x1 u)[(w1 u).length + i]? = some p := by rw [List.getElem?_append_right (Nat.le_add_right _ _), Nat.add_sub_cancel_left]; exact hp
      have h2 : (w1 u ++ x1 u)[(w1 u).length + j]? = some q := by rw [List.getElem?_append_right (Nat.le_add_right _ _), Nat.add_sub_cancel_left]; exact hq
      have := hD1.1 _ _ p q h1 h2 e
      omega
    · obtain ⟨h1, h2⟩ := hnew j q hq
      exact ⟨h2, Or.inr (Nat.le_trans hH.2.2.1 h1)⟩
    · obtain ⟨p0, c1, c2⟩ := key i p hp
      have h1 := (hH.1 i p0 c1).lt
      have h2 := (hnew j q hq).1
      omega
theorem zO_up (C : zC pg s0 s m ar me c G cc nL own ret) {CN : String} {a : Nat} (h : va_O CN a (fun q => s0.heap.size ≤ q) s0 s0.heap) : va_O CN a (zB s0 s.heap.size as0) s s.heap := by
  obtain ⟨a1, a2, a3⟩ := C.2.2.2.2.1
  exact ((va_O.moved a1.alike h).kept (H1 := s.heap) (fun a ha _ => a3 a ha)).narrow (fun q hq => hq.1)
theorem zOF_up (C : zC pg s0 s m ar me c G cc nL own ret) {o n d : String} {v : Value} {a : Nat} (h : va_OF o n d v a (fun q => s0.heap.size ≤ q) s0 s0.heap) : va_OF o n d v a (zB s0 s.heap.size as0) s s.heap := by
  obtain ⟨a1, a2, a3⟩ := C.2.2.2.2.1
  exact ((va_OF.moved a1.alike h).kept (H1 := s.heap) (fun a ha _ => a3 a ha)).narrow (fun q hq => hq.1)
theorem zT_up (C : zC pg s0 s m ar me c G cc nL own ret) {ty : FieldType} {t N : Nat} {f : Nat → Value} (h : va_T ty t N f (fun q => s0.heap.size ≤ q) s0 s0.heap) : va_T ty t N f (zB s0 s.heap.size as0) s s.heap := by
  obtain ⟨a1, a2, a3⟩ := C.2.2.2.2.1
  exact ((va_T.moved a1.alike h).kept (H1 := s.heap) (fun a ha _ => a3 a ha)).narrow (fun q hq => hq.1)
theorem zp_tq (C : zC pg s0 s m ar me c G cc nL own ret) (hS : va_S (zB s0 s.heap.size as0) s.heap H locs) (pc n : Nat) {t N : Nat} {f : Nat → Value} {CN : String} {e : Int} {v : Value} (hT : va_T (.object CN) t N f (fun q => s0.heap.size ≤ q) s0 s0.heap) (hN : N < 2147483648) (hi : e = n) (hlt : n < N) (hv : f n = v) (hdg : decode cc pc = .ok (.aaload, 1)) (kk : W pg l ev R s m ar bl me c H locs ce sl Q (F0 m (pc + 1) ls (v :: st))) : W pg l ev R s m ar bl me c H locs ce sl Q (F0 m pc ls (.int (iZ e) :: .ref t :: st)) := by
  subst hi; subst hv
  exact vb_tq C.1.1 C.1.2.1 (zT_up C hT) hS (iZ_in hlt hN) (by rw [iZ_clamp n (by omega)]) hdg kk
theorem z_castB (C : zC pg s0 s m ar me c G cc nL own ret) (hS : va_S (zB s0 s.heap.size as0) s.heap H locs) (pc : Nat) {idx y : Nat} {z : Int} (hB : zBo s0 y z) (hq : Cond.classLink own idx RJ16 ∈ lw_all) (hdg : decode cc pc = .ok (.checkcast idx, 3)) (kk : W pg l ev R s m ar bl me c H locs ce sl Q (F0 m (pc + 3) ls (.ref y :: st))) : W pg l ev R s m ar bl me c H locs ce sl Q (F0 m pc ls (.ref y :: st)) :=
  va_castE C.1.1 C.1.2.1 C.1.2.2.2.1 (C.1.2.2.2.2 _ hq) (va_Orecv (zO_up (as0 := as0) C hB.1) hS) hdg kk
end ZBOX
set_option maxHeartbeats 4000000 in
theorem u_J16_valueOf (lau : Launch) (s0 : State) (G : zG) (z : Int) (hz : 0 ≤ z ∧ z ≤ 127) (hB : zBxs s0) : zPur (S := Nat) lau yJ16_valueOf cJ16_valueOf 1 (some (.object "java/lang/Integer")) 0 0 s0 G [.int (iZ z)] [] (fun q => some (.ref q)) (fun q => zBo s0 q z) := by
  refine zPur.of (by decide) (Nat.le_of_ble_eq_true rfl) ?_
  intro pg ev s1 mi ar bl me cd ls Q hC hP hl hQ
  have hl : lv_has ls 1 [(0, .int (iZ z))] := hl
  obtain ⟨bx, t, hb, hc, hT, hh⟩ := hB
  obtain ⟨k, rfl⟩ : ∃ k : Nat, z = (k : Int) := ⟨z.toNat, by omega⟩
  refine z_iload_n hC 0 hl dJ16_valueOf_0 rfl 0 rfl ?_
  refine z_bipush hC 1 dJ16_valueOf_1 rfl ?_
  refine z_icmp_lt_f hC 3 23 dJ16_valueOf_3 rfl (by omega) (by omega) (by omega) ?_
  refine z_iload_n hC 6 hl dJ16_valueOf_6 rfl 0 rfl ?_
  refine zp_gets hC zS0 7 hh q960 dJ16_valueOf_7 ?_
  refine z_icmp_gt_f hC 10 23 dJ16_valueOf_10 rfl (by omega) (by omega) (by omega) ?_
  refine zp_gets hC zS0 13 hc q962 dJ16_valueOf_13 ?_
  refine z_iload_n hC 16 hl dJ16_valueOf_16 rfl 0 rfl ?_
  refine z_sipush hC 17 dJ16_valueOf_17 rfl ?_
  refine z_iadd (e := ((k + 128 : Nat) : Int)) hC 20 dJ16_valueOf_20 (by omega) ?_
  refine zp_tq hC (zS0) 21 (k + 128) hT (by decide) rfl (by omega) rfl dJ16_valueOf_21 ?_
  exact zp_aret hC hQ 22 (bx (k + 128)) dJ16_valueOf_22 rfl (by have h1 := hb (k + 128) (by omega); rw [show (((k + 128 : Nat) : Int) - 128) = (k : Int) by omega] at h1; exact h1)
set_option maxHeartbeats 4000000 in
theorem u_J16_intValue (lau : Launch) (s0 : State) (G : zG) (y : Nat) (z : Int) (hB : zBo s0 y z) : zPur (S := Unit) lau yJ16_intValue cJ16_intValue 1 (some .int) 0 0 s0 G [.ref y] [] (fun _ => some (.int (iZ z))) (fun _ => True) := by
  refine zPur.of (by decide) (Nat.le_of_ble_eq_true rfl) ?_
  intro pg ev s1 mi ar bl me cd ls Q hC hP hl hQ
  have hl : lv_has ls 1 [(0, .ref y)] := hl
  refine z_aload_n hC 0 hl dJ16_intValue_0 rfl 0 rfl ?_
  refine zp_getO hC zS0 1 (zOF_up (as0 := []) hC hB.2) q973 dJ16_intValue_1 ?_
  exact zp_iret hC hQ 4 () dJ16_intValue_4 rfl trivial
