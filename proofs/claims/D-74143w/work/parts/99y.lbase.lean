/-! the law: its base -/
set_option maxRecDepth 100000
theorem zG_ex {s : State} {b : Addr} (hts : ∀ w ∈ lw_tbl, w.before #[Value.ref b] s = true) : ∃ G : zG, va_K G.1 vwCl (vTys G.2) s := by
  obtain ⟨c0, i0, h0⟩ := u_known (C := RX7) (T := TX7) (N := 42) (n := 42) hts (fun w h => lw_all_tbl (in_X7 w h)) (hts _ (lw_all_tbl q1415))
  obtain ⟨c1, i1, h1⟩ := u_known (C := RX1) (T := TX1) (N := 25) (n := 25) hts (fun w h => lw_all_tbl (in_X1 w h)) (hts _ (lw_all_tbl q126))
  obtain ⟨c2, i2, h2⟩ := u_known (C := RX2) (T := TX2) (N := 3) (n := 3) hts (fun w h => lw_all_tbl (in_X2 w h)) (hts _ (lw_all_tbl q134))
  obtain ⟨c3, i3, h3⟩ := u_known (C := RX3) (T := TX3) (N := 1) (n := 1) hts (fun w h => lw_all_tbl (in_X3 w h)) (hts _ (lw_all_tbl q165))
  obtain ⟨c4, i4, h4⟩ := u_known (C := RX4) (T := TX4) (N := 1) (n := 1) hts (fun w h => lw_all_tbl (in_X4 w h)) (hts _ (lw_all_tbl q175))
  obtain ⟨c5, i5, h5⟩ := u_known (C := RX5) (T := TX5) (N := 1) (n := 1) hts (fun w h => lw_all_tbl (in_X5 w h)) (hts _ (lw_all_tbl q185))
  obtain ⟨c6, i6, h6⟩ := u_known (C := RX6) (T := TX6) (N := 1) (n := 1) hts (fun w h => lw_all_tbl (in_X6 w h)) (hts _ (lw_all_tbl q195))
  obtain ⟨c7, i7, h7⟩ := u_known (C := RX8) (T := TX8) (N := 13) (n := 13) hts (fun w h => lw_all_tbl (in_X8 w h)) (hts _ (lw_all_tbl q307))
  obtain ⟨c8, i8, h8⟩ := u_known (C := RX9) (T := TX9) (N := 8) (n := 8) hts (fun w h => lw_all_tbl (in_X9 w h)) (hts _ (lw_all_tbl q594))
  obtain ⟨c9, i9, h9⟩ := u_known (C := RX10) (T := TX10) (N := 2) (n := 2) hts (fun w h => lw_all_tbl (in_X10 w h)) (hts _ (lw_all_tbl q699))
  obtain ⟨c10, i10, h10⟩ := u_known (C := RX11) (T := TX11) (N := 2) (n := 2) hts (fun w h => lw_all_tbl (in_X11 w h)) (hts _ (lw_all_tbl q893))
  obtain ⟨c11, i11, h11⟩ := u_known (C := RX12) (T := TX12) (N := 3) (n := 3) hts (fun w h => lw_all_tbl (in_X12 w h)) (hts _ (lw_all_tbl q1092))
  obtain ⟨c12, i12, h12⟩ := u_known (C := RX13) (T := TX13) (N := 3) (n := 3) hts (fun w h => lw_all_tbl (in_X13 w h)) (hts _ (lw_all_tbl q1158))
  obtain ⟨c13, i13, h13⟩ := u_known (C := RX15) (T := TX15) (N := 3) (n := 3) hts (fun w h => lw_all_tbl (in_X15 w h)) (hts _ (lw_all_tbl q1178))
  obtain ⟨c14, i14, h14⟩ := u_known (C := RX16) (T := TX16) (N := 3) (n := 3) hts (fun w h => lw_all_tbl (in_X16 w h)) (hts _ (lw_all_tbl q1222))
  obtain ⟨c15, i15, h15⟩ := u_known (C := RX17) (T := TX17) (N := 3) (n := 3) hts (fun w h => lw_all_tbl (in_X17 w h)) (hts _ (lw_all_tbl q1304))
  obtain ⟨c16, i16, h16⟩ := u_known (C := RJ1) (T := TJ1) (N := 4) (n := 4) hts (fun w h => lw_all_tbl (in_J1 w h)) (hts _ (lw_all_tbl q378))
  obtain ⟨c17, i17, h17⟩ := u_known (C := RJ2) (T := TJ2) (N := 4) (n := 4) hts (fun w h => lw_all_tbl (in_J2 w h)) (hts _ (lw_all_tbl q515))
  obtain ⟨c18, i18, h18⟩ := u_known (C := RJ12) (T := TJ12) (N := 6) (n := 6) hts (fun w h => lw_all_tbl (in_J12 w h)) (hts _ (lw_all_tbl q1398))
  obtain ⟨c19, i19, h19⟩ := u_known (C := RJ14) (T := TJ14) (N := 6) (n := 6) hts (fun w h => lw_all_tbl (in_J14 w h)) (hts _ (lw_all_tbl q935))
  obtain ⟨c20, i20, h20⟩ := u_known (C := RJ16) (T := TJ16) (N := 1) (n := 1) hts (fun w h => lw_all_tbl (in_J16 w h)) (hts _ (lw_all_tbl q965))
  obtain ⟨a0, k0, m0, e0, f0, g0⟩ := Cond.arrayClass_spec (args := #[Value.ref b]) (first := s) (o := none) (s := s) (idx := []) (type := .int) (hts _ (lw_all_tbl q159))
  obtain ⟨a1, k1, m1, e1, f1, g1⟩ := Cond.arrayClass_spec (args := #[Value.ref b]) (first := s) (o := none) (s := s) (idx := []) (type := .byte) (hts _ (lw_all_tbl q158))
  obtain ⟨a2, k2, m2, e2, f2, g2⟩ := Cond.arrayClass_spec (args := #[Value.ref b]) (first := s) (o := none) (s := s) (idx := []) (type := .boolean) (hts _ (lw_all_tbl q293))
  obtain ⟨a3, k3, m3, e3, f3, g3⟩ := Cond.arrayClass_spec (args := #[Value.ref b]) (first := s) (o := none) (s := s) (idx := []) (type := .long) (hts _ (lw_all_tbl q1972))
  obtain ⟨m4, a4, k4, x4, y4, f4, g4, e4⟩ := Cond.arrayOver_spec (args := #[Value.ref b]) (first := s) (o := none) (s := s) (idx := []) (n := "ModeDesk$Row") (hts _ q204)
  obtain ⟨m5, a5, k5, x5, y5, f5, g5, e5⟩ := Cond.arrayOver_spec (args := #[Value.ref b]) (first := s) (o := none) (s := s) (idx := []) (n := "ModeDesk$Places") (hts _ q161)
  obtain ⟨m6, a6, k6, x6, y6, f6, g6, e6⟩ := Cond.arrayOver_spec (args := #[Value.ref b]) (first := s) (o := none) (s := s) (idx := []) (n := "ModeDesk$Ahead") (hts _ q163)
  refine ⟨((fun k => [c0, c1, c2, c3, c4, c5, c6, c7, c8, c9, c10, c11, c12, c13, c14, c15, c16, c17, c18, c19, c20].getD k c0, fun k => [i0, i1, i2, i3, i4, i5, i6, i7, i8, i9, i10, i11, i12, i13, i14, i15, i16, i17, i18, i19, i20].getD k i0), fun k => [a0, a1, a2, a3, a4, a5, a6].getD k a0), fun c q hq => ?_, fun k q hk => ?_⟩
  · match c, hq with
    | 0, hq => cases hq; exact h0
    | 1, hq => cases hq; exact h1
    | 2, hq => cases hq; exact h2
    | 3, hq => cases hq; exact h3
    | 4, hq => cases hq; exact h4
    | 5, hq => cases hq; exact h5
    | 6, hq => cases hq; exact h6
    | 7, hq => cases hq; exact h7
    | 8, hq => cases hq; exact h8
    | 9, hq => cases hq; exact h9
    | 10, hq => cases hq; exact h10
    | 11, hq => cases hq; exact h11
    | 12, hq => cases hq; exact h12
    | 13, hq => cases hq; exact h13
    | 14, hq => cases hq; exact h14
    | 15, hq => cases hq; exact h15
    | 16, hq => cases hq; exact h16
    | 17, hq => cases hq; exact h17
    | 18, hq => cases hq; exact h18
    | 19, hq => cases hq; exact h19
    | 20, hq => cases hq; exact h20
    | c + 21, hq => simp [vwCl] at hq
  · match k, hk with
    | 0, hk => cases hk; exact ⟨fun n z => ⟨fun k h => (by cases h), k0, f0, m0, g0⟩, e0⟩
    | 1, hk => cases hk; exact ⟨fun n z => ⟨fun k h => (by cases h), k1, f1, m1, g1⟩, e1⟩
    | 2, hk => cases hk; exact ⟨fun n z => ⟨fun k h => (by cases h), k2, f2, m2, g2⟩, e2⟩
    | 3, hk => cases hk; exact ⟨fun n z => ⟨fun k h => (by cases h), k3, f3, m3, g3⟩, e3⟩
    | 4, hk => cases hk; exact ⟨fun n z => ⟨fun k h => (by cases h), k4, f4, m4, g4⟩, k4, m4, f4, g4, x4, e4⟩
    | 5, hk => cases hk; exact ⟨fun n z => ⟨fun k h => (by cases h), k5, f5, m5, g5⟩, k5, m5, f5, g5, x5, e5⟩
    | 6, hk => cases hk; exact ⟨fun n z => ⟨fun k h => (by cases h), k6, f6, m6, g6⟩, k6, m6, f6, g6, x6, e6⟩
    | k + 7, hk => simp [vTys] at hk
section LB0
variable {pg : Program} {l : Launch} {ev : Env} {R : Room} {s0 s : State} {m : MethodId} {ar : Array Value} {bl : List Frame} {me : Method} {c : Code} {H : Heap} {locs : List Loc} {ce sl : Nat} {Q : State → Prop} {G : zG} {cc : ByteArray} {nL : Nat} {own : String} {ret : Option FieldType} {ls : Array Slot} {st : List Value} {lv : List (Nat × Value)} {as0 : List Nat} {w : va_W}
/-- a call on a part of the world, which may grow -/
theorem fr_zH {w1 w2 wu : va_W} {H1 : Heap} {locs1 : List Loc} (hH : zH s0 s G as0 (w1 ++ w2) H locs) (hP1 : va_P G.1 vwCl wu H1) (hD1 : va_D (zB s0 H.size (w1.map Prod.fst)) wu) (hk : ∀ q : Nat, q < H.size → q ∉ w1.map Prod.fst → H1[q]? = H[q]?) (hS : va_S (zB s0 s.heap.size as0) s.heap H1 locs1) : zH s0 s G as0 (wu ++ w2) H1 locs1 := by
  obtain ⟨n0, d0⟩ := va_D_iff.mp hH.2.1
  obtain ⟨n1, d1⟩ := va_D_iff.mp hD1
  rw [List.map_append] at n0
  obtain ⟨-, n2, n3⟩ := List.nodup_append.mp n0
  have hin : ∀ q ∈ w2, q.1 < H.size ∧ q.1 ∉ w1.map Prod.fst := fun q hq => by
    obtain ⟨j, hj⟩ := List.getElem?_of_mem (List.mem_append_right w1 hq)
    exact ⟨(hH.1 j q hj).lt, fun h => n3 _ h _ (List.mem_map.mpr ⟨q, hq, rfl⟩) rfl⟩
  refine ⟨va_P.app hP1 (fun j q hq => ?_), va_D_iff.mpr ⟨?_, fun q hq => ?_⟩, hS⟩
  · have h2 : (w1 ++ w2)[w1.length + j]? = some q := by rw [List.getElem?_append_right (by omega), Nat.add_sub_cancel_left]; exact hq
    obtain ⟨a1, a2⟩ := hin q (List.mem_of_getElem? hq)
    exact (hH.1 _ q h2).kept (hk q.1 a1 a2)
  · rw [List.map_append]
    refine List.nodup_append.mpr ⟨n1, n2, fun a ha b hb e => ?_⟩
    obtain ⟨p, hp, rfl⟩ := List.mem_map.mp ha
    obtain ⟨q, hq, rfl⟩ := List.mem_map.mp hb
    obtain ⟨a1, a2⟩ := hin q hq
    rcases (d1 p hp).2 with h | h
    · exact a2 (e ▸ h)
    · rw [e] at h; omega
  · rcases List.mem_append.mp hq with h | h
    · exact ⟨(d1 q h).1, (d1 q h).2.elim (fun h9 => by
        obtain ⟨r, hr, er⟩ := List.mem_map.mp h9
        have := d0 r (List.mem_append_left _ hr)
        rw [er] at this
        exact this.2) (fun h9 => Or.inr (Nat.le_trans hH.2.2.1 h9))⟩
    · exact d0 q (List.mem_append_right _ h)
theorem z_fr {w1 w2 : va_W} {S : Type} {res : S → Option Value} {P : S → Prop} {w' : S → va_W} {mc ms pc : Nat} {a : Array Value} {rest : List Value} (hr : va_Run pg l ev R s m ar bl me c H locs ce sl mc ms (F0 m pc ls st) rest (zQc s0 G w1 res P w' a) (zB s0 H.size (w1.map Prod.fst))) (hH : zH s0 s G as0 (w1 ++ w2) H locs)
    (kk : ∀ (u : S) (H1 : Heap) (locs1 : List Loc), P u → zH s0 s G as0 (w' u ++ w2) H1 locs1 → W pg l ev R s m ar bl me c H1 locs1 (ce + mc) (sl + ms) Q (F0 m (pc + 3) ls ((res u).toList ++ rest))) : W pg l ev R s m ar bl me c H locs ce sl Q (F0 m pc ls st) :=
  z_back hr hH (fun b hb => by rw [List.map_append]; exact List.mem_append_left _ hb) (fun u H1 locs1 hp hP1 hD1 hz hkp hS => kk u H1 locs1 hp (fr_zH hH hP1 hD1 hkp hS))
/-- a call of the kit's sort that may throw: the world is as it was -/
theorem zy_back {wc : va_W} {S : Type} {res : S → Option Value} {P : S → Prop} {w' : S → va_W} {mc ms pc : Nat} {a : Array Value} {rest : List Value} {X : String → Prop} (hr : vx_Run pg l ev R s m ar bl me c H locs ce sl mc ms (F0 m pc ls st) rest (zQc s0 G w res P w' a) (zyX X) (zB s0 H.size (w.map Prod.fst))) (hH : zH s0 s G as0 w H locs)
    (kx : ∀ (q : Nat) (E : String) (cell : Cell) (H1 : Heap) (locs1 : List Loc), X E → H1[q]? = some cell → cell.vm = .none → s.vm.findClass E = some cell.cls → zH s0 s G as0 w H1 locs1 → vx_W pg l ev R s m ar bl me c H1 locs1 (ce + mc) (sl + ms) Q (F0 m pc ls rest) q)
    (kk : ∀ (u : S) (H1 : Heap) (locs1 : List Loc), P u → zH s0 s G as0 (w' u) H1 locs1 → W pg l ev R s m ar bl me c H1 locs1 (ce + mc) (sl + ms) Q (F0 m (pc + 3) ls ((res u).toList ++ rest))) : W pg l ev R s m ar bl me c H locs ce sl Q (F0 m pc ls st) := by
  intro T hT X9
  have hin : ∀ q, q ∈ w.map Prod.fst → zB s0 s.heap.size as0 q := fun q h => zD_in hH.2.1 h
  have hfree : ∀ q, zB s0 H.size (w.map Prod.fst) q → zB s0 s.heap.size as0 q := fun q h => h.2.elim (hin q) (fun z => ⟨h.1, Or.inr (Nat.le_trans hH.2.2.1 z)⟩)
  rcases hr T hT X9 with ⟨v, st₀, t, T', L, h0, X', hL, e1, e2, ⟨u, hv, hp, hb, hd, hz, hk⟩, sg⟩ | ⟨q, st₀, t, T', L, E, cell, h0, X', hL, e1, e2, ⟨hp, hz, hk⟩, hce, hcv, hcl, sg⟩
  · cases hv
    rw [h0] at hz hk hd
    obtain ⟨t2, a1, b1⟩ := kk u T'.heap (locs ++ L) hp ⟨by rw [e1]; exact hb, hd.weaken (fun _ _ _ h => hfree _ h),
      ⟨Nat.le_trans hH.2.2.1 (by rw [e1]; exact hz), fun q h1 h2 => by rw [e1, hk q (Nat.lt_of_lt_of_le h1 hH.2.2.1) (fun z => h2 (hin q z))]; exact hH.2.2.2.1 q h1 h2, fun q hq => by
        rcases List.mem_append.mp hq with h | h
        · exact hH.2.2.2.2 q h
        · exact hfree _ (hL q h)⟩⟩ T' rfl X'
    exact ⟨t2, sg t2 a1, b1⟩
  · rw [h0] at hz hk
    obtain ⟨t2, a1, b1⟩ := kx q E cell T'.heap (locs ++ L) hp (by rw [e1]; exact hce) hcv hcl ⟨fun j q9 hj => (hH.1 j q9 hj).kept (by rw [e1]; exact hk q9.1 (hH.1 j q9 hj).lt), hH.2.1,
      ⟨Nat.le_trans hH.2.2.1 (by rw [e1]; exact hz), fun q h1 h2 => by rw [e1, hk q (Nat.lt_of_lt_of_le h1 hH.2.2.1)]; exact hH.2.2.2.1 q h1 h2, fun q hq => by
        rcases List.mem_append.mp hq with h | h
        · exact hH.2.2.2.2 q h
        · exact hfree _ (hL q h)⟩⟩ T' rfl X'
    exact ⟨t2, sg.trans a1, b1⟩
end LB0
