/-! constructors -/
set_option maxRecDepth 100000
section ZNEWQ
variable {pg : Program} {l : Launch} {ev : Env} {R : Room} {s0 s : State} {m : MethodId} {ar : Array Value} {bl : List Frame} {me : Method} {c : Code} {H : Heap} {locs : List Loc} {ce sl : Nat} {Q : State → Prop} {G : zG} {cc : ByteArray} {nL : Nat} {own : String} {ret : Option FieldType} {ls : Array Slot} {st : List Value} {as0 : List Nat} {w : va_W}
theorem z_arrclsQ (C : zC pg s0 s m ar me c G cc nL own ret) {t0 : Nat} {cA cB : ClassId} {CN : String} (h : (vTys G.2)[t0]? = some (cA, .object CN)) (h2 : va_K G.1 vwCl (vTys G.2 ++ [(cB, .object CN)]) s) : cB = cA := by
  have h3 := (C.2.2.2.2.2.2 t0 _ h).2
  have h4 := (h2.2 (vTys G.2).length (cB, .object CN) (by rw [List.getElem?_append_right (Nat.le_refl _), Nat.sub_self]; rfl)).2
  obtain ⟨_, _, _, _, _, a⟩ := h3
  obtain ⟨_, _, _, _, _, b⟩ := h4
  exact Option.some.inj (b.symm.trans a)
theorem z_newq (C : zC pg s0 s m ar me c G cc nL own ret) (hH : zH s0 s G as0 w H locs) (pc N : Nat) {idx : Nat} {e : Int} {CN : String} {cA : ClassId} (he : e = N) (hN : N < 65536) (hcl : Cond.classLink own idx CN ∈ lw_all) (hover : Cond.arrayOver (.object CN) ∈ lw_tbl) (t0 : Nat) (ht : (vTys G.2)[t0]? = some (cA, .object CN)) (hf : ce + 1 ≤ R.cells ∧ sl + N ≤ R.slots) (hdg : decode cc pc = .ok (.anewarray idx, 3))
    (kk : ∀ (q : Nat) (H1 : Heap), zH s0 s G as0 (w ++ [(q, .inl (cA, N, .inr (.inr (.inr (.inr (fun _ => none))))))]) H1 locs → W pg l ev R s m ar bl me c H1 locs (ce + 1) (sl + N) Q (F0 m (pc + 3) ls (.ref q :: st))) : W pg l ev R s m ar bl me c H locs ce sl Q (F0 m pc ls (.int (iZ e) :: st)) := by
  subst he
  have hao : va_AO CN s := by
    obtain ⟨⟨b, hb, -⟩, -⟩ := C.2.2.2.1
    exact va_AO.moved C.2.2.2.2.1.1.alike (va_AO.of (hb _ hover))
  refine va_newq C.1.1 C.1.2.1 C.1.2.2.2.1 (C.1.2.2.2.2 _ hcl) hao C.2.2.2.2.2 hH.1 hH.2.1 hH.2.2 (zB_new C) (N' := N) (fun h => ?_) (iZ_clamp N (by omega)) (by omega) hf.1 hf.2 hdg (fun q cB H1 k p d z => ?_)
  · exact nI_pos (n := N) (by omega) (by rw [← iZ_nI]; exact h)
  · have := z_arrclsQ C ht k
    subst this
    exact kk q H1 ⟨p, d, z⟩
theorem z_astq (C : zC pg s0 s m ar me c G cc nL own ret) (hH : zH s0 s G as0 w H locs) (pc q0 t0 qk ci n : Nat) {cA : ClassId} {r : vw_C} {a N v : Nat} {vs : List Value} {f : Nat → Option Nat} {e : Int} (ha : w[q0]? = some (a, .inl (cA, N, .inr (.inr (.inr (.inr f)))))) (ht : (vTys G.2)[t0]? = some (cA, .object r.1)) (hv : w[qk]? = some (v, .inr (ci, vs))) (hc : vwCl[ci]? = some r) (hn : n < N) (hN : N < 2147483648) (hi : e = n) (hdg : decode cc pc = .ok (.aastore, 1)) (kk : ∀ (H1 : Heap) (locs1 : List Loc), zH s0 s G as0 (w.set q0 (a, .inl (cA, N, .inr (.inr (.inr (.inr (va_up f n (some v)))))))) H1 locs1 → W pg l ev R s m ar bl me c H1 locs1 ce sl Q (F0 m (pc + 1) ls st)) : W pg l ev R s m ar bl me c H locs ce sl Q (F0 m pc ls (.ref v :: .int (iZ e) :: .ref a :: st)) := by
  subst hi
  refine va_astq (r := r) C.1.1 C.1.2.1 C.2.2.2.2.2 hH.1 hH.2.1 hH.2.2 q0 t0 qk ci ha ht hv hc (iZ_in hn hN) hdg ?_
  rw [iZ_clamp n (by omega)]
  exact fun H1 l1 p d z => kk H1 l1 ⟨p, d, z⟩
theorem z_astqO (C : zC pg s0 s m ar me c G cc nL own ret) (hH : zH s0 s G as0 w H locs) (pc q0 t0 qk ci n : Nat) {cA : ClassId} {E : String} {r : vw_C} {a N v : Nat} {vs : List Value} {f : Nat → Option Nat} {e : Int} (ha : w[q0]? = some (a, .inl (cA, N, .inr (.inr (.inr (.inr f)))))) (ht : (vTys G.2)[t0]? = some (cA, .object E)) (hca : Cond.castable r.1 E ∈ lw_tbl) (hv : w[qk]? = some (v, .inr (ci, vs))) (hc : vwCl[ci]? = some r) (hn : n < N) (hN : N < 2147483648) (hi : e = n) (hdg : decode cc pc = .ok (.aastore, 1)) (kk : ∀ (H1 : Heap) (locs1 : List Loc), zH s0 s G as0 (w.set q0 (a, .inl (cA, N, .inr (.inr (.inr (.inr (va_up f n (some v)))))))) H1 locs1 → W pg l ev R s m ar bl me c H1 locs1 ce sl Q (F0 m (pc + 1) ls st)) : W pg l ev R s m ar bl me c H locs ce sl Q (F0 m pc ls (.ref v :: .int (iZ e) :: .ref a :: st)) := by
  subst hi
  have hnw : va_Nw (.castable r.1 E) s := by
    obtain ⟨⟨b, hb, -⟩, -⟩ := C.2.2.2.1
    exact va_Nw.warmC C.2.2.2.2.1.1 (va_Nw.of rfl (hb _ hca))
  refine va_astqO (r := r) C.1.1 C.1.2.1 C.2.2.2.2.2 hH.1 hH.2.1 hH.2.2 q0 t0 qk ci ha ht hnw hv hc (iZ_in hn hN) hdg ?_
  rw [iZ_clamp n (by omega)]
  exact fun H1 l1 p d z => kk H1 l1 ⟨p, d, z⟩
end ZNEWQ
set_option maxHeartbeats 8000000 in
set_option maxRecDepth 100000 in
theorem m_X10_init (lau : Launch) (s0 : State) (G : zG) (sz : Nat) (x0 : Nat)  : zMet (S := Nat) lau yX10_init cX10_init 1 (none) 1 12 1 120 s0 G sz [.ref x0] ([(x0, .inr (9, [.null, .int (0)]))]) (fun (x7 : Nat) => (none : Option Value)) (fun (x7 : Nat) => True) (fun (x7 : Nat) => [(x0, .inr (9, [.ref x7, .int (0)]))] ++ [(x7, .inl (G.2 0, 120, .inl (zA (fun _ => 0))))]) := by
  refine zMet.ofI (by decide) (Nat.le_of_ble_eq_true rfl) ?_
  intro pg ev s1 mi ar bl me cd ls Q as0 hC hin hH hl hQ hsz
  have hin : me.name = "<init>" := hin
  generalize s1.heap = H at hH ⊢
  generalize ([] : List Loc) = locs at hH ⊢
  have hl : lv_has ls 1 [(0, .ref x0)] := hl
  refine z_aload_n hC 0 hl dX10_init_0 rfl 0 rfl ?_
  refine z_objI hC hl.1 1 q703 ⟨Nat.le_of_ble_eq_true rfl, Nat.le_of_ble_eq_true rfl⟩ dX10_init_1 ?_
  refine z_aload_n hC 4 hl dX10_init_4 rfl 0 rfl ?_
  refine z_bipush hC 5 dX10_init_5 rfl ?_
  refine z_newi hC hH 7 120 rfl (by decide) ⟨Nat.le_of_ble_eq_true rfl, Nat.le_of_ble_eq_true rfl⟩ dX10_init_7 (fun x7 H hH => ?_)
  have hH : zH s0 s1 G as0 ([(x0, .inr (9, [.null, .int (0)])), (x7, .inl (G.2 0, 120, .inl (zA (fun _ => 0))))]) H locs := hH
  refine z_putF hC hin hH 9 tyX10 in_X10 tyX10_ok nmX10 rfl 0 (by decide) q704 0 rfl rfl rfl rfl rfl (Nat.le_of_ble_eq_true rfl) rfl dX10_init_9 (fun H locs hH => ?_)
  have hH : zH s0 s1 G as0 ([(x0, .inr (9, [.ref x7, .int (0)])), (x7, .inl (G.2 0, 120, .inl (zA (fun _ => 0))))]) H locs := hH
  exact z_vret hC hH hQ 12 (x7) dX10_init_12 rfl trivial rfl (Nat.le_of_ble_eq_true rfl) (Nat.le_of_ble_eq_true rfl)
set_option maxHeartbeats 8000000 in
set_option maxRecDepth 100000 in
theorem m_X2_init (lau : Launch) (s0 : State) (G : zG) (sz : Nat) (x0 : Nat)  : zMet (S := Nat × Nat) lau yX2_init cX2_init 1 (none) 1 12 2 240 s0 G sz [.ref x0] ([(x0, .inr (2, [.null, .null, .int (0)]))]) (fun ((x7, x15) : Nat × Nat) => (none : Option Value)) (fun ((x7, x15) : Nat × Nat) => True) (fun ((x7, x15) : Nat × Nat) => [(x0, .inr (2, [.ref x7, .ref x15, .int (0)]))] ++ [(x7, .inl (G.2 0, 120, .inl (zA (fun _ => 0)))), (x15, .inl (G.2 0, 120, .inl (zA (fun _ => 0))))]) := by
  refine zMet.ofI (by decide) (Nat.le_of_ble_eq_true rfl) ?_
  intro pg ev s1 mi ar bl me cd ls Q as0 hC hin hH hl hQ hsz
  have hin : me.name = "<init>" := hin
  generalize s1.heap = H at hH ⊢
  generalize ([] : List Loc) = locs at hH ⊢
  have hl : lv_has ls 1 [(0, .ref x0)] := hl
  refine z_aload_n hC 0 hl dX2_init_0 rfl 0 rfl ?_
  refine z_objI hC hl.1 1 q138 ⟨Nat.le_of_ble_eq_true rfl, Nat.le_of_ble_eq_true rfl⟩ dX2_init_1 ?_
  refine z_aload_n hC 4 hl dX2_init_4 rfl 0 rfl ?_
  refine z_bipush hC 5 dX2_init_5 rfl ?_
  refine z_newi hC hH 7 120 rfl (by decide) ⟨Nat.le_of_ble_eq_true rfl, Nat.le_of_ble_eq_true rfl⟩ dX2_init_7 (fun x7 H hH => ?_)
  have hH : zH s0 s1 G as0 ([(x0, .inr (2, [.null, .null, .int (0)])), (x7, .inl (G.2 0, 120, .inl (zA (fun _ => 0))))]) H locs := hH
  refine z_putF hC hin hH 9 tyX2 in_X2 tyX2_ok nmX2 rfl 0 (by decide) q139 0 rfl rfl rfl rfl rfl (Nat.le_of_ble_eq_true rfl) rfl dX2_init_9 (fun H locs hH => ?_)
  have hH : zH s0 s1 G as0 ([(x0, .inr (2, [.ref x7, .null, .int (0)])), (x7, .inl (G.2 0, 120, .inl (zA (fun _ => 0))))]) H locs := hH
  refine z_aload_n hC 12 hl dX2_init_12 rfl 0 rfl ?_
  refine z_bipush hC 13 dX2_init_13 rfl ?_
  refine z_newi hC hH 15 120 rfl (by decide) ⟨Nat.le_of_ble_eq_true rfl, Nat.le_of_ble_eq_true rfl⟩ dX2_init_15 (fun x15 H hH => ?_)
  have hH : zH s0 s1 G as0 ([(x0, .inr (2, [.ref x7, .null, .int (0)])), (x7, .inl (G.2 0, 120, .inl (zA (fun _ => 0)))), (x15, .inl (G.2 0, 120, .inl (zA (fun _ => 0))))]) H locs := hH
  refine z_putF hC hin hH 17 tyX2 in_X2 tyX2_ok nmX2 rfl 1 (by decide) q142 0 rfl rfl rfl rfl rfl (Nat.le_of_ble_eq_true rfl) rfl dX2_init_17 (fun H locs hH => ?_)
  have hH : zH s0 s1 G as0 ([(x0, .inr (2, [.ref x7, .ref x15, .int (0)])), (x7, .inl (G.2 0, 120, .inl (zA (fun _ => 0)))), (x15, .inl (G.2 0, 120, .inl (zA (fun _ => 0))))]) H locs := hH
  exact z_vret hC hH hQ 20 ((x7, x15)) dX2_init_20 rfl trivial rfl (Nat.le_of_ble_eq_true rfl) (Nat.le_of_ble_eq_true rfl)
set_option maxHeartbeats 8000000 in
set_option maxRecDepth 100000 in
theorem m_X3_init (lau : Launch) (s0 : State) (G : zG) (sz : Nat) (x0 : Nat) (p : Nat) : zMet (S := Unit) lau yX3_init cX3_init 2 (none) 1 12 0 0 s0 G sz [.ref x0, .ref p] ([(x0, .inr (3, [.null]))]) (fun (_ : Unit) => (none : Option Value)) (fun (_ : Unit) => True) (fun (_ : Unit) => [(x0, .inr (3, [.ref p]))] ++ []) := by
  refine zMet.ofI (by decide) (Nat.le_of_ble_eq_true rfl) ?_
  intro pg ev s1 mi ar bl me cd ls Q as0 hC hin hH hl hQ hsz
  have hin : me.name = "<init>" := hin
  generalize s1.heap = H at hH ⊢
  generalize ([] : List Loc) = locs at hH ⊢
  have hl : lv_has ls 2 [(0, .ref x0), (1, .ref p)] := hl
  refine z_aload_n hC 0 hl dX3_init_0 rfl 0 rfl ?_
  refine z_aload_n hC 1 hl dX3_init_1 rfl 1 rfl ?_
  refine z_putF hC hin hH 2 tyX3 in_X3 tyX3_ok nmX3 rfl 0 (by decide) q170 0 rfl rfl rfl rfl rfl (Nat.le_of_ble_eq_true rfl) rfl dX3_init_2 (fun H locs hH => ?_)
  have hH : zH s0 s1 G as0 ([(x0, .inr (3, [.ref p]))]) H locs := hH
  refine z_aload_n hC 5 hl dX3_init_5 rfl 0 rfl ?_
  refine z_objI hC hl.1 6 q169 ⟨Nat.le_of_ble_eq_true rfl, Nat.le_of_ble_eq_true rfl⟩ dX3_init_6 ?_
  exact z_vret hC hH hQ 9 (()) dX3_init_9 rfl trivial rfl (Nat.le_of_ble_eq_true rfl) (Nat.le_of_ble_eq_true rfl)
set_option maxHeartbeats 8000000 in
set_option maxRecDepth 100000 in
theorem m_X4_init (lau : Launch) (s0 : State) (G : zG) (sz : Nat) (x0 : Nat) (p : Nat) : zMet (S := Unit) lau yX4_init cX4_init 2 (none) 1 12 0 0 s0 G sz [.ref x0, .ref p] ([(x0, .inr (4, [.null]))]) (fun (_ : Unit) => (none : Option Value)) (fun (_ : Unit) => True) (fun (_ : Unit) => [(x0, .inr (4, [.ref p]))] ++ []) := by
  refine zMet.ofI (by decide) (Nat.le_of_ble_eq_true rfl) ?_
  intro pg ev s1 mi ar bl me cd ls Q as0 hC hin hH hl hQ hsz
  have hin : me.name = "<init>" := hin
  generalize s1.heap = H at hH ⊢
  generalize ([] : List Loc) = locs at hH ⊢
  have hl : lv_has ls 2 [(0, .ref x0), (1, .ref p)] := hl
  refine z_aload_n hC 0 hl dX4_init_0 rfl 0 rfl ?_
  refine z_aload_n hC 1 hl dX4_init_1 rfl 1 rfl ?_
  refine z_putF hC hin hH 2 tyX4 in_X4 tyX4_ok nmX4 rfl 0 (by decide) q180 0 rfl rfl rfl rfl rfl (Nat.le_of_ble_eq_true rfl) rfl dX4_init_2 (fun H locs hH => ?_)
  have hH : zH s0 s1 G as0 ([(x0, .inr (4, [.ref p]))]) H locs := hH
  refine z_aload_n hC 5 hl dX4_init_5 rfl 0 rfl ?_
  refine z_objI hC hl.1 6 q179 ⟨Nat.le_of_ble_eq_true rfl, Nat.le_of_ble_eq_true rfl⟩ dX4_init_6 ?_
  exact z_vret hC hH hQ 9 (()) dX4_init_9 rfl trivial rfl (Nat.le_of_ble_eq_true rfl) (Nat.le_of_ble_eq_true rfl)
set_option maxHeartbeats 8000000 in
set_option maxRecDepth 100000 in
theorem m_X5_init (lau : Launch) (s0 : State) (G : zG) (sz : Nat) (x0 : Nat) (p : Nat) : zMet (S := Unit) lau yX5_init cX5_init 2 (none) 1 12 0 0 s0 G sz [.ref x0, .ref p] ([(x0, .inr (5, [.null]))]) (fun (_ : Unit) => (none : Option Value)) (fun (_ : Unit) => True) (fun (_ : Unit) => [(x0, .inr (5, [.ref p]))] ++ []) := by
  refine zMet.ofI (by decide) (Nat.le_of_ble_eq_true rfl) ?_
  intro pg ev s1 mi ar bl me cd ls Q as0 hC hin hH hl hQ hsz
  have hin : me.name = "<init>" := hin
  generalize s1.heap = H at hH ⊢
  generalize ([] : List Loc) = locs at hH ⊢
  have hl : lv_has ls 2 [(0, .ref x0), (1, .ref p)] := hl
  refine z_aload_n hC 0 hl dX5_init_0 rfl 0 rfl ?_
  refine z_aload_n hC 1 hl dX5_init_1 rfl 1 rfl ?_
  refine z_putF hC hin hH 2 tyX5 in_X5 tyX5_ok nmX5 rfl 0 (by decide) q190 0 rfl rfl rfl rfl rfl (Nat.le_of_ble_eq_true rfl) rfl dX5_init_2 (fun H locs hH => ?_)
  have hH : zH s0 s1 G as0 ([(x0, .inr (5, [.ref p]))]) H locs := hH
  refine z_aload_n hC 5 hl dX5_init_5 rfl 0 rfl ?_
  refine z_objI hC hl.1 6 q189 ⟨Nat.le_of_ble_eq_true rfl, Nat.le_of_ble_eq_true rfl⟩ dX5_init_6 ?_
  exact z_vret hC hH hQ 9 (()) dX5_init_9 rfl trivial rfl (Nat.le_of_ble_eq_true rfl) (Nat.le_of_ble_eq_true rfl)
set_option maxHeartbeats 8000000 in
set_option maxRecDepth 100000 in
theorem m_X6_init (lau : Launch) (s0 : State) (G : zG) (sz : Nat) (x0 : Nat) (p : Nat) : zMet (S := Unit) lau yX6_init cX6_init 2 (none) 1 12 0 0 s0 G sz [.ref x0, .ref p] ([(x0, .inr (6, [.null]))]) (fun (_ : Unit) => (none : Option Value)) (fun (_ : Unit) => True) (fun (_ : Unit) => [(x0, .inr (6, [.ref p]))] ++ []) := by
  refine zMet.ofI (by decide) (Nat.le_of_ble_eq_true rfl) ?_
  intro pg ev s1 mi ar bl me cd ls Q as0 hC hin hH hl hQ hsz
  have hin : me.name = "<init>" := hin
  generalize s1.heap = H at hH ⊢
  generalize ([] : List Loc) = locs at hH ⊢
  have hl : lv_has ls 2 [(0, .ref x0), (1, .ref p)] := hl
  refine z_aload_n hC 0 hl dX6_init_0 rfl 0 rfl ?_
  refine z_aload_n hC 1 hl dX6_init_1 rfl 1 rfl ?_
  refine z_putF hC hin hH 2 tyX6 in_X6 tyX6_ok nmX6 rfl 0 (by decide) q200 0 rfl rfl rfl rfl rfl (Nat.le_of_ble_eq_true rfl) rfl dX6_init_2 (fun H locs hH => ?_)
  have hH : zH s0 s1 G as0 ([(x0, .inr (6, [.ref p]))]) H locs := hH
  refine z_aload_n hC 5 hl dX6_init_5 rfl 0 rfl ?_
  refine z_objI hC hl.1 6 q199 ⟨Nat.le_of_ble_eq_true rfl, Nat.le_of_ble_eq_true rfl⟩ dX6_init_6 ?_
  exact z_vret hC hH hQ 9 (()) dX6_init_9 rfl trivial rfl (Nat.le_of_ble_eq_true rfl) (Nat.le_of_ble_eq_true rfl)
set_option maxHeartbeats 8000000 in
set_option maxRecDepth 100000 in
theorem m_X11_init (lau : Launch) (s0 : State) (G : zG) (sz : Nat) (x0 : Nat) (p : Nat) : zMet (S := Unit) lau yX11_init cX11_init 2 (none) 1 12 0 0 s0 G sz [.ref x0, .ref p] ([(x0, .inr (10, [.int (0), .null]))]) (fun (_ : Unit) => (none : Option Value)) (fun (_ : Unit) => True) (fun (_ : Unit) => [(x0, .inr (10, [.int (0), .ref p]))] ++ []) := by
  refine zMet.ofI (by decide) (Nat.le_of_ble_eq_true rfl) ?_
  intro pg ev s1 mi ar bl me cd ls Q as0 hC hin hH hl hQ hsz
  have hin : me.name = "<init>" := hin
  generalize s1.heap = H at hH ⊢
  generalize ([] : List Loc) = locs at hH ⊢
  have hl : lv_has ls 2 [(0, .ref x0), (1, .ref p)] := hl
  refine z_aload_n hC 0 hl dX11_init_0 rfl 0 rfl ?_
  refine z_aload_n hC 1 hl dX11_init_1 rfl 1 rfl ?_
  refine z_putF hC hin hH 2 tyX11 in_X11 tyX11_ok nmX11 rfl 1 (by decide) q899 0 rfl rfl rfl rfl rfl (Nat.le_of_ble_eq_true rfl) rfl dX11_init_2 (fun H locs hH => ?_)
  have hH : zH s0 s1 G as0 ([(x0, .inr (10, [.int (0), .ref p]))]) H locs := hH
  refine z_aload_n hC 5 hl dX11_init_5 rfl 0 rfl ?_
  refine z_objI hC hl.1 6 q897 ⟨Nat.le_of_ble_eq_true rfl, Nat.le_of_ble_eq_true rfl⟩ dX11_init_6 ?_
  exact z_vret hC hH hQ 9 (()) dX11_init_9 rfl trivial rfl (Nat.le_of_ble_eq_true rfl) (Nat.le_of_ble_eq_true rfl)
set_option maxHeartbeats 8000000 in
set_option maxRecDepth 100000 in
theorem m_X13_init (lau : Launch) (s0 : State) (G : zG) (sz : Nat) (x0 : Nat) (p : Nat) (z : Int) : zMet (S := Unit) lau yX13_init cX13_init 3 (none) 1 12 0 0 s0 G sz [.ref x0, .ref p, .int (iZ z)] ([(x0, .inr (12, [.int (0), .int (0), .null]))]) (fun (_ : Unit) => (none : Option Value)) (fun (_ : Unit) => True) (fun (_ : Unit) => [(x0, .inr (12, [.int (iZ z), .int (0), .ref p]))] ++ []) := by
  refine zMet.ofI (by decide) (Nat.le_of_ble_eq_true rfl) ?_
  intro pg ev s1 mi ar bl me cd ls Q as0 hC hin hH hl hQ hsz
  have hin : me.name = "<init>" := hin
  generalize s1.heap = H at hH ⊢
  generalize ([] : List Loc) = locs at hH ⊢
  have hl : lv_has ls 3 [(0, .ref x0), (1, .ref p), (2, .int (iZ z))] := hl
  refine z_aload_n hC 0 hl dX13_init_0 rfl 0 rfl ?_
  refine z_aload_n hC 1 hl dX13_init_1 rfl 1 rfl ?_
  refine z_putF hC hin hH 2 tyX13 in_X13 tyX13_ok nmX13 rfl 2 (by decide) q1165 0 rfl rfl rfl rfl rfl (Nat.le_of_ble_eq_true rfl) rfl dX13_init_2 (fun H locs hH => ?_)
  have hH : zH s0 s1 G as0 ([(x0, .inr (12, [.int (0), .int (0), .ref p]))]) H locs := hH
  refine z_aload_n hC 5 hl dX13_init_5 rfl 0 rfl ?_
  refine z_objI hC hl.1 6 q1162 ⟨Nat.le_of_ble_eq_true rfl, Nat.le_of_ble_eq_true rfl⟩ dX13_init_6 ?_
  refine z_aload_n hC 9 hl dX13_init_9 rfl 0 rfl ?_
  refine z_iload_n hC 10 hl dX13_init_10 rfl 2 rfl ?_
  refine z_putF hC hin hH 11 tyX13 in_X13 tyX13_ok nmX13 rfl 0 (by decide) q1163 0 rfl rfl rfl rfl rfl (Nat.le_of_ble_eq_true rfl) rfl dX13_init_11 (fun H locs hH => ?_)
  have hH : zH s0 s1 G as0 ([(x0, .inr (12, [.int (iZ z), .int (0), .ref p]))]) H locs := hH
  exact z_vret hC hH hQ 14 (()) dX13_init_14 rfl trivial rfl (Nat.le_of_ble_eq_true rfl) (Nat.le_of_ble_eq_true rfl)
set_option maxHeartbeats 8000000 in
set_option maxRecDepth 100000 in
theorem m_X12_init (lau : Launch) (s0 : State) (G : zG) (sz : Nat) (x0 : Nat) (p : Nat) (z y : Int) : zMet (S := Unit) lau yX12_init cX12_init 4 (none) 1 12 0 0 s0 G sz [.ref x0, .ref p, .int (iZ z), .int (iZ y)] ([(x0, .inr (11, [.int (0), .int (0), .null]))]) (fun (_ : Unit) => (none : Option Value)) (fun (_ : Unit) => True) (fun (_ : Unit) => [(x0, .inr (11, [.int (iZ z), .int (iZ y), .ref p]))] ++ []) := by
  refine zMet.ofI (by decide) (Nat.le_of_ble_eq_true rfl) ?_
  intro pg ev s1 mi ar bl me cd ls Q as0 hC hin hH hl hQ hsz
  have hin : me.name = "<init>" := hin
  generalize s1.heap = H at hH ⊢
  generalize ([] : List Loc) = locs at hH ⊢
  have hl : lv_has ls 4 [(0, .ref x0), (1, .ref p), (2, .int (iZ z)), (3, .int (iZ y))] := hl
  refine z_aload_n hC 0 hl dX12_init_0 rfl 0 rfl ?_
  refine z_aload_n hC 1 hl dX12_init_1 rfl 1 rfl ?_
  refine z_putF hC hin hH 2 tyX12 in_X12 tyX12_ok nmX12 rfl 2 (by decide) q1099 0 rfl rfl rfl rfl rfl (Nat.le_of_ble_eq_true rfl) rfl dX12_init_2 (fun H locs hH => ?_)
  have hH : zH s0 s1 G as0 ([(x0, .inr (11, [.int (0), .int (0), .ref p]))]) H locs := hH
  refine z_aload_n hC 5 hl dX12_init_5 rfl 0 rfl ?_
  refine z_iload_n hC 6 hl dX12_init_6 rfl 2 rfl ?_
  refine z_putF hC hin hH 7 tyX12 in_X12 tyX12_ok nmX12 rfl 0 (by decide) q1097 0 rfl rfl rfl rfl rfl (Nat.le_of_ble_eq_true rfl) rfl dX12_init_7 (fun H locs hH => ?_)
  have hH : zH s0 s1 G as0 ([(x0, .inr (11, [.int (iZ z), .int (0), .ref p]))]) H locs := hH
  refine z_aload_n hC 10 hl dX12_init_10 rfl 0 rfl ?_
  refine z_iload_n hC 11 hl dX12_init_11 rfl 3 rfl ?_
  refine z_putF hC hin hH 12 tyX12 in_X12 tyX12_ok nmX12 rfl 1 (by decide) q1098 0 rfl rfl rfl rfl rfl (Nat.le_of_ble_eq_true rfl) rfl dX12_init_12 (fun H locs hH => ?_)
  have hH : zH s0 s1 G as0 ([(x0, .inr (11, [.int (iZ z), .int (iZ y), .ref p]))]) H locs := hH
  refine z_aload_n hC 15 hl dX12_init_15 rfl 0 rfl ?_
  refine z_objI hC hl.1 16 q1096 ⟨Nat.le_of_ble_eq_true rfl, Nat.le_of_ble_eq_true rfl⟩ dX12_init_16 ?_
  exact z_vret hC hH hQ 19 (()) dX12_init_19 rfl trivial rfl (Nat.le_of_ble_eq_true rfl) (Nat.le_of_ble_eq_true rfl)
set_option maxHeartbeats 8000000 in
set_option maxRecDepth 100000 in
theorem m_X14_init_X15 (lau : Launch) (s0 : State) (G : zG) (sz : Nat) (x0 : Nat) (p : Nat) (z : Int) : zMet (S := Unit) lau yX14_init cX14_init 2 (none) 1 12 0 0 s0 G sz [.ref x0, .ref p] ([(x0, .inr (13, [.null, .int (iZ z), .ref p]))]) (fun (_ : Unit) => (none : Option Value)) (fun (_ : Unit) => True) (fun (_ : Unit) => [(x0, .inr (13, [.ref p, .int (iZ z), .ref p]))] ++ []) := by
  refine zMet.ofI (by decide) (Nat.le_of_ble_eq_true rfl) ?_
  intro pg ev s1 mi ar bl me cd ls Q as0 hC hin hH hl hQ hsz
  have hin : me.name = "<init>" := hin
  generalize s1.heap = H at hH ⊢
  generalize ([] : List Loc) = locs at hH ⊢
  have hl : lv_has ls 2 [(0, .ref x0), (1, .ref p)] := hl
  refine z_aload_n hC 0 hl dX14_init_0 rfl 0 rfl ?_
  refine z_aload_n hC 1 hl dX14_init_1 rfl 1 rfl ?_
  refine z_putF2 hC hin hH 2 tyX15 in_X15 tyX15_ok (by decide +kernel) (by decide +kernel) rfl 0 (by decide) q1188 0 rfl rfl rfl rfl (Nat.le_of_ble_eq_true rfl) rfl dX14_init_2 (fun H locs hH => ?_)
  have hH : zH s0 s1 G as0 ([(x0, .inr (13, [.ref p, .int (iZ z), .ref p]))]) H locs := hH
  refine z_aload_n hC 5 hl dX14_init_5 rfl 0 rfl ?_
  refine z_objI hC hl.1 6 q1185 ⟨Nat.le_of_ble_eq_true rfl, Nat.le_of_ble_eq_true rfl⟩ dX14_init_6 ?_
  exact z_vret hC hH hQ 9 (()) dX14_init_9 rfl trivial rfl (Nat.le_of_ble_eq_true rfl) (Nat.le_of_ble_eq_true rfl)
set_option maxHeartbeats 8000000 in
set_option maxRecDepth 100000 in
theorem m_X15_init (lau : Launch) (s0 : State) (G : zG) (sz : Nat) (x0 : Nat) (p : Nat) (z : Int) : zMet (S := Unit) lau yX15_init cX15_init 3 (none) 2 33 0 0 s0 G sz [.ref x0, .ref p, .int (iZ z)] ([(x0, .inr (13, [.null, .int (0), .null]))]) (fun (_ : Unit) => (none : Option Value)) (fun (_ : Unit) => True) (fun (_ : Unit) => [(x0, .inr (13, [.ref p, .int (iZ z), .ref p]))] ++ []) := by
  refine zMet.ofI (by decide) (Nat.le_of_ble_eq_true rfl) ?_
  intro pg ev s1 mi ar bl me cd ls Q as0 hC hin hH hl hQ hsz
  have hin : me.name = "<init>" := hin
  generalize s1.heap = H at hH ⊢
  generalize ([] : List Loc) = locs at hH ⊢
  have hl : lv_has ls 3 [(0, .ref x0), (1, .ref p), (2, .int (iZ z))] := hl
  refine z_aload_n hC 0 hl dX15_init_0 rfl 0 rfl ?_
  refine z_aload_n hC 1 hl dX15_init_1 rfl 1 rfl ?_
  refine z_putF2 hC hin hH 2 tyX15 in_X15 tyX15_ok (by decide +kernel) (by decide +kernel) rfl 2 (by decide) q1187 0 rfl rfl rfl rfl (Nat.le_of_ble_eq_true rfl) rfl dX15_init_2 (fun H locs hH => ?_)
  have hH : zH s0 s1 G as0 ([(x0, .inr (13, [.null, .int (0), .ref p]))]) H locs := hH
  refine z_aload_n hC 5 hl dX15_init_5 rfl 0 rfl ?_
  refine z_iload_n hC 6 hl dX15_init_6 rfl 2 rfl ?_
  refine z_putF2 hC hin hH 7 tyX15 in_X15 tyX15_ok (by decide +kernel) (by decide +kernel) rfl 1 (by decide) q1186 0 rfl rfl rfl rfl (Nat.le_of_ble_eq_true rfl) rfl dX15_init_7 (fun H locs hH => ?_)
  have hH : zH s0 s1 G as0 ([(x0, .inr (13, [.null, .int (iZ z), .ref p]))]) H locs := hH
  refine z_aload_n hC 10 hl dX15_init_10 rfl 0 rfl ?_
  refine z_aload_n hC 11 hl dX15_init_11 rfl 1 rfl ?_
  refine z_subN (z_runIN hC hH.2.2 hl.1 (z_subP hH.1 [0] rfl) (z_subD hH.2.1 [0] (by decide) rfl) 1 (As := [.ref p]) (rest := []) (m_X14_init_X15 lau s0 G _ x0 p z) (lw_meth q1184) q1182 ⟨q121, q1183⟩ rfl ⟨by decide, by decide, by decide +kernel⟩ rfl rfl (Nat.le_of_ble_eq_true rfl) ⟨Nat.le_of_ble_eq_true rfl, Nat.le_of_ble_eq_true rfl⟩ ⟨Nat.le_of_ble_eq_true rfl, Nat.le_of_ble_eq_true rfl⟩ dX15_init_12) hH [0] rfl (by decide) (fun _ => rfl) (fun _ H locs hpost hH => ?_)
  have hH : zH s0 s1 G as0 ([(x0, .inr (13, [.ref p, .int (iZ z), .ref p]))]) H locs := hH
  refine z_st (st' := []) rfl ?_
  exact z_vret hC hH hQ 15 (()) dX15_init_15 rfl trivial rfl (Nat.le_of_ble_eq_true rfl) (Nat.le_of_ble_eq_true rfl)
set_option maxHeartbeats 8000000 in
set_option maxRecDepth 100000 in
theorem m_X14_init_X16 (lau : Launch) (s0 : State) (G : zG) (sz : Nat) (x0 : Nat) (p : Nat) (z : Int) : zMet (S := Unit) lau yX14_init cX14_init 2 (none) 1 12 0 0 s0 G sz [.ref x0, .ref p] ([(x0, .inr (14, [.null, .int (iZ z), .ref p]))]) (fun (_ : Unit) => (none : Option Value)) (fun (_ : Unit) => True) (fun (_ : Unit) => [(x0, .inr (14, [.ref p, .int (iZ z), .ref p]))] ++ []) := by
  refine zMet.ofI (by decide) (Nat.le_of_ble_eq_true rfl) ?_
  intro pg ev s1 mi ar bl me cd ls Q as0 hC hin hH hl hQ hsz
  have hin : me.name = "<init>" := hin
  generalize s1.heap = H at hH ⊢
  generalize ([] : List Loc) = locs at hH ⊢
  have hl : lv_has ls 2 [(0, .ref x0), (1, .ref p)] := hl
  refine z_aload_n hC 0 hl dX14_init_0 rfl 0 rfl ?_
  refine z_aload_n hC 1 hl dX14_init_1 rfl 1 rfl ?_
  refine z_putF2 hC hin hH 2 tyX16 in_X16 tyX16_ok (by decide +kernel) (by decide +kernel) rfl 0 (by decide) q1188 0 rfl rfl rfl rfl (Nat.le_of_ble_eq_true rfl) rfl dX14_init_2 (fun H locs hH => ?_)
  have hH : zH s0 s1 G as0 ([(x0, .inr (14, [.ref p, .int (iZ z), .ref p]))]) H locs := hH
  refine z_aload_n hC 5 hl dX14_init_5 rfl 0 rfl ?_
  refine z_objI hC hl.1 6 q1185 ⟨Nat.le_of_ble_eq_true rfl, Nat.le_of_ble_eq_true rfl⟩ dX14_init_6 ?_
  exact z_vret hC hH hQ 9 (()) dX14_init_9 rfl trivial rfl (Nat.le_of_ble_eq_true rfl) (Nat.le_of_ble_eq_true rfl)
set_option maxHeartbeats 8000000 in
set_option maxRecDepth 100000 in
theorem m_X16_init (lau : Launch) (s0 : State) (G : zG) (sz : Nat) (x0 : Nat) (p : Nat) (z : Int) : zMet (S := Unit) lau yX16_init cX16_init 3 (none) 2 33 0 0 s0 G sz [.ref x0, .ref p, .int (iZ z)] ([(x0, .inr (14, [.null, .int (0), .null]))]) (fun (_ : Unit) => (none : Option Value)) (fun (_ : Unit) => True) (fun (_ : Unit) => [(x0, .inr (14, [.ref p, .int (iZ z), .ref p]))] ++ []) := by
  refine zMet.ofI (by decide) (Nat.le_of_ble_eq_true rfl) ?_
  intro pg ev s1 mi ar bl me cd ls Q as0 hC hin hH hl hQ hsz
  have hin : me.name = "<init>" := hin
  generalize s1.heap = H at hH ⊢
  generalize ([] : List Loc) = locs at hH ⊢
  have hl : lv_has ls 3 [(0, .ref x0), (1, .ref p), (2, .int (iZ z))] := hl
  refine z_aload_n hC 0 hl dX16_init_0 rfl 0 rfl ?_
  refine z_aload_n hC 1 hl dX16_init_1 rfl 1 rfl ?_
  refine z_putF2 hC hin hH 2 tyX16 in_X16 tyX16_ok (by decide +kernel) (by decide +kernel) rfl 2 (by decide) q1228 0 rfl rfl rfl rfl (Nat.le_of_ble_eq_true rfl) rfl dX16_init_2 (fun H locs hH => ?_)
  have hH : zH s0 s1 G as0 ([(x0, .inr (14, [.null, .int (0), .ref p]))]) H locs := hH
  refine z_aload_n hC 5 hl dX16_init_5 rfl 0 rfl ?_
  refine z_iload_n hC 6 hl dX16_init_6 rfl 2 rfl ?_
  refine z_putF2 hC hin hH 7 tyX16 in_X16 tyX16_ok (by decide +kernel) (by decide +kernel) rfl 1 (by decide) q1227 0 rfl rfl rfl rfl (Nat.le_of_ble_eq_true rfl) rfl dX16_init_7 (fun H locs hH => ?_)
  have hH : zH s0 s1 G as0 ([(x0, .inr (14, [.null, .int (iZ z), .ref p]))]) H locs := hH
  refine z_aload_n hC 10 hl dX16_init_10 rfl 0 rfl ?_
  refine z_aload_n hC 11 hl dX16_init_11 rfl 1 rfl ?_
  refine z_subN (z_runIN hC hH.2.2 hl.1 (z_subP hH.1 [0] rfl) (z_subD hH.2.1 [0] (by decide) rfl) 1 (As := [.ref p]) (rest := []) (m_X14_init_X16 lau s0 G _ x0 p z) (lw_meth q1184) q1226 ⟨q121, q1183⟩ rfl ⟨by decide, by decide, by decide +kernel⟩ rfl rfl (Nat.le_of_ble_eq_true rfl) ⟨Nat.le_of_ble_eq_true rfl, Nat.le_of_ble_eq_true rfl⟩ ⟨Nat.le_of_ble_eq_true rfl, Nat.le_of_ble_eq_true rfl⟩ dX16_init_12) hH [0] rfl (by decide) (fun _ => rfl) (fun _ H locs hpost hH => ?_)
  have hH : zH s0 s1 G as0 ([(x0, .inr (14, [.ref p, .int (iZ z), .ref p]))]) H locs := hH
  refine z_st (st' := []) rfl ?_
  exact z_vret hC hH hQ 15 (()) dX16_init_15 rfl trivial rfl (Nat.le_of_ble_eq_true rfl) (Nat.le_of_ble_eq_true rfl)
set_option maxHeartbeats 8000000 in
set_option maxRecDepth 100000 in
theorem m_X14_init_X17 (lau : Launch) (s0 : State) (G : zG) (sz : Nat) (x0 : Nat) (p : Nat) (z : Int) : zMet (S := Unit) lau yX14_init cX14_init 2 (none) 1 12 0 0 s0 G sz [.ref x0, .ref p] ([(x0, .inr (15, [.null, .int (iZ z), .ref p]))]) (fun (_ : Unit) => (none : Option Value)) (fun (_ : Unit) => True) (fun (_ : Unit) => [(x0, .inr (15, [.ref p, .int (iZ z), .ref p]))] ++ []) := by
  refine zMet.ofI (by decide) (Nat.le_of_ble_eq_true rfl) ?_
  intro pg ev s1 mi ar bl me cd ls Q as0 hC hin hH hl hQ hsz
  have hin : me.name = "<init>" := hin
  generalize s1.heap = H at hH ⊢
  generalize ([] : List Loc) = locs at hH ⊢
  have hl : lv_has ls 2 [(0, .ref x0), (1, .ref p)] := hl
  refine z_aload_n hC 0 hl dX14_init_0 rfl 0 rfl ?_
  refine z_aload_n hC 1 hl dX14_init_1 rfl 1 rfl ?_
  refine z_putF2 hC hin hH 2 tyX17 in_X17 tyX17_ok (by decide +kernel) (by decide +kernel) rfl 0 (by decide) q1188 0 rfl rfl rfl rfl (Nat.le_of_ble_eq_true rfl) rfl dX14_init_2 (fun H locs hH => ?_)
  have hH : zH s0 s1 G as0 ([(x0, .inr (15, [.ref p, .int (iZ z), .ref p]))]) H locs := hH
  refine z_aload_n hC 5 hl dX14_init_5 rfl 0 rfl ?_
  refine z_objI hC hl.1 6 q1185 ⟨Nat.le_of_ble_eq_true rfl, Nat.le_of_ble_eq_true rfl⟩ dX14_init_6 ?_
  exact z_vret hC hH hQ 9 (()) dX14_init_9 rfl trivial rfl (Nat.le_of_ble_eq_true rfl) (Nat.le_of_ble_eq_true rfl)
set_option maxHeartbeats 8000000 in
set_option maxRecDepth 100000 in
theorem m_X17_init (lau : Launch) (s0 : State) (G : zG) (sz : Nat) (x0 : Nat) (p : Nat) (z : Int) : zMet (S := Unit) lau yX17_init cX17_init 3 (none) 2 33 0 0 s0 G sz [.ref x0, .ref p, .int (iZ z)] ([(x0, .inr (15, [.null, .int (0), .null]))]) (fun (_ : Unit) => (none : Option Value)) (fun (_ : Unit) => True) (fun (_ : Unit) => [(x0, .inr (15, [.ref p, .int (iZ z), .ref p]))] ++ []) := by
  refine zMet.ofI (by decide) (Nat.le_of_ble_eq_true rfl) ?_
  intro pg ev s1 mi ar bl me cd ls Q as0 hC hin hH hl hQ hsz
  have hin : me.name = "<init>" := hin
  generalize s1.heap = H at hH ⊢
  generalize ([] : List Loc) = locs at hH ⊢
  have hl : lv_has ls 3 [(0, .ref x0), (1, .ref p), (2, .int (iZ z))] := hl
  refine z_aload_n hC 0 hl dX17_init_0 rfl 0 rfl ?_
  refine z_aload_n hC 1 hl dX17_init_1 rfl 1 rfl ?_
  refine z_putF2 hC hin hH 2 tyX17 in_X17 tyX17_ok (by decide +kernel) (by decide +kernel) rfl 2 (by decide) q1310 0 rfl rfl rfl rfl (Nat.le_of_ble_eq_true rfl) rfl dX17_init_2 (fun H locs hH => ?_)
  have hH : zH s0 s1 G as0 ([(x0, .inr (15, [.null, .int (0), .ref p]))]) H locs := hH
  refine z_aload_n hC 5 hl dX17_init_5 rfl 0 rfl ?_
  refine z_iload_n hC 6 hl dX17_init_6 rfl 2 rfl ?_
  refine z_putF2 hC hin hH 7 tyX17 in_X17 tyX17_ok (by decide +kernel) (by decide +kernel) rfl 1 (by decide) q1309 0 rfl rfl rfl rfl (Nat.le_of_ble_eq_true rfl) rfl dX17_init_7 (fun H locs hH => ?_)
  have hH : zH s0 s1 G as0 ([(x0, .inr (15, [.null, .int (iZ z), .ref p]))]) H locs := hH
  refine z_aload_n hC 10 hl dX17_init_10 rfl 0 rfl ?_
  refine z_aload_n hC 11 hl dX17_init_11 rfl 1 rfl ?_
  refine z_subN (z_runIN hC hH.2.2 hl.1 (z_subP hH.1 [0] rfl) (z_subD hH.2.1 [0] (by decide) rfl) 1 (As := [.ref p]) (rest := []) (m_X14_init_X17 lau s0 G _ x0 p z) (lw_meth q1184) q1308 ⟨q121, q1183⟩ rfl ⟨by decide, by decide, by decide +kernel⟩ rfl rfl (Nat.le_of_ble_eq_true rfl) ⟨Nat.le_of_ble_eq_true rfl, Nat.le_of_ble_eq_true rfl⟩ ⟨Nat.le_of_ble_eq_true rfl, Nat.le_of_ble_eq_true rfl⟩ dX17_init_12) hH [0] rfl (by decide) (fun _ => rfl) (fun _ H locs hpost hH => ?_)
  have hH : zH s0 s1 G as0 ([(x0, .inr (15, [.ref p, .int (iZ z), .ref p]))]) H locs := hH
  refine z_st (st' := []) rfl ?_
  exact z_vret hC hH hQ 15 (()) dX17_init_15 rfl trivial rfl (Nat.le_of_ble_eq_true rfl) (Nat.le_of_ble_eq_true rfl)
