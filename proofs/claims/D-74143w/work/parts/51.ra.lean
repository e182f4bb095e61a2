/-! methods of Row and Places -/

set_option maxHeartbeats 4000000 in
set_option maxRecDepth 100000 in
theorem m_X2_adds (lau : Launch) (s0 : State) (G : zG) (sz : Nat) (ad : Nat → Nat) (F : Nat → Int) (Ar : Nat → Nat → Int) (n : Nat) (x : Int) (a : Nat → Int) (b : Nat → Int) (hn : n < 120) : zMet (S := Unit) lau yX2_adds cX2_adds 2 (none) 0 0 0 0 s0 G sz [.ref (ad 0), .int (iZ (x))] (rW ad G (va_up F 2 ((n : Int))) (va_up (va_up Ar 0 a) 1 b)) (fun (_ : Unit) => (none : Option Value)) (fun (_ : Unit) => True) (fun (_ : Unit) => (rW ad G (va_up F 2 ((n : Int) + 1)) (va_up (va_up Ar 0 (va_up a n x)) 1 (va_up b n 1)))) := by
  refine zMet.of (by decide) (Nat.le_of_ble_eq_true rfl) ?_
  intro pg ev s1 mi ar bl me cd ls Q as0 hC hH hl hQ hsz
  generalize s1.heap = H at hH ⊢
  generalize ([] : List Loc) = locs at hH ⊢
  have hl : lv_has ls 2 [(0, .ref (ad 0)), (1, .int (iZ (x)))] := hl
  refine z_aload_n hC 0 hl dX2_adds_0 rfl 0 rfl ?_
  refine grW_0 hC hH 1 dX2_adds_1 ?_
  refine z_aload_n hC 4 hl dX2_adds_4 rfl 0 rfl ?_
  refine grW_2 (x := (n : Int)) hC hH 5 rfl dX2_adds_5 ?_
  refine z_iload_n hC 8 hl dX2_adds_8 rfl 1 rfl ?_
  refine srW_0 (f' := (va_up a (n) (x))) hC hH 9 (n) (by omega) (by omega) rfl dX2_adds_9 (fun H locs hH => ?_)
  have hH : zH s0 s1 G as0 (rW ad G (va_up F 2 ((n : Int))) (va_up (va_up Ar 0 (va_up a (n) (x))) 1 b)) H locs := hH
  refine z_aload_n hC 10 hl dX2_adds_10 rfl 0 rfl ?_
  refine grW_1 hC hH 11 dX2_adds_11 ?_
  refine z_aload_n hC 14 hl dX2_adds_14 rfl 0 rfl ?_
  refine grW_2 (x := (n : Int)) hC hH 15 rfl dX2_adds_15 ?_
  refine z_iconst hC 18 dX2_adds_18 ?_
  refine srW_1 (f' := (va_up b (n) (1))) hC hH 19 (n) (by omega) (by omega) rfl dX2_adds_19 (fun H locs hH => ?_)
  have hH : zH s0 s1 G as0 (rW ad G (va_up F 2 ((n : Int))) (va_up (va_up Ar 0 (va_up a (n) (x))) 1 (va_up b (n) (1)))) H locs := hH
  refine z_aload_n hC 20 hl dX2_adds_20 rfl 0 rfl ?_
  refine z_dup hC 21 dX2_adds_21 rfl ?_
  refine grW_2 (x := (n : Int)) hC hH 22 rfl dX2_adds_22 ?_
  refine z_iconst hC 25 dX2_adds_25 ?_
  refine z_iadd (e := (n : Int) + 1) hC 26 dX2_adds_26 rfl ?_
  refine prW_2 hC hH 27 dX2_adds_27 (fun H locs hH => ?_)
  have hH : zH s0 s1 G as0 (rW ad G (va_up F 2 ((n : Int) + 1)) (va_up (va_up Ar 0 (va_up a (n) (x))) 1 (va_up b (n) (1)))) H locs := hH
  -- R30.1
  exact z_vret hC hH hQ 30 (()) dX2_adds_30 rfl trivial rfl (Nat.le_refl _) (Nat.le_refl _)

set_option maxHeartbeats 4000000 in
set_option maxRecDepth 100000 in
theorem m_X2_copies (lau : Launch) (s0 : State) (G : zG) (sz : Nat) (ad : Nat → Nat) (F : Nat → Int) (Ar : Nat → Nat → Int) (f : Nat) (t : Nat) (a : Nat → Int) (b : Nat → Int) (hf : f < 120) (ht : t < 120) : zMet (S := Unit) lau yX2_copies cX2_copies 3 (none) 0 0 0 0 s0 G sz [.ref (ad 0), .int (iZ ((f : Int))), .int (iZ ((t : Int)))] (rW ad G F (va_up (va_up Ar 0 a) 1 b)) (fun (_ : Unit) => (none : Option Value)) (fun (_ : Unit) => True) (fun (_ : Unit) => (rW ad G F (va_up (va_up Ar 0 (va_up a t (a f))) 1 (va_up b t (b f))))) := by
  refine zMet.of (by decide) (Nat.le_of_ble_eq_true rfl) ?_
  intro pg ev s1 mi ar bl me cd ls Q as0 hC hH hl hQ hsz
  generalize s1.heap = H at hH ⊢
  generalize ([] : List Loc) = locs at hH ⊢
  have hl : lv_has ls 3 [(0, .ref (ad 0)), (1, .int (iZ ((f : Int)))), (2, .int (iZ ((t : Int))))] := hl
  refine z_aload_n hC 0 hl dX2_copies_0 rfl 0 rfl ?_
  refine grW_0 hC hH 1 dX2_copies_1 ?_
  refine z_iload_n hC 4 hl dX2_copies_4 rfl 2 rfl ?_
  refine z_aload_n hC 5 hl dX2_copies_5 rfl 0 rfl ?_
  refine grW_0 hC hH 6 dX2_copies_6 ?_
  refine z_iload_n hC 9 hl dX2_copies_9 rfl 1 rfl ?_
  refine lrW_0 (x := (a f)) hC hH 10 (f) (by omega) (by omega) rfl dX2_copies_10 ?_
  refine srW_0 (f' := (va_up a (t) ((a f)))) hC hH 11 (t) (by omega) (by omega) rfl dX2_copies_11 (fun H locs hH => ?_)
  have hH : zH s0 s1 G as0 (rW ad G F (va_up (va_up Ar 0 (va_up a (t) ((a f)))) 1 b)) H locs := hH
  refine z_aload_n hC 12 hl dX2_copies_12 rfl 0 rfl ?_
  refine grW_1 hC hH 13 dX2_copies_13 ?_
  refine z_iload_n hC 16 hl dX2_copies_16 rfl 2 rfl ?_
  refine z_aload_n hC 17 hl dX2_copies_17 rfl 0 rfl ?_
  refine grW_1 hC hH 18 dX2_copies_18 ?_
  refine z_iload_n hC 21 hl dX2_copies_21 rfl 1 rfl ?_
  refine lrW_1 (x := (b f)) hC hH 22 (f) (by omega) (by omega) rfl dX2_copies_22 ?_
  refine srW_1 (f' := (va_up b (t) ((b f)))) hC hH 23 (t) (by omega) (by omega) rfl dX2_copies_23 (fun H locs hH => ?_)
  have hH : zH s0 s1 G as0 (rW ad G F (va_up (va_up Ar 0 (va_up a (t) ((a f)))) 1 (va_up b (t) ((b f))))) H locs := hH
  -- R24.1
  exact z_vret hC hH hQ 24 (()) dX2_copies_24 rfl trivial rfl (Nat.le_refl _) (Nat.le_refl _)

set_option maxHeartbeats 4000000 in
set_option maxRecDepth 100000 in
theorem m_X10_adds (lau : Launch) (s0 : State) (G : zG) (sz : Nat) (ad : Nat → Nat) (F : Nat → Int) (Ar : Nat → Nat → Int) (n : Nat) (x : Int) (a : Nat → Int) (hn : n < 120) : zMet (S := Unit) lau yX10_adds cX10_adds 2 (none) 0 0 0 0 s0 G sz [.ref (ad 0), .int (iZ (x))] (pW ad G (va_up F 1 ((n : Int))) (va_up Ar 0 a)) (fun (_ : Unit) => (none : Option Value)) (fun (_ : Unit) => True) (fun (_ : Unit) => (pW ad G (va_up F 1 ((n : Int) + 1)) (va_up Ar 0 (va_up a n x)))) := by
  refine zMet.of (by decide) (Nat.le_of_ble_eq_true rfl) ?_
  intro pg ev s1 mi ar bl me cd ls Q as0 hC hH hl hQ hsz
  generalize s1.heap = H at hH ⊢
  generalize ([] : List Loc) = locs at hH ⊢
  have hl : lv_has ls 2 [(0, .ref (ad 0)), (1, .int (iZ (x)))] := hl
  refine z_aload_n hC 0 hl dX10_adds_0 rfl 0 rfl ?_
  refine gpW_0 hC hH 1 dX10_adds_1 ?_
  refine z_aload_n hC 4 hl dX10_adds_4 rfl 0 rfl ?_
  refine gpW_1 (x := (n : Int)) hC hH 5 rfl dX10_adds_5 ?_
  refine z_iload_n hC 8 hl dX10_adds_8 rfl 1 rfl ?_
  refine spW_0 (f' := (va_up a (n) (x))) hC hH 9 (n) (by omega) (by omega) rfl dX10_adds_9 (fun H locs hH => ?_)
  have hH : zH s0 s1 G as0 (pW ad G (va_up F 1 ((n : Int))) (va_up Ar 0 (va_up a (n) (x)))) H locs := hH
  refine z_aload_n hC 10 hl dX10_adds_10 rfl 0 rfl ?_
  refine z_dup hC 11 dX10_adds_11 rfl ?_
  refine gpW_1 (x := (n : Int)) hC hH 12 rfl dX10_adds_12 ?_
  refine z_iconst hC 15 dX10_adds_15 ?_
  refine z_iadd (e := (n : Int) + 1) hC 16 dX10_adds_16 rfl ?_
  refine ppW_1 hC hH 17 dX10_adds_17 (fun H locs hH => ?_)
  have hH : zH s0 s1 G as0 (pW ad G (va_up F 1 ((n : Int) + 1)) (va_up Ar 0 (va_up a (n) (x)))) H locs := hH
  -- R20.1
  exact z_vret hC hH hQ 20 (()) dX10_adds_20 rfl trivial rfl (Nat.le_refl _) (Nat.le_refl _)
