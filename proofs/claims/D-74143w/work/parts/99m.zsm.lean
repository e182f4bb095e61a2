/-! StringBuilder and String as they are made -/
set_option maxRecDepth 100000
theorem iz0 : iZ ((0 : Nat) : Int) = (0 : Int32) := by decide
theorem cb_by {c : Nat} (h : c < 128) : (iZ (c : Int)).toInt8.toInt32 = iZ (c : Int) := by
  have h1 := sb_by (u := c) (by omega)
  rw [show sb c = (c : Int) from by unfold sb; exact if_pos h] at h1
  exact h1
section ZSM
variable {pg : Program} {l : Launch} {ev : Env} {R : Room} {s0 s : State} {m : MethodId} {ar : Array Value} {bl : List Frame} {me : Method} {c : Code} {H : Heap} {locs : List Loc} {ce sl : Nat} {Q : State → Prop} {G : zG} {cc : ByteArray} {nL : Nat} {own : String} {ret : Option FieldType} {ls : Array Slot} {st : List Value} {as0 : List Nat} {w : va_W}
theorem z_acmp_nt (C : zC pg s0 s m ar me c G cc nL own ret) (pc tgt : Nat) {x y : Nat} {off : Int} (hdg : decode cc pc = .ok (.if_acmp .ne off, 3)) (ht : (pc : Int) + off = (tgt : Int)) (hne : x ≠ y) (kk : W pg l ev R s m ar bl me c H locs ce sl Q (F0 m tgt ls st)) : W pg l ev R s m ar bl me c H locs ce sl Q (F0 m pc ls (.ref y :: .ref x :: st)) :=
  lv_acmp_ne (rx := some x) (ry := some y) C.1.1 C.1.2.1 hdg ht (fun _ => kk) (fun h => absurd (Option.some.inj h) hne)
theorem zp_instO (C : zC pg s0 s m ar me c G cc nL own ret) (hS : va_S (zB s0 s.heap.size as0) s.heap H locs) (pc : Nat) {idx y : Nat} {CN : String} (hO : va_O CN y (zB s0 s.heap.size as0) s s.heap) (hq : Cond.classLink own idx CN ∈ lw_all) (hdg : decode cc pc = .ok (.instanceof idx, 3)) (kk : W pg l ev R s m ar bl me c H locs ce sl Q (F0 m (pc + 3) ls (.int (iZ 1) :: st))) : W pg l ev R s m ar bl me c H locs ce sl Q (F0 m pc ls (.ref y :: st)) :=
  va_instE C.1.1 C.1.2.1 C.1.2.2.2.1 (C.1.2.2.2.2 _ hq) (va_Orecv hO hS) hdg kk
theorem zp_castO (C : zC pg s0 s m ar me c G cc nL own ret) (hS : va_S (zB s0 s.heap.size as0) s.heap H locs) (pc : Nat) {idx y : Nat} {CN : String} (hO : va_O CN y (zB s0 s.heap.size as0) s s.heap) (hq : Cond.classLink own idx CN ∈ lw_all) (hdg : decode cc pc = .ok (.checkcast idx, 3)) (kk : W pg l ev R s m ar bl me c H locs ce sl Q (F0 m (pc + 3) ls (.ref y :: st))) : W pg l ev R s m ar bl me c H locs ce sl Q (F0 m pc ls (.ref y :: st)) :=
  va_castE C.1.1 C.1.2.1 C.1.2.2.2.1 (C.1.2.2.2.2 _ hq) (va_Orecv hO hS) hdg kk
end ZSM
def sbW (G : zG) (sb bs n : Nat) (f : Nat → Int) : va_W := [(sb, .inr (16, [.ref bs, .int (iZ 0), .int (0), .int (iZ (n : Int))])), (bs, .inl (G.2 1, 16, .inl (zA f)))]
def stW (G : zG) (q a n : Nat) (f : Nat → Int) : va_W := [(q, .inr (17, [.ref a, .int (iZ 0), .int (0), .int (0)])), (a, .inl (G.2 1, n, .inl (zA f)))]
set_option maxHeartbeats 8000000 in
theorem m_J0_init (lau : Launch) (s0 : State) (G : zG) (sz : Nat) (hcs : zCS s0) (x0 : Nat) : zMet (S := Nat) lau yJ0_init cJ0_init 2 (none) 1 12 1 16 s0 G sz [.ref x0, .int (iZ 16)] ([(x0, .inr (16, [.null, .int (0), .int (0), .int (0)]))]) (fun bs => (none : Option Value)) (fun _ => True) (fun bs => [(x0, .inr (16, [.ref bs, .int (iZ 0), .int (0), .int (0)]))] ++ [(bs, .inl (G.2 1, 16, .inl (zA (fun _ => 0))))]) := by
  refine zMet.of (by decide) (Nat.le_of_ble_eq_true rfl) ?_
  intro pg ev s1 mi ar bl me cd ls Q as0 hC hH hl hQ hsz
  generalize s1.heap = H at hH ⊢
  generalize ([] : List Loc) = locs at hH ⊢
  have hl : lv_has ls 2 [(0, .ref x0), (1, .int (iZ 16))] := hl
  refine z_aload_n hC 0 hl dJ0_init_0 rfl 0 rfl ?_
  refine z_objI hC hl.1 1 q385 ⟨Nat.le_of_ble_eq_true rfl, Nat.le_of_ble_eq_true rfl⟩ dJ0_init_1 ?_
  refine zp_gets hC hH.2.2 4 hcs q386 dJ0_init_4 ?_
  refine z_if_eq_f hC 7 25 dJ0_init_7 rfl (by omega) (by omega) ?_
  refine z_aload_n hC 10 hl dJ0_init_10 rfl 0 rfl ?_
  refine z_iload_n hC 11 hl dJ0_init_11 rfl 1 rfl ?_
  refine z_newb hC hH 12 16 rfl (by decide) ⟨Nat.le_of_ble_eq_true rfl, Nat.le_of_ble_eq_true rfl⟩ dJ0_init_12 (fun bs H hH => ?_)
  refine z_put hC hH 14 tyJ1 in_J1 tyJ1_ok nmJ1 rfl 0 (by decide) q395 0 rfl rfl rfl rfl (Nat.le_of_ble_eq_true rfl) rfl dJ0_init_14 (fun H locs hH => ?_)
  have hH : zH s0 s1 G as0 ([(x0, .inr (16, [.ref bs, .int (0), .int (0), .int (0)]))] ++ [(bs, .inl (G.2 1, 16, .inl (zA (fun _ => 0))))]) H locs := hH
  refine z_aload_n hC 17 hl dJ0_init_17 rfl 0 rfl ?_
  refine z_iconst hC 18 dJ0_init_18 ?_
  refine z_put hC hH 19 tyJ1 in_J1 tyJ1_ok nmJ1 rfl 1 (by decide) q396 0 rfl rfl rfl rfl (Nat.le_of_ble_eq_true rfl) rfl dJ0_init_19 (fun H locs hH => ?_)
  have hH : zH s0 s1 G as0 ([(x0, .inr (16, [.ref bs, .int (iZ 0), .int (0), .int (0)]))] ++ [(bs, .inl (G.2 1, 16, .inl (zA (fun _ => 0))))]) H locs := hH
  refine z_goto hC 22 38 dJ0_init_22 rfl ?_
  exact z_vret hC hH hQ 38 bs dJ0_init_38 rfl trivial rfl (Nat.le_of_ble_eq_true rfl) (Nat.le_of_ble_eq_true rfl)

set_option maxHeartbeats 8000000 in
theorem m_J1_init (lau : Launch) (s0 : State) (G : zG) (sz : Nat) (hcs : zCS s0) (x0 : Nat) : zMet (S := Nat) lau yJ1_init cJ1_init 1 (none) 2 33 1 16 s0 G sz [.ref x0] ([(x0, .inr (16, [.null, .int (0), .int (0), .int (0)]))]) (fun bs => (none : Option Value)) (fun _ => True) (fun bs => [(x0, .inr (16, [.ref bs, .int (iZ 0), .int (0), .int (iZ ((0 : Nat) : Int))]))] ++ [(bs, .inl (G.2 1, 16, .inl (zA (fun _ => 0))))]) := by
  refine zMet.of (by decide) (Nat.le_of_ble_eq_true rfl) ?_
  intro pg ev s1 mi ar bl me cd ls Q as0 hC hH hl hQ hsz
  generalize s1.heap = H at hH ⊢
  generalize ([] : List Loc) = locs at hH ⊢
  have hl : lv_has ls 1 [(0, .ref x0)] := hl
  refine z_aload_n hC 0 hl dJ1_init_0 rfl 0 rfl ?_
  refine z_bipush hC 1 dJ1_init_1 rfl ?_
  refine z_subN (z_runI hC hH.2.2 hl.1 (z_subP hH.1 [0] rfl) (z_subD hH.2.1 [0] (by decide) rfl) 1 (As := [.int (iZ 16)]) (rest := []) (m_J0_init lau s0 G _ hcs x0) (lw_meth q384) q382 ⟨q97, q383⟩ rfl ⟨by decide, by decide, by decide +kernel⟩ rfl rfl (Nat.le_of_ble_eq_true rfl) ⟨Nat.le_of_ble_eq_true rfl, Nat.le_of_ble_eq_true rfl⟩ ⟨Nat.le_of_ble_eq_true rfl, Nat.le_of_ble_eq_true rfl⟩ dJ1_init_3) hH [0] rfl (by decide) (fun _ => rfl) (fun bs H locs hpost hH => ?_)
  refine z_st (st' := []) rfl ?_
  exact z_vret hC hH hQ 6 bs dJ1_init_6 rfl trivial (by rw [iz0]; rfl) (Nat.le_of_ble_eq_true rfl) (Nat.le_of_ble_eq_true rfl)

set_option maxHeartbeats 4000000 in
theorem u_J0_isLatin1 (lau : Launch) (s0 : State) (G : zG) (hcs : zCS s0) (sb bs : Nat) (y2 y3 : Value) : zPur (S := Unit) lau yJ0_isLatin1 cJ0_isLatin1 1 (some .boolean) 0 0 s0 G [.ref sb] [(sb, .inr (16, [.ref bs, .int (iZ 0), y2, y3]))] (fun _ => some (.int (iZ 1))) (fun _ => True) := by
  refine zPur.of (by decide) (Nat.le_of_ble_eq_true rfl) ?_
  intro pg ev s1 mi ar bl me cd ls Q hC hP hl hQ
  have hl : lv_has ls 1 [(0, .ref sb)] := hl
  refine zp_gets hC zS0 0 hcs q386 dJ0_isLatin1_0 ?_
  refine z_if_eq_f hC 3 17 dJ0_isLatin1_3 rfl (by omega) (by omega) ?_
  refine z_aload_n hC 6 hl dJ0_isLatin1_6 rfl 0 rfl ?_
  refine zp_get (v := .int (iZ 0)) hC hP 7 in_J1 rfl 1 (by decide) q396 0 rfl rfl dJ0_isLatin1_7 ?_
  refine z_if_ne_f hC 10 17 dJ0_isLatin1_10 rfl (by omega) (by omega) ?_
  refine z_iconst hC 13 dJ0_isLatin1_13 ?_
  refine z_goto hC 14 18 dJ0_isLatin1_14 rfl ?_
  exact zp_zret hC hQ 18 () dJ0_isLatin1_18 (by rfl) rfl trivial

set_option maxHeartbeats 4000000 in
theorem u_J0_ensure (lau : Launch) (s0 : State) (G : zG) (sb bs : Nat) (y2 y3 : Value) (f : Nat → Int32) (q : Nat) (hq : q ≤ 16) : zPur (S := Unit) lau yJ0_ensureCapacityInternal cJ0_ensureCapacityInternal 3 (none) 0 0 s0 G [.ref sb, .int (iZ (q : Int))] [(sb, .inr (16, [.ref bs, .int (iZ 0), y2, y3])), (bs, .inl (G.2 1, 16, .inl f))] (fun _ => none) (fun _ => True) := by
  refine zPur.of (by decide) (Nat.le_of_ble_eq_true rfl) ?_
  intro pg ev s1 mi ar bl me cd ls Q hC hP hl hQ
  have hl : lv_has ls 3 [(0, .ref sb), (1, .int (iZ (q : Int)))] := hl
  refine z_aload_n hC 0 hl dJ0_ensureCapacityInternal_0 rfl 0 rfl ?_
  refine zp_get (v := .ref bs) hC hP 1 in_J1 rfl 0 (by decide) q395 0 rfl rfl dJ0_ensureCapacityInternal_1 ?_
  refine zp_alen hC hP 4 1 1 rfl rfl dJ0_ensureCapacityInternal_4 ?_
  refine z_aload_n hC 5 hl dJ0_ensureCapacityInternal_5 rfl 0 rfl ?_
  refine zp_get (v := .int (iZ 0)) hC hP 6 in_J1 rfl 1 (by decide) q396 0 rfl rfl dJ0_ensureCapacityInternal_6 ?_
  refine z_ishr (e := ((16 : Nat) : Int)) hC 9 dJ0_ensureCapacityInternal_9 (zshr_00 16 (by decide)) ?_
  refine z_istore_n (lv' := [(2, .int (iZ ((16 : Nat) : Int))), (0, .ref sb), (1, .int (iZ (q : Int)))]) hC 10 hl dJ0_ensureCapacityInternal_10 rfl (by decide) rfl (fun ls hl => ?_)
  refine z_iload_n hC 11 hl dJ0_ensureCapacityInternal_11 rfl 2 rfl ?_
  refine z_iload_n hC 12 hl dJ0_ensureCapacityInternal_12 rfl 0 rfl ?_
  refine z_isub (e := (q : Int) - 16) hC 13 dJ0_ensureCapacityInternal_13 (by omega) ?_
  refine z_if_le_t hC 14 38 dJ0_ensureCapacityInternal_14 rfl (by omega) (by omega) ?_
  exact zp_vret hC hQ 38 () dJ0_ensureCapacityInternal_38 rfl trivial

set_option maxHeartbeats 4000000 in
theorem u_J7_canEncode (lau : Launch) (s0 : State) (G : zG) (c : Nat) (hc : c < 256) : zPur (S := Unit) lau yJ7_canEncode cJ7_canEncode 1 (some .boolean) 0 0 s0 G [.int (iZ (c : Int))] [] (fun _ => some (.int (iZ 1))) (fun _ => True) := by
  refine zPur.of (by decide) (Nat.le_of_ble_eq_true rfl) ?_
  intro pg ev s1 mi ar bl me cd ls Q hC hP hl hQ
  have hl : lv_has ls 1 [(0, .int (iZ (c : Int)))] := hl
  refine z_iload_n hC 0 hl dJ7_canEncode_0 rfl 0 rfl ?_
  refine z_sipush hC 1 dJ7_canEncode_1 rfl ?_
  refine z_icmp_gt_f hC 4 11 dJ7_canEncode_4 rfl (by omega) (by omega) (by omega) ?_
  refine z_iconst hC 7 dJ7_canEncode_7 ?_
  refine z_goto hC 8 12 dJ7_canEncode_8 rfl ?_
  exact zp_zret hC hQ 12 () dJ7_canEncode_12 (by rfl) rfl trivial

set_option maxHeartbeats 4000000 in
theorem u_J0_length (lau : Launch) (s0 : State) (G : zG) (sb bs n : Nat) : zPur (S := Unit) lau yJ0_length cJ0_length 1 (some .int) 0 0 s0 G [.ref sb] [(sb, .inr (16, [.ref bs, .int (iZ 0), .int (0), .int (iZ (n : Int))]))] (fun _ => some (.int (iZ (n : Int)))) (fun _ => True) := by
  refine zPur.of (by decide) (Nat.le_of_ble_eq_true rfl) ?_
  intro pg ev s1 mi ar bl me cd ls Q hC hP hl hQ
  have hl : lv_has ls 1 [(0, .ref sb)] := hl
  refine z_aload_n hC 0 hl dJ0_length_0 rfl 0 rfl ?_
  refine zp_get (v := .int (iZ (n : Int))) hC hP 1 in_J1 rfl 3 (by decide) q398 0 rfl rfl dJ0_length_1 ?_
  exact zp_iret hC hQ 4 () dJ0_length_4 rfl trivial

set_option maxHeartbeats 4000000 in
theorem u_J1_length (lau : Launch) (s0 : State) (G : zG) (sb bs n : Nat) : zPur (S := Unit) lau yJ1_length cJ1_length 1 (some .int) 1 20 s0 G [.ref sb] [(sb, .inr (16, [.ref bs, .int (iZ 0), .int (0), .int (iZ (n : Int))]))] (fun _ => some (.int (iZ (n : Int)))) (fun _ => True) := by
  refine zPur.of (by decide) (Nat.le_of_ble_eq_true rfl) ?_
  intro pg ev s1 mi ar bl me cd ls Q hC hP hl hQ
  have hl : lv_has ls 1 [(0, .ref sb)] := hl
  refine z_aload_n hC 0 hl dJ1_length_0 rfl 0 rfl ?_
  refine zp_back (zp_runSU hC zS0 hl.1 hP 0 (As := []) (rest := []) (u_J0_length lau s0 G sb bs n) (lw_SU q412 q1973 q407 q413 q97 q414) ⟨by decide, by decide +kernel⟩ (q0 := 0) (ci := 16) rfl rfl rfl rfl (Nat.le_of_ble_eq_true rfl) ⟨Nat.le_of_ble_eq_true rfl, Nat.le_of_ble_eq_true rfl⟩ ⟨by first | decide | omega, by first | decide | omega⟩ dJ1_length_1) (fun _ _ => ?_)
  refine z_st (st' := [.int (iZ (n : Int))]) rfl ?_
  exact zp_iret hC hQ 4 () dJ1_length_4 rfl trivial

set_option maxHeartbeats 8000000 in
theorem m_J0_append (lau : Launch) (s0 : State) (G : zG) (sz : Nat) (hcs : zCS s0) (sb bs n c : Nat) (f : Nat → Int) (hn : n < 16) (hc : c < 128) : zMet (S := Unit) lau yJ0_append cJ0_append 2 (some (.object "java/lang/AbstractStringBuilder")) 1 23 0 0 s0 G sz [.ref sb, .int (iZ (c : Int))] (sbW G sb bs n f) (fun _ => some (.ref sb)) (fun _ => True) (fun _ => sbW G sb bs (n + 1) (va_up f n (c : Int))) := by
  refine zMet.of (by decide) (Nat.le_of_ble_eq_true rfl) ?_
  intro pg ev s1 mi ar bl me cd ls Q as0 hC hH hl hQ hsz
  generalize s1.heap = H at hH ⊢
  generalize ([] : List Loc) = locs at hH ⊢
  have hl : lv_has ls 2 [(0, .ref sb), (1, .int (iZ (c : Int)))] := hl
  refine z_aload_n hC 0 hl dJ0_append_0 rfl 0 rfl ?_
  refine z_aload_n hC 1 hl dJ0_append_1 rfl 0 rfl ?_
  refine zp_get (v := .int (iZ (n : Int))) hC hH.1 2 in_J1 rfl 3 (by decide) q398 0 rfl rfl dJ0_append_2 ?_
  refine z_iconst hC 5 dJ0_append_5 ?_
  refine z_iadd (e := ((n + 1 : Nat) : Int)) hC 6 dJ0_append_6 (by omega) ?_
  refine zp_back (zp_runVP hC hH.2.2 hl.1 hH.1 1 (As := [.int (iZ ((n + 1 : Nat) : Int))]) (rest := []) (u_J0_ensure lau s0 G sb bs (.int (0)) (.int (iZ (n : Int))) (zA f) (n + 1) (by omega)) (lw_meth q425) ⟨q422, q424, q97⟩ (sel_ec hC) ⟨by decide, by decide, by decide +kernel⟩ (q0 := 0) (ci := 16) rfl rfl rfl rfl (Nat.le_of_ble_eq_true rfl) ⟨Nat.le_of_ble_eq_true rfl, Nat.le_of_ble_eq_true rfl⟩ ⟨by first | decide | omega, by first | decide | omega⟩ dJ0_append_7) (fun _ _ => ?_)
  refine z_st (st' := []) rfl ?_
  refine z_aload_n hC 10 hl dJ0_append_10 rfl 0 rfl ?_
  refine zp_back (zp_runU hC hH.2.2 hl.1 (z_subP hH.1 [0] rfl) 0 (As := []) (rest := []) (u_J0_isLatin1 lau s0 G hcs sb bs (.int (0)) (.int (iZ (n : Int)))) (lw_U q457 q459 q460 q458 q97 q461) rfl ⟨by decide, by decide, by decide +kernel⟩ (q0 := 0) (ci := 16) rfl rfl rfl rfl (Nat.le_of_ble_eq_true rfl) ⟨Nat.le_of_ble_eq_true rfl, Nat.le_of_ble_eq_true rfl⟩ ⟨by first | decide | omega, by first | decide | omega⟩ dJ0_append_11) (fun _ _ => ?_)
  refine z_st (st' := [.int (iZ 1)]) rfl ?_
  refine z_if_eq_f hC 14 45 dJ0_append_14 rfl (by omega) (by omega) ?_
  refine z_iload_n hC 17 hl dJ0_append_17 rfl 1 rfl ?_
  refine zp_back (zp_runS hC hH.2.2 hl.1 zp_nil 1 (As := [.int (iZ (c : Int))]) (rest := []) (u_J7_canEncode lau s0 G c (by omega)) (lw_S q462 q463 q105 q464) ⟨by decide, by decide, by decide +kernel⟩ rfl rfl (Nat.le_of_ble_eq_true rfl) ⟨Nat.le_of_ble_eq_true rfl, Nat.le_of_ble_eq_true rfl⟩ ⟨by first | decide | omega, by first | decide | omega⟩ dJ0_append_18) (fun _ _ => ?_)
  refine z_st (st' := [.int (iZ 1)]) rfl ?_
  refine z_if_eq_f hC 21 45 dJ0_append_21 rfl (by omega) (by omega) ?_
  refine z_aload_n hC 24 hl dJ0_append_24 rfl 0 rfl ?_
  refine zp_get (v := .ref bs) hC hH.1 25 in_J1 rfl 0 (by decide) q395 0 rfl rfl dJ0_append_25 ?_
  refine z_aload_n hC 28 hl dJ0_append_28 rfl 0 rfl ?_
  refine z_dup hC 29 dJ0_append_29 rfl ?_
  refine zp_get (v := .int (iZ (n : Int))) hC hH.1 30 in_J1 rfl 3 (by decide) q398 0 rfl rfl dJ0_append_30 ?_
  refine z_dup_x1 hC 33 dJ0_append_33 rfl rfl ?_
  refine z_iconst hC 34 dJ0_append_34 ?_
  refine z_iadd (e := ((n + 1 : Nat) : Int)) hC 35 dJ0_append_35 (by omega) ?_
  refine z_put hC hH 36 tyJ1 in_J1 tyJ1_ok nmJ1 rfl 3 (by decide) q398 0 rfl rfl rfl rfl (Nat.le_of_ble_eq_true rfl) rfl dJ0_append_36 (fun H locs hH => ?_)
  have hH : zH s0 s1 G as0 ([(sb, .inr (16, [.ref bs, .int (iZ 0), .int (0), .int (iZ ((n + 1 : Nat) : Int))])), (bs, .inl (G.2 1, 16, .inl (zA f)))]) H locs := hH
  refine z_iload_n hC 39 hl dJ0_append_39 rfl 1 rfl ?_
  refine z_i2b (e := (c : Int)) hC 40 dJ0_append_40 (cb_by hc) ?_
  refine z_bast hC hH 41 1 n rfl (by decide) rfl (by omega) rfl (cb_by hc) rfl dJ0_append_41 (fun H locs hH => ?_)
  have hH : zH s0 s1 G as0 (sbW G sb bs (n + 1) (va_up f n (c : Int))) H locs := hH
  refine z_goto hC 42 75 dJ0_append_42 rfl ?_
  refine z_aload_n hC 75 hl dJ0_append_75 rfl 0 rfl ?_
  exact z_aret hC hH hQ 76 () dJ0_append_76 rfl trivial rfl (Nat.le_of_ble_eq_true rfl) (Nat.le_of_ble_eq_true rfl)

set_option maxHeartbeats 8000000 in
theorem m_J1_append (lau : Launch) (s0 : State) (G : zG) (sz : Nat) (hcs : zCS s0) (sb bs n c : Nat) (f : Nat → Int) (hn : n < 16) (hc : c < 128) : zMet (S := Unit) lau yJ1_append cJ1_append 2 (some (.object "java/lang/StringBuilder")) 2 60 0 0 s0 G sz [.ref sb, .int (iZ (c : Int))] (sbW G sb bs n f) (fun _ => some (.ref sb)) (fun _ => True) (fun _ => sbW G sb bs (n + 1) (va_up f n (c : Int))) := by
  refine zMet.of (by decide) (Nat.le_of_ble_eq_true rfl) ?_
  intro pg ev s1 mi ar bl me cd ls Q as0 hC hH hl hQ hsz
  generalize s1.heap = H at hH ⊢
  generalize ([] : List Loc) = locs at hH ⊢
  have hl : lv_has ls 2 [(0, .ref sb), (1, .int (iZ (c : Int)))] := hl
  refine z_aload_n hC 0 hl dJ1_append_0 rfl 0 rfl ?_
  refine z_iload_n hC 1 hl dJ1_append_1 rfl 1 rfl ?_
  refine z_same (z_runSU hC hH.2.2 hl.1 hH.1 hH.2.1 1 (As := [.int (iZ (c : Int))]) (rest := []) (m_J0_append lau s0 G _ hcs sb bs n c f hn hc) (lw_SU q419 q1974 q407 q420 q97 q421) ⟨by decide, by decide +kernel⟩ (q0 := 0) (ci := 16) rfl rfl rfl rfl (Nat.le_of_ble_eq_true rfl) ⟨Nat.le_of_ble_eq_true rfl, Nat.le_of_ble_eq_true rfl⟩ ⟨Nat.le_of_ble_eq_true rfl, Nat.le_of_ble_eq_true rfl⟩ dJ1_append_2) hH (fun _ H locs _ hH => ?_)
  refine z_st (st' := [.ref sb]) rfl ?_
  refine z_pop hC 5 dJ1_append_5 rfl ?_
  refine z_aload_n hC 6 hl dJ1_append_6 rfl 0 rfl ?_
  exact z_aret hC hH hQ 7 () dJ1_append_7 rfl trivial rfl (Nat.le_of_ble_eq_true rfl) (Nat.le_of_ble_eq_true rfl)

set_option maxHeartbeats 4000000 in
theorem u_J0_getValue (lau : Launch) (s0 : State) (G : zG) (sb bs : Nat) (y3 : Value) : zPur (S := Unit) lau yJ0_getValue cJ0_getValue 1 (some (.array .byte)) 0 0 s0 G [.ref sb] [(sb, .inr (16, [.ref bs, .int (iZ 0), .int (0), y3]))] (fun _ => some (.ref bs)) (fun _ => True) := by
  refine zPur.of (by decide) (Nat.le_of_ble_eq_true rfl) ?_
  intro pg ev s1 mi ar bl me cd ls Q hC hP hl hQ
  have hl : lv_has ls 1 [(0, .ref sb)] := hl
  refine z_aload_n hC 0 hl dJ0_getValue_0 rfl 0 rfl ?_
  refine zp_get (v := .ref bs) hC hP 1 in_J1 rfl 0 (by decide) q395 0 rfl rfl dJ0_getValue_1 ?_
  exact zp_arrret hC hQ 4 () dJ0_getValue_4 rfl trivial

set_option maxHeartbeats 4000000 in
theorem u_J6_checkLength (lau : Launch) (s0 : State) (G : zG) (n : Nat) (hn : n ≤ 16) : zPur (S := Unit) lau yJ6_checkLength cJ6_checkLength 2 (none) 0 0 s0 G [.int (iZ 0), .int (iZ (n : Int))] [] (fun _ => none) (fun _ => True) := by
  refine zPur.of (by decide) (Nat.le_of_ble_eq_true rfl) ?_
  intro pg ev s1 mi ar bl me cd ls Q hC hP hl hQ
  have hl : lv_has ls 2 [(0, .int (iZ 0)), (1, .int (iZ (n : Int)))] := hl
  refine z_iload_n hC 0 hl dJ6_checkLength_0 rfl 1 rfl ?_
  refine z_iload_n hC 1 hl dJ6_checkLength_1 rfl 0 rfl ?_
  refine z_icmp_ge_t hC 2 37 dJ6_checkLength_2 rfl (by omega) (by omega) (by omega) ?_
  exact zp_vret hC hQ 37 () dJ6_checkLength_37 rfl trivial

set_option maxHeartbeats 8000000 in
theorem m_J6_copyOfRangeByte (lau : Launch) (s0 : State) (G : zG) (sz : Nat) (bs n : Nat) (f : Nat → Int) (hn : n ≤ 7) (hf : ∀ i, i < n → -128 ≤ f i ∧ f i ≤ 127) : zMet (S := Nat) lau yJ6_copyOfRangeByte cJ6_copyOfRangeByte 5 (some (.array .byte)) 1 24 1 7 s0 G sz [.ref bs, .int (iZ 0), .int (iZ (n : Int))] ([(bs, .inl (G.2 1, 16, .inl (zA f)))]) (fun a => some (.ref a)) (fun _ => True) (fun a => [(bs, .inl (G.2 1, 16, .inl (zA f)))] ++ [(a, .inl (G.2 1, n, .inl (zA f)))]) := by
  refine zMet.of (by decide) (Nat.le_of_ble_eq_true rfl) ?_
  intro pg ev s1 mi ar bl me cd ls Q as0 hC hH hl hQ hsz
  generalize s1.heap = H at hH ⊢
  generalize ([] : List Loc) = locs at hH ⊢
  have hl : lv_has ls 5 [(0, .ref bs), (1, .int (iZ 0)), (2, .int (iZ (n : Int)))] := hl
  refine z_iload_n hC 0 hl dJ6_copyOfRangeByte_0 rfl 1 rfl ?_
  refine z_iload_n hC 1 hl dJ6_copyOfRangeByte_1 rfl 2 rfl ?_
  refine zp_back (zp_runS hC hH.2.2 hl.1 zp_nil 2 (As := [.int (iZ 0), .int (iZ (n : Int))]) (rest := []) (u_J6_checkLength lau s0 G n (by omega)) (lw_S q536 q537 q103 q538) ⟨by decide, by decide, by decide +kernel⟩ rfl rfl (Nat.le_of_ble_eq_true rfl) ⟨Nat.le_of_ble_eq_true rfl, Nat.le_of_ble_eq_true rfl⟩ ⟨by first | decide | omega, by first | decide | omega⟩ dJ6_copyOfRangeByte_2) (fun _ _ => ?_)
  refine z_st (st' := []) rfl ?_
  refine z_iload_n hC 5 hl dJ6_copyOfRangeByte_5 rfl 2 rfl ?_
  refine z_iload_n hC 6 hl dJ6_copyOfRangeByte_6 rfl 1 rfl ?_
  refine z_isub (e := (n : Int)) hC 7 dJ6_copyOfRangeByte_7 (by omega) ?_
  refine z_istore_n (lv' := [(3, .int (iZ (n : Int))), (0, .ref bs), (1, .int (iZ 0)), (2, .int (iZ (n : Int)))]) hC 8 hl dJ6_copyOfRangeByte_8 rfl (by decide) rfl (fun ls hl => ?_)
  refine z_iload_n hC 9 hl dJ6_copyOfRangeByte_9 rfl 0 rfl ?_
  refine z_newb hC hH 10 n rfl (by omega) ⟨Nat.le_of_ble_eq_true rfl, by show 0 + n ≤ 7; omega⟩ dJ6_copyOfRangeByte_10 (fun a H hH => ?_)
  have hH : zH s0 s1 G as0 ([(bs, .inl (G.2 1, 16, .inl (zA f)))] ++ [(a, .inl (G.2 1, n, .inl (zA (fun _ => 0))))]) H locs := hH
  refine z_astore (lv' := [(4, .ref a), (3, .int (iZ (n : Int))), (0, .ref bs), (1, .int (iZ 0)), (2, .int (iZ (n : Int)))]) hC 12 hl dJ6_copyOfRangeByte_12 (by decide) rfl (fun ls hl => ?_)
  refine z_aload_n hC 14 hl dJ6_copyOfRangeByte_14 rfl 2 rfl ?_
  refine z_iload_n hC 15 hl dJ6_copyOfRangeByte_15 rfl 3 rfl ?_
  refine z_aload hC 16 hl dJ6_copyOfRangeByte_16 0 rfl ?_
  refine z_iconst hC 18 dJ6_copyOfRangeByte_18 ?_
  refine z_aload_n hC 19 hl dJ6_copyOfRangeByte_19 rfl 2 rfl ?_
  refine zp_alen hC hH.1 20 0 1 rfl rfl dJ6_copyOfRangeByte_20 ?_
  refine z_iload_n hC 21 hl dJ6_copyOfRangeByte_21 rfl 3 rfl ?_
  refine z_isub (e := 16) hC 22 dJ6_copyOfRangeByte_22 (by omega) ?_
  refine z_iload_n hC 23 hl dJ6_copyOfRangeByte_23 rfl 1 rfl ?_
  refine z_min hC hl.1 24 q451 dJ6_copyOfRangeByte_24 (by omega) (by omega) ⟨Nat.le_of_ble_eq_true rfl, Nat.le_of_ble_eq_true rfl⟩ ⟨by show 0 + 1 ≤ 1; omega, by show 0 + n ≤ 7; omega⟩ ?_
  rw [show zmin 16 (n : Int) = (n : Int) from by unfold zmin; split <;> omega]
  refine z_copyb hC hH hl.1 27 0 1 n rfl rfl (by omega) (by omega) (Nat.le_refl _) hf (h := f) (fun j hj => (if_pos hj).symm) rfl q454 ⟨Nat.le_of_ble_eq_true rfl, Nat.le_of_ble_eq_true rfl⟩ dJ6_copyOfRangeByte_27 (fun H locs hH => ?_)
  have hH : zH s0 s1 G as0 ([(bs, .inl (G.2 1, 16, .inl (zA f)))] ++ [(a, .inl (G.2 1, n, .inl (zA f)))]) H locs := hH
  refine z_aload hC 30 hl dJ6_copyOfRangeByte_30 0 rfl ?_
  exact z_arrret hC hH hQ 32 a dJ6_copyOfRangeByte_32 rfl trivial rfl (by show 0 + 1 ≤ 1; omega) (by show 0 + n ≤ 7; omega)

set_option maxHeartbeats 8000000 in
theorem m_J6_copyOfRange (lau : Launch) (s0 : State) (G : zG) (sz : Nat) (bs n : Nat) (f : Nat → Int) (hn : n ≤ 7) (hf : ∀ i, i < n → -128 ≤ f i ∧ f i ≤ 127) : zMet (S := Nat) lau yJ6_copyOfRange cJ6_copyOfRange 3 (some (.array .byte)) 2 60 1 7 s0 G sz [.ref bs, .int (iZ 0), .int (iZ (n : Int))] ([(bs, .inl (G.2 1, 16, .inl (zA f)))]) (fun a => some (.ref a)) (fun _ => True) (fun a => [(bs, .inl (G.2 1, 16, .inl (zA f)))] ++ [(a, .inl (G.2 1, n, .inl (zA f)))]) := by
  refine zMet.of (by decide) (Nat.le_of_ble_eq_true rfl) ?_
  intro pg ev s1 mi ar bl me cd ls Q as0 hC hH hl hQ hsz
  generalize s1.heap = H at hH ⊢
  generalize ([] : List Loc) = locs at hH ⊢
  have hl : lv_has ls 3 [(0, .ref bs), (1, .int (iZ 0)), (2, .int (iZ (n : Int)))] := hl
  refine z_iload_n hC 0 hl dJ6_copyOfRange_0 rfl 1 rfl ?_
  refine z_if_ne_f hC 1 10 dJ6_copyOfRange_1 rfl (by omega) (by omega) ?_
  refine z_iload_n hC 4 hl dJ6_copyOfRange_4 rfl 2 rfl ?_
  refine z_aload_n hC 5 hl dJ6_copyOfRange_5 rfl 0 rfl ?_
  refine zp_alen hC hH.1 6 0 1 rfl rfl dJ6_copyOfRange_6 ?_
  refine z_icmp_eq_f hC 7 17 dJ6_copyOfRange_7 rfl (by omega) (by omega) (by omega) ?_
  refine z_aload_n hC 10 hl dJ6_copyOfRange_10 rfl 0 rfl ?_
  refine z_iload_n hC 11 hl dJ6_copyOfRange_11 rfl 1 rfl ?_
  refine z_iload_n hC 12 hl dJ6_copyOfRange_12 rfl 2 rfl ?_
  refine z_subN (z_runS hC hH.2.2 hl.1 hH.1 hH.2.1 3 (As := [.ref bs, .int (iZ 0), .int (iZ (n : Int))]) (rest := []) (m_J6_copyOfRangeByte lau s0 G _ bs n f hn hf) (lw_S q533 q534 q103 q535) ⟨by decide, by decide, by decide +kernel⟩ rfl rfl (Nat.le_of_ble_eq_true rfl) ⟨Nat.le_of_ble_eq_true rfl, Nat.le_of_ble_eq_true rfl⟩ ⟨Nat.le_of_ble_eq_true rfl, Nat.le_of_ble_eq_true rfl⟩ dJ6_copyOfRange_13) hH [0] rfl (by decide) (fun _ => rfl) (fun a H locs hpost hH => ?_)
  refine z_st (st' := [.ref a]) rfl ?_
  exact z_arrret hC hH hQ 16 a dJ6_copyOfRange_16 rfl trivial rfl (Nat.le_of_ble_eq_true rfl) (Nat.le_of_ble_eq_true rfl)

set_option maxHeartbeats 8000000 in
theorem m_J2_init_2 (lau : Launch) (s0 : State) (G : zG) (sz : Nat) (hcs : zCS s0) (q sb bs n : Nat) (f : Nat → Int) (hn : n ≤ 7) (hf : ∀ i, i < n → -128 ≤ f i ∧ f i ≤ 127) : zMet (S := Nat) lau yJ2_init_2 cJ2_init_2 5 (none) 3 93 1 7 s0 G sz [.ref q, .ref sb, .null] ([(q, .inr (17, [.null, .int (0), .int (0), .int (0)]))] ++ sbW G sb bs n f) (fun a => (none : Option Value)) (fun _ => True) (fun a => [(q, .inr (17, [.ref a, .int (iZ 0), .int (0), .int (0)]))] ++ sbW G sb bs n f ++ [(a, .inl (G.2 1, n, .inl (zA f)))]) := by
  refine zMet.ofI (by decide) (Nat.le_of_ble_eq_true rfl) ?_
  intro pg ev s1 mi ar bl me cd ls Q as0 hC hin hH hl hQ hsz
  have hin : me.name = "<init>" := hin
  generalize s1.heap = H at hH ⊢
  generalize ([] : List Loc) = locs at hH ⊢
  have hl : lv_has ls 5 [(0, .ref q), (1, .ref sb), (2, .null)] := hl
  have hH : zH s0 s1 G as0 ([(q, .inr (17, [.null, .int (0), .int (0), .int (0)]))] ++ [(sb, .inr (16, [.ref bs, .int (iZ 0), .int (0), .int (iZ (n : Int))])), (bs, .inl (G.2 1, 16, .inl (zA f)))]) H locs := hH
  refine z_aload_n hC 0 hl dJ2_init_2_0 rfl 0 rfl ?_
  refine z_objI hC hl.1 1 q522 ⟨Nat.le_of_ble_eq_true rfl, Nat.le_of_ble_eq_true rfl⟩ dJ2_init_2_1 ?_
  refine z_aload_n hC 4 hl dJ2_init_2_4 rfl 1 rfl ?_
  refine zp_back (zp_runU hC hH.2.2 hl.1 (z_subP hH.1 [1] rfl) 0 (As := []) (rest := []) (u_J0_getValue lau s0 G sb bs (.int (iZ (n : Int)))) (lw_U q523 q525 q526 q524 q97 q527) rfl ⟨by decide, by decide, by decide +kernel⟩ (q0 := 0) (ci := 16) rfl rfl rfl rfl (Nat.le_of_ble_eq_true rfl) ⟨Nat.le_of_ble_eq_true rfl, Nat.le_of_ble_eq_true rfl⟩ ⟨by first | decide | omega, by first | decide | omega⟩ dJ2_init_2_5) (fun _ _ => ?_)
  refine z_st (st' := [.ref bs]) rfl ?_
  refine z_astore_n (lv' := [(3, .ref bs), (0, .ref q), (1, .ref sb), (2, .null)]) hC 8 hl dJ2_init_2_8 rfl (by decide) rfl (fun ls hl => ?_)
  refine z_aload_n hC 9 hl dJ2_init_2_9 rfl 2 rfl ?_
  refine zp_back (zp_runO hC hH.2.2 hl.1 (z_subP hH.1 [1] rfl) 0 (As := []) (rest := []) (u_J1_length lau s0 G sb bs n) (lw_O q528 q1973 q413 q1978 q409 q98 q411) q414 ⟨by decide, by decide, by decide +kernel⟩ (q0 := 0) (ci := 16) rfl rfl rfl rfl (Nat.le_of_ble_eq_true rfl) ⟨Nat.le_of_ble_eq_true rfl, Nat.le_of_ble_eq_true rfl⟩ ⟨by first | decide | omega, by first | decide | omega⟩ dJ2_init_2_10) (fun _ _ => ?_)
  refine z_st (st' := [.int (iZ (n : Int))]) rfl ?_
  refine z_istore (lv' := [(4, .int (iZ (n : Int))), (3, .ref bs), (0, .ref q), (1, .ref sb), (2, .null)]) hC 13 hl dJ2_init_2_13 (by decide) rfl (fun ls hl => ?_)
  refine z_aload_n hC 15 hl dJ2_init_2_15 rfl 3 rfl ?_
  refine zp_back (zp_runU hC hH.2.2 hl.1 (z_subP hH.1 [1] rfl) 0 (As := []) (rest := []) (u_J0_isLatin1 lau s0 G hcs sb bs (.int (0)) (.int (iZ (n : Int)))) (lw_U q529 q459 q460 q458 q97 q461) rfl ⟨by decide, by decide, by decide +kernel⟩ (q0 := 0) (ci := 16) rfl rfl rfl rfl (Nat.le_of_ble_eq_true rfl) ⟨Nat.le_of_ble_eq_true rfl, Nat.le_of_ble_eq_true rfl⟩ ⟨by first | decide | omega, by first | decide | omega⟩ dJ2_init_2_16) (fun _ _ => ?_)
  refine z_st (st' := [.int (iZ 1)]) rfl ?_
  refine z_if_eq_f hC 19 41 dJ2_init_2_19 rfl (by omega) (by omega) ?_
  refine z_aload_n hC 22 hl dJ2_init_2_22 rfl 2 rfl ?_
  refine z_iconst hC 23 dJ2_init_2_23 ?_
  refine z_putF hC hin hH 24 tyJ2 in_J2 tyJ2_ok nmJ2 rfl 1 (by decide) q554 0 rfl rfl rfl rfl rfl (Nat.le_of_ble_eq_true rfl) rfl dJ2_init_2_24 (fun H locs hH => ?_)
  have hH : zH s0 s1 G as0 ([(q, .inr (17, [.null, .int (iZ 0), .int (0), .int (0)]))] ++ [(sb, .inr (16, [.ref bs, .int (iZ 0), .int (0), .int (iZ (n : Int))])), (bs, .inl (G.2 1, 16, .inl (zA f)))]) H locs := hH
  refine z_aload_n hC 27 hl dJ2_init_2_27 rfl 2 rfl ?_
  refine z_aload_n hC 28 hl dJ2_init_2_28 rfl 1 rfl ?_
  refine z_iconst hC 29 dJ2_init_2_29 ?_
  refine z_iload hC 30 hl dJ2_init_2_30 0 rfl ?_
  refine z_subN (z_runS hC hH.2.2 hl.1 (z_subP hH.1 [2] rfl) (z_subD hH.2.1 [2] (by decide) rfl) 3 (As := [.ref bs, .int (iZ 0), .int (iZ (n : Int))]) (rest := [.ref q]) (m_J6_copyOfRange lau s0 G _ bs n f hn hf) (lw_S q530 q531 q103 q532) ⟨by decide, by decide, by decide +kernel⟩ rfl rfl (Nat.le_of_ble_eq_true rfl) ⟨Nat.le_of_ble_eq_true rfl, Nat.le_of_ble_eq_true rfl⟩ ⟨Nat.le_of_ble_eq_true rfl, Nat.le_of_ble_eq_true rfl⟩ dJ2_init_2_32) hH [2] rfl (by decide) (fun _ => rfl) (fun a H locs hpost hH => ?_)
  refine z_st (st' := [.ref a, .ref q]) rfl ?_
  have hH : zH s0 s1 G as0 ([(q, .inr (17, [.null, .int (iZ 0), .int (0), .int (0)]))] ++ [(sb, .inr (16, [.ref bs, .int (iZ 0), .int (0), .int (iZ (n : Int))])), (bs, .inl (G.2 1, 16, .inl (zA f)))] ++ [(a, .inl (G.2 1, n, .inl (zA f)))]) H locs := hH
  refine z_putF hC hin hH 35 tyJ2 in_J2 tyJ2_ok nmJ2 rfl 0 (by decide) q553 0 rfl rfl rfl rfl rfl (Nat.le_of_ble_eq_true rfl) rfl dJ2_init_2_35 (fun H locs hH => ?_)
  have hH : zH s0 s1 G as0 ([(q, .inr (17, [.ref a, .int (iZ 0), .int (0), .int (0)]))] ++ [(sb, .inr (16, [.ref bs, .int (iZ 0), .int (0), .int (iZ (n : Int))])), (bs, .inl (G.2 1, 16, .inl (zA f)))] ++ [(a, .inl (G.2 1, n, .inl (zA f)))]) H locs := hH
  refine z_goto hC 38 97 dJ2_init_2_38 rfl ?_
  exact z_vret hC hH hQ 97 a dJ2_init_2_97 rfl trivial rfl (Nat.le_of_ble_eq_true rfl) (Nat.le_of_ble_eq_true rfl)

set_option maxHeartbeats 8000000 in
theorem m_J2_init (lau : Launch) (s0 : State) (G : zG) (sz : Nat) (hcs : zCS s0) (q sb bs n : Nat) (f : Nat → Int) (hn : n ≤ 7) (hf : ∀ i, i < n → -128 ≤ f i ∧ f i ≤ 127) : zMet (S := Nat) lau yJ2_init cJ2_init 2 (none) 4 123 1 7 s0 G sz [.ref q, .ref sb] ([(q, .inr (17, [.null, .int (0), .int (0), .int (0)]))] ++ sbW G sb bs n f) (fun a => (none : Option Value)) (fun _ => True) (fun a => [(q, .inr (17, [.ref a, .int (iZ 0), .int (0), .int (0)]))] ++ sbW G sb bs n f ++ [(a, .inl (G.2 1, n, .inl (zA f)))]) := by
  refine zMet.of (by decide) (Nat.le_of_ble_eq_true rfl) ?_
  intro pg ev s1 mi ar bl me cd ls Q as0 hC hH hl hQ hsz
  generalize s1.heap = H at hH ⊢
  generalize ([] : List Loc) = locs at hH ⊢
  have hl : lv_has ls 2 [(0, .ref q), (1, .ref sb)] := hl
  refine z_aload_n hC 0 hl dJ2_init_0 rfl 0 rfl ?_
  refine z_aload_n hC 1 hl dJ2_init_1 rfl 1 rfl ?_
  refine lv_null hC.1.1 hC.1.2.1 dJ2_init_2 ?_
  refine z_subN (z_runI hC hH.2.2 hl.1 hH.1 hH.2.1 2 (As := [.ref sb, .null]) (rest := []) (m_J2_init_2 lau s0 G _ hcs q sb bs n f hn hf) (lw_meth q521) q519 ⟨q99, q520⟩ rfl ⟨by decide, by decide, by decide +kernel⟩ rfl rfl (Nat.le_of_ble_eq_true rfl) ⟨Nat.le_of_ble_eq_true rfl, Nat.le_of_ble_eq_true rfl⟩ ⟨Nat.le_of_ble_eq_true rfl, Nat.le_of_ble_eq_true rfl⟩ dJ2_init_3) hH [0, 1, 2] rfl (by decide) (fun _ => rfl) (fun a H locs hpost hH => ?_)
  refine z_st (st' := []) rfl ?_
  exact z_vret hC hH hQ 6 a dJ2_init_6 rfl trivial rfl (Nat.le_of_ble_eq_true rfl) (Nat.le_of_ble_eq_true rfl)

set_option maxHeartbeats 8000000 in
theorem m_J1_toString (lau : Launch) (s0 : State) (G : zG) (sz : Nat) (hcs : zCS s0) (sb bs n : Nat) (f : Nat → Int) (hn : n ≤ 7) (hf : ∀ i, i < n → -128 ≤ f i ∧ f i ≤ 127) : zMet (S := Nat × Nat) lau yJ1_toString cJ1_toString 1 (some (.object "java/lang/String")) 5 150 2 11 s0 G sz [.ref sb] (sbW G sb bs n f) (fun u => some (.ref u.1)) (fun _ => True) (fun u => sbW G sb bs n f ++ stW G u.1 u.2 n f) := by
  refine zMet.of (by decide) (Nat.le_of_ble_eq_true rfl) ?_
  intro pg ev s1 mi ar bl me cd ls Q as0 hC hH hl hQ hsz
  generalize s1.heap = H at hH ⊢
  generalize ([] : List Loc) = locs at hH ⊢
  have hl : lv_has ls 1 [(0, .ref sb)] := hl
  refine z_new (ci := 17) (N := 4) hC hH 0 [.null, .int (0), .int (0), .int (0)] tyJ2 in_J2 tyJ2_ok rfl q514 q515 q99 (fun j hj => by rcases (show j = 0 ∨ j = 1 ∨ j = 2 ∨ j = 3 from by omega) with rfl | rfl | rfl | rfl <;> rfl) ⟨Nat.le_of_ble_eq_true rfl, Nat.le_of_ble_eq_true rfl⟩ dJ1_toString_0 (fun q H hH => ?_)
  have hH : zH s0 s1 G as0 ((sbW G sb bs n f) ++ [(q, .inr (17, [.null, .int (0), .int (0), .int (0)]))]) H locs := hH
  refine z_dup hC 3 dJ1_toString_3 rfl ?_
  refine z_aload_n hC 4 hl dJ1_toString_4 rfl 0 rfl ?_
  refine z_subN (wc := [(q, .inr (17, [.null, .int (0), .int (0), .int (0)]))] ++ sbW G sb bs n f) (w1 := fun a => [(q, .inr (17, [.ref a, .int (iZ 0), .int (0), .int (0)]))] ++ sbW G sb bs n f) (z_runI hC hH.2.2 hl.1 (z_subP hH.1 [2, 0, 1] rfl) (z_subD hH.2.1 [2, 0, 1] (by decide) rfl) 1 (As := [.ref sb]) (rest := [.ref q]) (m_J2_init lau s0 G _ hcs q sb bs n f hn hf) (lw_meth q518) q516 ⟨q99, q517⟩ rfl ⟨by decide, by decide, by decide +kernel⟩ rfl rfl (Nat.le_of_ble_eq_true rfl) ⟨by decide, by decide⟩ ⟨by decide, by decide⟩ dJ1_toString_5) hH [2, 0, 1] rfl (by decide) (fun _ => rfl) (fun a H locs hpost hH => ?_)
  refine z_st (st' := [.ref q]) rfl ?_
  have hH : zH s0 s1 G as0 (sbW G sb bs n f ++ stW G q a n f) H locs := hH
  exact z_aret hC hH hQ 8 (q, a) dJ1_toString_8 rfl trivial rfl (Nat.le_of_ble_eq_true rfl) (Nat.le_of_ble_eq_true rfl)

set_option maxHeartbeats 4000000 in
theorem u_J7_equals (lau : Launch) (s0 : State) (G : zG) (a k : Nat) (g : Nat → Nat) (hg : ∀ j, j < k → g j < 128) (hk : k ≤ 7) (va n : Nat) (f : Nat → Nat) (hT : va_T .byte va n (fun j => .int (iZ (f j : Int))) (fun q => s0.heap.size ≤ q) s0 s0.heap) (hn : n ≤ 100) (hf : ∀ j, j < n → f j < 128) : zPur (S := Nat) lau yJ7_equals cJ7_equals 3 (some .boolean) 0 0 s0 G [.ref a, .ref va] [(a, .inl (G.2 1, k, .inl (zA (fun j => (g j : Int)))))] (fun r => some (.int (iZ (r : Int)))) (fun r => (r = 0 ∨ r = 1) ∧ (r = 1 ↔ (k = n ∧ ∀ j, j < k → g j = f j))) := by
  refine zPur.of (by decide) (Nat.le_of_ble_eq_true rfl) ?_
  intro pg ev s1 mi ar bl me cd ls Q hC hP hl hQ
  have hl : lv_has ls 3 [(0, .ref a), (1, .ref va)] := hl
  refine z_aload_n hC 0 hl dJ7_equals_0 rfl 0 rfl ?_
  refine zp_alen hC hP 1 0 1 rfl rfl dJ7_equals_1 ?_
  refine z_aload_n hC 2 hl dJ7_equals_2 rfl 1 rfl ?_
  refine zp_tlen hC zS0 3 hT dJ7_equals_3 ?_
  by_cases he : k = n

  · have he := he
    refine z_icmp_ne_f hC 4 34 dJ7_equals_4 rfl (by omega) (by omega) (by omega) ?_
    refine z_iconst hC 7 dJ7_equals_7 ?_
    refine z_istore_n (lv' := [(2, .int (iZ ((0 : Nat) : Int))), (0, .ref a), (1, .ref va)]) hC 8 hl dJ7_equals_8 rfl (by decide) rfl (fun ls hl => ?_)
    have main : ∀ (d i : Nat) (ls : Array Slot), lv_has ls 3 [(2, .int (iZ (i : Int))), (0, .ref a), (1, .ref va)] → i + d = k → (∀ j, j < i → g j = f j) → W pg lau ev (zRm 0 0 0 0) s1 mi ar bl me cd s1.heap [] 0 0 Q (F0 mi 9 ls []) := by
      intro d
      induction d with
      | zero =>
        intro i ls hl hid hall
        refine z_iload_n hC 9 hl dJ7_equals_9 rfl 0 rfl ?_
        refine z_aload_n hC 10 hl dJ7_equals_10 rfl 1 rfl ?_
        refine zp_alen hC hP 11 0 1 rfl rfl dJ7_equals_11 ?_
        refine z_icmp_ge_t hC 12 32 dJ7_equals_12 rfl (by omega) (by omega) (by omega) ?_
        refine z_iconst hC 32 dJ7_equals_32 ?_
        exact zp_zret hC hQ 33 1 dJ7_equals_33 (by rfl) rfl ⟨Or.inr rfl, ⟨fun _ => ⟨he, fun j hj => hall j (by omega)⟩, fun _ => rfl⟩⟩
      | succ d ih =>
        intro i ls hl hid hall
        have g9 := hg i (by omega)
        have f9 := hf i (by omega)
        refine z_iload_n hC 9 hl dJ7_equals_9 rfl 0 rfl ?_
        refine z_aload_n hC 10 hl dJ7_equals_10 rfl 1 rfl ?_
        refine zp_alen hC hP 11 0 1 rfl rfl dJ7_equals_11 ?_
        refine z_icmp_ge_f hC 12 32 dJ7_equals_12 rfl (by omega) (by omega) (by omega) ?_
        refine z_aload_n hC 15 hl dJ7_equals_15 rfl 1 rfl ?_
        refine z_iload_n hC 16 hl dJ7_equals_16 rfl 0 rfl ?_
        refine zp_bald (x := (g i : Int)) hC hP 17 0 i rfl (by omega) rfl (by omega) rfl dJ7_equals_17 ?_
        refine z_aload_n hC 18 hl dJ7_equals_18 rfl 2 rfl ?_
        refine z_iload_n hC 19 hl dJ7_equals_19 rfl 0 rfl ?_
        refine zp_tb (x := (f i : Int)) hC zS0 20 i hT (by omega) rfl (by omega) rfl dJ7_equals_20 ?_
        by_cases hq : g i = f i
        · refine z_icmp_eq_t hC 21 26 dJ7_equals_21 rfl (by omega) (by omega) (by omega) ?_
          refine z_iinc (lv' := [(2, .int (iZ ((i + 1 : Nat) : Int))), (0, .ref a), (1, .ref va)]) hC 26 hl dJ7_equals_26 0 rfl (by omega) (by decide) rfl (fun ls hl => ?_)
          refine z_goto hC 29 9 dJ7_equals_29 rfl ?_
          exact ih (i + 1) ls hl (by omega) (fun j hj => (Nat.lt_or_eq_of_le (Nat.lt_succ_iff.mp hj)).elim (hall j) (fun h => h ▸ hq))
        · refine z_icmp_eq_f hC 21 26 dJ7_equals_21 rfl (by omega) (by omega) (by omega) ?_
          refine z_iconst hC 24 dJ7_equals_24 ?_
          exact zp_zret hC hQ 25 0 dJ7_equals_25 (by rfl) rfl ⟨Or.inl rfl, ⟨fun h => absurd h (by decide), fun h => absurd (h.2 i (by omega)) hq⟩⟩
    exact main k 0 ls hl (by omega) (fun j hj => absurd hj (Nat.not_lt_zero _))
  · refine z_icmp_ne_t hC 4 34 dJ7_equals_4 rfl (by omega) (by omega) (by omega) ?_
    refine z_iconst hC 34 dJ7_equals_34 ?_
    exact zp_zret hC hQ 35 0 dJ7_equals_35 (by rfl) rfl ⟨Or.inl rfl, ⟨fun h => absurd h (by decide), fun h => absurd h.1 he⟩⟩

set_option maxHeartbeats 4000000 in
theorem u_J2_equals (lau : Launch) (s0 : State) (G : zG) (q a k : Nat) (g : Nat → Nat) (hg : ∀ j, j < k → g j < 128) (hk : k ≤ 7) (q2 va n : Nat) (f : Nat → Nat) (hs : zStr s0 q2 va n f) (hcs : zCS s0) (hne : q ≠ q2) : zPur (S := Nat) lau yJ2_equals cJ2_equals 3 (some .boolean) 1 22 s0 G [.ref q, .ref q2] (stW G q a k (fun j => (g j : Int))) (fun r => some (.int (iZ (r : Int)))) ((fun r => (r = 0 ∨ r = 1) ∧ (r = 1 ↔ (k = n ∧ ∀ j, j < k → g j = f j)))) := by
  refine zPur.of (by decide) (Nat.le_of_ble_eq_true rfl) ?_
  intro pg ev s1 mi ar bl me cd ls Q hC hP hl hQ
  have hl : lv_has ls 3 [(0, .ref q), (1, .ref q2)] := hl
  refine z_aload_n hC 0 hl dJ2_equals_0 rfl 0 rfl ?_
  refine z_aload_n hC 1 hl dJ2_equals_1 rfl 1 rfl ?_
  refine z_acmp_nt hC 2 7 dJ2_equals_2 rfl hne ?_
  refine z_aload_n hC 7 hl dJ2_equals_7 rfl 1 rfl ?_
  refine zp_instO hC zS0 8 (zO_up (as0 := []) hC hs.1) q581 dJ2_equals_8 ?_
  refine z_if_eq_f hC 11 54 dJ2_equals_11 rfl (by omega) (by omega) ?_
  refine z_aload_n hC 14 hl dJ2_equals_14 rfl 1 rfl ?_
  refine zp_castO hC zS0 15 (zO_up (as0 := []) hC hs.1) q581 dJ2_equals_15 ?_
  refine z_astore_n (lv' := [(2, .ref q2), (0, .ref q), (1, .ref q2)]) hC 18 hl dJ2_equals_18 rfl (by decide) rfl (fun ls hl => ?_)
  refine zp_gets hC zS0 19 hcs q539 dJ2_equals_19 ?_
  refine z_if_eq_f hC 22 36 dJ2_equals_22 rfl (by omega) (by omega) ?_
  refine z_aload_n hC 25 hl dJ2_equals_25 rfl 1 rfl ?_
  refine zp_get (v := .int (iZ 0)) hC hP 26 in_J2 rfl 1 (by decide) q554 0 rfl rfl dJ2_equals_26 ?_
  refine z_aload_n hC 29 hl dJ2_equals_29 rfl 0 rfl ?_
  refine zp_getO hC zS0 30 (zOF_up (as0 := []) hC hs.2.1) q554 dJ2_equals_30 ?_
  refine z_icmp_ne_f hC 33 54 dJ2_equals_33 rfl (by omega) (by omega) (by omega) ?_
  refine z_aload_n hC 36 hl dJ2_equals_36 rfl 1 rfl ?_
  refine zp_get (v := .ref a) hC hP 37 in_J2 rfl 0 (by decide) q553 0 rfl rfl dJ2_equals_37 ?_
  refine z_aload_n hC 40 hl dJ2_equals_40 rfl 0 rfl ?_
  refine zp_getO hC zS0 41 (zOF_up (as0 := []) hC hs.2.2.1) q553 dJ2_equals_41 ?_
  refine zp_back (zp_runS hC zS0 hl.1 (z_subP hP [1] rfl) 2 (As := [.ref a, .ref va]) (rest := []) (u_J7_equals lau s0 G a k g hg hk va n f hs.2.2.2.1 hs.2.2.2.2.1 hs.2.2.2.2.2) (lw_S q582 q583 q105 q584) ⟨by decide, by decide, by decide +kernel⟩ rfl rfl (Nat.le_of_ble_eq_true rfl) ⟨Nat.le_of_ble_eq_true rfl, Nat.le_of_ble_eq_true rfl⟩ ⟨by first | decide | omega, by first | decide | omega⟩ dJ2_equals_44) (fun r hr => ?_)
  refine z_st (st' := [.int (iZ (r : Int))]) rfl ?_
  rcases hr.1 with rfl | rfl
  · refine z_if_eq_t hC 47 54 dJ2_equals_47 rfl (by omega) (by omega) ?_
    refine z_iconst hC 54 dJ2_equals_54 ?_
    exact zp_zret hC hQ 55 0 dJ2_equals_55 (by rfl) rfl hr
  · refine z_if_eq_f hC 47 54 dJ2_equals_47 rfl (by omega) (by omega) ?_
    refine z_iconst hC 50 dJ2_equals_50 ?_
    refine z_goto hC 51 55 dJ2_equals_51 rfl ?_
    exact zp_zret hC hQ 55 1 dJ2_equals_55 (by rfl) rfl hr

