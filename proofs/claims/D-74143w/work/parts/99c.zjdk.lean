/-! the JDK's own methods on a text of the premise -/
set_option maxRecDepth 100000
theorem zshr_00 : ∀ n : Nat, n < 2000 → zshr (n : Int) 0 = (n : Int) := by decide +kernel
theorem zand_255 : ∀ n : Nat, n < 256 → zand (n : Int) 255 = (n : Int) := by decide +kernel
section ZJ0
variable {pg : Program} {l : Launch} {ev : Env} {R : Room} {s0 s : State} {m : MethodId} {ar : Array Value} {bl : List Frame} {me : Method} {c : Code} {G : zG} {cc : ByteArray} {nL : Nat} {own : String} {ls : Array Slot} {Q : State → Prop}
theorem zp_vret {S : Type} {res : S → Option Value} {P : S → Prop} (C : zC pg s0 s m ar me c G cc nL own none) (hQ : zPd Q bl ar s res P) (pc : Nat) (u : S) (hdg : decode cc pc = .ok (.return_, 1)) (hres : res u = none) (hP : P u) : W pg l ev R s m ar bl me c s.heap [] 0 0 Q (F0 m pc ls []) := by
  cases hQ
  exact W.vret C.1.1 C.1.2.1 C.2.1 (fun t ht _ => ⟨u, by rw [hres], hP, ht⟩) (fun _ h => by cases h) hdg C.2.2.1
end ZJ0
set_option maxHeartbeats 4000000 in
theorem u_J2_coder_s (lau : Launch) (s0 : State) (G : zG) (q va n : Nat) (f : Nat → Nat) (hs : zStr s0 q va n f) (hcs : zCS s0) : zPur (S := Unit) lau yJ2_coder cJ2_coder 1 (some .byte) 0 0 s0 G [.ref q] [] (fun _ => some (.int (iZ 0))) (fun _ => True) := by
  refine zPur.of (by decide) (Nat.le_of_ble_eq_true rfl) ?_
  intro pg ev s1 mi ar bl me cd ls Q hC hP hl hQ
  have hl : lv_has ls 1 [(0, .ref q)] := hl
  refine zp_gets hC zS0 0 hcs q539 dJ2_coder_0 ?_
  refine z_if_eq_f hC 3 13 dJ2_coder_3 rfl (by omega) (by omega) ?_
  refine z_aload_n hC 6 hl dJ2_coder_6 rfl 0 rfl ?_
  refine zp_getO hC zS0 7 (zOF_up (as0 := []) hC hs.2.1) q554 dJ2_coder_7 ?_
  refine z_goto hC 10 14 dJ2_coder_10 rfl ?_
  exact zp_nret hC hQ 14 () dJ2_coder_14 (by rfl) rfl trivial

set_option maxHeartbeats 4000000 in
theorem u_J2_length_s (lau : Launch) (s0 : State) (G : zG) (q va n : Nat) (f : Nat → Nat) (hs : zStr s0 q va n f) (hcs : zCS s0) : zPur (S := Unit) lau yJ2_length cJ2_length 1 (some .int) 1 20 s0 G [.ref q] [] (fun _ => some (.int (iZ (n : Int)))) (fun _ => True) := by
  refine zPur.of (by decide) (Nat.le_of_ble_eq_true rfl) ?_
  intro pg ev s1 mi ar bl me cd ls Q hC hP hl hQ
  have hl : lv_has ls 1 [(0, .ref q)] := hl
  refine z_aload_n hC 0 hl dJ2_length_0 rfl 0 rfl ?_
  refine zp_getO hC zS0 1 (zOF_up (as0 := []) hC hs.2.2.1) q553 dJ2_length_1 ?_
  refine zp_tlen hC zS0 4 hs.2.2.2.1 dJ2_length_4 ?_
  refine z_aload_n hC 5 hl dJ2_length_5 rfl 0 rfl ?_
  refine zp_back (zp_runVO hC zS0 hl.1 (zO_up (as0 := []) hC hs.1) 0 (As := []) (rest := [.int (iZ (n : Int))]) (u_J2_coder_s lau s0 G q va n f hs hcs) (lw_V q1579 q1580 q1581 q99 q1582) ⟨rfl, by decide, by decide, by decide +kernel⟩ rfl rfl (Nat.le_of_ble_eq_true rfl) ⟨Nat.le_of_ble_eq_true rfl, Nat.le_of_ble_eq_true rfl⟩ ⟨by first | decide | omega, by first | decide | omega⟩ dJ2_length_6) (fun _ _ => ?_)
  refine z_st (st' := [.int (iZ 0), .int (iZ (n : Int))]) rfl ?_
  have hn9 := hs.2.2.2.2.1
  refine z_ishr (e := (n : Int)) hC 9 dJ2_length_9 (zshr_00 n (by omega)) ?_
  exact zp_iret hC hQ 10 () dJ2_length_10 rfl trivial

set_option maxHeartbeats 4000000 in
theorem u_J2_isLatin1_s (lau : Launch) (s0 : State) (G : zG) (q va n : Nat) (f : Nat → Nat) (hs : zStr s0 q va n f) (hcs : zCS s0) : zPur (S := Unit) lau yJ2_isLatin1 cJ2_isLatin1 1 (some .boolean) 0 0 s0 G [.ref q] [] (fun _ => some (.int (iZ 1))) (fun _ => True) := by
  refine zPur.of (by decide) (Nat.le_of_ble_eq_true rfl) ?_
  intro pg ev s1 mi ar bl me cd ls Q hC hP hl hQ
  have hl : lv_has ls 1 [(0, .ref q)] := hl
  refine zp_gets hC zS0 0 hcs q539 dJ2_isLatin1_0 ?_
  refine z_if_eq_f hC 3 17 dJ2_isLatin1_3 rfl (by omega) (by omega) ?_
  refine z_aload_n hC 6 hl dJ2_isLatin1_6 rfl 0 rfl ?_
  refine zp_getO hC zS0 7 (zOF_up (as0 := []) hC hs.2.1) q554 dJ2_isLatin1_7 ?_
  refine z_if_ne_f hC 10 17 dJ2_isLatin1_10 rfl (by omega) (by omega) ?_
  refine z_iconst hC 13 dJ2_isLatin1_13 ?_
  refine z_goto hC 14 18 dJ2_isLatin1_14 rfl ?_
  exact zp_zret hC hQ 18 () dJ2_isLatin1_18 (by rfl) rfl trivial

set_option maxHeartbeats 4000000 in
theorem u_J8_checkIndex (lau : Launch) (s0 : State) (G : zG) (i n : Nat) (hi : i < n) (hn : n ≤ 2000) (v : Value) (hlen : (lg_sl [.int (iZ (i : Int)), .int (iZ (n : Int)), v]).length ≤ 3) : zPur (S := Unit) lau yJ8_checkIndex cJ8_checkIndex 3 (some .int) 0 0 s0 G [.int (iZ (i : Int)), .int (iZ (n : Int)), v] [] (fun _ => some (.int (iZ (i : Int)))) (fun _ => True) := by
  refine zPur.of (by decide) (hlen) ?_
  intro pg ev s1 mi ar bl me cd ls Q hC hP hl hQ
  have hl : lv_has ls 3 [(0, .int (iZ (i : Int))), (1, .int (iZ (n : Int))), (2, v)] := hl
  refine z_iload_n hC 0 hl dJ8_checkIndex_0 rfl 0 rfl ?_
  refine z_if_lt_f hC 1 9 dJ8_checkIndex_1 rfl (by omega) (by omega) ?_
  refine z_iload_n hC 4 hl dJ8_checkIndex_4 rfl 0 rfl ?_
  refine z_iload_n hC 5 hl dJ8_checkIndex_5 rfl 1 rfl ?_
  refine z_icmp_lt_t hC 6 16 dJ8_checkIndex_6 rfl (by omega) (by omega) (by omega) ?_
  refine z_iload_n hC 16 hl dJ8_checkIndex_16 rfl 0 rfl ?_
  exact zp_iret hC hQ 17 () dJ8_checkIndex_17 rfl trivial

set_option maxHeartbeats 4000000 in
theorem u_J2_checkIndex (lau : Launch) (s0 : State) (G : zG) (i n : Nat) (hi : i < n) (hn : n ≤ 2000) (hsi : zSio s0) : zPur (S := Unit) lau yJ2_checkIndex cJ2_checkIndex 2 (none) 1 22 s0 G [.int (iZ (i : Int)), .int (iZ (n : Int))] [] (fun _ => none) (fun _ => True) := by
  refine zPur.of (by decide) (Nat.le_of_ble_eq_true rfl) ?_
  intro pg ev s1 mi ar bl me cd ls Q hC hP hl hQ
  have hl : lv_has ls 2 [(0, .int (iZ (i : Int))), (1, .int (iZ (n : Int)))] := hl
  obtain ⟨v, hv, hz⟩ := hsi
  have hlen : (lg_sl [.int (iZ (i : Int)), .int (iZ (n : Int)), v]).length ≤ 3 := by cases v <;> first | exact Nat.le_of_ble_eq_true rfl | cases hv
  refine z_iload_n hC 0 hl dJ2_checkIndex_0 rfl 0 rfl ?_
  refine z_iload_n hC 1 hl dJ2_checkIndex_1 rfl 1 rfl ?_
  refine zp_gets hC zS0 2 hz q484 dJ2_checkIndex_2 ?_
  refine zp_back (zp_runS hC zS0 hl.1 zp_nil 3 (As := [.int (iZ (i : Int)), .int (iZ (n : Int)), v]) (rest := []) (u_J8_checkIndex lau s0 G i n hi hn v hlen) (lw_S q507 q508 q106 q509) ⟨by decide, by decide, by decide +kernel⟩ rfl rfl (Nat.le_of_ble_eq_true rfl) ⟨Nat.le_of_ble_eq_true rfl, Nat.le_of_ble_eq_true rfl⟩ ⟨by first | decide | omega, by first | decide | omega⟩ dJ2_checkIndex_5) (fun _ _ => ?_)
  refine z_st (st' := [.int (iZ (i : Int))]) rfl ?_
  refine z_pop hC 8 dJ2_checkIndex_8 rfl ?_
  exact zp_vret hC hQ 9 () dJ2_checkIndex_9 rfl trivial

set_option maxHeartbeats 4000000 in
theorem u_J7_charAt_s (lau : Launch) (s0 : State) (G : zG) (q va n : Nat) (f : Nat → Nat) (hs : zStr s0 q va n f) (hcs : zCS s0) (hsi : zSio s0) (i : Nat) (hi : i < n) : zPur (S := Unit) lau yJ7_charAt cJ7_charAt 2 (some .char) 2 43 s0 G [.ref va, .int (iZ (i : Int))] [] (fun _ => some (.int (iZ (f i : Int)))) (fun _ => True) := by
  refine zPur.of (by decide) (Nat.le_of_ble_eq_true rfl) ?_
  intro pg ev s1 mi ar bl me cd ls Q hC hP hl hQ
  have hl : lv_has ls 2 [(0, .ref va), (1, .int (iZ (i : Int)))] := hl
  have hn9 := hs.2.2.2.2.1
  have hf9 := hs.2.2.2.2.2 i hi
  refine z_iload_n hC 0 hl dJ7_charAt_0 rfl 1 rfl ?_
  refine z_aload_n hC 1 hl dJ7_charAt_1 rfl 0 rfl ?_
  refine zp_tlen hC zS0 2 hs.2.2.2.1 dJ7_charAt_2 ?_
  refine zp_back (zp_runS hC zS0 hl.1 zp_nil 2 (As := [.int (iZ (i : Int)), .int (iZ (n : Int))]) (rest := []) (u_J2_checkIndex lau s0 G i n hi (by omega) hsi) (lw_S q1594 q505 q99 q506) ⟨by decide, by decide, by decide +kernel⟩ rfl rfl (Nat.le_of_ble_eq_true rfl) ⟨Nat.le_of_ble_eq_true rfl, Nat.le_of_ble_eq_true rfl⟩ ⟨by first | decide | omega, by first | decide | omega⟩ dJ7_charAt_3) (fun _ _ => ?_)
  refine z_st (st' := []) rfl ?_
  refine z_aload_n hC 6 hl dJ7_charAt_6 rfl 0 rfl ?_
  refine z_iload_n hC 7 hl dJ7_charAt_7 rfl 1 rfl ?_
  refine zp_tb (x := (f i : Int)) hC zS0 8 i hs.2.2.2.1 (by omega) rfl hi rfl dJ7_charAt_8 ?_
  refine z_sipush hC 9 dJ7_charAt_9 rfl ?_
  refine z_iand (e := (f i : Int)) hC 12 dJ7_charAt_12 (zand_255 _ (by omega)) ?_
  refine z_i2c hC 13 (by omega) dJ7_charAt_13 ?_
  exact zp_nret hC hQ 14 () dJ7_charAt_14 (c_wide _ (by omega)).2 rfl trivial

set_option maxHeartbeats 4000000 in
theorem u_J2_charAt_s (lau : Launch) (s0 : State) (G : zG) (q va n : Nat) (f : Nat → Nat) (hs : zStr s0 q va n f) (hcs : zCS s0) (hsi : zSio s0) (i : Nat) (hi : i < n) : zPur (S := Unit) lau yJ2_charAt cJ2_charAt 2 (some .char) 3 64 s0 G [.ref q, .int (iZ (i : Int))] [] (fun _ => some (.int (iZ (f i : Int)))) (fun _ => True) := by
  refine zPur.of (by decide) (Nat.le_of_ble_eq_true rfl) ?_
  intro pg ev s1 mi ar bl me cd ls Q hC hP hl hQ
  have hl : lv_has ls 2 [(0, .ref q), (1, .int (iZ (i : Int)))] := hl
  have hf9 := hs.2.2.2.2.2 i hi
  refine z_aload_n hC 0 hl dJ2_charAt_0 rfl 0 rfl ?_
  refine zp_back (zp_runVO hC zS0 hl.1 (zO_up (as0 := []) hC hs.1) 0 (As := []) (rest := []) (u_J2_isLatin1_s lau s0 G q va n f hs hcs) (lw_V q1587 q1588 q1589 q99 q1590) ⟨rfl, by decide, by decide, by decide +kernel⟩ rfl rfl (Nat.le_of_ble_eq_true rfl) ⟨Nat.le_of_ble_eq_true rfl, Nat.le_of_ble_eq_true rfl⟩ ⟨by first | decide | omega, by first | decide | omega⟩ dJ2_charAt_1) (fun _ _ => ?_)
  refine z_st (st' := [.int (iZ 1)]) rfl ?_
  refine z_if_eq_f hC 4 16 dJ2_charAt_4 rfl (by omega) (by omega) ?_
  refine z_aload_n hC 7 hl dJ2_charAt_7 rfl 0 rfl ?_
  refine zp_getO hC zS0 8 (zOF_up (as0 := []) hC hs.2.2.1) q553 dJ2_charAt_8 ?_
  refine z_iload_n hC 11 hl dJ2_charAt_11 rfl 1 rfl ?_
  refine zp_back (zp_runS hC zS0 hl.1 zp_nil 2 (As := [.ref va, .int (iZ (i : Int))]) (rest := []) (u_J7_charAt_s lau s0 G q va n f hs hcs hsi i hi) (lw_S q1591 q1592 q105 q1593) ⟨by decide, by decide, by decide +kernel⟩ rfl rfl (Nat.le_of_ble_eq_true rfl) ⟨Nat.le_of_ble_eq_true rfl, Nat.le_of_ble_eq_true rfl⟩ ⟨by first | decide | omega, by first | decide | omega⟩ dJ2_charAt_12) (fun _ _ => ?_)
  refine z_st (st' := [.int (iZ (f i : Int))]) rfl ?_
  exact zp_nret hC hQ 15 () dJ2_charAt_15 (c_wide _ (by omega)).2 rfl trivial

