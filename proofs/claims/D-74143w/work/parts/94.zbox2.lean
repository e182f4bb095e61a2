/-! Integers that are made; valueOf of any value, intValue of a made one -/
set_option maxRecDepth 100000
set_option maxHeartbeats 8000000 in
set_option maxRecDepth 100000 in
theorem m_J15_init (lau : Launch) (s0 : State) (G : zG) (sz : Nat) (x0 : Nat)  : zMet (S := Unit) lau yJ15_init cJ15_init 1 (none) 1 12 0 0 s0 G sz [.ref x0] ([(x0, .inr (20, [.int (0)]))]) (fun (_ : Unit) => (none : Option Value)) (fun (_ : Unit) => True) (fun (_ : Unit) => [(x0, .inr (20, [.int (0)]))] ++ []) := by
  refine zMet.ofI (by decide) (Nat.le_of_ble_eq_true rfl) ?_
  intro pg ev s1 mi ar bl me cd ls Q as0 hC hin hH hl hQ hsz
  have hin : me.name = "<init>" := hin
  generalize s1.heap = H at hH ⊢
  generalize ([] : List Loc) = locs at hH ⊢
  have hl : lv_has ls 1 [(0, .ref x0)] := hl
  refine z_aload_n hC 0 hl dJ15_init_0 rfl 0 rfl ?_
  refine z_objI hC hl.1 1 q972 ⟨Nat.le_of_ble_eq_true rfl, Nat.le_of_ble_eq_true rfl⟩ dJ15_init_1 ?_
  exact z_vret hC hH hQ 4 (()) dJ15_init_4 rfl trivial rfl (Nat.le_of_ble_eq_true rfl) (Nat.le_of_ble_eq_true rfl)
set_option maxHeartbeats 8000000 in
set_option maxRecDepth 100000 in
theorem m_J16_init (lau : Launch) (s0 : State) (G : zG) (sz : Nat) (x0 : Nat) (z : Int) : zMet (S := Unit) lau yJ16_init cJ16_init 2 (none) 2 32 0 0 s0 G sz [.ref x0, .int (iZ z)] ([(x0, .inr (20, [.int (0)]))]) (fun (_ : Unit) => (none : Option Value)) (fun (_ : Unit) => True) (fun (_ : Unit) => [(x0, .inr (20, [.int (iZ z)]))] ++ []) := by
  refine zMet.ofI (by decide) (Nat.le_of_ble_eq_true rfl) ?_
  intro pg ev s1 mi ar bl me cd ls Q as0 hC hin hH hl hQ hsz
  have hin : me.name = "<init>" := hin
  generalize s1.heap = H at hH ⊢
  generalize ([] : List Loc) = locs at hH ⊢
  have hl : lv_has ls 2 [(0, .ref x0), (1, .int (iZ z))] := hl
  refine z_aload_n hC 0 hl dJ16_init_0 rfl 0 rfl ?_
  refine z_subN (z_runI hC hH.2.2 hl.1 (z_subP hH.1 [0] rfl) (z_subD hH.2.1 [0] (by decide) rfl) 0 (As := []) (rest := []) (m_J15_init lau s0 G _ x0 ) (lw_meth q971) q969 ⟨q116, q970⟩ rfl ⟨by decide, by decide, by decide +kernel⟩ rfl rfl (Nat.le_of_ble_eq_true rfl) ⟨Nat.le_of_ble_eq_true rfl, Nat.le_of_ble_eq_true rfl⟩ ⟨Nat.le_of_ble_eq_true rfl, Nat.le_of_ble_eq_true rfl⟩ dJ16_init_1) hH [0] rfl (by decide) (fun _ => rfl) (fun _ H locs hpost hH => ?_)
  have hH : zH s0 s1 G as0 ([(x0, .inr (20, [.int (0)]))]) H locs := hH
  refine z_st (st' := []) rfl ?_
  refine z_aload_n hC 4 hl dJ16_init_4 rfl 0 rfl ?_
  refine z_iload_n hC 5 hl dJ16_init_5 rfl 1 rfl ?_
  refine z_putF hC hin hH 6 tyJ16 in_J16 tyJ16_ok nmJ16 rfl 0 (by decide) q973 0 rfl rfl rfl rfl rfl (Nat.le_of_ble_eq_true rfl) rfl dJ16_init_6 (fun H locs hH => ?_)
  have hH : zH s0 s1 G as0 ([(x0, .inr (20, [.int (iZ z)]))]) H locs := hH
  exact z_vret hC hH hQ 9 (()) dJ16_init_9 rfl trivial rfl (Nat.le_of_ble_eq_true rfl) (Nat.le_of_ble_eq_true rfl)
/-- a box: one of the cache, or one made now (then X is its cell) -/
def zBN (s0 : State) (q : Nat) (z : Int) (X : va_W) : Prop := (X = [] ∧ zBo s0 q z) ∨ X = [(q, .inr (20, [.int (iZ z)]))]
set_option maxHeartbeats 4000000 in
theorem m_J16_valueOf (lau : Launch) (s0 : State) (G : zG) (sz : Nat) (z : Int) (hz : 0 ≤ z ∧ z < 1000) (hB : zBxs s0) : zMet (S := Nat × va_W) lau yJ16_valueOf cJ16_valueOf 1 (some (.object "java/lang/Integer")) 3 60 1 1 s0 G sz [.int (iZ z)] [] (fun u => some (.ref u.1)) (fun u => zBN s0 u.1 z u.2) (fun u => u.2) := by
  refine zMet.of (by decide) (Nat.le_of_ble_eq_true rfl) ?_
  intro pg ev s1 mi ar bl me cd ls Q as0 hC hH hl hQ hsz
  generalize s1.heap = H at hH ⊢
  generalize ([] : List Loc) = locs at hH ⊢
  have hl : lv_has ls 1 [(0, .int (iZ z))] := hl
  obtain ⟨bx, t, hb, hc, hT, hh⟩ := hB
  obtain ⟨k, rfl⟩ : ∃ k : Nat, z = (k : Int) := ⟨z.toNat, by omega⟩
  refine z_iload_n hC 0 hl dJ16_valueOf_0 rfl 0 rfl ?_
  refine z_bipush hC 1 dJ16_valueOf_1 rfl ?_
  refine z_icmp_lt_f hC 3 23 dJ16_valueOf_3 rfl (by omega) (by omega) (by omega) ?_
  refine z_iload_n hC 6 hl dJ16_valueOf_6 rfl 0 rfl ?_
  refine zp_gets hC hH.2.2 7 hh q960 dJ16_valueOf_7 ?_
  refine z_icmp_gt hC 10 23 dJ16_valueOf_10 rfl (by omega) (by omega) (fun hg => ?_) (fun hg => ?_)
  · refine z_new (ci := 20) (N := 1) hC hH 23 [.int (0)] tyJ16 in_J16 tyJ16_ok rfl q964 q965 q117 (fun j hj => by rcases (show j = 0 from by omega) with rfl; rfl) ⟨Nat.le_of_ble_eq_true rfl, Nat.le_of_ble_eq_true rfl⟩ dJ16_valueOf_23 (fun q H hH => ?_)
    refine z_dup hC 26 dJ16_valueOf_26 rfl ?_
    refine z_iload_n hC 27 hl dJ16_valueOf_27 rfl 0 rfl ?_
    refine z_subN (z_runI hC hH.2.2 hl.1 (z_subP hH.1 [0] rfl) (z_subD hH.2.1 [0] (by decide) rfl) 1 (As := [.int (iZ (k : Int))]) (rest := [.ref q]) (m_J16_init lau s0 G _ q (k : Int)) (lw_meth q968) q966 ⟨q117, q967⟩ rfl ⟨by decide, by decide, by decide +kernel⟩ rfl rfl (Nat.le_of_ble_eq_true rfl) ⟨Nat.le_of_ble_eq_true rfl, Nat.le_of_ble_eq_true rfl⟩ ⟨Nat.le_of_ble_eq_true rfl, Nat.le_of_ble_eq_true rfl⟩ dJ16_valueOf_28) hH [0] rfl (by decide) (fun _ => rfl) (fun _ H locs hpost hH => ?_)
    refine z_st (st' := [.ref q]) rfl ?_
    exact z_aret hC hH hQ 31 (q, [(q, .inr (20, [.int (iZ (k : Int))]))]) dJ16_valueOf_31 rfl (Or.inr rfl) rfl (Nat.le_of_ble_eq_true rfl) (Nat.le_of_ble_eq_true rfl)
  · refine zp_gets hC hH.2.2 13 hc q962 dJ16_valueOf_13 ?_
    refine z_iload_n hC 16 hl dJ16_valueOf_16 rfl 0 rfl ?_
    refine z_sipush hC 17 dJ16_valueOf_17 rfl ?_
    refine z_iadd (e := ((k + 128 : Nat) : Int)) hC 20 dJ16_valueOf_20 (by omega) ?_
    refine zp_tq hC hH.2.2 21 (k + 128) hT (by decide) rfl (by omega) rfl dJ16_valueOf_21 ?_
    exact z_aret hC hH hQ 22 (bx (k + 128), []) dJ16_valueOf_22 rfl (Or.inl ⟨rfl, by have h1 := hb (k + 128) (by omega); rw [show (((k + 128 : Nat) : Int) - 128) = (k : Int) by omega] at h1; exact h1⟩) rfl (Nat.le_of_ble_eq_true rfl) (Nat.le_of_ble_eq_true rfl)
set_option maxHeartbeats 4000000 in
theorem u_J16_intValue_n (lau : Launch) (s0 : State) (G : zG) (y : Nat) (z : Int) : zPur (S := Unit) lau yJ16_intValue cJ16_intValue 1 (some .int) 0 0 s0 G [.ref y] [(y, .inr (20, [.int (iZ z)]))] (fun _ => some (.int (iZ z))) (fun _ => True) := by
  refine zPur.of (by decide) (Nat.le_of_ble_eq_true rfl) ?_
  intro pg ev s1 mi ar bl me cd ls Q hC hP hl hQ
  have hl : lv_has ls 1 [(0, .ref y)] := hl
  refine z_aload_n hC 0 hl dJ16_intValue_0 rfl 0 rfl ?_
  refine zp_get (v := .int (iZ z)) hC hP 1 in_J16 rfl 0 (by decide) q973 0 rfl rfl dJ16_intValue_1 ?_
  exact zp_iret hC hQ 4 () dJ16_intValue_4 rfl trivial
