/-! the pool of places as a list; laysPlaces -/
set_option maxRecDepth 100000
def dPool (G : zG) (pr pa pm : Nat → Nat) (pf : Nat → Nat → Nat) : List Nat → va_W
  | [] => []
  | y :: L => (pr y, .inr (9, [.ref (pa y), .int (iZ (pm y : Int))])) :: (pa y, .inl (G.2 0, 120, .inl (zA (nA (pf y))))) :: dPool G pr pa pm pf L
def PLS (s0 : State) (G : zG) (nw : Nat) (L : List Nat) (pl : Nat → Option Nat) (pr pa pm : Nat → Nat) (pf : Nat → Nat → Nat) : Prop := L.Nodup ∧ (∀ y, y ∈ L → y < 1000 ∧ pl y = some (pr y)) ∧ ∀ y, y < 1000 → y ∉ L → pl y = none ∧ pr y = nw ∧ pm y = 0 ∧ zNwo s0 (pr y)
section DPOOL
variable {G : zG} {pr pa pm : Nat → Nat} {pf : Nat → Nat → Nat}
theorem dPool_at : ∀ {L : List Nat} {i y : Nat}, L[i]? = some y → (dPool G pr pa pm pf L)[2 * i]? = some (pr y, .inr (9, [.ref (pa y), .int (iZ (pm y : Int))])) ∧ (dPool G pr pa pm pf L)[2 * i + 1]? = some (pa y, .inl (G.2 0, 120, .inl (zA (nA (pf y)))))
  | [], i, y, h => by simp at h
  | x :: L, 0, y, h => by cases h; exact ⟨rfl, rfl⟩
  | x :: L, i + 1, y, h => by
    have h1 := dPool_at (L := L) (i := i) (y := y) h
    rw [show 2 * (i + 1) = 2 * i + 1 + 1 by omega]
    exact h1
theorem dPool_cg {pr2 pa2 pm2 : Nat → Nat} {pf2 : Nat → Nat → Nat} : ∀ {L : List Nat}, (∀ y, y ∈ L → pr2 y = pr y ∧ pa2 y = pa y ∧ pm2 y = pm y ∧ pf2 y = pf y) → dPool G pr2 pa2 pm2 pf2 L = dPool G pr pa pm pf L
  | [], _ => rfl
  | x :: L, h => by
    have h1 := h x List.mem_cons_self
    show _ :: _ :: _ = _ :: _ :: _
    rw [h1.1, h1.2.1, h1.2.2.1, h1.2.2.2, dPool_cg (fun y hy => h y (List.mem_cons_of_mem _ hy))]
theorem dPool_m : ∀ {L : List Nat} {i y m : Nat}, L.Nodup → L[i]? = some y → (dPool G pr pa pm pf L).set (2 * i) (pr y, .inr (9, [.ref (pa y), .int (iZ (m : Int))])) = dPool G pr pa (va_up pm y m) pf L
  | [], i, y, m, _, h => by simp at h
  | x :: L, 0, y, m, hn, h => by
    cases h
    show _ :: _ :: dPool G pr pa pm pf L = _ :: _ :: dPool G pr pa (va_up pm x m) pf L
    rw [dPool_cg (pm2 := va_up pm x m) (fun z hz => ⟨rfl, rfl, va_up_ne _ _ (fun e => (List.nodup_cons.mp hn).1 (e ▸ hz)), rfl⟩), va_up_self]
  | x :: L, i + 1, y, m, hn, h => by
    have h1 := dPool_m (L := L) (i := i) (y := y) (m := m) (List.nodup_cons.mp hn).2 h
    have hx : x ≠ y := fun e => (List.nodup_cons.mp hn).1 (e ▸ List.mem_of_getElem? h)
    rw [show 2 * (i + 1) = 2 * i + 1 + 1 by omega]
    show _ :: _ :: (dPool G pr pa pm pf L).set (2 * i) _ = _ :: _ :: dPool G pr pa (va_up pm y m) pf L
    rw [h1, va_up_ne _ _ hx]
theorem dPool_f : ∀ {L : List Nat} {i y : Nat} {f : Nat → Nat}, L.Nodup → L[i]? = some y → (dPool G pr pa pm pf L).set (2 * i + 1) (pa y, .inl (G.2 0, 120, .inl (zA (nA f)))) = dPool G pr pa pm (va_up pf y f) L
  | [], i, y, f, _, h => by simp at h
  | x :: L, 0, y, f, hn, h => by
    cases h
    show _ :: _ :: dPool G pr pa pm pf L = _ :: _ :: dPool G pr pa pm (va_up pf x f) L
    rw [dPool_cg (pf2 := va_up pf x f) (fun z hz => ⟨rfl, rfl, rfl, va_up_ne _ _ (fun e => (List.nodup_cons.mp hn).1 (e ▸ hz))⟩), va_up_self]
  | x :: L, i + 1, y, f, hn, h => by
    have h1 := dPool_f (L := L) (i := i) (y := y) (f := f) (List.nodup_cons.mp hn).2 h
    have hx : x ≠ y := fun e => (List.nodup_cons.mp hn).1 (e ▸ List.mem_of_getElem? h)
    rw [show 2 * (i + 1) + 1 = 2 * i + 1 + 1 + 1 by omega]
    show _ :: _ :: (dPool G pr pa pm pf L).set (2 * i + 1) _ = _ :: _ :: dPool G pr pa pm (va_up pf y f) L
    rw [h1, va_up_ne _ _ hx]
theorem dPool_app : ∀ {L : List Nat} {y : Nat}, dPool G pr pa pm pf (L ++ [y]) = dPool G pr pa pm pf L ++ [(pr y, .inr (9, [.ref (pa y), .int (iZ (pm y : Int))])), (pa y, .inl (G.2 0, 120, .inl (zA (nA (pf y)))))]
  | [], y => rfl
  | x :: L, y => by
    show _ :: _ :: dPool G pr pa pm pf (L ++ [y]) = _
    rw [dPool_app]
    rfl
theorem dPool_new {L : List Nat} {y q a : Nat} (h : y ∉ L) : dPool G pr pa pm pf L ++ [(q, .inr (9, [.ref a, .int (iZ ((0 : Nat) : Int))])), (a, .inl (G.2 0, 120, .inl (zA (nA (fun _ => 0)))))] = dPool G (va_up pr y q) (va_up pa y a) (va_up pm y 0) (va_up pf y (fun _ => 0)) (L ++ [y]) := by
  have hne : ∀ z, z ∈ L → z ≠ y := fun z hz e => h (e ▸ hz)
  rw [dPool_app, va_up_self, va_up_self, va_up_self, va_up_self, dPool_cg (pr := pr) (pa := pa) (pm := pm) (pf := pf) (fun z hz => ⟨va_up_ne _ _ (hne z hz), va_up_ne _ _ (hne z hz), va_up_ne _ _ (hne z hz), va_up_ne _ _ (hne z hz)⟩)]
theorem PLS_pool {s0 : State} {nw : Nat} {L : List Nat} {pl : Nat → Option Nat} (h : PLS s0 G nw L pl pr pa pm pf) : zPool s0 G (dPool G pr pa pm pf L) pr pa pm pf := fun y hy => by
  by_cases e : y ∈ L
  · obtain ⟨i, hi⟩ := List.getElem?_of_mem e
    obtain ⟨h1, h2⟩ := dPool_at (G := G) (pr := pr) (pa := pa) (pm := pm) (pf := pf) hi
    exact Or.inl ⟨2 * i, h1, h2⟩
  · exact Or.inr (h.2.2 y hy e).2.2
theorem PLS_pl {s0 : State} {nw : Nat} {L : List Nat} {pl : Nat → Option Nat} (h : PLS s0 G nw L pl pr pa pm pf) : ∀ y, y < 1000 → (pl y = some (pr y) ∨ (pl y = none ∧ pr y = nw)) := fun y hy => by
  by_cases e : y ∈ L
  · exact Or.inl (h.2.1 y e).2
  · exact Or.inr ⟨(h.2.2 y hy e).1, (h.2.2 y hy e).2.1⟩
end DPOOL
def pmZ (pm : Nat → Nat) (i : Nat) : Nat → Nat := fun y => if y < i then 0 else pm y
theorem pmZ_0 {pm : Nat → Nat} : pmZ pm 0 = pm := by
  funext y
  unfold pmZ
  rw [if_neg (Nat.not_lt_zero _)]
theorem pmZ_s {pm : Nat → Nat} {i : Nat} : va_up (pmZ pm i) i 0 = pmZ pm (i + 1) := by
  funext y
  unfold va_up pmZ
  by_cases e : y = i
  · rw [if_pos e, if_pos (by omega)]
  · rw [if_neg e]
    by_cases q : y < i
    · rw [if_pos q, if_pos (by omega)]
    · rw [if_neg q, if_neg (by omega)]
theorem pmZ_n {pm : Nat → Nat} {i : Nat} (h : pm i = 0) : pmZ pm i = pmZ pm (i + 1) := by
  rw [← pmZ_s]
  funext y
  unfold va_up
  by_cases e : y = i
  · rw [if_pos e, e]
    unfold pmZ
    rw [if_neg (Nat.lt_irrefl _)]
    exact h
  · rw [if_neg e]
theorem PlC_0 {v f : Nat → Nat} {y : Nat} : PlC 0 v y 0 f := ⟨(cnt_0 v (Nat.le_refl 0)).symm, fun j h => absurd h (Nat.not_lt_zero _)⟩
theorem PlC_t {v f : Nat → Nat} {p y m : Nat} (h : PlC p v y m f) (hy : v p = y) : PlC (p + 1) v y (m + 1) (va_up f m p) := by
  refine ⟨by rw [cnt_at hy, h.1], fun j hj => ?_⟩
  by_cases e : j = m
  · subst e
    rw [va_up_self]
    exact ⟨Nat.lt_succ_self p, hy, h.1.symm⟩
  · rw [va_up_ne _ _ e]
    obtain ⟨a, b, c⟩ := h.2 j (by omega)
    exact ⟨by omega, b, c⟩
theorem PlC_f {v f : Nat → Nat} {p y m : Nat} (h : PlC p v y m f) (hy : v p ≠ y) : PlC (p + 1) v y m f := by
  refine ⟨by rw [cnt_succ v y (Nat.zero_le p), if_neg hy]; exact h.1, fun j hj => ?_⟩
  obtain ⟨a, b, c⟩ := h.2 j hj
  exact ⟨by omega, b, c⟩
theorem dW0_len {ad : Nat → Nat} {G : zG} {F : Nat → Int} {Ar : Nat → Nat → Int} {kp : Nat → Nat} {pl : Nat → Option Nat} : (dW0 ad G F Ar kp pl).length = 60 := rfl
theorem dW_at {ad : Nat → Nat} {G : zG} {F : Nat → Int} {Ar : Nat → Nat → Int} {kp : Nat → Nat} {pl : Nat → Option Nat} {PW : va_W} {k : Nat} {q : Nat × va_E} (h : PW[k]? = some q) : (dW ad G F Ar kp pl PW)[60 + k]? = some q := by
  show (dW0 ad G F Ar kp pl ++ PW)[60 + k]? = _
  rw [List.getElem?_append_right (by rw [dW0_len]; omega), dW0_len, show 60 + k - 60 = k by omega]
  exact h
theorem dW_set {ad : Nat → Nat} {G : zG} {F : Nat → Int} {Ar : Nat → Nat → Int} {kp : Nat → Nat} {pl : Nat → Option Nat} {PW : va_W} {k : Nat} {q : Nat × va_E} : (dW ad G F Ar kp pl PW).set (60 + k) q = dW ad G F Ar kp pl (PW.set k q) := by
  show (dW0 ad G F Ar kp pl ++ PW).set (60 + k) q = _
  rw [List.set_append_right _ _ (by rw [dW0_len]; omega), dW0_len, show 60 + k - 60 = k by omega]
  rfl
theorem dW_app {ad : Nat → Nat} {G : zG} {F : Nat → Int} {Ar : Nat → Nat → Int} {kp : Nat → Nat} {pl : Nat → Option Nat} {PW X : va_W} : dW ad G F Ar kp pl PW ++ X = dW ad G F Ar kp pl (PW ++ X) := List.append_assoc _ _ _
abbrev LPS : Type := List Nat × (Nat → Option Nat) × (Nat → Nat) × (Nat → Nat) × (Nat → Nat) × (Nat → Nat → Nat)
set_option maxHeartbeats 8000000 in
theorem m_X1_laysPlaces (lau : Launch) (s0 : State) (G : zG) (sz : Nat) (ad : Nat → Nat) (F : Nat → Int) (Ar : Nat → Nat → Int) (kp : Nat → Nat) (pl : Nat → Option Nat) (L : List Nat) (pr pa pm : Nat → Nat) (pf : Nat → Nat → Nat) (nw n : Nat) (v : Nat → Nat) (hn : n ≤ 120) (hFn : F 200 = (n : Int)) (hv : ∀ i, i < n → v i < 1000) (hAv : ∀ i, i < n → Ar 201 i = (v i : Int)) (hS : PLS s0 G nw L pl pr pa pm pf) : zMet (S := LPS) lau yX1_laysPlaces cX1_laysPlaces 5 none 3 60 240 14640 s0 G sz [.ref (ad 99)] (dW ad G F Ar kp pl (dPool G pr pa pm pf L)) (fun _ => none) (fun (L2, pl2, pr2, pa2, pm2, pf2) => PLS s0 G nw L2 pl2 pr2 pa2 pm2 pf2 ∧ ∀ y, y < 1000 → PlC n v y (pm2 y) (pf2 y)) (fun (L2, pl2, pr2, pa2, pm2, pf2) => dW ad G F Ar kp pl2 (dPool G pr2 pa2 pm2 pf2 L2)) := by
  refine zMet.of (by decide) (Nat.le_of_ble_eq_true rfl) ?_
  intro pg ev s1 mi ar bl me cd ls Q as0 hC hH hl hQ hsz
  generalize s1.heap = H at hH ⊢
  generalize ([] : List Loc) = locs at hH ⊢
  have hl : lv_has ls 5 [(0, .ref (ad 99))] := hl
  refine z_aload_n hC 0 hl dX1_laysPlaces_0 rfl 0 rfl ?_
  refine zp_get (v := .ref (ad 10)) hC (va_P_l hH.1) 1 in_X1 rfl 10 (by decide) q220 0 rfl rfl dX1_laysPlaces_1 ?_
  refine z_astore_n (lv' := [(1, .ref (ad 10)), (0, .ref (ad 99))]) hC 4 hl dX1_laysPlaces_4 rfl (by decide) rfl (fun ls hl => ?_)
  refine z_aload_n hC 5 hl dX1_laysPlaces_5 rfl 0 rfl ?_
  refine va_alen (v := iZ 1000) hC.1.1 hC.1.2.1 hC.2.2.2.2.2 (va_P_l hH.1) 1 5 rfl rfl (show Int32.ofNat 1000 = iZ 1000 by decide) dX1_laysPlaces_6 ?_
  refine z_istore_n (lv' := [(2, .int (iZ 1000)), (1, .ref (ad 10)), (0, .ref (ad 99))]) hC 7 hl dX1_laysPlaces_7 rfl (by decide) rfl (fun ls hl => ?_)
  refine z_iconst hC 8 dX1_laysPlaces_8 ?_
  refine z_istore_n (lv' := [(3, .int (iZ 0)), (2, .int (iZ 1000)), (1, .ref (ad 10)), (0, .ref (ad 99))]) hC 9 hl dX1_laysPlaces_9 rfl (by decide) rfl (fun ls hl => ?_)
  -- the places anew
  have L2 : ∀ (N p ce sl : Nat) (L : List Nat) (pl : Nat → Option Nat) (pr pa pm : Nat → Nat) (pf : Nat → Nat → Nat) (H : Heap) (locs : List Loc) (ls : Array Slot), n - p < N → p ≤ n → ce ≤ 2 * p → sl ≤ 122 * p → PLS s0 G nw L pl pr pa pm pf → (∀ y, y < 1000 → PlC p v y (pm y) (pf y)) → zH s0 s1 G as0 (dW ad G F Ar kp pl (dPool G pr pa pm pf L)) H locs → lv_has ls 5 [(0, .ref (ad 99)), (1, .int (iZ (p : Int)))] → W pg lau ev (zRm 3 240 14640 60) s1 mi ar bl me cd H locs ce sl Q (F0 mi 39 ls []) := by
    intro N
    induction N with
    | zero => intro p ce sl L pl pr pa pm pf H locs ls h; exact absurd h (Nat.not_lt_zero _)
    | succ N ih =>
      intro p ce sl L pl pr pa pm pf H locs ls hd hp hce hsl hS hc hH hl
      refine z_iload_n hC 39 hl dX1_laysPlaces_39 rfl 1 rfl ?_
      refine z_aload_n hC 40 hl dX1_laysPlaces_40 rfl 0 rfl ?_
      refine zp_get (v := .ref (ad 200)) hC (va_P_l hH.1) 41 in_X1 rfl 4 (by decide) q210 0 rfl rfl dX1_laysPlaces_41 ?_
      refine zp_getN (v := .int (iZ (n : Int))) hC (va_P_l hH.1) 44 in_X2 rfl 2 (by decide) q149 11 rfl (by rw [← hFn]; rfl) dX1_laysPlaces_44 ?_
      refine z_icmp_ge hC 47 98 dX1_laysPlaces_47 rfl (by omega) (by omega) (fun hb => ?_) (fun hb => ?_)
      · have ep : p = n := by omega
        subst ep
        exact z_vret hC hH hQ 98 ((L, pl, pr, pa, pm, pf)) dX1_laysPlaces_98 rfl ⟨hS, hc⟩ rfl (by omega) (by omega)
      · have hvp := hv p (by omega)
        refine z_aload_n hC 50 hl dX1_laysPlaces_50 rfl 0 rfl ?_
        refine zp_get (v := .ref (ad 200)) hC (va_P_l hH.1) 51 in_X1 rfl 4 (by decide) q210 0 rfl rfl dX1_laysPlaces_51 ?_
        refine zp_getN (v := .ref (ad 201)) hC (va_P_l hH.1) 54 in_X2 rfl 0 (by decide) q141 11 rfl rfl dX1_laysPlaces_54 ?_
        refine z_iload_n hC 57 hl dX1_laysPlaces_57 rfl 1 rfl ?_
        refine zp_iald (f := (Ar 201)) (x := (v p : Int)) hC (va_P_l hH.1) 58 12 p rfl (by decide) rfl (by omega) (hAv p (by omega)) dX1_laysPlaces_58 ?_
        refine z_istore_n (lv' := [(2, .int (iZ (v p : Int))), (0, .ref (ad 99)), (1, .int (iZ (p : Int)))]) hC 59 hl dX1_laysPlaces_59 rfl (by decide) rfl (fun ls hl => ?_)
        -- behind the making: the value has its places
        have L3 : ∀ (ce sl : Nat) (L : List Nat) (pl : Nat → Option Nat) (pr pa pm : Nat → Nat) (pf : Nat → Nat → Nat) (H : Heap) (locs : List Loc), ce ≤ 2 * (p + 1) → sl ≤ 122 * (p + 1) → PLS s0 G nw L pl pr pa pm pf → v p ∈ L → (∀ y, y < 1000 → PlC p v y (pm y) (pf y)) → zH s0 s1 G as0 (dW ad G F Ar kp pl (dPool G pr pa pm pf L)) H locs → W pg lau ev (zRm 3 240 14640 60) s1 mi ar bl me cd H locs ce sl Q (F0 mi 82 ls []) := by
          intro ce sl L pl pr pa pm pf H locs hce hsl hS hin hc hH
          obtain ⟨i, hi⟩ := List.getElem?_of_mem hin
          obtain ⟨g1, g2⟩ := dPool_at (G := G) (pr := pr) (pa := pa) (pm := pm) (pf := pf) hi
          refine z_aload_n hC 82 hl dX1_laysPlaces_82 rfl 1 rfl ?_
          refine zp_get (v := .ref (ad 10)) hC (va_P_l hH.1) 83 in_X1 rfl 10 (by decide) q220 0 rfl rfl dX1_laysPlaces_83 ?_
          refine z_iload_n hC 86 hl dX1_laysPlaces_86 rfl 0 rfl ?_
          refine zp_aldq (CN := RX10) (v := .ref (pr (v p))) hC (va_P_l hH.1) 87 1 5 (v p) rfl rfl (by decide) rfl (by omega) (by rw [(hS.2.1 _ hin).2]; rfl) dX1_laysPlaces_87 ?_
          refine z_iload_n hC 88 hl dX1_laysPlaces_88 rfl 2 rfl ?_
          have hpm := hc (v p) hvp
          have hpm1 := hpm.1
          have hpm2 := cnt_le v 0 p (v p)
          have hks : [60 + 2 * i, 60 + (2 * i + 1)].map (fun k => (dW ad G F Ar kp pl (dPool G pr pa pm pf L))[k]?) = (pW (fun j => if j = 0 then pr (v p) else pa (v p)) G (va_up (fun _ => 0) 1 (pm (v p) : Int)) (va_up (fun _ => fun _ => 0) 0 (nA (pf (v p))))).map some := by
            exact zcons (dW_at g1) (zcons (dW_at g2) rfl)
          have hkn : [60 + 2 * i, 60 + (2 * i + 1)].Nodup := by simp
          refine z_sub (z_runV (wc := pW (fun j => if j = 0 then pr (v p) else pa (v p)) G (va_up (fun _ => 0) 1 (pm (v p) : Int)) (va_up (fun _ => fun _ => 0) 0 (nA (pf (v p))))) hC hH.2.2 hl.1 (z_subP hH.1 _ hks) (z_subD hH.2.1 _ hkn hks) 1 (As := [.int (iZ (p : Int))]) (rest := []) (m_X10_adds lau s0 G _ (fun j => if j = 0 then pr (v p) else pa (v p)) (fun _ => 0) (fun _ => fun _ => 0) (pm (v p)) (p : Int) (nA (pf (v p))) (by omega)) (lw_V q715 q716 q717 q110 q718) ⟨rfl, by decide, by decide, by decide +kernel⟩ (q0 := 0) (ci := 9) rfl rfl rfl rfl (Nat.le_of_ble_eq_true rfl) ⟨Nat.le_of_ble_eq_true rfl, Nat.le_of_ble_eq_true rfl⟩ ⟨by show ce + 0 ≤ 240; omega, by show sl + 0 ≤ 14640; omega⟩ dX1_laysPlaces_89) hH [60 + 2 * i, 60 + (2 * i + 1)] hks hkn (fun _ => rfl) (fun _ H locs hpost hH => ?_)
          have ew : setL (dW ad G F Ar kp pl (dPool G pr pa pm pf L)) [60 + 2 * i, 60 + (2 * i + 1)] (pW (fun j => if j = 0 then pr (v p) else pa (v p)) G (va_up (fun _ => 0) 1 ((pm (v p) : Int) + 1)) (va_up (fun _ => fun _ => 0) 0 (va_up (nA (pf (v p))) (pm (v p)) (p : Int)))) = dW ad G F Ar kp pl (dPool G pr pa (va_up pm (v p) (pm (v p) + 1)) (va_up pf (v p) (va_up (pf (v p)) (pm (v p)) p)) L) := by
            show ((dW ad G F Ar kp pl (dPool G pr pa pm pf L)).set (60 + 2 * i) (pr (v p), .inr (9, [.ref (pa (v p)), .int (iZ (((pm (v p) + 1 : Nat)) : Int))]))).set (60 + (2 * i + 1)) (pa (v p), .inl (G.2 0, 120, .inl (zA (va_up (nA (pf (v p))) (pm (v p)) (p : Int))))) = _
            rw [nA_up, dW_set, dPool_m hS.1 hi, dW_set, dPool_f hS.1 hi]
          rw [ew] at hH
          refine z_st (st' := []) rfl ?_
          refine z_iinc (lv' := [(1, .int (iZ ((p : Int) + 1))), (2, .int (iZ (v p : Int))), (0, .ref (ad 99))]) hC 92 hl dX1_laysPlaces_92 2 rfl rfl (by decide) rfl (fun ls hl => ?_)
          refine z_goto hC 95 39 dX1_laysPlaces_95 rfl ?_
          refine ih (p + 1) _ _ L pl pr pa _ _ _ _ _ (by omega) (by omega) (by omega) (by omega) ⟨hS.1, hS.2.1, fun y hy hyL => ?_⟩ (fun y hy => ?_) hH (lv_sub hl [2, 0] rfl)
          · have hne : y ≠ v p := fun e => hyL (e ▸ hin)
            rw [va_up_ne _ _ hne]
            exact hS.2.2 y hy hyL
          · by_cases e : y = v p
            · subst e
              rw [va_up_self, va_up_self]
              exact PlC_t hpm rfl
            · rw [va_up_ne _ _ e, va_up_ne _ _ e]
              exact PlC_f (hc y hy) (fun q => e q.symm)
        refine z_aload_n hC 60 hl dX1_laysPlaces_60 rfl 1 rfl ?_
        refine zp_get (v := .ref (ad 10)) hC (va_P_l hH.1) 61 in_X1 rfl 10 (by decide) q220 0 rfl rfl dX1_laysPlaces_61 ?_
        refine z_iload_n hC 64 hl dX1_laysPlaces_64 rfl 0 rfl ?_
        by_cases hin : v p ∈ L
        · refine zp_aldq (CN := RX10) (v := .ref (pr (v p))) hC (va_P_l hH.1) 65 1 5 (v p) rfl rfl (by decide) rfl (by omega) (by rw [(hS.2.1 _ hin).2]; rfl) dX1_laysPlaces_65 ?_
          refine lv_ifnonnull hC.1.1 hC.1.2.1 dX1_laysPlaces_66 (tgt := 82) rfl ?_
          exact L3 ce sl L pl pr pa pm pf H locs (by omega) (by omega) hS hin hc hH
        · have hnone := hS.2.2 (v p) hvp hin
          refine zp_aldq (CN := RX10) (v := .null) hC (va_P_l hH.1) 65 1 5 (v p) rfl rfl (by decide) rfl (by omega) (by rw [hnone.1]; rfl) dX1_laysPlaces_65 ?_
          refine lv_ifnonnullN hC.1.1 hC.1.2.1 dX1_laysPlaces_66 ?_
          refine z_aload_n hC 69 hl dX1_laysPlaces_69 rfl 1 rfl ?_
          refine zp_get (v := .ref (ad 10)) hC (va_P_l hH.1) 70 in_X1 rfl 10 (by decide) q220 0 rfl rfl dX1_laysPlaces_70 ?_
          refine z_iload_n hC 73 hl dX1_laysPlaces_73 rfl 0 rfl ?_
          refine z_new (ci := 9) (N := 2) hC hH 74 [.null, .int (0)] tyX10 in_X10 tyX10_ok rfl q160 q699 q110 (fun j hj => by rcases (show j = 0 ∨ j = 1 from by omega) with rfl | rfl <;> rfl) ⟨by show ce + 1 ≤ 240; omega, by show sl + 2 ≤ 14640; omega⟩ dX1_laysPlaces_74 (fun q H hH => ?_)
          refine z_dup hC 77 dX1_laysPlaces_77 rfl ?_
          have hkw : [(dW ad G F Ar kp pl (dPool G pr pa pm pf L)).length].map (fun k => (dW ad G F Ar kp pl (dPool G pr pa pm pf L) ++ [((q, .inr (9, [.null, .int (0)])) : Nat × va_E)])[k]?) = [((q, .inr (9, [.null, .int (0)])) : Nat × va_E)].map some := by
            have e9 : (dW ad G F Ar kp pl (dPool G pr pa pm pf L) ++ [((q, .inr (9, [.null, .int (0)])) : Nat × va_E)])[(dW ad G F Ar kp pl (dPool G pr pa pm pf L)).length]? = some (q, .inr (9, [.null, .int (0)])) := by
              rw [List.getElem?_append_right (Nat.le_refl _), Nat.sub_self]
              rfl
            exact congrArg (fun a => [a]) e9
          refine z_subN (z_runIN hC hH.2.2 hl.1 (z_subP hH.1 _ hkw) (z_subD hH.2.1 _ (by simp) hkw) 0 (As := []) (rest := [.ref q, .int (iZ (v p : Int)), .ref (ad 10)]) (m_X10_init lau s0 G _ q) (lw_meth q702) q700 ⟨q110, q701⟩ rfl ⟨by decide, by decide, by decide +kernel⟩ rfl rfl (Nat.le_of_ble_eq_true rfl) ⟨Nat.le_of_ble_eq_true rfl, Nat.le_of_ble_eq_true rfl⟩ ⟨by show ce + 1 + 1 ≤ 240; omega, by show sl + 2 + 120 ≤ 14640; omega⟩ dX1_laysPlaces_78) hH _ hkw (by simp) (fun _ => rfl) (fun a H locs hpost hH => ?_)
          have ew : setL (dW ad G F Ar kp pl (dPool G pr pa pm pf L) ++ [((q, .inr (9, [.null, .int (0)])) : Nat × va_E)]) [(dW ad G F Ar kp pl (dPool G pr pa pm pf L)).length] [((q, .inr (9, [.ref a, .int (0)])) : Nat × va_E)] ++ [((a, .inl (G.2 0, 120, .inl (zA (fun _ => 0)))) : Nat × va_E)] = dW ad G F Ar kp pl (dPool G (va_up pr (v p) q) (va_up pa (v p) a) (va_up pm (v p) 0) (va_up pf (v p) (fun _ => 0)) (L ++ [v p])) := by
            show (dW ad G F Ar kp pl (dPool G pr pa pm pf L) ++ [((q, .inr (9, [.null, .int (0)])) : Nat × va_E)]).set (dW ad G F Ar kp pl (dPool G pr pa pm pf L)).length _ ++ _ = _
            rw [List.set_append_right _ _ (Nat.le_refl _), Nat.sub_self, ← dPool_new hin, ← dW_app, List.append_assoc]
            rfl
          rw [ew] at hH
          refine z_st (st' := [.ref q, .int (iZ (v p : Int)), .ref (ad 10)]) rfl ?_
          have hiL : (L ++ [v p])[L.length]? = some (v p) := by rw [List.getElem?_append_right (Nat.le_refl _), Nat.sub_self]; rfl
          have g1 := (dPool_at (G := G) (pr := va_up pr (v p) q) (pa := va_up pa (v p) a) (pm := va_up pm (v p) 0) (pf := va_up pf (v p) (fun _ => 0)) hiL).1
          rw [va_up_self] at g1
          refine z_astq (r := (RX10, TX10, 2)) (f := pl) hC hH 81 1 5 (60 + 2 * L.length) 9 (v p) rfl rfl (dW_at g1) rfl hvp (by decide) rfl dX1_laysPlaces_81 (fun H locs hH => ?_)
          have hH : zH s0 s1 G as0 (dW ad G F Ar kp (va_up pl (v p) (some q)) (dPool G (va_up pr (v p) q) (va_up pa (v p) a) (va_up pm (v p) 0) (va_up pf (v p) (fun _ => 0)) (L ++ [v p]))) H locs := hH
          refine L3 _ _ (L ++ [v p]) (va_up pl (v p) (some q)) (va_up pr (v p) q) (va_up pa (v p) a) (va_up pm (v p) 0) (va_up pf (v p) (fun _ => 0)) H locs (by omega) (by omega) ⟨List.nodup_append.mpr ⟨hS.1, by simp, fun x hx y hy e => hin (by rw [List.mem_singleton.mp hy] at e; exact e ▸ hx)⟩, fun y hy => ?_, fun y hy hyL => ?_⟩ (List.mem_append_right _ List.mem_cons_self) (fun y hy => ?_) hH
          · by_cases e : y = v p
            · rw [e, va_up_self, va_up_self]; exact ⟨hvp, rfl⟩
            · rw [va_up_ne _ _ e, va_up_ne _ _ e]
              exact hS.2.1 y ((List.mem_append.mp hy).resolve_right (fun z => e (List.mem_singleton.mp z)))
          · have hne : y ≠ v p := fun e => hyL (List.mem_append_right _ (by rw [e]; exact List.mem_cons_self))
            rw [va_up_ne _ _ hne, va_up_ne _ _ hne, va_up_ne _ _ hne]
            exact hS.2.2 y hy (fun z => hyL (List.mem_append_left _ z))
          · by_cases e : y = v p
            · rw [e, va_up_self, va_up_self]
              have h1 := hc (v p) hvp
              rw [hnone.2.2.1] at h1
              exact ⟨h1.1, fun j hj => absurd hj (Nat.not_lt_zero _)⟩
            · rw [va_up_ne _ _ e, va_up_ne _ _ e]
              exact hc y hy
  have L1 : ∀ (N i : Nat) (H : Heap) (locs : List Loc) (ls : Array Slot), 1000 - i < N → i ≤ 1000 → zH s0 s1 G as0 (dW ad G F Ar kp pl (dPool G pr pa (pmZ pm i) pf L)) H locs → lv_has ls 5 [(0, .ref (ad 99)), (1, .ref (ad 10)), (2, .int (iZ 1000)), (3, .int (iZ (i : Int)))] → W pg lau ev (zRm 3 240 14640 60) s1 mi ar bl me cd H locs 0 0 Q (F0 mi 10 ls []) := by
    intro N
    induction N with
    | zero => intro i H locs ls h; exact absurd h (Nat.not_lt_zero _)
    | succ N ih =>
      intro i H locs ls hd hi hH hl
      refine z_iload_n hC 10 hl dX1_laysPlaces_10 rfl 3 rfl ?_
      refine z_iload_n hC 11 hl dX1_laysPlaces_11 rfl 2 rfl ?_
      refine z_icmp_ge hC 12 37 dX1_laysPlaces_12 rfl (by omega) (by omega) (fun hb => ?_) (fun hb => ?_)
      · refine z_iconst hC 37 dX1_laysPlaces_37 ?_
        refine z_istore_n (lv' := [(1, .int (iZ 0)), (0, .ref (ad 99)), (2, .int (iZ 1000)), (3, .int (iZ (i : Int)))]) hC 38 hl dX1_laysPlaces_38 rfl (by decide) rfl (fun ls hl => ?_)
        refine L2 _ 0 0 0 L pl pr pa (pmZ pm i) pf H locs ls (Nat.lt_succ_self _) (Nat.zero_le _) (by omega) (by omega) ⟨hS.1, hS.2.1, fun y hy hyL => ?_⟩ (fun y hy => ?_) hH (lv_sub hl [1, 0] rfl)
        · obtain ⟨a1, a2, a3, a4⟩ := hS.2.2 y hy hyL
          have e : pmZ pm i y = pm y := by unfold pmZ; split; exact a3.symm; rfl
          rw [e]
          exact ⟨a1, a2, a3, a4⟩
        · have e : pmZ pm i y = 0 := by unfold pmZ; rw [if_pos (by omega)]
          rw [e]
          exact PlC_0
      · refine z_aload_n hC 15 hl dX1_laysPlaces_15 rfl 1 rfl ?_
        refine z_iload_n hC 16 hl dX1_laysPlaces_16 rfl 3 rfl ?_
        by_cases hin : i ∈ L
        · obtain ⟨k, hk⟩ := List.getElem?_of_mem hin
          have g1 := (dPool_at (G := G) (pr := pr) (pa := pa) (pm := pmZ pm i) (pf := pf) hk).1
          refine zp_aldq (CN := RX10) (v := .ref (pr i)) hC (va_P_l hH.1) 17 1 5 i rfl rfl (by decide) rfl (by omega) (by rw [(hS.2.1 _ hin).2]; rfl) dX1_laysPlaces_17 ?_
          refine z_astore (lv' := [(4, .ref (pr i)), (0, .ref (ad 99)), (1, .ref (ad 10)), (2, .int (iZ 1000)), (3, .int (iZ (i : Int)))]) hC 18 hl dX1_laysPlaces_18 (by decide) rfl (fun ls hl => ?_)
          refine z_aload hC 20 hl dX1_laysPlaces_20 0 rfl ?_
          refine lv_ifnull hC.1.1 hC.1.2.1 dX1_laysPlaces_22 ?_
          refine z_aload hC 25 hl dX1_laysPlaces_25 0 rfl ?_
          refine z_iconst hC 27 dX1_laysPlaces_27 ?_
          refine z_putN hC hH 28 tyX10 in_X10 tyX10_ok nmX10 rfl 1 (by decide) q709 (60 + 2 * k) (dW_at g1) rfl rfl rfl (Nat.le_of_ble_eq_true rfl) rfl dX1_laysPlaces_28 (fun H locs hH => ?_)
          have ew : (dW ad G F Ar kp pl (dPool G pr pa (pmZ pm i) pf L)).set (60 + 2 * k) (pr i, .inr (9, [.ref (pa i), .int (iZ ((0 : Nat) : Int))])) = dW ad G F Ar kp pl (dPool G pr pa (pmZ pm (i + 1)) pf L) := by
            rw [dW_set, dPool_m hS.1 hk, pmZ_s]
          have hH : zH s0 s1 G as0 ((dW ad G F Ar kp pl (dPool G pr pa (pmZ pm i) pf L)).set (60 + 2 * k) (pr i, .inr (9, [.ref (pa i), .int (iZ ((0 : Nat) : Int))]))) H locs := hH
          rw [ew] at hH
          refine z_iinc (lv' := [(3, .int (iZ ((i : Int) + 1))), (4, .ref (pr i)), (0, .ref (ad 99)), (1, .ref (ad 10)), (2, .int (iZ 1000))]) hC 31 hl dX1_laysPlaces_31 4 rfl rfl (by decide) rfl (fun ls hl => ?_)
          refine z_goto hC 34 10 dX1_laysPlaces_34 rfl ?_
          exact ih (i + 1) _ _ _ (by omega) (by omega) hH (lv_sub hl [2, 3, 4, 0] rfl)
        · have hnone := hS.2.2 i (by omega) hin
          refine zp_aldq (CN := RX10) (v := .null) hC (va_P_l hH.1) 17 1 5 i rfl rfl (by decide) rfl (by omega) (by rw [hnone.1]; rfl) dX1_laysPlaces_17 ?_
          refine lv_astoreN (lv' := [(4, .null), (0, .ref (ad 99)), (1, .ref (ad 10)), (2, .int (iZ 1000)), (3, .int (iZ (i : Int)))]) hC.1.1 hC.1.2.1 dX1_laysPlaces_18 hl (by decide) rfl (fun ls hl => ?_)
          refine lv_aloadN hC.1.1 hC.1.2.1 dX1_laysPlaces_20 (lv_at hl 0 rfl) ?_
          refine lv_ifnullN hC.1.1 hC.1.2.1 dX1_laysPlaces_22 (tgt := 31) rfl ?_
          have hH : zH s0 s1 G as0 (dW ad G F Ar kp pl (dPool G pr pa (pmZ pm (i + 1)) pf L)) H locs := by rw [← pmZ_n hnone.2.2.1]; exact hH
          refine z_iinc (lv' := [(3, .int (iZ ((i : Int) + 1))), (4, .null), (0, .ref (ad 99)), (1, .ref (ad 10)), (2, .int (iZ 1000))]) hC 31 hl dX1_laysPlaces_31 4 rfl rfl (by decide) rfl (fun ls hl => ?_)
          refine z_goto hC 34 10 dX1_laysPlaces_34 rfl ?_
          exact ih (i + 1) _ _ _ (by omega) (by omega) hH (lv_sub hl [2, 3, 4, 0] rfl)
  exact L1 _ 0 H locs ls (Nat.lt_succ_self _) (Nat.zero_le _) (by rw [pmZ_0]; exact hH) (lv_sub hl [3, 2, 1, 0] rfl)
