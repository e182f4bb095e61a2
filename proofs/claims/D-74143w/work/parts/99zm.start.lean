/-! the law: its start -/
set_option maxRecDepth 100000
def adOf (xs : List (Nat × Nat)) : Nat → Nat := fun k => (xs.lookup k).getD 0
section LSTA
variable {pg : Program} {l : Launch} {ev : Env} {R : Room} {s0 s : State} {m : MethodId} {ar : Array Value} {bl : List Frame} {me : Method} {c : Code} {H : Heap} {locs : List Loc} {ce sl : Nat} {Q : State → Prop} {G : zG} {cc : ByteArray} {nL : Nat} {own : String} {ret : Option FieldType} {ls : Array Slot} {st : List Value} {as0 : List Nat} {w : va_W}
theorem zH_arrq (hH : zH s0 s G as0 w H locs) {k a n : Nat} {cA : ClassId} {f g : Nat → Option Nat} (hk : w[k]? = some (a, .inl (cA, n, .inr (.inr (.inr (.inr f)))))) (h : ∀ j, j < n → f j = g j) : zH s0 s G as0 (w.set k (a, .inl (cA, n, .inr (.inr (.inr (.inr g)))))) H locs := by
  refine ⟨fun j q hq => ?_, hH.2.1.set hk, hH.2.2⟩
  by_cases e : j = k
  · subst e
    rw [List.getElem?_set_self (List.getElem?_eq_some_iff.mp hk).1] at hq
    cases hq
    have h1 := hH.1 j _ hk
    show H[a]? = some (vp_cell cA (n, .inr (.inr (.inr (.inr g)))))
    rw [vp_cell_q, ← arrV_cg (f := fun j => va_rf (f j)) (fun j hj => by show va_rf (f j) = va_rf (g j); rw [h j hj]), ← vp_cell_q]
    exact h1
  · rw [List.getElem?_set_ne (fun q => e q.symm)] at hq
    exact hH.1 j q hq
theorem z_newl (C : zC pg s0 s m ar me c G cc nL own ret) (hH : zH s0 s G as0 w H locs) (pc N : Nat) {e : Int} (he : e = N) (hN : N < 65536) (hf : ce + 1 ≤ R.cells ∧ sl + N ≤ R.slots) (hdg : decode cc pc = .ok (.newarray .long, 2))
    (kk : ∀ (q : Nat) (H1 : Heap), zH s0 s G as0 (w ++ [(q, .inl (G.2 3, N, .inr (.inl (fun _ => 0))))]) H1 locs → W pg l ev R s m ar bl me c H1 locs (ce + 1) (sl + N) Q (F0 m (pc + 2) ls (.ref q :: st))) : W pg l ev R s m ar bl me c H locs ce sl Q (F0 m pc ls (.int (iZ e) :: st)) := by
  subst he
  refine va_newa (atype := .long) (ty := .long) C.1.1 C.1.2.1 (C.1.2.2.2.2 _ q1972) rfl C.2.2.2.2.2 hH.1 hH.2.1 hH.2.2 (zB_new C) (N' := N) (a0 := (N, .inr (.inl (fun _ => 0)))) (fun _ => rfl) (fun h => ?_) (iZ_clamp N (by omega)) (by show N * 8 ≤ _; omega) hf.1 hf.2 hdg (fun q cA H1 k p d z => ?_)
  · exact nI_pos (n := N) (by omega) (by rw [← iZ_nI]; exact h)
  · have := z_arrcls C (t0 := 3) rfl trivial k
    subst this
    exact kk q H1 ⟨p, d, z⟩
end LSTA
set_option maxHeartbeats 16000000 in
theorem L_start {pg : Program} {l : Launch} {ev : Env} {s : State} {m : MethodId} {bl : List Frame} {me : Method} {c : Code} {G : zG} {sc LL : Nat} {xs : Nat → Int32} {nw : Nat} {wq wv : Nat → Nat} {lq lva : Nat} {ls : Array Slot} (CX : LCT pg l s m #[Value.ref sc] me c G sc LL xs nw wq wv lq lva) (hnwo : zNwo s nw) (hl : lv_has ls 7 [(0, .ref sc)]) : W pg l ev room_1 s m #[Value.ref sc] bl me c s.heap [] 0 0 (lw_Z bl #[Value.ref sc] s) (F0 m 0 ls []) := by
  have C := CX.1
  have hL := CX.2.1.2.2
  have hH : zH s s G [] [] s.heap [] := ⟨fun k q hk => by simp at hk, ⟨fun i j p q hp => by simp at hp, fun k q hk => by simp at hk⟩, va_S.rf⟩
  refine z_new (ci := 1) (N := 25) C hH 0 [.null, .int (0), .int (0), .int (0), .null, .null, .int (0), .int (0), .int (0), .int (0), .null, .null, .null, .null, .int (0), .null, .null, .int (0), .null, .null, .int (0), .int (0), .int (0), .null, .null] tyX1 in_X1 tyX1_ok rfl q125 q126 q89 (fun j hj => by
      match j, hj with
      | 0, _ => rfl
      | 1, _ => rfl
      | 2, _ => rfl
      | 3, _ => rfl
      | 4, _ => rfl
      | 5, _ => rfl
      | 6, _ => rfl
      | 7, _ => rfl
      | 8, _ => rfl
      | 9, _ => rfl
      | 10, _ => rfl
      | 11, _ => rfl
      | 12, _ => rfl
      | 13, _ => rfl
      | 14, _ => rfl
      | 15, _ => rfl
      | 16, _ => rfl
      | 17, _ => rfl
      | 18, _ => rfl
      | 19, _ => rfl
      | 20, _ => rfl
      | 21, _ => rfl
      | 22, _ => rfl
      | 23, _ => rfl
      | 24, _ => rfl
      | j + 25, hj => exact absurd hj (by omega)) ⟨Nat.le_of_ble_eq_true rfl, Nat.le_of_ble_eq_true rfl⟩ dL_law_0 (fun x0 H hH => ?_)
  have hH : zH s s G [] [(x0, .inr (1, [.null, .int (0), .int (0), .int (0), .null, .null, .int (0), .int (0), .int (0), .int (0), .null, .null, .null, .null, .int (0), .null, .null, .int (0), .null, .null, .int (0), .int (0), .int (0), .null, .null]))] H [] := hH
  refine z_dup C 3 dL_law_3 rfl ?_
  refine z_subN (z_runI C hH.2.2 hl.1 hH.1 hH.2.1 0 (As := []) (rest := [.ref x0]) (m_X1_init l s G _ x0) (lw_meth q129) q127 ⟨q89, q128⟩ rfl ⟨by decide, by decide, by decide +kernel⟩ rfl rfl (Nat.le_of_ble_eq_true rfl) ⟨Nat.le_of_ble_eq_true rfl, Nat.le_of_ble_eq_true rfl⟩ ⟨Nat.le_of_ble_eq_true rfl, Nat.le_of_ble_eq_true rfl⟩ dL_law_4) hH [0] rfl (by decide) (fun _ => rfl) (fun u H locs _ hH => ?_)
  obtain ⟨x8, x19, x7_23, x15_23, x30, x7_34, x15_34, x56, x64, x69, x80, x91, x102, x118, x126, x131, x7_135, x15_135, x141, x7_145, x15_145, x151, x7_155, x15_155, x161, x7_165, x15_165, x171, x7_175, x15_175, x181, x7_185, x15_185, x192, x7_196, x15_196, x203, x7_207, x15_207, x214, x7_218, x15_218, x225, x7_229, x15_229, x236, x7_240, x15_240, x247, x7_251, x15_251, x261, x270, x278, x287, x293, x7_297, x15_297, x306⟩ := u
  have hH : zH s s G [] ([(x0, .inr (1, [.ref x8, .int (0), .int (0), .int (iZ (-1)), .ref x19, .ref x30, .int (0), .int (iZ (8)), .int (0), .int (iZ (-2)), .ref x56, .ref x64, .ref x118, .ref x126, .int (0), .ref x261, .ref x270, .int (0), .ref x278, .ref x287, .int (0), .int (0), .int (0), .ref x293, .ref x306]))] ++ [(x8, .inl (G.2 1, 900, .inl (zA (fun _ => 0)))), (x19, .inr (2, [.ref x7_23, .ref x15_23, .int (0)])), (x7_23, .inl (G.2 0, 120, .inl (zA (fun _ => 0)))), (x15_23, .inl (G.2 0, 120, .inl (zA (fun _ => 0)))), (x30, .inr (2, [.ref x7_34, .ref x15_34, .int (0)])), (x7_34, .inl (G.2 0, 120, .inl (zA (fun _ => 0)))), (x15_34, .inl (G.2 0, 120, .inl (zA (fun _ => 0)))), (x56, .inl (G.2 5, 1000, .inr (.inr (.inr (.inr (fun _ => none)))))), (x64, .inl (G.2 6, 4, .inr (.inr (.inr (.inr (va_up (va_up (va_up (va_up (fun _ => none) 0 (some x69)) 1 (some x80)) 2 (some x91)) 3 (some x102))))))), (x69, .inr (3, [.ref x0])), (x80, .inr (4, [.ref x0])), (x91, .inr (5, [.ref x0])), (x102, .inr (6, [.ref x0])), (x118, .inl (G.2 0, 3600, .inl (zA (fun _ => 0)))), (x126, .inl (G.2 4, 12, .inr (.inr (.inr (.inr (va_up (va_up (va_up (va_up (va_up (va_up (va_up (va_up (va_up (va_up (va_up (va_up (fun _ => none) 0 (some x131)) 1 (some x141)) 2 (some x151)) 3 (some x161)) 4 (some x171)) 5 (some x181)) 6 (some x192)) 7 (some x203)) 8 (some x214)) 9 (some x225)) 10 (some x236)) 11 (some x247))))))), (x131, .inr (2, [.ref x7_135, .ref x15_135, .int (0)])), (x7_135, .inl (G.2 0, 120, .inl (zA (fun _ => 0)))), (x15_135, .inl (G.2 0, 120, .inl (zA (fun _ => 0)))), (x141, .inr (2, [.ref x7_145, .ref x15_145, .int (0)])), (x7_145, .inl (G.2 0, 120, .inl (zA (fun _ => 0)))), (x15_145, .inl (G.2 0, 120, .inl (zA (fun _ => 0)))), (x151, .inr (2, [.ref x7_155, .ref x15_155, .int (0)])), (x7_155, .inl (G.2 0, 120, .inl (zA (fun _ => 0)))), (x15_155, .inl (G.2 0, 120, .inl (zA (fun _ => 0)))), (x161, .inr (2, [.ref x7_165, .ref x15_165, .int (0)])), (x7_165, .inl (G.2 0, 120, .inl (zA (fun _ => 0)))), (x15_165, .inl (G.2 0, 120, .inl (zA (fun _ => 0)))), (x171, .inr (2, [.ref x7_175, .ref x15_175, .int (0)])), (x7_175, .inl (G.2 0, 120, .inl (zA (fun _ => 0)))), (x15_175, .inl (G.2 0, 120, .inl (zA (fun _ => 0)))), (x181, .inr (2, [.ref x7_185, .ref x15_185, .int (0)])), (x7_185, .inl (G.2 0, 120, .inl (zA (fun _ => 0)))), (x15_185, .inl (G.2 0, 120, .inl (zA (fun _ => 0)))), (x192, .inr (2, [.ref x7_196, .ref x15_196, .int (0)])), (x7_196, .inl (G.2 0, 120, .inl (zA (fun _ => 0)))), (x15_196, .inl (G.2 0, 120, .inl (zA (fun _ => 0)))), (x203, .inr (2, [.ref x7_207, .ref x15_207, .int (0)])), (x7_207, .inl (G.2 0, 120, .inl (zA (fun _ => 0)))), (x15_207, .inl (G.2 0, 120, .inl (zA (fun _ => 0)))), (x214, .inr (2, [.ref x7_218, .ref x15_218, .int (0)])), (x7_218, .inl (G.2 0, 120, .inl (zA (fun _ => 0)))), (x15_218, .inl (G.2 0, 120, .inl (zA (fun _ => 0)))), (x225, .inr (2, [.ref x7_229, .ref x15_229, .int (0)])), (x7_229, .inl (G.2 0, 120, .inl (zA (fun _ => 0)))), (x15_229, .inl (G.2 0, 120, .inl (zA (fun _ => 0)))), (x236, .inr (2, [.ref x7_240, .ref x15_240, .int (0)])), (x7_240, .inl (G.2 0, 120, .inl (zA (fun _ => 0)))), (x15_240, .inl (G.2 0, 120, .inl (zA (fun _ => 0)))), (x247, .inr (2, [.ref x7_251, .ref x15_251, .int (0)])), (x7_251, .inl (G.2 0, 120, .inl (zA (fun _ => 0)))), (x15_251, .inl (G.2 0, 120, .inl (zA (fun _ => 0)))), (x261, .inl (G.2 0, 120, .inl (zA (fun _ => 0)))), (x270, .inl (G.2 2, 1000, .inl (zA (fun _ => 0)))), (x278, .inl (G.2 0, 120, .inl (zA (fun _ => 0)))), (x287, .inl (G.2 0, 1000, .inl (zA (fun _ => 0)))), (x293, .inr (2, [.ref x7_297, .ref x15_297, .int (0)])), (x7_297, .inl (G.2 0, 120, .inl (zA (fun _ => 0)))), (x15_297, .inl (G.2 0, 120, .inl (zA (fun _ => 0)))), (x306, .inl (G.2 0, 121, .inl (zA (fun _ => 0))))]) H locs := hH
  have hH := zH_arrq (g := fun j => some ((adOf [(0, x8), (10, x56), (11, x64), (12, x118), (13, x126), (15, x261), (16, x270), (18, x278), (19, x287), (24, x306), (99, x0), (200, x19), (201, x7_23), (202, x15_23), (203, x30), (204, x7_34), (205, x15_34), (206, x293), (207, x7_297), (208, x15_297), (209, x131), (210, x7_135), (211, x15_135), (212, x141), (213, x7_145), (214, x15_145), (215, x151), (216, x7_155), (217, x15_155), (218, x161), (219, x7_165), (220, x15_165), (221, x171), (222, x7_175), (223, x15_175), (224, x181), (225, x7_185), (226, x15_185), (227, x192), (228, x7_196), (229, x15_196), (230, x203), (231, x7_207), (232, x15_207), (233, x214), (234, x7_218), (235, x15_218), (236, x225), (237, x7_229), (238, x15_229), (239, x236), (240, x7_240), (241, x15_240), (242, x247), (243, x7_251), (244, x15_251), (301, x69), (302, x80), (303, x91), (304, x102)]) (301 + j))) hH (k := 9) rfl (fun j hj => by rcases (show j = 0 ∨ j = 1 ∨ j = 2 ∨ j = 3 from by omega) with rfl | rfl | rfl | rfl <;> rfl)
  have hH := zH_arrq (g := fun j => some ((adOf [(0, x8), (10, x56), (11, x64), (12, x118), (13, x126), (15, x261), (16, x270), (18, x278), (19, x287), (24, x306), (99, x0), (200, x19), (201, x7_23), (202, x15_23), (203, x30), (204, x7_34), (205, x15_34), (206, x293), (207, x7_297), (208, x15_297), (209, x131), (210, x7_135), (211, x15_135), (212, x141), (213, x7_145), (214, x15_145), (215, x151), (216, x7_155), (217, x15_155), (218, x161), (219, x7_165), (220, x15_165), (221, x171), (222, x7_175), (223, x15_175), (224, x181), (225, x7_185), (226, x15_185), (227, x192), (228, x7_196), (229, x15_196), (230, x203), (231, x7_207), (232, x15_207), (233, x214), (234, x7_218), (235, x15_218), (236, x225), (237, x7_229), (238, x15_229), (239, x236), (240, x7_240), (241, x15_240), (242, x247), (243, x7_251), (244, x15_251), (301, x69), (302, x80), (303, x91), (304, x102)]) ((fun j => 209 + 3 * j) j))) hH (k := 15) rfl (fun j hj => by rcases (show j = 0 ∨ j = 1 ∨ j = 2 ∨ j = 3 ∨ j = 4 ∨ j = 5 ∨ j = 6 ∨ j = 7 ∨ j = 8 ∨ j = 9 ∨ j = 10 ∨ j = 11 from by omega) with rfl | rfl | rfl | rfl | rfl | rfl | rfl | rfl | rfl | rfl | rfl | rfl <;> rfl)
  have hH : zH s s G [] (dW0 (adOf [(0, x8), (10, x56), (11, x64), (12, x118), (13, x126), (15, x261), (16, x270), (18, x278), (19, x287), (24, x306), (99, x0), (200, x19), (201, x7_23), (202, x15_23), (203, x30), (204, x7_34), (205, x15_34), (206, x293), (207, x7_297), (208, x15_297), (209, x131), (210, x7_135), (211, x15_135), (212, x141), (213, x7_145), (214, x15_145), (215, x151), (216, x7_155), (217, x15_155), (218, x161), (219, x7_165), (220, x15_165), (221, x171), (222, x7_175), (223, x15_175), (224, x181), (225, x7_185), (226, x15_185), (227, x192), (228, x7_196), (229, x15_196), (230, x203), (231, x7_207), (232, x15_207), (233, x214), (234, x7_218), (235, x15_218), (236, x225), (237, x7_229), (238, x15_229), (239, x236), (240, x7_240), (241, x15_240), (242, x247), (243, x7_251), (244, x15_251), (301, x69), (302, x80), (303, x91), (304, x102)]) G (fun k => if k = 3 then -1 else if k = 7 then 8 else if k = 9 then -2 else 0) (fun _ _ => 0) (fun j => 209 + 3 * j) (fun _ => none)) H locs := ⟨z_subP hH.1 [0, 8, 9, 15, 1, 14, 52, 53, 54, 55, 59, 2, 3, 4, 5, 6, 7, 56, 57, 58, 16, 17, 18, 19, 20, 21, 22, 23, 24, 25, 26, 27, 28, 29, 30, 31, 32, 33, 34, 35, 36, 37, 38, 39, 40, 41, 42, 43, 44, 45, 46, 47, 48, 49, 50, 51, 10, 11, 12, 13] rfl, z_subD hH.2.1 [0, 8, 9, 15, 1, 14, 52, 53, 54, 55, 59, 2, 3, 4, 5, 6, 7, 56, 57, 58, 16, 17, 18, 19, 20, 21, 22, 23, 24, 25, 26, 27, 28, 29, 30, 31, 32, 33, 34, 35, 36, 37, 38, 39, 40, 41, 42, 43, 44, 45, 46, 47, 48, 49, 50, 51, 10, 11, 12, 13] (by decide) rfl, hH.2.2⟩
  obtain ⟨ad, had⟩ : ∃ ad : Nat → Nat, ad = (adOf [(0, x8), (10, x56), (11, x64), (12, x118), (13, x126), (15, x261), (16, x270), (18, x278), (19, x287), (24, x306), (99, x0), (200, x19), (201, x7_23), (202, x15_23), (203, x30), (204, x7_34), (205, x15_34), (206, x293), (207, x7_297), (208, x15_297), (209, x131), (210, x7_135), (211, x15_135), (212, x141), (213, x7_145), (214, x15_145), (215, x151), (216, x7_155), (217, x15_155), (218, x161), (219, x7_165), (220, x15_165), (221, x171), (222, x7_175), (223, x15_175), (224, x181), (225, x7_185), (226, x15_185), (227, x192), (228, x7_196), (229, x15_196), (230, x203), (231, x7_207), (232, x15_207), (233, x214), (234, x7_218), (235, x15_218), (236, x225), (237, x7_229), (238, x15_229), (239, x236), (240, x7_240), (241, x15_240), (242, x247), (243, x7_251), (244, x15_251), (301, x69), (302, x80), (303, x91), (304, x102)]) := ⟨_, rfl⟩
  have h99 : ad 99 = x0 := by rw [had]; rfl
  rw [← had] at hH
  refine z_st (st' := [.ref (ad 99)]) (by rw [h99]; rfl) ?_
  refine z_astore_n (lv' := [(1, .ref (ad 99)), (0, .ref sc)]) C 7 hl dL_law_7 rfl (by decide) rfl (fun ls hl => ?_)
  refine z_new (ci := 0) (N := 42) C hH 8 [.int (0), .null, .int (0), .null, .null, .int (0), .int (0), .int (0), .int (0), .null, .null, .null, .int (0), .int (0), .null, .null, .int (0), .int (0), .int (0), .int (0), .int (0), .int (0), .int (0), .int (0), .int (0), .int (0), .int (0), .int (0), .int (0), .int (0), .int (0), .null, .null, .int (0), .null, .null, .null, .null, .int (0), .null, .null, .null] tyX7 in_X7 tyX7_ok rfl q1414 q1415 q95 (fun j hj => by
      match j, hj with
      | 0, _ => rfl
      | 1, _ => rfl
      | 2, _ => rfl
      | 3, _ => rfl
      | 4, _ => rfl
      | 5, _ => rfl
      | 6, _ => rfl
      | 7, _ => rfl
      | 8, _ => rfl
      | 9, _ => rfl
      | 10, _ => rfl
      | 11, _ => rfl
      | 12, _ => rfl
      | 13, _ => rfl
      | 14, _ => rfl
      | 15, _ => rfl
      | 16, _ => rfl
      | 17, _ => rfl
      | 18, _ => rfl
      | 19, _ => rfl
      | 20, _ => rfl
      | 21, _ => rfl
      | 22, _ => rfl
      | 23, _ => rfl
      | 24, _ => rfl
      | 25, _ => rfl
      | 26, _ => rfl
      | 27, _ => rfl
      | 28, _ => rfl
      | 29, _ => rfl
      | 30, _ => rfl
      | 31, _ => rfl
      | 32, _ => rfl
      | 33, _ => rfl
      | 34, _ => rfl
      | 35, _ => rfl
      | 36, _ => rfl
      | 37, _ => rfl
      | 38, _ => rfl
      | 39, _ => rfl
      | 40, _ => rfl
      | 41, _ => rfl
      | j + 42, hj => exact absurd hj (by omega)) ⟨Nat.le_of_ble_eq_true rfl, Nat.le_of_ble_eq_true rfl⟩ dL_law_8 (fun m0 H hH => ?_)
  refine z_dup C 11 dL_law_11 rfl ?_
  refine z_subN (z_runI C hH.2.2 hl.1 (z_subP hH.1 [60] rfl) (z_subD hH.2.1 [60] (by decide) rfl) 0 (As := []) (rest := [.ref m0]) (m_X7_init l s G _ m0) (lw_meth q1418) q1416 ⟨q95, q1417⟩ rfl ⟨by decide, by decide, by decide +kernel⟩ rfl rfl (Nat.le_of_ble_eq_true rfl) ⟨Nat.le_of_ble_eq_true rfl, Nat.le_of_ble_eq_true rfl⟩ ⟨Nat.le_of_ble_eq_true rfl, Nat.le_of_ble_eq_true rfl⟩ dL_law_12) hH [60] rfl (by decide) (fun _ => rfl) (fun u H locs _ hH => ?_)
  obtain ⟨x8m, x16m, x24m, x33m, x42m, x50m, x64m, x72m, x85m, x93m, x102m, x111m, x120m, x128m, x137m, x146m, x154m⟩ := u
  have hH : zH s s G [] (dW0 ad G (fun k => if k = 3 then -1 else if k = 7 then 8 else if k = 9 then -2 else 0) (fun _ _ => 0) (fun j => 209 + 3 * j) (fun _ => none) ++ mW (adOf [(0, m0), (1, x8m), (3, x16m), (4, x24m), (9, x33m), (10, x42m), (11, x50m), (14, x64m), (15, x72m), (31, x85m), (32, x93m), (34, x102m), (35, x111m), (36, x120m), (37, x128m), (39, x137m), (40, x146m), (41, x154m)]) G (fun k => if k = 6 then 8 else if k = 13 then -2 else if k = 30 then -1 else 0) (fun _ _ => 0)) H locs := hH
  obtain ⟨adm, hadm⟩ : ∃ adm : Nat → Nat, adm = (adOf [(0, m0), (1, x8m), (3, x16m), (4, x24m), (9, x33m), (10, x42m), (11, x50m), (14, x64m), (15, x72m), (31, x85m), (32, x93m), (34, x102m), (35, x111m), (36, x120m), (37, x128m), (39, x137m), (40, x146m), (41, x154m)]) := ⟨_, rfl⟩
  have h00 : adm 0 = m0 := by rw [hadm]; rfl
  rw [← hadm] at hH
  refine z_st (st' := [.ref (adm 0)]) (by rw [h00]; rfl) ?_
  refine z_astore_n (lv' := [(2, .ref (adm 0)), (1, .ref (ad 99)), (0, .ref sc)]) C 15 hl dL_law_15 rfl (by decide) rfl (fun ls hl => ?_)
  refine z_iconst C 16 dL_law_16 ?_
  refine z_newl C hH 17 1 rfl (by decide) ⟨Nat.le_of_ble_eq_true rfl, Nat.le_of_ble_eq_true rfl⟩ dL_law_17 (fun o H hH => ?_)
  refine z_astore_n (lv' := [(3, .ref o), (2, .ref (adm 0)), (1, .ref (ad 99)), (0, .ref sc)]) C 19 hl dL_law_19 rfl (by decide) rfl (fun ls hl => ?_)
  refine z_iconst C 20 dL_law_20 ?_
  refine z_istore (lv' := [(4, .int (iZ ((0 : Nat) : Int))), (3, .ref o), (2, .ref (adm 0)), (1, .ref (ad 99)), (0, .ref sc)]) C 21 hl dL_law_21 (by decide) rfl (fun ls hl => ?_)
  refine W.widen (k := 240000) (n := 400000) (by decide) (by decide) (L_loop CX 24 0 ls H locs 240000 400000 hl (by omega) (by omega) (by decide) (by decide) ?_)
  refine ⟨fun _ => 0, 0, 0, 0, -1, 8, 0, 0, fun _ => 0, fun _ => 0, 0, fun _ => 0, fun _ _ => 0, fun _ _ => 0, -2, (fun k => if k = 3 then -1 else if k = 7 then 8 else if k = 9 then -2 else 0), (fun _ _ => 0), (fun j => 209 + 3 * j), [], (fun _ => none), fun _ => nw, fun _ => 0, fun _ => 0, fun _ _ => 0, (fun k => if k = 6 then 8 else if k = 13 then -2 else if k = 30 then -1 else 0), (fun _ _ => 0), fun _ => 0, ?_, ?_, ?_⟩
  · exact ⟨⟨⟨by decide, rfl, fun i hi => absurd hi (Nat.not_lt_zero _), fun i hi => absurd hi (Nat.not_lt_zero _), fun i hi => absurd hi (Nat.not_lt_zero _), fun i hi => absurd hi (Nat.not_lt_zero _)⟩, ⟨by decide, rfl, by decide, rfl⟩, ⟨by decide, rfl, ⟨fun j hj => ⟨j, hj, rfl⟩, fun i j _ _ (h : 209 + 3 * i = 209 + 3 * j) => by omega⟩, fun k hk => absurd hk (Nat.not_lt_zero _)⟩, ⟨⟨List.nodup_nil, fun y hy => absurd hy List.not_mem_nil, fun y _ _ => ⟨rfl, rfl, rfl, hnwo⟩⟩, fun y _ => ⟨rfl, fun j hj => absurd hj (Nat.not_lt_zero _)⟩⟩, fun i j _ h => absurd h (Nat.not_lt_zero _), rfl, rfl⟩, ⟨rfl, rfl, rfl, rfl⟩, fun i hi => absurd hi (Nat.not_lt_zero _), by decide, fun i hi => absurd hi (Nat.not_lt_zero _)⟩
  · exact ⟨⟨rfl, rfl, rfl, rfl, rfl, rfl, rfl, rfl, rfl⟩, rfl, fun i hi => absurd hi (Nat.not_lt_zero _), fun i hi => absurd hi (Nat.not_lt_zero _), fun k hk => absurd hk (Nat.not_lt_zero _)⟩
  · show zH s s G [] ((dW0 ad G (fun k => if k = 3 then -1 else if k = 7 then 8 else if k = 9 then -2 else 0) (fun _ _ => 0) (fun j => 209 + 3 * j) (fun _ => none) ++ []) ++ (mW adm G (fun k => if k = 6 then 8 else if k = 13 then -2 else if k = 30 then -1 else 0) (fun _ _ => 0) ++ [(o, .inl (G.2 3, 1, .inr (.inl (fun _ => 0))))])) H locs
    rw [List.append_nil, ← List.append_assoc]
    exact hH
theorem whole_start {p : Program} {e : Env} {s : State} {m : MethodId} {below : List Frame} {meth : Method} {c : Code} (l : Launch) (hflags : l.flags = flags0) {b L : Nat} {xs : Nat → Int32} (hL : L ≤ 144) (C0 : lw_At p s m meth c b L xs) : W p l e room_1 s m #[Value.ref b] below meth c s.heap [] 0 0 (lw_Z below #[Value.ref b] s) (entryFrame m ([Value.ref b] : List Value).toArray 7) := by
  obtain ⟨hx, hb, hr, hml, hown, hts, hX, hbl, hlocks, hgv⟩ := C0
  obtain ⟨G, hK⟩ := zG_ex hts
  have hst : zSt s G := ⟨⟨b, hts, hgv⟩, hK⟩
  have C : zC p s s m #[Value.ref b] meth c G cL_law 7 "ModeDeskLaw" (some .boolean) := ⟨⟨hx, hb, hml, hown, fun x h => hts x (lw_all_tbl h)⟩, hr, hlocks, hst, ⟨State.WarmedH.refl s, Nat.le_refl _, fun _ _ => rfl⟩, hK⟩
  obtain ⟨nw, hnw, hnwo⟩ := zPre_nw hst
  obtain ⟨hcs, hsi⟩ := zPre_cs hst
  obtain ⟨wq, wv, hW⟩ := zPre_rw hst
  obtain ⟨lq, lva, hlit⟩ := zPre_m hst
  have hlt : l.stackTraces = false := by unfold Launch.stackTraces; rw [hflags]; decide +kernel
  have hl := lv_entry [Value.ref b] (n := 7) (Nat.le_of_ble_eq_true rfl)
  rw [lg_entry_eq]
  exact L_start (nw := nw) (wq := wq) (wv := wv) (lq := lq) (lva := lva) ⟨C, ⟨hX, hbl, hL⟩, hlt, hnw, zPre_bx hst, hcs, hsi, zPre_thr hst, zPre_thq hst, zPre_nni hst, hW, hlit⟩ hnwo hl
