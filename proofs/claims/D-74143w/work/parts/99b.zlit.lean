/-! texts as the premise tells them; rows for the JDK's own methods -/
set_option maxRecDepth 100000
/-- the text at q of n letters f -/
def zStr (s0 : State) (q va n : Nat) (f : Nat → Nat) : Prop := va_O RJ2 q (fun q => s0.heap.size ≤ q) s0 s0.heap ∧ va_OF RJ2 "coder" "B" (.int (iZ 0)) q (fun q => s0.heap.size ≤ q) s0 s0.heap ∧ va_OF RJ2 "value" "[B" (.ref va) q (fun q => s0.heap.size ≤ q) s0 s0.heap ∧ va_T .byte va n (fun j => .int (iZ (f j : Int))) (fun q => s0.heap.size ≤ q) s0 s0.heap ∧ n ≤ 100 ∧ ∀ j, j < n → f j < 128
def zCS (s0 : State) : Prop := va_Z RJ2 "COMPACT_STRINGS" "Z" (.int (iZ 1)) (fun q => s0.heap.size ≤ q) s0 s0.heap
def zSio (s0 : State) : Prop := ∃ q : Value, q.isRef = true ∧ va_Z RJ8 "SIOOBE_FORMATTER" "Ljava/util/function/BiFunction;" q (fun q => s0.heap.size ≤ q) s0 s0.heap
/-- the k-th entry of a class is the text at q -/
def zLit (s0 : State) (own : String) (k : Nat) (tx : String) (q va n : Nat) (f : Nat → Nat) : Prop := vk_R own k tx q s0 ∧ zStr s0 q va n f
theorem zStr_of {args : Array Value} {s0 : State} {tm : Term} {n : Nat} {f : Nat → Nat} (hn : n ≤ 100) (hf : ∀ j, j < n → f j < 128) (hex : (Cond.exactly tm "java/lang/String").before args s0 = true) (hco : (Cond.eq (.field tm "java/lang/String" "coder" "B") (.int 0)).before args s0 = true) (har : (Cond.arrayOf (.field tm "java/lang/String" "value" "[B") .byte).before args s0 = true) (hle : (Cond.eq (.length (.field tm "java/lang/String" "value" "[B")) (.int (Int32.ofNat n))).before args s0 = true) (hel : ∀ j : Nat, j < n → (Cond.eq (.elem (.field tm "java/lang/String" "value" "[B") (.int (Int32.ofNat j))) (.int (iZ (f j : Int)))).before args s0 = true) : ∃ q va : Nat, tm.eval args s0 none [] s0 = some (.ref q) ∧ zStr s0 q va n f := by
  have hA : ∀ q : Nat, q < s0.heap.size → ¬ (s0.heap.size ≤ q) := fun q h => Nat.not_le.mpr h
  obtain ⟨a, c, cA, kA, q1, q2, q3, q4, q5, q6, -⟩ := Cond.exactly_spec (args := args) (first := s0) (o := none) (s := s0) (idx := []) (t := tm) (cls := "java/lang/String") hex
  obtain ⟨t, ht, hT⟩ := va_Tof (f := fun j => .int (iZ (f j : Int))) (A := fun q => s0.heap.size ≤ q) (show n < 2 ^ 31 by omega) har (va_eqt hle) (fun j hj => va_eqt (hel j hj)) hA
  exact ⟨a, t, q1, ⟨cA, q3, q5, by rw [q6]; exact q2, hA a (Array.getElem?_eq_some_iff.mp q3).1⟩, by rw [show iZ 0 = (0 : Int32) from by decide]; exact vk_OFof q1 (va_eqt hco) hA, vk_OFof q1 ht hA, hT, hn, hf⟩
section ZLIT
variable {pg : Program} {l : Launch} {ev : Env} {R : Room} {s0 s : State} {m : MethodId} {ar : Array Value} {bl : List Frame} {me : Method} {c : Code} {H : Heap} {locs : List Loc} {ce sl : Nat} {Q : State → Prop} {G : zG} {cc : ByteArray} {nL : Nat} {own : String} {ret : Option FieldType} {ls : Array Slot} {st : List Value} {as0 : List Nat} {w : va_W}
theorem zp_tb (C : zC pg s0 s m ar me c G cc nL own ret) (hS : va_S (zB s0 s.heap.size as0) s.heap H locs) (pc n : Nat) {t N : Nat} {f : Nat → Nat} {e x : Int} (hT : va_T .byte t N (fun j => .int (iZ (f j : Int))) (fun q => s0.heap.size ≤ q) s0 s0.heap) (hN : N < 2147483648) (hi : e = n) (hlt : n < N) (hx : (f n : Int) = x) (hdg : decode cc pc = .ok (.baload, 1)) (kk : W pg l ev R s m ar bl me c H locs ce sl Q (F0 m (pc + 1) ls (.int (iZ x) :: st))) : W pg l ev R s m ar bl me c H locs ce sl Q (F0 m pc ls (.int (iZ e) :: .ref t :: st)) := by
  subst hi; subst hx
  exact va_tb C.1.1 C.1.2.1 (zT_up C hT) hS (iZ_in hlt hN) (by rw [iZ_clamp n (by omega)]) hdg kk
theorem zp_tlen (C : zC pg s0 s m ar me c G cc nL own ret) (hS : va_S (zB s0 s.heap.size as0) s.heap H locs) (pc : Nat) {ty : FieldType} {t N : Nat} {f : Nat → Value} (hT : va_T ty t N f (fun q => s0.heap.size ≤ q) s0 s0.heap) (hdg : decode cc pc = .ok (.arraylength, 1)) (kk : W pg l ev R s m ar bl me c H locs ce sl Q (F0 m (pc + 1) ls (.int (iZ (N : Int)) :: st))) : W pg l ev R s m ar bl me c H locs ce sl Q (F0 m pc ls (.ref t :: st)) :=
  va_tlen C.1.1 C.1.2.1 (zT_up C hT) hS (by rw [iZ_nI]; rfl) hdg kk
theorem zp_alen (C : zC pg s0 s m ar me c G cc nL own ret) (hP : va_P G.1 vwCl w H) (pc q0 t0 : Nat) {cA : ClassId} {ty : FieldType} {a len : Nat} {f : (Nat → Int32) ⊕ (Nat → Int64) ⊕ (Nat → UInt32) ⊕ (Nat → UInt64) ⊕ (Nat → Option Nat)} (he : w[q0]? = some (a, .inl (cA, len, f))) (ht : (vTys G.2)[t0]? = some (cA, ty)) (hdg : decode cc pc = .ok (.arraylength, 1)) (kk : W pg l ev R s m ar bl me c H locs ce sl Q (F0 m (pc + 1) ls (.int (iZ (len : Int)) :: st))) : W pg l ev R s m ar bl me c H locs ce sl Q (F0 m pc ls (.ref a :: st)) :=
  va_alen C.1.1 C.1.2.1 C.2.2.2.2.2 hP q0 t0 he ht (by rw [iZ_nI]; rfl) hdg kk
theorem zp_nret {S : Type} {res : S → Option Value} {P : S → Prop} {ty : FieldType} (C : zC pg s0 s m ar me c G cc nL own (some ty)) (hQ : zPd Q bl ar s res P) (pc : Nat) (u : S) {v : Int32} (hdg : decode cc pc = .ok (.ireturn, 1)) (hn : narrow ty (.int v) = .int v) (hres : res u = some (.int v)) (hP : P u) : W pg l ev R s m ar bl me c s.heap [] 0 0 Q (F0 m pc ls [.int v]) := by
  cases hQ
  exact W.zret C.1.1 C.1.2.1 C.2.1 hn (fun t ht _ => ⟨u, by rw [hres], hP, ht⟩) (fun _ h => by cases h) hdg C.2.2.1
theorem c_wide : ∀ a : Nat, a < 256 → ((iZ (a : Int)).toUInt32 % 65536).toInt32 = iZ (a : Int) ∧ narrow .char (.int (iZ (a : Int))) = .int (iZ (a : Int)) := by decide +kernel
theorem z_i2c (C : zC pg s0 s m ar me c G cc nL own ret) (pc : Nat) {a : Nat} (ha : a < 256) (hdg : decode cc pc = .ok (.i2c, 1)) (kk : W pg l ev R s m ar bl me c H locs ce sl Q (F0 m (pc + 1) ls (.int (iZ (a : Int)) :: st))) : W pg l ev R s m ar bl me c H locs ce sl Q (F0 m pc ls (.int (iZ (a : Int)) :: st)) := lv_i2c C.1.1 C.1.2.1 hdg (c_wide a ha).1 kk
theorem zp_ldcS (C : zC pg s0 s m ar me c G cc nL own ret) (pc : Nat) {idx q : Nat} {tx : String} (hR : vk_R own idx tx q s0) (hdg : decode cc pc = .ok (.ldc idx, 2)) (kk : W pg l ev R s m ar bl me c H locs ce sl Q (F0 m (pc + 2) ls (.ref q :: st))) : W pg l ev R s m ar bl me c H locs ce sl Q (F0 m pc ls st) := va_ldcS C.1.1 C.1.2.1 C.1.2.2.2.1 (vk_R.warm C.2.2.2.2.1.1 hR) hdg kk
theorem zp_ldc (C : zC pg s0 s m ar me c G cc nL own ret) (pc : Nat) {idx : Nat} {z : Int} {v : Int32} (hq : Cond.constant own idx v ∈ lw_all) (hv : v = iZ z) (hdg : decode cc pc = .ok (.ldc idx, 2)) (kk : W pg l ev R s m ar bl me c H locs ce sl Q (F0 m (pc + 2) ls (.int (iZ z) :: st))) : W pg l ev R s m ar bl me c H locs ce sl Q (F0 m pc ls st) := by
  subst hv
  exact lv_ldc C.1.1 C.1.2.1 C.1.2.2.2.1 (C.1.2.2.2.2 _ hq) hdg kk
end ZLIT
theorem zPre_cs {s0 : State} {G : zG} (h : zSt s0 G) : zCS s0 ∧ zSio s0 := by
  obtain ⟨⟨b, hb, hg⟩, -⟩ := h
  have hn := c_right hg
  have hA : ∀ q : Nat, q < s0.heap.size → ¬ (s0.heap.size ≤ q) := fun q h => Nat.not_le.mpr h
  have h2 : (Cond.eq (.static "java/lang/String" "COMPACT_STRINGS" "Z") (.int (1 : Int32))).before #[.ref b] s0 = true := nw_leaf hn 2 rfl
  have h3 : (Cond.isRef (.static "jdk/internal/util/Preconditions" "SIOOBE_FORMATTER" "Ljava/util/function/BiFunction;")).before #[.ref b] s0 = true := nw_leaf hn 3 rfl
  obtain ⟨q, hq, hr⟩ := Cond.isRef_spec (args := #[.ref b]) (first := s0) (o := none) (s := s0) (idx := []) h3
  refine ⟨?_, q, hr, va_Zof (hb _ q485) (hb _ (lw_all_tbl q106)) hq hA⟩
  unfold zCS
  rw [show iZ 1 = (1 : Int32) from by decide]
  exact va_Zof (hb _ q387) (hb _ (lw_all_tbl q99)) (va_eqt h2) hA
def wD (k : Nat) (j : Nat) : Nat := wC (wO k + j)
theorem zPre_m {s0 : State} {G : zG} (h : zSt s0 G) : ∃ q va : Nat, zLit s0 "ModeDeskModel" 107 "first last least most row weight block ties " q va 44 wC := by
  obtain ⟨⟨b, hb, hg⟩, -⟩ := h
  have hn := c_right hg
  have h0 : (Cond.exactly (.string "ModeDeskModel" 107) "java/lang/String").before #[.ref b] s0 = true := nw_leaf hn 391 rfl
  have h1 : (Cond.eq (.field (.string "ModeDeskModel" 107) "java/lang/String" "coder" "B") (.int (0 : Int32))).before #[.ref b] s0 = true := nw_leaf hn 392 rfl
  have h2 : (Cond.arrayOf (.field (.string "ModeDeskModel" 107) "java/lang/String" "value" "[B") .byte).before #[.ref b] s0 = true := nw_leaf hn 393 rfl
  have h3 : (Cond.eq (.length (.field (.string "ModeDeskModel" 107) "java/lang/String" "value" "[B")) (.int (44 : Int32))).before #[.ref b] s0 = true := nw_leaf hn 394 rfl
  have e0 : (Cond.eq (.elem (.field (.string "ModeDeskModel" 107) "java/lang/String" "value" "[B") (.int (0 : Int32))) (.int (102 : Int32))).before #[.ref b] s0 = true := nw_leaf hn 395 rfl
  have e1 : (Cond.eq (.elem (.field (.string "ModeDeskModel" 107) "java/lang/String" "value" "[B") (.int (1 : Int32))) (.int (105 : Int32))).before #[.ref b] s0 = true := nw_leaf hn 396 rfl
  have e2 : (Cond.eq (.elem (.field (.string "ModeDeskModel" 107) "java/lang/String" "value" "[B") (.int (2 : Int32))) (.int (114 : Int32))).before #[.ref b] s0 = true := nw_leaf hn 397 rfl
  have e3 : (Cond.eq (.elem (.field (.string "ModeDeskModel" 107) "java/lang/String" "value" "[B") (.int (3 : Int32))) (.int (115 : Int32))).before #[.ref b] s0 = true := nw_leaf hn 398 rfl
  have e4 : (Cond.eq (.elem (.field (.string "ModeDeskModel" 107) "java/lang/String" "value" "[B") (.int (4 : Int32))) (.int (116 : Int32))).before #[.ref b] s0 = true := nw_leaf hn 399 rfl
  have e5 : (Cond.eq (.elem (.field (.string "ModeDeskModel" 107) "java/lang/String" "value" "[B") (.int (5 : Int32))) (.int (32 : Int32))).before #[.ref b] s0 = true := nw_leaf hn 400 rfl
  have e6 : (Cond.eq (.elem (.field (.string "ModeDeskModel" 107) "java/lang/String" "value" "[B") (.int (6 : Int32))) (.int (108 : Int32))).before #[.ref b] s0 = true := nw_leaf hn 401 rfl
  have e7 : (Cond.eq (.elem (.field (.string "ModeDeskModel" 107) "java/lang/String" "value" "[B") (.int (7 : Int32))) (.int (97 : Int32))).before #[.ref b] s0 = true := nw_leaf hn 402 rfl
  have e8 : (Cond.eq (.elem (.field (.string "ModeDeskModel" 107) "java/lang/String" "value" "[B") (.int (8 : Int32))) (.int (115 : Int32))).before #[.ref b] s0 = true := nw_leaf hn 403 rfl
  have e9 : (Cond.eq (.elem (.field (.string "ModeDeskModel" 107) "java/lang/String" "value" "[B") (.int (9 : Int32))) (.int (116 : Int32))).before #[.ref b] s0 = true := nw_leaf hn 404 rfl
  have e10 : (Cond.eq (.elem (.field (.string "ModeDeskModel" 107) "java/lang/String" "value" "[B") (.int (10 : Int32))) (.int (32 : Int32))).before #[.ref b] s0 = true := nw_leaf hn 405 rfl
  have e11 : (Cond.eq (.elem (.field (.string "ModeDeskModel" 107) "java/lang/String" "value" "[B") (.int (11 : Int32))) (.int (108 : Int32))).before #[.ref b] s0 = true := nw_leaf hn 406 rfl
  have e12 : (Cond.eq (.elem (.field (.string "ModeDeskModel" 107) "java/lang/String" "value" "[B") (.int (12 : Int32))) (.int (101 : Int32))).before #[.ref b] s0 = true := nw_leaf hn 407 rfl
  have e13 : (Cond.eq (.elem (.field (.string "ModeDeskModel" 107) "java/lang/String" "value" "[B") (.int (13 : Int32))) (.int (97 : Int32))).before #[.ref b] s0 = true := nw_leaf hn 408 rfl
  have e14 : (Cond.eq (.elem (.field (.string "ModeDeskModel" 107) "java/lang/String" "value" "[B") (.int (14 : Int32))) (.int (115 : Int32))).before #[.ref b] s0 = true := nw_leaf hn 409 rfl
  have e15 : (Cond.eq (.elem (.field (.string "ModeDeskModel" 107) "java/lang/String" "value" "[B") (.int (15 : Int32))) (.int (116 : Int32))).before #[.ref b] s0 = true := nw_leaf hn 410 rfl
  have e16 : (Cond.eq (.elem (.field (.string "ModeDeskModel" 107) "java/lang/String" "value" "[B") (.int (16 : Int32))) (.int (32 : Int32))).before #[.ref b] s0 = true := nw_leaf hn 411 rfl
  have e17 : (Cond.eq (.elem (.field (.string "ModeDeskModel" 107) "java/lang/String" "value" "[B") (.int (17 : Int32))) (.int (109 : Int32))).before #[.ref b] s0 = true := nw_leaf hn 412 rfl
  have e18 : (Cond.eq (.elem (.field (.string "ModeDeskModel" 107) "java/lang/String" "value" "[B") (.int (18 : Int32))) (.int (111 : Int32))).before #[.ref b] s0 = true := nw_leaf hn 413 rfl
  have e19 : (Cond.eq (.elem (.field (.string "ModeDeskModel" 107) "java/lang/String" "value" "[B") (.int (19 : Int32))) (.int (115 : Int32))).before #[.ref b] s0 = true := nw_leaf hn 414 rfl
  have e20 : (Cond.eq (.elem (.field (.string "ModeDeskModel" 107) "java/lang/String" "value" "[B") (.int (20 : Int32))) (.int (116 : Int32))).before #[.ref b] s0 = true := nw_leaf hn 415 rfl
  have e21 : (Cond.eq (.elem (.field (.string "ModeDeskModel" 107) "java/lang/String" "value" "[B") (.int (21 : Int32))) (.int (32 : Int32))).before #[.ref b] s0 = true := nw_leaf hn 416 rfl
  have e22 : (Cond.eq (.elem (.field (.string "ModeDeskModel" 107) "java/lang/String" "value" "[B") (.int (22 : Int32))) (.int (114 : Int32))).before #[.ref b] s0 = true := nw_leaf hn 417 rfl
  have e23 : (Cond.eq (.elem (.field (.string "ModeDeskModel" 107) "java/lang/String" "value" "[B") (.int (23 : Int32))) (.int (111 : Int32))).before #[.ref b] s0 = true := nw_leaf hn 418 rfl
  have e24 : (Cond.eq (.elem (.field (.string "ModeDeskModel" 107) "java/lang/String" "value" "[B") (.int (24 : Int32))) (.int (119 : Int32))).before #[.ref b] s0 = true := nw_leaf hn 419 rfl
  have e25 : (Cond.eq (.elem (.field (.string "ModeDeskModel" 107) "java/lang/String" "value" "[B") (.int (25 : Int32))) (.int (32 : Int32))).before #[.ref b] s0 = true := nw_leaf hn 420 rfl
  have e26 : (Cond.eq (.elem (.field (.string "ModeDeskModel" 107) "java/lang/String" "value" "[B") (.int (26 : Int32))) (.int (119 : Int32))).before #[.ref b] s0 = true := nw_leaf hn 421 rfl
  have e27 : (Cond.eq (.elem (.field (.string "ModeDeskModel" 107) "java/lang/String" "value" "[B") (.int (27 : Int32))) (.int (101 : Int32))).before #[.ref b] s0 = true := nw_leaf hn 422 rfl
  have e28 : (Cond.eq (.elem (.field (.string "ModeDeskModel" 107) "java/lang/String" "value" "[B") (.int (28 : Int32))) (.int (105 : Int32))).before #[.ref b] s0 = true := nw_leaf hn 423 rfl
  have e29 : (Cond.eq (.elem (.field (.string "ModeDeskModel" 107) "java/lang/String" "value" "[B") (.int (29 : Int32))) (.int (103 : Int32))).before #[.ref b] s0 = true := nw_leaf hn 424 rfl
  have e30 : (Cond.eq (.elem (.field (.string "ModeDeskModel" 107) "java/lang/String" "value" "[B") (.int (30 : Int32))) (.int (104 : Int32))).before #[.ref b] s0 = true := nw_leaf hn 425 rfl
  have e31 : (Cond.eq (.elem (.field (.string "ModeDeskModel" 107) "java/lang/String" "value" "[B") (.int (31 : Int32))) (.int (116 : Int32))).before #[.ref b] s0 = true := nw_leaf hn 426 rfl
  have e32 : (Cond.eq (.elem (.field (.string "ModeDeskModel" 107) "java/lang/String" "value" "[B") (.int (32 : Int32))) (.int (32 : Int32))).before #[.ref b] s0 = true := nw_leaf hn 427 rfl
  have e33 : (Cond.eq (.elem (.field (.string "ModeDeskModel" 107) "java/lang/String" "value" "[B") (.int (33 : Int32))) (.int (98 : Int32))).before #[.ref b] s0 = true := nw_leaf hn 428 rfl
  have e34 : (Cond.eq (.elem (.field (.string "ModeDeskModel" 107) "java/lang/String" "value" "[B") (.int (34 : Int32))) (.int (108 : Int32))).before #[.ref b] s0 = true := nw_leaf hn 429 rfl
  have e35 : (Cond.eq (.elem (.field (.string "ModeDeskModel" 107) "java/lang/String" "value" "[B") (.int (35 : Int32))) (.int (111 : Int32))).before #[.ref b] s0 = true := nw_leaf hn 430 rfl
  have e36 : (Cond.eq (.elem (.field (.string "ModeDeskModel" 107) "java/lang/String" "value" "[B") (.int (36 : Int32))) (.int (99 : Int32))).before #[.ref b] s0 = true := nw_leaf hn 431 rfl
  have e37 : (Cond.eq (.elem (.field (.string "ModeDeskModel" 107) "java/lang/String" "value" "[B") (.int (37 : Int32))) (.int (107 : Int32))).before #[.ref b] s0 = true := nw_leaf hn 432 rfl
  have e38 : (Cond.eq (.elem (.field (.string "ModeDeskModel" 107) "java/lang/String" "value" "[B") (.int (38 : Int32))) (.int (32 : Int32))).before #[.ref b] s0 = true := nw_leaf hn 433 rfl
  have e39 : (Cond.eq (.elem (.field (.string "ModeDeskModel" 107) "java/lang/String" "value" "[B") (.int (39 : Int32))) (.int (116 : Int32))).before #[.ref b] s0 = true := nw_leaf hn 434 rfl
  have e40 : (Cond.eq (.elem (.field (.string "ModeDeskModel" 107) "java/lang/String" "value" "[B") (.int (40 : Int32))) (.int (105 : Int32))).before #[.ref b] s0 = true := nw_leaf hn 435 rfl
  have e41 : (Cond.eq (.elem (.field (.string "ModeDeskModel" 107) "java/lang/String" "value" "[B") (.int (41 : Int32))) (.int (101 : Int32))).before #[.ref b] s0 = true := nw_leaf hn 436 rfl
  have e42 : (Cond.eq (.elem (.field (.string "ModeDeskModel" 107) "java/lang/String" "value" "[B") (.int (42 : Int32))) (.int (115 : Int32))).before #[.ref b] s0 = true := nw_leaf hn 437 rfl
  have e43 : (Cond.eq (.elem (.field (.string "ModeDeskModel" 107) "java/lang/String" "value" "[B") (.int (43 : Int32))) (.int (32 : Int32))).before #[.ref b] s0 = true := nw_leaf hn 438 rfl
  obtain ⟨q, va, hq, hs⟩ := zStr_of (n := 44) (f := wC) (by decide) (by decide) h0 h1 h2 h3 (fun j hj => by
    rcases (show j = 0 ∨ j = 1 ∨ j = 2 ∨ j = 3 ∨ j = 4 ∨ j = 5 ∨ j = 6 ∨ j = 7 ∨ j = 8 ∨ j = 9 ∨ j = 10 ∨ j = 11 ∨ j = 12 ∨ j = 13 ∨ j = 14 ∨ j = 15 ∨ j = 16 ∨ j = 17 ∨ j = 18 ∨ j = 19 ∨ j = 20 ∨ j = 21 ∨ j = 22 ∨ j = 23 ∨ j = 24 ∨ j = 25 ∨ j = 26 ∨ j = 27 ∨ j = 28 ∨ j = 29 ∨ j = 30 ∨ j = 31 ∨ j = 32 ∨ j = 33 ∨ j = 34 ∨ j = 35 ∨ j = 36 ∨ j = 37 ∨ j = 38 ∨ j = 39 ∨ j = 40 ∨ j = 41 ∨ j = 42 ∨ j = 43 from by omega) with rfl | rfl | rfl | rfl | rfl | rfl | rfl | rfl | rfl | rfl | rfl | rfl | rfl | rfl | rfl | rfl | rfl | rfl | rfl | rfl | rfl | rfl | rfl | rfl | rfl | rfl | rfl | rfl | rfl | rfl | rfl | rfl | rfl | rfl | rfl | rfl | rfl | rfl | rfl | rfl | rfl | rfl | rfl | rfl
    · rw [show iZ ((wC 0 : Nat) : Int) = (102 : Int32) from by decide]; exact e0
    · rw [show iZ ((wC 1 : Nat) : Int) = (105 : Int32) from by decide]; exact e1
    · rw [show iZ ((wC 2 : Nat) : Int) = (114 : Int32) from by decide]; exact e2
    · rw [show iZ ((wC 3 : Nat) : Int) = (115 : Int32) from by decide]; exact e3
    · rw [show iZ ((wC 4 : Nat) : Int) = (116 : Int32) from by decide]; exact e4
    · rw [show iZ ((wC 5 : Nat) : Int) = (32 : Int32) from by decide]; exact e5
    · rw [show iZ ((wC 6 : Nat) : Int) = (108 : Int32) from by decide]; exact e6
    · rw [show iZ ((wC 7 : Nat) : Int) = (97 : Int32) from by decide]; exact e7
    · rw [show iZ ((wC 8 : Nat) : Int) = (115 : Int32) from by decide]; exact e8
    · rw [show iZ ((wC 9 : Nat) : Int) = (116 : Int32) from by decide]; exact e9
    · rw [show iZ ((wC 10 : Nat) : Int) = (32 : Int32) from by decide]; exact e10
    · rw [show iZ ((wC 11 : Nat) : Int) = (108 : Int32) from by decide]; exact e11
    · rw [show iZ ((wC 12 : Nat) : Int) = (101 : Int32) from by decide]; exact e12
    · rw [show iZ ((wC 13 : Nat) : Int) = (97 : Int32) from by decide]; exact e13
    · rw [show iZ ((wC 14 : Nat) : Int) = (115 : Int32) from by decide]; exact e14
    · rw [show iZ ((wC 15 : Nat) : Int) = (116 : Int32) from by decide]; exact e15
    · rw [show iZ ((wC 16 : Nat) : Int) = (32 : Int32) from by decide]; exact e16
    · rw [show iZ ((wC 17 : Nat) : Int) = (109 : Int32) from by decide]; exact e17
    · rw [show iZ ((wC 18 : Nat) : Int) = (111 : Int32) from by decide]; exact e18
    · rw [show iZ ((wC 19 : Nat) : Int) = (115 : Int32) from by decide]; exact e19
    · rw [show iZ ((wC 20 : Nat) : Int) = (116 : Int32) from by decide]; exact e20
    · rw [show iZ ((wC 21 : Nat) : Int) = (32 : Int32) from by decide]; exact e21
    · rw [show iZ ((wC 22 : Nat) : Int) = (114 : Int32) from by decide]; exact e22
    · rw [show iZ ((wC 23 : Nat) : Int) = (111 : Int32) from by decide]; exact e23
    · rw [show iZ ((wC 24 : Nat) : Int) = (119 : Int32) from by decide]; exact e24
    · rw [show iZ ((wC 25 : Nat) : Int) = (32 : Int32) from by decide]; exact e25
    · rw [show iZ ((wC 26 : Nat) : Int) = (119 : Int32) from by decide]; exact e26
    · rw [show iZ ((wC 27 : Nat) : Int) = (101 : Int32) from by decide]; exact e27
    · rw [show iZ ((wC 28 : Nat) : Int) = (105 : Int32) from by decide]; exact e28
    · rw [show iZ ((wC 29 : Nat) : Int) = (103 : Int32) from by decide]; exact e29
    · rw [show iZ ((wC 30 : Nat) : Int) = (104 : Int32) from by decide]; exact e30
    · rw [show iZ ((wC 31 : Nat) : Int) = (116 : Int32) from by decide]; exact e31
    · rw [show iZ ((wC 32 : Nat) : Int) = (32 : Int32) from by decide]; exact e32
    · rw [show iZ ((wC 33 : Nat) : Int) = (98 : Int32) from by decide]; exact e33
    · rw [show iZ ((wC 34 : Nat) : Int) = (108 : Int32) from by decide]; exact e34
    · rw [show iZ ((wC 35 : Nat) : Int) = (111 : Int32) from by decide]; exact e35
    · rw [show iZ ((wC 36 : Nat) : Int) = (99 : Int32) from by decide]; exact e36
    · rw [show iZ ((wC 37 : Nat) : Int) = (107 : Int32) from by decide]; exact e37
    · rw [show iZ ((wC 38 : Nat) : Int) = (32 : Int32) from by decide]; exact e38
    · rw [show iZ ((wC 39 : Nat) : Int) = (116 : Int32) from by decide]; exact e39
    · rw [show iZ ((wC 40 : Nat) : Int) = (105 : Int32) from by decide]; exact e40
    · rw [show iZ ((wC 41 : Nat) : Int) = (101 : Int32) from by decide]; exact e41
    · rw [show iZ ((wC 42 : Nat) : Int) = (115 : Int32) from by decide]; exact e42
    · rw [show iZ ((wC 43 : Nat) : Int) = (32 : Int32) from by decide]; exact e43)
  exact ⟨q, va, vk_R.of (hb _ q1574) hq, hs⟩
theorem zPre_w4 {s0 : State} {G : zG} (h : zSt s0 G) : ∃ q va : Nat, zLit s0 "ModeDesk$Reader" 112 "row" q va 3 (wD 4) := by
  obtain ⟨⟨b, hb, hg⟩, -⟩ := h
  have hn := c_right hg
  have h0 : (Cond.exactly (.string "ModeDesk$Reader" 112) "java/lang/String").before #[.ref b] s0 = true := nw_leaf hn 295 rfl
  have h1 : (Cond.eq (.field (.string "ModeDesk$Reader" 112) "java/lang/String" "coder" "B") (.int (0 : Int32))).before #[.ref b] s0 = true := nw_leaf hn 296 rfl
  have h2 : (Cond.arrayOf (.field (.string "ModeDesk$Reader" 112) "java/lang/String" "value" "[B") .byte).before #[.ref b] s0 = true := nw_leaf hn 297 rfl
  have h3 : (Cond.eq (.length (.field (.string "ModeDesk$Reader" 112) "java/lang/String" "value" "[B")) (.int (3 : Int32))).before #[.ref b] s0 = true := nw_leaf hn 298 rfl
  have e0 : (Cond.eq (.elem (.field (.string "ModeDesk$Reader" 112) "java/lang/String" "value" "[B") (.int (0 : Int32))) (.int (114 : Int32))).before #[.ref b] s0 = true := nw_leaf hn 299 rfl
  have e1 : (Cond.eq (.elem (.field (.string "ModeDesk$Reader" 112) "java/lang/String" "value" "[B") (.int (1 : Int32))) (.int (111 : Int32))).before #[.ref b] s0 = true := nw_leaf hn 300 rfl
  have e2 : (Cond.eq (.elem (.field (.string "ModeDesk$Reader" 112) "java/lang/String" "value" "[B") (.int (2 : Int32))) (.int (119 : Int32))).before #[.ref b] s0 = true := nw_leaf hn 301 rfl
  obtain ⟨q, va, hq, hs⟩ := zStr_of (n := 3) (f := (wD 4)) (by decide) (by decide) h0 h1 h2 h3 (fun j hj => by
    rcases (show j = 0 ∨ j = 1 ∨ j = 2 from by omega) with rfl | rfl | rfl
    · rw [show iZ (((wD 4) 0 : Nat) : Int) = (114 : Int32) from by decide]; exact e0
    · rw [show iZ (((wD 4) 1 : Nat) : Int) = (111 : Int32) from by decide]; exact e1
    · rw [show iZ (((wD 4) 2 : Nat) : Int) = (119 : Int32) from by decide]; exact e2)
  exact ⟨q, va, vk_R.of (hb _ q572) hq, hs⟩
theorem zPre_w5 {s0 : State} {G : zG} (h : zSt s0 G) : ∃ q va : Nat, zLit s0 "ModeDesk$Reader" 120 "weight" q va 6 (wD 5) := by
  obtain ⟨⟨b, hb, hg⟩, -⟩ := h
  have hn := c_right hg
  have h0 : (Cond.exactly (.string "ModeDesk$Reader" 120) "java/lang/String").before #[.ref b] s0 = true := nw_leaf hn 302 rfl
  have h1 : (Cond.eq (.field (.string "ModeDesk$Reader" 120) "java/lang/String" "coder" "B") (.int (0 : Int32))).before #[.ref b] s0 = true := nw_leaf hn 303 rfl
  have h2 : (Cond.arrayOf (.field (.string "ModeDesk$Reader" 120) "java/lang/String" "value" "[B") .byte).before #[.ref b] s0 = true := nw_leaf hn 304 rfl
  have h3 : (Cond.eq (.length (.field (.string "ModeDesk$Reader" 120) "java/lang/String" "value" "[B")) (.int (6 : Int32))).before #[.ref b] s0 = true := nw_leaf hn 305 rfl
  have e0 : (Cond.eq (.elem (.field (.string "ModeDesk$Reader" 120) "java/lang/String" "value" "[B") (.int (0 : Int32))) (.int (119 : Int32))).before #[.ref b] s0 = true := nw_leaf hn 306 rfl
  have e1 : (Cond.eq (.elem (.field (.string "ModeDesk$Reader" 120) "java/lang/String" "value" "[B") (.int (1 : Int32))) (.int (101 : Int32))).before #[.ref b] s0 = true := nw_leaf hn 307 rfl
  have e2 : (Cond.eq (.elem (.field (.string "ModeDesk$Reader" 120) "java/lang/String" "value" "[B") (.int (2 : Int32))) (.int (105 : Int32))).before #[.ref b] s0 = true := nw_leaf hn 308 rfl
  have e3 : (Cond.eq (.elem (.field (.string "ModeDesk$Reader" 120) "java/lang/String" "value" "[B") (.int (3 : Int32))) (.int (103 : Int32))).before #[.ref b] s0 = true := nw_leaf hn 309 rfl
  have e4 : (Cond.eq (.elem (.field (.string "ModeDesk$Reader" 120) "java/lang/String" "value" "[B") (.int (4 : Int32))) (.int (104 : Int32))).before #[.ref b] s0 = true := nw_leaf hn 310 rfl
  have e5 : (Cond.eq (.elem (.field (.string "ModeDesk$Reader" 120) "java/lang/String" "value" "[B") (.int (5 : Int32))) (.int (116 : Int32))).before #[.ref b] s0 = true := nw_leaf hn 311 rfl
  obtain ⟨q, va, hq, hs⟩ := zStr_of (n := 6) (f := (wD 5)) (by decide) (by decide) h0 h1 h2 h3 (fun j hj => by
    rcases (show j = 0 ∨ j = 1 ∨ j = 2 ∨ j = 3 ∨ j = 4 ∨ j = 5 from by omega) with rfl | rfl | rfl | rfl | rfl | rfl
    · rw [show iZ (((wD 5) 0 : Nat) : Int) = (119 : Int32) from by decide]; exact e0
    · rw [show iZ (((wD 5) 1 : Nat) : Int) = (101 : Int32) from by decide]; exact e1
    · rw [show iZ (((wD 5) 2 : Nat) : Int) = (105 : Int32) from by decide]; exact e2
    · rw [show iZ (((wD 5) 3 : Nat) : Int) = (103 : Int32) from by decide]; exact e3
    · rw [show iZ (((wD 5) 4 : Nat) : Int) = (104 : Int32) from by decide]; exact e4
    · rw [show iZ (((wD 5) 5 : Nat) : Int) = (116 : Int32) from by decide]; exact e5)
  exact ⟨q, va, vk_R.of (hb _ q671) hq, hs⟩
theorem zPre_w6 {s0 : State} {G : zG} (h : zSt s0 G) : ∃ q va : Nat, zLit s0 "ModeDesk$Reader" 124 "block" q va 5 (wD 6) := by
  obtain ⟨⟨b, hb, hg⟩, -⟩ := h
  have hn := c_right hg
  have h0 : (Cond.exactly (.string "ModeDesk$Reader" 124) "java/lang/String").before #[.ref b] s0 = true := nw_leaf hn 313 rfl
  have h1 : (Cond.eq (.field (.string "ModeDesk$Reader" 124) "java/lang/String" "coder" "B") (.int (0 : Int32))).before #[.ref b] s0 = true := nw_leaf hn 314 rfl
  have h2 : (Cond.arrayOf (.field (.string "ModeDesk$Reader" 124) "java/lang/String" "value" "[B") .byte).before #[.ref b] s0 = true := nw_leaf hn 315 rfl
  have h3 : (Cond.eq (.length (.field (.string "ModeDesk$Reader" 124) "java/lang/String" "value" "[B")) (.int (5 : Int32))).before #[.ref b] s0 = true := nw_leaf hn 316 rfl
  have e0 : (Cond.eq (.elem (.field (.string "ModeDesk$Reader" 124) "java/lang/String" "value" "[B") (.int (0 : Int32))) (.int (98 : Int32))).before #[.ref b] s0 = true := nw_leaf hn 317 rfl
  have e1 : (Cond.eq (.elem (.field (.string "ModeDesk$Reader" 124) "java/lang/String" "value" "[B") (.int (1 : Int32))) (.int (108 : Int32))).before #[.ref b] s0 = true := nw_leaf hn 318 rfl
  have e2 : (Cond.eq (.elem (.field (.string "ModeDesk$Reader" 124) "java/lang/String" "value" "[B") (.int (2 : Int32))) (.int (111 : Int32))).before #[.ref b] s0 = true := nw_leaf hn 319 rfl
  have e3 : (Cond.eq (.elem (.field (.string "ModeDesk$Reader" 124) "java/lang/String" "value" "[B") (.int (3 : Int32))) (.int (99 : Int32))).before #[.ref b] s0 = true := nw_leaf hn 320 rfl
  have e4 : (Cond.eq (.elem (.field (.string "ModeDesk$Reader" 124) "java/lang/String" "value" "[B") (.int (4 : Int32))) (.int (107 : Int32))).before #[.ref b] s0 = true := nw_leaf hn 321 rfl
  obtain ⟨q, va, hq, hs⟩ := zStr_of (n := 5) (f := (wD 6)) (by decide) (by decide) h0 h1 h2 h3 (fun j hj => by
    rcases (show j = 0 ∨ j = 1 ∨ j = 2 ∨ j = 3 ∨ j = 4 from by omega) with rfl | rfl | rfl | rfl | rfl
    · rw [show iZ (((wD 6) 0 : Nat) : Int) = (98 : Int32) from by decide]; exact e0
    · rw [show iZ (((wD 6) 1 : Nat) : Int) = (108 : Int32) from by decide]; exact e1
    · rw [show iZ (((wD 6) 2 : Nat) : Int) = (111 : Int32) from by decide]; exact e2
    · rw [show iZ (((wD 6) 3 : Nat) : Int) = (99 : Int32) from by decide]; exact e3
    · rw [show iZ (((wD 6) 4 : Nat) : Int) = (107 : Int32) from by decide]; exact e4)
  exact ⟨q, va, vk_R.of (hb _ q676) hq, hs⟩
theorem zPre_w7 {s0 : State} {G : zG} (h : zSt s0 G) : ∃ q va : Nat, zLit s0 "ModeDesk$Reader" 150 "ties" q va 4 (wD 7) := by
  obtain ⟨⟨b, hb, hg⟩, -⟩ := h
  have hn := c_right hg
  have h0 : (Cond.exactly (.string "ModeDesk$Reader" 150) "java/lang/String").before #[.ref b] s0 = true := nw_leaf hn 324 rfl
  have h1 : (Cond.eq (.field (.string "ModeDesk$Reader" 150) "java/lang/String" "coder" "B") (.int (0 : Int32))).before #[.ref b] s0 = true := nw_leaf hn 325 rfl
  have h2 : (Cond.arrayOf (.field (.string "ModeDesk$Reader" 150) "java/lang/String" "value" "[B") .byte).before #[.ref b] s0 = true := nw_leaf hn 326 rfl
  have h3 : (Cond.eq (.length (.field (.string "ModeDesk$Reader" 150) "java/lang/String" "value" "[B")) (.int (4 : Int32))).before #[.ref b] s0 = true := nw_leaf hn 327 rfl
  have e0 : (Cond.eq (.elem (.field (.string "ModeDesk$Reader" 150) "java/lang/String" "value" "[B") (.int (0 : Int32))) (.int (116 : Int32))).before #[.ref b] s0 = true := nw_leaf hn 328 rfl
  have e1 : (Cond.eq (.elem (.field (.string "ModeDesk$Reader" 150) "java/lang/String" "value" "[B") (.int (1 : Int32))) (.int (105 : Int32))).before #[.ref b] s0 = true := nw_leaf hn 329 rfl
  have e2 : (Cond.eq (.elem (.field (.string "ModeDesk$Reader" 150) "java/lang/String" "value" "[B") (.int (2 : Int32))) (.int (101 : Int32))).before #[.ref b] s0 = true := nw_leaf hn 330 rfl
  have e3 : (Cond.eq (.elem (.field (.string "ModeDesk$Reader" 150) "java/lang/String" "value" "[B") (.int (3 : Int32))) (.int (115 : Int32))).before #[.ref b] s0 = true := nw_leaf hn 331 rfl
  obtain ⟨q, va, hq, hs⟩ := zStr_of (n := 4) (f := (wD 7)) (by decide) (by decide) h0 h1 h2 h3 (fun j hj => by
    rcases (show j = 0 ∨ j = 1 ∨ j = 2 ∨ j = 3 from by omega) with rfl | rfl | rfl | rfl
    · rw [show iZ (((wD 7) 0 : Nat) : Int) = (116 : Int32) from by decide]; exact e0
    · rw [show iZ (((wD 7) 1 : Nat) : Int) = (105 : Int32) from by decide]; exact e1
    · rw [show iZ (((wD 7) 2 : Nat) : Int) = (101 : Int32) from by decide]; exact e2
    · rw [show iZ (((wD 7) 3 : Nat) : Int) = (115 : Int32) from by decide]; exact e3)
  exact ⟨q, va, vk_R.of (hb _ q685) hq, hs⟩
theorem zPre_w0 {s0 : State} {G : zG} (h : zSt s0 G) : ∃ q va : Nat, zLit s0 "ModeDesk$Reader" 154 "first" q va 5 (wD 0) := by
  obtain ⟨⟨b, hb, hg⟩, -⟩ := h
  have hn := c_right hg
  have h0 : (Cond.exactly (.string "ModeDesk$Reader" 154) "java/lang/String").before #[.ref b] s0 = true := nw_leaf hn 335 rfl
  have h1 : (Cond.eq (.field (.string "ModeDesk$Reader" 154) "java/lang/String" "coder" "B") (.int (0 : Int32))).before #[.ref b] s0 = true := nw_leaf hn 336 rfl
  have h2 : (Cond.arrayOf (.field (.string "ModeDesk$Reader" 154) "java/lang/String" "value" "[B") .byte).before #[.ref b] s0 = true := nw_leaf hn 337 rfl
  have h3 : (Cond.eq (.length (.field (.string "ModeDesk$Reader" 154) "java/lang/String" "value" "[B")) (.int (5 : Int32))).before #[.ref b] s0 = true := nw_leaf hn 338 rfl
  have e0 : (Cond.eq (.elem (.field (.string "ModeDesk$Reader" 154) "java/lang/String" "value" "[B") (.int (0 : Int32))) (.int (102 : Int32))).before #[.ref b] s0 = true := nw_leaf hn 339 rfl
  have e1 : (Cond.eq (.elem (.field (.string "ModeDesk$Reader" 154) "java/lang/String" "value" "[B") (.int (1 : Int32))) (.int (105 : Int32))).before #[.ref b] s0 = true := nw_leaf hn 340 rfl
  have e2 : (Cond.eq (.elem (.field (.string "ModeDesk$Reader" 154) "java/lang/String" "value" "[B") (.int (2 : Int32))) (.int (114 : Int32))).before #[.ref b] s0 = true := nw_leaf hn 341 rfl
  have e3 : (Cond.eq (.elem (.field (.string "ModeDesk$Reader" 154) "java/lang/String" "value" "[B") (.int (3 : Int32))) (.int (115 : Int32))).before #[.ref b] s0 = true := nw_leaf hn 342 rfl
  have e4 : (Cond.eq (.elem (.field (.string "ModeDesk$Reader" 154) "java/lang/String" "value" "[B") (.int (4 : Int32))) (.int (116 : Int32))).before #[.ref b] s0 = true := nw_leaf hn 343 rfl
  obtain ⟨q, va, hq, hs⟩ := zStr_of (n := 5) (f := (wD 0)) (by decide) (by decide) h0 h1 h2 h3 (fun j hj => by
    rcases (show j = 0 ∨ j = 1 ∨ j = 2 ∨ j = 3 ∨ j = 4 from by omega) with rfl | rfl | rfl | rfl | rfl
    · rw [show iZ (((wD 0) 0 : Nat) : Int) = (102 : Int32) from by decide]; exact e0
    · rw [show iZ (((wD 0) 1 : Nat) : Int) = (105 : Int32) from by decide]; exact e1
    · rw [show iZ (((wD 0) 2 : Nat) : Int) = (114 : Int32) from by decide]; exact e2
    · rw [show iZ (((wD 0) 3 : Nat) : Int) = (115 : Int32) from by decide]; exact e3
    · rw [show iZ (((wD 0) 4 : Nat) : Int) = (116 : Int32) from by decide]; exact e4)
  exact ⟨q, va, vk_R.of (hb _ q686) hq, hs⟩
theorem zPre_w1 {s0 : State} {G : zG} (h : zSt s0 G) : ∃ q va : Nat, zLit s0 "ModeDesk$Reader" 156 "last" q va 4 (wD 1) := by
  obtain ⟨⟨b, hb, hg⟩, -⟩ := h
  have hn := c_right hg
  have h0 : (Cond.exactly (.string "ModeDesk$Reader" 156) "java/lang/String").before #[.ref b] s0 = true := nw_leaf hn 348 rfl
  have h1 : (Cond.eq (.field (.string "ModeDesk$Reader" 156) "java/lang/String" "coder" "B") (.int (0 : Int32))).before #[.ref b] s0 = true := nw_leaf hn 349 rfl
  have h2 : (Cond.arrayOf (.field (.string "ModeDesk$Reader" 156) "java/lang/String" "value" "[B") .byte).before #[.ref b] s0 = true := nw_leaf hn 350 rfl
  have h3 : (Cond.eq (.length (.field (.string "ModeDesk$Reader" 156) "java/lang/String" "value" "[B")) (.int (4 : Int32))).before #[.ref b] s0 = true := nw_leaf hn 351 rfl
  have e0 : (Cond.eq (.elem (.field (.string "ModeDesk$Reader" 156) "java/lang/String" "value" "[B") (.int (0 : Int32))) (.int (108 : Int32))).before #[.ref b] s0 = true := nw_leaf hn 352 rfl
  have e1 : (Cond.eq (.elem (.field (.string "ModeDesk$Reader" 156) "java/lang/String" "value" "[B") (.int (1 : Int32))) (.int (97 : Int32))).before #[.ref b] s0 = true := nw_leaf hn 353 rfl
  have e2 : (Cond.eq (.elem (.field (.string "ModeDesk$Reader" 156) "java/lang/String" "value" "[B") (.int (2 : Int32))) (.int (115 : Int32))).before #[.ref b] s0 = true := nw_leaf hn 354 rfl
  have e3 : (Cond.eq (.elem (.field (.string "ModeDesk$Reader" 156) "java/lang/String" "value" "[B") (.int (3 : Int32))) (.int (116 : Int32))).before #[.ref b] s0 = true := nw_leaf hn 355 rfl
  obtain ⟨q, va, hq, hs⟩ := zStr_of (n := 4) (f := (wD 1)) (by decide) (by decide) h0 h1 h2 h3 (fun j hj => by
    rcases (show j = 0 ∨ j = 1 ∨ j = 2 ∨ j = 3 from by omega) with rfl | rfl | rfl | rfl
    · rw [show iZ (((wD 1) 0 : Nat) : Int) = (108 : Int32) from by decide]; exact e0
    · rw [show iZ (((wD 1) 1 : Nat) : Int) = (97 : Int32) from by decide]; exact e1
    · rw [show iZ (((wD 1) 2 : Nat) : Int) = (115 : Int32) from by decide]; exact e2
    · rw [show iZ (((wD 1) 3 : Nat) : Int) = (116 : Int32) from by decide]; exact e3)
  exact ⟨q, va, vk_R.of (hb _ q687) hq, hs⟩
theorem zPre_w2 {s0 : State} {G : zG} (h : zSt s0 G) : ∃ q va : Nat, zLit s0 "ModeDesk$Reader" 158 "least" q va 5 (wD 2) := by
  obtain ⟨⟨b, hb, hg⟩, -⟩ := h
  have hn := c_right hg
  have h0 : (Cond.exactly (.string "ModeDesk$Reader" 158) "java/lang/String").before #[.ref b] s0 = true := nw_leaf hn 361 rfl
  have h1 : (Cond.eq (.field (.string "ModeDesk$Reader" 158) "java/lang/String" "coder" "B") (.int (0 : Int32))).before #[.ref b] s0 = true := nw_leaf hn 362 rfl
  have h2 : (Cond.arrayOf (.field (.string "ModeDesk$Reader" 158) "java/lang/String" "value" "[B") .byte).before #[.ref b] s0 = true := nw_leaf hn 363 rfl
  have h3 : (Cond.eq (.length (.field (.string "ModeDesk$Reader" 158) "java/lang/String" "value" "[B")) (.int (5 : Int32))).before #[.ref b] s0 = true := nw_leaf hn 364 rfl
  have e0 : (Cond.eq (.elem (.field (.string "ModeDesk$Reader" 158) "java/lang/String" "value" "[B") (.int (0 : Int32))) (.int (108 : Int32))).before #[.ref b] s0 = true := nw_leaf hn 365 rfl
  have e1 : (Cond.eq (.elem (.field (.string "ModeDesk$Reader" 158) "java/lang/String" "value" "[B") (.int (1 : Int32))) (.int (101 : Int32))).before #[.ref b] s0 = true := nw_leaf hn 366 rfl
  have e2 : (Cond.eq (.elem (.field (.string "ModeDesk$Reader" 158) "java/lang/String" "value" "[B") (.int (2 : Int32))) (.int (97 : Int32))).before #[.ref b] s0 = true := nw_leaf hn 367 rfl
  have e3 : (Cond.eq (.elem (.field (.string "ModeDesk$Reader" 158) "java/lang/String" "value" "[B") (.int (3 : Int32))) (.int (115 : Int32))).before #[.ref b] s0 = true := nw_leaf hn 368 rfl
  have e4 : (Cond.eq (.elem (.field (.string "ModeDesk$Reader" 158) "java/lang/String" "value" "[B") (.int (4 : Int32))) (.int (116 : Int32))).before #[.ref b] s0 = true := nw_leaf hn 369 rfl
  obtain ⟨q, va, hq, hs⟩ := zStr_of (n := 5) (f := (wD 2)) (by decide) (by decide) h0 h1 h2 h3 (fun j hj => by
    rcases (show j = 0 ∨ j = 1 ∨ j = 2 ∨ j = 3 ∨ j = 4 from by omega) with rfl | rfl | rfl | rfl | rfl
    · rw [show iZ (((wD 2) 0 : Nat) : Int) = (108 : Int32) from by decide]; exact e0
    · rw [show iZ (((wD 2) 1 : Nat) : Int) = (101 : Int32) from by decide]; exact e1
    · rw [show iZ (((wD 2) 2 : Nat) : Int) = (97 : Int32) from by decide]; exact e2
    · rw [show iZ (((wD 2) 3 : Nat) : Int) = (115 : Int32) from by decide]; exact e3
    · rw [show iZ (((wD 2) 4 : Nat) : Int) = (116 : Int32) from by decide]; exact e4)
  exact ⟨q, va, vk_R.of (hb _ q688) hq, hs⟩
theorem zPre_w3 {s0 : State} {G : zG} (h : zSt s0 G) : ∃ q va : Nat, zLit s0 "ModeDesk$Reader" 160 "most" q va 4 (wD 3) := by
  obtain ⟨⟨b, hb, hg⟩, -⟩ := h
  have hn := c_right hg
  have h0 : (Cond.exactly (.string "ModeDesk$Reader" 160) "java/lang/String").before #[.ref b] s0 = true := nw_leaf hn 376 rfl
  have h1 : (Cond.eq (.field (.string "ModeDesk$Reader" 160) "java/lang/String" "coder" "B") (.int (0 : Int32))).before #[.ref b] s0 = true := nw_leaf hn 377 rfl
  have h2 : (Cond.arrayOf (.field (.string "ModeDesk$Reader" 160) "java/lang/String" "value" "[B") .byte).before #[.ref b] s0 = true := nw_leaf hn 378 rfl
  have h3 : (Cond.eq (.length (.field (.string "ModeDesk$Reader" 160) "java/lang/String" "value" "[B")) (.int (4 : Int32))).before #[.ref b] s0 = true := nw_leaf hn 379 rfl
  have e0 : (Cond.eq (.elem (.field (.string "ModeDesk$Reader" 160) "java/lang/String" "value" "[B") (.int (0 : Int32))) (.int (109 : Int32))).before #[.ref b] s0 = true := nw_leaf hn 380 rfl
  have e1 : (Cond.eq (.elem (.field (.string "ModeDesk$Reader" 160) "java/lang/String" "value" "[B") (.int (1 : Int32))) (.int (111 : Int32))).before #[.ref b] s0 = true := nw_leaf hn 381 rfl
  have e2 : (Cond.eq (.elem (.field (.string "ModeDesk$Reader" 160) "java/lang/String" "value" "[B") (.int (2 : Int32))) (.int (115 : Int32))).before #[.ref b] s0 = true := nw_leaf hn 382 rfl
  have e3 : (Cond.eq (.elem (.field (.string "ModeDesk$Reader" 160) "java/lang/String" "value" "[B") (.int (3 : Int32))) (.int (116 : Int32))).before #[.ref b] s0 = true := nw_leaf hn 383 rfl
  obtain ⟨q, va, hq, hs⟩ := zStr_of (n := 4) (f := (wD 3)) (by decide) (by decide) h0 h1 h2 h3 (fun j hj => by
    rcases (show j = 0 ∨ j = 1 ∨ j = 2 ∨ j = 3 from by omega) with rfl | rfl | rfl | rfl
    · rw [show iZ (((wD 3) 0 : Nat) : Int) = (109 : Int32) from by decide]; exact e0
    · rw [show iZ (((wD 3) 1 : Nat) : Int) = (111 : Int32) from by decide]; exact e1
    · rw [show iZ (((wD 3) 2 : Nat) : Int) = (115 : Int32) from by decide]; exact e2
    · rw [show iZ (((wD 3) 3 : Nat) : Int) = (116 : Int32) from by decide]; exact e3)
  exact ⟨q, va, vk_R.of (hb _ q689) hq, hs⟩
