/-! the law: its state, its rows -/
set_option maxRecDepth 100000
def DKI (s0 : State) (G : zG) (nw : Nat) (tt : Nat → Nat) (tp : Nat) (ln fa fp : Int) (b t n : Nat) (v wt : Nat → Nat) (un : Nat) (hm : Nat → Nat) (hvv hww : Nat → Nat → Nat) (fr : Int) (F : Nat → Int) (Ar : Nat → Nat → Int) (kp : Nat → Nat) (L : List Nat) (pl : Nat → Option Nat) (pr pa pm : Nat → Nat) (pf : Nat → Nat → Nat) : Prop :=
  DST s0 G nw b t n v wt un hm hvv hww fr F Ar kp L pl pr pa pm pf ∧ (F 1 = (tp : Int) ∧ F 2 = fa ∧ F 3 = fp ∧ F 6 = ln) ∧ (∀ i, i < tp → Ar 0 i = sb (tt i)) ∧ (tp ≤ 900 ∧ ∀ i, i < tp → tt i < 256)
def MDI (tt : Nat → Nat) (tp : Nat) (ln fa fp : Int) (b t n : Nat) (v wt : Nat → Nat) (un : Nat) (hm : Nat → Nat) (hvv hww : Nat → Nat → Nat) (fr : Int) (Fm : Nat → Int) (Am : Nat → Nat → Int) : Prop :=
  (Fm 2 = (tp : Int) ∧ Fm 5 = (n : Int) ∧ Fm 6 = (b : Int) ∧ Fm 7 = (t : Int) ∧ Fm 8 = ln ∧ Fm 12 = (un : Int) ∧ Fm 13 = fr ∧ Fm 29 = fa ∧ Fm 30 = fp) ∧ Am 1 = nA tt ∧ (∀ i, i < n → Am 3 i = (v i : Int)) ∧ (∀ i, i < n → Am 4 i = (wt i : Int)) ∧ PAST un (Am 9) (Am 10) (Am 11) hm hvv hww
theorem PASTD_F {un : Nat} {kp : Nat → Nat} {F F2 : Nat → Int} {Ar A2 : Nat → Nat → Int} {hm : Nat → Nat} {hv hw : Nat → Nat → Nat} (hu : un ≤ 12) (hk : KPT kp) (h : PASTD un kp F Ar hm hv hw) (hF : ∀ k, 209 ≤ k → F2 k = F k) (hA : ∀ k, 209 ≤ k → A2 k = Ar k) : PASTD un kp F2 A2 hm hv hw :=
  PASTD_cg h (fun k hk2 => hF _ (kp_ge hk (by omega)).1) (fun k hk2 => by have := (kp_ge hk (show k < 12 by omega)).1; exact ⟨hA _ (by omega), hA _ (by omega)⟩) (fun _ _ => ⟨rfl, rfl, rfl⟩)
section LSTS
variable {s0 : State} {G : zG} {nw : Nat} {tt : Nat → Nat} {tp : Nat} {ln fa fp : Int} {b t n : Nat} {v wt : Nat → Nat} {un : Nat} {hm : Nat → Nat} {hvv hww : Nat → Nat → Nat} {fr : Int} {F F2 : Nat → Int} {Ar A2 : Nat → Nat → Int} {kp : Nat → Nat} {L : List Nat} {pl : Nat → Option Nat} {pr pa pm : Nat → Nat} {pf : Nat → Nat → Nat} {Fm : Nat → Int} {Am : Nat → Nat → Int}
theorem DKI_q (h : DKI s0 G nw tt tp ln fa fp b t n v wt un hm hvv hww fr F Ar kp L pl pr pa pm pf) (k : DK F Ar F2 A2) : DKI s0 G nw tt tp ln fa fp b t n v wt un hm hvv hww fr F2 A2 kp L pl pr pa pm pf := by
  obtain ⟨⟨⟨a1, a2, a3, a4, a5, a6⟩, ⟨b1, b2, b3, b4⟩, ⟨c1, c2, c3, c4⟩, d1, e1, f1, g1⟩, ⟨h1, h2, h3, h6⟩, t1, t2⟩ := h
  obtain ⟨kF, kA⟩ := k
  have f : ∀ j, j ≠ 17 → j ≠ 20 → j ≠ 21 → j ≠ 22 → j ≠ 206 → F2 j = F j := kF
  refine ⟨⟨⟨a1, (f 200 (by decide) (by decide) (by decide) (by decide) (by decide)).trans a2, a3, ?_, a5, ?_⟩, ⟨b1, (f 7 (by decide) (by decide) (by decide) (by decide) (by decide)).trans b2, b3, (f 8 (by decide) (by decide) (by decide) (by decide) (by decide)).trans b4⟩, ⟨c1, (f 14 (by decide) (by decide) (by decide) (by decide) (by decide)).trans c2, c3, PASTD_F c1 c3 c4 (fun k hk => f k (by omega) (by omega) (by omega) (by omega) (by omega)) (fun k hk => kA k (by omega) (by omega) (by omega) (by omega) (by omega) (by omega))⟩, d1, ?_, (f 9 (by decide) (by decide) (by decide) (by decide) (by decide)).trans f1, ?_⟩, ⟨(f 1 (by decide) (by decide) (by decide) (by decide) (by decide)).trans h1, (f 2 (by decide) (by decide) (by decide) (by decide) (by decide)).trans h2, (f 3 (by decide) (by decide) (by decide) (by decide) (by decide)).trans h3, (f 6 (by decide) (by decide) (by decide) (by decide) (by decide)).trans h6⟩, ?_, t2⟩
  · rw [kA 201 (by decide) (by decide) (by decide) (by decide) (by decide) (by decide)]; exact a4
  · rw [kA 202 (by decide) (by decide) (by decide) (by decide) (by decide) (by decide)]; exact a6
  · rw [kA 12 (by decide) (by decide) (by decide) (by decide) (by decide) (by decide)]; exact e1
  · rw [kA 16 (by decide) (by decide) (by decide) (by decide) (by decide) (by decide)]; exact g1
  · rw [kA 0 (by decide) (by decide) (by decide) (by decide) (by decide) (by decide)]; exact t1
theorem MDI_q (h : MDI tt tp ln fa fp b t n v wt un hm hvv hww fr Fm Am) (k : MK Fm Am F2 A2) : MDI tt tp ln fa fp b t n v wt un hm hvv hww fr F2 A2 := by
  obtain ⟨⟨a1, a2, a3, a4, a5, a6, a7, a8, a9⟩, b1, b2, b3, b4⟩ := h
  obtain ⟨-, k2, k5, k6, k7, k8, k12, k13, k29, k30, c1, c3, c4, c9, c10, c11⟩ := k
  exact ⟨⟨k2.trans a1, k5.trans a2, k6.trans a3, k7.trans a4, k8.trans a5, k12.trans a6, k13.trans a7, k29.trans a8, k30.trans a9⟩, by rw [c1]; exact b1, by rw [c3]; exact b2, by rw [c4]; exact b3, by rw [c9, c10, c11]; exact b4⟩
end LSTS
/-- the law's state at its loop's head -/
def LST (s : State) (G : zG) (nw : Nat) (ad adm : Nat → Nat) (o : Nat) (H : Heap) (locs : List Loc) : Prop :=
  ∃ (tt : Nat → Nat) (tp : Nat) (ln fa fp : Int) (b t n : Nat) (v wt : Nat → Nat) (un : Nat) (hm : Nat → Nat) (hvv hww : Nat → Nat → Nat) (fr : Int) (F : Nat → Int) (Ar : Nat → Nat → Int) (kp : Nat → Nat) (L : List Nat) (pl : Nat → Option Nat) (pr pa pm : Nat → Nat) (pf : Nat → Nat → Nat) (Fm : Nat → Int) (Am : Nat → Nat → Int) (fo : Nat → Int64),
    DKI s G nw tt tp ln fa fp b t n v wt un hm hvv hww fr F Ar kp L pl pr pa pm pf ∧ MDI tt tp ln fa fp b t n v wt un hm hvv hww fr Fm Am ∧ zH s s G [] (dW ad G F Ar kp pl (dPool G pr pa pm pf L) ++ (mW adm G Fm Am ++ [(o, .inl (G.2 3, 1, .inr (.inl fo)))])) H locs
def sx (xs : Nat → Int32) (j k : Nat) : Int := (xs (j + k)).toInt
theorem sx_r {xs : Nat → Int32} {j k : Nat} : -2147483648 ≤ sx xs j k ∧ sx xs j k < 2147483648 := ⟨Int32.le_toInt _, Int32.toInt_lt _⟩
theorem sx_e {xs : Nat → Int32} {j k : Nat} : xs (j + k) = iZ (sx xs j k) := by
  rw [← Int32.toInt_inj, iZ_toInt sx_r]; rfl
def nz (x : Int) : Int := if x = 0 then 0 else 1
theorem nz_r {x : Int} : -2147483648 ≤ nz x ∧ nz x < 2147483648 := by unfold nz; split <;> omega
theorem nz_b {x : Int} : nz x = 0 ∨ nz x = 1 := by unfold nz; split <;> omega
/-- what is fixed all through the law -/
def LCT (pg : Program) (l : Launch) (s : State) (m : MethodId) (ar : Array Value) (me : Method) (c : Code) (G : zG) (sc L : Nat) (xs : Nat → Int32) (nw : Nat) (wq wv : Nat → Nat) (lq lva : Nat) : Prop :=
  zC pg s s m ar me c G cL_law 7 "ModeDeskLaw" (some .boolean) ∧ (va_X sc L xs s s.heap ∧ sc < s.heap.size ∧ L ≤ 144) ∧ l.stackTraces = false ∧ zNwh s nw ∧ zBxs s ∧ zCS s ∧ zSio s ∧ zThr s ∧ zThq s ∧ zNNI s ∧ zRW s wq wv ∧ zLit s "ModeDeskModel" 107 "first last least most row weight block ties " lq lva 44 wC
section LROWS
variable {pg : Program} {l : Launch} {ev : Env} {R : Room} {s0 s : State} {m : MethodId} {ar : Array Value} {bl : List Frame} {me : Method} {c : Code} {H : Heap} {locs : List Loc} {ce sl : Nat} {Q : State → Prop} {G : zG} {cc : ByteArray} {nL : Nat} {own : String} {ret : Option FieldType} {ls : Array Slot} {st : List Value} {lv : List (Nat × Value)} {as0 : List Nat} {w : va_W}
/-- script[i + k] -/
theorem z_scr (C : zC pg s s m ar me c G cc nL own ret) {sc L j : Nat} {xs : Nat → Int32} (hX : va_X sc L xs s s.heap) (hb : sc < s.heap.size) (hS : va_S (zB s s.heap.size []) s.heap H locs) (pc k : Nat) (hl : lv_has ls nL lv) (q4 q0 : Nat) (h4 : lv[q4]? = some (4, .int (iZ (j : Int)))) (h0 : lv[q0]? = some (0, .ref sc)) (hk : j + k < L) (hL : L ≤ 144) (d0 : decode cc pc = .ok (.aload_n 0, 1)) (d1 : decode cc (pc + 1) = .ok (.iload 4, 2)) (d3 : decode cc (pc + 3) = .ok (.iconst (k : Int), 1)) (d4 : decode cc (pc + 4) = .ok (.iadd, 1)) (d5 : decode cc (pc + 5) = .ok (.iaload, 1)) (kk : W pg l ev R s m ar bl me c H locs ce sl Q (F0 m (pc + 6) ls (.int (iZ (sx xs j k)) :: st))) : W pg l ev R s m ar bl me c H locs ce sl Q (F0 m pc ls st) := by
  refine z_aload_n C pc hl d0 rfl q0 h0 ?_
  refine z_iload C (pc + 1) hl d1 q4 h4 ?_
  refine z_iconst C (pc + 3) d3 ?_
  refine z_iadd (e := ((j + k : Nat) : Int)) C (pc + 4) d4 (by omega) ?_
  refine va_sld C.1.1 C.1.2.1 hX hb (fun h => Nat.not_le.mpr hb h.1) hS (iZ_in hk (by omega)) d5 ?_
  rw [iZ_clamp (j + k) (by omega), show xs (j + k) = iZ (sx xs j k) from sx_e]
  exact kk
/-- x != 0 -/
theorem z_nz (C : zC pg s0 s m ar me c G cc nL own ret) (pc : Nat) {x : Int} (hx : -2147483648 ≤ x ∧ x < 2147483648) (d0 : decode cc pc = .ok (.ifCond .eq 7, 3)) (d3 : decode cc (pc + 3) = .ok (.iconst 1, 1)) (d4 : decode cc (pc + 4) = .ok (.goto 4, 3)) (d7 : decode cc (pc + 7) = .ok (.iconst 0, 1)) (kk : W pg l ev R s m ar bl me c H locs ce sl Q (F0 m (pc + 8) ls (.int (iZ (nz x)) :: st))) : W pg l ev R s m ar bl me c H locs ce sl Q (F0 m pc ls (.int (iZ x) :: st)) := by
  by_cases h : x = 0
  · refine z_if_eq_t C pc (pc + 7) d0 (by omega) hx h ?_
    refine z_iconst C (pc + 7) d7 ?_
    rw [show (0 : Int) = nz x from (if_pos h).symm]
    exact kk
  · refine z_if_eq_f C pc (pc + 7) d0 (by omega) hx h ?_
    refine z_iconst C (pc + 3) d3 ?_
    refine z_goto C (pc + 4) (pc + 8) d4 (by omega) ?_
    rw [show (1 : Int) = nz x from (if_neg h).symm]
    exact kk
/-- two answers that are one -/
theorem z_same2 (C : zC pg s0 s m ar me c G cc nL own ret) (pc tgt : Nat) {a b : Int} {off : Int} (hdg : decode cc pc = .ok (.if_icmp .eq off, 3)) (ht : (pc : Int) + off = (tgt : Int)) (h : a = b) (kk : W pg l ev R s m ar bl me c H locs ce sl Q (F0 m tgt ls st)) : W pg l ev R s m ar bl me c H locs ce sl Q (F0 m pc ls (.int (iZ b) :: .int (iZ a) :: st)) := by
  subst h
  exact lv_icmp_eq C.1.1 C.1.2.1 hdg ht (fun _ => kk) (fun h => absurd rfl h)
theorem zH_rot {a b x : va_W} (hH : zH s0 s G as0 (a ++ (b ++ x)) H locs) : zH s0 s G as0 (b ++ (a ++ x)) H locs := zH_perm (by rw [← List.append_assoc, ← List.append_assoc]; exact List.Perm.append_right x List.perm_append_comm) hH
end LROWS
