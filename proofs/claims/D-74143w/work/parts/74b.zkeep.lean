/-! what keeps does to the past -/
set_option maxRecDepth 100000
theorem PASTD_cg {un : Nat} {kp : Nat → Nat} {F F2 : Nat → Int} {Ar A2 : Nat → Nat → Int} {hm hm2 : Nat → Nat} {hv hw hv2 hw2 : Nat → Nat → Nat} (h : PASTD un kp F Ar hm hv hw) (hF : ∀ k, k < un → F2 (kp k) = F (kp k)) (hA : ∀ k, k < un → A2 (kp k + 1) = Ar (kp k + 1) ∧ A2 (kp k + 2) = Ar (kp k + 2)) (hh : ∀ k, k < un → hm2 k = hm k ∧ hv2 k = hv k ∧ hw2 k = hw k) : PASTD un kp F2 A2 hm2 hv2 hw2 := fun k hk => by
  rw [hF k hk, (hA k hk).1, (hA k hk).2, (hh k hk).1, (hh k hk).2.1, (hh k hk).2.2]
  exact h k hk
theorem keeps_n {un K n : Nat} {kp : Nat → Nat} {F F1 : Nat → Int} {Ar A1 : Nat → Nat → Int} {hm : Nat → Nat} {hv hw : Nat → Nat → Nat} {v wt : Nat → Nat} {a b : Nat → Int} {z : Int} (hk : KPT kp) (hu : un < 12) (h : PASTD un kp F Ar hm hv hw) (e : kp un = K) (hF : ∀ k, 209 ≤ k → F1 k = F k) (hA : ∀ k, 209 ≤ k → A1 k = Ar k) (hn : n ≤ 120) (ha : ∀ i, i < n → a i = (v i : Int)) (hb : ∀ i, i < n → b i = (wt i : Int)) (hvv : ∀ i, i < n → v i < 1000) (hww : ∀ i, i < n → 1 ≤ wt i ∧ wt i ≤ 9) : PASTD (pushU un) kp (va_up (va_up F1 K (n : Int)) 14 z) (va_up (va_up A1 (K + 1) a) (K + 2) b) (pushR un hm n) (pushR un hv v) (pushR un hw wt) := by
  subst e
  have h1 : PASTD un kp F1 A1 hm hv hw := PASTD_cg h (fun k hk2 => hF _ (kp_ge hk (by omega)).1) (fun k hk2 => ⟨hA _ (by have := (kp_ge hk (show k < 12 by omega)).1; omega), hA _ (by have := (kp_ge hk (show k < 12 by omega)).1; omega)⟩) (fun k _ => ⟨rfl, rfl, rfl⟩)
  have h2 := PASTD_push hk hu h1 hn ha hb hvv hww
  rw [show pushU un = un + 1 by unfold pushU; rw [if_neg (by omega)]]
  have hp : ∀ {α : Type} (g : Nat → α) (x : α) (k : Nat), pushR un g x k = va_up g un x k := fun g x k => by
    unfold pushR va_up
    rw [if_neg (by omega)]
  exact PASTD_cg h2 (fun k hk2 => va_up_ne _ _ (by have := (kp_ge hk (show k < 12 by omega)).1; omega)) (fun k _ => ⟨rfl, rfl⟩) (fun k _ => ⟨hp _ _ _, hp _ _ _, hp _ _ _⟩)
theorem keeps_12 {un K n : Nat} {kp : Nat → Nat} {F F1 : Nat → Int} {Ar A1 : Nat → Nat → Int} {hm : Nat → Nat} {hv hw : Nat → Nat → Nat} {v wt : Nat → Nat} {a b : Nat → Int} {z : Int} (hk : KPT kp) (hu : un = 12) (h : PASTD un kp F Ar hm hv hw) (e : kpR kp (un - 1) = K) (hF : ∀ k, 209 ≤ k → F1 k = F k) (hA : ∀ k, 209 ≤ k → A1 k = Ar k) (hn : n ≤ 120) (ha : ∀ i, i < n → a i = (v i : Int)) (hb : ∀ i, i < n → b i = (wt i : Int)) (hvv : ∀ i, i < n → v i < 1000) (hww : ∀ i, i < n → 1 ≤ wt i ∧ wt i ≤ 9) : PASTD (pushU un) (kpR kp) (va_up (va_up F1 K (n : Int)) 14 z) (va_up (va_up A1 (K + 1) a) (K + 2) b) (pushR un hm n) (pushR un hv v) (pushR un hw wt) := by
  subst hu
  subst e
  have h0 : PASTD 12 kp F1 A1 hm hv hw := PASTD_cg h (fun k hk2 => hF _ (kp_ge hk (by omega)).1) (fun k hk2 => ⟨hA _ (by have := (kp_ge hk (show k < 12 by omega)).1; omega), hA _ (by have := (kp_ge hk (show k < 12 by omega)).1; omega)⟩) (fun k _ => ⟨rfl, rfl, rfl⟩)
  have hkR := KPT_R hk
  have h2 := PASTD_push hkR (show 11 < 12 by decide) (PASTD_R h0) hn ha hb hvv hww
  rw [show pushU 12 = 11 + 1 from rfl]
  have hp : ∀ {α : Type} (g : Nat → α) (x : α) (k : Nat), pushR 12 g x k = va_up (fun j => g (j + 1)) 11 x k := fun g x k => by
    unfold pushR va_up
    rw [if_pos rfl]
  exact PASTD_cg h2 (fun k hk2 => va_up_ne _ _ (by have := (kp_ge hkR (show k < 12 by omega)).1; omega)) (fun k _ => ⟨rfl, rfl⟩) (fun k _ => ⟨hp _ _ _, hp _ _ _, hp _ _ _⟩)
