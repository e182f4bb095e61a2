/-! plain laws for windows -/
theorem wn_F {F : Nat → Int} {a b : Int} : va_up (va_up F 17 a) 17 b = va_up F 17 b := by
  funext j
  unfold va_up
  split <;> rfl
theorem wn_A {A : Nat → Nat → Int} {a z T b z' : Nat → Int} : va_up (va_up (va_up (va_up (va_up A 15 a) 16 z) 19 T) 15 b) 16 z' = va_up (va_up (va_up A 15 b) 16 z') 19 T := by
  funext j
  by_cases h1 : j = 15
  · subst h1; rfl
  · by_cases h2 : j = 16
    · subst h2; rfl
    · by_cases h3 : j = 19
      · subst h3; rfl
      · simp [va_up, h1, h2, h3]
theorem wpos {f mo : Nat → Nat} {N bs : Nat} (im : ∀ x, x < 1000 → mo x = cnt f 0 N x) (ib : ∀ y, y < 1000 → mo y ≤ mo bs ∧ (y < bs → mo y < mo bs)) (hf : f 0 < 1000) (hN : 0 < N) : 0 < mo bs := by
  have h1 := (ib _ hf).1
  have h2 := cnt_in (v := f) (a := 0) (b := N) (p := 0) (Nat.le_refl _) hN
  rw [im _ hf] at h1
  omega
