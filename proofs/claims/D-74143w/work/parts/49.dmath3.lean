/-! what Row's edits do to an array -/
set_option maxRecDepth 100000
/-- the place p left out, those behind it up to k drawn one forward -/
def clsF (a : Nat → Int) (p k : Nat) : Nat → Int := fun i => if p ≤ i ∧ i < k then a (i + 1) else a i
theorem clsF_0 {a : Nat → Int} {p : Nat} : clsF a p p = a := by
  funext i
  unfold clsF
  rw [if_neg (by omega)]
theorem clsF_s {a : Nat → Int} {p k : Nat} (h : p ≤ k) : va_up (clsF a p k) k (clsF a p k (k + 1)) = clsF a p (k + 1) := by
  funext i
  unfold va_up clsF
  by_cases e : i = k
  · subst e
    rw [if_pos rfl, if_neg (by omega), if_pos (by omega)]
  · rw [if_neg e]
    by_cases q : p ≤ i ∧ i < k
    · rw [if_pos q, if_pos (by omega)]
    · rw [if_neg q, if_neg (by omega)]
/-- those from k + 1 up to n drawn one back -/
def opnF (a : Nat → Int) (n k : Nat) : Nat → Int := fun i => if k < i ∧ i ≤ n then a (i - 1) else a i
theorem opnF_0 {a : Nat → Int} {n : Nat} : opnF a n n = a := by
  funext i
  unfold opnF
  rw [if_neg (by omega)]
theorem opnF_s {a : Nat → Int} {n k : Nat} (h : k < n) : va_up (opnF a n (k + 1)) (k + 1) (opnF a n (k + 1) k) = opnF a n k := by
  funext i
  unfold va_up opnF
  by_cases e : i = k + 1
  · subst e
    rw [if_pos rfl, if_neg (by omega), if_pos (by omega)]
    rfl
  · rw [if_neg e]
    by_cases q : k + 1 < i ∧ i ≤ n
    · rw [if_pos q, if_pos (by omega)]
    · rw [if_neg q, if_neg (by omega)]
