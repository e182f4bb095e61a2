/-! PLAIN LAWS: counting in a span -/
/-- how many p with a ≤ p < b have v p = x -/
def cnt (v : Nat → Nat) (a b x : Nat) : Nat := ((List.range b).filter (fun p => decide (a ≤ p ∧ v p = x))).length
theorem cnt_0 (v : Nat → Nat) {a b x : Nat} (h : b ≤ a) : cnt v a b x = 0 := by
  unfold cnt
  rw [List.length_eq_zero_iff, List.filter_eq_nil_iff]
  intro p hp
  have := List.mem_range.mp hp
  simp only [decide_eq_true_eq]; omega
theorem cnt_succ (v : Nat → Nat) {a b : Nat} (x : Nat) (h : a ≤ b) : cnt v a (b + 1) x = cnt v a b x + if v b = x then 1 else 0 := by
  unfold cnt
  rw [List.range_succ, List.filter_append, List.length_append]
  congr 1
  by_cases hx : v b = x
  · simp [hx, h]
  · simp [hx]
theorem cnt_le (v : Nat → Nat) (a b x : Nat) : cnt v a b x ≤ b - a := by
  induction b with
  | zero => simp [cnt]
  | succ b ih =>
    by_cases h : a ≤ b
    · rw [cnt_succ v x h]; split <;> omega
    · rw [cnt_0 v (by omega)]; omega
theorem cnt_pos {v : Nat → Nat} {a b x : Nat} : 0 < cnt v a b x ↔ ∃ p, a ≤ p ∧ p < b ∧ v p = x := by
  induction b with
  | zero => simp [cnt]
  | succ b ih =>
    by_cases h : a ≤ b
    · rw [cnt_succ v x h]
      constructor
      · intro h1
        by_cases hb : v b = x
        · exact ⟨b, h, by omega, hb⟩
        · rw [if_neg hb] at h1
          obtain ⟨p, h2, h3, h4⟩ := ih.mp h1
          exact ⟨p, h2, by omega, h4⟩
      · rintro ⟨p, h2, h3, h4⟩
        by_cases hp : p = b
        · subst hp; rw [if_pos h4]; omega
        · have := ih.mpr ⟨p, h2, by omega, h4⟩
          omega
    · rw [cnt_0 v (by omega)]
      constructor
      · intro h; omega
      · rintro ⟨p, h2, h3, -⟩; omega
theorem cnt_in {v : Nat → Nat} {a b p : Nat} (h1 : a ≤ p) (h2 : p < b) : 0 < cnt v a b (v p) := cnt_pos.mpr ⟨p, h1, h2, rfl⟩
theorem cnt_congr {v w : Nat → Nat} {a b : Nat} (x : Nat) (h : ∀ p, a ≤ p → p < b → (v p = x ↔ w p = x)) : cnt v a b x = cnt w a b x := by
  induction b with
  | zero => simp [cnt]
  | succ b ih =>
    by_cases hab : a ≤ b
    · rw [cnt_succ v x hab, cnt_succ w x hab, ih (fun p h1 h2 => h p h1 (by omega))]
      have := h b hab (by omega)
      by_cases hb : v b = x
      · rw [if_pos hb, if_pos (this.mp hb)]
      · rw [if_neg hb, if_neg (fun q => hb (this.mpr q))]
    · rw [cnt_0 v (by omega), cnt_0 w (by omega)]
theorem cnt_split {v : Nat → Nat} {a m b x : Nat} (h1 : a ≤ m) (h2 : m ≤ b) : cnt v a b x = cnt v a m x + cnt v m b x := by
  induction b with
  | zero =>
    obtain rfl : m = 0 := by omega
    rw [cnt_0 v (b := 0) (Nat.le_refl 0)]; omega
  | succ b ih =>
    by_cases hm : m = b + 1
    · subst hm; rw [cnt_0 v (Nat.le_refl _)]; omega
    · rw [cnt_succ v x (by omega), ih (by omega), cnt_succ v x (by omega)]; omega
/-- the first, the last place (of those ahead of b) of a value that stands in the span -/
def fsP (w : Nat → Nat) (a x : Nat) : Nat → Nat
  | 0 => 0
  | b + 1 => if cnt w a b x = 0 then b else fsP w a x b
def lsP (w : Nat → Nat) (x : Nat) : Nat → Nat
  | 0 => 0
  | b + 1 => if w b = x then b else lsP w x b
theorem fsP_spec {w : Nat → Nat} {a x : Nat} : ∀ {b : Nat}, 0 < cnt w a b x → a ≤ fsP w a x b ∧ fsP w a x b < b ∧ w (fsP w a x b) = x ∧ ∀ q, a ≤ q → q < fsP w a x b → w q ≠ x
  | 0, h => by simp [cnt] at h
  | b + 1, h => by
    by_cases hb : cnt w a b x = 0
    · have e : fsP w a x (b + 1) = b := by simp [fsP, hb]
      have hab : a ≤ b := by
        rcases Nat.lt_or_ge b a with q | q
        · rw [cnt_0 w (by omega)] at h; omega
        · exact q
      rw [cnt_succ w x hab, hb] at h
      have hx : w b = x := by
        by_cases q : w b = x
        · exact q
        · rw [if_neg q] at h; omega
      rw [e]
      refine ⟨hab, by omega, hx, fun q h1 h2 h3 => ?_⟩
      have := cnt_pos.mpr ⟨q, h1, h2, h3⟩
      omega
    · have e : fsP w a x (b + 1) = fsP w a x b := by simp [fsP, hb]
      rw [e]
      obtain ⟨h1, h2, h3, h4⟩ := fsP_spec (w := w) (a := a) (x := x) (b := b) (by omega)
      exact ⟨h1, by omega, h3, h4⟩
theorem lsP_spec {w : Nat → Nat} {a x : Nat} : ∀ {b : Nat}, 0 < cnt w a b x → a ≤ lsP w x b ∧ lsP w x b < b ∧ w (lsP w x b) = x ∧ ∀ q, lsP w x b < q → q < b → w q ≠ x
  | 0, h => by simp [cnt] at h
  | b + 1, h => by
    by_cases hb : w b = x
    · have e : lsP w x (b + 1) = b := by simp [lsP, hb]
      have hab : a ≤ b := by
        rcases Nat.lt_or_ge b a with q | q
        · rw [cnt_0 w (by omega)] at h; omega
        · exact q
      rw [e]
      exact ⟨hab, by omega, hb, fun q h1 h2 => by omega⟩
    · have e : lsP w x (b + 1) = lsP w x b := by simp [lsP, hb]
      have h' : 0 < cnt w a b x := by
        obtain ⟨p, h1, h2, h3⟩ := cnt_pos.mp h
        refine cnt_pos.mpr ⟨p, h1, ?_, h3⟩
        have : p ≠ b := fun q => hb (q ▸ h3)
        omega
      rw [e]
      obtain ⟨h1, h2, h3, h4⟩ := lsP_spec (w := w) (a := a) (x := x) (b := b) h'
      refine ⟨h1, by omega, h3, fun q q1 q2 => ?_⟩
      by_cases hq : q = b
      · subst hq; exact hb
      · exact h4 q q1 (by omega)
theorem fsP_uniq {w : Nat → Nat} {a b x p : Nat} (h1 : a ≤ p) (h2 : p < b) (h3 : w p = x) (h4 : ∀ q, a ≤ q → q < p → w q ≠ x) : p = fsP w a x b := by
  obtain ⟨g1, g2, g3, g4⟩ := fsP_spec (cnt_pos.mpr ⟨p, h1, h2, h3⟩)
  rcases Nat.lt_trichotomy p (fsP w a x b) with q | q | q
  · exact absurd h3 (g4 p h1 q)
  · exact q
  · exact absurd g3 (h4 _ g1 q)
theorem lsP_uniq {w : Nat → Nat} {a b x p : Nat} (h1 : a ≤ p) (h2 : p < b) (h3 : w p = x) (h4 : ∀ q, p < q → q < b → w q ≠ x) : p = lsP w x b := by
  obtain ⟨g1, g2, g3, g4⟩ := lsP_spec (cnt_pos.mpr ⟨p, h1, h2, h3⟩)
  rcases Nat.lt_trichotomy p (lsP w x b) with q | q | q
  · exact absurd g3 (h4 _ q g2)
  · exact q
  · exact absurd h3 (g4 p q h2)
/-! of two values of a span, which is ranked ahead -/
def tieA (w : Nat → Nat) (l r t x y : Nat) : Prop := if t = 0 then fsP w l x r < fsP w l y r else if t = 1 then lsP w y r < lsP w x r else if t = 2 then x < y else y < x
def ahd (w : Nat → Nat) (l r t x y : Nat) : Prop := cnt w l r y < cnt w l r x ∨ (cnt w l r x = cnt w l r y ∧ tieA w l r t x y)
theorem tieA_tot {w : Nat → Nat} {l r t x y : Nat} (hx : 0 < cnt w l r x) (hy : 0 < cnt w l r y) (h : x ≠ y) : tieA w l r t x y ∨ tieA w l r t y x := by
  unfold tieA
  have h1 : fsP w l x r ≠ fsP w l y r := fun e => h ((fsP_spec hx).2.2.1.symm.trans (e ▸ (fsP_spec hy).2.2.1))
  have h2 : lsP w x r ≠ lsP w y r := fun e => h ((lsP_spec hx).2.2.1.symm.trans (e ▸ (lsP_spec hy).2.2.1))
  repeat' split
  all_goals omega
theorem ahd_tot {w : Nat → Nat} {l r t x y : Nat} (hx : 0 < cnt w l r x) (hy : 0 < cnt w l r y) (h : x ≠ y) : ahd w l r t x y ∨ ahd w l r t y x := by
  rcases Nat.lt_trichotomy (cnt w l r x) (cnt w l r y) with q | q | q
  · exact Or.inr (Or.inl q)
  · rcases tieA_tot (t := t) hx hy h with z | z
    · exact Or.inl (Or.inr ⟨q, z⟩)
    · exact Or.inr (Or.inr ⟨q.symm, z⟩)
  · exact Or.inl (Or.inl q)
theorem tieA_asym {w : Nat → Nat} {l r t x y : Nat} (h : tieA w l r t x y) : ¬ tieA w l r t y x := by
  unfold tieA at *
  by_cases t0 : t = 0
  · simp only [t0, if_true] at *; omega
  · by_cases t1 : t = 1
    · simp only [t1, if_true] at *; simp at *; omega
    · by_cases t2 : t = 2
      · simp only [t2] at *; simp at *; omega
      · simp only [t0, t1, t2, if_false] at *; omega
theorem ahd_asym {w : Nat → Nat} {l r t x y : Nat} (h : ahd w l r t x y) : ¬ ahd w l r t y x := by
  rintro (q | ⟨q1, q2⟩)
  · rcases h with z | ⟨z, -⟩ <;> omega
  · rcases h with z | ⟨-, z⟩
    · omega
    · exact tieA_asym z q2
theorem ahd_irr {w : Nat → Nat} {l r t x : Nat} : ¬ ahd w l r t x x := fun h => ahd_asym h h
theorem tieA_trans {w : Nat → Nat} {l r t x y z : Nat} (h1 : tieA w l r t x y) (h2 : tieA w l r t y z) : tieA w l r t x z := by
  unfold tieA at *
  by_cases t0 : t = 0
  · simp only [t0, if_true] at *; omega
  · by_cases t1 : t = 1
    · simp only [t1, if_true] at *; simp at *; omega
    · by_cases t2 : t = 2
      · simp only [t2] at *; simp at *; omega
      · simp only [t0, t1, t2, if_false] at *; omega
theorem ahd_trans {w : Nat → Nat} {l r t x y z : Nat} (h1 : ahd w l r t x y) (h2 : ahd w l r t y z) : ahd w l r t x z := by
  rcases h1 with a | ⟨a, a'⟩ <;> rcases h2 with b | ⟨b, b'⟩
  · exact Or.inl (by omega)
  · exact Or.inl (by omega)
  · exact Or.inl (by omega)
  · exact Or.inr ⟨by omega, tieA_trans a' b'⟩
/-! counting with any property -/
noncomputable def cB (S : Nat → Prop) : Nat → Nat
  | 0 => 0
  | N + 1 => cB S N + @ite Nat (S N) (Classical.propDecidable (S N)) 1 0
theorem cB_0 (S : Nat → Prop) : cB S 0 = 0 := rfl
theorem cB_t {S : Nat → Prop} {N : Nat} (h : S N) : cB S (N + 1) = cB S N + 1 := by
  show cB S N + _ = _
  rw [if_pos h]
theorem cB_f {S : Nat → Prop} {N : Nat} (h : ¬ S N) : cB S (N + 1) = cB S N := by
  show cB S N + _ = _
  rw [if_neg h]; rfl
theorem cB_le (S : Nat → Prop) (N : Nat) : cB S N ≤ N := by
  induction N with
  | zero => exact Nat.le_refl 0
  | succ N ih =>
    by_cases h : S N
    · rw [cB_t h]; omega
    · rw [cB_f h]; omega
theorem cB_congr {S T : Nat → Prop} {N : Nat} (h : ∀ j, j < N → (S j ↔ T j)) : cB S N = cB T N := by
  induction N with
  | zero => rfl
  | succ N ih =>
    have e := ih (fun j hj => h j (by omega))
    by_cases hS : S N
    · rw [cB_t hS, cB_t ((h N (by omega)).mp hS), e]
    · rw [cB_f hS, cB_f (fun q => hS ((h N (by omega)).mpr q)), e]
theorem cB_none {S : Nat → Prop} {N : Nat} (h : ∀ j, j < N → ¬ S j) : cB S N = 0 := by
  induction N with
  | zero => rfl
  | succ N ih => rw [cB_f (h N (by omega)), ih (fun j hj => h j (by omega))]
theorem cB_one {S T : Nat → Prop} {N x : Nat} (hx : x < N) (hS : S x) (hT : ¬ T x) (h : ∀ j, j ≠ x → (S j ↔ T j)) : cB S N = cB T N + 1 := by
  induction N with
  | zero => omega
  | succ N ih =>
    by_cases hN : N = x
    · subst hN
      rw [cB_t hS, cB_f hT, cB_congr (fun j hj => h j (by omega))]
    · by_cases hSN : S N
      · rw [cB_t hSN, cB_t ((h N hN).mp hSN), ih (by omega)]
      · rw [cB_f hSN, cB_f (fun q => hSN ((h N hN).mpr q)), ih (by omega)]
theorem cB_mono {S T : Nat → Prop} {N : Nat} (h : ∀ j, j < N → S j → T j) : cB S N ≤ cB T N := by
  induction N with
  | zero => exact Nat.le_refl 0
  | succ N ih =>
    have e := ih (fun j hj => h j (by omega))
    by_cases hS : S N
    · rw [cB_t hS, cB_t (h N (by omega) hS)]; omega
    · rw [cB_f hS]
      by_cases hT : T N
      · rw [cB_t hT]; omega
      · rw [cB_f hT]; exact e
/-- the k places of u are all of S below M, each once: how many have P -/
theorem cB_enum {P : Nat → Prop} {M : Nat} (u : Nat → Nat) : ∀ (k : Nat) (S : Nat → Prop), (∀ j, j < k → u j < M ∧ S (u j)) → (∀ i j, i < k → j < k → u i = u j → i = j) → (∀ x, x < M → S x → ∃ j, j < k ∧ u j = x) → cB (fun j => P (u j)) k = cB (fun x => S x ∧ P x) M
  | 0, S, _, _, h3 => by
    rw [cB_0]
    refine (cB_none fun j hj h => ?_).symm
    obtain ⟨i, hi, -⟩ := h3 j hj h.1
    omega
  | k + 1, S, h1, h2, h3 => by
    have hk := h1 k (by omega)
    have ih := cB_enum (P := P) (M := M) u k (fun x => S x ∧ x ≠ u k) (fun j hj => ⟨(h1 j (by omega)).1, (h1 j (by omega)).2, fun e => by have := h2 j k (by omega) (by omega) e; omega⟩) (fun i j hi hj e => h2 i j (by omega) (by omega) e)
      (fun x hx hS => by
        obtain ⟨j, hj, e⟩ := h3 x hx hS.1
        refine ⟨j, ?_, e⟩
        have : j ≠ k := fun q => hS.2 (by rw [← e, q])
        omega)
    by_cases hP : P (u k)
    · rw [cB_t (S := fun j => P (u j)) hP, ih]
      refine (cB_one (S := fun x => S x ∧ P x) hk.1 ⟨hk.2, hP⟩ (fun h => h.1.2 rfl) (fun j hj => ?_)).symm
      constructor
      · rintro ⟨a, b⟩; exact ⟨⟨a, hj⟩, b⟩
      · rintro ⟨⟨a, -⟩, b⟩; exact ⟨a, b⟩
    · rw [cB_f (S := fun j => P (u j)) hP, ih]
      refine cB_congr (fun j hj => ?_)
      constructor
      · rintro ⟨⟨a, -⟩, b⟩; exact ⟨a, b⟩
      · rintro ⟨a, b⟩; exact ⟨⟨a, fun e => hP (e ▸ b)⟩, b⟩
theorem cB_all {S : Nat → Prop} {N : Nat} (h : ∀ j, j < N → S j) : cB S N = N := by
  induction N with
  | zero => rfl
  | succ N ih => rw [cB_t (h N (by omega)), ih (fun j hj => h j (by omega))]
/-- k different numbers below k are all of them -/
theorem pigeon : ∀ (k : Nat) (f : Nat → Nat), (∀ j, j < k → f j < k) → (∀ i j, i < k → j < k → f i = f j → i = j) → ∀ y, y < k → ∃ j, j < k ∧ f j = y
  | 0, _, _, _, y, hy => by omega
  | k + 1, f, h1, h2, y, hy => by
    by_cases hk : f k = y
    · exact ⟨k, by omega, hk⟩
    · -- swap y out
      have hfk := h1 k (by omega)
      have key := pigeon k (fun j => if f j = k then f k else f j) (fun j hj => by
          have := h1 j (by omega)
          have hne : f j ≠ f k := fun e => by have := h2 j k (by omega) (by omega) e; omega
          split <;> omega) (fun i j hi hj e => by
          have hni : f i ≠ f k := fun e => by have := h2 i k (by omega) (by omega) e; omega
          have hnj : f j ≠ f k := fun e => by have := h2 j k (by omega) (by omega) e; omega
          split at e <;> split at e
          · exact h2 i j (by omega) (by omega) (by omega)
          · omega
          · omega
          · exact h2 i j (by omega) (by omega) e)
      by_cases hyk : y = k
      · by_cases hfkk : f k = k
        · omega
        · obtain ⟨j, hj, e⟩ := key (f k) (by omega)
          split at e
          · exact ⟨j, by omega, by omega⟩
          · have := h2 j k (by omega) (by omega) e
            omega
      · obtain ⟨j, hj, e⟩ := key y (by omega)
        split at e
        · omega
        · exact ⟨j, by omega, e⟩
