/-! EDITS -/
theorem va_up_idN (v : Nat → Nat) (p : Nat) : va_up v p (v p) = v := by
  funext j
  by_cases e : j = p
  · rw [e, va_up_self]
  · rw [va_up_ne _ _ e]
theorem cI_zero (v : Nat → Nat) (a : Nat → Int) : a = cI 0 v a := cI_self (fun p hp => absurd hp (Nat.not_lt_zero _))
theorem cI_congr {n : Nat} {v w : Nat → Nat} {g : Nat → Int} (h : ∀ p, p < n → v p = w p) : cI n v g = cI n w g := by
  funext j
  unfold cI
  by_cases e : j < n
  · rw [if_pos e, if_pos e, h j e]
  · rw [if_neg e, if_neg e]
def sameR (n : Nat) (v wt : Nat → Nat) (n2 : Nat) (v2 w2 : Nat → Nat) : Prop := n2 = n ∧ ∀ p, p < n → v2 p = v p ∧ w2 p = wt p
/-- a block that is other -/
def FR (b n : Nat) (v : Nat → Nat) (n2 : Nat) (v2 : Nat → Nat) (i : Nat) : Prop := plc b i n2 < plc b i n ∨ ∃ p, b * i ≤ p ∧ p < b * i + b ∧ p < n2 ∧ (n ≤ p ∨ v2 p ≠ v p)
noncomputable def frs (b n : Nat) (v : Nat → Nat) (n2 : Nat) (v2 : Nat → Nat) : Nat := sm (fun i => cB (fun j => ∃ i1, i ≤ i1 ∧ i1 ≤ j ∧ FR b n v n2 v2 i1) (zdiv (n2 + b - 1) b)) 0 (zdiv (n2 + b - 1) b)
def pushU (un : Nat) : Nat := if un = 12 then 12 else un + 1
def pushR {α : Type} (un : Nat) (h : Nat → α) (x : α) : Nat → α := fun k => if un = 12 then (if k = 11 then x else h (k + 1)) else if k = un then x else h k
/-- what an edit does to the past -/
def EDT (b n : Nat) (v wt : Nat → Nat) (un : Nat) (hm : Nat → Nat) (hv hw : Nat → Nat → Nat) (fr : Int) (n2 : Nat) (v2 w2 : Nat → Nat) (un2 : Nat) (hm2 : Nat → Nat) (hv2 hw2 : Nat → Nat → Nat) (fr2 : Int) : Prop :=
  (sameR n v wt n2 v2 w2 ∧ un2 = un ∧ hm2 = hm ∧ hv2 = hv ∧ hw2 = hw ∧ fr2 = fr) ∨ (¬ sameR n v wt n2 v2 w2 ∧ un2 = pushU un ∧ hm2 = pushR un hm n ∧ hv2 = pushR un hv v ∧ hw2 = pushR un hw wt ∧ fr2 = (frs b n v n2 v2 : Int))
theorem FR_left {b n : Nat} {v : Nat → Nat} {n2 : Nat} {v2 : Nat → Nat} {i : Nat} (h : plc b i n2 < plc b i n) : FR b n v n2 v2 i := Or.inl h
theorem sm_b {f : Nat → Nat} {a M b : Nat} (h : ∀ p, f p ≤ M) : sm f a b ≤ b * M := sm_le (fun p _ => h p)
/-- the past, one row copied over its neighbour -/
def CPY (pv pv2 : Nat → Int) (f t : Nat) : Prop := (∀ j, j < 120 → pv2 (120 * t + j) = pv (120 * f + j)) ∧ ∀ i, (i < 120 * t ∨ 120 * t + 120 ≤ i) → pv2 i = pv i
def CPYl (pv pv2 : Nat → Int) (f t p : Nat) : Prop := (∀ j, j < p → pv2 (120 * t + j) = pv (120 * f + j)) ∧ ∀ i, (i < 120 * t ∨ 120 * t + p ≤ i) → pv2 i = pv i
theorem CPYl_0 {pv : Nat → Int} {f t : Nat} : CPYl pv pv f t 0 := ⟨fun j h => absurd h (Nat.not_lt_zero _), fun _ _ => rfl⟩
theorem CPYl_s {pv pv2 : Nat → Int} {f t p : Nat} (hft : f ≠ t) (hp : p < 120) (h : CPYl pv pv2 f t p) {x : Int} (hx : x = pv2 (120 * f + p)) : CPYl pv (va_up pv2 (120 * t + p) x) f t (p + 1) := by
  refine ⟨fun j hj => ?_, fun i hi => ?_⟩
  · by_cases e : j = p
    · subst e
      rw [va_up_self, hx, h.2 (120 * f + j) (by omega)]
    · rw [va_up_ne _ _ (by omega), h.1 j (by omega)]
  · rw [va_up_ne _ _ (by omega), h.2 i (by omega)]
/-- k rows have moved down by one -/
def SHF (un : Nat) (pv pw pm : Nat → Int) (hm : Nat → Nat) (hv hw : Nat → Nat → Nat) (k : Nat) : Prop := PAST (k - 1) pv pw pm (fun j => hm (j + 1)) (fun j => hv (j + 1)) (fun j => hw (j + 1)) ∧ ∀ i, k ≤ i → i < un → pm i = (hm i : Int) ∧ hm i ≤ 120 ∧ ∀ p, p < hm i → pv (120 * i + p) = (hv i p : Int) ∧ pw (120 * i + p) = (hw i p : Int) ∧ hv i p < 1000 ∧ 1 ≤ hw i p ∧ hw i p ≤ 9
theorem SHF_1 {un : Nat} {pv pw pm : Nat → Int} {hm : Nat → Nat} {hv hw : Nat → Nat → Nat} (h : PAST un pv pw pm hm hv hw) : SHF un pv pw pm hm hv hw 1 := ⟨fun k hk => absurd hk (by omega), fun i _ hi => h i hi⟩
theorem SHF_s {pv pw pm pv2 pw2 : Nat → Int} {hm : Nat → Nat} {hv hw : Nat → Nat → Nat} {k un : Nat} (h : SHF un pv pw pm hm hv hw k) (h1 : 1 ≤ k) (hk : k < un) (c1 : CPY pv pv2 k (k - 1)) (c2 : CPY pw pw2 k (k - 1)) : SHF un pv2 pw2 (va_up pm (k - 1) (pm k)) hm hv hw (k + 1) := by
  have hk0 := h.2 k (Nat.le_refl _) hk
  refine ⟨fun j hj => ?_, fun i hi hi2 => ?_⟩
  · by_cases e : j = k - 1
    · subst e
      rw [va_up_self]
      dsimp only
      rw [show k - 1 + 1 = k by omega]
      refine ⟨hk0.1, hk0.2.1, fun p hp => ?_⟩
      rw [c1.1 p (by omega), c2.1 p (by omega)]
      exact hk0.2.2 p hp
    · have hj0 := h.1 j (by omega)
      rw [va_up_ne _ _ e]
      refine ⟨hj0.1, hj0.2.1, fun p hp => ?_⟩
      have hp2 : p < 120 := Nat.lt_of_lt_of_le hp hj0.2.1
      rw [c1.2 _ (by omega), c2.2 _ (by omega)]
      exact hj0.2.2 p hp
  · have hi0 := h.2 i (by omega) hi2
    rw [va_up_ne _ _ (by omega)]
    refine ⟨hi0.1, hi0.2.1, fun p hp => ?_⟩
    have hp2 : p < 120 := Nat.lt_of_lt_of_le hp hi0.2.1
    rw [c1.2 _ (by omega), c2.2 _ (by omega)]
    exact hi0.2.2 p hp
/-- the present row laid as row 'un' of the past -/
def LAY (pv pv1 : Nat → Int) (un n p : Nat) (v : Nat → Nat) : Prop := (∀ j, j < p → pv1 (120 * un + j) = (v j : Int)) ∧ ∀ i, i < 120 * un → pv1 i = pv i
theorem LAY_0 {pv : Nat → Int} {un n : Nat} {v : Nat → Nat} : LAY pv pv un n 0 v := ⟨fun j h => absurd h (Nat.not_lt_zero _), fun _ _ => rfl⟩
theorem LAY_s {pv pv1 : Nat → Int} {un n p : Nat} {v : Nat → Nat} (h : LAY pv pv1 un n p v) {x : Int} (hx : x = (v p : Int)) : LAY pv (va_up pv1 (120 * un + p) x) un n (p + 1) v := by
  refine ⟨fun j hj => ?_, fun i hi => ?_⟩
  · by_cases e : j = p
    · subst e; rw [va_up_self, hx]
    · rw [va_up_ne _ _ (by omega), h.1 j (by omega)]
  · rw [va_up_ne _ _ (by omega), h.2 i hi]
theorem PAST_push {un n : Nat} {pv pw pm pv1 pw1 : Nat → Int} {hm : Nat → Nat} {hv hw : Nat → Nat → Nat} {v wt : Nat → Nat} (h : PAST un pv pw pm hm hv hw) (hn : n ≤ 120) (hv1 : ∀ i, i < n → v i < 1000) (hw1 : ∀ i, i < n → 1 ≤ wt i ∧ wt i ≤ 9) (l1 : LAY pv pv1 un n n v) (l2 : LAY pw pw1 un n n wt) : PAST (un + 1) pv1 pw1 (va_up pm un (n : Int)) (fun k => if k = un then n else hm k) (fun k => if k = un then v else hv k) (fun k => if k = un then wt else hw k) := by
  intro k hk
  by_cases e : k = un
  · subst e
    simp only [if_true]
    rw [va_up_self]
    refine ⟨rfl, hn, fun p hp => ?_⟩
    rw [l1.1 p hp, l2.1 p hp]
    exact ⟨rfl, rfl, hv1 p hp, (hw1 p hp).1, (hw1 p hp).2⟩
  · simp only [e, if_false]
    rw [va_up_ne _ _ e]
    have hk0 := h k (by omega)
    refine ⟨hk0.1, hk0.2.1, fun p hp => ?_⟩
    have hp2 : p < 120 := Nat.lt_of_lt_of_le hp hk0.2.1
    rw [l1.2 _ (by omega), l2.2 _ (by omega)]
    exact hk0.2.2 p hp
theorem push_12 {α : Type} (h : Nat → α) (x : α) : (fun k => if k = 11 then x else h (k + 1)) = pushR 12 h x := by
  funext k; unfold pushR; rw [if_pos rfl]
theorem push_u {α : Type} {un : Nat} (hu : un ≠ 12) (h : Nat → α) (x : α) : (fun k => if k = un then x else h k) = pushR un h x := by
  funext k; unfold pushR; rw [if_neg hu]
theorem fr_1 {P : Nat → Prop} {s : Int} {i j : Nat} (h : (s = 1 ∧ ∃ i1, i ≤ i1 ∧ i1 < j ∧ P i1) ∨ (s = 0 ∧ ∀ i1, i ≤ i1 → i1 < j → ¬ P i1)) (hij : i ≤ j) (c : ¬ s = 0 ∨ P j) : ∃ i1, i ≤ i1 ∧ i1 ≤ j ∧ P i1 := by
  rcases c with c | c
  · rcases h with ⟨-, q, q1, q2, q3⟩ | ⟨h, -⟩
    · exact ⟨q, q1, by omega, q3⟩
    · exact absurd h c
  · exact ⟨j, hij, Nat.le_refl _, c⟩
theorem fr_0 {P : Nat → Prop} {s : Int} {i j : Nat} (h : (s = 1 ∧ ∃ i1, i ≤ i1 ∧ i1 < j ∧ P i1) ∨ (s = 0 ∧ ∀ i1, i ≤ i1 → i1 < j → ¬ P i1)) (hs : s = 0) (c : ¬ P j) : ¬ ∃ i1, i ≤ i1 ∧ i1 ≤ j ∧ P i1 := by
  rintro ⟨q, q1, q2, q3⟩
  rcases h with ⟨h, -⟩ | ⟨-, h⟩
  · omega
  · by_cases e : q = j
    · exact c (e ▸ q3)
    · exact h q q1 (by omega) q3
theorem fr_s1 {P : Nat → Prop} {s : Int} {i j : Nat} (h : (s = 1 ∧ ∃ i1, i ≤ i1 ∧ i1 < j ∧ P i1) ∨ (s = 0 ∧ ∀ i1, i ≤ i1 → i1 < j → ¬ P i1)) (hij : i ≤ j) (c : ¬ s = 0 ∨ P j) : ((1 : Int) = 1 ∧ ∃ i1, i ≤ i1 ∧ i1 < j + 1 ∧ P i1) ∨ ((1 : Int) = 0 ∧ ∀ i1, i ≤ i1 → i1 < j + 1 → ¬ P i1) := by
  obtain ⟨q, q1, q2, q3⟩ := fr_1 h hij c
  exact Or.inl ⟨rfl, q, q1, by omega, q3⟩
theorem fr_s0 {P : Nat → Prop} {s : Int} {i j : Nat} (h : (s = 1 ∧ ∃ i1, i ≤ i1 ∧ i1 < j ∧ P i1) ∨ (s = 0 ∧ ∀ i1, i ≤ i1 → i1 < j → ¬ P i1)) (hs : s = 0) (c : ¬ P j) : ((0 : Int) = 1 ∧ ∃ i1, i ≤ i1 ∧ i1 < j + 1 ∧ P i1) ∨ ((0 : Int) = 0 ∧ ∀ i1, i ≤ i1 → i1 < j + 1 → ¬ P i1) := by
  refine Or.inr ⟨rfl, fun i1 q1 q2 q3 => ?_⟩
  exact fr_0 h hs c ⟨i1, q1, by omega, q3⟩
def PSH (un u0 : Nat) (pv pw pm : Nat → Int) (hm : Nat → Nat) (hv hw : Nat → Nat → Nat) : Prop := (un = 12 ∧ u0 = 11 ∧ PAST 11 pv pw pm (fun j => hm (j + 1)) (fun j => hv (j + 1)) (fun j => hw (j + 1))) ∨ (un ≠ 12 ∧ u0 = un ∧ PAST un pv pw pm hm hv hw)
theorem PSH_12 {pv pw pm : Nat → Int} {hm : Nat → Nat} {hv hw : Nat → Nat → Nat} {un k u0 : Nat} (h : SHF un pv pw pm hm hv hw k) (hk : k = 12) (hun : un = 12) (hu : u0 = 11) : PSH un u0 pv pw pm hm hv hw := by
  subst hk
  exact Or.inl ⟨hun, hu, h.1⟩
theorem PSH_b {pv pw pm : Nat → Int} {hm : Nat → Nat} {hv hw : Nat → Nat → Nat} {un u0 : Nat} (h : PSH un u0 pv pw pm hm hv hw) (hun : un ≤ 12) : u0 < 12 := by
  rcases h with ⟨h1, h2, -⟩ | ⟨h1, h2, -⟩ <;> omega
theorem PSH_end {un u0 n : Nat} {pv pw pm pv1 pw1 : Nat → Int} {hm : Nat → Nat} {hv hw : Nat → Nat → Nat} {v wt : Nat → Nat} (h : PSH un u0 pv pw pm hm hv hw) (hn : n ≤ 120) (hv1 : ∀ i, i < n → v i < 1000) (hw1 : ∀ i, i < n → 1 ≤ wt i ∧ wt i ≤ 9) (l1 : LAY pv pv1 u0 n n v) (l2 : LAY pw pw1 u0 n n wt) : PAST (u0 + 1) pv1 pw1 (va_up pm u0 (n : Int)) (pushR un hm n) (pushR un hv v) (pushR un hw wt) ∧ u0 + 1 = pushU un := by
  rcases h with ⟨h1, h2, h3⟩ | ⟨h1, h2, h3⟩
  · subst h1; subst h2
    refine ⟨?_, by rfl⟩
    rw [← push_12 hm n, ← push_12 hv v, ← push_12 hw wt]
    exact PAST_push h3 hn hv1 hw1 l1 l2
  · subst h2
    refine ⟨?_, by unfold pushU; rw [if_neg h1]⟩
    rw [← push_u h1 hm n, ← push_u h1 hv v, ← push_u h1 hw wt]
    exact PAST_push h3 hn hv1 hw1 l1 l2
theorem EDT_same {b n : Nat} {v wt : Nat → Nat} {un : Nat} {hm : Nat → Nat} {hv hw : Nat → Nat → Nat} {fr : Int} {n2 : Nat} {v2 w2 : Nat → Nat} (h : sameR n v wt n2 v2 w2) : EDT b n v wt un hm hv hw fr n2 v2 w2 un hm hv hw fr := Or.inl ⟨h, rfl, rfl, rfl, rfl, rfl⟩
theorem EDT_none {b n : Nat} {v wt : Nat → Nat} {un : Nat} {hm : Nat → Nat} {hv hw : Nat → Nat → Nat} {fr : Int} : EDT b n v wt un hm hv hw fr n v wt un hm hv hw fr := EDT_same ⟨rfl, fun _ _ => ⟨rfl, rfl⟩⟩
/-! what each edit makes of the row -/
def insF (v : Nat → Nat) (p x : Nat) : Nat → Nat := fun j => if j < p then v j else if j = p then x else v (j - 1)
def remF (v : Nat → Nat) (p : Nat) : Nat → Nat := fun j => if j < p then v j else v (j + 1)
def fillF (v : Nat → Nat) (l r x : Nat) : Nat → Nat := fun j => if l ≤ j ∧ j ≤ r then x else v j
def swpF (v : Nat → Nat) (p q : Nat) : Nat → Nat := va_up (va_up v q (v p)) p (v q)
def flpF (v : Nat → Nat) (l r : Nat) : Nat → Nat := fun j => if l ≤ j ∧ j ≤ r then v (l + r - j) else v j
def shfF (v : Nat → Nat) (l r k : Nat) : Nat → Nat := fun j => if l ≤ j ∧ j ≤ r then v (l + zmod (j - l + (r + 1 - l - k)) (r + 1 - l)) else v j
def repF (v : Nat → Nat) (x y : Nat) : Nat → Nat := fun j => if v j = x then y else v j
def Sp_set (n : Nat) (v wt : Nat → Nat) (p x z : Int) (n2 : Nat) (v2 w2 : Nat → Nat) : Prop := if (0 ≤ p ∧ p < n) ∧ 0 ≤ x ∧ x < 1000 then z = (v p.toNat : Int) ∧ n2 = n ∧ v2 = va_up v p.toNat x.toNat ∧ w2 = wt else z = -1 ∧ n2 = n ∧ v2 = v ∧ w2 = wt
def Sp_weigh (n : Nat) (v wt : Nat → Nat) (p x z : Int) (n2 : Nat) (v2 w2 : Nat → Nat) : Prop := if (0 ≤ p ∧ p < n) ∧ 1 ≤ x ∧ x ≤ 9 then z = (wt p.toNat : Int) ∧ n2 = n ∧ v2 = v ∧ w2 = va_up wt p.toNat x.toNat else z = -1 ∧ n2 = n ∧ v2 = v ∧ w2 = wt
def Sp_insert (n : Nat) (v wt : Nat → Nat) (p x z : Int) (n2 : Nat) (v2 w2 : Nat → Nat) : Prop := if (0 ≤ p ∧ p ≤ n) ∧ (0 ≤ x ∧ x < 1000) ∧ n ≠ 120 then z = (n : Int) + 1 ∧ n2 = n + 1 ∧ v2 = insF v p.toNat x.toNat ∧ w2 = insF wt p.toNat 1 else z = -1 ∧ n2 = n ∧ v2 = v ∧ w2 = wt
def Sp_remove (n : Nat) (v wt : Nat → Nat) (p z : Int) (n2 : Nat) (v2 w2 : Nat → Nat) : Prop := if 0 ≤ p ∧ p < n then z = (v p.toNat : Int) ∧ n2 = n - 1 ∧ v2 = remF v p.toNat ∧ w2 = remF wt p.toNat else z = -1 ∧ n2 = n ∧ v2 = v ∧ w2 = wt
noncomputable def oth (n : Nat) (v v2 : Nat → Nat) : Nat := cB (fun p => v2 p ≠ v p) n
def Sp_fill (n : Nat) (v wt : Nat → Nat) (l r x z : Int) (n2 : Nat) (v2 w2 : Nat → Nat) : Prop := if (0 ≤ l ∧ l ≤ r ∧ r < n) ∧ 0 ≤ x ∧ x < 1000 then z = (oth n v v2 : Int) ∧ n2 = n ∧ v2 = fillF v l.toNat r.toNat x.toNat ∧ w2 = wt else z = -1 ∧ n2 = n ∧ v2 = v ∧ w2 = wt
def Sp_swap (n : Nat) (v wt : Nat → Nat) (p q z : Int) (n2 : Nat) (v2 w2 : Nat → Nat) : Prop := if (0 ≤ p ∧ p < n) ∧ (0 ≤ q ∧ q < n) ∧ p ≠ q then z = 1 ∧ n2 = n ∧ v2 = swpF v p.toNat q.toNat ∧ w2 = swpF wt p.toNat q.toNat else z = 0 ∧ n2 = n ∧ v2 = v ∧ w2 = wt
def Sp_flip (n : Nat) (v wt : Nat → Nat) (l r z : Int) (n2 : Nat) (v2 w2 : Nat → Nat) : Prop := if (0 ≤ l ∧ l ≤ r ∧ r < n) then z = (oth n v v2 : Int) ∧ n2 = n ∧ v2 = flpF v l.toNat r.toNat ∧ w2 = flpF wt l.toNat r.toNat else z = -1 ∧ n2 = n ∧ v2 = v ∧ w2 = wt
def Sp_shift (n : Nat) (v wt : Nat → Nat) (l r k z : Int) (n2 : Nat) (v2 w2 : Nat → Nat) : Prop := if (0 ≤ l ∧ l ≤ r ∧ r < n) ∧ 0 ≤ k ∧ k ≤ r - l + 1 then z = (oth n v v2 : Int) ∧ n2 = n ∧ v2 = shfF v l.toNat r.toNat k.toNat ∧ w2 = shfF wt l.toNat r.toNat k.toNat else z = -1 ∧ n2 = n ∧ v2 = v ∧ w2 = wt
def Sp_replace (n : Nat) (v wt : Nat → Nat) (x y z : Int) (n2 : Nat) (v2 w2 : Nat → Nat) : Prop := if (0 ≤ x ∧ x < 1000) ∧ 0 ≤ y ∧ y < 1000 then z = (oth n v v2 : Int) ∧ n2 = n ∧ v2 = repF v x.toNat y.toNat ∧ w2 = wt else z = -1 ∧ n2 = n ∧ v2 = v ∧ w2 = wt
theorem up_lt {v : Nat → Nat} {n p x B : Nat} (h : ∀ i, i < n → v i < B) (hx : x < B) : ∀ i, i < n → va_up v p x i < B := fun i hi => by
  by_cases e : i = p
  · rw [e, va_up_self]; exact hx
  · rw [va_up_ne _ _ e]; exact h i hi
theorem up_19 {v : Nat → Nat} {n p x : Nat} (h : ∀ i, i < n → 1 ≤ v i ∧ v i ≤ 9) (hx : 1 ≤ x ∧ x ≤ 9) : ∀ i, i < n → 1 ≤ va_up v p x i ∧ va_up v p x i ≤ 9 := fun i hi => by
  by_cases e : i = p
  · rw [e, va_up_self]; exact hx
  · rw [va_up_ne _ _ e]; exact h i hi
/-- each place of the new row has what some place of the old one has, or x -/
theorem from_old {P : Nat → Prop} {v v2 : Nat → Nat} {n n2 : Nat} (h : ∀ i, i < n → P (v i)) (e : ∀ j, j < n2 → P (v2 j) ∨ ∃ i, i < n ∧ v2 j = v i) : ∀ j, j < n2 → P (v2 j) := fun j hj => by
  rcases e j hj with q | ⟨i, hi, q⟩
  · exact q
  · rw [q]; exact h i hi
theorem insF_old {P : Nat → Prop} {v : Nat → Nat} {n p x : Nat} (h : ∀ i, i < n → P (v i)) (hx : P x) (hp : p ≤ n) : ∀ j, j < n + 1 → P (insF v p x j) := from_old h (fun j hj => by
  unfold insF
  by_cases a : j < p
  · rw [if_pos a]; exact Or.inr ⟨j, by omega, rfl⟩
  · rw [if_neg a]
    by_cases b : j = p
    · rw [if_pos b]; exact Or.inl hx
    · rw [if_neg b]; exact Or.inr ⟨j - 1, by omega, rfl⟩)
theorem remF_old {P : Nat → Prop} {v : Nat → Nat} {n p : Nat} (h : ∀ i, i < n → P (v i)) : ∀ j, j < n - 1 → P (remF v p j) := from_old h (fun j hj => by
  unfold remF
  by_cases a : j < p
  · rw [if_pos a]; exact Or.inr ⟨j, by omega, rfl⟩
  · rw [if_neg a]; exact Or.inr ⟨j + 1, by omega, rfl⟩)
theorem fillF_old {P : Nat → Prop} {v : Nat → Nat} {n l r x : Nat} (h : ∀ i, i < n → P (v i)) (hx : P x) : ∀ j, j < n → P (fillF v l r x j) := from_old h (fun j hj => by
  unfold fillF
  by_cases a : l ≤ j ∧ j ≤ r
  · rw [if_pos a]; exact Or.inl hx
  · rw [if_neg a]; exact Or.inr ⟨j, hj, rfl⟩)
theorem swpF_old {P : Nat → Prop} {v : Nat → Nat} {n p q : Nat} (h : ∀ i, i < n → P (v i)) (hp : p < n) (hq : q < n) : ∀ j, j < n → P (swpF v p q j) := from_old h (fun j hj => by
  unfold swpF
  by_cases a : j = p
  · rw [a, va_up_self]; exact Or.inr ⟨q, hq, rfl⟩
  · rw [va_up_ne _ _ a]
    by_cases b : j = q
    · rw [b, va_up_self]; exact Or.inr ⟨p, hp, rfl⟩
    · rw [va_up_ne _ _ b]; exact Or.inr ⟨j, hj, rfl⟩)
theorem flpF_old {P : Nat → Prop} {v : Nat → Nat} {n l r : Nat} (h : ∀ i, i < n → P (v i)) (hr : r < n) : ∀ j, j < n → P (flpF v l r j) := from_old h (fun j hj => by
  unfold flpF
  by_cases a : l ≤ j ∧ j ≤ r
  · rw [if_pos a]; exact Or.inr ⟨l + r - j, by omega, rfl⟩
  · rw [if_neg a]; exact Or.inr ⟨j, hj, rfl⟩)
theorem shfF_old {P : Nat → Prop} {v : Nat → Nat} {n l r k : Nat} (h : ∀ i, i < n → P (v i)) (hr : r < n) (hlr : l ≤ r) : ∀ j, j < n → P (shfF v l r k j) := from_old h (fun j hj => by
  unfold shfF
  by_cases a : l ≤ j ∧ j ≤ r
  · rw [if_pos a]
    have : zmod (j - l + (r + 1 - l - k)) (r + 1 - l) < r + 1 - l := Nat.mod_lt _ (by omega)
    exact Or.inr ⟨_, by omega, rfl⟩
  · rw [if_neg a]; exact Or.inr ⟨j, hj, rfl⟩)
theorem repF_old {P : Nat → Prop} {v : Nat → Nat} {n x y : Nat} (h : ∀ i, i < n → P (v i)) (hy : P y) : ∀ j, j < n → P (repF v x y j) := from_old h (fun j hj => by
  unfold repF
  by_cases a : v j = x
  · rw [if_pos a]; exact Or.inl hy
  · rw [if_neg a]; exact Or.inr ⟨j, hj, rfl⟩)
theorem fill_s {v tv : Nat → Nat} {n l p x : Nat} (h : ∀ j, j < n → tv j = if l ≤ j ∧ j < p then x else v j) (hp : l ≤ p) : ∀ j, j < n → va_up tv p x j = if l ≤ j ∧ j < p + 1 then x else v j := fun j hj => by
  by_cases e : j = p
  · rw [e, va_up_self, if_pos ⟨hp, by omega⟩]
  · rw [va_up_ne _ _ e, h j hj]
    by_cases a : l ≤ j ∧ j < p
    · rw [if_pos a, if_pos ⟨a.1, by omega⟩]
    · rw [if_neg a, if_neg (by omega)]
theorem flip_s {v tv : Nat → Nat} {n l r p : Nat} (h : ∀ j, j < n → tv j = if l ≤ j ∧ j ≤ r ∧ l + r - j < p then v (l + r - j) else v j) (hp : l ≤ p) (hr : p ≤ r) : ∀ j, j < n → va_up tv (l + r - p) (v p) j = if l ≤ j ∧ j ≤ r ∧ l + r - j < p + 1 then v (l + r - j) else v j := fun j hj => by
  by_cases e : j = l + r - p
  · rw [e, va_up_self, if_pos ⟨by omega, by omega, by omega⟩, show l + r - (l + r - p) = p by omega]
  · rw [va_up_ne _ _ e, h j hj]
    by_cases a : l ≤ j ∧ j ≤ r ∧ l + r - j < p
    · rw [if_pos a, if_pos ⟨a.1, a.2.1, by omega⟩]
    · rw [if_neg a, if_neg (by omega)]
theorem flip_e {v tv : Nat → Nat} {n l r p : Nat} (h : ∀ j, j < n → tv j = if l ≤ j ∧ j ≤ r ∧ l + r - j < p then v (l + r - j) else v j) (hp : r < p) : ∀ j, j < n → tv j = flpF v l r j := fun j hj => by
  rw [h j hj]
  unfold flpF
  by_cases a : l ≤ j ∧ j ≤ r
  · rw [if_pos ⟨a.1, a.2, by omega⟩, if_pos a]
  · rw [if_neg (fun q => a ⟨q.1, q.2.1⟩), if_neg a]
/-- the p - l first places of the span lie k further round -/
def SHI (v tv : Nat → Nat) (l r k p : Nat) : Prop := (∀ i, l ≤ i → i < p → tv (l + zmod (i + k - l) (r + 1 - l)) = v i) ∧ ∀ j, (j < l ∨ r < j) → tv j = v j
theorem SHI_0 {v : Nat → Nat} {l r k : Nat} : SHI v v l r k l := ⟨fun i h1 h2 => by omega, fun _ _ => rfl⟩
theorem zmod_inj {a b m : Nat} (h : zmod a m = zmod b m) (hab : a ≤ b) (hb : b < a + m) : a = b := by
  unfold zmod at h
  have h1 : (b - a) % m = 0 := by
    have : b = a + (b - a) := by omega
    rw [this] at h
    have h2 := Nat.sub_mod_eq_zero_of_mod_eq (m := a + (b - a)) (n := a) (k := m) h.symm
    rwa [Nat.add_sub_cancel_left] at h2
  rw [Nat.mod_eq_of_lt (by omega)] at h1
  omega
theorem SHI_s {v tv : Nat → Nat} {l r k p : Nat} (h : SHI v tv l r k p) (hp : l ≤ p) (hr : p ≤ r) (hk : k ≤ r + 1 - l) (hmd : zmod (p + k - l) (r + 1 - l) < r + 1 - l) : SHI v (va_up tv (l + zmod (p + k - l) (r + 1 - l)) (v p)) l r k (p + 1) := by
  refine ⟨fun i h1 h2 => ?_, fun j hj => ?_⟩
  · by_cases e : i = p
    · rw [e, va_up_self]
    · have hne : zmod (i + k - l) (r + 1 - l) ≠ zmod (p + k - l) (r + 1 - l) := fun q => by
        have := zmod_inj q (by omega) (by omega)
        omega
      rw [va_up_ne _ _ (by omega), h.1 i h1 (by omega)]
  · rw [va_up_ne _ _ (by omega), h.2 j hj]
theorem SHI_e {v tv : Nat → Nat} {l r k p : Nat} (h : SHI v tv l r k p) (hp : p = r + 1) (hlr : l ≤ r) (hk : k ≤ r + 1 - l) : ∀ j, tv j = shfF v l r k j := fun j => by
  unfold shfF
  by_cases a : l ≤ j ∧ j ≤ r
  · rw [if_pos a]
    have hm : zmod (j - l + (r + 1 - l - k)) (r + 1 - l) < r + 1 - l := Nat.mod_lt _ (by omega)
    have := h.1 (l + zmod (j - l + (r + 1 - l - k)) (r + 1 - l)) (by omega) (by omega)
    rw [← this]
    congr 1
    rw [show l + zmod (j - l + (r + 1 - l - k)) (r + 1 - l) + k - l = zmod (j - l + (r + 1 - l - k)) (r + 1 - l) + k by omega]
    unfold zmod
    rw [Nat.mod_add_mod, show j - l + (r + 1 - l - k) + k = j - l + (r + 1 - l) by omega, Nat.add_mod_right, Nat.mod_eq_of_lt (by omega)]
    omega
  · rw [if_neg a]
    exact h.2 j (by omega)
theorem rep_s1 {v tv : Nat → Nat} {n p x y : Nat} (h : ∀ j, j < n → tv j = if v j = x ∧ j < p then y else v j) (hx : v p = x) : ∀ j, j < n → va_up tv p y j = if v j = x ∧ j < p + 1 then y else v j := fun j hj => by
  by_cases e : j = p
  · rw [e, va_up_self, if_pos ⟨hx, by omega⟩]
  · rw [va_up_ne _ _ e, h j hj]
    by_cases a : v j = x ∧ j < p
    · rw [if_pos a, if_pos ⟨a.1, by omega⟩]
    · rw [if_neg a, if_neg (by omega)]
theorem rep_s0 {v tv : Nat → Nat} {n p x y : Nat} (h : ∀ j, j < n → tv j = if v j = x ∧ j < p then y else v j) (hx : ¬ v p = x) : ∀ j, j < n → tv j = if v j = x ∧ j < p + 1 then y else v j := fun j hj => by
  rw [h j hj]
  by_cases a : v j = x ∧ j < p
  · rw [if_pos a, if_pos ⟨a.1, by omega⟩]
  · rw [if_neg a, if_neg (fun q => by
      by_cases e : j = p
      · exact hx (e ▸ q.1)
      · exact a ⟨q.1, by omega⟩)]
def INS (v : Nat → Nat) (tv : Nat → Int) (n q : Nat) : Prop := (∀ j, j ≤ q → j < n → tv j = (v j : Int)) ∧ ∀ j, q < j → j ≤ n → tv j = (v (j - 1) : Int)
theorem INS_0 {v : Nat → Nat} {n : Nat} {g : Nat → Int} : INS v (cI n v g) n n := ⟨fun j _ hj => cI_lt hj, fun j h1 h2 => by omega⟩
theorem INS_s {v : Nat → Nat} {tv : Nat → Int} {n q : Nat} (h : INS v tv n q) (hq : 0 < q) (hn : q ≤ n) : INS v (va_up tv q (tv (q - 1))) n (q - 1) := by
  refine ⟨fun j h1 h2 => ?_, fun j h1 h2 => ?_⟩
  · rw [va_up_ne _ _ (by omega)]; exact h.1 j (by omega) h2
  · by_cases e : j = q
    · rw [e, va_up_self]; exact h.1 (q - 1) (by omega) (by omega)
    · rw [va_up_ne _ _ e]; exact h.2 j (by omega) h2
theorem INS_e {v : Nat → Nat} {tv : Nat → Int} {n q x : Nat} (h : INS v tv n q) (hq : q ≤ n) : ∀ j, j < n + 1 → va_up tv q (x : Int) j = (insF v q x j : Int) := fun j hj => by
  unfold insF
  by_cases e : j = q
  · rw [e, va_up_self, if_neg (by omega), if_pos rfl]
  · rw [va_up_ne _ _ e]
    by_cases a : j < q
    · rw [if_pos a]; exact h.1 j (by omega) (by omega)
    · rw [if_neg a, if_neg e]; exact h.2 j (by omega) (by omega)
def REM (v : Nat → Nat) (tv : Nat → Int) (n p q : Nat) : Prop := (∀ j, j < p → tv j = (v j : Int)) ∧ (∀ j, p ≤ j → j < q → tv j = (v (j + 1) : Int)) ∧ ∀ j, q ≤ j → j < n → tv j = (v j : Int)
theorem REM_0 {v : Nat → Nat} {n p : Nat} {g : Nat → Int} (hp : p < n := by omega) : REM v (cI n v g) n p p := ⟨fun j hj => cI_lt (by omega), fun j h1 h2 => by omega, fun j _ hj => cI_lt hj⟩
theorem REM_s {v : Nat → Nat} {tv : Nat → Int} {n p q : Nat} (h : REM v tv n p q) (hp : p ≤ q) (hq : q + 1 < n) : REM v (va_up tv q (tv (q + 1))) n p (q + 1) := by
  refine ⟨fun j hj => ?_, fun j h1 h2 => ?_, fun j h1 h2 => ?_⟩
  · rw [va_up_ne _ _ (by omega)]; exact h.1 j hj
  · by_cases e : j = q
    · rw [e, va_up_self]; exact h.2.2 (q + 1) (by omega) hq
    · rw [va_up_ne _ _ e]; exact h.2.1 j h1 (by omega)
  · rw [va_up_ne _ _ (by omega)]; exact h.2.2 j (by omega) h2
theorem REM_e {v : Nat → Nat} {tv : Nat → Int} {n p q : Nat} (h : REM v tv n p q) (hq : q + 1 = n) : ∀ j, j < n - 1 → tv j = (remF v p j : Int) := fun j hj => by
  unfold remF
  by_cases a : j < p
  · rw [if_pos a]; exact h.1 j a
  · rw [if_neg a]; exact h.2.1 j (by omega) (by omega)
