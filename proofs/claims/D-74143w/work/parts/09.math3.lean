/-! WHAT EACH CALL ANSWERS -/
theorem zt1 (r : Nat) : ((r : Int) + 1).toNat = r + 1 := by omega
/-- a query leaves the model's own state as it was: its fields thrown (0), taped, many, block, ties, lines, undos, fresh, lastFault, lastPlace; its arrays tape, value, weight, the past ones -/
def MK (F : Nat → Int) (A : Nat → Nat → Int) (F2 : Nat → Int) (A2 : Nat → Nat → Int) : Prop := F2 0 = 0 ∧ F2 2 = F 2 ∧ F2 5 = F 5 ∧ F2 6 = F 6 ∧ F2 7 = F 7 ∧ F2 8 = F 8 ∧ F2 12 = F 12 ∧ F2 13 = F 13 ∧ F2 29 = F 29 ∧ F2 30 = F 30 ∧ A2 1 = A 1 ∧ A2 3 = A 3 ∧ A2 4 = A 4 ∧ A2 9 = A 9 ∧ A2 10 = A 10 ∧ A2 11 = A 11
/-- the sum of f over a ≤ p < b -/
def sm (f : Nat → Nat) (a : Nat) : Nat → Nat
  | 0 => 0
  | b + 1 => sm f a b + if a ≤ b then f b else 0
theorem sm_0 (f : Nat → Nat) {a b : Nat} (h : b ≤ a) : sm f a b = 0 := by
  induction b with
  | zero => rfl
  | succ b ih =>
    show sm f a b + _ = 0
    rw [ih (by omega), if_neg (by omega)]
theorem sm_succ (f : Nat → Nat) {a b : Nat} (h : a ≤ b) : sm f a (b + 1) = sm f a b + f b := by
  show sm f a b + _ = _
  rw [if_pos h]
theorem blk_le {n b : Nat} (hb : 2 ≤ b) (hn : n ≤ 120) : zdiv (n + b - 1) b ≤ 120 := by
  unfold zdiv
  rcases Nat.eq_zero_or_pos n with h | h
  · subst h; rw [Nat.div_eq_of_lt (by omega)]; omega
  · apply Nat.div_le_of_le_mul
    have : 2 * 120 ≤ b * 120 := Nat.mul_le_mul_right _ hb
    have h2 : b * 120 = b + b * 119 := by omega
    omega
theorem blk_lt {n b j : Nat} (hb : 0 < b) : j < zdiv (n + b - 1) b ↔ b * j < n := by
  unfold zdiv
  rw [Nat.lt_iff_add_one_le, Nat.le_div_iff_mul_le hb, Nat.add_mul, Nat.mul_comm j b]
  omega
def Sp_mode (n : Nat) (v : Nat → Nat) (t : Nat) (l r q z : Int) : Prop := if (0 ≤ l ∧ l ≤ r ∧ r < n) ∧ 0 ≤ q ∧ q ≤ 3 then z = toldZ v l.toNat (r + 1).toNat (md v l.toNat (r + 1).toNat t) q else z = -1
def Sp_often (n : Nat) (v : Nat → Nat) (l r x z : Int) : Prop := if (0 ≤ l ∧ l ≤ r ∧ r < n) ∧ 0 ≤ x ∧ x < 1000 then z = (cnt v l.toNat (r + 1).toNat x.toNat : Int) else z = -1
def Sp_ranked (n : Nat) (v : Nat → Nat) (t : Nat) (l r k q z : Int) : Prop := if (0 ≤ l ∧ l ≤ r ∧ r < n) ∧ 0 ≤ k ∧ 0 ≤ q ∧ q ≤ 3 then (if k < (dst v l.toNat (r + 1).toNat : Int) then z = toldZ v l.toNat (r + 1).toNat (ofR v l.toNat (r + 1).toNat t k.toNat) q else z = -2) else z = -1
def Sp_rank (n : Nat) (v : Nat → Nat) (t : Nat) (l r x z : Int) : Prop := if (0 ≤ l ∧ l ≤ r ∧ r < n) ∧ 0 ≤ x ∧ x < 1000 then (if cnt v l.toNat (r + 1).toNat x.toNat = 0 then z = -2 else z = (rk v l.toNat (r + 1).toNat t x.toNat : Int)) else z = -1
def SpAt (v : Nat → Nat) (n x k : Nat) (z : Int) : Prop := (∃ p, p < n ∧ v p = x ∧ cnt v 0 p x = k ∧ z = (p : Int)) ∨ (cnt v 0 n x ≤ k ∧ z = -2)
def Sp_at (n : Nat) (v : Nat → Nat) (x k z : Int) : Prop := if (0 ≤ x ∧ x < 1000) ∧ 0 ≤ k then SpAt v n x.toNat k.toNat z else z = -1
def Sp_unlike (n : Nat) (v : Nat → Nat) (l r z : Int) : Prop := if (0 ≤ l ∧ l ≤ r ∧ r < n) then z = (dst v l.toNat (r + 1).toNat : Int) else z = -1
def Sp_times (n : Nat) (v : Nat → Nat) (l r m z : Int) : Prop := if (0 ≤ l ∧ l ≤ r ∧ r < n) ∧ 1 ≤ m then z = (cB (fun x => 0 < cnt v l.toNat (r + 1).toNat x ∧ (cnt v l.toNat (r + 1).toNat x : Int) = m) 1000 : Int) else z = -1
def Sp_majority (n : Nat) (v : Nat → Nat) (t : Nat) (l r z : Int) : Prop := if (0 ≤ l ∧ l ≤ r ∧ r < n) then (if (r + 1).toNat - l.toNat < 2 * cnt v l.toNat (r + 1).toNat (md v l.toNat (r + 1).toNat t) then z = (md v l.toNat (r + 1).toNat t : Int) else z = -2) else z = -1
def Sp_twisted (n : Nat) (v : Nat → Nat) (l r z : Int) : Prop := if (0 ≤ l ∧ l ≤ r ∧ r < n) then z = (sm (fun p => cB (fun q => p < q ∧ v q < v p) (r + 1).toNat) l.toNat (r + 1).toNat : Int) else z = -1
def Sp_window (n : Nat) (v : Nat → Nat) (t : Nat) (w k z : Int) : Prop := if (1 ≤ w ∧ w ≤ n) ∧ 0 ≤ k then (if (n : Int) - w < k then z = -2 else z = (md v k.toNat (k.toNat + w.toNat) t : Int)) else z = -1
theorem cB_ait {S : Nat → Prop} {N c d : Nat} (h : S N) (e : c = d + cB S N) : c + 1 = d + cB S (N + 1) := by rw [cB_t h, e]; omega
theorem cB_aif {S : Nat → Prop} {N c d : Nat} (h : ¬ S N) (e : c = d + cB S N) : c = d + cB S (N + 1) := by rw [cB_f h, e]
theorem sm_le {f : Nat → Nat} {a M : Nat} : ∀ {b : Nat}, (∀ p, p < b → f p ≤ M) → sm f a b ≤ b * M
  | 0, _ => Nat.zero_le _
  | b + 1, h => by
    have ih := sm_le (f := f) (a := a) (M := M) (b := b) (fun p hp => h p (by omega))
    have h1 := h b (by omega)
    show sm f a b + _ ≤ _
    rw [Nat.add_mul]
    split <;> omega
theorem sm_congr {f g : Nat → Nat} {a : Nat} : ∀ {b : Nat}, (∀ p, a ≤ p → p < b → f p = g p) → sm f a b = sm g a b
  | 0, _ => rfl
  | b + 1, h => by
    show sm f a b + _ = sm g a b + _
    rw [sm_congr (fun p h1 h2 => h p h1 (by omega))]
    by_cases hab : a ≤ b
    · rw [if_pos hab, if_pos hab, h b hab (by omega)]
    · rw [if_neg hab, if_neg hab]
theorem sm_rm {f g : Nat → Nat} {x N : Nat} (hx : x < N) (hg : g x = 0) (h : ∀ j, j ≠ x → f j = g j) : sm f 0 N = sm g 0 N + f x := by
  induction N with
  | zero => omega
  | succ N ih =>
    rw [sm_succ f (Nat.zero_le _), sm_succ g (Nat.zero_le _)]
    by_cases e : N = x
    · subst e
      rw [hg, sm_congr (g := g) (fun p _ hp => h p (by omega))]; omega
    · rw [ih (by omega), h N e]; omega
/-- a sum over all of u's places is the sum over all numbers, where f is 0 off u -/
theorem sm_enum {M : Nat} (u : Nat → Nat) : ∀ (k : Nat) (f : Nat → Nat), (∀ j, j < k → u j < M) → (∀ i j, i < k → j < k → u i = u j → i = j) → (∀ x, x < M → f x ≠ 0 → ∃ j, j < k ∧ u j = x) → sm (fun j => f (u j)) 0 k = sm f 0 M
  | 0, f, _, _, h3 => by
    have : sm f 0 M = sm (fun _ => 0) 0 M := sm_congr (fun p _ hp => by
      by_cases e : f p = 0
      · exact e
      · obtain ⟨j, hj, -⟩ := h3 p hp e; omega)
    rw [this]
    have h0 : ∀ M, sm (fun _ => 0) 0 M = 0 := fun M => by
      induction M with
      | zero => rfl
      | succ M ih => rw [sm_succ _ (Nat.zero_le _), ih]
    rw [h0]; rfl
  | k + 1, f, h1, h2, h3 => by
    have ih := sm_enum (M := M) u k (va_up f (u k) 0) (fun j hj => h1 j (by omega)) (fun i j hi hj e => h2 i j (by omega) (by omega) e)
      (fun x hx hf => by
        have hxk : x ≠ u k := fun e => hf (by rw [e]; exact va_up_self _ _ _)
        rw [va_up_ne _ _ hxk] at hf
        obtain ⟨j, hj, e⟩ := h3 x hx hf
        refine ⟨j, ?_, e⟩
        have : j ≠ k := fun q => hxk (by rw [← e, q])
        omega)
    rw [sm_succ _ (Nat.zero_le _), sm_rm (f := f) (g := va_up f (u k) 0) (h1 k (by omega)) (va_up_self _ _ _) (fun j hj => (va_up_ne _ _ hj).symm), ← ih]
    congr 1
    refine sm_congr (fun p _ hp => ?_)
    have : u p ≠ u k := fun e => by have := h2 p k (by omega) (by omega) e; omega
    rw [va_up_ne _ _ this]
/-! runs of one value -/
def RUN (v : Nat → Nat) (R p m : Nat) : Prop := p + m ≤ R ∧ ∀ j, j < m → v (p + j) = v p
def BRn (v : Nat → Nat) (L p R b m : Nat) : Prop := (∀ p1, L ≤ p1 → p1 < p → ∀ m1, RUN v R p1 m1 → m1 ≤ m ∧ (p1 < b → m1 < m)) ∧ ((m = 0 ∧ p = L ∧ b = L) ∨ (L ≤ b ∧ b < p ∧ 1 ≤ m ∧ RUN v R b m))
theorem BRn_0 {v : Nat → Nat} {L R : Nat} : BRn v L L R L 0 := ⟨fun p1 h1 h2 => by omega, Or.inl ⟨rfl, rfl, rfl⟩⟩
theorem run_max {v : Nat → Nat} {R p e m : Nat} (hx : p ≤ e) (h : e + 1 = R ∨ v (e + 1) ≠ v p) (hr : RUN v R p m) : m ≤ e + 1 - p := by
  rcases h with h | h
  · have := hr.1; omega
  · rcases Nat.lt_or_ge (e + 1 - p) m with q | q
    · have := hr.2 (e + 1 - p) q
      rw [show p + (e + 1 - p) = e + 1 by omega] at this
      exact absurd this h
    · exact q
theorem run_one {v : Nat → Nat} {R p : Nat} (h : p < R) : RUN v R p 1 := ⟨by omega, fun j hj => by rw [show j = 0 by omega]; rfl⟩
theorem run_more {v : Nat → Nat} {R p e : Nat} (hpe : p ≤ e) (h : RUN v R p (e + 1 - p)) (he : e + 1 < R) (hv : v (e + 1) = v p) : RUN v R p (e + 1 + 1 - p) := by
  refine ⟨by omega, fun j hj => ?_⟩
  by_cases q : j = e + 1 - p
  · rw [q, show p + (e + 1 - p) = e + 1 by omega]; exact hv
  · exact h.2 j (by omega)
theorem BRn_keep {v : Nat → Nat} {L p R b m e : Nat} (h : BRn v L p R b m) (hLp : L ≤ p) (hpR : p < R) (hpe : p ≤ e) (he : e + 1 = R ∨ v (e + 1) ≠ v p) (hm : e + 1 - p ≤ m) : BRn v L (p + 1) R b m := by
  obtain ⟨h1, h2⟩ := h
  have hb : L ≤ b ∧ b < p ∧ 1 ≤ m ∧ RUN v R b m := h2.resolve_left (fun q => by omega)
  refine ⟨fun p1 g1 g2 m1 hr => ?_, Or.inr ⟨hb.1, by omega, hb.2.2⟩⟩
  by_cases q : p1 = p
  · subst q
    have := run_max hpe he hr
    exact ⟨by omega, fun _ => by omega⟩
  · exact h1 p1 g1 (by omega) m1 hr
theorem BRn_new {v : Nat → Nat} {L p R b m e : Nat} (h : BRn v L p R b m) (hLp : L ≤ p) (hpe : p ≤ e) (he : e + 1 = R ∨ v (e + 1) ≠ v p) (hr : RUN v R p (e + 1 - p)) (hm : m < e + 1 - p) : BRn v L (p + 1) R p (e + 1 - p) := by
  obtain ⟨h1, h2⟩ := h
  refine ⟨fun p1 g1 g2 m1 hr1 => ?_, Or.inr ⟨hLp, by omega, by omega, hr⟩⟩
  by_cases q : p1 = p
  · subst q
    have := run_max hpe he hr1
    exact ⟨by omega, fun _ => by omega⟩
  · have := h1 p1 g1 (by omega) m1 hr1
    exact ⟨by omega, fun _ => by omega⟩
def Sp_run (n : Nat) (v : Nat → Nat) (l r q z : Int) : Prop := if (0 ≤ l ∧ l ≤ r ∧ r < n) ∧ 0 ≤ q ∧ q ≤ 2 then (∃ b m, BRn v l.toNat (r + 1).toNat (r + 1).toNat b m ∧ z = if q = 0 then (b : Int) else if q = 1 then (b : Int) + m - 1 else (v b : Int)) else z = -1
def Sp_common (n : Nat) (v : Nat → Nat) (l r m z : Int) : Prop := if (0 ≤ l ∧ l ≤ r ∧ r < n) ∧ 0 ≤ m ∧ m < (n : Int) - (r - l) then z = (sm (fun x => min (cnt v l.toNat (r + 1).toNat x) (cnt v m.toNat (m.toNat + (r + 1).toNat - l.toNat) x)) 0 1000 : Int) else z = -1
/-! weights -/
def wsum (v wt : Nat → Nat) (a x : Nat) : Nat → Nat
  | 0 => 0
  | b + 1 => wsum v wt a x b + if a ≤ b ∧ v b = x then wt b else 0
theorem wsum_0 (v wt : Nat → Nat) {a x b : Nat} (h : b ≤ a) : wsum v wt a x b = 0 := by
  induction b with
  | zero => rfl
  | succ b ih =>
    show wsum v wt a x b + _ = 0
    rw [ih (by omega), if_neg (by omega)]
theorem wsum_t {v wt : Nat → Nat} {a x b : Nat} (h : a ≤ b) (hv : v b = x) : wsum v wt a x (b + 1) = wsum v wt a x b + wt b := by
  show wsum v wt a x b + _ = _
  rw [if_pos ⟨h, hv⟩]
theorem wsum_f {v wt : Nat → Nat} {a x b : Nat} (hv : ¬ v b = x) : wsum v wt a x (b + 1) = wsum v wt a x b := by
  show wsum v wt a x b + _ = _
  rw [if_neg (fun q => hv q.2)]; rfl
/-- which value is the heavier, the better ranked of two as heavy -/
def hvy (v wt : Nat → Nat) (l r t x y : Nat) : Prop := wsum v wt l y r < wsum v wt l x r ∨ (wsum v wt l x r = wsum v wt l y r ∧ ahd v l r t x y)
theorem hvy_trans {v wt : Nat → Nat} {l r t x y z : Nat} (h1 : hvy v wt l r t x y) (h2 : hvy v wt l r t y z) : hvy v wt l r t x z := by
  rcases h1 with a | ⟨a, a'⟩ <;> rcases h2 with b | ⟨b, b'⟩
  · exact Or.inl (by omega)
  · exact Or.inl (by omega)
  · exact Or.inl (by omega)
  · exact Or.inr ⟨by omega, ahd_trans a' b'⟩
theorem hvy_tot {v wt : Nat → Nat} {l r t x y : Nat} (hx : 0 < cnt v l r x) (hy : 0 < cnt v l r y) (h : x ≠ y) : hvy v wt l r t x y ∨ hvy v wt l r t y x := by
  rcases Nat.lt_trichotomy (wsum v wt l x r) (wsum v wt l y r) with q | q | q
  · exact Or.inr (Or.inl q)
  · rcases ahd_tot (t := t) hx hy h with z | z
    · exact Or.inl (Or.inr ⟨q, z⟩)
    · exact Or.inr (Or.inr ⟨q.symm, z⟩)
  · exact Or.inl (Or.inl q)
def HBest (v wt : Nat → Nat) (l r t : Nat) (u : Nat → Nat) (i : Nat) (b m : Int) : Prop := (i = 0 ∧ b = -1 ∧ m = 0) ∨ ∃ j, j < i ∧ b = (u j : Int) ∧ m = (wsum v wt l (u j) r : Int) ∧ ∀ j1, j1 < i → u j1 ≠ u j → hvy v wt l r t (u j) (u j1)
theorem HB_1 {v wt : Nat → Nat} {l r t i : Nat} {u : Nat → Nat} {b m : Int} (h : HBest v wt l r t u i b m) (hb : b = -1) : HBest v wt l r t u (i + 1) (u i : Int) (wsum v wt l (u i) r : Int) := by
  rcases h with ⟨h0, -, -⟩ | ⟨j, -, h2, -, -⟩
  · subst h0
    exact Or.inr ⟨0, by omega, rfl, rfl, fun j1 hj1 hne => absurd (by rw [show j1 = 0 by omega]) hne⟩
  · omega
theorem HB_2 {v wt : Nat → Nat} {l r t i jb : Nat} {u : Nat → Nat} (h : ∀ j1, j1 < i → u j1 ≠ u jb → hvy v wt l r t (u jb) (u j1)) (ha : hvy v wt l r t (u i) (u jb)) : HBest v wt l r t u (i + 1) (u i : Int) (wsum v wt l (u i) r : Int) := by
  refine Or.inr ⟨i, by omega, rfl, rfl, fun j1 hj1 hne => ?_⟩
  have hi : j1 ≠ i := fun e => hne (by rw [e])
  by_cases e : u j1 = u jb
  · rw [e]; exact ha
  · exact hvy_trans ha (h j1 (by omega) e)
theorem HB_3 {v wt : Nat → Nat} {l r k t i jb : Nat} {u : Nat → Nat} {b m : Int} (hE : EN v l r k u) (hi : i < k) (hjb : jb < i) (hb : b = (u jb : Int)) (hm : m = (wsum v wt l (u jb) r : Int)) (h : ∀ j1, j1 < i → u j1 ≠ u jb → hvy v wt l r t (u jb) (u j1)) (ha : ¬ hvy v wt l r t (u i) (u jb)) : HBest v wt l r t u (i + 1) b m := by
  refine Or.inr ⟨jb, by omega, hb, hm, fun j1 hj1 hne => ?_⟩
  by_cases e : j1 = i
  · subst e
    have h1 := hE.2.1 j1 hi
    have h2 := hE.2.1 jb (by omega)
    exact (hvy_tot h2.2 h1.2 (fun q => hne q.symm)).elim (fun q => q) (fun q => absurd q ha)
  · exact h j1 (by omega) hne
def IsHvy (v wt : Nat → Nat) (l r t m : Nat) : Prop := m < 1000 ∧ 0 < cnt v l r m ∧ ∀ y, y < 1000 → 0 < cnt v l r y → y ≠ m → hvy v wt l r t m y
theorem HB_end {v wt : Nat → Nat} {l r k t : Nat} {u : Nat → Nat} {b m : Int} (hE : EN v l r k u) (hk : 0 < k) (h : HBest v wt l r t u k b m) : ∃ x, IsHvy v wt l r t x ∧ b = (x : Int) ∧ m = (wsum v wt l x r : Int) := by
  rcases h with ⟨h0, -, -⟩ | ⟨j, h1, h2, h3, h4⟩
  · omega
  · have := hE.2.1 j h1
    refine ⟨u j, ⟨this.1, this.2, fun y hy py hne => ?_⟩, h2, h3⟩
    obtain ⟨i, hi, rfl⟩ := hE.2.2.2 y hy py
    exact h4 i hi hne
def Sp_heaviest (n : Nat) (v wt : Nat → Nat) (t : Nat) (l r q z : Int) : Prop := if (0 ≤ l ∧ l ≤ r ∧ r < n) ∧ 0 ≤ q ∧ q ≤ 1 then (∃ x, IsHvy v wt l.toNat (r + 1).toNat t x ∧ z = if q = 0 then (x : Int) else (wsum v wt l.toNat x (r + 1).toNat : Int)) else z = -1
/-! blocks -/
def plc (b j n : Nat) : Nat := if b < n - b * j then b else n - b * j
def bEnd (b j n : Nat) : Nat := if n < b * (j + 1) then n else b * (j + 1)
theorem plc_end {b j n : Nat} (h : b * j ≤ n) : b * j + plc b j n = bEnd b j n := by
  unfold plc bEnd
  rw [Nat.mul_add, Nat.mul_one]
  split <;> split <;> omega
def Sp_pair (n : Nat) (v : Nat → Nat) (t b : Nat) (i j q z : Int) : Prop := if (0 ≤ i ∧ i ≤ j ∧ j < (zdiv (n + b - 1) b : Nat)) ∧ 0 ≤ q ∧ q ≤ 1 then z = toldZ v (b * i.toNat) (bEnd b j.toNat n) (md v (b * i.toNat) (bEnd b j.toNat n) t) q else z = -1
/-! the value in the middle -/
def csum (v : Nat → Nat) (L R : Nat) : Nat → Nat
  | 0 => 0
  | x + 1 => csum v L R x + cnt v L R x
def Sp_median (n : Nat) (v : Nat → Nat) (l r z : Int) : Prop := if (0 ≤ l ∧ l ≤ r ∧ r < n) then (∃ x : Nat, csum v l.toNat (r + 1).toNat x ≤ (r.toNat - l.toNat) / 2 ∧ (r.toNat - l.toNat) / 2 < csum v l.toNat (r + 1).toNat (x + 1) ∧ z = (x : Int)) else z = -1
theorem csum_all {v : Nat → Nat} {L n : Nat} (hv : ∀ i, i < n → v i < 1000) : ∀ {R : Nat}, L ≤ R → R ≤ n → csum v L R 1000 = R - L := by
  have h0 : ∀ (R N : Nat), R ≤ L → csum v L R N = 0 := fun R N hR => by
    induction N with
    | zero => rfl
    | succ N ih => show csum v L R N + _ = 0; rw [ih, cnt_0 v hR]
  have h1 : ∀ (R N x : Nat), L ≤ R → v R = x → csum v L (R + 1) N = csum v L R N + if x < N then 1 else 0 := fun R N x hR hx => by
    induction N with
    | zero => rfl
    | succ N ih =>
      show csum v L (R + 1) N + cnt v L (R + 1) N = csum v L R N + cnt v L R N + _
      rw [ih, cnt_succ v N hR, hx]
      by_cases e : x = N
      · subst e; rw [if_neg (by omega), if_pos rfl, if_pos (by omega)]; omega
      · rw [if_neg e]
        by_cases q : x < N
        · rw [if_pos q, if_pos (by omega)]; omega
        · rw [if_neg q, if_neg (by omega)]; omega
  intro R hL hR
  induction R with
  | zero => rw [h0 _ _ (by omega)]; omega
  | succ R ih =>
    by_cases e : L = R + 1
    · rw [h0 _ _ (by omega)]; omega
    · rw [h1 R 1000 (v R) (by omega) rfl, ih (by omega) (by omega), if_pos (hv R (by omega))]; omega
theorem csum_mono {v : Nat → Nat} {L R x y : Nat} (h : x ≤ y) : csum v L R x ≤ csum v L R y := by
  induction y with
  | zero => rw [show x = 0 by omega]; exact Nat.le_refl _
  | succ y ih =>
    by_cases e : x = y + 1
    · rw [e]; exact Nat.le_refl _
    · have := ih (by omega)
      show _ ≤ csum v L R y + _
      omega
theorem HB_get {v wt : Nat → Nat} {l r t i : Nat} {u : Nat → Nat} {b m : Int} (h : HBest v wt l r t u i b m) (hb : ¬ b = -1) : ∃ j, j < i ∧ b = (u j : Int) ∧ m = (wsum v wt l (u j) r : Int) ∧ ∀ j1, j1 < i → u j1 ≠ u j → hvy v wt l r t (u j) (u j1) := h.elim (fun q => absurd q.2.1 hb) (fun q => q)
theorem bEnd_b {b j n : Nat} (hb : 0 < b) (h : b * j < n) : b * j < bEnd b j n ∧ bEnd b j n ≤ n ∧ bEnd b j n ≤ b * j + b := by
  unfold bEnd
  rw [Nat.mul_add, Nat.mul_one]
  split <;> omega
def Sp_windows (n : Nat) (v : Nat → Nat) (t : Nat) (w q z : Int) : Prop := if (1 ≤ w ∧ w ≤ n) ∧ 0 ≤ q ∧ q ≤ 2 then z = (if q = 0 then (cB (fun i => 0 < i ∧ md v i (i + w.toNat) t ≠ md v (i - 1) (i - 1 + w.toNat) t) (n + 1 - w.toNat) : Int) else if q = 1 then (dst (fun i => md v i (i + w.toNat) t) 0 (n + 1 - w.toNat) : Int) else (md (fun i => md v i (i + w.toNat) t) 0 (n + 1 - w.toNat) 2 : Int)) else z = -1
/-- the least of the values that stand the most often -/
def LBest (c : Nat → Nat) (x : Nat) (b : Int) : Prop := (b = -1 ∧ ∀ y, y < x → c y = 0) ∨ ∃ m : Nat, m < x ∧ b = (m : Int) ∧ 0 < c m ∧ ∀ y, y < x → c y ≤ c m ∧ (y < m → c y < c m)
theorem LB_get {c : Nat → Nat} {x : Nat} {b : Int} (h : LBest c x b) (hb : ¬ b = -1) : ∃ m : Nat, m < x ∧ b = (m : Int) ∧ 0 < c m ∧ ∀ y, y < x → c y ≤ c m ∧ (y < m → c y < c m) := h.elim (fun q => absurd q.1 hb) (fun q => q)
theorem LB_0 {c : Nat → Nat} : LBest c 0 (-1) := Or.inl ⟨rfl, fun y hy => by omega⟩
theorem LB_new1 {c : Nat → Nat} {x : Nat} {b : Int} (h : LBest c x b) (hb : b = -1) (hx : 0 < c x) : LBest c (x + 1) (x : Int) := by
  rcases h with ⟨-, h⟩ | ⟨m, h1, h2, -⟩
  · refine Or.inr ⟨x, by omega, rfl, hx, fun y hy => ?_⟩
    by_cases e : y = x
    · subst e; exact ⟨Nat.le_refl _, fun q => by omega⟩
    · have := h y (by omega); exact ⟨by omega, fun _ => by omega⟩
  · omega
theorem LB_new2 {c : Nat → Nat} {x m : Nat} (h : ∀ y, y < x → c y ≤ c m ∧ (y < m → c y < c m)) (hx : c m < c x) : LBest c (x + 1) (x : Int) := by
  refine Or.inr ⟨x, by omega, rfl, by omega, fun y hy => ?_⟩
  by_cases e : y = x
  · subst e; exact ⟨Nat.le_refl _, fun q => by omega⟩
  · have := (h y (by omega)).1; exact ⟨by omega, fun _ => by omega⟩
theorem LB_keep1 {c : Nat → Nat} {x : Nat} {b : Int} (h : LBest c x b) (hb : b = -1) (hx : c x = 0) : LBest c (x + 1) b := by
  rcases h with ⟨-, h⟩ | ⟨m, h1, h2, -⟩
  · refine Or.inl ⟨hb, fun y hy => ?_⟩
    by_cases e : y = x
    · subst e; exact hx
    · exact h y (by omega)
  · omega
theorem LB_keep2 {c : Nat → Nat} {x m : Nat} {b : Int} (hm : m < x) (hb : b = (m : Int)) (h0 : 0 < c m) (h : ∀ y, y < x → c y ≤ c m ∧ (y < m → c y < c m)) (hx : c x ≤ c m) : LBest c (x + 1) b := by
  refine Or.inr ⟨m, by omega, hb, h0, fun y hy => ?_⟩
  by_cases e : y = x
  · subst e; exact ⟨hx, fun q => by omega⟩
  · exact h y (by omega)
theorem LB_end {f c : Nat → Nat} {N : Nat} {b : Int} (hc : ∀ x, x < 1000 → c x = cnt f 0 N x) (hN : 0 < N) (hf : f 0 < 1000) (h : LBest c 1000 b) : b = (md f 0 N 2 : Int) := by
  have h0 := cnt_in (v := f) (Nat.le_refl 0) hN
  rw [← hc _ hf] at h0
  rcases h with ⟨-, h⟩ | ⟨m, h1, h2, h3, h4⟩
  · have := h _ hf; omega
  · rw [h2]
    congr 1
    refine md_uniq h1 (by rw [← hc m h1]; exact h3) (fun y hy py hne => ?_)
    have := h4 y hy
    unfold ahd tieA
    rw [← hc m h1, ← hc y hy]
    by_cases e : y < m
    · exact Or.inl (this.2 e)
    · rcases Nat.lt_or_ge (c y) (c m) with q | q
      · exact Or.inl q
      · exact Or.inr ⟨by omega, by simp; omega⟩
