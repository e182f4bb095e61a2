/-! the text: tokens and the reader, as relations with one answer each -/
set_option maxRecDepth 100000
def tW (c : Int) : Prop := c = 10 ∨ c = 32
def tS (c : Int) : Prop := 97 ≤ c ∧ c ≤ 122
def tD (c : Int) : Prop := 48 ≤ c ∧ c ≤ 57
def SKi (P : Int → Prop) (t : Nat → Nat) (n a b : Nat) : Prop := a ≤ b ∧ ∀ j, a ≤ j → j < b → P (hereZ t n j)
/-- b is the first place from a on at which P does not hold -/
def SKP (P : Int → Prop) (t : Nat → Nat) (n a b : Nat) : Prop := SKi P t n a b ∧ ¬ P (hereZ t n b)
theorem SKi_0 {P : Int → Prop} {t : Nat → Nat} {n a : Nat} : SKi P t n a a := ⟨Nat.le_refl _, fun j h1 h2 => by omega⟩
theorem SKi_s {P : Int → Prop} {t : Nat → Nat} {n a b : Nat} (h : SKi P t n a b) (hb : P (hereZ t n b)) : SKi P t n a (b + 1) := ⟨by have := h.1; omega, fun j h1 h2 => by
  by_cases e : j = b
  · rw [e]; exact hb
  · exact h.2 j h1 (by omega)⟩
theorem SKP_u {P : Int → Prop} {t : Nat → Nat} {n a b c : Nat} (h : SKP P t n a b) (k : SKP P t n a c) : b = c := by
  rcases Nat.lt_trichotomy b c with q | q | q
  · exact absurd (k.1.2 b h.1.1 q) h.2
  · exact q
  · exact absurd (h.1.2 c k.1.1 q) k.2
theorem hz_lt {t : Nat → Nat} {n k : Nat} (h : 0 ≤ hereZ t n k) : k < n := by
  unfold hereZ at h
  split at h
  · assumption
  · omega
theorem hz_at {t : Nat → Nat} {n k : Nat} (h : 0 ≤ hereZ t n k) : hereZ t n k = (t k : Int) := if_pos (hz_lt h)
theorem hz_ge {t : Nat → Nat} {n k : Nat} (h : n ≤ k) : hereZ t n k = -1 := if_neg (by omega)
theorem hz_end {t : Nat → Nat} {n k : Nat} (h : hereZ t n k = -1) : n ≤ k := by
  rcases Nat.lt_or_ge k n with q | q
  · unfold hereZ at h
    rw [if_pos q] at h
    omega
  · exact q
theorem SKP_n {P : Int → Prop} {t : Nat → Nat} {n a b : Nat} (h : SKP P t n a b) (hP : ¬ P (-1)) (ha : a ≤ n) : b ≤ n := by
  rcases Nat.lt_or_ge n b with q | q
  · have h1 := h.1.2 n ha q
    rw [hz_ge (Nat.le_refl _)] at h1
    exact absurd h1 hP
  · exact q
theorem nW : ¬ tW (-1) := by unfold tW; omega
theorem nS : ¬ tS (-1) := by unfold tS; omega
theorem nD : ¬ tD (-1) := by unfold tD; omega
-- numbers
def numV (t : Nat → Nat) (p : Nat) : Nat → Nat
  | 0 => 0
  | c + 1 => 10 * numV t p c + (t (p + c) - 48)
/-- the twin's number for the true one -/
def NUMT (N V : Nat) : Prop := N ≤ 99999 ∧ (V ≤ 9999 → N = V) ∧ (9999 < V → 9999 < N)
/-- the desk's -/
def NUMD (N V : Nat) : Prop := N ≤ 100000 ∧ N ≤ V ∧ (V ≤ 100000 → N = V) ∧ (100000 ≤ V → N = 100000)
theorem NUMT_0 : NUMT 0 0 := ⟨by omega, fun _ => rfl, fun h => by omega⟩
theorem NUMD_0 : NUMD 0 0 := ⟨by omega, by omega, fun _ => rfl, fun h => by omega⟩
theorem numV_s {t : Nat → Nat} {p c : Nat} : numV t p (c + 1) = 10 * numV t p c + (t (p + c) - 48) := rfl
theorem NUMT_k {t : Nat → Nat} {N p c : Nat} (h : NUMT N (numV t p c)) (hN : 9999 < N) : NUMT N (numV t p (c + 1)) := by
  obtain ⟨h1, h2, h3⟩ := h
  have hv : 9999 < numV t p c := by
    rcases Nat.lt_or_ge 9999 (numV t p c) with q | q
    · exact q
    · have := h2 q; omega
  refine ⟨h1, fun q => ?_, fun _ => hN⟩
  rw [numV_s] at q
  omega
theorem NUMT_s {t : Nat → Nat} {N p c d : Nat} (h : NUMT N (numV t p c)) (hN : N ≤ 9999) (hd : d = t (p + c)) (h1 : 48 ≤ d) (h2 : d ≤ 57) : NUMT (10 * N + d - 48) (numV t p (c + 1)) := by
  obtain ⟨a1, a2, a3⟩ := h
  have hv : numV t p c ≤ 9999 := by
    rcases Nat.lt_or_ge 9999 (numV t p c) with q | q
    · have := a3 q; omega
    · exact q
  have e := a2 hv
  rw [numV_s, ← hd]
  exact ⟨by omega, fun q => by omega, fun q => by omega⟩
theorem NUMD_s {t : Nat → Nat} {N M p c d : Nat} (h : NUMD N (numV t p c)) (hd : d = t (p + c)) (h1 : 48 ≤ d) (h2 : d ≤ 57) (hM : (M : Int) = zmin (10 * (N : Int) + (d : Int) - 48) 100000) : NUMD M (numV t p (c + 1)) := by
  obtain ⟨a1, a2, a3, a4⟩ := h
  have hm := zmin_spec (10 * (N : Int) + (d : Int) - 48) 100000
  have e : numV t p (c + 1) = 10 * numV t p c + (d - 48) := by rw [numV_s, hd]
  rcases Nat.lt_or_ge (numV t p c) 100000 with q | q
  · have e1 := a3 (by omega)
    rw [e, ← e1]
    exact ⟨by omega, by omega, fun _ => by omega, fun _ => by omega⟩
  · have e1 := a4 q
    rw [e]
    exact ⟨by omega, by omega, fun _ => by omega, fun _ => by omega⟩
-- words
def wdT : List Nat := [102, 105, 114, 115, 116, 32, 108, 97, 115, 116, 32, 108, 101, 97, 115, 116, 32, 109, 111, 115, 116, 32, 114, 111, 119, 32, 119, 101, 105, 103, 104, 116, 32, 98, 108, 111, 99, 107, 32, 116, 105, 101, 115, 32]
def wO (k : Nat) : Nat := [0, 6, 11, 17, 22, 26, 33, 39, 44].getD k 44
def wL (k : Nat) : Nat := [5, 4, 5, 4, 3, 6, 5, 4].getD k 0
def wC (j : Nat) : Nat := wdT.getD j 0
theorem w_f0 : ∀ k, k < 9 → wO k ≤ 44 := by decide
theorem w_f1 : ∀ k, k < 8 → wO k + wL k + 1 = wO (k + 1) ∧ wO k + wL k < 44 ∧ wL k ≤ 6 ∧ 3 ≤ wL k := by decide
theorem w_f2 : ∀ k, k < 8 → ∀ i, i < 7 → i ≤ wL k → (wC (wO k + i) = 32 ↔ i = wL k) := by decide
theorem w_f3 : ∀ j, j < 44 → wC j < 128 := by decide
theorem w_f4 : ∀ k, k < 8 → ∀ l, l < 8 → wL k = wL l → wC (wO k) = wC (wO l) → k = l := by decide
/-- the k-th word stands from p to e -/
def wIs (t : Nat → Nat) (p e k : Nat) : Prop := p + wL k = e ∧ ∀ i, i < wL k → t (p + i) = wC (wO k + i)
def wIx (t : Nat → Nat) (p e x : Nat) : Prop := (x < 8 ∧ wIs t p e x) ∨ (x = 8 ∧ ∀ k, k < 8 → ¬ wIs t p e k)
theorem wIs_u {t : Nat → Nat} {p e k l : Nat} (hk : k < 8) (hl : l < 8) (a : wIs t p e k) (b : wIs t p e l) : k = l := by
  have f1 := (w_f1 k hk).2.2.2
  have f2 := (w_f1 l hl).2.2.2
  have h1 : wL k = wL l := by have := a.1; have := b.1; omega
  have h2 := a.2 0 (by omega)
  have h3 := b.2 0 (by omega)
  rw [Nat.add_zero, Nat.add_zero] at h2 h3
  exact w_f4 k hk l hl h1 (h2.symm.trans h3)
theorem wIx_u {t : Nat → Nat} {p e x y : Nat} (a : wIx t p e x) (b : wIx t p e y) : x = y := by
  rcases a with ⟨a1, a2⟩ | ⟨a1, a2⟩
  · rcases b with ⟨b1, b2⟩ | ⟨b1, b2⟩
    · exact wIs_u a1 b1 a2 b2
    · exact absurd a2 (b2 x a1)
  · rcases b with ⟨b1, b2⟩ | ⟨b1, b2⟩
    · exact absurd b2 (a2 y b1)
    · omega
theorem wIx_le {t : Nat → Nat} {p e x : Nat} (a : wIx t p e x) : x ≤ 8 := by
  rcases a with ⟨a1, -⟩ | ⟨a1, -⟩ <;> omega
-- tokens: 0 the end, 1 a word (which), 2 a number, 3 the stop, 4 what is none
def TOK (t : Nat → Nat) (n a so pl vl nx : Nat) : Prop := SKP tW t n a pl ∧
  ((n ≤ pl ∧ so = 0 ∧ vl = 0 ∧ nx = pl) ∨ (tS (hereZ t n pl) ∧ so = 1 ∧ SKP tS t n pl nx ∧ wIx t pl nx vl) ∨ (tD (hereZ t n pl) ∧ so = 2 ∧ SKP tD t n pl nx ∧ vl = numV t pl (nx - pl)) ∨
   (pl < n ∧ ¬ tS (hereZ t n pl) ∧ ¬ tD (hereZ t n pl) ∧ so = (if hereZ t n pl = 59 then 3 else 4) ∧ vl = 0 ∧ nx = pl + 1))
theorem sd_no {c : Int} (h : tS c) (k : tD c) : False := by unfold tS at h; unfold tD at k; omega
theorem tS_lt {t : Nat → Nat} {n p : Nat} (h : tS (hereZ t n p)) : p < n := hz_lt (t := t) (by unfold tS at h; omega)
theorem tD_lt {t : Nat → Nat} {n p : Nat} (h : tD (hereZ t n p)) : p < n := hz_lt (t := t) (by unfold tD at h; omega)
theorem TOK_u {t : Nat → Nat} {n a so pl vl nx so' pl' vl' nx' : Nat} (h : TOK t n a so pl vl nx) (k : TOK t n a so' pl' vl' nx') : so = so' ∧ pl = pl' ∧ vl = vl' ∧ nx = nx' := by
  obtain ⟨h0, h⟩ := h
  obtain ⟨k0, k⟩ := k
  obtain rfl := SKP_u h0 k0
  rcases h with ⟨h1, h2, h3, h4⟩ | ⟨h1, h2, h3, h4⟩ | ⟨h1, h2, h3, h4⟩ | ⟨h1, h2, h3, h4, h5, h6⟩
  · rcases k with ⟨k1, k2, k3, k4⟩ | ⟨k1, k2, k3, k4⟩ | ⟨k1, k2, k3, k4⟩ | ⟨k1, k2, k3, k4, k5, k6⟩
    · exact ⟨by omega, rfl, by omega, by omega⟩
    · exact absurd (tS_lt k1) (by omega)
    · exact absurd (tD_lt k1) (by omega)
    · omega
  · rcases k with ⟨k1, k2, k3, k4⟩ | ⟨k1, k2, k3, k4⟩ | ⟨k1, k2, k3, k4⟩ | ⟨k1, k2, k3, k4, k5, k6⟩
    · exact absurd (tS_lt h1) (by omega)
    · obtain rfl := SKP_u h3 k3
      exact ⟨by omega, rfl, wIx_u h4 k4, rfl⟩
    · exact (sd_no h1 k1).elim
    · exact absurd h1 k2
  · rcases k with ⟨k1, k2, k3, k4⟩ | ⟨k1, k2, k3, k4⟩ | ⟨k1, k2, k3, k4⟩ | ⟨k1, k2, k3, k4, k5, k6⟩
    · exact absurd (tD_lt h1) (by omega)
    · exact (sd_no k1 h1).elim
    · obtain rfl := SKP_u h3 k3
      exact ⟨by omega, rfl, h4.trans k4.symm, rfl⟩
    · exact absurd h1 k3
  · rcases k with ⟨k1, k2, k3, k4⟩ | ⟨k1, k2, k3, k4⟩ | ⟨k1, k2, k3, k4⟩ | ⟨k1, k2, k3, k4, k5, k6⟩
    · omega
    · exact absurd k1 h2
    · exact absurd k1 h3
    · exact ⟨h4.trans k4.symm, rfl, by omega, by omega⟩
theorem SKi_lt {P : Int → Prop} {t : Nat → Nat} {n a b : Nat} (h : SKP P t n a b) (ha : P (hereZ t n a)) : a < b := by
  rcases Nat.lt_or_ge a b with q | q
  · exact q
  · have e : a = b := Nat.le_antisymm h.1.1 q
    rw [e] at ha
    exact absurd ha h.2
theorem TOK_b {t : Nat → Nat} {n a so pl vl nx : Nat} (h : TOK t n a so pl vl nx) (ha : a ≤ n) : a ≤ pl ∧ pl ≤ nx ∧ nx ≤ n ∧ so ≤ 4 ∧ (so ≠ 0 → pl < nx) ∧ (so = 1 → vl ≤ 8) := by
  obtain ⟨h0, h⟩ := h
  have hp := SKP_n h0 nW ha
  have h01 := h0.1.1
  rcases h with ⟨h1, h2, h3, h4⟩ | ⟨h1, h2, h3, h4⟩ | ⟨h1, h2, h3, h4⟩ | ⟨h1, h2, h3, h4, h5, h6⟩
  · exact ⟨h01, by omega, by omega, by omega, fun q => by omega, fun q => by omega⟩
  · have := SKi_lt h3 h1
    have := SKP_n h3 nS hp
    exact ⟨h01, by omega, by omega, by omega, fun q => by omega, fun q => wIx_le h4⟩
  · have := SKi_lt h3 h1
    have := SKP_n h3 nD hp
    exact ⟨h01, by omega, by omega, by omega, fun q => by omega, fun q => by omega⟩
  · refine ⟨h01, by omega, by omega, ?_, fun q => by omega, fun q => by omega⟩
    rw [h4]
    split <;> omega
theorem TOK_end {t : Nat → Nat} {n a p : Nat} (h : SKP tW t n a p) (hp : n ≤ p) : TOK t n a 0 p 0 p := ⟨h, Or.inl ⟨hp, rfl, rfl, rfl⟩⟩
theorem TOK_word {t : Nat → Nat} {n a p e x : Nat} (h : SKP tW t n a p) (h1 : tS (hereZ t n p)) (h2 : SKP tS t n p e) (h3 : wIx t p e x) : TOK t n a 1 p x e := ⟨h, Or.inr (Or.inl ⟨h1, rfl, h2, h3⟩)⟩
theorem TOK_num {t : Nat → Nat} {n a p e : Nat} (h : SKP tW t n a p) (h1 : tD (hereZ t n p)) (h2 : SKP tD t n p e) : TOK t n a 2 p (numV t p (e - p)) e := ⟨h, Or.inr (Or.inr (Or.inl ⟨h1, rfl, h2, rfl⟩))⟩
theorem TOK_stop {t : Nat → Nat} {n a p : Nat} (h : SKP tW t n a p) (h1 : p < n) (hc : hereZ t n p = 59) : TOK t n a 3 p 0 (p + 1) := ⟨h, Or.inr (Or.inr (Or.inr ⟨h1, by unfold tS; omega, by unfold tD; omega, by rw [if_pos hc], rfl, rfl⟩))⟩
theorem TOK_none {t : Nat → Nat} {n a p : Nat} (h : SKP tW t n a p) (h1 : p < n) (h2 : ¬ tS (hereZ t n p)) (h3 : ¬ tD (hereZ t n p)) (hc : ¬ hereZ t n p = 59) : TOK t n a 4 p 0 (p + 1) := ⟨h, Or.inr (Or.inr (Or.inr ⟨h1, h2, h3, by rw [if_neg hc], rfl, rfl⟩))⟩
-- the reader
abbrev eP : Type := Nat × Nat
def NUMr (t : Nat → Nat) (n lo hi so pl vl nx : Nat) (r : eP ⊕ (Nat × Nat × Nat × Nat × Nat)) : Prop :=
  (so ≠ 2 ∧ r = .inl (1, pl)) ∨ (so = 2 ∧ ¬ (lo ≤ vl ∧ vl ≤ hi) ∧ r = .inl (2, pl)) ∨ (so = 2 ∧ (lo ≤ vl ∧ vl ≤ hi) ∧ ∃ s p u x, TOK t n nx s p u x ∧ r = .inr (vl, s, p, u, x))
theorem NUMr_u {t : Nat → Nat} {n lo hi so pl vl nx : Nat} {r r' : eP ⊕ (Nat × Nat × Nat × Nat × Nat)} (h : NUMr t n lo hi so pl vl nx r) (k : NUMr t n lo hi so pl vl nx r') : r = r' := by
  rcases h with ⟨h1, rfl⟩ | ⟨h1, h2, rfl⟩ | ⟨h1, h2, s, p, u, x, h3, rfl⟩
  · rcases k with ⟨k1, rfl⟩ | ⟨k1, k2, rfl⟩ | ⟨k1, k2, s', p', u', x', k3, rfl⟩
    · rfl
    · exact absurd k1 h1
    · exact absurd k1 h1
  · rcases k with ⟨k1, rfl⟩ | ⟨k1, k2, rfl⟩ | ⟨k1, k2, s', p', u', x', k3, rfl⟩
    · exact absurd h1 k1
    · rfl
    · exact absurd k2 h2
  · rcases k with ⟨k1, rfl⟩ | ⟨k1, k2, rfl⟩ | ⟨k1, k2, s', p', u', x', k3, rfl⟩
    · exact absurd h1 k1
    · exact absurd h2 k2
    · obtain ⟨rfl, rfl, rfl, rfl⟩ := TOK_u h3 k3
      rfl
theorem NUMr_1 {t : Nat → Nat} {n lo hi so pl vl nx : Nat} (h : so ≠ 2) : NUMr t n lo hi so pl vl nx (.inl (1, pl)) := Or.inl ⟨h, rfl⟩
theorem NUMr_2 {t : Nat → Nat} {n lo hi so pl vl nx : Nat} (h : so = 2) (h2 : ¬ (lo ≤ vl ∧ vl ≤ hi)) : NUMr t n lo hi so pl vl nx (.inl (2, pl)) := Or.inr (Or.inl ⟨h, h2, rfl⟩)
theorem NUMr_o {t : Nat → Nat} {n lo hi so pl vl nx s p u x z : Nat} (h : so = 2) (h2 : lo ≤ vl ∧ vl ≤ hi) (h3 : TOK t n nx s p u x) (hz : z = vl) : NUMr t n lo hi so pl vl nx (.inr (z, s, p, u, x)) := Or.inr (Or.inr ⟨h, h2, s, p, u, x, h3, by rw [hz]⟩)
abbrev rP : Type := Nat × Nat × Nat × Nat × Nat × (Nat → Nat) × (Nat → Nat)
def ROWf (t : Nat → Nat) (n : Nat) : Nat → Nat → Nat → Nat → Nat → Nat → (Nat → Nat) → (Nat → Nat) → eP ⊕ rP → Prop
  | 0, _, _, _, _, _, _, _, _ => False
  | f + 1, so, pl, vl, nx, m, v, w, r => (so ≠ 2 ∧ r = .inl (1, pl)) ∨ (so = 2 ∧ m = 120 ∧ r = .inl (2, pl)) ∨ (so = 2 ∧ m ≠ 120 ∧ 999 < vl ∧ r = .inl (2, pl)) ∨
      (so = 2 ∧ m ≠ 120 ∧ vl ≤ 999 ∧ ∃ s p u x, TOK t n nx s p u x ∧ ((s ≠ 2 ∧ r = .inr (s, p, u, x, m + 1, va_up v m vl, va_up w m 1)) ∨ (s = 2 ∧ ROWf t n f s p u x (m + 1) (va_up v m vl) (va_up w m 1) r)))
def ROWr (t : Nat → Nat) (n so pl vl nx m : Nat) (v w : Nat → Nat) (r : eP ⊕ rP) : Prop := ∃ f, ROWf t n f so pl vl nx m v w r
theorem ROWf_u {t : Nat → Nat} {n : Nat} : ∀ (f g so pl vl nx m : Nat) (v w : Nat → Nat) (r r' : eP ⊕ rP), ROWf t n f so pl vl nx m v w r → ROWf t n g so pl vl nx m v w r' → r = r' := by
  intro f
  induction f with
  | zero => intro g so pl vl nx m v w r r' h; exact h.elim
  | succ f ih =>
    intro g so pl vl nx m v w r r' h k
    cases g with
    | zero => exact k.elim
    | succ g =>
      rcases h with ⟨h1, rfl⟩ | ⟨h1, h2, rfl⟩ | ⟨h1, h2, h3, rfl⟩ | ⟨h1, h2, h3, s, p, u, x, h4, h5⟩
      · rcases k with ⟨k1, rfl⟩ | ⟨k1, k2, rfl⟩ | ⟨k1, k2, k3, rfl⟩ | ⟨k1, k2, k3, s', p', u', x', k4, k5⟩
        · rfl
        · exact absurd k1 h1
        · exact absurd k1 h1
        · exact absurd k1 h1
      · rcases k with ⟨k1, rfl⟩ | ⟨k1, k2, rfl⟩ | ⟨k1, k2, k3, rfl⟩ | ⟨k1, k2, k3, s', p', u', x', k4, k5⟩
        · exact absurd h1 k1
        · rfl
        · exact absurd h2 k2
        · exact absurd h2 k2
      · rcases k with ⟨k1, rfl⟩ | ⟨k1, k2, rfl⟩ | ⟨k1, k2, k3, rfl⟩ | ⟨k1, k2, k3, s', p', u', x', k4, k5⟩
        · exact absurd h1 k1
        · exact absurd k2 h2
        · rfl
        · omega
      · rcases k with ⟨k1, rfl⟩ | ⟨k1, k2, rfl⟩ | ⟨k1, k2, k3, rfl⟩ | ⟨k1, k2, k3, s', p', u', x', k4, k5⟩
        · exact absurd h1 k1
        · exact absurd k2 h2
        · omega
        · obtain ⟨rfl, rfl, rfl, rfl⟩ := TOK_u h4 k4
          rcases h5 with ⟨q1, rfl⟩ | ⟨q1, q2⟩
          · rcases k5 with ⟨q3, rfl⟩ | ⟨q3, q4⟩
            · rfl
            · exact absurd q3 q1
          · rcases k5 with ⟨q3, rfl⟩ | ⟨q3, q4⟩
            · exact absurd q1 q3
            · exact ih g _ _ _ _ _ _ _ _ _ q2 q4
theorem ROWr_u {t : Nat → Nat} {n so pl vl nx m : Nat} {v w : Nat → Nat} {r r' : eP ⊕ rP} (h : ROWr t n so pl vl nx m v w r) (k : ROWr t n so pl vl nx m v w r') : r = r' := by
  obtain ⟨f, h⟩ := h
  obtain ⟨g, k⟩ := k
  exact ROWf_u f g _ _ _ _ _ _ _ _ _ h k
theorem ROW_e1 {t : Nat → Nat} {n so pl vl nx m : Nat} {v w : Nat → Nat} (h : so ≠ 2) : ROWr t n so pl vl nx m v w (.inl (1, pl)) := ⟨1, Or.inl ⟨h, rfl⟩⟩
theorem ROW_e2 {t : Nat → Nat} {n so pl vl nx m : Nat} {v w : Nat → Nat} (h : so = 2) (hm : m = 120) : ROWr t n so pl vl nx m v w (.inl (2, pl)) := ⟨1, Or.inr (Or.inl ⟨h, hm, rfl⟩)⟩
theorem ROW_e3 {t : Nat → Nat} {n so pl vl nx m : Nat} {v w : Nat → Nat} {k p : Nat} (h : so = 2) (hm : m ≠ 120) (hv : NUMr t n 0 999 so pl vl nx (.inl (k, p))) : ROWr t n so pl vl nx m v w (.inl (k, p)) := by
  rcases hv with ⟨h1, h2⟩ | ⟨h1, h2, h3⟩ | ⟨h1, h2, s, p, u, x, h3, h4⟩
  · exact absurd h h1
  · cases h3
    exact ⟨1, Or.inr (Or.inr (Or.inl ⟨h, hm, by omega, rfl⟩))⟩
  · cases h4
theorem ROW_s {t : Nat → Nat} {n so pl vl nx m : Nat} {v w : Nat → Nat} {z s p u x : Nat} (h : so = 2) (hm : m ≠ 120) (hv : NUMr t n 0 999 so pl vl nx (.inr (z, s, p, u, x))) (hs : s ≠ 2) : ROWr t n so pl vl nx m v w (.inr (s, p, u, x, m + 1, va_up v m z, va_up w m 1)) := by
  rcases hv with ⟨h1, h2⟩ | ⟨h1, h2, h3⟩ | ⟨h1, h2, s', p', u', x', h3, h4⟩
  · cases h2
  · cases h3
  · cases h4
    exact ⟨1, Or.inr (Or.inr (Or.inr ⟨h, hm, by omega, s, p, u, x, h3, Or.inl ⟨hs, rfl⟩⟩))⟩
theorem ROW_c {t : Nat → Nat} {n so pl vl nx m : Nat} {v w : Nat → Nat} {z s p u x : Nat} {r : eP ⊕ rP} (h : so = 2) (hm : m ≠ 120) (hv : NUMr t n 0 999 so pl vl nx (.inr (z, s, p, u, x))) (hs : s = 2) (hr : ROWr t n s p u x (m + 1) (va_up v m z) (va_up w m 1) r) : ROWr t n so pl vl nx m v w r := by
  rcases hv with ⟨h1, h2⟩ | ⟨h1, h2, h3⟩ | ⟨h1, h2, s', p', u', x', h3, h4⟩
  · cases h2
  · cases h3
  · cases h4
    obtain ⟨f, hf⟩ := hr
    exact ⟨f + 1, Or.inr (Or.inr (Or.inr ⟨h, hm, by omega, s, p, u, x, h3, Or.inr ⟨hs, hf⟩⟩))⟩
/-- a row's line behind its word -/
def RWr (t : Nat → Nat) (n nx m : Nat) (v w : Nat → Nat) (r : eP ⊕ rP) : Prop := ∃ s p u x, TOK t n nx s p u x ∧ ROWr t n s p u x m v w r
theorem RWr_u {t : Nat → Nat} {n nx m : Nat} {v w : Nat → Nat} {r r' : eP ⊕ rP} (h : RWr t n nx m v w r) (k : RWr t n nx m v w r') : r = r' := by
  obtain ⟨s, p, u, x, h1, h2⟩ := h
  obtain ⟨s', p', u', x', k1, k2⟩ := k
  obtain ⟨rfl, rfl, rfl, rfl⟩ := TOK_u h1 k1
  exact ROWr_u h2 k2
theorem ROW_nx {t : Nat → Nat} {n so pl vl nx m : Nat} {v w : Nat → Nat} {z s p u x : Nat} {P : eP ⊕ rP → Prop} (hK : ∀ r, ROWr t n so pl vl nx m v w r → P r) (h : so = 2) (hm : m ≠ 120) (hv : NUMr t n 0 999 so pl vl nx (.inr (z, s, p, u, x))) : (s = 2 ∧ ∀ r, ROWr t n s p u x (m + 1) (va_up v m z) (va_up w m 1) r → P r) ∨ (s ≠ 2 ∧ P (.inr (s, p, u, x, m + 1, va_up v m z, va_up w m 1))) := by
  by_cases hs : s = 2
  · exact Or.inl ⟨hs, fun r hr => hK r (ROW_c h hm hv hs hr)⟩
  · exact Or.inr ⟨hs, hK _ (ROW_s h hm hv hs)⟩
def WGr (t : Nat → Nat) (n nx m : Nat) (w : Nat → Nat) (r : eP ⊕ (Nat × Nat × Nat × Nat × (Nat → Nat))) : Prop :=
  ∃ s p u x, TOK t n nx s p u x ∧ ((¬ (s = 2 ∧ u < m) ∧ r = .inl (1, p)) ∨ ((s = 2 ∧ u < m) ∧ ∃ s2 p2 u2 x2, TOK t n x s2 p2 u2 x2 ∧ ∃ q, NUMr t n 1 9 s2 p2 u2 x2 q ∧ r = q.map id (fun y => (y.2.1, y.2.2.1, y.2.2.2.1, y.2.2.2.2, va_up w u y.1))))
theorem WGr_u {t : Nat → Nat} {n nx m : Nat} {w : Nat → Nat} {r r' : eP ⊕ (Nat × Nat × Nat × Nat × (Nat → Nat))} (h : WGr t n nx m w r) (k : WGr t n nx m w r') : r = r' := by
  obtain ⟨s, p, u, x, h1, h2⟩ := h
  obtain ⟨s', p', u', x', k1, k2⟩ := k
  obtain ⟨rfl, rfl, rfl, rfl⟩ := TOK_u h1 k1
  rcases h2 with ⟨a1, rfl⟩ | ⟨a1, s2, p2, u2, x2, a2, q, a3, rfl⟩
  · rcases k2 with ⟨b1, rfl⟩ | ⟨b1, s3, p3, u3, x3, b2, q', b3, rfl⟩
    · rfl
    · exact absurd b1 a1
  · rcases k2 with ⟨b1, rfl⟩ | ⟨b1, s3, p3, u3, x3, b2, q', b3, rfl⟩
    · exact absurd a1 b1
    · obtain ⟨rfl, rfl, rfl, rfl⟩ := TOK_u a2 b2
      rw [NUMr_u a3 b3]
theorem WGr_1 {t : Nat → Nat} {n nx m s p u x : Nat} {w : Nat → Nat} (h : TOK t n nx s p u x) (h2 : ¬ (s = 2 ∧ u < m)) : WGr t n nx m w (.inl (1, p)) := ⟨s, p, u, x, h, Or.inl ⟨h2, rfl⟩⟩
theorem WGr_2 {t : Nat → Nat} {n nx m s p u x s2 p2 u2 x2 k q : Nat} {w : Nat → Nat} (h : TOK t n nx s p u x) (h2 : s = 2 ∧ u < m) (h3 : TOK t n x s2 p2 u2 x2) (h4 : NUMr t n 1 9 s2 p2 u2 x2 (.inl (k, q))) : WGr t n nx m w (.inl (k, q)) := ⟨s, p, u, x, h, Or.inr ⟨h2, s2, p2, u2, x2, h3, _, h4, rfl⟩⟩
theorem WGr_o {t : Nat → Nat} {n nx m s p u x s2 p2 u2 x2 z s3 p3 u3 x3 u' : Nat} {w : Nat → Nat} (h : TOK t n nx s p u x) (h2 : s = 2 ∧ u < m) (h3 : TOK t n x s2 p2 u2 x2) (h4 : NUMr t n 1 9 s2 p2 u2 x2 (.inr (z, s3, p3, u3, x3))) (hu : u' = u) : WGr t n nx m w (.inr (s3, p3, u3, x3, va_up w u' z)) := ⟨s, p, u, x, h, Or.inr ⟨h2, s2, p2, u2, x2, h3, _, h4, by rw [hu]; rfl⟩⟩
def BLr (t : Nat → Nat) (n pl nx hb : Nat) (r : eP ⊕ (Nat × Nat × Nat × Nat × Nat)) : Prop :=
  (hb ≠ 0 ∧ r = .inl (3, pl)) ∨ (hb = 0 ∧ ∃ s p u x, TOK t n nx s p u x ∧ NUMr t n 2 20 s p u x r)
theorem BLr_u {t : Nat → Nat} {n pl nx hb : Nat} {r r' : eP ⊕ (Nat × Nat × Nat × Nat × Nat)} (h : BLr t n pl nx hb r) (k : BLr t n pl nx hb r') : r = r' := by
  rcases h with ⟨h1, rfl⟩ | ⟨h1, s, p, u, x, h2, h3⟩
  · rcases k with ⟨k1, rfl⟩ | ⟨k1, s', p', u', x', k2, k3⟩
    · rfl
    · exact absurd k1 h1
  · rcases k with ⟨k1, rfl⟩ | ⟨k1, s', p', u', x', k2, k3⟩
    · exact absurd h1 k1
    · obtain ⟨rfl, rfl, rfl, rfl⟩ := TOK_u h2 k2
      exact NUMr_u h3 k3
def TIr (t : Nat → Nat) (n pl nx ht : Nat) (r : eP ⊕ (Nat × Nat × Nat × Nat × Nat)) : Prop :=
  (ht ≠ 0 ∧ r = .inl (3, pl)) ∨ (ht = 0 ∧ ∃ s p u x, TOK t n nx s p u x ∧ ((¬ (s = 1 ∧ u < 4) ∧ r = .inl (1, p)) ∨ ((s = 1 ∧ u < 4) ∧ ∃ s2 p2 u2 x2, TOK t n x s2 p2 u2 x2 ∧ r = .inr (u, s2, p2, u2, x2))))
theorem TIr_u {t : Nat → Nat} {n pl nx ht : Nat} {r r' : eP ⊕ (Nat × Nat × Nat × Nat × Nat)} (h : TIr t n pl nx ht r) (k : TIr t n pl nx ht r') : r = r' := by
  rcases h with ⟨h1, rfl⟩ | ⟨h1, s, p, u, x, h2, h3⟩
  · rcases k with ⟨k1, rfl⟩ | ⟨k1, s', p', u', x', k2, k3⟩
    · rfl
    · exact absurd k1 h1
  · rcases k with ⟨k1, rfl⟩ | ⟨k1, s', p', u', x', k2, k3⟩
    · exact absurd h1 k1
    · obtain ⟨rfl, rfl, rfl, rfl⟩ := TOK_u h2 k2
      rcases h3 with ⟨a1, rfl⟩ | ⟨a1, s2, p2, u2, x2, a2, rfl⟩
      · rcases k3 with ⟨b1, rfl⟩ | ⟨b1, s3, p3, u3, x3, b2, rfl⟩
        · rfl
        · exact absurd b1 a1
      · rcases k3 with ⟨b1, rfl⟩ | ⟨b1, s3, p3, u3, x3, b2, rfl⟩
        · exact absurd a1 b1
        · obtain ⟨rfl, rfl, rfl, rfl⟩ := TOK_u a2 b2
          rfl
/-- the token, how many, values, weights, block, ties, hasBlock, hasTies -/
abbrev lP : Type := (Nat × Nat × Nat × Nat) × Nat × (Nat → Nat) × (Nat → Nat) × Nat × Nat × Nat × Nat
def LNr (t : Nat → Nat) (n so pl vl nx m : Nat) (v w : Nat → Nat) (bl ti hb ht : Nat) (r : eP ⊕ lP) : Prop :=
  (so = 1 ∧ vl = 4 ∧ ∃ q, RWr t n nx m v w q ∧ r = q.map id (fun y => ((y.1, y.2.1, y.2.2.1, y.2.2.2.1), y.2.2.2.2.1, y.2.2.2.2.2.1, y.2.2.2.2.2.2, bl, ti, hb, ht))) ∨
  (so = 1 ∧ vl = 5 ∧ ∃ q, WGr t n nx m w q ∧ r = q.map id (fun y => ((y.1, y.2.1, y.2.2.1, y.2.2.2.1), m, v, y.2.2.2.2, bl, ti, hb, ht))) ∨
  (so = 1 ∧ vl = 6 ∧ ∃ q, BLr t n pl nx hb q ∧ r = q.map id (fun y => ((y.2.1, y.2.2.1, y.2.2.2.1, y.2.2.2.2), m, v, w, y.1, ti, 1, ht))) ∨
  (so = 1 ∧ vl = 7 ∧ ∃ q, TIr t n pl nx ht q ∧ r = q.map id (fun y => ((y.2.1, y.2.2.1, y.2.2.2.1, y.2.2.2.2), m, v, w, bl, y.1, hb, 1))) ∨
  (¬ (so = 1 ∧ 4 ≤ vl ∧ vl ≤ 7) ∧ r = .inl (1, pl))
theorem LNr_u {t : Nat → Nat} {n so pl vl nx m : Nat} {v w : Nat → Nat} {bl ti hb ht : Nat} {r r' : eP ⊕ lP} (h : LNr t n so pl vl nx m v w bl ti hb ht r) (k : LNr t n so pl vl nx m v w bl ti hb ht r') : r = r' := by
  rcases h with ⟨h1, h2, q, h3, rfl⟩ | ⟨h1, h2, q, h3, rfl⟩ | ⟨h1, h2, q, h3, rfl⟩ | ⟨h1, h2, q, h3, rfl⟩ | ⟨h1, rfl⟩ <;> rcases k with ⟨k1, k2, q', k3, rfl⟩ | ⟨k1, k2, q', k3, rfl⟩ | ⟨k1, k2, q', k3, rfl⟩ | ⟨k1, k2, q', k3, rfl⟩ | ⟨k1, rfl⟩ <;> first
    | rfl
    | (exfalso; omega)
    | rw [RWr_u h3 k3]
    | rw [WGr_u h3 k3]
    | rw [BLr_u h3 k3]
    | rw [TIr_u h3 k3]
section LNS
variable {t : Nat → Nat} {n so pl vl nx m : Nat} {v w : Nat → Nat} {bl ti hb ht : Nat} {e : eP} {s p u x m' z : Nat} {v' w' : Nat → Nat}
theorem LN_r (h1 : so = 1) (h2 : vl = 4) (hq : RWr t n nx m v w (.inr (s, p, u, x, m', v', w'))) : LNr t n so pl vl nx m v w bl ti hb ht (.inr ((s, p, u, x), m', v', w', bl, ti, hb, ht)) := Or.inl ⟨h1, h2, _, hq, rfl⟩
theorem LN_re (h1 : so = 1) (h2 : vl = 4) (hq : RWr t n nx m v w (.inl e)) : LNr t n so pl vl nx m v w bl ti hb ht (.inl e) := Or.inl ⟨h1, h2, _, hq, rfl⟩
theorem LN_w (h1 : so = 1) (h2 : vl = 5) (hq : WGr t n nx m w (.inr (s, p, u, x, w'))) : LNr t n so pl vl nx m v w bl ti hb ht (.inr ((s, p, u, x), m, v, w', bl, ti, hb, ht)) := Or.inr (Or.inl ⟨h1, h2, _, hq, rfl⟩)
theorem LN_we (h1 : so = 1) (h2 : vl = 5) (hq : WGr t n nx m w (.inl e)) : LNr t n so pl vl nx m v w bl ti hb ht (.inl e) := Or.inr (Or.inl ⟨h1, h2, _, hq, rfl⟩)
theorem LN_b (h1 : so = 1) (h2 : vl = 6) (hq : BLr t n pl nx hb (.inr (z, s, p, u, x))) : LNr t n so pl vl nx m v w bl ti hb ht (.inr ((s, p, u, x), m, v, w, z, ti, 1, ht)) := Or.inr (Or.inr (Or.inl ⟨h1, h2, _, hq, rfl⟩))
theorem LN_be (h1 : so = 1) (h2 : vl = 6) (hq : BLr t n pl nx hb (.inl e)) : LNr t n so pl vl nx m v w bl ti hb ht (.inl e) := Or.inr (Or.inr (Or.inl ⟨h1, h2, _, hq, rfl⟩))
theorem LN_t (h1 : so = 1) (h2 : vl = 7) (hq : TIr t n pl nx ht (.inr (z, s, p, u, x))) : LNr t n so pl vl nx m v w bl ti hb ht (.inr ((s, p, u, x), m, v, w, bl, z, hb, 1)) := Or.inr (Or.inr (Or.inr (Or.inl ⟨h1, h2, _, hq, rfl⟩)))
theorem LN_te (h1 : so = 1) (h2 : vl = 7) (hq : TIr t n pl nx ht (.inl e)) : LNr t n so pl vl nx m v w bl ti hb ht (.inl e) := Or.inr (Or.inr (Or.inr (Or.inl ⟨h1, h2, _, hq, rfl⟩)))
theorem LN_x (h : ¬ (so = 1 ∧ 4 ≤ vl ∧ vl ≤ 7)) : LNr t n so pl vl nx m v w bl ti hb ht (.inl (1, pl)) := Or.inr (Or.inr (Or.inr (Or.inr ⟨h, rfl⟩)))
end LNS
/-- a line with its stop, and the next token -/
def LN2 (t : Nat → Nat) (n so pl vl nx m : Nat) (v w : Nat → Nat) (bl ti hb ht : Nat) (r : eP ⊕ lP) : Prop :=
  ∃ q, LNr t n so pl vl nx m v w bl ti hb ht q ∧ ((∃ e, q = .inl e ∧ r = .inl e) ∨ ∃ y : lP, q = .inr y ∧ ((y.1.1 ≠ 3 ∧ r = .inl (1, y.1.2.1)) ∨ (y.1.1 = 3 ∧ ∃ s p u x, TOK t n y.1.2.2.2 s p u x ∧ r = .inr ((s, p, u, x), y.2))))
theorem LN2_u {t : Nat → Nat} {n so pl vl nx m : Nat} {v w : Nat → Nat} {bl ti hb ht : Nat} {r r' : eP ⊕ lP} (h : LN2 t n so pl vl nx m v w bl ti hb ht r) (k : LN2 t n so pl vl nx m v w bl ti hb ht r') : r = r' := by
  obtain ⟨q, h1, h2⟩ := h
  obtain ⟨q', k1, k2⟩ := k
  obtain rfl := LNr_u h1 k1
  rcases h2 with ⟨e, rfl, rfl⟩ | ⟨y, rfl, h2⟩
  · rcases k2 with ⟨e', k3, rfl⟩ | ⟨y', k3, -⟩
    · cases k3; rfl
    · cases k3
  · rcases k2 with ⟨e', k3, rfl⟩ | ⟨y', k3, k2⟩
    · cases k3
    · cases k3
      rcases h2 with ⟨a1, rfl⟩ | ⟨a1, s, p, u, x, a2, rfl⟩
      · rcases k2 with ⟨b1, rfl⟩ | ⟨b1, s', p', u', x', b2, rfl⟩
        · rfl
        · exact absurd b1 a1
      · rcases k2 with ⟨b1, rfl⟩ | ⟨b1, s', p', u', x', b2, rfl⟩
        · exact absurd a1 b1
        · obtain ⟨rfl, rfl, rfl, rfl⟩ := TOK_u a2 b2
          rfl
theorem LN2_e {t : Nat → Nat} {n so pl vl nx m : Nat} {v w : Nat → Nat} {bl ti hb ht : Nat} {e : eP} (h : LNr t n so pl vl nx m v w bl ti hb ht (.inl e)) : LN2 t n so pl vl nx m v w bl ti hb ht (.inl e) := ⟨_, h, Or.inl ⟨e, rfl, rfl⟩⟩
theorem LN2_1 {t : Nat → Nat} {n so pl vl nx m : Nat} {v w : Nat → Nat} {bl ti hb ht s p u x : Nat} {y : Nat × (Nat → Nat) × (Nat → Nat) × Nat × Nat × Nat × Nat} (h : LNr t n so pl vl nx m v w bl ti hb ht (.inr ((s, p, u, x), y))) (hs : s ≠ 3) : LN2 t n so pl vl nx m v w bl ti hb ht (.inl (1, p)) := ⟨_, h, Or.inr ⟨_, rfl, Or.inl ⟨hs, rfl⟩⟩⟩
theorem LN2_o {t : Nat → Nat} {n so pl vl nx m : Nat} {v w : Nat → Nat} {bl ti hb ht s p u x s2 p2 u2 x2 : Nat} {y : Nat × (Nat → Nat) × (Nat → Nat) × Nat × Nat × Nat × Nat} (h : LNr t n so pl vl nx m v w bl ti hb ht (.inr ((s, p, u, x), y))) (hs : s = 3) (hk : TOK t n x s2 p2 u2 x2) : LN2 t n so pl vl nx m v w bl ti hb ht (.inr ((s2, p2, u2, x2), y)) := ⟨_, h, Or.inr ⟨_, rfl, Or.inr ⟨hs, s2, p2, u2, x2, hk, rfl⟩⟩⟩
abbrev pP : Type := Nat × (Nat → Nat) × (Nat → Nat) × Nat × Nat × Nat
def PARf (t : Nat → Nat) (n : Nat) : Nat → lP → Nat → eP ⊕ pP → Prop
  | 0, _, _, _ => False
  | f + 1, y, ln, r => (y.1.1 = 0 ∧ r = .inr (y.2.1, y.2.2.1, y.2.2.2.1, y.2.2.2.2.1, y.2.2.2.2.2.1, ln)) ∨
      (y.1.1 ≠ 0 ∧ ∃ q, LN2 t n y.1.1 y.1.2.1 y.1.2.2.1 y.1.2.2.2 y.2.1 y.2.2.1 y.2.2.2.1 y.2.2.2.2.1 y.2.2.2.2.2.1 y.2.2.2.2.2.2.1 y.2.2.2.2.2.2.2 q ∧ ((∃ e, q = .inl e ∧ r = .inl e) ∨ ∃ z, q = .inr z ∧ PARf t n f z (ln + 1) r))
def PARr (t : Nat → Nat) (n : Nat) (y : lP) (ln : Nat) (r : eP ⊕ pP) : Prop := ∃ f, PARf t n f y ln r
theorem PARf_u {t : Nat → Nat} {n : Nat} : ∀ (f g : Nat) (y : lP) (ln : Nat) (r r' : eP ⊕ pP), PARf t n f y ln r → PARf t n g y ln r' → r = r' := by
  intro f
  induction f with
  | zero => intro g y ln r r' h; exact h.elim
  | succ f ih =>
    intro g y ln r r' h k
    cases g with
    | zero => exact k.elim
    | succ g =>
      rcases h with ⟨h1, rfl⟩ | ⟨h1, q, h2, h3⟩
      · rcases k with ⟨k1, rfl⟩ | ⟨k1, q', k2, k3⟩
        · rfl
        · exact absurd h1 k1
      · rcases k with ⟨k1, rfl⟩ | ⟨k1, q', k2, k3⟩
        · exact absurd k1 h1
        · obtain rfl := LN2_u h2 k2
          rcases h3 with ⟨e, rfl, rfl⟩ | ⟨z, rfl, h3⟩
          · rcases k3 with ⟨e', k4, rfl⟩ | ⟨z', k4, -⟩
            · cases k4; rfl
            · cases k4
          · rcases k3 with ⟨e', k4, rfl⟩ | ⟨z', k4, k3⟩
            · cases k4
            · cases k4
              exact ih g _ _ _ _ h3 k3
theorem PAR_0 {t : Nat → Nat} {n pl vl nx m : Nat} {v w : Nat → Nat} {bl ti hb ht ln so : Nat} (hs : so = 0) : PARr t n ((so, pl, vl, nx), m, v, w, bl, ti, hb, ht) ln (.inr (m, v, w, bl, ti, ln)) := ⟨1, Or.inl ⟨hs, rfl⟩⟩
theorem PAR_e {t : Nat → Nat} {n so pl vl nx m : Nat} {v w : Nat → Nat} {bl ti hb ht ln : Nat} {e : eP} (hs : so ≠ 0) (h : LN2 t n so pl vl nx m v w bl ti hb ht (.inl e)) : PARr t n ((so, pl, vl, nx), m, v, w, bl, ti, hb, ht) ln (.inl e) := ⟨1, Or.inr ⟨hs, _, h, Or.inl ⟨e, rfl, rfl⟩⟩⟩
theorem PAR_c {t : Nat → Nat} {n so pl vl nx m : Nat} {v w : Nat → Nat} {bl ti hb ht ln : Nat} {z : lP} {r : eP ⊕ pP} (hs : so ≠ 0) (h : LN2 t n so pl vl nx m v w bl ti hb ht (.inr z)) (hr : PARr t n z (ln + 1) r) : PARr t n ((so, pl, vl, nx), m, v, w, bl, ti, hb, ht) ln r := by
  obtain ⟨f, hf⟩ := hr
  exact ⟨f + 1, Or.inr ⟨hs, _, h, Or.inr ⟨z, rfl, hf⟩⟩⟩
def TXTr (t : Nat → Nat) (n : Nat) (r : eP ⊕ pP) : Prop := ∃ s p u x, TOK t n 0 s p u x ∧ PARr t n ((s, p, u, x), 0, fun _ => 0, fun _ => 0, 8, 0, 0, 0) 0 r
theorem TXT_of {t : Nat → Nat} {n s p u x : Nat} {r : eP ⊕ pP} (h : TOK t n 0 s p u x) (hr : PARr t n ((s, p, u, x), 0, fun _ => 0, fun _ => 0, 8, 0, 0, 0) 0 r) : TXTr t n r := ⟨s, p, u, x, h, hr⟩
theorem TXT_u {t : Nat → Nat} {n : Nat} {r r' : eP ⊕ pP} (h : TXTr t n r) (k : TXTr t n r') : r = r' := by
  obtain ⟨s, p, u, x, h1, f, h2⟩ := h
  obtain ⟨s', p', u', x', k1, g, k2⟩ := k
  obtain ⟨rfl, rfl, rfl, rfl⟩ := TOK_u h1 k1
  exact PARf_u f g _ _ _ _ h2 k2
/-- the token as the twin has it: its sort, its number -/
def TSO (so : Nat) (st : Int) : Prop := (so = 0 ∧ st = 3) ∨ (1 ≤ so ∧ so ≤ 3 ∧ st + 1 = (so : Int)) ∨ (so = 4 ∧ st = 4)
def TNU (so vl : Nat) (nu : Int) : Prop := (so = 2 → ∃ N : Nat, nu = (N : Int) ∧ NUMT N vl) ∧ (so = 1 → (vl = 8 ∧ nu = -1) ∨ (vl < 8 ∧ nu = (vl : Int)))
theorem TNU_0 {so vl : Nat} {nu : Int} (h1 : so ≠ 1) (h2 : so ≠ 2) : TNU so vl nu := ⟨fun q => absurd q h2, fun q => absurd q h1⟩
theorem TNU_2 {vl : Nat} {N : Nat} (h : NUMT N vl) : TNU 2 vl (N : Int) := ⟨fun _ => ⟨N, rfl, h⟩, fun q => by omega⟩
theorem TNU_1 {vl : Nat} {nu : Int} (h : (vl = 8 ∧ nu = -1) ∨ (vl < 8 ∧ nu = (vl : Int))) : TNU 1 vl nu := ⟨fun q => by omega, fun _ => h⟩
/-- the twin's token -/
def TKA (n so pl vl nx : Nat) (st nu : Int) : Prop := TSO so st ∧ TNU so vl nu ∧ nx ≤ n ∧ pl ≤ nx ∧ (so ≠ 0 → pl < nx)
theorem TKA_of {t : Nat → Nat} {n a so pl vl nx : Nat} {st nu : Int} (h : TOK t n a so pl vl nx) (ha : a ≤ n) (h1 : TSO so st) (h2 : TNU so vl nu) : TKA n so pl vl nx st nu := ⟨h1, h2, (TOK_b h ha).2.2.1, (TOK_b h ha).2.1, (TOK_b h ha).2.2.2.2.1⟩
theorem w_lt8 {k : Nat} (h : k ≤ 8) (h2 : wO k < 44) : k < 8 := by
  rcases Nat.lt_or_ge k 8 with q | q
  · exact q
  · have e : k = 8 := by omega
    rw [e] at h2
    exact absurd h2 (by decide)
theorem w_ge8 {k : Nat} (h : k ≤ 8) (h2 : 44 ≤ wO k) : k = 8 := by
  rcases Nat.lt_or_ge k 8 with q | q
  · have := (w_f1 k q).2.1; omega
  · omega
/-- what a method of the twin's leaves: no fault and what it answers, or its fault -/
def OKE {α : Type} (R : eP ⊕ α → Prop) (fa : Nat) (fp : Int) (y : α) : Prop := (fa = 0 ∧ R (.inr y)) ∨ (fa ≠ 0 ∧ ∃ fq : Nat, fp = (fq : Int) ∧ R (.inl (fa, fq)))
theorem OKE_ok {α : Type} {R : eP ⊕ α → Prop} {fa : Nat} {fp : Int} {y : α} (h : OKE R fa fp y) (h0 : fa = 0) : R (.inr y) := (h.resolve_right (fun q => q.1 h0)).2
theorem OKE_er {α : Type} {R : eP ⊕ α → Prop} {fa : Nat} {fp : Int} {y : α} (h : OKE R fa fp y) (h0 : fa ≠ 0) : ∃ fq : Nat, fp = (fq : Int) ∧ R (.inl (fa, fq)) := (h.resolve_left (fun q => h0 q.1)).2
theorem OKE_0 {α : Type} {R : eP ⊕ α → Prop} {fa : Nat} {fp : Int} {y : α} (h0 : fa = 0) (h : R (.inr y)) : OKE R fa fp y := Or.inl ⟨h0, h⟩
theorem OKE_1 {α : Type} {R : eP ⊕ α → Prop} {fa fq : Nat} {fp : Int} {y : α} (h0 : fa ≠ 0) (e : fp = (fq : Int)) (h : R (.inl (fa, fq))) : OKE R fa fp y := Or.inr ⟨h0, fq, e, h⟩
theorem NUM_pl {t : Nat → Nat} {n lo hi so pl vl nx z s p u x : Nat} (h : NUMr t n lo hi so pl vl nx (.inr (z, s, p, u, x))) (hx : nx ≤ n) : nx ≤ p := by
  rcases h with ⟨-, h9⟩ | ⟨-, -, h9⟩ | ⟨-, -, s7, p7, u7, x7, h9, h8⟩
  · cases h9
  · cases h9
  · cases h8
    exact (TOK_b h9 hx).1
/-- the twin's loop over lines -/
def TXI (t : Nat → Nat) (n : Nat) (y : lP) (ln fa : Nat) (fp : Int) : Prop := (fa = 0 ∧ ∀ r, PARr t n y ln r → TXTr t n r) ∨ (fa ≠ 0 ∧ ∃ fq : Nat, fp = (fq : Int) ∧ TXTr t n (.inl (fa, fq)))
theorem TXI_ok {t : Nat → Nat} {n : Nat} {y : lP} {ln fa : Nat} {fp : Int} (h : TXI t n y ln fa fp) (h0 : fa = 0) : ∀ r, PARr t n y ln r → TXTr t n r := (h.resolve_right (fun q => q.1 h0)).2
theorem TXI_er {t : Nat → Nat} {n : Nat} {y : lP} {ln fa : Nat} {fp : Int} (h : TXI t n y ln fa fp) (h0 : fa ≠ 0) : ∃ fq : Nat, fp = (fq : Int) ∧ TXTr t n (.inl (fa, fq)) := (h.resolve_left (fun q => h0 q.1)).2
theorem TXI_0 {t : Nat → Nat} {n s p u x : Nat} {fp : Int} (h : TOK t n 0 s p u x) : TXI t n ((s, p, u, x), 0, fun _ => 0, fun _ => 0, 8, 0, 0, 0) 0 0 fp := Or.inl ⟨rfl, fun r hr => TXT_of h hr⟩
theorem TXI_s {t : Nat → Nat} {n so pl vl nx m : Nat} {v w : Nat → Nat} {bl ti hb ht ln fa : Nat} {fp fp0 : Int} {z : lP} (h : TXI t n ((so, pl, vl, nx), m, v, w, bl, ti, hb, ht) ln 0 fp0) (hs : so ≠ 0) (hr : OKE (LN2 t n so pl vl nx m v w bl ti hb ht) fa fp z) : TXI t n z (ln + 1) fa fp := by
  have hk := TXI_ok h rfl
  rcases hr with ⟨e, q⟩ | ⟨e, fq, e2, q⟩
  · exact Or.inl ⟨e, fun r hr => hk r (PAR_c hs q hr)⟩
  · exact Or.inr ⟨e, fq, e2, hk _ (PAR_e hs q)⟩
/-- what a text does; the state behind it: row, block, ties, lines, undos, refreshed, the fault and its place, how much is on the tape -/
def Sp_text (t : Nat → Nat) (tp : Nat) (q : Int) (n : Nat) (v w : Nat → Nat) (b ti : Nat) (ln : Int) (un : Nat) (fr fa fp : Int) (r_ : Int) (n2 : Nat) (v2 w2 : Nat → Nat) (b2 ti2 : Nat) (ln2 : Int) (un2 : Nat) (fr2 fa2 fp2 : Int) (tp2 : Nat) : Prop :=
  (¬ (0 ≤ q ∧ q ≤ (tp : Int)) ∧ r_ = -2 ∧ n2 = n ∧ v2 = v ∧ w2 = w ∧ b2 = b ∧ ti2 = ti ∧ ln2 = ln ∧ un2 = un ∧ fr2 = fr ∧ fa2 = fa ∧ fp2 = fp ∧ tp2 = tp) ∨
  ((0 ≤ q ∧ q ≤ (tp : Int)) ∧ tp2 = 0 ∧ ((∃ k p : Nat, TXTr t q.toNat (.inl (k, p)) ∧ r_ = -1 ∧ n2 = n ∧ v2 = v ∧ w2 = w ∧ b2 = b ∧ ti2 = ti ∧ ln2 = ln ∧ un2 = un ∧ fr2 = fr ∧ fa2 = (k : Int) ∧ fp2 = (p : Int)) ∨
    (∃ m u x bl tx l, TXTr t q.toNat (.inr (m, u, x, bl, tx, l)) ∧ r_ = (l : Int) ∧ n2 = m ∧ v2 = u ∧ w2 = x ∧ b2 = bl ∧ ti2 = tx ∧ ln2 = (l : Int) ∧ un2 = 0 ∧ fr2 = -2 ∧ fa2 = 0 ∧ fp2 = -1)))
