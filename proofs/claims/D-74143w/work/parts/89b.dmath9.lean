/-! going through the places of a value -/
set_option maxRecDepth 100000
def pK (f : Nat → Nat) (k : Nat) : Nat := if k = 0 then 0 else f (k - 1) + 1
theorem pK_0 {f : Nat → Nat} : pK f 0 = 0 := if_pos rfl
theorem pK_s {f : Nat → Nat} {k : Nat} : pK f (k + 1) = f k + 1 := if_neg (by omega)
theorem PlC_no {n y m : Nat} {v f : Nat → Nat} (h : PlC n v y m f) {k e : Nat} (hk : k ≤ m) (he : cnt v 0 e y = k) : pK f k ≤ e ∧ ∀ p, pK f k ≤ p → p < e → v p ≠ y := by
  have h1 : cnt v 0 (pK f k) y = k ∧ pK f k ≤ e := by
    by_cases z : k = 0
    · subst z
      rw [pK_0, cnt_0 v (Nat.le_refl 0)]
      exact ⟨he.symm ▸ rfl, Nat.zero_le _⟩
    · obtain ⟨a, b, c⟩ := h.2 (k - 1) (by omega)
      have e1 : pK f k = f (k - 1) + 1 := if_neg z
      have e2 : cnt v 0 (f (k - 1) + 1) y = k := by
        rw [cnt_at b, c]
        omega
      refine ⟨by rw [e1]; exact e2, ?_⟩
      rw [e1]
      by_cases q : f (k - 1) < e
      · exact q
      · have h3 := cnt_mono (v := v) (a := 0) (x := y) (show e ≤ f (k - 1) by omega)
        omega
  refine ⟨h1.2, fun p p1 p2 p3 => ?_⟩
  have h2 := cnt_split (v := v) (x := y) (Nat.zero_le (pK f k)) h1.2
  have h3 : 0 < cnt v (pK f k) e y := cnt_pos.mpr ⟨p, p1, p2, p3⟩
  omega
theorem PlC_to {n y m : Nat} {v f : Nat → Nat} (h : PlC n v y m f) {k : Nat} (hk : k < m) : pK f k ≤ f k ∧ ∀ p, pK f k ≤ p → p < f k → v p ≠ y := PlC_no h (by omega) (h.2 k hk).2.2
theorem PlC_end {n y m : Nat} {v f : Nat → Nat} (h : PlC n v y m f) : pK f m ≤ n ∧ ∀ p, pK f m ≤ p → p < n → v p ≠ y := PlC_no h (Nat.le_refl m) h.1.symm
theorem gp_skip {v : Nat → Nat} {x q : Nat} : ∀ {d : Nat}, (∀ p, q ≤ p → p < q + d → v p ≠ x) → gpW v x (q + d) = gpW v x q ∧ gpM v x (q + d) = gpM v x q
  | 0, _ => ⟨rfl, rfl⟩
  | d + 1, h => by
    have ih := gp_skip (d := d) (fun p p1 p2 => h p p1 (by omega))
    have hn := h (q + d) (by omega) (by omega)
    rw [show q + (d + 1) = q + d + 1 by omega, gpW_f hn, gpM_f (fun z => hn z.1)]
    exact ih
theorem gp_to {v : Nat → Nat} {x q e : Nat} (h : q ≤ e ∧ ∀ p, q ≤ p → p < e → v p ≠ x) : gpW v x e = gpW v x q ∧ gpM v x e = gpM v x q := by
  have h1 := gp_skip (v := v) (x := x) (q := q) (d := e - q) (fun p p1 p2 => h.2 p p1 (by omega))
  rw [show q + (e - q) = e by have := h.1; omega] at h1
  exact h1
def GPI (v : Nat → Nat) (x : Nat) (f : Nat → Nat) (k : Nat) (ws ms : Int) : Prop := ws = gpW v x (pK f k) ∧ ms = gpM v x (pK f k)
theorem GP_0 {v : Nat → Nat} {x : Nat} {f : Nat → Nat} : GPI v x f 0 (-1) (-2) := ⟨rfl, rfl⟩
theorem GP_s {n m x k : Nat} {v f : Nat → Nat} {ws ms ms2 : Int} (h : PlC n v x m f) (hk : k < m) (hg : GPI v x f k ws ms) (hm : (ws = -1 ∧ ms2 = ms) ∨ (ws ≠ -1 ∧ ((ms2 = ms ∧ (f k : Int) - ws ≤ ms) ∨ (ms2 = (f k : Int) - ws ∧ ms ≤ (f k : Int) - ws)))) : GPI v x f (k + 1) (f k : Int) ms2 := by
  obtain ⟨e1, e2⟩ := gp_to (PlC_to h hk)
  have hv := (h.2 k hk).2.1
  obtain ⟨g1, g2⟩ := hg
  unfold GPI
  rw [pK_s, gpW_t hv]
  refine ⟨rfl, ?_⟩
  rcases hm with ⟨q1, q2⟩ | ⟨q1, ⟨q2, q3⟩ | ⟨q2, q3⟩⟩
  · rw [gpM_f (fun z => z.2.1 (by omega)), e2]; omega
  · rw [gpM_f (fun z => by have := z.2.2; omega), e2]; omega
  · by_cases z : ms < (f k : Int) - ws
    · rw [gpM_t ⟨hv, by omega, by omega⟩]; omega
    · rw [gpM_f (fun z => by have := z.2.2; omega), e2]; omega
theorem GP_e {n m x : Nat} {v f : Nat → Nat} {k : Nat} {ws ms : Int} (h : PlC n v x m f) (hk : k = m) (hg : GPI v x f k ws ms) : ms = gpM v x n := by
  subst hk
  rw [(gp_to (PlC_end h)).2]
  exact hg.2
theorem rp_s {n m x y k : Nat} {v tv f : Nat → Nat} (h : PlC n v x m f) (hk : k < m) (ht : ∀ j, j < n → tv j = if v j = x ∧ j < pK f k then y else v j) : ∀ j, j < n → va_up tv (f k) y j = if v j = x ∧ j < pK f (k + 1) then y else v j := fun j hj => by
  have h1 := PlC_to h hk
  have h2 := (h.2 k hk).2.1
  rw [pK_s]
  by_cases e : j = f k
  · rw [e, va_up_self, if_pos ⟨h2, by omega⟩]
  · rw [va_up_ne _ _ e, ht j hj]
    by_cases z : v j = x ∧ j < pK f k
    · rw [if_pos z, if_pos ⟨z.1, by have := h1.1; omega⟩]
    · rw [if_neg z, if_neg (fun q => z ⟨q.1, by
        by_cases y2 : j < pK f k
        · exact y2
        · exact absurd q.1 (h1.2 j (by omega) (by omega))⟩)]
theorem rp_e {n m x y k : Nat} {v tv f : Nat → Nat} (h : PlC n v x m f) (hk : k = m) (ht : ∀ j, j < n → tv j = if v j = x ∧ j < pK f k then y else v j) : ∀ j, j < n → tv j = repF v x y j := fun j hj => by
  subst hk
  rw [ht j hj]
  unfold repF
  have h1 := PlC_end h
  by_cases z : v j = x
  · rw [if_pos z, if_pos ⟨z, by
      by_cases y2 : j < pK f k
      · exact y2
      · exact absurd z (h1.2 j (by omega) hj)⟩]
  · rw [if_neg z, if_neg (fun q => z q.1)]
/-- what a value weighs on its k first places -/
def SCL (wt f : Nat → Nat) (l r : Nat) : Nat → Nat
  | 0 => 0
  | k + 1 => SCL wt f l r k + if l ≤ f k ∧ f k < r then wt (f k) else 0
theorem SCL_le {wt f : Nat → Nat} {l r n : Nat} (hw : ∀ i, i < n → 1 ≤ wt i ∧ wt i ≤ 9) : ∀ {k : Nat}, (∀ j, j < k → f j < n) → SCL wt f l r k ≤ 9 * k
  | 0, _ => Nat.zero_le _
  | k + 1, h => by
    have ih := SCL_le (l := l) (r := r) hw (k := k) (fun j hj => h j (by omega))
    have h1 := hw (f k) (h k (by omega))
    show SCL wt f l r k + _ ≤ _
    split <;> omega
theorem ws_skip {v wt : Nat → Nat} {x a q : Nat} : ∀ {d : Nat}, (∀ p, q ≤ p → p < q + d → v p ≠ x) → wsum v wt a x (q + d) = wsum v wt a x q
  | 0, _ => rfl
  | d + 1, h => by
    have ih := ws_skip (wt := wt) (a := a) (d := d) (fun p p1 p2 => h p p1 (by omega))
    rw [show q + (d + 1) = q + d + 1 by omega, wsum_f (h (q + d) (by omega) (by omega))]
    exact ih
theorem ws_to {v wt : Nat → Nat} {x a q e : Nat} (h : q ≤ e ∧ ∀ p, q ≤ p → p < e → v p ≠ x) : wsum v wt a x e = wsum v wt a x q := by
  have h1 := ws_skip (v := v) (wt := wt) (x := x) (a := a) (q := q) (d := e - q) (fun p p1 p2 => h.2 p p1 (by omega))
  rw [show q + (e - q) = e by have := h.1; omega] at h1
  exact h1
def wtR (wt : Nat → Nat) (l r : Nat) : Nat → Nat := fun p => if l ≤ p ∧ p < r then wt p else 0
theorem SCL_ws {n m x l r : Nat} {v f wt : Nat → Nat} (h : PlC n v x m f) : ∀ {k : Nat}, k ≤ m → SCL wt f l r k = wsum v (wtR wt l r) 0 x (pK f k)
  | 0, _ => rfl
  | k + 1, hk => by
    have ih := SCL_ws (l := l) (r := r) (wt := wt) h (k := k) (by omega)
    have h1 := ws_to (wt := wtR wt l r) (a := 0) (PlC_to h (show k < m by omega))
    rw [pK_s, wsum_t (Nat.zero_le _) (h.2 k (by omega)).2.1, h1, ← ih]
    rfl
theorem ws_cut {v wt : Nat → Nat} {x l r : Nat} : ∀ {e : Nat}, e ≤ r → wsum v (wtR wt l r) 0 x e = wsum v wt l x e
  | 0, _ => rfl
  | e + 1, he => by
    have ih := ws_cut (v := v) (wt := wt) (x := x) (l := l) (r := r) (e := e) (by omega)
    show wsum v (wtR wt l r) 0 x e + _ = wsum v wt l x e + _
    rw [ih]
    unfold wtR
    by_cases q : v e = x
    · by_cases z : l ≤ e
      · rw [if_pos ⟨Nat.zero_le _, q⟩, if_pos ⟨z, by omega⟩, if_pos ⟨z, q⟩]
      · rw [if_pos ⟨Nat.zero_le _, q⟩, if_neg (fun y => z y.1), if_neg (fun y => z y.1)]
    · rw [if_neg (fun y => q y.2), if_neg (fun y => q y.2)]
theorem ws_out {v wt : Nat → Nat} {x l r : Nat} : ∀ {d : Nat}, wsum v (wtR wt l r) 0 x (r + d) = wsum v (wtR wt l r) 0 x r
  | 0 => rfl
  | d + 1 => by
    have ih := ws_out (v := v) (wt := wt) (x := x) (l := l) (r := r) (d := d)
    have hz : wtR wt l r (r + d) = 0 := if_neg (by omega)
    show wsum v (wtR wt l r) 0 x (r + d) + (if 0 ≤ r + d ∧ v (r + d) = x then wtR wt l r (r + d) else 0) = _
    rw [ih, hz]
    split <;> rfl
theorem SCL_e {n m x l r k : Nat} {v f wt : Nat → Nat} (h : PlC n v x m f) (hk : k = m) (hr : r ≤ n) : SCL wt f l r k = wsum v wt l x r := by
  subst hk
  have h1 := ws_to (wt := wtR wt l r) (a := 0) (PlC_end h)
  have h2 := ws_out (v := v) (wt := wt) (x := x) (l := l) (r := r) (d := n - r)
  rw [show r + (n - r) = n by omega] at h2
  rw [SCL_ws h (Nat.le_refl _), ← h1, h2, ws_cut (Nat.le_refl r)]
def HVI (v wt : Nat → Nat) (l r t : Nat) (w : Nat → Nat) (i jb : Nat) : Prop := jb < i ∧ ∀ j, j < i → j ≠ jb → hvy v wt l r t (w jb) (w j)
theorem HVI_1 {v wt : Nat → Nat} {l r t : Nat} {w : Nat → Nat} : HVI v wt l r t w 1 0 := ⟨Nat.zero_lt_one, fun j h1 h2 => by omega⟩
theorem HVI_t {v wt : Nat → Nat} {l r t i jb : Nat} {w : Nat → Nat} (h : HVI v wt l r t w i jb) (hw : wsum v wt l (w jb) r < wsum v wt l (w i) r) : HVI v wt l r t w (i + 1) i := ⟨Nat.lt_succ_self _, fun j h1 h2 => by
  by_cases e : j = jb
  · rw [e]; exact Or.inl hw
  · exact hvy_trans (Or.inl hw) (h.2 j (by omega) e)⟩
theorem HVI_f {v wt : Nat → Nat} {l r t i jb k : Nat} {u w : Nat → Nat} (h : HVI v wt l r t w i jb) (hR : RKS v l r t k u w) (hi : i < k) (hw : wsum v wt l (w i) r ≤ wsum v wt l (w jb) r) : HVI v wt l r t w (i + 1) jb := ⟨Nat.lt_succ_of_lt h.1, fun j h1 h2 => by
  by_cases e : j = i
  · rw [e]
    by_cases z : wsum v wt l (w i) r = wsum v wt l (w jb) r
    · exact Or.inr ⟨z.symm, hR.1 jb i h.1 hi⟩
    · exact Or.inl (by omega)
  · exact h.2 j (by omega) h2⟩
theorem RKS_in {v : Nat → Nat} {l r t k : Nat} {u w : Nat → Nat} (hE : EN v l r k u) (hR : RKS v l r t k u w) {j : Nat} (hj : j < k) : w j < 1000 ∧ 0 < cnt v l r (w j) := by
  obtain ⟨a, ha, e⟩ := hR.2.1 j hj
  rw [e]
  exact hE.2.1 a ha
theorem HVI_e {v wt : Nat → Nat} {l r t i jb k : Nat} {u w : Nat → Nat} (h : HVI v wt l r t w i jb) (hE : EN v l r k u) (hR : RKS v l r t k u w) (hi : i = k) : IsHvy v wt l r t (w jb) := by
  subst hi
  have h1 := RKS_in hE hR h.1
  refine ⟨h1.1, h1.2, fun y hy py hne => ?_⟩
  obtain ⟨a, ha, rfl⟩ := hE.2.2.2 y hy py
  obtain ⟨j, hj, e⟩ := hR.2.2.1 a ha
  rw [← e] at hne ⊢
  exact h.2 j hj (fun z => hne (by rw [z]))
