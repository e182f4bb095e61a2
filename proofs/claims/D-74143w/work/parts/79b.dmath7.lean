/-! what is laid anew -/
set_option maxRecDepth 100000
theorem fsP_cg {v w : Nat → Nat} {l r x : Nat} (h : ∀ p, l ≤ p → p < r → v p = w p) (px : 0 < cnt v l r x) : fsP v l x r = fsP w l x r := by
  obtain ⟨a, b, c, d⟩ := fsP_spec px
  exact fsP_uniq a b (by rw [← h _ a b]; exact c) (fun q q1 q2 => by rw [← h q q1 (by omega)]; exact d q q1 q2)
theorem lsP_cg {v w : Nat → Nat} {l r x : Nat} (h : ∀ p, l ≤ p → p < r → v p = w p) (px : 0 < cnt v l r x) : lsP v x r = lsP w x r := by
  obtain ⟨a, b, c, d⟩ := lsP_spec px
  exact lsP_uniq a b (by rw [← h _ a b]; exact c) (fun q q1 q2 => by rw [← h q (by omega) q2]; exact d q q1 q2)
theorem cnt_cg {v w : Nat → Nat} {l r : Nat} (h : ∀ p, l ≤ p → p < r → v p = w p) (x : Nat) : cnt v l r x = cnt w l r x := cnt_congr x (fun p h1 h2 => by rw [h p h1 h2])
theorem md_cg {v w : Nat → Nat} {l r t : Nat} (h : ∀ p, l ≤ p → p < r → v p = w p) (hv : ∀ i, i < r → v i < 1000) (hlr : l < r) : md v l r t = md w l r t := by
  obtain ⟨m1, m2, m3⟩ := md_spec2 (t := t) hv hlr
  refine md_uniq m1 (by rw [← cnt_cg h]; exact m2) (fun y hy py hne => ?_)
  rw [← cnt_cg h] at py
  have h3 := m3 y hy py hne
  unfold ahd tieA at h3 ⊢
  rw [← cnt_cg h, ← cnt_cg h, ← fsP_cg h m2, ← fsP_cg h py, ← lsP_cg h m2, ← lsP_cg h py]
  exact h3
theorem notFR {b n0 n q : Nat} {v0 v : Nat → Nat} (hb : 0 < b) (hq : b * q < n) (h : ¬ FR b n0 v0 n v q) : bEnd b q n = bEnd b q n0 ∧ b * q < n0 ∧ ∀ p, b * q ≤ p → p < bEnd b q n → v p = v0 p := by
  have hE := bEnd_b hb hq
  have key : ∀ p, b * q ≤ p → p < bEnd b q n → p < n0 ∧ v p = v0 p := fun p h1 h2 => by
    refine ⟨?_, ?_⟩
    · by_cases z : p < n0
      · exact z
      · exact absurd (Or.inr ⟨p, h1, by omega, by omega, Or.inl (by omega)⟩) h
    · by_cases z : v p = v0 p
      · exact z
      · exact absurd (Or.inr ⟨p, h1, by omega, by omega, Or.inr z⟩) h
  have h0 := (key (b * q) (Nat.le_refl _) hE.1).1
  have hf := FRend hb hq key
  have hn : ¬ bEnd b q n < bEnd b q n0 := fun z => h (hf.mpr z)
  have h1 := (key (bEnd b q n - 1) (by omega) (by omega)).1
  refine ⟨?_, h0, fun p a c => (key p a c).2⟩
  have e1 : bEnd b q n0 = if n0 < b * (q + 1) then n0 else b * (q + 1) := rfl
  have e2 := bEnd_le2 (b := b) (j := q) (n := n)
  split at e1 <;> omega
theorem cB_ge {N k : Nat} (h : k ≤ N) : cB (fun j => k ≤ j) N = N - k := by
  induction N with
  | zero => rw [cB_0]; omega
  | succ N ih =>
    by_cases e : k = N + 1
    · rw [cB_none (fun j hj q => by have q : k ≤ j := q; omega)]; omega
    · rw [cB_t (S := fun j => k ≤ j) (show k ≤ N by omega), ih (by omega)]; omega
theorem frs_row {P : Nat → Prop} {N i k : Nat} (hk : k ≤ N) (hik : i ≤ k) (h1 : ∀ j, i ≤ j → j < k → ¬ P j) (h2 : k < N → P k) : cB (fun j => ∃ i1, i ≤ i1 ∧ i1 ≤ j ∧ P i1) N = N - k := by
  rw [cB_congr (T := fun j => k ≤ j), cB_ge hk]
  intro j hj
  constructor
  · rintro ⟨i1, a, c, d⟩
    by_cases z : k ≤ i1
    · omega
    · exact absurd d (h1 i1 a (by omega))
  · intro q
    exact ⟨k, hik, q, h2 (by omega)⟩
def RFM (v : Nat → Nat) (b n t e : Nat) (a0 a : Nat → Int) : Prop := (∀ i j, e ≤ i → i ≤ j → b * j < n → a (60 * i + j) = (md v (b * i) (bEnd b j n) t : Int)) ∧ ∀ i j, i < e → j < 60 → a (60 * i + j) = a0 (60 * i + j)
theorem RFM_0 {v : Nat → Nat} {b n t : Nat} {a0 : Nat → Int} (hb : 2 ≤ b) : RFM v b n t (zdiv (n + b - 1) b) a0 a0 := ⟨fun i j h1 h2 h3 => by
  have := (blk_lt (n := n) (j := j) (show 0 < b by omega)).mpr h3
  omega, fun _ _ _ _ => rfl⟩
theorem RFM_old {v v0 : Nat → Nat} {b n n0 t i j k : Nat} {a0 : Nat → Int} (hb : 2 ≤ b) (hv : ∀ i, i < n → v i < 1000) (hmo : ∀ i j, i ≤ j → b * j < n0 → a0 (60 * i + j) = (md v0 (b * i) (bEnd b j n0) t : Int)) (hn : ∀ q, i ≤ q → q < k → ¬ FR b n0 v0 n v q) (hij : i ≤ j) (hj : b * j < n) (hjk : j < k) : a0 (60 * i + j) = (md v (b * i) (bEnd b j n) t : Int) := by
  have hE := bEnd_b (show 0 < b by omega) hj
  have hij2 := Nat.mul_le_mul_left b hij
  obtain ⟨e1, e2, -⟩ := notFR (by omega) hj (hn j hij hjk)
  rw [hmo i j hij e2, ← e1]
  congr 1
  refine (md_cg (fun p p1 p2 => ?_) (fun i hi => hv i (by omega)) (by omega)).symm
  have hq1 := Nat.div_add_mod p b
  have hq2 := Nat.mod_lt p (show b > 0 by omega)
  have hq3 : i ≤ p / b := by
    by_cases z : i ≤ p / b
    · exact z
    · have h5 : b * (p / b + 1) ≤ b * i := Nat.mul_le_mul_left b (show p / b + 1 ≤ i by omega)
      have h6 : b * (p / b + 1) = b * (p / b) + b := Nat.mul_succ _ _
      omega
  have hq4 : p / b ≤ j := by
    by_cases z : p / b ≤ j
    · exact z
    · have h5 : b * (j + 1) ≤ b * (p / b) := Nat.mul_le_mul_left b (show j + 1 ≤ p / b by omega)
      have h6 := bEnd_le2 (b := b) (j := j) (n := n)
      omega
  have hq5 : b * (p / b) < n := by omega
  have hE2 := bEnd_b (show 0 < b by omega) hq5
  have e3 := (notFR (by omega) hq5 (hn (p / b) hq3 (by omega))).2.2
  refine e3 p (by omega) ?_
  have h6 : b * (p / b + 1) = b * (p / b) + b := Nat.mul_succ _ _
  unfold bEnd
  split <;> omega
theorem RFM_n {v v0 : Nat → Nat} {b n n0 t e k : Nat} {a0 a : Nat → Int} (hb : 2 ≤ b) (hv : ∀ i, i < n → v i < 1000) (hB : zdiv (n + b - 1) b ≤ 60) (hmo : ∀ i j, i ≤ j → b * j < n0 → a0 (60 * i + j) = (md v0 (b * i) (bEnd b j n0) t : Int)) (h : RFM v b n t e a0 a) (he : 1 ≤ e) (hk : zdiv (n + b - 1) b ≤ k) (hn : ∀ q, e - 1 ≤ q → q < k → ¬ FR b n0 v0 n v q) : RFM v b n t (e - 1) a0 a := by
  refine ⟨fun i j h1 h2 h3 => ?_, fun i j h1 h2 => h.2 i j (by omega) h2⟩
  have hj := (blk_lt (n := n) (j := j) (show 0 < b by omega)).mpr h3
  by_cases z : i = e - 1
  · rw [h.2 i j (by omega) (by omega)]
    exact RFM_old hb hv hmo (fun q q1 q2 => hn q (by omega) q2) h2 h3 (by omega)
  · exact h.1 i j (by omega) h2 h3
theorem RFM_l {v v0 : Nat → Nat} {b n n0 t e k : Nat} {a0 a a2 : Nat → Int} (hb : 2 ≤ b) (hv : ∀ i, i < n → v i < 1000) (hB : zdiv (n + b - 1) b ≤ 60) (hmo : ∀ i j, i ≤ j → b * j < n0 → a0 (60 * i + j) = (md v0 (b * i) (bEnd b j n0) t : Int)) (h : RFM v b n t e a0 a) (he : 1 ≤ e) (hk : k < zdiv (n + b - 1) b) (hke : e - 1 ≤ k) (hn : ∀ q, e - 1 ≤ q → q < k → ¬ FR b n0 v0 n v q) (hm : MOL v b n t (e - 1) k (zdiv (n + b - 1) b) a a2) : RFM v b n t (e - 1) a0 a2 := by
  refine ⟨fun i j h1 h2 h3 => ?_, fun i j h1 h2 => ?_⟩
  · have hj := (blk_lt (n := n) (j := j) (show 0 < b by omega)).mpr h3
    by_cases z : i = e - 1
    · subst z
      by_cases y : k ≤ j
      · exact hm.1 j y hj h3
      · rw [hm.2 _ (Or.inl (by omega)), h.2 _ j (by omega) (by omega)]
        exact RFM_old hb hv hmo hn h2 h3 (by omega)
    · rw [hm.2 _ (Or.inr (by omega))]
      exact h.1 i j (by omega) h2 h3
  · rw [hm.2 _ (Or.inl (by omega))]
    exact h.2 i j (by omega) h2
theorem frs_le {b n n2 : Nat} {v v2 : Nat → Nat} (hb : 2 ≤ b) (hn : n2 ≤ 120) : frs b n v n2 v2 ≤ 14400 := by
  have h := blk_le hb hn
  exact Nat.le_trans (sm_b (M := 120) (fun p => Nat.le_trans (cB_le _ _) h)) (Nat.mul_le_mul_right _ h)
theorem PlC_cg {v w f : Nat → Nat} {n y m : Nat} (h : PlC n v y m f) (e : ∀ p, p < n → v p = w p) : PlC n w y m f := by
  refine ⟨by rw [h.1]; exact cnt_cg (fun p _ hp => e p hp) y, fun j hj => ?_⟩
  obtain ⟨a, b, c⟩ := h.2 j hj
  exact ⟨a, by rw [← e _ a]; exact b, by rw [← cnt_cg (v := v) (w := w) (fun p _ hp => e p (by omega)) y]; exact c⟩
