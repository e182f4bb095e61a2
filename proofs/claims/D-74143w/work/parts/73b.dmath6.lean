/-! the mode as a span grows; two spans together; blocks that are other -/
set_option maxRecDepth 100000
theorem ahd_ext {v : Nat → Nat} {L p t x z : Nat} (hL : L ≤ p) (hx : x ≠ v p) (hz : z ≠ v p) (px : 0 < cnt v L p x) (pz : 0 < cnt v L p z) : ahd v L (p + 1) t x z ↔ ahd v L p t x z := by
  have e1 : ∀ y, y ≠ v p → cnt v L (p + 1) y = cnt v L p y := fun y hy => by rw [cnt_succ v y hL, if_neg (fun q => hy q.symm)]; omega
  unfold ahd tieA
  rw [e1 x hx, e1 z hz, fsP_succ_pos px, fsP_succ_pos pz, lsP_succ_ne (fun q => hx q.symm), lsP_succ_ne (fun q => hz q.symm)]
theorem md_ext {v : Nat → Nat} {L p t : Nat} (hv : ∀ i, i < p + 1 → v i < 1000) (hL : L < p) : (ahd v L (p + 1) t (v p) (md v L p t) → md v L (p + 1) t = v p) ∧ (¬ ahd v L (p + 1) t (v p) (md v L p t) → md v L (p + 1) t = md v L p t) := by
  obtain ⟨m1, m2, m3⟩ := md_spec2 (t := t) (show ∀ i, i < p → v i < 1000 from fun i hi => hv i (by omega)) hL
  have hvp := hv p (by omega)
  have hc : ∀ y, cnt v L (p + 1) y = cnt v L p y + if v p = y then 1 else 0 := fun y => cnt_succ v y (by omega)
  have pv : 0 < cnt v L (p + 1) (v p) := by rw [hc, if_pos rfl]; omega
  have pm : 0 < cnt v L (p + 1) (md v L p t) := by rw [hc]; omega
  have tr : ∀ z, z < 1000 → 0 < cnt v L (p + 1) z → z ≠ v p → z ≠ md v L p t → md v L p t ≠ v p → ahd v L (p + 1) t (md v L p t) z := by
    intro z hz pz hzv hzm hmv
    rw [hc, if_neg (fun q => hzv q.symm)] at pz
    exact (ahd_ext (by omega) hmv hzv m2 (by omega)).mpr (m3 z hz (by omega) hzm)
  constructor
  · intro ha
    refine (md_uniq hvp pv (fun z hz pz hzv => ?_)).symm
    by_cases e : z = md v L p t
    · rw [e]; exact ha
    · have hmv : md v L p t ≠ v p := fun q => by rw [q] at ha; exact ahd_irr ha
      exact ahd_trans ha (tr z hz pz hzv e hmv)
  · intro ha
    refine (md_uniq m1 pm (fun z hz pz hzm => ?_)).symm
    by_cases e : z = v p
    · rw [e] at hzm ⊢
      exact (ahd_tot pm pv (fun q => hzm q.symm)).resolve_right ha
    · by_cases e2 : md v L p t = v p
      · have h3 := m3 z hz (by rw [hc, if_neg (fun q => e q.symm)] at pz; omega) hzm
        refine Or.inl ?_
        rw [hc, hc, if_neg (fun q => e q.symm), if_pos e2.symm]
        rcases h3 with q | ⟨q, _⟩ <;> omega
      · exact tr z hz pz e hzm e2
theorem md_1 {v : Nat → Nat} {t l : Nat} (hv : v l < 1000) : md v l (l + 1) t = v l := md_one hv
/-- the mode of a span as far as it is gone through -/
def LPI (v : Nat → Nat) (L t p : Nat) (be : Int) : Prop := (p = L ∧ be = -1) ∨ (L < p ∧ be = (md v L p t : Int))
theorem LPI_0 {v : Nat → Nat} {L t : Nat} : LPI v L t L (-1) := Or.inl ⟨rfl, rfl⟩
theorem LPI_1 {v : Nat → Nat} {L t p : Nat} {be : Int} (h : LPI v L t p be) (hb : be = -1) (hv : v p < 1000) : LPI v L t (p + 1) (v p : Int) := by
  rcases h with ⟨rfl, _⟩ | ⟨_, h2⟩
  · exact Or.inr ⟨Nat.lt_succ_self _, by rw [md_1 hv]⟩
  · omega
theorem LPI_get {v : Nat → Nat} {L t p : Nat} {be : Int} (h : LPI v L t p be) (hb : ¬ be = -1) : L < p ∧ be = (md v L p t : Int) := h.elim (fun q => absurd q.2 hb) (fun q => q)
theorem LPI_b {v : Nat → Nat} {L t p : Nat} {be : Int} (h : LPI v L t p be) : -1 ≤ be ∧ be < 1000 ∧ L ≤ p := by
  rcases h with ⟨h1, h2⟩ | ⟨h1, h2⟩
  · omega
  · have := md_lt_1000 v L p t; omega
theorem LPI_2 {v : Nat → Nat} {L t p : Nat} (hL : L < p) (hv : ∀ i, i < p + 1 → v i < 1000) (ha : ahd v L (p + 1) t (v p) (md v L p t)) : LPI v L t (p + 1) (v p : Int) := Or.inr ⟨by omega, by rw [(md_ext hv hL).1 ha]⟩
theorem LPI_3 {v : Nat → Nat} {L t p : Nat} (hL : L < p) (hv : ∀ i, i < p + 1 → v i < 1000) (ha : ¬ ahd v L (p + 1) t (v p) (md v L p t)) : LPI v L t (p + 1) (md v L p t : Int) := Or.inr ⟨by omega, by rw [(md_ext hv hL).2 ha]⟩
/-- what laysPairs has laid up to block j -/
def MOL (v : Nat → Nat) (b n t i f j : Nat) (a0 a : Nat → Int) : Prop := (∀ q, f ≤ q → q < j → b * q < n → a (60 * i + q) = (md v (b * i) (bEnd b q n) t : Int)) ∧ ∀ x, (x < 60 * i + f ∨ 60 * i + j ≤ x) → a x = a0 x
theorem MOL_0 {v : Nat → Nat} {b n t i f j : Nat} {a0 : Nat → Int} (h : j ≤ f) : MOL v b n t i f j a0 a0 := ⟨fun q h1 h2 => by omega, fun _ _ => rfl⟩
theorem MOL_s {v : Nat → Nat} {b n t i f j : Nat} {a0 a : Nat → Int} {x : Int} (h : MOL v b n t i f j a0 a) (hf : f ≤ j) (hx : x = (md v (b * i) (bEnd b j n) t : Int)) : MOL v b n t i f (j + 1) a0 (va_up a (60 * i + j) x) := by
  refine ⟨fun q h1 h2 h3 => ?_, fun y hy => ?_⟩
  · by_cases e : q = j
    · subst e; rw [va_up_self]; exact hx
    · rw [va_up_ne _ _ (by omega)]; exact h.1 q h1 (by omega) h3
  · rw [va_up_ne _ _ (by omega)]; exact h.2 y (by omega)
theorem MOL_n {v : Nat → Nat} {b n t i f j : Nat} {a0 a : Nat → Int} (h : MOL v b n t i f j a0 a) (hf : j < f) : MOL v b n t i f (j + 1) a0 a :=
  ⟨fun q h1 h2 => by omega, fun x hx => h.2 x (by omega)⟩
theorem tga_s {v : Nat → Nat} {l j : Nat} {a : Nat → Int} (h : ∀ i, i < j → a i = ((tgA v l j).1 i : Int)) : ∀ i, i < j + 1 → va_up a j (v (l + j) : Int) i = ((tgA v l (j + 1)).1 i : Int) := fun i hi => by
  by_cases e : i = j
  · subst e; rw [va_up_self, tgA_at]
  · rw [va_up_ne _ _ e, tgA_lt (by omega)]; exact h i (by omega)
theorem tgb_s {v : Nat → Nat} {l R m k : Nat} {a : Nat → Int} (h : ∀ p, p < (tgB v l R m k).2 → a p = ((tgB v l R m k).1 p : Int)) (hk : ¬ (l ≤ m + k ∧ m + k < R)) : ∀ p, p < (tgB v l R m (k + 1)).2 → va_up a (tgB v l R m k).2 (v (m + k) : Int) p = ((tgB v l R m (k + 1)).1 p : Int) := fun p hp => by
  rw [tgB_out hk] at hp ⊢
  have hp : p < (tgB v l R m k).2 + 1 := hp
  show _ = ((va_up (tgB v l R m k).1 (tgB v l R m k).2 (v (m + k)) p : Nat) : Int)
  by_cases e : p = (tgB v l R m k).2
  · rw [e, va_up_self, va_up_self]
  · rw [va_up_ne _ _ e, va_up_ne _ _ e]; exact h p (by omega)
theorem tgb_k {v : Nat → Nat} {l R m k : Nat} {a : Nat → Int} (h : ∀ p, p < (tgB v l R m k).2 → a p = ((tgB v l R m k).1 p : Int)) (hk : l ≤ m + k ∧ m + k < R) : ∀ p, p < (tgB v l R m (k + 1)).2 → a p = ((tgB v l R m (k + 1)).1 p : Int) := fun p hp => by
  rw [tgB_in hk] at hp ⊢; exact h p hp
theorem FRend {b n0 n i : Nat} {v0 v : Nat → Nat} (hb : 0 < b) (hi : b * i < n) (h : ∀ q, b * i ≤ q → q < bEnd b i n → q < n0 ∧ v q = v0 q) : FR b n0 v0 n v i ↔ bEnd b i n < bEnd b i n0 := by
  have h0 := bEnd_b hb hi
  have h1 := (h (b * i) (Nat.le_refl _) h0.1).1
  have p1 := plc_end (b := b) (Nat.le_of_lt hi)
  have p2 := plc_end (b := b) (Nat.le_of_lt h1)
  have p3 := (h (bEnd b i n - 1) (by omega) (by omega)).1
  unfold FR
  constructor
  · rintro (q | ⟨p, q1, q2, q3, q4⟩)
    · omega
    · have e : p < bEnd b i n := by
        have := Nat.mul_succ b i
        unfold bEnd
        split <;> omega
      obtain ⟨a1, a2⟩ := h p q1 e
      rcases q4 with q4 | q4
      · omega
      · exact absurd a2 q4
  · intro q
    exact Or.inl (by omega)
