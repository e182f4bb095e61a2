/-! PLAIN LAWS: a span's values, each once; ranks; the mode -/
def EN (w : Nat → Nat) (l r k : Nat) (u : Nat → Nat) : Prop := k ≤ r - l ∧ (∀ j, j < k → u j < 1000 ∧ 0 < cnt w l r (u j)) ∧ (∀ i j, i < k → j < k → u i = u j → i = j) ∧ ∀ x, x < 1000 → 0 < cnt w l r x → ∃ j, j < k ∧ u j = x
noncomputable def rk (w : Nat → Nat) (l r t x : Nat) : Nat := cB (fun y => 0 < cnt w l r y ∧ ahd w l r t y x) 1000
noncomputable def dst (w : Nat → Nat) (l r : Nat) : Nat := cB (fun y => 0 < cnt w l r y) 1000
theorem EN_dst {w : Nat → Nat} {l r k : Nat} {u : Nat → Nat} (h : EN w l r k u) : k = dst w l r := by
  have := cB_enum (P := fun _ => True) (M := 1000) u k (fun x => 0 < cnt w l r x) h.2.1 h.2.2.1 h.2.2.2
  rw [cB_all (fun _ _ => trivial)] at this
  rw [this]
  exact cB_congr (fun j _ => ⟨fun h => h.1, fun h => ⟨h, trivial⟩⟩)
theorem EN_rk {w : Nat → Nat} {l r k t x : Nat} {u : Nat → Nat} (h : EN w l r k u) : cB (fun j => ahd w l r t (u j) x) k = rk w l r t x :=
  cB_enum (P := fun y => ahd w l r t y x) (M := 1000) u k (fun x => 0 < cnt w l r x) h.2.1 h.2.2.1 h.2.2.2
theorem rk_lt {w : Nat → Nat} {l r t x y : Nat} (hx : x < 1000) (px : 0 < cnt w l r x) (h : ahd w l r t x y) : rk w l r t x < rk w l r t y := by
  unfold rk
  rw [cB_one (S := fun z => 0 < cnt w l r z ∧ ahd w l r t z y) (T := fun z => (0 < cnt w l r z ∧ ahd w l r t z y) ∧ z ≠ x) hx ⟨px, h⟩ (fun q => q.2 rfl) (fun j hj => ⟨fun q => ⟨q, hj⟩, fun q => q.1⟩)]
  refine Nat.lt_succ_of_le (cB_mono (fun j _ q => ⟨⟨q.1, ahd_trans q.2 h⟩, fun e => ?_⟩))
  subst e
  exact ahd_irr q.2
theorem rk_inj {w : Nat → Nat} {l r t x y : Nat} (hx : x < 1000) (hy : y < 1000) (px : 0 < cnt w l r x) (py : 0 < cnt w l r y) (h : rk w l r t x = rk w l r t y) : x = y := by
  by_cases e : x = y
  · exact e
  · rcases ahd_tot (t := t) px py e with q | q
    · have := rk_lt hx px q; omega
    · have := rk_lt hy py q; omega
theorem rk_lt_dst {w : Nat → Nat} {l r t x : Nat} (hx : x < 1000) (px : 0 < cnt w l r x) : rk w l r t x < dst w l r := by
  unfold rk dst
  rw [cB_one (S := fun z => 0 < cnt w l r z) (T := fun z => 0 < cnt w l r z ∧ z ≠ x) hx px (fun q => q.2 rfl) (fun j hj => ⟨fun q => ⟨q, hj⟩, fun q => q.1⟩)]
  refine Nat.lt_succ_of_le (cB_mono (fun j _ q => ⟨q.1, fun e => ?_⟩))
  subst e
  exact ahd_irr q.2
theorem rk_surj {w : Nat → Nat} {l r k t : Nat} {u : Nat → Nat} (h : EN w l r k u) {i : Nat} (hi : i < k) : ∃ j, j < k ∧ rk w l r t (u j) = i := by
  refine pigeon k (fun j => rk w l r t (u j)) (fun j hj => ?_) (fun i j hi hj e => ?_) i hi
  · have h1 := h.2.1 j hj
    have := rk_lt_dst (t := t) h1.1 h1.2
    have := EN_dst h
    omega
  · have h1 := h.2.1 i hi
    have h2 := h.2.1 j hj
    exact h.2.2.1 i j hi hj (rk_inj h1.1 h2.1 h1.2 h2.2 e)
noncomputable def ofR (w : Nat → Nat) (l r t i : Nat) : Nat := @dite Nat (∃ x, x < 1000 ∧ 0 < cnt w l r x ∧ rk w l r t x = i) (Classical.propDecidable _) (fun h => Classical.choose h) (fun _ => 0)
theorem ofR_uniq {w : Nat → Nat} {l r t x : Nat} (hx : x < 1000) (px : 0 < cnt w l r x) : ofR w l r t (rk w l r t x) = x := by
  have h : ∃ y, y < 1000 ∧ 0 < cnt w l r y ∧ rk w l r t y = rk w l r t x := ⟨x, hx, px, rfl⟩
  unfold ofR
  rw [dif_pos h]
  have h2 := Classical.choose_spec h
  exact rk_inj h2.1 hx h2.2.1 px h2.2.2
theorem ofR_spec {w : Nat → Nat} {l r k t i : Nat} {u : Nat → Nat} (h : EN w l r k u) (hi : i < k) : ofR w l r t i < 1000 ∧ 0 < cnt w l r (ofR w l r t i) ∧ rk w l r t (ofR w l r t i) = i := by
  obtain ⟨j, hj, e⟩ := rk_surj (t := t) h hi
  have h1 := h.2.1 j hj
  have := ofR_uniq (t := t) h1.1 h1.2
  rw [e] at this
  rw [this]
  exact ⟨h1.1, h1.2, e⟩
noncomputable def md (w : Nat → Nat) (l r t : Nat) : Nat := ofR w l r t 0
theorem md_uniq {w : Nat → Nat} {l r t x : Nat} (hx : x < 1000) (px : 0 < cnt w l r x) (h : ∀ y, y < 1000 → 0 < cnt w l r y → y ≠ x → ahd w l r t x y) : x = md w l r t := by
  have e : rk w l r t x = 0 := by
    refine cB_none (fun y hy q => ?_)
    by_cases e : y = x
    · subst e; exact ahd_irr q.2
    · exact ahd_asym q.2 (h y hy q.1 e)
  have := ofR_uniq (t := t) hx px
  rw [e] at this
  exact this.symm
theorem md_spec {w : Nat → Nat} {l r k t : Nat} {u : Nat → Nat} (h : EN w l r k u) (hk : 0 < k) : md w l r t < 1000 ∧ 0 < cnt w l r (md w l r t) ∧ ∀ y, y < 1000 → 0 < cnt w l r y → y ≠ md w l r t → ahd w l r t (md w l r t) y := by
  obtain ⟨h1, h2, h3⟩ := ofR_spec (t := t) h hk
  refine ⟨h1, h2, fun y hy py hne => ?_⟩
  rcases ahd_tot (t := t) h2 py (fun e => hne e.symm) with q | q
  · exact q
  · have := rk_lt hy py q
    rw [h3] at this
    omega
theorem EN_md {w : Nat → Nat} {l r k t m : Nat} {u : Nat → Nat} (h : EN w l r k u) (hm : ∃ j, j < k ∧ u j = m) (ha : ∀ j, j < k → u j ≠ m → ahd w l r t m (u j)) : m = md w l r t := by
  obtain ⟨j, hj, rfl⟩ := hm
  have h1 := h.2.1 j hj
  refine md_uniq h1.1 h1.2 (fun y hy py hne => ?_)
  obtain ⟨i, hi, rfl⟩ := h.2.2.2 y hy py
  exact ha i hi hne
/-! what 'counts' leaves: how often, where first, where last, all values -/
def CO (w : Nat → Nat) (l r : Nat) (o : Nat → Nat) (fo la : Nat → Int) (k : Nat) (u : Nat → Nat) : Prop :=
  (∀ x, x < 1000 → o x = cnt w l r x) ∧ (∀ x, x < 1000 → 0 < cnt w l r x → fo x = (fsP w l x r : Int) ∧ la x = (lsP w x r : Int)) ∧ EN w l r k u
theorem CO_0 {w : Nat → Nat} {l r : Nat} {o : Nat → Nat} {fo la : Nat → Int} {u : Nat → Nat} (hl : r ≤ l) (h : ∀ x, x < 1000 → o x = 0) : CO w l r o fo la 0 u := by
  refine ⟨fun x hx => by rw [h x hx, cnt_0 w hl], fun x _ hp => ?_, Nat.zero_le _, fun j hj => by omega, fun i j hi => by omega, fun x _ hp => ?_⟩
  · rw [cnt_0 w hl] at hp; omega
  · rw [cnt_0 w hl] at hp; omega
theorem fsP_succ_pos {w : Nat → Nat} {a b x : Nat} (h : 0 < cnt w a b x) : fsP w a x (b + 1) = fsP w a x b := by
  have : ¬ cnt w a b x = 0 := by omega
  simp [fsP, this]
theorem fsP_succ_0 {w : Nat → Nat} {a b x : Nat} (h : cnt w a b x = 0) : fsP w a x (b + 1) = b := by simp [fsP, h]
theorem lsP_succ_eq {w : Nat → Nat} {b x : Nat} (h : w b = x) : lsP w x (b + 1) = b := by simp [lsP, h]
theorem lsP_succ_ne {w : Nat → Nat} {b x : Nat} (h : w b ≠ x) : lsP w x (b + 1) = lsP w x b := by simp [lsP, h]
theorem CO_new {w : Nat → Nat} {l r x : Nat} {o : Nat → Nat} {fo la : Nat → Int} {k : Nat} {u : Nat → Nat} (hl : l ≤ r) (h : CO w l r o fo la k u) (hx : w r = x) (hx1 : x < 1000) (ho : o x = 0) : CO w l (r + 1) (va_up o x (o x + 1)) (va_up fo x r) (va_up la x r) (k + 1) (va_up u k x) := by
  obtain ⟨h1, h2, h3, h4, h5, h6⟩ := h
  have h0 : cnt w l r x = 0 := by rw [← h1 x hx1]; exact ho
  have hc : ∀ y, cnt w l (r + 1) y = cnt w l r y + if w r = y then 1 else 0 := fun y => cnt_succ w y hl
  refine ⟨fun y hy => ?_, fun y hy hp => ?_, by omega, fun j hj => ?_, fun i j hi hj e => ?_, fun y hy hp => ?_⟩
  · rw [hc]
    by_cases e : y = x
    · subst e; rw [va_up_self, h0, ho, if_pos hx]
    · rw [va_up_ne _ _ e, h1 y hy, if_neg (fun q => e (q.symm.trans hx))]; rfl
  · by_cases e : y = x
    · subst e
      rw [va_up_self, va_up_self, fsP_succ_0 h0, lsP_succ_eq hx]
      exact ⟨rfl, rfl⟩
    · have hw : w r ≠ y := fun q => e (q.symm.trans hx)
      have hp' : 0 < cnt w l r y := by rw [hc, if_neg hw] at hp; exact hp
      rw [va_up_ne _ _ e, va_up_ne _ _ e, fsP_succ_pos hp', lsP_succ_ne hw]
      exact h2 y hy hp'
  · by_cases e : j = k
    · subst e; rw [va_up_self]
      exact ⟨hx1, by rw [hc, if_pos hx]; omega⟩
    · rw [va_up_ne _ _ e]
      have := h4 j (by omega)
      exact ⟨this.1, by rw [hc]; omega⟩
  · by_cases ei : i = k <;> by_cases ej : j = k
    · omega
    · subst ei; rw [va_up_self, va_up_ne _ _ ej] at e
      have := h4 j (by omega); rw [← e, h0] at this; omega
    · subst ej; rw [va_up_self, va_up_ne _ _ ei] at e
      have := h4 i (by omega); rw [e, h0] at this; omega
    · rw [va_up_ne _ _ ei, va_up_ne _ _ ej] at e
      exact h5 i j (by omega) (by omega) e
  · by_cases e : y = x
    · subst e; exact ⟨k, by omega, va_up_self _ _ _⟩
    · have hw : w r ≠ y := fun q => e (q.symm.trans hx)
      rw [hc, if_neg hw] at hp
      obtain ⟨j, hj, e2⟩ := h6 y hy hp
      exact ⟨j, by omega, by rw [va_up_ne _ _ (by omega)]; exact e2⟩
theorem CO_old {w : Nat → Nat} {l r x : Nat} {o : Nat → Nat} {fo la : Nat → Int} {k : Nat} {u : Nat → Nat} (hl : l ≤ r) (h : CO w l r o fo la k u) (hx : w r = x) (hx1 : x < 1000) (ho : ¬ o x = 0) : CO w l (r + 1) (va_up o x (o x + 1)) fo (va_up la x r) k u := by
  obtain ⟨h1, h2, h3, h4, h5, h6⟩ := h
  have h0 : 0 < cnt w l r x := by rw [← h1 x hx1]; omega
  have hc : ∀ y, cnt w l (r + 1) y = cnt w l r y + if w r = y then 1 else 0 := fun y => cnt_succ w y hl
  refine ⟨fun y hy => ?_, fun y hy hp => ?_, by omega, fun j hj => ?_, h5, fun y hy hp => ?_⟩
  · rw [hc]
    by_cases e : y = x
    · subst e; rw [va_up_self, h1 y hy, if_pos hx]
    · rw [va_up_ne _ _ e, h1 y hy, if_neg (fun q => e (q.symm.trans hx))]; rfl
  · by_cases e : y = x
    · subst e
      rw [va_up_self, fsP_succ_pos h0, lsP_succ_eq hx]
      exact ⟨(h2 y hy h0).1, rfl⟩
    · have hw : w r ≠ y := fun q => e (q.symm.trans hx)
      have hp' : 0 < cnt w l r y := by rw [hc, if_neg hw] at hp; exact hp
      rw [va_up_ne _ _ e, fsP_succ_pos hp', lsP_succ_ne hw]
      exact h2 y hy hp'
  · have := h4 j hj
    exact ⟨this.1, by rw [hc]; omega⟩
  · by_cases hy0 : 0 < cnt w l r y
    · exact h6 y hy hy0
    · rw [hc] at hp
      have hw : w r = y := by
        by_cases q : w r = y
        · exact q
        · rw [if_neg q] at hp; omega
      exact h6 y hy (by rw [← hw, hx]; exact h0)
/-- a place that holds no value -/
theorem CO_skip {w : Nat → Nat} {l r : Nat} {o : Nat → Nat} {fo la : Nat → Int} {k : Nat} {u : Nat → Nat} (hl : l ≤ r) (h : CO w l r o fo la k u) (hx : 1000 ≤ w r) : CO w l (r + 1) o fo la k u := by
  obtain ⟨h1, h2, h3, h4, h5, h6⟩ := h
  have hc : ∀ y, y < 1000 → cnt w l (r + 1) y = cnt w l r y := fun y hy => by rw [cnt_succ w y hl, if_neg (by omega)]; rfl
  refine ⟨fun y hy => by rw [hc y hy, h1 y hy], fun y hy hp => ?_, by omega, fun j hj => ?_, h5, fun y hy hp => ?_⟩
  · rw [hc y hy] at hp
    rw [fsP_succ_pos hp, lsP_succ_ne (by omega)]
    exact h2 y hy hp
  · have := h4 j hj
    exact ⟨this.1, by rw [hc _ this.1]; exact this.2⟩
  · rw [hc y hy] at hp
    exact h6 y hy hp
theorem CO_kpos {w : Nat → Nat} {l r : Nat} {o : Nat → Nat} {fo la : Nat → Int} {k : Nat} {u : Nat → Nat} (h : CO w l r o fo la k u) {p : Nat} (h1 : l ≤ p) (h2 : p < r) (h3 : w p < 1000) : 0 < k := by
  obtain ⟨j, hj, -⟩ := h.2.2.2.2.2 (w p) h3 (cnt_in h1 h2)
  omega
theorem CO_ahd {w : Nat → Nat} {l r : Nat} {o : Nat → Nat} {fo la : Nat → Int} {k t x y : Nat} {u : Nat → Nat} (h : CO w l r o fo la k u) (hx : x < 1000) (hy : y < 1000) (px : 0 < cnt w l r x) (py : 0 < cnt w l r y) : ahd w l r t x y ↔ (o y < o x ∨ (o x = o y ∧ (if t = 0 then fo x < fo y else if t = 1 then la y < la x else if t = 2 then x < y else y < x))) := by
  unfold ahd tieA
  rw [h.1 x hx, h.1 y hy, (h.2.1 x hx px).1, (h.2.1 y hy py).1, (h.2.1 x hx px).2, (h.2.1 y hy py).2]
  simp only [Int.ofNat_lt]
theorem z0_up {a : Nat → Int} {i : Nat} (h : ∀ j, j < i → a j = 0) : ∀ j, j < i + 1 → va_up a i 0 j = 0 := fun j hj => by
  by_cases e : j = i
  · subst e; exact va_up_self _ _ _
  · rw [va_up_ne _ _ e]; exact h j (by omega)
theorem ofR_hit {w : Nat → Nat} {l r k t j : Nat} {u : Nat → Nat} {i0 : Int} (h : EN w l r k u) (hj : j < k) (e : (rk w l r t (u j) : Int) = i0) : (0 ≤ i0 ∧ i0 < k ∧ ((u j : Nat) : Int) = (ofR w l r t i0.toNat : Int)) ∨ (¬ (0 ≤ i0 ∧ i0 < k) ∧ ((u j : Nat) : Int) = -1) := by
  have h1 := h.2.1 j hj
  have h2 := rk_lt_dst (t := t) h1.1 h1.2
  have h3 := EN_dst h
  have h4 := ofR_uniq (t := t) h1.1 h1.2
  subst e
  refine Or.inl ⟨by omega, by omega, ?_⟩
  rw [Int.toNat_natCast, h4]
theorem ofR_miss {w : Nat → Nat} {l r k t : Nat} {u : Nat → Nat} {i0 : Int} (h : EN w l r k u) (e : ∀ j, j < k → (rk w l r t (u j) : Int) ≠ i0) : (0 ≤ i0 ∧ i0 < k ∧ (-1 : Int) = (ofR w l r t i0.toNat : Int)) ∨ (¬ (0 ≤ i0 ∧ i0 < k) ∧ (-1 : Int) = -1) := by
  refine Or.inr ⟨fun q => ?_, rfl⟩
  obtain ⟨j, hj, ej⟩ := rk_surj (t := t) h (i := i0.toNat) (by omega)
  exact e j hj (by omega)
theorem mb_get {w : Nat → Nat} {l r t i : Nat} {u : Nat → Nat} {b : Int} (h : (i = 0 ∧ b = -1) ∨ ∃ j, j < i ∧ b = (u j : Int) ∧ ∀ j1, j1 < i → u j1 ≠ u j → ahd w l r t (u j) (u j1)) (hb : ¬ b = -1) : ∃ j, j < i ∧ b = (u j : Int) ∧ ∀ j1, j1 < i → u j1 ≠ u j → ahd w l r t (u j) (u j1) := h.elim (fun q => absurd q.2 hb) (fun q => q)
theorem mb_1 {w : Nat → Nat} {l r t i : Nat} {u : Nat → Nat} {b : Int} (h : (i = 0 ∧ b = -1) ∨ ∃ j, j < i ∧ b = (u j : Int) ∧ ∀ j1, j1 < i → u j1 ≠ u j → ahd w l r t (u j) (u j1)) (hb : b = -1) : (i + 1 = 0 ∧ ((u i : Nat) : Int) = -1) ∨ ∃ j, j < i + 1 ∧ ((u i : Nat) : Int) = (u j : Int) ∧ ∀ j1, j1 < i + 1 → u j1 ≠ u j → ahd w l r t (u j) (u j1) := by
  rcases h with ⟨h0, -⟩ | ⟨j, -, h2, -⟩
  · subst h0
    exact Or.inr ⟨0, by omega, rfl, fun j1 hj1 hne => absurd (by rw [show j1 = 0 by omega]) hne⟩
  · omega
theorem mb_2 {w : Nat → Nat} {l r t i jb : Nat} {u : Nat → Nat} (h : ∀ j1, j1 < i → u j1 ≠ u jb → ahd w l r t (u jb) (u j1)) (ha : ahd w l r t (u i) (u jb)) : (i + 1 = 0 ∧ ((u i : Nat) : Int) = -1) ∨ ∃ j, j < i + 1 ∧ ((u i : Nat) : Int) = (u j : Int) ∧ ∀ j1, j1 < i + 1 → u j1 ≠ u j → ahd w l r t (u j) (u j1) := by
  refine Or.inr ⟨i, by omega, rfl, fun j1 hj1 hne => ?_⟩
  have hi : j1 ≠ i := fun e => hne (by rw [e])
  by_cases e : u j1 = u jb
  · rw [e]; exact ha
  · exact ahd_trans ha (h j1 (by omega) e)
theorem mb_3 {w : Nat → Nat} {l r k t i jb : Nat} {u : Nat → Nat} {b : Int} (hE : EN w l r k u) (hi : i < k) (hjb : jb < i) (hb : b = (u jb : Int)) (h : ∀ j1, j1 < i → u j1 ≠ u jb → ahd w l r t (u jb) (u j1)) (ha : ¬ ahd w l r t (u i) (u jb)) : (i + 1 = 0 ∧ b = -1) ∨ ∃ j, j < i + 1 ∧ b = (u j : Int) ∧ ∀ j1, j1 < i + 1 → u j1 ≠ u j → ahd w l r t (u j) (u j1) := by
  refine Or.inr ⟨jb, by omega, hb, fun j1 hj1 hne => ?_⟩
  by_cases e : j1 = i
  · subst e
    have h1 := hE.2.1 j1 hi
    have h2 := hE.2.1 jb (by omega)
    exact (ahd_tot h2.2 h1.2 (fun q => hne q.symm)).elim (fun q => q) (fun q => absurd q ha)
  · exact h j1 (by omega) hne
theorem mb_end {w : Nat → Nat} {l r k t : Nat} {u : Nat → Nat} {b : Int} (hE : EN w l r k u) (h : (k = 0 ∧ b = -1) ∨ ∃ j, j < k ∧ b = (u j : Int) ∧ ∀ j1, j1 < k → u j1 ≠ u j → ahd w l r t (u j) (u j1)) : (k = 0 ∧ b = -1) ∨ (0 < k ∧ b = (md w l r t : Int)) := by
  rcases h with h | ⟨j, h1, h2, h3⟩
  · exact Or.inl h
  · exact Or.inr ⟨by omega, by rw [h2, EN_md hE ⟨j, h1, rfl⟩ h3]⟩
/-- what is told of a value -/
def toldZ (w : Nat → Nat) (l r x : Nat) (q : Int) : Int := if q = 0 then (x : Int) else if q = 1 then (cnt w l r x : Int) else if q = 2 then (fsP w l x r : Int) else (lsP w x r : Int)
theorem cB_it {S : Nat → Prop} {N c : Nat} (h : S N) (e : c = cB S N) : c + 1 = cB S (N + 1) := by rw [cB_t h, e]
theorem cB_if {S : Nat → Prop} {N c : Nat} (h : ¬ S N) (e : c = cB S N) : c = cB S (N + 1) := by rw [cB_f h, e]
theorem md_lt_1000 (w : Nat → Nat) (l r t : Nat) : md w l r t < 1000 := by
  unfold md ofR
  split
  · rename_i h; exact (Classical.choose_spec h).1
  · omega
theorem cnt_up {f mo : Nat → Nat} {i y : Nat} (h : ∀ x, x < 1000 → mo x = cnt f 0 i x) (hy : y < 1000) (hf : f i = y) : ∀ x, x < 1000 → va_up mo y (mo y + 1) x = cnt f 0 (i + 1) x := fun x hx => by
  rw [cnt_succ f x (Nat.zero_le _)]
  by_cases e : x = y
  · subst e; rw [va_up_self, if_pos hf, h x hx]
  · rw [va_up_ne _ _ e, if_neg (fun q => e (q.symm.trans hf)), h x hx]; rfl
