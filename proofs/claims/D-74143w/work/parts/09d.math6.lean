/-! UNDO, SORT, PARTS -/
def Sp_undo (n : Nat) (v wt : Nat → Nat) (b un : Nat) (hm : Nat → Nat) (hv hw : Nat → Nat → Nat) (fr z : Int) (n2 : Nat) (v2 w2 : Nat → Nat) (un2 : Nat) (fr2 : Int) : Prop := if un = 0 then z = -1 ∧ n2 = n ∧ v2 = v ∧ w2 = wt ∧ un2 = 0 ∧ fr2 = fr else z = (un : Int) - 1 ∧ n2 = hm (un - 1) ∧ v2 = hv (un - 1) ∧ w2 = hw (un - 1) ∧ un2 = un - 1 ∧ fr2 = (frs b n v (hm (un - 1)) (hv (un - 1)) : Int)
theorem PAST_less {un un2 : Nat} {pv pw pm : Nat → Int} {hm : Nat → Nat} {hv hw : Nat → Nat → Nat} (h : PAST un pv pw pm hm hv hw) (hu : un2 ≤ un) : PAST un2 pv pw pm hm hv hw := fun k hk => h k (by omega)
theorem und_s {tv pv : Nat → Int} {x : Nat → Nat} {p m i : Nat} (h : ∀ j, j < p → tv j = (x j : Int)) (hp : ∀ p, p < m → pv (i + p) = (x p : Int)) {k : Nat} (hk : k = i + p) (hpm : p < m) : ∀ j, j < p + 1 → va_up tv p (pv k) j = (x j : Int) := fun j hj => by
  by_cases e : j = p
  · rw [e, va_up_self, hk]; exact hp p hpm
  · rw [va_up_ne _ _ e]; exact h j (by omega)
/-- q goes ahead of p in a sort -/
def bef (v : Nat → Nat) (up : Int) (q p : Nat) : Prop := (if up = 0 then v p < v q else v q < v p) ∨ (v q = v p ∧ q < p)
theorem bef_irr {v : Nat → Nat} {up : Int} {p : Nat} : ¬ bef v up p p := by
  unfold bef; split <;> omega
theorem bef_trans {v : Nat → Nat} {up : Int} {p q r : Nat} (h1 : bef v up p q) (h2 : bef v up q r) : bef v up p r := by
  unfold bef at *
  by_cases e : up = 0
  · simp only [e, if_true] at *; omega
  · simp only [e, if_false] at *; omega
theorem bef_tot {v : Nat → Nat} {up : Int} {p q : Nat} (h : p ≠ q) : bef v up p q ∨ bef v up q p := by
  unfold bef
  by_cases e : up = 0
  · simp only [e, if_true]; omega
  · simp only [e, if_false]; omega
noncomputable def sPos (v : Nat → Nat) (up : Int) (l r p : Nat) : Nat := l + cB (fun q => l ≤ q ∧ bef v up q p) (r + 1)
theorem sPos_lt {v : Nat → Nat} {up : Int} {l r p q : Nat} (hp : l ≤ p) (hr : p ≤ r) (h : bef v up p q) : sPos v up l r p < sPos v up l r q := by
  unfold sPos
  rw [cB_one (S := fun z => l ≤ z ∧ bef v up z q) (T := fun z => (l ≤ z ∧ bef v up z q) ∧ z ≠ p) (show p < r + 1 by omega) ⟨hp, h⟩ (fun z => z.2 rfl) (fun j hj => ⟨fun z => ⟨z, hj⟩, fun z => z.1⟩)]
  have : cB (fun z => l ≤ z ∧ bef v up z p) (r + 1) ≤ cB (fun z => (l ≤ z ∧ bef v up z q) ∧ z ≠ p) (r + 1) := cB_mono (fun j _ z => ⟨⟨z.1, bef_trans z.2 h⟩, fun e => by subst e; exact bef_irr z.2⟩)
  omega
theorem sPos_inj {v : Nat → Nat} {up : Int} {l r p q : Nat} (hp : l ≤ p ∧ p ≤ r) (hq : l ≤ q ∧ q ≤ r) (h : sPos v up l r p = sPos v up l r q) : p = q := by
  by_cases e : p = q
  · exact e
  · rcases bef_tot (v := v) (up := up) e with z | z
    · have := sPos_lt hp.1 hp.2 z; omega
    · have := sPos_lt hq.1 hq.2 z; omega
theorem cB_span {S : Nat → Prop} {l : Nat} : ∀ {N : Nat}, (∀ j, S j → l ≤ j) → cB S N ≤ N - l
  | 0, _ => Nat.zero_le _
  | N + 1, h => by
    have ih := cB_span (N := N) h
    by_cases e : S N
    · rw [cB_t e]; have := h N e; omega
    · rw [cB_f e]; omega
theorem sPos_b {v : Nat → Nat} {up : Int} {l r p : Nat} (hp : l ≤ p ∧ p ≤ r) : l ≤ sPos v up l r p ∧ sPos v up l r p ≤ r := by
  unfold sPos
  have h1 := cB_one (S := fun z => l ≤ z ∧ (bef v up z p ∨ z = p)) (T := fun z => l ≤ z ∧ bef v up z p) (N := r + 1) (x := p) (by omega) ⟨hp.1, Or.inr rfl⟩ (fun z => bef_irr z.2) (fun j hj => ⟨fun z => ⟨z.1, z.2.resolve_right hj⟩, fun z => ⟨z.1, Or.inl z.2⟩⟩)
  have h2 := cB_span (S := fun z => l ≤ z ∧ (bef v up z p ∨ z = p)) (l := l) (N := r + 1) (fun j z => z.1)
  omega
theorem sPos_surj {v : Nat → Nat} {up : Int} {l r j : Nat} (hj : l ≤ j ∧ j ≤ r) : ∃ p, (l ≤ p ∧ p ≤ r) ∧ sPos v up l r p = j := by
  obtain ⟨i, hi, e⟩ := pigeon (r + 1 - l) (fun i => sPos v up l r (l + i) - l) (fun i hi => by
      have := sPos_b (v := v) (up := up) (l := l) (r := r) (p := l + i) (by omega); omega) (fun a c ha hc e => by
      have h1 := sPos_b (v := v) (up := up) (l := l) (r := r) (p := l + a) (by omega)
      have h2 := sPos_b (v := v) (up := up) (l := l) (r := r) (p := l + c) (by omega)
      have := sPos_inj (v := v) (up := up) (l := l) (r := r) (p := l + a) (q := l + c) (by omega) (by omega) (by omega)
      omega) (j - l) (by omega)
  have h1 := sPos_b (v := v) (up := up) (l := l) (r := r) (p := l + i) (by omega)
  exact ⟨l + i, by omega, by omega⟩
noncomputable def sInv (v : Nat → Nat) (up : Int) (l r j : Nat) : Nat := @dite Nat (∃ p, (l ≤ p ∧ p ≤ r) ∧ sPos v up l r p = j) (Classical.propDecidable _) (fun h => Classical.choose h) (fun _ => j)
theorem sInv_of {v : Nat → Nat} {up : Int} {l r p : Nat} (hp : l ≤ p ∧ p ≤ r) : sInv v up l r (sPos v up l r p) = p := by
  have h : ∃ q, (l ≤ q ∧ q ≤ r) ∧ sPos v up l r q = sPos v up l r p := ⟨p, hp, rfl⟩
  unfold sInv
  rw [dif_pos h]
  exact sPos_inj (Classical.choose_spec h).1 hp (Classical.choose_spec h).2
noncomputable def srtF (v : Nat → Nat) (up : Int) (l r : Nat) (u : Nat → Nat) : Nat → Nat := fun j => if l ≤ j ∧ j ≤ r then u (sInv v up l r j) else u j
/-- the places ahead of p lie where they go -/
def SRL (v : Nat → Nat) (up : Int) (l r : Nat) (u tv : Nat → Nat) (p : Nat) : Prop := (∀ i, l ≤ i → i < p → tv (sPos v up l r i) = u i) ∧ ∀ j, (j < l ∨ r < j) → tv j = u j
theorem SRL_0 {v : Nat → Nat} {up : Int} {l r : Nat} {u : Nat → Nat} : SRL v up l r u u l := ⟨fun i h1 h2 => by omega, fun _ _ => rfl⟩
theorem SRL_s {v : Nat → Nat} {up : Int} {l r p a : Nat} {u tv : Nat → Nat} (h : SRL v up l r u tv p) (hp : l ≤ p ∧ p ≤ r) (ha : a = sPos v up l r p) : SRL v up l r u (va_up tv a (u p)) (p + 1) := by
  subst ha
  have hb := sPos_b (v := v) (up := up) hp
  refine ⟨fun i h1 h2 => ?_, fun j hj => ?_⟩
  · by_cases e : i = p
    · rw [e, va_up_self]
    · have hne : sPos v up l r i ≠ sPos v up l r p := fun q => e (sPos_inj (by omega) hp q)
      rw [va_up_ne _ _ hne]; exact h.1 i h1 (by omega)
  · rw [va_up_ne _ _ (by omega)]; exact h.2 j hj
theorem SRL_e {v : Nat → Nat} {up : Int} {l r p : Nat} {u tv : Nat → Nat} (h : SRL v up l r u tv p) (hp : p = r + 1) : ∀ j, tv j = srtF v up l r u j := fun j => by
  unfold srtF
  by_cases e : l ≤ j ∧ j ≤ r
  · rw [if_pos e]
    obtain ⟨q, hq, eq⟩ := sPos_surj (v := v) (up := up) e
    rw [← eq, sInv_of hq]
    exact h.1 q hq.1 (by omega)
  · rw [if_neg e]; exact h.2 j (by omega)
theorem srtF_old {P : Nat → Prop} {v u : Nat → Nat} {up : Int} {n l r : Nat} (h : ∀ i, i < n → P (u i)) (hr : r < n) : ∀ j, j < n → P (srtF v up l r u j) := from_old h (fun j hj => by
  unfold srtF
  by_cases e : l ≤ j ∧ j ≤ r
  · rw [if_pos e]
    obtain ⟨q, hq, eq⟩ := sPos_surj (v := v) (up := up) e
    rw [← eq, sInv_of hq]
    exact Or.inr ⟨q, by omega, rfl⟩
  · rw [if_neg e]; exact Or.inr ⟨j, hj, rfl⟩)
def Sp_sort (n : Nat) (v wt : Nat → Nat) (l r up z : Int) (n2 : Nat) (v2 w2 : Nat → Nat) : Prop := if (0 ≤ l ∧ l ≤ r ∧ r < n) then z = (oth n v v2 : Int) ∧ n2 = n ∧ v2 = srtF v up l.toNat r.toNat v ∧ w2 = srtF v up l.toNat r.toNat wt else z = -1 ∧ n2 = n ∧ v2 = v ∧ w2 = wt
/-! parts with a majority each -/
def maj (v : Nat → Nat) (t l r : Nat) : Prop := r + 1 - l < 2 * cnt v l (r + 1) (md v l (r + 1) t)
noncomputable def mnF (v : Nat → Nat) (t : Nat) (f : Nat → Nat) (l : Nat) : Nat → Nat
  | 0 => 121
  | r + 1 => @ite Nat (l ≤ r ∧ f (r + 1) + 1 < mnF v t f l r ∧ maj v t l r) (Classical.propDecidable _) (f (r + 1) + 1) (mnF v t f l r)
theorem mnF_t {v : Nat → Nat} {t : Nat} {f : Nat → Nat} {l r : Nat} (h : l ≤ r ∧ f (r + 1) + 1 < mnF v t f l r ∧ maj v t l r) : mnF v t f l (r + 1) = f (r + 1) + 1 := if_pos h
theorem mnF_f {v : Nat → Nat} {t : Nat} {f : Nat → Nat} {l r : Nat} (h : ¬ (l ≤ r ∧ f (r + 1) + 1 < mnF v t f l r ∧ maj v t l r)) : mnF v t f l (r + 1) = mnF v t f l r := if_neg h
theorem mnF_0 {v : Nat → Nat} {t : Nat} {f : Nat → Nat} {l : Nat} : ∀ {r : Nat}, r ≤ l → mnF v t f l r = 121
  | 0, _ => rfl
  | r + 1, h => by rw [mnF_f (fun q => by omega)]; exact mnF_0 (by omega)
theorem mnF_le {v : Nat → Nat} {t : Nat} {f : Nat → Nat} {l : Nat} : ∀ {r : Nat}, mnF v t f l r ≤ 121
  | 0 => Nat.le_refl _
  | r + 1 => by
    have ih := mnF_le (v := v) (t := t) (f := f) (l := l) (r := r)
    by_cases h : l ≤ r ∧ f (r + 1) + 1 < mnF v t f l r ∧ maj v t l r
    · rw [mnF_t h]; omega
    · rw [mnF_f h]; exact ih
theorem mnF_att {v : Nat → Nat} {t : Nat} {f : Nat → Nat} {l : Nat} : ∀ {r : Nat}, mnF v t f l r < 121 → ∃ q, l ≤ q ∧ q < r ∧ mnF v t f l r = f (q + 1) + 1 ∧ maj v t l q
  | 0, h => absurd h (Nat.lt_irrefl _)
  | r + 1, h => by
    by_cases e : l ≤ r ∧ f (r + 1) + 1 < mnF v t f l r ∧ maj v t l r
    · exact ⟨r, e.1, by omega, mnF_t e, e.2.2⟩
    · rw [mnF_f e] at h ⊢
      obtain ⟨q, h1, h2, h3⟩ := mnF_att h
      exact ⟨q, h1, by omega, h3⟩
theorem mnF_low {v : Nat → Nat} {t : Nat} {f : Nat → Nat} {l q : Nat} (hq : l ≤ q) (hm : maj v t l q) : ∀ {r : Nat}, q < r → mnF v t f l r ≤ f (q + 1) + 1
  | 0, h => absurd h (Nat.not_lt_zero _)
  | r + 1, h => by
    by_cases e : l ≤ r ∧ f (r + 1) + 1 < mnF v t f l r ∧ maj v t l r
    · rw [mnF_t e]
      by_cases eq : q = r
      · rw [eq]; exact Nat.le_refl _
      · have := mnF_low (v := v) (t := t) (f := f) hq hm (r := r) (by omega); omega
    · rw [mnF_f e]
      by_cases eq : q = r
      · subst eq
        rcases Nat.lt_or_ge (f (q + 1) + 1) (mnF v t f l q) with z | z
        · exact absurd ⟨hq, z, hm⟩ e
        · exact z
      · exact mnF_low hq hm (by omega)
theorem mnF_congr {v : Nat → Nat} {t : Nat} {f g : Nat → Nat} {l : Nat} : ∀ {r : Nat}, (∀ i, l < i → i ≤ r → f i = g i) → mnF v t f l r = mnF v t g l r
  | 0, _ => rfl
  | r + 1, h => by
    have ih := mnF_congr (v := v) (t := t) (l := l) (r := r) (fun i h1 h2 => h i h1 (by omega))
    by_cases e : l ≤ r ∧ f (r + 1) + 1 < mnF v t f l r ∧ maj v t l r
    · rw [mnF_t e, mnF_t (by rw [← ih, ← h (r + 1) (by omega) (Nat.le_refl _)]; exact e), h (r + 1) (by omega) (Nat.le_refl _)]
    · rw [mnF_f e, ih]
      refine (mnF_f (fun q => e ?_)).symm
      rw [ih, h (r + 1) (by omega) (Nat.le_refl _)]
      exact q
noncomputable def fwT (v : Nat → Nat) (t n : Nat) : Nat → Nat → Nat
  | 0 => fun _ => 0
  | k + 1 => va_up (fwT v t n k) (n - (k + 1)) (mnF v t (fwT v t n k) (n - (k + 1)) n)
theorem fwT_le {v : Nat → Nat} {t n : Nat} : ∀ (k i : Nat), fwT v t n k i ≤ 121
  | 0, _ => Nat.zero_le _
  | k + 1, i => by
    show va_up (fwT v t n k) (n - (k + 1)) _ i ≤ 121
    by_cases e : i = n - (k + 1)
    · rw [e, va_up_self]; exact mnF_le
    · rw [va_up_ne _ _ e]; exact fwT_le k i
theorem fwT_stay {v : Nat → Nat} {t n k : Nat} (i : Nat) (hi : n - k ≤ i) : ∀ d, k + d ≤ n → fwT v t n (k + d) i = fwT v t n k i
  | 0, _ => rfl
  | d + 1, h => by
    show va_up (fwT v t n (k + d)) (n - (k + d + 1)) _ i = _
    rw [va_up_ne _ _ (by omega)]
    exact fwT_stay i hi d (by omega)
noncomputable def fw (v : Nat → Nat) (t n l : Nat) : Nat := fwT v t n n l
theorem fw_n (v : Nat → Nat) (t n : Nat) : fw v t n n = 0 := by
  have := fwT_stay (v := v) (t := t) (n := n) (k := 0) n (by omega) n (by omega)
  rw [Nat.zero_add] at this
  exact this
theorem fw_mn {v : Nat → Nat} {t n l : Nat} (hl : l < n) : fw v t n l = mnF v t (fw v t n) l n := by
  have h1 := fwT_stay (v := v) (t := t) (n := n) (k := n - l) l (by omega) l (by omega)
  rw [show n - l + l = n by omega] at h1
  have h2 : fwT v t n (n - l) l = mnF v t (fwT v t n (n - l - 1)) l n := by
    rw [show n - l = n - l - 1 + 1 by omega]
    show va_up (fwT v t n (n - l - 1)) (n - (n - l - 1 + 1)) (mnF v t (fwT v t n (n - l - 1)) (n - (n - l - 1 + 1)) n) l = _
    rw [show n - (n - l - 1 + 1) = l by omega, va_up_self]
    rfl
  unfold fw
  rw [h1, h2]
  refine mnF_congr (fun i h3 h4 => ?_)
  have h5 := fwT_stay (v := v) (t := t) (n := n) (k := n - l - 1) i (by omega) (l + 1) (by omega)
  rw [show n - l - 1 + (l + 1) = n by omega] at h5
  exact h5.symm
theorem md_one {v : Nat → Nat} {t l : Nat} (hv : v l < 1000) : md v l (l + 1) t = v l := by
  refine (md_uniq hv (cnt_in (Nat.le_refl l) (by omega)) (fun y _ py hne => ?_)).symm
  obtain ⟨p, h1, h2, h3⟩ := cnt_pos.mp py
  exact absurd (by rw [← h3, show p = l by omega]) hne
theorem maj_one {v : Nat → Nat} {t l : Nat} (hv : v l < 1000) : maj v t l l := by
  unfold maj
  rw [md_one hv]
  have := cnt_in (v := v) (Nat.le_refl l) (show l < l + 1 by omega)
  omega
theorem fw_le {v : Nat → Nat} {t n : Nat} (hn : n ≤ 120) (hv : ∀ i, i < n → v i < 1000) : ∀ (d l : Nat), l + d = n → fw v t n l ≤ d
  | 0, l, h => by rw [show l = n by omega, fw_n]; exact Nat.le_refl _
  | d + 1, l, h => by
    rw [fw_mn (by omega)]
    have h1 := fw_le (t := t) hn hv d (l + 1) (by omega)
    have h2 := mnF_low (f := fw v t n) (Nat.le_refl l) (maj_one (t := t) (hv l (by omega))) (show l < n by omega)
    omega
/-- a part that may begin at l, in the fewest parts -/
def PC (v : Nat → Nat) (t n l r : Nat) : Prop := fw v t n (r + 1) + 1 = fw v t n l ∧ maj v t l r
theorem PC_ex {v : Nat → Nat} {t n l : Nat} (hn : n ≤ 120) (hv : ∀ i, i < n → v i < 1000) (hl : l < n) : ∃ r, l ≤ r ∧ r < n ∧ PC v t n l r := by
  have h1 := fw_le (t := t) hn hv (n - l) l (by omega)
  have h2 := fw_mn (v := v) (t := t) hl
  obtain ⟨q, q1, q2, q3, q4⟩ := mnF_att (v := v) (t := t) (f := fw v t n) (l := l) (r := n) (by omega)
  exact ⟨q, q1, q2, by rw [h2, q3], q4⟩
def PE (v : Nat → Nat) (t n l r : Nat) : Prop := l ≤ r ∧ r < n ∧ PC v t n l r ∧ ∀ q, l ≤ q → q < r → ¬ PC v t n l q
theorem PE_uniq {v : Nat → Nat} {t n l r s : Nat} (h : PE v t n l r) (h2 : PE v t n l s) : r = s := by
  rcases Nat.lt_trichotomy r s with q | q | q
  · exact absurd h.2.2.1 (h2.2.2.2 r h.1 q)
  · exact q
  · exact absurd h2.2.2.1 (h.2.2.2 s h2.1 q)
noncomputable def peF (v : Nat → Nat) (t n l : Nat) : Nat := @dite Nat (∃ r, PE v t n l r) (Classical.propDecidable _) (fun h => Classical.choose h) (fun _ => l)
theorem peF_eq {v : Nat → Nat} {t n l r : Nat} (h : PE v t n l r) : peF v t n l = r := by
  have h2 : ∃ r, PE v t n l r := ⟨r, h⟩
  unfold peF
  rw [dif_pos h2]
  exact PE_uniq (Classical.choose_spec h2) h
noncomputable def plF (v : Nat → Nat) (t n : Nat) : Nat → Nat
  | 0 => 0
  | k + 1 => if plF v t n k < n then peF v t n (plF v t n k) + 1 else plF v t n k
theorem plF_t {v : Nat → Nat} {t n k r : Nat} (h : plF v t n k < n) (hr : PE v t n (plF v t n k) r) : plF v t n (k + 1) = r + 1 := by
  show (if _ then _ else _) = _
  rw [if_pos h, peF_eq hr]
theorem plF_stay {v : Nat → Nat} {t n k : Nat} (h : ¬ plF v t n k < n) : ∀ d, plF v t n (k + d) = plF v t n k
  | 0 => rfl
  | d + 1 => by
    have ih := plF_stay h d
    show (if plF v t n (k + d) < n then _ else plF v t n (k + d)) = _
    rw [if_neg (by rw [ih]; exact h), ih]
def Sp_part (n : Nat) (v : Nat → Nat) (t : Nat) (k z : Int) : Prop := if -1 ≤ k then (if k = -1 then z = (fw v t n 0 : Int) else if plF v t n k.toNat < n then z = (plF v t n k.toNat : Int) else z = -2) else z = -1
/-- what 'fewest' holds, from e on -/
def FWe (v : Nat → Nat) (t n e : Nat) (fa : Nat → Int) : Prop := ∀ i, e ≤ i → i ≤ n → fa i = (fwT v t n (n - e) i : Int)
theorem FWe_n {v : Nat → Nat} {t n : Nat} {fa : Nat → Int} : FWe v t n n (va_up fa n 0) := fun i h1 h2 => by
  rw [show i = n by omega, va_up_self, Nat.sub_self]; rfl
theorem FWe_s {v : Nat → Nat} {t n e : Nat} {fb : Nat → Int} (he : 1 ≤ e) (hn : e ≤ n) (h : FWe v t n e fb) (h1 : fb (e - 1) = (mnF v t (fwT v t n (n - e)) (e - 1) n : Int)) : FWe v t n (e - 1) fb := fun i q1 q2 => by
  have h2 : fwT v t n (n - (e - 1)) = va_up (fwT v t n (n - e)) (e - 1) (mnF v t (fwT v t n (n - e)) (e - 1) n) := by
    rw [show n - (e - 1) = n - e + 1 by omega]
    show va_up _ (n - (n - e + 1)) (mnF v t _ (n - (n - e + 1)) n) = _
    rw [show n - (n - e + 1) = e - 1 by omega]
  rw [h2]
  by_cases a : i = e - 1
  · rw [a, va_up_self]; exact h1
  · rw [va_up_ne _ _ a]; exact h i (by omega) q2
theorem FWe_up {v : Nat → Nat} {t n e : Nat} {fb : Nat → Int} {x : Int} (he : 1 ≤ e) (h : FWe v t n e fb) : FWe v t n e (va_up fb (e - 1) x) := fun i q1 q2 => by
  rw [va_up_ne _ _ (by omega)]; exact h i q1 q2
theorem pc_s {P : Nat → Prop} {l r : Nat} (h : ∀ q, l ≤ q → q < r → ¬ P q) (hr : ¬ P r) : ∀ q, l ≤ q → q < r + 1 → ¬ P q := fun q q1 q2 => by
  by_cases e : q = r
  · rw [e]; exact hr
  · exact h q q1 (by omega)
theorem pl_end {v : Nat → Nat} {t n i l k : Nat} (il : l = plF v t n i) (h : i = k ∨ ¬ l < n) (hik : i ≤ k) : plF v t n k = l := by
  rcases h with h | h
  · rw [← h, il]
  · have := plF_stay (v := v) (t := t) (n := n) (k := i) (by rw [← il]; exact h) (k - i)
    rw [show i + (k - i) = k by omega] at this
    rw [this, il]
/-! candidates -/
def WB (b n fi r e : Nat) : Prop := fi ≤ e ∧ (∀ j, fi ≤ j → j < e → j < zdiv (n + b - 1) b ∧ bEnd b j n ≤ r + 1) ∧ (zdiv (n + b - 1) b ≤ e ∨ r + 1 < bEnd b e n)
theorem cd_s {b n fi r e : Nat} (h : ∀ j, fi ≤ j → j < e → j < zdiv (n + b - 1) b ∧ bEnd b j n ≤ r + 1) (h1 : e < zdiv (n + b - 1) b) (h2 : bEnd b e n ≤ r + 1) : ∀ j, fi ≤ j → j < e + 1 → j < zdiv (n + b - 1) b ∧ bEnd b j n ≤ r + 1 := fun j q1 q2 => by
  by_cases a : j = e
  · rw [a]; exact ⟨h1, h2⟩
  · exact h j q1 (by omega)
theorem WB_uniq {b n fi r e s : Nat} (h : WB b n fi r e) (h2 : WB b n fi r s) : e = s := by
  rcases Nat.lt_trichotomy e s with q | q | q
  · have := h2.2.1 e h.1 q
    rcases h.2.2 with z | z <;> omega
  · exact q
  · have := h.2.1 s h2.1 q
    rcases h2.2.2 with z | z <;> omega
def CSt (v : Nat → Nat) (t n b l fi e p x : Nat) : Prop := (fi < e ∧ x = md v (b * fi) (bEnd b (e - 1) n) t) ∨ ∃ q, l ≤ q ∧ q < p ∧ (e ≤ fi ∨ q < b * fi ∨ bEnd b (e - 1) n ≤ q) ∧ v q = x
def CSI (S : Nat → Prop) (ia : Nat → Int) : Prop := ∀ x, x < 1000 → (ia x = 1 ∧ S x) ∨ (ia x = 0 ∧ ¬ S x)
theorem cs_0 {v : Nat → Nat} {t n b l fi e : Nat} {ia : Nat → Int} {i : Nat} (h : e ≤ fi) (hz : ∀ j, j < i → ia j = 0) (hi : i = 1000) : CSI (CSt v t n b l fi e l) ia := fun x hx => by
  refine Or.inr ⟨hz x (by omega), fun q => ?_⟩
  rcases q with q | ⟨q, q1, q2, -⟩ <;> omega
theorem cs_1 {v : Nat → Nat} {t n b l fi e : Nat} {ia : Nat → Int} {i : Nat} (h : fi < e) (hz : ∀ j, j < i → ia j = 0) (hi : i = 1000) : CSI (CSt v t n b l fi e l) (va_up ia (md v (b * fi) (bEnd b (e - 1) n) t) 1) := fun x hx => by
  by_cases a : x = md v (b * fi) (bEnd b (e - 1) n) t
  · rw [a, va_up_self]; exact Or.inl ⟨rfl, Or.inl ⟨h, rfl⟩⟩
  · rw [va_up_ne _ _ a]
    refine Or.inr ⟨hz x (by omega), fun q => ?_⟩
    rcases q with q | ⟨q, q1, q2, -⟩
    · exact a q.2
    · omega
theorem cs_in {v : Nat → Nat} {t n b l fi e p : Nat} {ia : Nat → Int} (h : CSI (CSt v t n b l fi e p) ia) (hl : l ≤ p) (c : e ≤ fi ∨ p < b * fi ∨ bEnd b (e - 1) n ≤ p) : CSI (CSt v t n b l fi e (p + 1)) (va_up ia (v p) 1) := fun x hx => by
  by_cases a : x = v p
  · rw [a, va_up_self]; exact Or.inl ⟨rfl, Or.inr ⟨p, hl, by omega, c, rfl⟩⟩
  · rw [va_up_ne _ _ a]
    rcases h x hx with ⟨h1, h2⟩ | ⟨h1, h2⟩
    · refine Or.inl ⟨h1, ?_⟩
      rcases h2 with h2 | ⟨q, q1, q2, q3⟩
      · exact Or.inl h2
      · exact Or.inr ⟨q, q1, by omega, q3⟩
    · refine Or.inr ⟨h1, fun z => h2 ?_⟩
      rcases z with z | ⟨q, q1, q2, q3, q4⟩
      · exact Or.inl z
      · refine Or.inr ⟨q, q1, ?_, q3, q4⟩
        have : q ≠ p := fun e => a (by rw [← q4, e])
        omega
theorem cs_out {v : Nat → Nat} {t n b l fi e p : Nat} {ia : Nat → Int} (h : CSI (CSt v t n b l fi e p) ia) (c : ¬ (e ≤ fi ∨ p < b * fi ∨ bEnd b (e - 1) n ≤ p)) : CSI (CSt v t n b l fi e (p + 1)) ia := fun x hx => by
  rcases h x hx with ⟨h1, h2⟩ | ⟨h1, h2⟩
  · refine Or.inl ⟨h1, ?_⟩
    rcases h2 with h2 | ⟨q, q1, q2, q3⟩
    · exact Or.inl h2
    · exact Or.inr ⟨q, q1, by omega, q3⟩
  · refine Or.inr ⟨h1, fun z => h2 ?_⟩
    rcases z with z | ⟨q, q1, q2, q3, q4⟩
    · exact Or.inl z
    · refine Or.inr ⟨q, q1, ?_, q3, q4⟩
      have : q ≠ p := fun e => c (e ▸ q3)
      omega
theorem cB_ivt {S : Nat → Prop} {k : Nat} : ∀ {N : Nat}, k < cB S N → ∃ i, i < N ∧ S i ∧ cB S i = k
  | 0, h => absurd h (Nat.not_lt_zero _)
  | N + 1, h => by
    by_cases a : k < cB S N
    · obtain ⟨i, h1, h2⟩ := cB_ivt a
      exact ⟨i, by omega, h2⟩
    · by_cases e : S N
      · rw [cB_t e] at h; exact ⟨N, by omega, e, by omega⟩
      · rw [cB_f e] at h; exact absurd h a
def Sp_candidate (n : Nat) (v : Nat → Nat) (t b : Nat) (l r k z : Int) : Prop := if (0 ≤ l ∧ l ≤ r ∧ r < n) ∧ -1 ≤ k then (∃ e, WB b n (zdiv (l.toNat + b - 1) b) r.toNat e ∧ (if k = -1 then z = (cB (fun j => CSt v t n b l.toNat (zdiv (l.toNat + b - 1) b) e (r.toNat + 1) (ofR v l.toNat (r.toNat + 1) t j)) (dst v l.toNat (r.toNat + 1)) : Int) else ((∃ i, i < dst v l.toNat (r.toNat + 1) ∧ CSt v t n b l.toNat (zdiv (l.toNat + b - 1) b) e (r.toNat + 1) (ofR v l.toNat (r.toNat + 1) t i) ∧ (cB (fun j => CSt v t n b l.toNat (zdiv (l.toNat + b - 1) b) e (r.toNat + 1) (ofR v l.toNat (r.toNat + 1) t j)) i : Int) = k ∧ z = (ofR v l.toNat (r.toNat + 1) t i : Int)) ∨ ((cB (fun j => CSt v t n b l.toNat (zdiv (l.toNat + b - 1) b) e (r.toNat + 1) (ofR v l.toNat (r.toNat + 1) t j)) (dst v l.toNat (r.toNat + 1)) : Int) ≤ k ∧ z = -2)))) else z = -1
theorem cd_none {S : Nat → Prop} {k : Int} {i : Nat} (h : ∀ j, j < i → S j → (cB S j : Int) ≠ k) (hk : (cB S i : Int) ≠ k) : ∀ j, j < i + 1 → S j → (cB S j : Int) ≠ k := fun j hj hS => by
  by_cases e : j = i
  · rw [e]; exact hk
  · exact h j (by omega) hS
theorem cd_none2 {S : Nat → Prop} {k : Int} {i : Nat} (h : ∀ j, j < i → S j → (cB S j : Int) ≠ k) (hk : ¬ S i) : ∀ j, j < i + 1 → S j → (cB S j : Int) ≠ k := fun j hj hS => by
  by_cases e : j = i
  · exact absurd (e ▸ hS) hk
  · exact h j (by omega) hS
theorem cd_end {S : Nat → Prop} {k : Int} {N : Nat} (h : ∀ j, j < N → S j → (cB S j : Int) ≠ k) (hk : 0 ≤ k) : (cB S N : Int) ≤ k := by
  rcases Int.lt_or_le k (cB S N : Int) with q | q
  · obtain ⟨i, h1, h2, h3⟩ := cB_ivt (S := S) (N := N) (k := k.toNat) (by omega)
    exact absurd (by rw [h3]; omega) (h i h1 h2)
  · exact q
theorem cd_be {b n fi r e : Nat} (h : WB b n fi r e) (hb : 2 ≤ b) (hn : n ≤ 120) : fi < e → b * (e - 1) < n ∧ b * fi ≤ b * (e - 1) ∧ b * (e - 1) < bEnd b (e - 1) n ∧ bEnd b (e - 1) n ≤ n ∧ bEnd b (e - 1) n ≤ r + 1 := fun hf => by
  have h1 := h.2.1 (e - 1) (by omega) (by omega)
  have h2 := (blk_lt (n := n) (j := e - 1) (show 0 < b by omega)).mp h1.1
  have h3 := bEnd_b (by omega) h2
  exact ⟨h2, Nat.mul_le_mul_left b (by omega), h3.1, h3.2.1, h1.2⟩
