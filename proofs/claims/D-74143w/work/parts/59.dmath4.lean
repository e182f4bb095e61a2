/-! laws of what is looked at: the set of marks, enumerations, sorting by rank, few candidates -/
set_option maxRecDepth 100000
def zZ : Nat → Int := fun _ => 0
noncomputable def isl (u : Nat → Nat) (i k : Nat) : Nat → Int := fun x => @ite Int ((∃ j, j < k ∧ u j = x) ∧ ¬ ∃ j, j < i ∧ u j = x) (Classical.propDecidable _) 1 0
theorem isl_01 (u : Nat → Nat) (i k x : Nat) : isl u i k x = 0 ∨ isl u i k x = 1 := by
  unfold isl
  split
  · exact Or.inr rfl
  · exact Or.inl rfl
theorem isl_1 {u : Nat → Nat} {k x : Nat} (h : ¬ isl u 0 k x = 0) : ∃ j, j < k ∧ u j = x := by
  unfold isl at h
  split at h
  · rename_i q; exact q.1
  · exact absurd rfl h
theorem isl_0 {u : Nat → Nat} {k x : Nat} (h : isl u 0 k x = 0) : ∀ j, j < k → u j ≠ x := by
  intro j hj e
  unfold isl at h
  rw [if_pos ⟨⟨j, hj, e⟩, fun ⟨i, hi, _⟩ => Nat.not_lt_zero _ hi⟩] at h
  exact absurd h (by decide)
theorem isl_end {u : Nat → Nat} {i k : Nat} (h : k ≤ i) : isl u i k = zZ := by
  funext x
  unfold isl zZ
  rw [if_neg]
  rintro ⟨⟨j, hj, e⟩, q⟩
  exact q ⟨j, Nat.lt_of_lt_of_le hj h, e⟩
theorem isl_nil {u : Nat → Nat} : zZ = isl u 0 0 := (isl_end (Nat.le_refl 0)).symm
theorem isl_push {u : Nat → Nat} {k x : Nat} : va_up (isl u 0 k) x 1 = isl (va_up u k x) 0 (k + 1) := by
  funext y
  have e0 : ∀ (w : Nat → Nat) (m : Nat), isl w 0 m y = 1 ↔ ∃ j, j < m ∧ w j = y := by
    intro w m
    unfold isl
    split
    · rename_i q; exact ⟨fun _ => q.1, fun _ => rfl⟩
    · rename_i q
      exact ⟨fun z => absurd z (by decide), fun z => absurd ⟨z, fun ⟨i, hi, _⟩ => Nat.not_lt_zero _ hi⟩ q⟩
  by_cases h : y = x
  · subst h
    rw [va_up_self]
    exact ((e0 _ _).mpr ⟨k, Nat.lt_succ_self k, va_up_self _ _ _⟩).symm
  · rw [va_up_ne _ _ h]
    rcases isl_01 u 0 k y with q | q
    · rcases isl_01 (va_up u k x) 0 (k + 1) y with z | z
      · rw [q, z]
      · obtain ⟨j, hj, ej⟩ := (e0 _ _).mp z
        by_cases hjk : j = k
        · subst hjk; rw [va_up_self] at ej; exact absurd ej.symm h
        · rw [va_up_ne _ _ hjk] at ej
          rw [(e0 _ _).mpr ⟨j, by omega, ej⟩] at q
          exact absurd q (by decide)
    · obtain ⟨j, hj, ej⟩ := (e0 _ _).mp q
      rw [q, (e0 _ _).mpr ⟨j, by omega, by rw [va_up_ne _ _ (by omega)]; exact ej⟩]
theorem isl_pop {u : Nat → Nat} {i k : Nat} (h : i < k) : va_up (isl u i k) (u i) 0 = isl u (i + 1) k := by
  funext y
  by_cases e : y = u i
  · subst e
    rw [va_up_self]
    unfold isl
    rw [if_neg]
    rintro ⟨-, q⟩
    exact q ⟨i, Nat.lt_succ_self i, rfl⟩
  · rw [va_up_ne _ _ e]
    unfold isl
    by_cases q : (∃ j, j < k ∧ u j = y) ∧ ¬ ∃ j, j < i ∧ u j = y
    · rw [if_pos q, if_pos ⟨q.1, fun ⟨j, hj, ej⟩ => by
        by_cases z : j = i
        · subst z; exact e ej.symm
        · exact q.2 ⟨j, by omega, ej⟩⟩]
    · rw [if_neg q, if_neg]
      rintro ⟨a, b⟩
      exact q ⟨a, fun ⟨j, hj, ej⟩ => b ⟨j, by omega, ej⟩⟩
def LKS (k : Nat) (u : Nat → Nat) (x k2 : Nat) (u2 : Nat → Nat) : Prop := ((∃ j, j < k ∧ u j = x) ∧ k2 = k ∧ u2 = u) ∨ ((∀ j, j < k → u j ≠ x) ∧ k2 = k + 1 ∧ u2 = va_up u k x)
/-- an enumeration of a set of values -/
def ENS (S : Nat → Prop) (k : Nat) (u : Nat → Nat) : Prop := (∀ j, j < k → u j < 1000 ∧ S (u j)) ∧ (∀ i j, i < k → j < k → u i = u j → i = j) ∧ ∀ x, x < 1000 → S x → ∃ j, j < k ∧ u j = x
theorem ENS_0 {S : Nat → Prop} {u : Nat → Nat} (h : ∀ x, x < 1000 → ¬ S x) : ENS S 0 u := ⟨fun j hj => absurd hj (Nat.not_lt_zero _), fun i j hi => absurd hi (Nat.not_lt_zero _), fun x hx hS => absurd hS (h x hx)⟩
theorem ENS_cg {S T : Nat → Prop} {k : Nat} {u : Nat → Nat} (h : ENS S k u) (e : ∀ x, x < 1000 → (S x ↔ T x)) : ENS T k u :=
  ⟨fun j hj => ⟨(h.1 j hj).1, (e _ (h.1 j hj).1).mp (h.1 j hj).2⟩, h.2.1, fun x hx hT => h.2.2 x hx ((e x hx).mpr hT)⟩
theorem ENS_lk {S T : Nat → Prop} {k k2 x : Nat} {u u2 : Nat → Nat} (h : ENS S k u) (hL : LKS k u x k2 u2) (hx : x < 1000) (e : ∀ y, y < 1000 → (T y ↔ S y ∨ y = x)) : ENS T k2 u2 := by
  rcases hL with ⟨⟨j, hj, ej⟩, rfl, rfl⟩ | ⟨hn, rfl, rfl⟩
  · refine ENS_cg h (fun y hy => ?_)
    rw [e y hy]
    exact ⟨Or.inl, fun q => q.elim (fun z => z) (fun z => by rw [z, ← ej]; exact (h.1 j hj).2)⟩
  · refine ⟨fun j hj => ?_, fun i j hi hj q => ?_, fun y hy hT => ?_⟩
    · by_cases z : j = k
      · subst z; rw [va_up_self]; exact ⟨hx, (e x hx).mpr (Or.inr rfl)⟩
      · rw [va_up_ne _ _ z]
        have h1 := h.1 j (by omega)
        exact ⟨h1.1, (e _ h1.1).mpr (Or.inl h1.2)⟩
    · by_cases z : i = k <;> by_cases z2 : j = k
      · omega
      · subst z; rw [va_up_self, va_up_ne _ _ z2] at q; exact absurd q.symm (hn j (by omega))
      · subst z2; rw [va_up_self, va_up_ne _ _ z] at q; exact absurd q (hn i (by omega))
      · rw [va_up_ne _ _ z, va_up_ne _ _ z2] at q; exact h.2.1 i j (by omega) (by omega) q
    · rcases (e y hy).mp hT with q | q
      · obtain ⟨j, hj, ej⟩ := h.2.2 y hy q
        exact ⟨j, by omega, by rw [va_up_ne _ _ (by omega)]; exact ej⟩
      · exact ⟨k, by omega, by rw [va_up_self]; exact q.symm⟩
theorem dst_le {v : Nat → Nat} {l : Nat} : ∀ {r : Nat}, dst v l r ≤ r - l
  | 0 => by
    unfold dst
    rw [cB_none (fun j _ h => by rw [cnt_0 v (Nat.zero_le _)] at h; omega)]
    omega
  | r + 1 => by
    by_cases hl : l ≤ r
    · have ih := dst_le (v := v) (l := l) (r := r)
      have e : dst v l (r + 1) ≤ dst v l r + 1 := by
        unfold dst
        by_cases hx : v r < 1000
        · by_cases q : 0 < cnt v l r (v r)
          · refine Nat.le_succ_of_le (cB_mono (fun j _ hj => ?_))
            rw [cnt_succ v j hl] at hj
            split at hj
            · rename_i z; rw [← z]; exact q
            · exact hj
          · refine Nat.le_of_eq (cB_one hx (by rw [cnt_succ v _ hl, if_pos rfl]; omega) q (fun j hj => ?_))
            rw [cnt_succ v j hl, if_neg (fun z => hj z.symm)]
            exact Iff.rfl
        · refine Nat.le_succ_of_le (cB_mono (fun j hj9 hj => ?_))
          rw [cnt_succ v j hl, if_neg (by omega)] at hj
          exact hj
      omega
    · unfold dst
      rw [cB_none (fun j _ h => by rw [cnt_0 v (by omega)] at h; omega)]
      omega
theorem ENS_le {S : Nat → Prop} {v : Nat → Nat} {l r k : Nat} {u : Nat → Nat} (h : ENS S k u) (hS : ∀ x, x < 1000 → S x → 0 < cnt v l r x) : k ≤ r - l := by
  have h1 := cB_enum (P := fun _ => True) u k S h.1 h.2.1 h.2.2
  rw [cB_all (fun _ _ => trivial)] at h1
  have h2 : cB (fun x => S x ∧ True) 1000 ≤ dst v l r := cB_mono (fun j hj q => hS j hj q.1)
  have h3 := dst_le (v := v) (l := l) (r := r)
  omega
theorem EN_lk0 {v : Nat → Nat} {l r : Nat} {u : Nat → Nat} (h : r ≤ l) : EN v l r 0 u := ⟨Nat.zero_le _, ENS_0 (S := fun x => 0 < cnt v l r x) (fun x _ q => by have q : 0 < cnt v l r x := q; rw [cnt_0 v h] at q; omega)⟩
theorem EN_looks {v : Nat → Nat} {l p k k2 : Nat} {u u2 : Nat → Nat} (h : EN v l p k u) (hL : LKS k u (v p) k2 u2) (hlp : l ≤ p) (hv : v p < 1000) : EN v l (p + 1) k2 u2 := by
  have h2 : ENS (fun x => 0 < cnt v l (p + 1) x) k2 u2 := ENS_lk (S := fun x => 0 < cnt v l p x) h.2 hL hv (fun y _ => by
    show 0 < cnt v l (p + 1) y ↔ 0 < cnt v l p y ∨ y = v p
    rw [cnt_succ v y hlp]
    split
    · rename_i z; exact ⟨fun _ => Or.inr z.symm, fun _ => by omega⟩
    · rename_i z; exact ⟨fun q => Or.inl q, fun q => q.elim (fun w => w) (fun w => absurd w.symm z)⟩)
  exact ⟨ENS_le (S := fun x => 0 < cnt v l (p + 1) x) h2 (fun _ _ q => q), h2⟩
/-- few values of a span, the mode among them -/
def CAN (v : Nat → Nat) (l r t k : Nat) (u : Nat → Nat) : Prop := (∀ j, j < k → u j < 1000 ∧ 0 < cnt v l r (u j)) ∧ ∃ j, j < k ∧ u j = md v l r t
theorem CAN_pos {v : Nat → Nat} {l r t k : Nat} {u : Nat → Nat} (h : CAN v l r t k u) : 0 < k := by
  obtain ⟨j, hj, _⟩ := h.2
  omega
theorem EN_ex {v : Nat → Nat} {l : Nat} : ∀ {r : Nat}, (∀ i, i < r → v i < 1000) → ∃ k u, EN v l r k u
  | 0, _ => ⟨0, fun _ => 0, EN_lk0 (Nat.zero_le _)⟩
  | r + 1, hv => by
    by_cases hl : l ≤ r
    · obtain ⟨k, u, h⟩ := EN_ex (v := v) (l := l) (r := r) (fun i hi => hv i (by omega))
      by_cases q : ∃ j, j < k ∧ u j = v r
      · exact ⟨k, u, EN_looks h (Or.inl ⟨q, rfl, rfl⟩) hl (hv r (Nat.lt_succ_self r))⟩
      · exact ⟨k + 1, va_up u k (v r), EN_looks h (Or.inr ⟨fun j hj e => q ⟨j, hj, e⟩, rfl, rfl⟩) hl (hv r (Nat.lt_succ_self r))⟩
    · exact ⟨0, fun _ => 0, EN_lk0 (by omega)⟩
theorem md_spec2 {v : Nat → Nat} {l r t : Nat} (hv : ∀ i, i < r → v i < 1000) (hlr : l < r) : md v l r t < 1000 ∧ 0 < cnt v l r (md v l r t) ∧ ∀ y, y < 1000 → 0 < cnt v l r y → y ≠ md v l r t → ahd v l r t (md v l r t) y := by
  obtain ⟨k, u, h⟩ := EN_ex (l := l) hv
  obtain ⟨j, hj, _⟩ := h.2.2.2 (v l) (hv l hlr) (cnt_in (Nat.le_refl l) hlr)
  exact md_spec h (by omega)
theorem EN_CAN {v : Nat → Nat} {l r t k : Nat} {u : Nat → Nat} (h : EN v l r k u) (hv : ∀ i, i < r → v i < 1000) (hlr : l < r) : CAN v l r t k u := by
  obtain ⟨h1, h2, -⟩ := md_spec2 (t := t) hv hlr
  exact ⟨h.2.1, h.2.2.2 _ h1 h2⟩
def BST (v : Nat → Nat) (l r t : Nat) (u : Nat → Nat) (i b : Nat) : Prop := (∃ j, j < i ∧ b = u j) ∧ ∀ j, j < i → u j ≠ b → ahd v l r t b (u j)
theorem BST_1 {v : Nat → Nat} {l r t : Nat} {u : Nat → Nat} : BST v l r t u 1 (u 0) := ⟨⟨0, Nat.zero_lt_one, rfl⟩, fun j hj h => absurd (by rw [show j = 0 by omega]) h⟩
theorem BST_w {v : Nat → Nat} {l r t i b : Nat} {u : Nat → Nat} (h : BST v l r t u i b) (ha : ahd v l r t (u i) b) : BST v l r t u (i + 1) (u i) :=
  ⟨⟨i, Nat.lt_succ_self i, rfl⟩, fun j hj q => by
    by_cases z : j = i
    · subst z; exact absurd rfl q
    · by_cases y : u j = b
      · rw [y]; exact ha
      · exact ahd_trans ha (h.2 j (by omega) y)⟩
theorem BST_n {v : Nat → Nat} {l r t i b : Nat} {u : Nat → Nat} (h : BST v l r t u i b) (hi : 0 < cnt v l r (u i)) (hb : 0 < cnt v l r b) (ha : ¬ ahd v l r t (u i) b) : BST v l r t u (i + 1) b := by
  obtain ⟨⟨j, hj, ej⟩, h2⟩ := h
  refine ⟨⟨j, by omega, ej⟩, fun a ha2 q => ?_⟩
  by_cases z : a = i
  · subst z; exact (ahd_tot (t := t) hi hb q).resolve_left ha
  · exact h2 a (by omega) q
theorem BST_md {v : Nat → Nat} {l r t k b : Nat} {u : Nat → Nat} (h : BST v l r t u k b) (hc : CAN v l r t k u) (hv : ∀ i, i < r → v i < 1000) (hlr : l < r) : b = md v l r t := by
  obtain ⟨j, hj, ej⟩ := hc.2
  obtain ⟨⟨a, ha, ea⟩, h2⟩ := h
  by_cases q : b = md v l r t
  · exact q
  · have h3 := h2 j hj (fun z => q (z.symm.trans ej))
    rw [ej] at h3
    have h4 := (md_spec2 (t := t) hv hlr).2.2 b (by rw [ea]; exact (hc.1 a ha).1) (by rw [ea]; exact (hc.1 a ha).2) q
    exact absurd h3 (ahd_asym h4)
-- sorting by rank
def insN {α : Type} (w : Nat → α) (c i : Nat) : Nat → α := fun j => if c < j ∧ j ≤ i then w (j - 1) else w j
theorem insN_0 {α : Type} {w : Nat → α} {i : Nat} : insN w i i = w := by
  funext j
  unfold insN
  rw [if_neg (by omega)]
theorem insN_s {α : Type} {w : Nat → α} {c i : Nat} (h : c + 1 ≤ i) : va_up (insN w (c + 1) i) (c + 1) (w c) = insN w c i := by
  funext j
  unfold va_up insN
  by_cases e : j = c + 1
  · rw [if_pos e, if_pos (by omega), show j - 1 = c from by omega]
  · rw [if_neg e]
    by_cases q : c + 1 < j ∧ j ≤ i
    · rw [if_pos q, if_pos (by omega)]
    · rw [if_neg q, if_neg (by omega)]
theorem insN_lt {α : Type} {w : Nat → α} {c i j : Nat} (h : j ≤ c) : insN w c i j = w j := by unfold insN; rw [if_neg (by omega)]
def RKS (v : Nat → Nat) (l r t i : Nat) (u w : Nat → Nat) : Prop := (∀ a b, a < b → b < i → ahd v l r t (w a) (w b)) ∧ (∀ j, j < i → ∃ a, a < i ∧ w j = u a) ∧ (∀ a, a < i → ∃ j, j < i ∧ w j = u a) ∧ ∀ j, i ≤ j → w j = u j
theorem RKS_1 {v : Nat → Nat} {l r t : Nat} {u : Nat → Nat} : RKS v l r t 1 u u := ⟨fun a b h1 h2 => by omega, fun j hj => ⟨j, hj, rfl⟩, fun a ha => ⟨a, ha, rfl⟩, fun _ _ => rfl⟩
theorem RKS_00 {v : Nat → Nat} {l r t : Nat} {u : Nat → Nat} : RKS v l r t 0 u u := ⟨fun a b h1 h2 => by omega, fun j hj => ⟨j, hj, rfl⟩, fun a ha => ⟨a, ha, rfl⟩, fun _ _ => rfl⟩
theorem RKS_s {v : Nat → Nat} {l r t i c k : Nat} {u w : Nat → Nat} (h : RKS v l r t i u w) (hc : c ≤ i) (hik : i < k) (hu : ∀ j, j < k → u j < 1000 ∧ 0 < cnt v l r (u j)) (inj : ∀ a b, a < k → b < k → u a = u b → a = b) (hb : ∀ j, c ≤ j → j < i → ahd v l r t (u i) (w j)) (hs : c = 0 ∨ ¬ ahd v l r t (u i) (w (c - 1))) : RKS v l r t (i + 1) u (va_up (insN w c i) c (u i)) := by
  obtain ⟨h1, h2, h3, h4⟩ := h
  have hne : ∀ j, j < i → w j ≠ u i := by
    intro j hj e
    obtain ⟨a, ha, ea⟩ := h2 j hj
    have := inj a i (by omega) hik (ea.symm.trans e)
    omega
  have hlow : ∀ j, j < c → ahd v l r t (w j) (u i) := by
    intro j hj
    rcases hs with hs | hs
    · omega
    · have hp : ∀ m, m < i → 0 < cnt v l r (w m) := by
        intro m hm
        obtain ⟨a, ha, ea⟩ := h2 m hm
        rw [ea]; exact (hu a (by omega)).2
      have q := (ahd_tot (t := t) (hp (c - 1) (by omega)) (hu i hik).2 (hne (c - 1) (by omega))).resolve_right hs
      by_cases z : j = c - 1
      · rw [z]; exact q
      · exact ahd_trans (h1 j (c - 1) (by omega) (by omega)) q
  have val : ∀ j, va_up (insN w c i) c (u i) j = if j = c then u i else if c < j ∧ j ≤ i then w (j - 1) else w j := fun j => rfl
  refine ⟨fun a b hab hbi => ?_, fun j hj => ?_, fun a ha => ?_, fun j hj => ?_⟩
  · rw [val a, val b]
    by_cases e1 : a = c
    · rw [if_pos e1, if_neg (by omega), if_pos (by omega)]
      exact hb (b - 1) (by omega) (by omega)
    · rw [if_neg e1]
      by_cases e2 : b = c
      · rw [if_pos e2, if_neg (by omega)]
        exact hlow a (by omega)
      · rw [if_neg e2]
        by_cases e3 : c < a
        · rw [if_pos (by omega), if_pos (by omega)]
          exact h1 (a - 1) (b - 1) (by omega) (by omega)
        · rw [if_neg (by omega)]
          by_cases e4 : c < b
          · rw [if_pos (by omega)]
            by_cases e5 : b - 1 = c
            · by_cases e6 : a < b - 1
              · exact h1 a (b - 1) e6 (by omega)
              · omega
            · exact h1 a (b - 1) (by omega) (by omega)
          · rw [if_neg (by omega)]
            exact h1 a b hab (by omega)
  · rw [val j]
    by_cases e1 : j = c
    · rw [if_pos e1]; exact ⟨i, by omega, rfl⟩
    · rw [if_neg e1]
      by_cases e2 : c < j ∧ j ≤ i
      · rw [if_pos e2]
        obtain ⟨a, ha, ea⟩ := h2 (j - 1) (by omega)
        exact ⟨a, by omega, ea⟩
      · rw [if_neg e2]
        obtain ⟨a, ha, ea⟩ := h2 j (by omega)
        exact ⟨a, by omega, ea⟩
  · by_cases e : a = i
    · exact ⟨c, by omega, by rw [val c, if_pos rfl, e]⟩
    · obtain ⟨j, hj, ej⟩ := h3 a (by omega)
      by_cases q : j < c
      · exact ⟨j, by omega, by rw [val j, if_neg (by omega), if_neg (by omega)]; exact ej⟩
      · exact ⟨j + 1, by omega, by rw [val (j + 1), if_neg (by omega), if_pos (by omega), Nat.add_sub_cancel]; exact ej⟩
  · rw [val j, if_neg (by omega), if_neg (by omega)]
    exact h4 j (by omega)
theorem insN_s2 {α : Type} {w : Nat → α} {c i : Nat} (h0 : 1 ≤ c) (h : c ≤ i) : va_up (insN w c i) c (insN w c i (c - 1)) = insN w (c - 1) i := by
  rw [insN_lt (show c - 1 ≤ c by omega)]
  have e := insN_s (w := w) (c := c - 1) (i := i) (by omega)
  rw [show c - 1 + 1 = c by omega] at e
  exact e
theorem RKS_t {v : Nat → Nat} {l r t i c k : Nat} {u w : Nat → Nat} (h : RKS v l r t i u w) (hc : c ≤ i) (hik : i < k) (hu : ∀ j, j < k → u j < 1000 ∧ 0 < cnt v l r (u j)) (inj : ∀ a b, a < k → b < k → u a = u b → a = b) (hb : ∀ j, c ≤ j → j < i → ahd v l r t (w i) (w j)) (hs : c = 0 ∨ ¬ ahd v l r t (w i) (insN w c i (c - 1))) : RKS v l r t (i + 1) u (va_up (insN w c i) c (w i)) := by
  rw [insN_lt (show c - 1 ≤ c by omega)] at hs
  have e := h.2.2.2 i (Nat.le_refl i)
  rw [e] at hb hs ⊢
  exact RKS_s h hc hik hu inj hb hs
theorem RKS_ENS {S : Nat → Prop} {v : Nat → Nat} {l r t k : Nat} {u w : Nat → Nat} (hE : ENS S k u) (h : RKS v l r t k u w) : ENS S k w := by
  obtain ⟨h1, h2, h3, h4⟩ := h
  refine ⟨fun j hj => ?_, fun i j hi hj e => ?_, fun x hx hS => ?_⟩
  · obtain ⟨a, ha, ea⟩ := h2 j hj
    rw [ea]; exact hE.1 a ha
  · by_cases q : i < j
    · have := h1 i j q hj
      rw [e] at this
      exact absurd this ahd_irr
    · by_cases q2 : j < i
      · have := h1 j i q2 hi
        rw [e] at this
        exact absurd this ahd_irr
      · omega
  · obtain ⟨a, ha, ea⟩ := hE.2.2 x hx hS
    obtain ⟨j, hj, ej⟩ := h3 a ha
    exact ⟨j, hj, ej.trans ea⟩
theorem cB_lt {k j : Nat} (h : j ≤ k) : cB (fun i => i < j) k = j := by
  induction k with
  | zero => rw [cB_0]; omega
  | succ k ih =>
    by_cases q : k < j
    · rw [cB_t (S := fun i => i < j) q, cB_all (S := fun i => i < j) (fun a ha => show a < j by omega)]; omega
    · rw [cB_f (S := fun i => i < j) q]; exact ih (by omega)
theorem RKS_ofR {v : Nat → Nat} {l r t k j : Nat} {u w : Nat → Nat} (hE : EN v l r k u) (h : RKS v l r t k u w) (hj : j < k) : w j = ofR v l r t j := by
  have hw : EN v l r k w := ⟨hE.1, RKS_ENS (S := fun x => 0 < cnt v l r x) hE.2 h⟩
  have h1 := EN_rk (t := t) (x := w j) hw
  have h2 : cB (fun i => ahd v l r t (w i) (w j)) k = j := by
    rw [cB_congr (T := fun i => i < j), cB_lt (Nat.le_of_lt hj)]
    intro i hi
    constructor
    · intro q
      by_cases z : i < j
      · exact z
      · by_cases z2 : i = j
        · rw [z2] at q; exact absurd q ahd_irr
        · exact absurd q (ahd_asym (h.1 j i (by omega) hi))
    · intro q; exact h.1 i j q hj
  have h3 := ofR_uniq (t := t) (hw.2.1 j hj).1 (hw.2.1 j hj).2
  rw [← h1, h2] at h3
  exact h3.symm
-- candidates
theorem cnt_lr {v : Nat → Nat} {l L R r x : Nat} (h1 : l ≤ L) (h2 : L ≤ R) (h3 : R ≤ r) : cnt v l r x = cnt v l L x + cnt v L R x + cnt v R r x := by
  rw [cnt_split (v := v) (x := x) h1 (Nat.le_trans h2 h3), cnt_split (v := v) (x := x) h2 h3]
  omega
theorem md_mid {v : Nat → Nat} {l L R r t : Nat} (h1 : l ≤ L) (h2 : L < R) (h3 : R ≤ r) (hv : ∀ i, i < r → v i < 1000) (h0 : cnt v l L (md v l r t) = 0) (h4 : cnt v R r (md v l r t) = 0) : md v l r t = md v L R t := by
  obtain ⟨m1, m2, m3⟩ := md_spec2 (v := v) (l := l) (r := r) (t := t) hv (by omega)
  have e := cnt_lr (v := v) (x := md v l r t) h1 (Nat.le_of_lt h2) h3
  refine md_uniq m1 (by omega) (fun y hy py hne => ?_)
  have ey := cnt_lr (v := v) (x := y) h1 (Nat.le_of_lt h2) h3
  have ha := m3 y hy (by omega) hne
  have fe : ∀ z, cnt v l L z = 0 → cnt v R r z = 0 → 0 < cnt v L R z → fsP v l z r = fsP v L z R ∧ lsP v z r = lsP v z R := by
    intro z z1 z2 z3
    obtain ⟨f1, f2, f3, f4⟩ := fsP_spec z3
    obtain ⟨g1, g2, g3, g4⟩ := lsP_spec z3
    refine ⟨(fsP_uniq (by omega) (by omega) f3 (fun q q1 q2 q3 => ?_)).symm, (lsP_uniq (a := l) (by omega) (by omega) g3 (fun q q1 q2 q3 => ?_)).symm⟩
    · by_cases c : L ≤ q
      · exact f4 q c q2 q3
      · have := cnt_in (v := v) (a := l) (b := L) q1 (by omega)
        rw [q3] at this; omega
    · by_cases c : q < R
      · exact g4 q q1 c q3
      · have := cnt_in (v := v) (a := R) (b := r) (Nat.le_of_not_lt c) q2
        rw [q3] at this; omega
  rcases ha with ha | ⟨ha, hb⟩
  · exact Or.inl (by omega)
  · by_cases q : cnt v L R y < cnt v L R (md v l r t)
    · exact Or.inl q
    · refine Or.inr ⟨by omega, ?_⟩
      obtain ⟨a1, a2⟩ := fe _ h0 h4 (by omega)
      obtain ⟨b1, b2⟩ := fe y (by omega) (by omega) py
      unfold tieA at hb ⊢
      rw [a1, a2, b1, b2] at hb
      exact hb
theorem cnt_no {v : Nat → Nat} {a b x : Nat} (h : ∀ q, a ≤ q → q < b → v q ≠ x) : cnt v a b x = 0 := by
  by_cases z : 0 < cnt v a b x
  · obtain ⟨p, p1, p2, p3⟩ := cnt_pos.mp z
    exact absurd p3 (h p p1 p2)
  · omega
theorem CSt_md {v : Nat → Nat} {t n b l fi e r : Nat} (hv : ∀ i, i < r → v i < 1000) (hlr : l < r) (hw : fi < e → l ≤ b * fi ∧ b * fi < bEnd b (e - 1) n ∧ bEnd b (e - 1) n ≤ r) : CSt v t n b l fi e r (md v l r t) := by
  unfold CSt
  obtain ⟨m1, m2, m3⟩ := md_spec2 (v := v) (l := l) (r := r) (t := t) hv hlr
  obtain ⟨p, p1, p2, p3⟩ := cnt_pos.mp m2
  by_cases h : ∃ q, l ≤ q ∧ q < r ∧ (e ≤ fi ∨ q < b * fi ∨ bEnd b (e - 1) n ≤ q) ∧ v q = md v l r t
  · exact Or.inr h
  · by_cases he : fi < e
    · obtain ⟨w1, w2, w3⟩ := hw he
      refine Or.inl ⟨he, md_mid w1 w2 w3 hv (cnt_no (fun q q1 q2 q3 => h ⟨q, q1, by omega, Or.inr (Or.inl q2), q3⟩)) (cnt_no (fun q q1 q2 q3 => h ⟨q, by omega, q2, Or.inr (Or.inr q1), q3⟩))⟩
    · exact absurd ⟨p, p1, p2, Or.inl (by omega), p3⟩ h
theorem CSt_in {v : Nat → Nat} {t n b l fi e p x : Nat} (hv : ∀ i, i < n → v i < 1000) (hn : bEnd b (e - 1) n ≤ n) (hw : fi < e → l ≤ b * fi ∧ b * fi < bEnd b (e - 1) n ∧ bEnd b (e - 1) n ≤ p) (h : CSt v t n b l fi e p x) : 0 < cnt v l p x := by
  rcases h with ⟨h1, h2⟩ | ⟨q, q1, q2, -, q4⟩
  · obtain ⟨w1, w2, w3⟩ := hw h1
    have m := (md_spec2 (v := v) (l := b * fi) (r := bEnd b (e - 1) n) (t := t) (fun i hi => hv i (by omega)) w2).2.1
    rw [← h2] at m
    have := cnt_lr (v := v) (x := x) w1 (Nat.le_of_lt w2) w3
    omega
  · rw [← q4]; exact cnt_in q1 q2
theorem ENS_room {S : Nat → Prop} {v : Nat → Nat} {l r k y : Nat} {u : Nat → Nat} (h : ENS S k u) (hS : ∀ x, x < 1000 → S x → 0 < cnt v l r x) (hy : y < 1000) (py : 0 < cnt v l r y) (hr : r - l ≤ 120) : k < 120 ∨ ∃ j, j < k ∧ u j = y := by
  by_cases q : ∃ j, j < k ∧ u j = y
  · exact Or.inr q
  · have h2 : ENS (fun x => S x ∨ x = y) (k + 1) (va_up u k y) := ENS_lk h (Or.inr ⟨fun j hj e => q ⟨j, hj, e⟩, rfl, rfl⟩) hy (fun _ _ => Iff.rfl)
    have h3 := ENS_le (v := v) (l := l) (r := r) h2 (fun x hx z => z.elim (hS x hx) (fun w => by rw [w]; exact py))
    exact Or.inl (by omega)
theorem fi_b {l b : Nat} (hb : 0 < b) : l ≤ b * zdiv (l + b - 1) b ∧ b * zdiv (l + b - 1) b < l + b := by
  unfold zdiv
  have h1 := Nat.div_add_mod (l + b - 1) b
  have h2 := Nat.mod_lt (l + b - 1) hb
  omega
theorem bEnd_le {b j n : Nat} : bEnd b j n ≤ n := by
  unfold bEnd
  split <;> omega
theorem bEnd_le2 {b j n : Nat} : bEnd b j n ≤ b * (j + 1) := by
  unfold bEnd
  split <;> omega
theorem bEnd_mono {b i j n : Nat} (h : i ≤ j) : bEnd b i n ≤ bEnd b j n := by
  have h2 : b * (i + 1) ≤ b * (j + 1) := Nat.mul_le_mul_left b (by omega)
  unfold bEnd
  split <;> split <;> omega
theorem lb_wb {n b l r j fi : Nat} (hb : 2 ≤ b) (hr : r < n) (hj : lbZ n b r = (j : Int)) (hfi : fi ≤ j) (hl : b * fi < l + b) (hl2 : l ≤ b * fi) : WB b n fi r (j + 1) ∧ (l ≤ b * fi ∧ b * fi < bEnd b j n ∧ bEnd b j n ≤ r + 1) ∧ b * j < n := by
  have hm : b * fi ≤ b * j := Nat.mul_le_mul_left b hfi
  unfold lbZ at hj
  split at hj
  · rename_i e
    have hjb : j < zdiv (n + b - 1) b := by omega
    have hbj := (blk_lt (by omega)).mp hjb
    have hE := bEnd_b (by omega) hbj
    refine ⟨⟨by omega, fun i h1 h2 => ⟨by omega, by have := bEnd_le (b := b) (j := i) (n := n); omega⟩, Or.inl (by omega)⟩, ⟨hl2, by omega, by omega⟩, hbj⟩
  · rename_i e
    have e1 : zdiv (r + 1) b = j + 1 := by omega
    have h1 : b * (j + 1) ≤ r + 1 := by rw [← e1]; exact Nat.mul_div_le _ _
    have h2 : r + 1 < b * (j + 1 + 1) := by rw [← e1]; exact Nat.lt_mul_div_succ _ (by omega)
    have e3 : b * (j + 1) = b * j + b := Nat.mul_succ b j
    have hbj : b * j < n := by omega
    have hE := bEnd_b (by omega) hbj
    have hE2 := bEnd_le2 (b := b) (j := j) (n := n)
    refine ⟨⟨by omega, fun i h3 h4 => ?_, Or.inr ?_⟩, ⟨hl2, by omega, by omega⟩, hbj⟩
    · have h5 : b * i ≤ b * j := Nat.mul_le_mul_left b (by omega)
      have h6 := bEnd_mono (b := b) (n := n) (show i ≤ j by omega)
      exact ⟨(blk_lt (by omega)).mpr (by omega), by omega⟩
    · unfold bEnd
      split <;> omega
theorem lb_wb0 {n b r fi : Nat} (hb : 2 ≤ b) (hr : r < n) (hj : lbZ n b r < (fi : Int)) : WB b n fi r fi := by
  refine ⟨Nat.le_refl _, fun i h1 h2 => by omega, ?_⟩
  unfold lbZ at hj
  split at hj
  · exact Or.inl (by omega)
  · refine Or.inr ?_
    have h2 : r + 1 < b * (zdiv (r + 1) b + 1) := Nat.lt_mul_div_succ _ (by omega)
    have h3 : b * (zdiv (r + 1) b + 1) ≤ b * (fi + 1) := Nat.mul_le_mul_left b (by omega)
    unfold bEnd
    split <;> omega
theorem cst_step {v : Nat → Nat} {t n b l fi e p : Nat} (hl : l ≤ p) (c : e ≤ fi ∨ p < b * fi ∨ bEnd b (e - 1) n ≤ p) (y : Nat) (_ : y < 1000) : CSt v t n b l fi e (p + 1) y ↔ CSt v t n b l fi e p y ∨ y = v p := by
  unfold CSt
  constructor
  · rintro (h | ⟨q, q1, q2, q3, q4⟩)
    · exact Or.inl (Or.inl h)
    · by_cases z : q = p
      · subst z; exact Or.inr q4.symm
      · exact Or.inl (Or.inr ⟨q, q1, by omega, q3, q4⟩)
  · rintro ((h | ⟨q, q1, q2, q3, q4⟩) | h)
    · exact Or.inl h
    · exact Or.inr ⟨q, q1, by omega, q3, q4⟩
    · exact Or.inr ⟨p, hl, by omega, c, h.symm⟩
theorem cst_skip {v : Nat → Nat} {t n b l fi e p p2 : Nat} (h1 : fi < e) (h2 : p = b * fi) (h3 : p2 = bEnd b (e - 1) n) (h4 : p ≤ p2) (y : Nat) (_ : y < 1000) : CSt v t n b l fi e p y ↔ CSt v t n b l fi e p2 y := by
  unfold CSt
  constructor
  · rintro (h | ⟨q, q1, q2, q3, q4⟩)
    · exact Or.inl h
    · exact Or.inr ⟨q, q1, by omega, q3, q4⟩
  · rintro (h | ⟨q, q1, q2, q3, q4⟩)
    · exact Or.inl h
    · exact Or.inr ⟨q, q1, by omega, q3, q4⟩
theorem cst_l0 {v : Nat → Nat} {t n b l fi e : Nat} (h : e ≤ fi) : ∀ x, x < 1000 → ¬ CSt v t n b l fi e l x := by
  rintro x _ (h1 | ⟨q, q1, q2, -⟩) <;> omega
theorem cst_l1 {v : Nat → Nat} {t n b l fi e k2 : Nat} {u u2 : Nat → Nat} (h : fi < e) (hL : LKS 0 u (md v (b * fi) (bEnd b (e - 1) n) t) k2 u2) : ENS (CSt v t n b l fi e l) k2 u2 :=
  ENS_lk (S := fun _ => False) (ENS_0 (fun _ _ q => q)) hL (md_lt_1000 _ _ _ _) (fun y _ => ⟨fun q => q.elim (fun z => Or.inr z.2) (fun ⟨q, q1, q2, _⟩ => by omega), fun q => q.elim (fun z => z.elim) (fun z => Or.inl ⟨h, z⟩)⟩)
theorem CSt_up {v : Nat → Nat} {t n b l fi e p p2 x : Nat} (h : CSt v t n b l fi e p x) (hp : p ≤ p2) : CSt v t n b l fi e p2 x :=
  h.elim Or.inl (fun ⟨q, q1, q2, q3, q4⟩ => Or.inr ⟨q, q1, by omega, q3, q4⟩)
theorem lbZ_rng {n b r : Nat} (hb : 2 ≤ b) (hn : n ≤ 120) (hr : r < n) : -1 ≤ lbZ n b r ∧ lbZ n b r ≤ 120 := by
  have h1 := blk_le hb hn
  have h2 : zdiv (r + 1) b ≤ r + 1 := Nat.div_le_self _ _
  unfold lbZ
  split <;> omega
/-- what a query leaves as it was -/
def DK (F : Nat → Int) (A : Nat → Nat → Int) (F2 : Nat → Int) (A2 : Nat → Nat → Int) : Prop := (∀ k, k ≠ 17 → k ≠ 20 → k ≠ 21 → k ≠ 22 → k ≠ 206 → F2 k = F k) ∧ ∀ k, k ≠ 15 → k ≠ 18 → k ≠ 19 → k ≠ 24 → k ≠ 207 → k ≠ 208 → A2 k = A k
-- candidates by rank
theorem cB_cut {S : Nat → Prop} {i : Nat} : ∀ {N : Nat}, i ≤ N → cB S i = cB (fun j => S j ∧ j < i) N
  | 0, h => by rw [show i = 0 by omega]; rfl
  | N + 1, h => by
    by_cases e : i = N + 1
    · subst e
      exact cB_congr (fun j hj => ⟨fun q => ⟨q, hj⟩, fun q => q.1⟩)
    · rw [cB_f (show ¬ (S N ∧ N < i) by omega)]
      exact cB_cut (by omega)
theorem EN_ofR {v : Nat → Nat} {l r t k : Nat} {u : Nat → Nat} (h : EN v l r k u) : ENS (fun x => 0 < cnt v l r x) (dst v l r) (ofR v l r t) := by
  have hs : ∀ j, j < dst v l r → ofR v l r t j < 1000 ∧ 0 < cnt v l r (ofR v l r t j) ∧ rk v l r t (ofR v l r t j) = j := fun j hj => ofR_spec h (by rw [EN_dst h]; exact hj)
  refine ⟨fun j hj => ⟨(hs j hj).1, (hs j hj).2.1⟩, fun i j hi hj e => ?_, fun x hx px => ⟨rk v l r t x, rk_lt_dst hx px, ofR_uniq hx px⟩⟩
  rw [← (hs i hi).2.2, ← (hs j hj).2.2, e]
theorem cd_all {S : Nat → Prop} {v : Nat → Nat} {l r t k K : Nat} {u U : Nat → Nat} (hK : EN v l r K U) (h : ENS S k u) (hS : ∀ x, x < 1000 → S x → 0 < cnt v l r x) : cB (fun j => S (ofR v l r t j)) (dst v l r) = k := by
  have hO := EN_ofR (t := t) hK
  rw [cB_enum (P := S) (ofR v l r t) (dst v l r) (fun x => 0 < cnt v l r x) hO.1 hO.2.1 hO.2.2]
  have h1 := cB_enum (P := fun _ => True) u k S h.1 h.2.1 h.2.2
  rw [cB_all (fun _ _ => trivial)] at h1
  rw [h1]
  exact cB_congr (fun x hx => ⟨fun q => ⟨q.2, trivial⟩, fun q => ⟨hS x hx q.1, q.1⟩⟩)
theorem cd_at {S : Nat → Prop} {v : Nat → Nat} {l r t k K c : Nat} {w U : Nat → Nat} (hK : EN v l r K U) (h : ENS S k w) (hS : ∀ x, x < 1000 → S x → 0 < cnt v l r x) (hs : ∀ a b, a < b → b < k → ahd v l r t (w a) (w b)) (hc : c < k) : ∃ i, i < dst v l r ∧ S (ofR v l r t i) ∧ cB (fun j => S (ofR v l r t j)) i = c ∧ w c = ofR v l r t i := by
  have hO := EN_ofR (t := t) hK
  obtain ⟨hx, hSx⟩ := h.1 c hc
  have px := hS _ hx hSx
  have e1 := ofR_uniq (t := t) hx px
  have hi := rk_lt_dst (t := t) hx px
  refine ⟨rk v l r t (w c), hi, by rw [e1]; exact hSx, ?_, e1.symm⟩
  have hs2 : ∀ j, j < dst v l r → ofR v l r t j < 1000 ∧ 0 < cnt v l r (ofR v l r t j) ∧ rk v l r t (ofR v l r t j) = j := fun j hj => ofR_spec hK (by rw [EN_dst hK]; exact hj)
  rw [cB_cut (Nat.le_of_lt hi)]
  have e2 : cB (fun j => S (ofR v l r t j) ∧ j < rk v l r t (w c)) (dst v l r) = cB (fun j => S (ofR v l r t j) ∧ ahd v l r t (ofR v l r t j) (w c)) (dst v l r) := by
    refine cB_congr (fun j hj => ?_)
    obtain ⟨a1, a2, a3⟩ := hs2 j hj
    constructor
    · rintro ⟨q1, q2⟩
      refine ⟨q1, ?_⟩
      by_cases z : ofR v l r t j = w c
      · rw [← z, a3] at q2; omega
      · refine (ahd_tot (t := t) a2 px z).resolve_right (fun q => ?_)
        have := rk_lt hx px q
        omega
    · rintro ⟨q1, q2⟩
      refine ⟨q1, ?_⟩
      have := rk_lt a1 a2 q2
      omega
  rw [e2, cB_enum (P := fun y => S y ∧ ahd v l r t y (w c)) (ofR v l r t) (dst v l r) (fun x => 0 < cnt v l r x) hO.1 hO.2.1 hO.2.2]
  have h1 := cB_enum (P := fun y => ahd v l r t y (w c)) w k S h.1 h.2.1 h.2.2
  have e3 : cB (fun j => ahd v l r t (w j) (w c)) k = c := by
    rw [cB_congr (T := fun j => j < c), cB_lt (Nat.le_of_lt hc)]
    intro j hj
    constructor
    · intro q
      by_cases z : j < c
      · exact z
      · by_cases z2 : j = c
        · rw [z2] at q; exact absurd q ahd_irr
        · exact absurd q (ahd_asym (hs c j (by omega) hj))
    · intro q; exact hs j c q hc
  rw [e3] at h1
  exact (cB_congr (fun x hx9 => ⟨fun q => q.2, fun q => ⟨hS x hx9 q.1, q⟩⟩)).trans h1.symm
-- sorting by value
def SRI (v : Nat → Nat) (l i : Nat) (s : Nat → Nat) : Prop := (∀ a b, a < b → b < i → s a ≤ s b) ∧ (∀ y, cnt s 0 i y = cnt v l (l + i) y) ∧ ∀ j, j < i → s j < 1000
theorem SRI_0 {v : Nat → Nat} {l : Nat} {s : Nat → Nat} : SRI v l 0 s := ⟨fun a b _ h => absurd h (Nat.not_lt_zero _), fun y => by rw [cnt_0 s (Nat.le_refl 0), cnt_0 v (by omega)], fun j h => absurd h (Nat.not_lt_zero _)⟩
theorem cnt_shift {f g : Nat → Nat} {a y : Nat} : ∀ {b : Nat}, a ≤ b → (∀ j, a ≤ j → j < b → f (j + 1) = g j) → cnt f (a + 1) (b + 1) y = cnt g a b y
  | 0, h, _ => by rw [cnt_0 f (by omega), cnt_0 g (by omega)]
  | b + 1, h, hf => by
    by_cases e : a = b + 1
    · rw [cnt_0 f (by omega), cnt_0 g (by omega)]
    · rw [cnt_succ f y (show a + 1 ≤ b + 1 by omega), cnt_succ g y (show a ≤ b by omega), cnt_shift (show a ≤ b by omega) (fun j h1 h2 => hf j h1 (by omega)), hf b (by omega) (by omega)]
theorem SRI_s {v : Nat → Nat} {l i c x : Nat} {s : Nat → Nat} (h : SRI v l i s) (hc : c ≤ i) (hx : x = v (l + i)) (hx2 : x < 1000) (hb : ∀ j, c ≤ j → j < i → x ≤ s j) (hs : c = 0 ∨ s (c - 1) ≤ x) : SRI v l (i + 1) (va_up (insN s c i) c x) := by
  have val : ∀ j, va_up (insN s c i) c x j = if j = c then x else if c < j ∧ j ≤ i then s (j - 1) else s j := fun j => rfl
  have hlow : ∀ j, j < c → s j ≤ x := by
    intro j hj
    rcases hs with hs | hs
    · omega
    · by_cases z : j = c - 1
      · rw [z]; exact hs
      · exact Nat.le_trans (h.1 j (c - 1) (by omega) (by omega)) hs
  refine ⟨fun a b hab hbi => ?_, fun y => ?_, fun j hj => ?_⟩
  · rw [val a, val b]
    by_cases e1 : a = c
    · rw [if_pos e1, if_neg (by omega), if_pos (by omega)]
      exact hb (b - 1) (by omega) (by omega)
    · rw [if_neg e1]
      by_cases e2 : b = c
      · rw [if_pos e2, if_neg (by omega)]
        exact hlow a (by omega)
      · rw [if_neg e2]
        by_cases e3 : c < a
        · rw [if_pos (by omega), if_pos (by omega)]
          exact h.1 (a - 1) (b - 1) (by omega) (by omega)
        · rw [if_neg (by omega)]
          by_cases e4 : c < b
          · rw [if_pos (by omega)]
            by_cases e6 : a < b - 1
            · exact h.1 a (b - 1) e6 (by omega)
            · omega
          · rw [if_neg (by omega)]
            exact h.1 a b hab (by omega)
  · rw [cnt_split (v := va_up (insN s c i) c x) (x := y) (Nat.zero_le c) (show c ≤ i + 1 by omega), cnt_split (v := va_up (insN s c i) c x) (x := y) (show c ≤ c + 1 by omega) (show c + 1 ≤ i + 1 by omega)]
    have e1 : cnt (va_up (insN s c i) c x) 0 c y = cnt s 0 c y := cnt_congr y (fun p _ hp => by rw [val p, if_neg (by omega), if_neg (by omega)])
    have e2 : cnt (va_up (insN s c i) c x) c (c + 1) y = if x = y then 1 else 0 := by rw [cnt_succ _ y (Nat.le_refl c), cnt_0 _ (Nat.le_refl c), va_up_self, Nat.zero_add]
    have e3 : cnt (va_up (insN s c i) c x) (c + 1) (i + 1) y = cnt s c i y := cnt_shift hc (fun j h1 h2 => by rw [val (j + 1), if_neg (by omega), if_pos (by omega), Nat.add_sub_cancel])
    have e4 := cnt_split (v := s) (x := y) (Nat.zero_le c) hc
    have e5 := h.2.1 y
    rw [e1, e2, e3, show l + (i + 1) = l + i + 1 by omega, cnt_succ v y (show l ≤ l + i by omega), ← hx]
    omega
  · rw [val j]
    split
    · exact hx2
    · split
      · exact h.2.2 (j - 1) (by omega)
      · exact h.2.2 j (by omega)
theorem ins_arr {a : Nat → Int} {s : Nat → Nat} {i c x : Nat} (h : ∀ j, j < i → a j = (s j : Int)) (hc : c ≤ i) : ∀ j, j < i + 1 → va_up (insN a c i) c (x : Int) j = ((va_up (insN s c i) c x j : Nat) : Int) := by
  intro j hj
  have v1 : va_up (insN a c i) c (x : Int) j = if j = c then (x : Int) else if c < j ∧ j ≤ i then a (j - 1) else a j := rfl
  have v2 : va_up (insN s c i) c x j = if j = c then x else if c < j ∧ j ≤ i then s (j - 1) else s j := rfl
  rw [v1, v2]
  split
  · rfl
  · split
    · exact h (j - 1) (by omega)
    · exact h j (by omega)
theorem csum_cB {v : Nat → Nat} {L R : Nat} : ∀ {x : Nat}, csum v L R x = cB (fun p => L ≤ p ∧ v p < x) R
  | 0 => by rw [cB_none (fun j _ h => absurd h.2 (Nat.not_lt_zero _))]; rfl
  | x + 1 => by
    have e : ∀ R, cB (fun p => L ≤ p ∧ v p < x + 1) R = cB (fun p => L ≤ p ∧ v p < x) R + cnt v L R x := by
      intro R
      induction R with
      | zero => rw [cB_0, cB_0, cnt_0 v (Nat.zero_le _)]
      | succ R ih =>
        by_cases hl : L ≤ R
        · rw [cnt_succ v x hl]
          by_cases q : v R < x
          · rw [cB_t (show L ≤ R ∧ v R < x + 1 by omega), cB_t (show L ≤ R ∧ v R < x by omega), if_neg (by omega)]; omega
          · by_cases q2 : v R = x
            · rw [cB_t (show L ≤ R ∧ v R < x + 1 by omega), cB_f (show ¬ (L ≤ R ∧ v R < x) by omega), if_pos q2]; omega
            · rw [cB_f (show ¬ (L ≤ R ∧ v R < x + 1) by omega), cB_f (show ¬ (L ≤ R ∧ v R < x) by omega), if_neg q2]; omega
        · rw [cB_f (show ¬ (L ≤ R ∧ v R < x + 1) by omega), cB_f (show ¬ (L ≤ R ∧ v R < x) by omega), ih, cnt_0 v (show R ≤ L by omega), cnt_0 v (show R + 1 ≤ L by omega)]
    rw [e R, ← csum_cB]
    rfl
theorem csum_cg {v s : Nat → Nat} {L R L2 R2 : Nat} (h : ∀ y, cnt s L R y = cnt v L2 R2 y) : ∀ x, csum s L R x = csum v L2 R2 x
  | 0 => rfl
  | x + 1 => by show csum s L R x + cnt s L R x = csum v L2 R2 x + cnt v L2 R2 x; rw [csum_cg h x, h x]
theorem SRI_med {v : Nat → Nat} {l m k : Nat} {s : Nat → Nat} (h : SRI v l m s) (hk : k < m) : csum v l (l + m) (s k) ≤ k ∧ k < csum v l (l + m) (s k + 1) := by
  rw [← csum_cg h.2.1, ← csum_cg h.2.1, csum_cB, csum_cB]
  constructor
  · have h1 : cB (fun p => 0 ≤ p ∧ s p < s k) m ≤ cB (fun p => p < k) m := cB_mono (fun j hj q => by
      by_cases z : j < k
      · exact z
      · by_cases z2 : j = k
        · rw [z2] at q; omega
        · have := h.1 k j (by omega) hj; omega)
    rw [cB_lt (Nat.le_of_lt hk)] at h1
    exact h1
  · have h1 : cB (fun p => p < k + 1) m ≤ cB (fun p => 0 ≤ p ∧ s p < s k + 1) m := cB_mono (fun j hj q => by
      have q : j < k + 1 := q
      refine ⟨Nat.zero_le _, ?_⟩
      by_cases z : j = k
      · rw [z]; omega
      · have := h.1 j k (by omega) hk; omega)
    rw [cB_lt (by omega)] at h1
    omega
