/-! the desk's whole state, as the law knows it -/
set_option maxRecDepth 100000
def HMOp (b n : Nat) (v : Nat → Nat) (t : Nat) (a : Nat → Int) : Prop := ∀ i j, i ≤ j → b * j < n → a (60 * i + j) = (md v (b * i) (bEnd b j n) t : Int)
def DST (s0 : State) (G : zG) (nw b t n : Nat) (v wt : Nat → Nat) (un : Nat) (hm : Nat → Nat) (hvv hww : Nat → Nat → Nat) (fr : Int) (F : Nat → Int) (Ar : Nat → Nat → Int) (kp : Nat → Nat) (L : List Nat) (pl : Nat → Option Nat) (pr pa pm : Nat → Nat) (pf : Nat → Nat → Nat) : Prop :=
  (n ≤ 120 ∧ F 200 = (n : Int) ∧ (∀ i, i < n → v i < 1000) ∧ (∀ i, i < n → Ar 201 i = (v i : Int)) ∧ (∀ i, i < n → 1 ≤ wt i ∧ wt i ≤ 9) ∧ ∀ i, i < n → Ar 202 i = (wt i : Int)) ∧ ((2 ≤ b ∧ b ≤ 20) ∧ F 7 = (b : Int) ∧ t < 4 ∧ F 8 = (t : Int)) ∧ (un ≤ 12 ∧ F 14 = (un : Int) ∧ KPT kp ∧ PASTD un kp F Ar hm hvv hww) ∧ (PLS s0 G nw L pl pr pa pm pf ∧ ∀ y, y < 1000 → PlC n v y (pm y) (pf y)) ∧ (∀ i j, i ≤ j → b * j < n → Ar 12 (60 * i + j) = (md v (b * i) (bEnd b j n) t : Int)) ∧ F 9 = fr ∧ Ar 16 = zZ
/-- what ends leaves alone -/
def EKE (F : Nat → Int) (Ar : Nat → Nat → Int) (F2 : Nat → Int) (A2 : Nat → Nat → Int) : Prop := (∀ k, k < 209 → k ≠ 9 → k ≠ 14 → F2 k = F k) ∧ ∀ k, k < 209 → k ≠ 12 → A2 k = Ar k
/-- what an edit leaves alone -/
def EKQ (F : Nat → Int) (Ar : Nat → Nat → Int) (F2 : Nat → Int) (A2 : Nat → Nat → Int) : Prop := F2 1 = F 1 ∧ F2 2 = F 2 ∧ F2 3 = F 3 ∧ F2 6 = F 6 ∧ A2 0 = Ar 0
theorem EKQ_of {F F1 F2 : Nat → Int} {Ar A1 A2 : Nat → Nat → Int} (h : EKE F1 A1 F2 A2) (h1 : EKQ F Ar F1 A1) : EKQ F Ar F2 A2 :=
  ⟨(h.1 1 (by decide) (by decide) (by decide)).trans h1.1, (h.1 2 (by decide) (by decide) (by decide)).trans h1.2.1, (h.1 3 (by decide) (by decide) (by decide)).trans h1.2.2.1, (h.1 6 (by decide) (by decide) (by decide)).trans h1.2.2.2.1, (h.2 0 (by decide) (by decide)).trans h1.2.2.2.2⟩
theorem HMO_cg {b n t : Nat} {v w : Nat → Nat} {a : Nat → Int} (h : ∀ i j, i ≤ j → b * j < n → a (60 * i + j) = (md v (b * i) (bEnd b j n) t : Int)) (hb : 2 ≤ b) (hv : ∀ i, i < n → v i < 1000) (e : ∀ p, p < n → v p = w p) : ∀ i j, i ≤ j → b * j < n → a (60 * i + j) = (md w (b * i) (bEnd b j n) t : Int) := fun i j h1 h2 => by
  have hE := bEnd_b (show 0 < b by omega) h2
  have h3 := Nat.mul_le_mul_left b h1
  have h4 := bEnd_le (b := b) (j := j) (n := n)
  rw [h i j h1 h2, md_cg (v := v) (w := w) (fun p _ hp => e p (by omega)) (fun p hp => hv p (by omega)) (by omega)]
theorem sameR_of {n n2 : Nat} {v v2 wt wt2 : Nat → Nat} (h : n = n2 ∧ ∀ i, i < n → v i = v2 i ∧ wt i = wt2 i) : sameR n2 v2 wt2 n v wt := ⟨h.1, fun p hp => h.2 p (by have := h.1; omega)⟩
theorem sameR_not {n n2 : Nat} {v v2 wt wt2 : Nat → Nat} (h : ¬ (n = n2 ∧ ∀ i, i < n → v i = v2 i ∧ wt i = wt2 i)) : ¬ sameR n2 v2 wt2 n v wt := fun q => h ⟨q.1, fun p hp => q.2 p (by have := q.1; omega)⟩
theorem oth_same {n : Nat} {v v2 : Nat → Nat} (h : ∀ p, p < n → v2 p = v p) : oth n v v2 = 0 := cB_none (fun j hj q => q (h j hj))
theorem oth_of {n n2 : Nat} {v v2 : Nat → Nat} (e : n2 = n) : cB (fun p => n2 ≤ p ∨ v p ≠ v2 p) n = oth n v2 v := by
  unfold oth
  exact cB_congr (fun j hj => ⟨fun q => q.resolve_left (by omega), fun q => Or.inr q⟩)
theorem DST_same {s0 : State} {G : zG} {nw b t n n2 : Nat} {v wt v2 wt2 : Nat → Nat} {un : Nat} {hm : Nat → Nat} {hvv hww : Nat → Nat → Nat} {fr : Int} {F : Nat → Int} {Ar : Nat → Nat → Int} {kp : Nat → Nat} {L : List Nat} {pl : Nat → Option Nat} {pr pa pm : Nat → Nat} {pf : Nat → Nat → Nat}
    (h : n = n2 ∧ ∀ i, i < n → v i = v2 i ∧ wt i = wt2 i) (h1 : n ≤ 120 ∧ F 200 = (n : Int) ∧ (∀ i, i < n → v i < 1000) ∧ (∀ i, i < n → Ar 201 i = (v i : Int)) ∧ (∀ i, i < n → 1 ≤ wt i ∧ wt i ≤ 9) ∧ ∀ i, i < n → Ar 202 i = (wt i : Int)) (h2 : (2 ≤ b ∧ b ≤ 20) ∧ F 7 = (b : Int) ∧ t < 4 ∧ F 8 = (t : Int)) (h3 : un ≤ 12 ∧ F 14 = (un : Int) ∧ KPT kp ∧ PASTD un kp F Ar hm hvv hww) (h4 : PLS s0 G nw L pl pr pa pm pf) (h5 : ∀ y, y < 1000 → PlC n2 v2 y (pm y) (pf y)) (h6 : ∀ i j, i ≤ j → b * j < n2 → Ar 12 (60 * i + j) = (md v2 (b * i) (bEnd b j n2) t : Int)) (h7 : F 9 = fr) (h8 : Ar 16 = zZ) : DST s0 G nw b t n v wt un hm hvv hww fr F Ar kp L pl pr pa pm pf := by
  obtain ⟨rfl, hh⟩ := h
  exact ⟨h1, h2, h3, ⟨h4, fun y hy => PlC_cg (h5 y hy) (fun p hp => (hh p hp).1.symm)⟩, HMO_cg h6 h2.1.1 (fun i hi => by rw [← (hh i hi).1]; exact h1.2.2.1 i hi) (fun p hp => (hh p hp).1.symm), h7, h8⟩
theorem va_up_id {α : Type} {f : Nat → α} {k : Nat} {x : α} (h : f k = x) : va_up f k x = f := by
  funext j
  unfold va_up
  split
  · rename_i e
    rw [e, h]
  · rfl
/-! rows as numbers -/
theorem cv_up {n p x : Nat} {a : Nat → Int} {v : Nat → Nat} (h : ∀ i, i < n → a i = (v i : Int)) : ∀ i, i < n → va_up a p (x : Int) i = ((va_up v p x i : Nat) : Int) := fun i hi => by
  by_cases e : i = p
  · rw [e, va_up_self, va_up_self]
  · rw [va_up_ne _ _ e, va_up_ne _ _ e]; exact h i hi
theorem cv_upz {n p x : Nat} {a : Nat → Int} {v : Nat → Nat} {z : Int} (h : ∀ i, i < n → a i = (v i : Int)) (hz : z = (x : Int)) : ∀ i, i < n → va_up a p z i = ((va_up v p x i : Nat) : Int) := by
  subst hz
  exact cv_up h
theorem cv_sw {n p q : Nat} {a : Nat → Int} {v : Nat → Nat} (h : ∀ i, i < n → a i = (v i : Int)) (hp : p < n) (hq : q < n) : ∀ i, i < n → va_up (va_up a p (a q)) q (a p) i = (swpF v p q i : Int) := fun i hi => by
  unfold swpF
  by_cases e : i = q
  · rw [e, va_up_self]
    by_cases z : q = p
    · rw [z, va_up_self]; exact h p hp
    · rw [va_up_ne _ _ z, va_up_self]; exact h p hp
  · rw [va_up_ne _ _ e]
    by_cases z : i = p
    · rw [z, va_up_self, va_up_self]; exact h q hq
    · rw [va_up_ne _ _ z, va_up_ne _ _ z, va_up_ne _ _ e]; exact h i hi
theorem cv_op {n p x : Nat} {a : Nat → Int} {v : Nat → Nat} {z : Int} (h : ∀ i, i < n → a i = (v i : Int)) (hp : p ≤ n) (hz : z = (x : Int)) : ∀ i, i < n + 1 → va_up (opnF a n p) p z i = (insF v p x i : Int) := fun i hi => by
  unfold insF
  by_cases e : i = p
  · rw [e, va_up_self, if_neg (by omega), if_pos rfl, hz]
  · rw [va_up_ne _ _ e]
    unfold opnF
    by_cases z : i < p
    · rw [if_pos z, if_neg (by omega)]; exact h i (by omega)
    · rw [if_neg z, if_neg e, if_pos (by omega)]; exact h (i - 1) (by omega)
theorem cv_cl {n p : Nat} {a : Nat → Int} {v : Nat → Nat} (h : ∀ i, i < n → a i = (v i : Int)) : ∀ i, i < n - 1 → clsF a p (n - 1) i = (remF v p i : Int) := fun i hi => by
  unfold remF clsF
  by_cases z : i < p
  · rw [if_pos z, if_neg (by omega)]; exact h i (by omega)
  · rw [if_neg z, if_pos (by omega)]; exact h (i + 1) (by omega)
def FLP (v tv : Nat → Nat) (l r k : Nat) : Prop := ∀ j, tv j = if l ≤ j ∧ j ≤ r ∧ (j < l + k ∨ r < j + k) then v (l + r - j) else v j
theorem FLP_0 {v : Nat → Nat} {l r : Nat} : FLP v v l r 0 := fun j => by rw [if_neg (by omega)]
theorem FLP_s {v tv : Nat → Nat} {l r k : Nat} (h : FLP v tv l r k) (hk : l + k < r - k) : FLP v (swpF tv (l + k) (r - k)) l r (k + 1) := fun j => by
  unfold swpF
  by_cases e : j = l + k
  · rw [e, va_up_self, h (r - k), if_neg (by omega), if_pos (by omega), show l + r - (l + k) = r - k by omega]
  · rw [va_up_ne _ _ e]
    by_cases z : j = r - k
    · rw [z, va_up_self, h (l + k), if_neg (by omega), if_pos (by omega), show l + r - (r - k) = l + k by omega]
    · rw [va_up_ne _ _ z, h j]
      by_cases y : l ≤ j ∧ j ≤ r ∧ (j < l + k ∨ r < j + k)
      · rw [if_pos y, if_pos (by omega)]
      · rw [if_neg y, if_neg (by omega)]
theorem FLP_e {v tv : Nat → Nat} {l r k : Nat} (h : FLP v tv l r k) (hk : ¬ (l + k + k < r)) : tv = flpF v l r := by
  funext j
  rw [h j]
  unfold flpF
  by_cases y : l ≤ j ∧ j ≤ r
  · rw [if_pos y]
    by_cases z : j < l + k ∨ r < j + k
    · rw [if_pos ⟨y.1, y.2, z⟩]
    · rw [if_neg (fun q => z q.2.2), show l + r - j = j by omega]
  · rw [if_neg (fun q => y ⟨q.1, q.2.1⟩), if_neg y]
def FLL (v tv : Nat → Nat) (l p x : Nat) : Prop := ∀ j, tv j = if l ≤ j ∧ j < p then x else v j
theorem FLL_0 {v : Nat → Nat} {l x : Nat} : FLL v v l l x := fun j => by rw [if_neg (by omega)]
theorem FLL_s {v tv : Nat → Nat} {l p x : Nat} (h : FLL v tv l p x) (hp : l ≤ p) : FLL v (va_up tv p x) l (p + 1) x := fun j => by
  by_cases e : j = p
  · rw [e, va_up_self, if_pos (by omega)]
  · rw [va_up_ne _ _ e, h j]
    by_cases y : l ≤ j ∧ j < p
    · rw [if_pos y, if_pos (by omega)]
    · rw [if_neg y, if_neg (by omega)]
theorem FLL_e {v tv : Nat → Nat} {l r x : Nat} (h : FLL v tv l (r + 1) x) : tv = fillF v l r x := by
  funext j
  rw [h j]
  unfold fillF
  simp only [Nat.lt_succ_iff]
theorem SHI_f {v tv : Nat → Nat} {l r k p : Nat} (h : SHI v tv l r k p) (hp : p = r + 1) (hlr : l ≤ r) (hk : k ≤ r + 1 - l) : tv = shfF v l r k := funext (SHI_e h hp hlr hk)
theorem SHI_z {v tv : Nat → Nat} {l r k p : Nat} (h : SHI v tv l r k (l + p)) (hp : l + p ≤ r) (hk : k ≤ r + 1 - l) : SHI v (va_up tv (l + zmod (p + k) (r + 1 - l)) (v (l + p))) l r k (l + (p + 1)) := by
  have hm : zmod (p + k) (r + 1 - l) < r + 1 - l := Nat.mod_lt _ (by omega)
  have h1 := SHI_s h (by omega) hp hk (by rw [show l + p + k - l = p + k by omega]; exact hm)
  rw [show l + p + k - l = p + k by omega] at h1
  exact h1
/-! an insertion sort: the row as the old places, each where it lies now -/
def sgn (v : Nat → Nat) (up : Int) (l p : Nat) (g : Nat → Nat) : Prop := (∀ j, (j < l ∨ p ≤ j) → g j = j) ∧ (∀ j, l ≤ j → j < p → l ≤ g j ∧ g j < p) ∧ ∀ i j, l ≤ i → i < j → j < p → bef v up (g i) (g j)
theorem sgn_0 {v : Nat → Nat} {up : Int} {l : Nat} : sgn v up l (l + 1) (fun j => j) := ⟨fun _ _ => rfl, fun j h1 h2 => ⟨h1, h2⟩, fun i j h1 h2 h3 => by omega⟩
/-- place p's value on its way down, now at k -/
def sgk (v : Nat → Nat) (up : Int) (l p k : Nat) (g : Nat → Nat) : Prop := (∀ j, (j < l ∨ p < j) → g j = j) ∧ g k = p ∧ (∀ j, l ≤ j → j ≤ p → j ≠ k → l ≤ g j ∧ g j < p) ∧ (∀ i j, l ≤ i → i < j → j ≤ p → i ≠ k → j ≠ k → bef v up (g i) (g j)) ∧ ∀ j, k < j → j ≤ p → bef v up p (g j)
theorem sgk_0 {v : Nat → Nat} {up : Int} {l p : Nat} {g : Nat → Nat} (h : sgn v up l p g) (hl : l ≤ p) : sgk v up l p p g := ⟨fun j hj => h.1 j (by omega), h.1 p (by omega), fun j h1 h2 h3 => h.2.1 j h1 (by omega), fun i j h1 h2 h3 h4 h5 => h.2.2 i j h1 h2 (by omega), fun j h1 h2 => by omega⟩
theorem sgk_s {v : Nat → Nat} {up : Int} {l p k : Nat} {g : Nat → Nat} (h : sgk v up l p k g) (hk : l < k) (hkp : k ≤ p) (hb : bef v up p (g (k - 1))) : sgk v up l p (k - 1) (swpF g (k - 1) k) := by
  obtain ⟨h1, h2, h3, h4, h5⟩ := h
  have e1 : swpF g (k - 1) k (k - 1) = p := by unfold swpF; rw [va_up_self]; exact h2
  have e2 : swpF g (k - 1) k k = g (k - 1) := by unfold swpF; rw [va_up_ne _ _ (by omega), va_up_self]
  have e3 : ∀ j, j ≠ k - 1 → j ≠ k → swpF g (k - 1) k j = g j := fun j q1 q2 => by unfold swpF; rw [va_up_ne _ _ q1, va_up_ne _ _ q2]
  refine ⟨fun j hj => ?_, e1, fun j q1 q2 q3 => ?_, fun i j q1 q2 q3 q4 q5 => ?_, fun j q1 q2 => ?_⟩
  · rw [e3 j (by omega) (by omega)]; exact h1 j hj
  · by_cases z : j = k
    · rw [z, e2]; exact h3 (k - 1) (by omega) (by omega) (by omega)
    · rw [e3 j q3 z]; exact h3 j q1 q2 z
  · by_cases z : i = k
    · rw [z, e2, e3 j q5 (by omega)]; exact h4 (k - 1) j (by omega) (by omega) q3 (by omega) (by omega)
    · by_cases y : j = k
      · rw [y, e2, e3 i q4 z]; exact h4 i (k - 1) q1 (by omega) (by omega) z (by omega)
      · rw [e3 i q4 z, e3 j q5 y]; exact h4 i j q1 q2 q3 z y
  · by_cases z : j = k
    · rw [z, e2]; exact hb
    · rw [e3 j (by omega) z]; exact h5 j (by omega) q2
theorem sgk_e {v : Nat → Nat} {up : Int} {l p k : Nat} {g : Nat → Nat} (h : sgk v up l p k g) (hk : l ≤ k) (hkp : k ≤ p) (hb : l < k → bef v up (g (k - 1)) p) : sgn v up l (p + 1) g := by
  obtain ⟨h1, h2, h3, h4, h5⟩ := h
  refine ⟨fun j hj => h1 j (by omega), fun j q1 q2 => ?_, fun i j q1 q2 q3 => ?_⟩
  · by_cases z : j = k
    · rw [z, h2]; omega
    · have := h3 j q1 (by omega) z; omega
  · by_cases z : i = k
    · rw [z, h2]; exact h5 j (by omega) (by omega)
    · by_cases y : j = k
      · rw [y, h2]
        have hb1 := hb (by omega)
        by_cases x : i = k - 1
        · rw [x]; exact hb1
        · exact bef_trans (h4 i (k - 1) q1 (by omega) (by omega) z (by omega)) hb1
      · exact h4 i j q1 q2 (by omega) z y
theorem mono_id {f : Nat → Nat} {l r : Nat} (h1 : ∀ j, l ≤ j → j ≤ r → l ≤ f j ∧ f j ≤ r) (h2 : ∀ i j, l ≤ i → i < j → j ≤ r → f i < f j) : ∀ j, l ≤ j → j ≤ r → f j = j := by
  have lo : ∀ k, l + k ≤ r → l + k ≤ f (l + k) := by
    intro k
    induction k with
    | zero => intro h; exact (h1 l (Nat.le_refl l) h).1
    | succ k ih =>
      intro h
      have a := ih (by omega)
      have c := h2 (l + k) (l + (k + 1)) (by omega) (by omega) h
      omega
  have hi : ∀ k, l ≤ r - k → f (r - k) ≤ r - k := by
    intro k
    induction k with
    | zero =>
      intro h
      by_cases z : l ≤ r
      · exact (h1 r z (Nat.le_refl r)).2
      · omega
    | succ k ih =>
      intro h
      by_cases z : k < r
      · have a := ih (by omega)
        have c := h2 (r - (k + 1)) (r - k) h (by omega) (by omega)
        omega
      · have a := ih (by omega)
        rw [show r - (k + 1) = r - k by omega]
        exact a
  intro j h3 h4
  have a := lo (j - l) (by omega)
  have c := hi (r - j) (by omega)
  rw [show l + (j - l) = j by omega] at a
  rw [show r - (r - j) = j by omega] at c
  omega
theorem sgn_e {v u : Nat → Nat} {up : Int} {l r : Nat} {g : Nat → Nat} (h : sgn v up l (r + 1) g) (hlr : l ≤ r) : (fun j => u (g j)) = srtF v up l r u := by
  have hid := mono_id (f := fun j => sPos v up l r (g j)) (l := l) (r := r) (fun j q1 q2 => by
      have hg := h.2.1 j q1 (by omega)
      exact sPos_b (by omega)) (fun i j q1 q2 q3 => by
      have hg := h.2.1 i q1 (by omega)
      exact sPos_lt hg.1 (by omega) (h.2.2 i j q1 q2 (by omega)))
  funext j
  unfold srtF
  by_cases z : l ≤ j ∧ j ≤ r
  · rw [if_pos z]
    have hg := h.2.1 j z.1 (by omega)
    have e := hid j z.1 z.2
    have e2 : sInv v up l r (sPos v up l r (g j)) = g j := sInv_of (by omega)
    rw [show sPos v up l r (g j) = j from e] at e2
    rw [e2]
  · rw [if_neg z, h.1 j (by omega)]
theorem sw_cg {u g : Nat → Nat} {p q : Nat} : swpF (fun j => u (g j)) p q = fun j => u (swpF g p q j) := by
  funext j
  unfold swpF
  by_cases e : j = p
  · rw [e, va_up_self, va_up_self]
  · rw [va_up_ne _ _ e, va_up_ne _ _ e]
    by_cases z : j = q
    · rw [z, va_up_self, va_up_self]
    · rw [va_up_ne _ _ z, va_up_ne _ _ z]
