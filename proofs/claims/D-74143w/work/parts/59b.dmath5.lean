/-! laws of runs, tightest spans, what is needed, parts, beginnings, as the desk finds them -/
set_option maxRecDepth 100000
-- runs
def RNI (v : Nat → Nat) (L p fr b m : Nat) : Prop := BRn v L p p b m ∧ L ≤ fr ∧ b ≤ fr ∧ (p = L → fr = L) ∧ (L < p → fr < p) ∧ (∀ j, fr ≤ j → j < p → v j = v fr) ∧ (L < fr → v (fr - 1) ≠ v fr)
theorem RNI_0 {v : Nat → Nat} {L : Nat} : RNI v L L L L 0 := ⟨BRn_0, Nat.le_refl _, Nat.le_refl _, fun _ => rfl, fun h => absurd h (Nat.lt_irrefl _), fun j h1 h2 => by omega, fun h => absurd h (Nat.lt_irrefl _)⟩
theorem RNI_fr {v : Nat → Nat} {L p fr b m fr2 : Nat} (h : RNI v L p fr b m) (hLp : L ≤ p) (h2 : (fr2 = fr ∧ v p = v fr) ∨ (fr2 = p ∧ v p ≠ v fr)) : L ≤ fr2 ∧ b ≤ fr2 ∧ fr2 ≤ p ∧ (∀ j, fr2 ≤ j → j < p + 1 → v j = v fr2) ∧ (L < fr2 → v (fr2 - 1) ≠ v fr2) ∧ ∀ p1, p1 < fr2 → L ≤ p1 → ∀ m1, RUN v (p + 1) p1 m1 → RUN v p p1 m1 := by
  obtain ⟨hB, h3, h4, h5, h6, h7, h8⟩ := h
  have hfp : fr ≤ p := by
    by_cases e : L < p
    · exact Nat.le_of_lt (h6 e)
    · rw [h5 (by omega)]; omega
  have key : ∀ f2, L < f2 → f2 ≤ p → v (f2 - 1) ≠ v f2 → ∀ p1, p1 < f2 → ∀ m1, RUN v (p + 1) p1 m1 → RUN v p p1 m1 := by
    intro f2 g1 g2 g3 p1 g4 m1 ⟨r1, r2⟩
    refine ⟨?_, r2⟩
    by_cases e : p1 + m1 ≤ f2
    · omega
    · have a1 := r2 (f2 - p1) (by omega)
      have a2 := r2 (f2 - 1 - p1) (by omega)
      rw [show p1 + (f2 - p1) = f2 by omega] at a1
      rw [show p1 + (f2 - 1 - p1) = f2 - 1 by omega] at a2
      exact absurd (a2.trans a1.symm) g3
  rcases h2 with ⟨rfl, e⟩ | ⟨rfl, e⟩
  · refine ⟨h3, h4, hfp, fun j j1 j2 => ?_, h8, fun p1 q1 q2 m1 hm => ?_⟩
    · by_cases z : j = p
      · rw [z]; exact e
      · exact h7 j j1 (by omega)
    · exact key fr2 (by omega) hfp (h8 (by omega)) p1 q1 m1 hm
  · have hL : L < fr2 := by
      by_cases z : L < fr2
      · exact z
      · exact absurd (by rw [h5 (by omega), show fr2 = L by omega]) e
    have h9 : v (fr2 - 1) ≠ v fr2 := by
      rw [h7 (fr2 - 1) (by have := h6 hL; omega) (by omega)]
      exact fun z => e z.symm
    refine ⟨hLp, by omega, Nat.le_refl _, fun j j1 j2 => by rw [show j = fr2 by omega], fun _ => h9, fun p1 q1 q2 m1 hm => key fr2 hL (Nat.le_refl _) h9 p1 q1 m1 hm⟩
theorem RNI_new {v : Nat → Nat} {L p fr b m fr2 : Nat} (h : RNI v L p fr b m) (hLp : L ≤ p) (h2 : (fr2 = fr ∧ v p = v fr) ∨ (fr2 = p ∧ v p ≠ v fr)) (hm : m < p - fr2 + 1) : RNI v L (p + 1) fr2 fr2 (p - fr2 + 1) := by
  obtain ⟨g1, g2, g3, g4, g5, g6⟩ := RNI_fr h hLp h2
  refine ⟨⟨fun p1 q1 q2 m1 q3 => ?_, Or.inr ⟨g1, by omega, by omega, by omega, fun j hj => g4 _ (by omega) (by omega)⟩⟩, g1, Nat.le_refl _, fun z => by omega, fun _ => by omega, g4, g5⟩
  by_cases e : p1 < fr2
  · have := (h.1.1 p1 q1 (by omega) m1 (g6 p1 e q1 m1 q3)).1
    omega
  · have := q3.1
    omega
theorem RNI_keep {v : Nat → Nat} {L p fr b m fr2 : Nat} (h : RNI v L p fr b m) (hLp : L ≤ p) (h2 : (fr2 = fr ∧ v p = v fr) ∨ (fr2 = p ∧ v p ≠ v fr)) (hm : p - fr2 + 1 ≤ m) : RNI v L (p + 1) fr2 b m := by
  obtain ⟨g1, g2, g3, g4, g5, g6⟩ := RNI_fr h hLp h2
  obtain ⟨hB, -⟩ := h
  refine ⟨⟨fun p1 q1 q2 m1 q3 => ?_, ?_⟩, g1, g2, fun z => by omega, fun _ => by omega, g4, g5⟩
  · by_cases e : p1 < fr2
    · exact hB.1 p1 q1 (by omega) m1 (g6 p1 e q1 m1 q3)
    · have := q3.1
      exact ⟨by omega, fun z => by omega⟩
  · rcases hB.2 with ⟨z, _, _⟩ | ⟨z1, z2, z3, z4⟩
    · omega
    · exact Or.inr ⟨z1, by omega, z3, by have := z4.1; omega, z4.2⟩
-- the tightest span
def bNo (b : Int) : Int := if b = -1 then -2 else b
theorem TW_pl {v : Nat → Nat} {n p q k : Nat} (hp : p ≤ q) (hq : q < n) (hv : v q = v p) (hk : 1 ≤ k) (hc : cnt v 0 q (v p) = cnt v 0 p (v p) + k - 1) : TW v n (k : Int) p (q - p + 1) := by
  have e1 := cnt_split (v := v) (x := v p) (Nat.zero_le p) hp
  have e2 := cnt_succ v (v p) hp
  rw [if_pos hv] at e2
  refine ⟨by omega, ?_, fun m1 hm => ?_⟩
  · rw [show p + (q - p + 1) = q + 1 by omega]; omega
  · have e3 := cnt_mono (v := v) (a := p) (x := v p) (show p + m1 ≤ q by omega)
    omega
theorem TW_nopl {v : Nat → Nat} {n p k : Nat} (hp : p ≤ n) (hc : cnt v 0 n (v p) < cnt v 0 p (v p) + k) (m : Nat) : ¬ TW v n (k : Int) p m := by
  intro h
  have e1 := cnt_split (v := v) (x := v p) (Nat.zero_le p) hp
  have e3 := cnt_mono (v := v) (a := p) (x := v p) h.1
  have := h.2.1
  omega
theorem TB_dnew {v : Nat → Nat} {n p k m : Nat} {b f : Int} (h : TB v n (k : Int) p (bNo b) f) (ht : TW v n (k : Int) p m) (hf : (m : Int) < f) : TB v n (k : Int) (p + 1) (bNo (p : Int)) (m : Int) := by
  unfold bNo
  rw [if_neg (by omega)]
  exact TB_new h ht hf
theorem TB_dskip {v : Nat → Nat} {n p k m : Nat} {b f : Int} (h : TB v n (k : Int) p (bNo b) f) (ht : TW v n (k : Int) p m) (hf : f ≤ (m : Int)) (hm : p + m ≤ n) (hn : n ≤ 120) : TB v n (k : Int) (p + 1) (bNo b) f := by
  refine TB_skip h (fun m2 h2 => by rw [TW_uniq h2 ht]; exact hf) (fun e m2 h2 => ?_)
  rcases TB_b h with q | q
  · omega
  · omega
theorem TB_dno {v : Nat → Nat} {n p k : Nat} {b f : Int} (h : TB v n (k : Int) p (bNo b) f) (hno : ∀ m, ¬ TW v n (k : Int) p m) : TB v n (k : Int) (p + 1) (bNo b) f :=
  TB_skip h (fun m hm => absurd hm (hno m)) (fun _ => hno)
theorem bNo_b {v : Nat → Nat} {n p k : Nat} {b f : Int} (h : TB v n (k : Int) p (bNo b) f) (hb : -1 ≤ b) : (b = -1 ∧ f = 121) ∨ (0 ≤ b ∧ b < p ∧ b + f ≤ n ∧ 0 ≤ f) := by
  have := TB_b h
  unfold bNo at this
  split at this <;> omega
-- what is needed
def NDI (v : Nat → Nat) (l r x : Nat) (T : Nat → Nat) (j : Nat) : Prop := (∀ y, y < 1000 → y ≠ x → T y ≤ cnt v l r y) ∧ sm (fun y => if y = x then 0 else cnt v l r y - T y) 0 1000 = j ∧ ∀ y z, y < 1000 → z < 1000 → y ≠ x → z ≠ x → T y < cnt v l r y → T z ≤ T y + 1
theorem NDI_0 {v : Nat → Nat} {l r x : Nat} {T : Nat → Nat} (h : ∀ y, y < 1000 → y ≠ x → T y = cnt v l r y) : NDI v l r x T 0 := by
  refine ⟨fun y hy hx => by rw [h y hy hx]; exact Nat.le_refl _, ?_, fun y z hy _ hyx _ q => by rw [h y hy hyx] at q; omega⟩
  rw [sm_congr (g := fun _ => 0) (fun p _ hp => by
    by_cases e : p = x
    · rw [if_pos e]
    · rw [if_neg e, h p hp e]; omega)]
  have h0 : ∀ M, sm (fun _ => 0) 0 M = 0 := fun M => by
    induction M with
    | zero => rfl
    | succ M ih => rw [sm_succ _ (Nat.zero_le _), ih]
  exact h0 _
theorem sm_mono {f g : Nat → Nat} : ∀ {b : Nat}, (∀ p, p < b → f p ≤ g p) → sm f 0 b ≤ sm g 0 b
  | 0, _ => Nat.le_refl _
  | b + 1, h => by
    rw [sm_succ _ (Nat.zero_le _), sm_succ _ (Nat.zero_le _)]
    have := sm_mono (f := f) (g := g) (b := b) (fun p hp => h p (by omega))
    have := h b (by omega)
    omega
theorem sm_mono1 {f g : Nat → Nat} {y : Nat} : ∀ {b : Nat}, (∀ p, p < b → f p ≤ g p) → y < b → f y + 1 ≤ g y → sm f 0 b + 1 ≤ sm g 0 b
  | 0, _, h, _ => absurd h (Nat.not_lt_zero _)
  | b + 1, h, hy, h1 => by
    rw [sm_succ _ (Nat.zero_le _), sm_succ _ (Nat.zero_le _)]
    by_cases e : y = b
    · have := sm_mono (f := f) (g := g) (b := b) (fun p hp => h p (by omega))
      rw [e] at h1
      omega
    · have := sm_mono1 (f := f) (g := g) (b := b) (fun p hp => h p (by omega)) (by omega) h1
      have := h b (by omega)
      omega
theorem NDI_s {v : Nat → Nat} {l r x j m : Nat} {T : Nat → Nat} (h : NDI v l r x T j) (hm : m < 1000) (hmx : m ≠ x) (h0 : 0 < T m) (hmax : ∀ y, y < 1000 → y ≠ x → T y ≤ T m) : NDI v l r x (va_up T m (T m - 1)) (j + 1) := by
  obtain ⟨h1, h2, h3⟩ := h
  refine ⟨fun y hy hx => ?_, ?_, fun y z hy hz hyx hzx q => ?_⟩
  · have := h1 y hy hx
    by_cases e : y = m
    · subst e; rw [va_up_self]; omega
    · rw [va_up_ne _ _ e]; exact this
  · have e := sm_rm (f := fun y => if y = x then 0 else cnt v l r y - va_up T m (T m - 1) y) (g := fun y => if y = m then 0 else if y = x then 0 else cnt v l r y - T y) (N := 1000) hm (if_pos rfl) (fun k hk => by rw [if_neg hk, va_up_ne _ _ hk])
    have e2 := sm_rm (f := fun y => if y = x then 0 else cnt v l r y - T y) (g := fun y => if y = m then 0 else if y = x then 0 else cnt v l r y - T y) (N := 1000) hm (if_pos rfl) (fun k hk => by rw [if_neg hk])
    rw [e]
    rw [h2] at e2
    have e3 : (if m = x then 0 else cnt v l r m - va_up T m (T m - 1) m) = (if m = x then 0 else cnt v l r m - T m) + 1 := by
      rw [if_neg hmx, if_neg hmx, va_up_self]
      have := h1 m hm hmx
      omega
    rw [e3]
    omega
  · by_cases e : y = m
    · subst e
      rw [va_up_self]
      have := hmax z hz hzx
      by_cases e2 : z = y
      · subst e2; rw [va_up_self]; omega
      · rw [va_up_ne _ _ e2]; omega
    · rw [va_up_ne _ _ e] at q ⊢
      by_cases e2 : z = m
      · subst e2
        rw [va_up_self]
        have := h3 y z hy hz hyx hzx q
        omega
      · rw [va_up_ne _ _ e2]; exact h3 y z hy hz hyx hzx q
theorem NDI_stop {v : Nat → Nat} {l r x j : Nat} {T : Nat → Nat} {c : Int} (h : NDI v l r x T j) (hc : ∀ y, y < 1000 → y ≠ x → 0 < cnt v l r y → (T y : Int) ≤ c) : ov v l r x c ≤ j := by
  obtain ⟨h1, h2, h3⟩ := h
  rw [← h2]
  refine sm_mono (fun y hy => ?_)
  unfold ovF
  split
  · rename_i q
    rw [if_neg q.1]
    have := hc y hy q.1 q.2.2
    have := h1 y hy q.1
    omega
  · exact Nat.zero_le _
theorem NDI_go {v : Nat → Nat} {l r x j m : Nat} {T : Nat → Nat} {c : Int} (h : NDI v l r x T j) (hm : m < 1000) (hmx : m ≠ x) (hmc : c < (T m : Int)) (hp : 0 < cnt v l r m) (hc : -1 ≤ c) : j < ov v l r x c := by
  obtain ⟨h1, h2, h3⟩ := h
  rw [← h2]
  refine sm_mono1 (y := m) (fun y hy => ?_) hm ?_
  · by_cases e : y = x
    · rw [if_pos e]; exact Nat.zero_le _
    · rw [if_neg e]
      unfold ovF
      by_cases q : T y < cnt v l r y
      · have := h3 y m hy hm e hmx q
        rw [if_pos ⟨e, by omega, by omega⟩]
        omega
      · have := h1 y hy e
        omega
  · rw [if_neg hmx]
    have := h1 m hm hmx
    unfold ovF
    rw [if_pos ⟨hmx, by omega, hp⟩]
    omega
/-- the greatest of a list but one value -/
def NDB (T u : Nat → Nat) (x i : Nat) (b : Int) : Prop := (b = -1 ∧ ∀ a, a < i → u a = x) ∨ ∃ a, a < i ∧ b = (u a : Int) ∧ u a ≠ x ∧ ∀ c, c < i → u c ≠ x → T (u c) ≤ T (u a)
theorem NDB_0 {T u : Nat → Nat} {x : Nat} : NDB T u x 0 (-1) := Or.inl ⟨rfl, fun a h => absurd h (Nat.not_lt_zero _)⟩
theorem NDB_x {T u : Nat → Nat} {x i : Nat} {b : Int} (h : NDB T u x i b) (e : u i = x) : NDB T u x (i + 1) b := by
  rcases h with ⟨h1, h2⟩ | ⟨a, h1, h2, h3, h4⟩
  · exact Or.inl ⟨h1, fun a ha => by
      by_cases z : a = i
      · rw [z]; exact e
      · exact h2 a (by omega)⟩
  · exact Or.inr ⟨a, by omega, h2, h3, fun c hc hcx => by
      by_cases z : c = i
      · rw [z] at hcx; exact absurd e hcx
      · exact h4 c (by omega) hcx⟩
theorem NDB_1 {T u : Nat → Nat} {x i : Nat} {b : Int} (h : NDB T u x i b) (e : u i ≠ x) (hb : b = -1) : NDB T u x (i + 1) (u i : Int) := by
  rcases h with ⟨h1, h2⟩ | ⟨a, h1, h2, h3, h4⟩
  · exact Or.inr ⟨i, Nat.lt_succ_self i, rfl, e, fun c hc hcx => by
      by_cases z : c = i
      · rw [z]; exact Nat.le_refl _
      · exact absurd (h2 c (by omega)) hcx⟩
  · omega
theorem NDB_get {T u : Nat → Nat} {x i : Nat} {b : Int} (h : NDB T u x i b) (hb : ¬ b = -1) : ∃ m : Nat, b = (m : Int) ∧ (∃ a, a < i ∧ m = u a) ∧ m ≠ x ∧ ∀ c, c < i → u c ≠ x → T (u c) ≤ T m := by
  rcases h with ⟨h1, h2⟩ | ⟨a, h1, h2, h3, h4⟩
  · exact absurd h1 hb
  · exact ⟨u a, h2, ⟨a, h1, rfl⟩, h3, h4⟩
theorem NDB_2 {T u : Nat → Nat} {x i m : Nat} (h : ∀ c, c < i → u c ≠ x → T (u c) ≤ T m) (e : u i ≠ x) (hm : T m < T (u i)) : NDB T u x (i + 1) (u i : Int) :=
  Or.inr ⟨i, Nat.lt_succ_self i, rfl, e, fun c hc hcx => by
      by_cases z : c = i
      · rw [z]; exact Nat.le_refl _
      · have := h c (by omega) hcx; omega⟩
theorem NDB_3 {T u : Nat → Nat} {x i m : Nat} (h : ∀ c, c < i → u c ≠ x → T (u c) ≤ T m) (h2 : ∃ a, a < i ∧ m = u a) (h3 : m ≠ x) (hm : T (u i) ≤ T m) : NDB T u x (i + 1) (m : Int) := by
  obtain ⟨a, ha, ea⟩ := h2
  refine Or.inr ⟨a, by omega, by rw [ea], by rw [← ea]; exact h3, fun c hc hcx => ?_⟩
  rw [← ea]
  by_cases z : c = i
  · rw [z]; exact hm
  · exact h c (by omega) hcx
-- parts
theorem PE_ex {v : Nat → Nat} {t n l : Nat} (hn : n ≤ 120) (hv : ∀ i, i < n → v i < 1000) (hl : l < n) : ∃ r, PE v t n l r := by
  obtain ⟨r, ⟨h1, h2, h3⟩, h4⟩ := pk_least (fun r => l ≤ r ∧ r < n ∧ PC v t n l r) (PC_ex (t := t) hn hv hl)
  exact ⟨r, h1, h2, h3, fun q q1 q2 q3 => h4 q q2 ⟨q1, by omega, q3⟩⟩
theorem plF_fw {v : Nat → Nat} {t n : Nat} (hn : n ≤ 120) (hv : ∀ i, i < n → v i < 1000) : ∀ i, i ≤ fw v t n 0 → plF v t n i ≤ n ∧ fw v t n (plF v t n i) + i = fw v t n 0
  | 0, _ => ⟨Nat.zero_le _, rfl⟩
  | i + 1, h => by
    obtain ⟨h1, h2⟩ := plF_fw (t := t) hn hv i (by omega)
    have hne : plF v t n i ≠ n := fun e => by rw [e, fw_n] at h2; omega
    obtain ⟨r, hr⟩ := PE_ex (t := t) hn hv (show plF v t n i < n by omega)
    rw [plF_t (by omega) hr]
    have h3 := hr.2.1
    have h4 := hr.2.2.1.1
    exact ⟨by omega, by omega⟩
theorem plF_lt {v : Nat → Nat} {t n i : Nat} (hn : n ≤ 120) (hv : ∀ i, i < n → v i < 1000) (h : i < fw v t n 0) : plF v t n i < n := by
  obtain ⟨h1, h2⟩ := plF_fw (t := t) hn hv i (by omega)
  have hne : plF v t n i ≠ n := fun e => by rw [e, fw_n] at h2; omega
  omega
theorem plF_ge {v : Nat → Nat} {t n k : Nat} (hn : n ≤ 120) (hv : ∀ i, i < n → v i < 1000) (h : fw v t n 0 ≤ k) : ¬ plF v t n k < n := by
  obtain ⟨h1, h2⟩ := plF_fw (t := t) hn hv (fw v t n 0) (Nat.le_refl _)
  have h3 : ¬ plF v t n (fw v t n 0) < n := fun q => by
    have h4 := fw_mn (t := t) (v := v) q
    have h0 : fw v t n (plF v t n (fw v t n 0)) = 0 := by omega
    obtain ⟨r, hr⟩ := PE_ex (t := t) hn hv q
    have := hr.2.2.1.1
    omega
  have h5 := plF_stay h3 (k - fw v t n 0)
  rw [show fw v t n 0 + (k - fw v t n 0) = k by omega] at h5
  rw [h5]
  exact h3
-- beginnings
def mxD (f : Nat → Nat) (r : Nat) : Int := if r = 0 then -2 else mxF f r
theorem mxD_s {f : Nat → Nat} {r : Nat} {z : Int} (h : z = mxD f r) : zmax z (rwF f r : Int) = mxD f (r + 1) := by
  unfold mxD at h ⊢
  rw [if_neg (by omega)]
  unfold zmax mxF
  split at h
  · rename_i e
    subst e; subst h
    show (if (-2 : Int) < _ then _ else _) = if (-1 : Int) < _ then _ else _
    rw [if_pos (by omega), if_pos (by omega)]
  · rw [h]
theorem rwF_ge {f : Nat → Nat} : ∀ r, rwF f r ≤ r
  | 0 => Nat.le_refl _
  | r + 1 => by
    have := rwF_ge (f := f) r
    unfold rwF
    split <;> omega
theorem pl_ge {v : Nat → Nat} {p q x j : Nat} (h1 : v q = x) (h2 : cnt v 0 q x = j) (h3 : cnt v 0 p x ≤ j) : p ≤ q := by
  by_cases h : p ≤ q
  · exact h
  · have e1 := cnt_at h1
    have e2 := cnt_mono (v := v) (a := 0) (x := x) (show q + 1 ≤ p by omega)
    omega
theorem tl_s {c : Nat → Nat} {u : Nat → Nat} {ta : Nat → Int} {i : Nat} (h : ∀ j, j < i → ta (u j) = (c (u j) : Int)) : ∀ j, j < i + 1 → va_up ta (u i) (c (u i) : Int) (u j) = (c (u j) : Int) := fun j hj => by
  by_cases e : u j = u i
  · rw [e, va_up_self]
  · rw [va_up_ne _ _ e]
    exact h j (by
      by_cases z : j = i
      · exact absurd (by rw [z]) e
      · omega)
theorem tl_d {T u : Nat → Nat} {tb : Nat → Int} {k m : Nat} (h : ∀ a, a < k → tb (u a) = (T (u a) : Int)) (hp : 0 < T m) : ∀ a, a < k → va_up tb m ((T m : Int) - 1) (u a) = ((va_up T m (T m - 1) (u a) : Nat) : Int) := fun a ha => by
  by_cases e : u a = m
  · rw [e, va_up_self, va_up_self]; omega
  · rw [va_up_ne _ _ e, va_up_ne _ _ e]; exact h a ha
section MAXR
variable {pg : Program} {l : Launch} {ev : Env} {R : Room} {s0 s : State} {m : MethodId} {ar : Array Value} {bl : List Frame} {me : Method} {c : Code} {H : Heap} {locs : List Loc} {ce sl : Nat} {Q : State → Prop} {G : zG} {cc : ByteArray} {nL : Nat} {own : String} {ret : Option FieldType} {ls : Array Slot} {st : List Value}
theorem z_max (C : zC pg s0 s m ar me c G cc nL own ret) (hlz : ls.size = nL) (pc : Nat) {idx : Nat} {a b : Int} (hq : Cond.methodLink own idx Lib.Math.max.name ∈ lw_all) (hdg : decode cc pc = .ok (.invokestatic idx, 3)) (ha : -2147483648 ≤ a ∧ a < 2147483648) (hb : -2147483648 ≤ b ∧ b < 2147483648) (hR : 1 ≤ R.frames ∧ (st.map fun v => v.category).sum + 13 ≤ R.locals) (hf : ce ≤ R.cells ∧ sl ≤ R.slots) (kk : W pg l ev R s m ar bl me c H locs ce sl Q (F0 m (pc + 3) ls (.int (iZ (zmax a b)) :: st))) : W pg l ev R s m ar bl me c H locs ce sl Q (F0 m pc ls (.int (iZ b) :: .int (iZ a) :: st)) := by
  refine va_mmax C.1.1 C.1.2.1 (C.1.2.2.1.trans hlz.symm) C.1.2.2.2.1 (C.1.2.2.2.2 _ hq) (C.1.2.2.2.2 _ q434) (C.1.2.2.2.2 _ q102) (C.1.2.2.2.2 _ q435) hR.1 hR.2 hf.1 hf.2 hdg ?_
  have e : (if iZ a < iZ b then iZ b else iZ a) = iZ (zmax a b) := by
    unfold zmax
    by_cases q : a < b
    · rw [if_pos ((iZ_lt ha hb).mpr q), if_pos q]
    · rw [if_neg (fun z => q ((iZ_lt ha hb).mp z)), if_neg q]
  rw [e]
  exact kk
end MAXR
