/-! WHAT EACH CALL ANSWERS, 2 -/
theorem CO_congr {w w2 : Nat → Nat} {l r : Nat} {o : Nat → Nat} {fo la : Nat → Int} {k : Nat} {u : Nat → Nat} (h : CO w l r o fo la k u) (e : ∀ p, l ≤ p → p < r → w2 p = w p) : CO w2 l r o fo la k u := by
  obtain ⟨h1, h2, h3, h4, h5, h6⟩ := h
  have hc : ∀ x, cnt w2 l r x = cnt w l r x := fun x => cnt_congr x (fun p q1 q2 => by rw [e p q1 q2])
  refine ⟨fun x hx => by rw [hc]; exact h1 x hx, fun x hx hp => ?_, h3, fun j hj => by rw [hc]; exact h4 j hj, h5, fun x hx hp => h6 x hx (by rw [← hc]; exact hp)⟩
  rw [hc] at hp
  obtain ⟨e1, e2⟩ := h2 x hx hp
  have f1 := fsP_spec hp
  have f2 := lsP_spec hp
  have g1 : fsP w l x r = fsP w2 l x r := fsP_uniq f1.1 f1.2.1 (by rw [e _ f1.1 f1.2.1]; exact f1.2.2.1) (fun q q1 q2 => by rw [e q q1 (by omega)]; exact f1.2.2.2 q q1 q2)
  have g2 : lsP w x r = lsP w2 x r := lsP_uniq f2.1 f2.2.1 (by rw [e _ f2.1 f2.2.1]; exact f2.2.2.1) (fun q q1 q2 => by rw [e q (by omega) q2]; exact f2.2.2.2 q q1 q2)
  rw [← g1, ← g2]
  exact ⟨e1, e2⟩
def Sp_spans (n : Nat) (v : Nat → Nat) (t : Nat) (x z : Int) : Prop := if 0 ≤ x ∧ x < 1000 then z = (sm (fun l => cB (fun r => l ≤ r ∧ md v l (r + 1) t = x.toNat) n) 0 n : Int) else z = -1
/-! the best span with a property -/
def PP (n l r l1 r1 : Nat) : Prop := l1 ≤ r1 ∧ r1 < n ∧ (l1 < l ∨ (l1 = l ∧ r1 < r))
def BS (S : Nat → Nat → Prop) (n l r : Nat) (b m : Int) : Prop := (b = -2 ∧ m = 0 ∧ ∀ l1 r1, PP n l r l1 r1 → ¬ S l1 r1) ∨ ∃ lb mb : Nat, 1 ≤ mb ∧ b = (lb : Int) ∧ m = (mb : Int) ∧ PP n l r lb (lb + mb - 1) ∧ S lb (lb + mb - 1) ∧ ∀ l1 r1, PP n l r l1 r1 → S l1 r1 → r1 + 1 - l1 ≤ mb ∧ (l1 < lb → r1 + 1 - l1 < mb)
theorem BS_0 {S : Nat → Nat → Prop} {n : Nat} : BS S n 0 0 (-2) 0 := Or.inl ⟨rfl, rfl, fun l1 r1 h => by unfold PP at h; omega⟩
theorem BS_mono {S : Nat → Nat → Prop} {n l r l2 r2 : Nat} {b m : Int} (h : BS S n l r b m) (e : ∀ l1 r1, PP n l r l1 r1 ↔ PP n l2 r2 l1 r1) : BS S n l2 r2 b m := by
  rcases h with ⟨h1, h2, h3⟩ | ⟨lb, mb, h1, h2, h3, h4, h5, h6⟩
  · exact Or.inl ⟨h1, h2, fun l1 r1 hp => h3 l1 r1 ((e l1 r1).mpr hp)⟩
  · exact Or.inr ⟨lb, mb, h1, h2, h3, (e _ _).mp h4, h5, fun l1 r1 hp => h6 l1 r1 ((e l1 r1).mpr hp)⟩
theorem BS_next {S : Nat → Nat → Prop} {n l : Nat} {b m : Int} (h : BS S n l n b m) : BS S n (l + 1) 0 b m := BS_mono h (fun l1 r1 => by unfold PP; omega)
theorem BS_row {S : Nat → Nat → Prop} {n l : Nat} {b m : Int} (h : BS S n l 0 b m) : BS S n l l b m := BS_mono h (fun l1 r1 => by unfold PP; omega)
theorem BS_skip {S : Nat → Nat → Prop} {n l r : Nat} {b m : Int} (h : BS S n l r b m) (hlr : l ≤ r) (hs : ¬ S l r ∨ (r : Int) + 1 - l ≤ m) : BS S n l (r + 1) b m := by
  rcases h with ⟨h1, h2, h3⟩ | ⟨lb, mb, h1, h2, h3, h4, h5, h6⟩
  · refine Or.inl ⟨h1, h2, fun l1 r1 hp => ?_⟩
    by_cases e : l1 = l ∧ r1 = r
    · obtain ⟨rfl, rfl⟩ := e
      rcases hs with hs | hs
      · exact hs
      · omega
    · exact h3 l1 r1 (by unfold PP at *; omega)
  · refine Or.inr ⟨lb, mb, h1, h2, h3, by unfold PP at *; omega, h5, fun l1 r1 hp hS => ?_⟩
    by_cases e : l1 = l ∧ r1 = r
    · obtain ⟨rfl, rfl⟩ := e
      rcases hs with hs | hs
      · exact absurd hS hs
      · have : lb ≤ l1 := by unfold PP at h4; omega
        exact ⟨by omega, fun q => by omega⟩
    · exact h6 l1 r1 (by unfold PP at *; omega) hS
theorem BS_new {S : Nat → Nat → Prop} {n l r : Nat} {b m : Int} (h : BS S n l r b m) (hlr : l ≤ r) (hr : r < n) (hS : S l r) (hm : m < (r : Int) + 1 - l) : BS S n l (r + 1) (l : Int) ((r : Int) - (l : Int) + 1) := by
  have key : ∀ l1 r1, PP n l (r + 1) l1 r1 → S l1 r1 → r1 + 1 - l1 ≤ r + 1 - l ∧ (l1 < l → r1 + 1 - l1 < r + 1 - l) := by
    intro l1 r1 hp hS1
    by_cases e : l1 = l ∧ r1 = r
    · obtain ⟨rfl, rfl⟩ := e
      exact ⟨by omega, fun q => by omega⟩
    · have hp2 : PP n l r l1 r1 := by unfold PP at *; omega
      rcases h with ⟨h1, h2, h3⟩ | ⟨lb, mb, h1, h2, h3, h4, h5, h6⟩
      · exact absurd hS1 (h3 l1 r1 hp2)
      · have := h6 l1 r1 hp2 hS1
        exact ⟨by omega, fun q => by omega⟩
  refine Or.inr ⟨l, r + 1 - l, by omega, rfl, by omega, by unfold PP; omega, by rw [show l + (r + 1 - l) - 1 = r by omega]; exact hS, key⟩
def SpBest (S : Nat → Nat → Prop) (n : Nat) (q z : Int) : Prop := ((∀ l r, l ≤ r → r < n → ¬ S l r) ∧ z = -2) ∨ ∃ l m, 1 ≤ m ∧ l + m ≤ n ∧ S l (l + m - 1) ∧ (∀ l1 r1, l1 ≤ r1 → r1 < n → S l1 r1 → r1 + 1 - l1 ≤ m ∧ (l1 < l → r1 + 1 - l1 < m)) ∧ z = if q = 0 then (l : Int) else (l : Int) + m - 1
theorem BS_end {S : Nat → Nat → Prop} {n : Nat} {b m q z : Int} (h : BS S n n 0 b m) (hz : (b = -2 ∧ z = -2) ∨ (b ≠ -2 ∧ z = if q = 0 then b else b + m - 1)) : SpBest S n q z := by
  rcases h with ⟨h1, h2, h3⟩ | ⟨lb, mb, h1, h2, h3, h4, h5, h6⟩
  · exact Or.inl ⟨fun l r q1 q2 => h3 l r (by unfold PP; omega), by omega⟩
  · refine Or.inr ⟨lb, mb, h1, by unfold PP at h4; omega, h5, fun l1 r1 q1 q2 hS => h6 l1 r1 (by unfold PP; omega) hS, ?_⟩
    have := hz.resolve_left (fun q => by omega)
    rw [this.2, h2, h3]
theorem BS_b {S : Nat → Nat → Prop} {n l r : Nat} {b m : Int} (h : BS S n l r b m) : -2 ≤ b ∧ b ≤ n ∧ 0 ≤ m ∧ m ≤ n := by
  rcases h with ⟨h1, h2, h3⟩ | ⟨lb, mb, h1, h2, h3, h4, h5, h6⟩
  · omega
  · unfold PP at h4; omega
def Sp_longest (n : Nat) (v : Nat → Nat) (t : Nat) (x q z : Int) : Prop := if (0 ≤ x ∧ x < 1000) ∧ 0 ≤ q ∧ q ≤ 1 then SpBest (fun l r => md v l (r + 1) t = x.toNat) n q z else z = -1
def Sp_reign (n : Nat) (v : Nat → Nat) (x q z : Int) : Prop := if (0 ≤ x ∧ x < 1000) ∧ 0 ≤ q ∧ q ≤ 1 then SpBest (fun l r => r + 1 - l < 2 * cnt v l (r + 1) x.toNat) n q z else z = -1
/-! the next place of a value, this way or that -/
def nxF (v : Nat → Nat) (a b x : Nat) : Int := if cnt v a b x = 0 then -2 else (fsP v a x b : Int)
def nxB (v : Nat → Nat) (b x : Nat) : Int := if cnt v 0 b x = 0 then -2 else (lsP v x b : Int)
theorem cnt_0_step {v : Nat → Nat} {a q x : Nat} (h : cnt v a q x = 0) (ha : a ≤ q) (hq : ¬ v q = x) : cnt v a (q + 1) x = 0 := by rw [cnt_succ v x ha, h, if_neg hq]
theorem cnt_0_all {v : Nat → Nat} {a b x : Nat} (h : cnt v a b x = 0) : ∀ p, a ≤ p → p < b → v p ≠ x := fun p h1 h2 e => by
  have := cnt_pos.mpr ⟨p, h1, h2, e⟩
  omega
theorem cnt_0_of {v : Nat → Nat} {a b x : Nat} (h : ∀ p, a ≤ p → p < b → v p ≠ x) : cnt v a b x = 0 := by
  rcases Nat.eq_zero_or_pos (cnt v a b x) with q | q
  · exact q
  · obtain ⟨p, h1, h2, h3⟩ := cnt_pos.mp q
    exact absurd h3 (h p h1 h2)
theorem nxF_hit {v : Nat → Nat} {a b q x : Nat} (h : cnt v a q x = 0) (ha : a ≤ q) (hq : q < b) (e : v q = x) : (q : Int) = nxF v a b x := by
  unfold nxF
  have : 0 < cnt v a b x := cnt_pos.mpr ⟨q, ha, hq, e⟩
  rw [if_neg (by omega), fsP_uniq ha hq e (fun j h1 h2 => cnt_0_all h j h1 h2)]
theorem nxF_none {v : Nat → Nat} {a b x : Nat} (h : cnt v a b x = 0) : (-2 : Int) = nxF v a b x := by unfold nxF; rw [if_pos h]
theorem nxB_hit {v : Nat → Nat} {b q x : Nat} (h : cnt v (q + 1) b x = 0) (hq : q < b) (e : v q = x) : (q : Int) = nxB v b x := by
  unfold nxB
  have : 0 < cnt v 0 b x := cnt_pos.mpr ⟨q, by omega, hq, e⟩
  rw [if_neg (by omega), lsP_uniq (Nat.zero_le _) hq e (fun j h1 h2 => cnt_0_all h j h1 h2)]
theorem nxB_none {v : Nat → Nat} {b x : Nat} (h : cnt v 0 b x = 0) : (-2 : Int) = nxB v b x := by unfold nxB; rw [if_pos h]
theorem cnt_0_back {v : Nat → Nat} {b q x : Nat} (h : cnt v (q + 1) b x = 0) (hq : ¬ v q = x) : cnt v q b x = 0 := cnt_0_of (fun p h1 h2 => by
  by_cases e : p = q
  · rw [e]; exact hq
  · exact cnt_0_all h p (by omega) h2)
def Sp_follow (n : Nat) (v : Nat → Nat) (x p bk z : Int) : Prop := if (0 ≤ x ∧ x < 1000) ∧ 0 ≤ p ∧ p < n then z = (if bk = 0 then nxF v p.toNat n x.toNat else nxB v (p + 1).toNat x.toNat) else z = -1
def Sp_lead (n : Nat) (v : Nat → Nat) (t : Nat) (l r z : Int) : Prop := if (0 ≤ l ∧ l ≤ r ∧ r < n) then z = (cnt v l.toNat (r + 1).toNat (ofR v l.toNat (r + 1).toNat t 0) : Int) - (if dst v l.toNat (r + 1).toNat = 1 then 0 else (cnt v l.toNat (r + 1).toNat (ofR v l.toNat (r + 1).toNat t 1) : Int)) else z = -1
def Sp_rarest (n : Nat) (v : Nat → Nat) (t : Nat) (l r q z : Int) : Prop := if (0 ≤ l ∧ l ≤ r ∧ r < n) ∧ 0 ≤ q ∧ q ≤ 3 then z = toldZ v l.toNat (r + 1).toNat (ofR v l.toNat (r + 1).toNat t (dst v l.toNat (r + 1).toNat - 1)) q else z = -1
def Sp_agree (n : Nat) (v : Nat → Nat) (t : Nat) (l m r z : Int) : Prop := if (0 ≤ l ∧ l ≤ m ∧ m < n) ∧ m + 1 ≤ r ∧ r < n then z = (if md v l.toNat (m + 1).toNat t = md v (m + 1).toNat (r + 1).toNat t then 1 else 0) else z = -1
def Sp_peeled (n : Nat) (v : Nat → Nat) (t : Nat) (l r k z : Int) : Prop := if (0 ≤ l ∧ l ≤ r ∧ r < n) ∧ 0 ≤ k then (if (dst v l.toNat (r + 1).toNat : Int) < k then z = -2 else z = ((r + 1).toNat : Int) - l.toNat - (sm (fun i => cnt v l.toNat (r + 1).toNat (ofR v l.toNat (r + 1).toNat t i)) 0 k.toNat : Int)) else z = -1
def Sp_ifTies (n : Nat) (v : Nat → Nat) (ti l r z : Int) : Prop := if (0 ≤ ti ∧ ti ≤ 3) ∧ (0 ≤ l ∧ l ≤ r ∧ r < n) then z = (md v l.toNat (r + 1).toNat ti.toNat : Int) else z = -1
def Sp_ifOut (n : Nat) (v : Nat → Nat) (t : Nat) (p l r z : Int) : Prop := if (0 ≤ l ∧ l ≤ r ∧ r < n) ∧ l ≤ p ∧ p ≤ r then (if l = r then z = -2 else z = (md (va_up v p.toNat 1000) l.toNat (r + 1).toNat t : Int)) else z = -1
def Sp_ifSet (n : Nat) (v : Nat → Nat) (t : Nat) (p x l r z : Int) : Prop := if (0 ≤ p ∧ p < n) ∧ (0 ≤ x ∧ x < 1000) ∧ (0 ≤ l ∧ l ≤ r ∧ r < n) then z = (md (va_up v p.toNat x.toNat) l.toNat (r + 1).toNat t : Int) else z = -1
/-- nothing is counted yet, or all of the span up to here is -/
def LG (v : Nat → Nat) (l r : Nat) (f38 : Int) (a34 a35 a36 a37 : Nat → Int) : Prop := l = r ∨ ∃ (o : Nat → Nat) (go : Nat → Int) (k : Nat) (u : Nat → Nat) (gu : Nat → Int), a34 = cI 1000 o go ∧ a37 = cI k u gu ∧ f38 = (k : Int) ∧ CO v l r o a35 a36 k u
theorem LG_0 {v : Nat → Nat} {l : Nat} {f38 : Int} {a34 a35 a36 a37 : Nat → Int} : LG v l l f38 a34 a35 a36 a37 := Or.inl rfl
theorem LG_of {v : Nat → Nat} {l r k : Nat} {o u : Nat → Nat} {go gu fo la : Nat → Int} (h : CO v l r o fo la k u) : LG v l r (k : Int) (cI 1000 o go) fo la (cI k u gu) := Or.inr ⟨o, go, k, u, gu, rfl, rfl, rfl, h⟩
theorem LG_get {v : Nat → Nat} {l r : Nat} {f38 : Int} {a34 a35 a36 a37 : Nat → Int} (h : LG v l r f38 a34 a35 a36 a37) (hne : ¬ l = r) : ∃ (o : Nat → Nat) (go : Nat → Int) (k : Nat) (u : Nat → Nat) (gu : Nat → Int), a34 = cI 1000 o go ∧ a37 = cI k u gu ∧ f38 = (k : Int) ∧ CO v l r o a35 a36 k u := h.resolve_left hne
/-- a search this way (d = 1: from a on, ahead of n) or that (d = -1: ahead of b), having come to q -/
def NXI (v : Nat → Nat) (n a b x : Nat) (d q : Int) : Prop := (d = 1 ∧ (a : Int) ≤ q ∧ q ≤ n ∧ cnt v a q.toNat x = 0) ∨ (d = -1 ∧ -1 ≤ q ∧ q < b ∧ cnt v (q + 1).toNat b x = 0)
def nxR (v : Nat → Nat) (n a b x : Nat) (d : Int) : Int := if d = 1 then nxF v a n x else nxB v b x
def nxm (n : Nat) (d q : Int) : Nat := (if d = 1 then (n : Int) - q else q + 1).toNat
theorem NXI_b {v : Nat → Nat} {n a b x : Nat} {d q : Int} (h : NXI v n a b x d q) (hb : b ≤ n) : -1 ≤ q ∧ q ≤ n ∧ (d = 1 ∨ d = -1) := by
  rcases h with ⟨h1, h2, h3, -⟩ | ⟨h1, h2, h3, -⟩ <;> omega
theorem NXI_step {v : Nat → Nat} {n a b x q : Nat} {d : Int} (h : NXI v n a b x d q) (hq : q < n) (hv : ¬ v q = x) : NXI v n a b x d (q + d) := by
  rcases h with ⟨rfl, h2, h3, h4⟩ | ⟨rfl, h2, h3, h4⟩
  · refine Or.inl ⟨rfl, by omega, by omega, ?_⟩
    rw [Int.toNat_natCast] at h4
    rw [zt1]
    exact cnt_0_step h4 (by omega) hv
  · refine Or.inr ⟨rfl, by omega, by omega, ?_⟩
    rw [zt1] at h4
    rw [show ((q : Int) + -1 + 1).toNat = q by omega]
    exact cnt_0_back h4 hv
theorem NXI_hit {v : Nat → Nat} {n a b x q : Nat} {d : Int} (h : NXI v n a b x d q) (hq : q < n) (hb : b ≤ n) (hv : v q = x) : (q : Int) = nxR v n a b x d := by
  unfold nxR
  rcases h with ⟨rfl, h2, h3, h4⟩ | ⟨rfl, h2, h3, h4⟩
  · rw [Int.toNat_natCast] at h4
    rw [if_pos rfl]
    exact nxF_hit h4 (by omega) hq hv
  · rw [zt1] at h4
    rw [if_neg (by omega)]
    exact nxB_hit h4 (by omega) hv
theorem NXI_none {v : Nat → Nat} {n a b x : Nat} {d q : Int} (h : NXI v n a b x d q) (hb : b ≤ n) (hq : ¬ (0 ≤ q ∧ q < n)) : (-2 : Int) = nxR v n a b x d := by
  unfold nxR
  rcases h with ⟨rfl, h2, h3, h4⟩ | ⟨rfl, h2, h3, h4⟩
  · rw [if_pos rfl]
    rw [show q.toNat = n by omega] at h4
    exact nxF_none h4
  · rw [if_neg (by omega)]
    rw [show (q + 1).toNat = 0 by omega] at h4
    exact nxB_none h4
theorem nxm_step {n : Nat} {d q : Int} (hd : d = 1 ∨ d = -1) (h0 : 0 ≤ q) (h1 : q < n) : nxm n d (q + d) < nxm n d q := by
  unfold nxm
  rcases hd with rfl | rfl
  · simp only [if_true]; omega
  · rw [if_neg (by omega), if_neg (by omega)]; omega
theorem nxm_d1 {n : Nat} {bk q : Int} (h : bk = 0) (h0 : 0 ≤ q) (h1 : q < n) : nxm n (if bk = 0 then 1 else -1) (q + 1) < nxm n (if bk = 0 then 1 else -1) q := by
  rw [if_pos h]; exact nxm_step (Or.inl rfl) h0 h1
theorem nxm_d2 {n : Nat} {bk q : Int} (h : ¬ bk = 0) (h0 : 0 ≤ q) (h1 : q < n) : nxm n (if bk = 0 then 1 else -1) (q - 1) < nxm n (if bk = 0 then 1 else -1) q := by
  rw [if_neg h]; exact nxm_step (d := -1) (Or.inr rfl) h0 h1
theorem NXI_s1 {v : Nat → Nat} {n a b x q : Nat} {bk : Int} (hbk : bk = 0) (h : NXI v n a b x (if bk = 0 then 1 else -1) q) (hq : q < n) (hv : ¬ v q = x) : NXI v n a b x (if bk = 0 then 1 else -1) (q + 1) := by
  rw [if_pos hbk] at h ⊢; exact NXI_step h hq hv
theorem NXI_s2 {v : Nat → Nat} {n a b x q : Nat} {bk : Int} (hbk : ¬ bk = 0) (h : NXI v n a b x (if bk = 0 then 1 else -1) q) (hq : q < n) (hv : ¬ v q = x) : NXI v n a b x (if bk = 0 then 1 else -1) (q - 1) := by
  rw [if_neg hbk] at h ⊢; exact NXI_step (d := -1) h hq hv
theorem NXI_f0 {v : Nat → Nat} {n p x : Nat} {bk : Int} (hp : p < n) : NXI v n p (p + 1) x (if bk = 0 then 1 else -1) p := by
  by_cases h : bk = 0
  · rw [if_pos h]; exact Or.inl ⟨rfl, by omega, by omega, by rw [Int.toNat_natCast]; exact cnt_0 v (Nat.le_refl _)⟩
  · rw [if_neg h]; exact Or.inr ⟨rfl, by omega, by omega, by rw [zt1]; exact cnt_0 v (Nat.le_refl _)⟩
theorem NXI_n0 {v : Nat → Nat} {n p x : Nat} {d : Int} (hp : p < n) (hd : d = 1 ∨ d = -1) : NXI v n (p + 1) p x d (p + d) := by
  rcases hd with rfl | rfl
  · exact Or.inl ⟨rfl, by omega, by omega, by rw [zt1]; exact cnt_0 v (Nat.le_refl _)⟩
  · exact Or.inr ⟨rfl, by omega, by omega, by rw [show ((p : Int) + -1 + 1).toNat = p by omega]; exact cnt_0 v (Nat.le_refl _)⟩
/-! the widest gap -/
def gpW (v : Nat → Nat) (x : Nat) : Nat → Int
  | 0 => -1
  | p + 1 => if v p = x then (p : Int) else gpW v x p
def gpM (v : Nat → Nat) (x : Nat) : Nat → Int
  | 0 => -2
  | p + 1 => if v p = x ∧ gpW v x p ≠ -1 ∧ gpM v x p < (p : Int) - gpW v x p then (p : Int) - gpW v x p else gpM v x p
theorem gpW_t {v : Nat → Nat} {x p : Nat} (h : v p = x) : gpW v x (p + 1) = p := if_pos h
theorem gpW_f {v : Nat → Nat} {x p : Nat} (h : ¬ v p = x) : gpW v x (p + 1) = gpW v x p := if_neg h
theorem gpM_t {v : Nat → Nat} {x p : Nat} (h : v p = x ∧ gpW v x p ≠ -1 ∧ gpM v x p < (p : Int) - gpW v x p) : gpM v x (p + 1) = (p : Int) - gpW v x p := if_pos h
theorem gpM_f {v : Nat → Nat} {x p : Nat} (h : ¬ (v p = x ∧ gpW v x p ≠ -1 ∧ gpM v x p < (p : Int) - gpW v x p)) : gpM v x (p + 1) = gpM v x p := if_neg h
def Sp_gap (n : Nat) (v : Nat → Nat) (x z : Int) : Prop := if 0 ≤ x ∧ x < 1000 then z = gpM v x.toNat n else z = -1
/-! how wide windows must be -/
def WD (v : Nat → Nat) (t n : Nat) (k : Int) (w : Nat) : Prop := ∀ l, l + w ≤ n → k ≤ (cnt v l (l + w) (md v l (l + w) t) : Int)
def WDl (v : Nat → Nat) (t n : Nat) (k : Int) (w l : Nat) (s : Int) : Prop := (s = 1 ∧ ∀ l1, l1 < l → l1 + w ≤ n → k ≤ (cnt v l1 (l1 + w) (md v l1 (l1 + w) t) : Int)) ∨ (s = 0 ∧ ¬ WD v t n k w)
theorem WDl_b {v : Nat → Nat} {t n w l : Nat} {k s : Int} (h : WDl v t n k w l s) : s = 0 ∨ s = 1 := h.elim (fun q => Or.inr q.1) (fun q => Or.inl q.1)
theorem WDl_0 {v : Nat → Nat} {t n w : Nat} {k : Int} : WDl v t n k w 0 1 := Or.inl ⟨rfl, fun l1 h => by omega⟩
theorem WDl_t {v : Nat → Nat} {t n w l : Nat} {k s : Int} (h : WDl v t n k w l s) (hs : ¬ s = 0) (hk : k ≤ (cnt v l (l + w) (md v l (l + w) t) : Int)) : WDl v t n k w (l + 1) 1 := by
  rcases h with ⟨h1, h2⟩ | ⟨h1, -⟩
  · refine Or.inl ⟨rfl, fun l1 q1 q2 => ?_⟩
    by_cases e : l1 = l
    · rw [e]; exact hk
    · exact h2 l1 (by omega) q2
  · exact absurd h1 hs
theorem WDl_f {v : Nat → Nat} {t n w l : Nat} {k : Int} (hl : l + w ≤ n) (hk : (cnt v l (l + w) (md v l (l + w) t) : Int) < k) : WDl v t n k w (l + 1) 0 := Or.inr ⟨rfl, fun q => by have := q l hl; omega⟩
theorem WDl_yes {v : Nat → Nat} {t n w l : Nat} {k s : Int} (h : WDl v t n k w l s) (hs : ¬ s = 0) (hl : n < l + w) : WD v t n k w := by
  rcases h with ⟨-, h2⟩ | ⟨h1, -⟩
  · exact fun l1 q => h2 l1 (by omega) q
  · exact absurd h1 hs
theorem WDl_no {v : Nat → Nat} {t n w l : Nat} {k s : Int} (h : WDl v t n k w l s) (hs : s = 0) : ¬ WD v t n k w := by
  rcases h with ⟨h1, -⟩ | ⟨-, h2⟩
  · omega
  · exact h2
def Sp_wide (n : Nat) (v : Nat → Nat) (t : Nat) (k z : Int) : Prop := if 1 ≤ k then ((∃ w : Nat, 1 ≤ w ∧ w ≤ n ∧ WD v t n k w ∧ (∀ w1, 1 ≤ w1 → w1 < w → ¬ WD v t n k w1) ∧ z = (w : Int)) ∨ ((∀ w, 1 ≤ w → w ≤ n → ¬ WD v t n k w) ∧ z = -2)) else z = -1
/-! the first of the greatest -/
def MX (f : Nat → Nat) (l m b : Nat) (z : Int) : Prop := (m = l ∧ b = l ∧ z ≤ 0) ∨ (l ≤ b ∧ b < m ∧ z = (f b : Int) ∧ ∀ j, l ≤ j → j < m → f j ≤ f b ∧ (j < b → f j < f b))
theorem MX_keep {f : Nat → Nat} {l m b : Nat} {z : Int} (h : MX f l m b z) (h0 : 0 < f m) (hz : (f m : Int) ≤ z) : MX f l (m + 1) b z := by
  rcases h with ⟨h1, h2, h3⟩ | ⟨h1, h2, h3, h4⟩
  · omega
  · refine Or.inr ⟨h1, by omega, h3, fun j q1 q2 => ?_⟩
    by_cases e : j = m
    · rw [e]; exact ⟨by omega, fun q => by omega⟩
    · exact h4 j q1 (by omega)
theorem MX_new {f : Nat → Nat} {l m b : Nat} {z : Int} (h : MX f l m b z) (hl : l ≤ m) (hz : z < (f m : Int)) : MX f l (m + 1) m (f m : Int) := by
  refine Or.inr ⟨hl, by omega, rfl, fun j q1 q2 => ?_⟩
  by_cases e : j = m
  · rw [e]; exact ⟨Nat.le_refl _, fun q => by omega⟩
  · rcases h with ⟨h1, h2, h3⟩ | ⟨h1, h2, h3, h4⟩
    · omega
    · have := h4 j q1 (by omega)
      exact ⟨by omega, fun q => by omega⟩
noncomputable def splF (v : Nat → Nat) (t l R m : Nat) : Nat := cnt v l (m + 1) (md v l (m + 1) t) + cnt v (m + 1) R (md v (m + 1) R t)
def Sp_split (n : Nat) (v : Nat → Nat) (t : Nat) (l r q z : Int) : Prop := if (0 ≤ l ∧ l < r ∧ r < n) ∧ 0 ≤ q ∧ q ≤ 1 then (∃ b y, MX (splF v t l.toNat (r + 1).toNat) l.toNat r.toNat b y ∧ z = if q = 0 then (b : Int) else y) else z = -1
theorem nxR_bk {v : Nat → Nat} {n p x : Nat} {bk : Int} : nxR v n p (p + 1) x (if bk = 0 then 1 else -1) = if bk = 0 then nxF v p n x else nxB v (p + 1) x := by
  unfold nxR
  by_cases h : bk = 0
  · simp only [h, if_true]
  · simp only [h, if_false]; rw [if_neg (by omega)]
theorem va_up_up {v : Nat → Nat} {p x : Nat} {n : Nat} {g : Nat → Int} : cI n (va_up (va_up v p x) p (v p)) g = cI n v g := by
  congr 1
  funext j
  by_cases e : j = p
  · subst e; rw [va_up_self]
  · rw [va_up_ne _ _ e, va_up_ne _ _ e]
theorem cnt_none_k {w : Nat → Nat} {l r : Nat} {o : Nat → Nat} {fo la : Nat → Int} {k : Nat} {u : Nat → Nat} (h : CO w l r o fo la k u) (hw : ∀ q, l ≤ q → q < r → 1000 ≤ w q) : k = 0 := by
  rcases Nat.eq_zero_or_pos k with q | q
  · exact q
  · obtain ⟨h1, h2⟩ := h.2.2.2.1 0 q
    obtain ⟨p, q1, q2, q3⟩ := cnt_pos.mp h2
    have := hw p q1 q2
    omega
/-! the tightest span from a place on with k of its value -/
def TW (v : Nat → Nat) (n : Nat) (k : Int) (l m : Nat) : Prop := l + m ≤ n ∧ k ≤ (cnt v l (l + m) (v l) : Int) ∧ ∀ m1, m1 < m → (cnt v l (l + m1) (v l) : Int) < k
def TB (v : Nat → Nat) (n : Nat) (k : Int) (l : Nat) (b f : Int) : Prop := (b = -2 ∧ f = 121 ∧ ∀ l1 m, l1 < l → ¬ TW v n k l1 m) ∨ ∃ lb mb : Nat, b = (lb : Int) ∧ f = (mb : Int) ∧ lb < l ∧ TW v n k lb mb ∧ ∀ l1 m, l1 < l → TW v n k l1 m → mb ≤ m ∧ (l1 < lb → mb < m)
theorem TW_uniq {v : Nat → Nat} {n : Nat} {k : Int} {l m m2 : Nat} (h : TW v n k l m) (h2 : TW v n k l m2) : m = m2 := by
  rcases Nat.lt_trichotomy m m2 with q | q | q
  · have := h2.2.2 m q; have := h.2.1; omega
  · exact q
  · have := h.2.2 m2 q; have := h2.2.1; omega
theorem TW_no {v : Nat → Nat} {n : Nat} {k : Int} {l : Nat} (h : ∀ m1, l + m1 ≤ n → (cnt v l (l + m1) (v l) : Int) < k) (m : Nat) : ¬ TW v n k l m := fun q => by
  have := h m q.1; have := q.2.1; omega
theorem TB_0 {v : Nat → Nat} {n : Nat} {k : Int} : TB v n k 0 (-2) 121 := Or.inl ⟨rfl, rfl, fun l1 m h => by omega⟩
theorem TB_skip {v : Nat → Nat} {n : Nat} {k : Int} {l : Nat} {b f : Int} (h : TB v n k l b f) (hs : ∀ m, TW v n k l m → f ≤ (m : Int)) (h2 : b = -2 → ∀ m, ¬ TW v n k l m) : TB v n k (l + 1) b f := by
  rcases h with ⟨h3, h4, h5⟩ | ⟨lb, mb, h3, h4, h5, h6, h7⟩
  · refine Or.inl ⟨h3, h4, fun l1 m q => ?_⟩
    by_cases e : l1 = l
    · rw [e]; exact h2 h3 m
    · exact h5 l1 m (by omega)
  · refine Or.inr ⟨lb, mb, h3, h4, by omega, h6, fun l1 m q ht => ?_⟩
    by_cases e : l1 = l
    · rw [e] at ht; have := hs m ht; exact ⟨by omega, fun q => by omega⟩
    · exact h7 l1 m (by omega) ht
theorem TB_new {v : Nat → Nat} {n : Nat} {k : Int} {l m0 : Nat} {b f : Int} (h : TB v n k l b f) (ht : TW v n k l m0) (hf : (m0 : Int) < f) : TB v n k (l + 1) (l : Int) (m0 : Int) := by
  refine Or.inr ⟨l, m0, rfl, rfl, by omega, ht, fun l1 m q hm => ?_⟩
  by_cases e : l1 = l
  · rw [e] at hm; rw [TW_uniq hm ht]; exact ⟨Nat.le_refl _, fun q => by omega⟩
  · rcases h with ⟨h3, h4, h5⟩ | ⟨lb, mb, h3, h4, h5, h6, h7⟩
    · exact absurd hm (h5 l1 m (by omega))
    · have := h7 l1 m (by omega) hm
      exact ⟨by omega, fun q => by omega⟩
theorem TB_b {v : Nat → Nat} {n : Nat} {k : Int} {l : Nat} {b f : Int} (h : TB v n k l b f) : (b = -2 ∧ f = 121) ∨ (0 ≤ b ∧ b < l ∧ b + f ≤ n ∧ 0 ≤ f) := by
  rcases h with ⟨h3, h4, h5⟩ | ⟨lb, mb, h3, h4, h5, h6, h7⟩
  · exact Or.inl ⟨h3, h4⟩
  · have := h6.1; right; omega
def SpTight (v : Nat → Nat) (n : Nat) (k q z : Int) : Prop := ∃ b f, TB v n k n b f ∧ z = if b = -2 then -2 else if q = 0 then b else if q = 1 then b + f - 1 else (v b.toNat : Int)
def Sp_tightest (n : Nat) (v : Nat → Nat) (k q z : Int) : Prop := if 1 ≤ k ∧ 0 ≤ q ∧ q ≤ 2 then SpTight v n k q z else z = -1
/-! what stands beyond so many -/
def ovF (v : Nat → Nat) (l r x : Nat) (m : Int) (y : Nat) : Nat := if y ≠ x ∧ m < (cnt v l r y : Int) ∧ 0 < cnt v l r y then ((cnt v l r y : Int) - m).toNat else 0
def ov (v : Nat → Nat) (l r x : Nat) (m : Int) : Nat := sm (ovF v l r x m) 0 1000
theorem ovF_le {v : Nat → Nat} {l r x y : Nat} {m : Int} (hm : -1 ≤ m) (hr : r ≤ 120) : ovF v l r x m y ≤ 121 := by
  have := cnt_le v l r y
  unfold ovF
  split <;> omega
theorem ov_0 {v : Nat → Nat} {l r x : Nat} {m : Int} (h : ∀ y, (cnt v l r y : Int) ≤ m) : ov v l r x m = 0 := by
  unfold ov
  rw [sm_congr (g := fun _ => 0) (fun p _ _ => by unfold ovF; rw [if_neg (fun q => by have := h p; omega)])]
  have h0 : ∀ M, sm (fun _ => 0) 0 M = 0 := fun M => by
    induction M with
    | zero => rfl
    | succ M ih => rw [sm_succ _ (Nat.zero_le _), ih]
  exact h0 _
theorem ov_enum {v : Nat → Nat} {l r k x : Nat} {m : Int} {u : Nat → Nat} (hE : EN v l r k u) : sm (fun j => ovF v l r x m (u j)) 0 k = ov v l r x m :=
  sm_enum (M := 1000) u k (ovF v l r x m) (fun j hj => (hE.2.1 j hj).1) hE.2.2.1 (fun y hy hf => hE.2.2.2 y hy (by
    unfold ovF at hf
    split at hf
    · rename_i h; exact h.2.2
    · exact absurd rfl hf))
def Sp_needed (n : Nat) (v : Nat → Nat) (l r x z : Int) : Prop := if (0 ≤ l ∧ l ≤ r ∧ r < n) ∧ 0 ≤ x ∧ x < 1000 then (∃ k : Nat, ov v l.toNat (r + 1).toNat x.toNat ((cnt v l.toNat (r + 1).toNat x.toNat : Int) + k - 1) ≤ k ∧ (∀ j : Nat, j < k → j < ov v l.toNat (r + 1).toNat x.toNat ((cnt v l.toNat (r + 1).toNat x.toNat : Int) + j - 1)) ∧ z = (k : Int)) else z = -1
/-! two spans together -/
def psh (g : (Nat → Nat) × Nat) (x : Nat) : (Nat → Nat) × Nat := (va_up g.1 g.2 x, g.2 + 1)
def tgA (v : Nat → Nat) (l : Nat) : Nat → (Nat → Nat) × Nat
  | 0 => (fun _ => 0, 0)
  | k + 1 => psh (tgA v l k) (v (l + k))
def tgB (v : Nat → Nat) (l R m : Nat) : Nat → (Nat → Nat) × Nat
  | 0 => tgA v l (R - l)
  | k + 1 => if l ≤ m + k ∧ m + k < R then tgB v l R m k else psh (tgB v l R m k) (v (m + k))
theorem tgA_n (v : Nat → Nat) (l k : Nat) : (tgA v l k).2 = k := by
  induction k with
  | zero => rfl
  | succ k ih => show (tgA v l k).2 + 1 = _; rw [ih]
theorem tgB_n (v : Nat → Nat) (l R m k : Nat) : R - l ≤ (tgB v l R m k).2 ∧ (tgB v l R m k).2 ≤ R - l + k := by
  induction k with
  | zero => exact ⟨Nat.le_of_eq (tgA_n v l (R - l)).symm, Nat.le_of_eq (tgA_n v l (R - l))⟩
  | succ k ih =>
    unfold tgB
    split
    · omega
    · show R - l ≤ (tgB v l R m k).2 + 1 ∧ (tgB v l R m k).2 + 1 ≤ _
      omega
theorem tgB_in {v : Nat → Nat} {l R m k : Nat} (h : l ≤ m + k ∧ m + k < R) : tgB v l R m (k + 1) = tgB v l R m k := if_pos h
theorem tgB_out {v : Nat → Nat} {l R m k : Nat} (h : ¬ (l ≤ m + k ∧ m + k < R)) : tgB v l R m (k + 1) = psh (tgB v l R m k) (v (m + k)) := if_neg h
/-- how many there are: the places of both spans, each once -/
theorem tgB_le {v : Nat → Nat} {l R m n : Nat} (hl : l ≤ R) (hR : R ≤ n) : ∀ k, m + k ≤ n → (tgB v l R m k).2 ≤ R - l + (if m + k ≤ l then k else if m + k ≤ R then l - m else l - m + (m + k - (if m ≤ R then R else m)))
  | 0, _ => by
    show (tgA v l (R - l)).2 ≤ _
    rw [tgA_n]; omega
  | k + 1, hk => by
    have ih := tgB_le (v := v) (m := m) hl hR k (by omega)
    by_cases h : l ≤ m + k ∧ m + k < R
    · rw [tgB_in h]
      (repeat' split at ih) <;> (repeat' split) <;> omega
    · rw [tgB_out h]
      show (tgB v l R m k).2 + 1 ≤ _
      (repeat' split at ih) <;> (repeat' split) <;> omega
def Sp_together (n : Nat) (v : Nat → Nat) (t : Nat) (l r m k q z : Int) : Prop := if (0 ≤ l ∧ l ≤ r ∧ r < n) ∧ (0 ≤ m ∧ m ≤ k ∧ k < n) ∧ 0 ≤ q ∧ q ≤ 1 then z = toldZ (tgB v l.toNat (r + 1).toNat m.toNat ((k + 1).toNat - m.toNat)).1 0 (tgB v l.toNat (r + 1).toNat m.toNat ((k + 1).toNat - m.toNat)).2 (md (tgB v l.toNat (r + 1).toNat m.toNat ((k + 1).toNat - m.toNat)).1 0 (tgB v l.toNat (r + 1).toNat m.toNat ((k + 1).toNat - m.toNat)).2 t) q else z = -1
/-! of the beginnings -/
def rwF (f : Nat → Nat) : Nat → Nat
  | 0 => 0
  | r + 1 => if f (r + 1) = f r then rwF f r + 1 else 0
def lsF (f : Nat → Nat) : Nat → Int
  | 0 => -2
  | r + 1 => if 0 < r ∧ f r ≠ f (r - 1) then (r : Int) else lsF f r
def mxF (f : Nat → Nat) : Nat → Int
  | 0 => -1
  | r + 1 => if mxF f r < (rwF f r : Int) then (rwF f r : Int) else mxF f r
def Sp_beginnings (n : Nat) (v : Nat → Nat) (t : Nat) (q z : Int) : Prop := if 0 ≤ q ∧ q ≤ 3 then z = (if q = 0 then (cB (fun r => 0 < r ∧ md v 0 (r + 1) t ≠ md v 0 (r - 1 + 1) t) n : Int) else if q = 1 then lsF (fun r => md v 0 (r + 1) t) n else if q = 2 then (dst (fun r => md v 0 (r + 1) t) 0 n : Int) else if n = 0 then -2 else mxF (fun r => md v 0 (r + 1) t) n) else z = -1
theorem dst_succ {f : Nat → Nat} {r : Nat} (hf : f r < 1000) : dst f 0 (r + 1) = dst f 0 r + if cnt f 0 r (f r) = 0 then 1 else 0 := by
  have hc : ∀ x, cnt f 0 (r + 1) x = cnt f 0 r x + if f r = x then 1 else 0 := fun x => cnt_succ f x (Nat.zero_le _)
  by_cases h : cnt f 0 r (f r) = 0
  · rw [if_pos h]
    have key : ∀ j, j ≠ f r → (0 < cnt f 0 (r + 1) j ↔ 0 < cnt f 0 r j) := fun j hj => by
      rw [hc, if_neg (fun e => hj e.symm)]
      exact Iff.rfl
    have k1 : 0 < cnt f 0 (r + 1) (f r) := by rw [hc, if_pos rfl]; omega
    generalize hN : 1000 = N at hf
    unfold dst
    rw [hN]
    exact cB_one hf k1 (by omega) key
  · rw [if_neg h]
    have key : ∀ j, (0 < cnt f 0 (r + 1) j ↔ 0 < cnt f 0 r j) := fun j => by
      rw [hc]
      by_cases e : f r = j
      · rw [← e]; constructor <;> intro <;> omega
      · rw [if_neg e]; exact Iff.rfl
    unfold dst
    generalize 1000 = N
    exact cB_congr (fun j _ => key j)
theorem dst_0 (f : Nat → Nat) (a : Nat) : dst f a a = 0 := cB_none (fun j _ h => by rw [cnt_0 f (Nat.le_refl _)] at h; omega)
def Sp_count (n : Nat) (v wt : Nat → Nat) (t b : Nat) (ln un tp q z : Int) : Prop := z = if q = 0 then (n : Int) else if q = 1 then (b : Int) else if q = 2 then ((zdiv (n + b - 1) b : Nat) : Int) else if q = 3 then (t : Int) else if q = 4 then ln else if q = 5 then (dst v 0 n : Int) else if q = 6 then un else if q = 7 then (sm wt 0 n : Int) else if q = 8 then tp else -1
def Sp_place (n : Nat) (v wt : Nat → Nat) (b : Nat) (p q th z : Int) : Prop := if 0 ≤ p ∧ p < n then (if 0 ≤ q ∧ q ≤ 5 then th = 0 ∧ z = (if q = 0 then (v p.toNat : Int) else if q = 1 then (wt p.toNat : Int) else if q = 2 then ((zdiv p.toNat b : Nat) : Int) else if q = 3 then (cnt v 0 p.toNat (v p.toNat) : Int) else if q = 4 then nxR v n (p.toNat + 1) p.toNat (v p.toNat) 1 else nxR v n (p.toNat + 1) p.toNat (v p.toNat) (-1)) else th = 2 ∧ z = 0) else th = 1 ∧ z = 0
/-! rows of the past -/
def PAST (un : Nat) (pv pw pm : Nat → Int) (hm : Nat → Nat) (hv hw : Nat → Nat → Nat) : Prop := ∀ k, k < un → pm k = (hm k : Int) ∧ hm k ≤ 120 ∧ ∀ p, p < hm k → pv (120 * k + p) = (hv k p : Int) ∧ pw (120 * k + p) = (hw k p : Int) ∧ hv k p < 1000 ∧ 1 ≤ hw k p ∧ hw k p ≤ 9
def Sp_was (n : Nat) (v : Nat → Nat) (un : Nat) (hm : Nat → Nat) (hv : Nat → Nat → Nat) (k p z : Int) : Prop := if (0 ≤ k ∧ k ≤ un) ∧ 0 ≤ p then z = (if k = 0 then (if p < n then (v p.toNat : Int) else -2) else (if p < (hm (un - k.toNat) : Int) then (hv (un - k.toNat) p.toNat : Int) else -2)) else z = -1
def snC (v : Nat → Nat) (un : Nat) (hm : Nat → Nat) (hv : Nat → Nat → Nat) (p k : Nat) : Prop := hm (un - k) ≤ p ∨ hv (un - k) p ≠ v p
def Sp_since (n : Nat) (v : Nat → Nat) (un : Nat) (hm : Nat → Nat) (hv : Nat → Nat → Nat) (p z : Int) : Prop := if 0 ≤ p ∧ p < n then ((∃ k : Nat, 1 ≤ k ∧ k ≤ un ∧ snC v un hm hv p.toNat k ∧ (∀ j, 1 ≤ j → j < k → ¬ snC v un hm hv p.toNat j) ∧ z = (k : Int) - 1) ∨ ((∀ j, 1 ≤ j → j ≤ un → ¬ snC v un hm hv p.toNat j) ∧ z = -2)) else z = -1
theorem tgA_lt {v : Nat → Nat} {l j p : Nat} (h : p < j) : (tgA v l (j + 1)).1 p = (tgA v l j).1 p := by
  show va_up (tgA v l j).1 (tgA v l j).2 _ p = _
  rw [tgA_n, va_up_ne _ _ (by omega)]
theorem tgA_at (v : Nat → Nat) (l j : Nat) : (tgA v l (j + 1)).1 j = v (l + j) := by
  show va_up (tgA v l j).1 (tgA v l j).2 _ j = _
  rw [tgA_n, va_up_self]
theorem tgB_co {v : Nat → Nat} {l R m : Nat} {o : Nat → Nat} {fo la : Nat → Int} {k : Nat} {u : Nat → Nat} (h : CO (tgA v l (R - l)).1 0 (R - l) o fo la k u) : CO (tgB v l R m 0).1 0 (tgB v l R m 0).2 o fo la k u := by
  show CO (tgA v l (R - l)).1 0 (tgA v l (R - l)).2 o fo la k u
  rw [tgA_n]; exact h
theorem psh_lt {g : (Nat → Nat) × Nat} {x : Nat} (h : ∀ p, p < g.2 → g.1 p < 1000) (hx : x < 1000) : ∀ p, p < (psh g x).2 → (psh g x).1 p < 1000 := fun p hp => by
  have hp2 : p < g.2 + 1 := hp
  show va_up g.1 g.2 x p < 1000
  by_cases e : p = g.2
  · rw [e, va_up_self]; exact hx
  · rw [va_up_ne _ _ e]; exact h p (by omega)
theorem tgA_lt2 {v : Nat → Nat} {n l : Nat} (hv : ∀ i, i < n → v i < 1000) : ∀ k, l + k ≤ n → ∀ p, p < (tgA v l k).2 → (tgA v l k).1 p < 1000
  | 0, _ => fun p hp => absurd hp (Nat.not_lt_zero _)
  | k + 1, h => psh_lt (tgA_lt2 hv k (by omega)) (hv _ (by omega))
theorem tg_lt {v : Nat → Nat} {n l R m : Nat} (hv : ∀ i, i < n → v i < 1000) (hl : l ≤ R) (hR : R ≤ n) : ∀ k, m + k ≤ n → ∀ p, p < (tgB v l R m k).2 → (tgB v l R m k).1 p < 1000
  | 0, _ => tgA_lt2 hv (R - l) (by omega)
  | k + 1, h => by
    have ih := tg_lt (m := m) hv hl hR k (by omega)
    by_cases e : l ≤ m + k ∧ m + k < R
    · rw [tgB_in e]; exact ih
    · rw [tgB_out e]; exact psh_lt ih (hv _ (by omega))
theorem tg_kpos {g : Nat → Nat} {c : Nat} {o : Nat → Nat} {fo la : Nat → Int} {k : Nat} {u : Nat → Nat} (h : CO g 0 c o fo la k u) (hc : 0 < c) (hg : ∀ p, p < c → g p < 1000) : 0 < k := CO_kpos h (Nat.le_refl 0) hc (hg 0 hc)
theorem tgB_n2 {v : Nat → Nat} {l R m n : Nat} (hl : l ≤ R) (hR : R ≤ n) (k : Nat) (h : m + k ≤ n) : (tgB v l R m k).2 ≤ n := by
  have := tgB_le (v := v) (m := m) hl hR k h
  (repeat' split at this) <;> omega
theorem TW_im {v : Nat → Nat} {l r : Nat} {k : Int} (im : ∀ m1, m1 < r - l → (cnt v l (l + m1) (v l) : Int) < k) (hlr : l ≤ r) (h : (cnt v l r (v l) : Int) < k) : ∀ m1, m1 < r + 1 - l → (cnt v l (l + m1) (v l) : Int) < k := fun m1 q1 => by
  rcases Nat.lt_or_ge m1 (r - l) with q2 | q2
  · exact im m1 q2
  · rw [show l + m1 = r by omega]; exact h
theorem TW_none {v : Nat → Nat} {n l r : Nat} {k : Int} (im : ∀ m1, m1 < r - l → (cnt v l (l + m1) (v l) : Int) < k) (hlr : l ≤ r) (hr : r = n) (h : (cnt v l r (v l) : Int) < k) (m : Nat) : ¬ TW v n k l m :=
  TW_no (fun m1 q1 => TW_im im hlr h m1 (by omega)) m
theorem TW_this {v : Nat → Nat} {n l r : Nat} {k : Int} (im : ∀ m1, m1 < r - l → (cnt v l (l + m1) (v l) : Int) < k) (hlr : l ≤ r) (hr : r ≤ n) (h : k ≤ (cnt v l r (v l) : Int)) : TW v n k l (r - l) :=
  ⟨by omega, by rw [show l + (r - l) = r by omega]; exact h, im⟩
theorem TB_new2 {v : Nat → Nat} {n : Nat} {k : Int} {l r : Nat} {b f : Int} (h : TB v n k l b f) (hlr : l ≤ r) (ht : TW v n k l (r - l)) (hf : (r : Int) - l < f) : TB v n k (l + 1) (l : Int) ((r : Int) - (l : Int)) := by
  have := TB_new h ht (by omega)
  rw [show ((r - l : Nat) : Int) = (r : Int) - (l : Int) by omega] at this
  exact this
theorem TB_skip2 {v : Nat → Nat} {n : Nat} {k : Int} {l r : Nat} {b f : Int} (h : TB v n k l b f) (hlr : l ≤ r) (ht : TW v n k l (r - l)) (hf : f ≤ (r : Int) - l) (hb : b = -2 → f = 121) (hn : r ≤ 120) : TB v n k (l + 1) b f :=
  TB_skip h (fun m hm => by have := TW_uniq hm ht; omega) (fun e => by have := hb e; omega)
theorem bg_rw2 (f : Nat → Nat) (r : Nat) : (r = 0 → rwF f r = 0) ∧ (0 < r → f r = f (r - 1) → rwF f r = rwF f (r - 1) + 1) ∧ (0 < r → ¬ f r = f (r - 1) → rwF f r = 0) := by
  cases r with
  | zero => exact ⟨fun _ => rfl, fun h => absurd h (Nat.lt_irrefl 0), fun h => absurd h (Nat.lt_irrefl 0)⟩
  | succ r => exact ⟨fun h => absurd h (Nat.succ_ne_zero r), fun _ h => if_pos h, fun _ h => if_neg h⟩
theorem bg_w {f : Nat → Nat} {r : Nat} {ws rw : Int} (hw : ws = (f r : Int)) (hr : rw = (rwF f r : Int)) : (r + 1 = 0 ∧ ws = -1 ∧ rw = 0) ∨ (0 < r + 1 ∧ ws = (f (r + 1 - 1) : Int) ∧ rw = (rwF f (r + 1 - 1) : Int)) := Or.inr ⟨Nat.succ_pos _, hw, hr⟩
theorem bg_l1 {f : Nat → Nat} {r : Nat} (h : 0 < r ∧ f r ≠ f (r - 1)) : (r : Int) = lsF f (r + 1) := (if_pos h).symm
theorem bg_l0 {f : Nat → Nat} {r : Nat} (h : ¬ (0 < r ∧ f r ≠ f (r - 1))) : lsF f (r + 1) = lsF f r := if_neg h
theorem bg_m1 {f : Nat → Nat} {r : Nat} {mx row : Int} (hx : mx = mxF f r) (hr : row = (rwF f r : Int)) (h : mx < (rwF f r : Int)) : row = mxF f (r + 1) := by
  show row = if _ then _ else _
  rw [if_pos (by rw [← hx]; exact h), hr]
theorem bg_m0 {f : Nat → Nat} {r : Nat} {mx : Int} (hx : mx = mxF f r) (h : ¬ mx < (rwF f r : Int)) : mx = mxF f (r + 1) := by
  show mx = if _ then _ else _
  rw [if_neg (by rw [← hx]; exact h), hx]
def Sp_id (x z : Int) : Prop := z = x
def Sp_fault (ft fp q z : Int) : Prop := z = if q = 0 then ft else if q = 1 then fp else -1
