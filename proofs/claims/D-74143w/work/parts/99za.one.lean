/-! each call has one answer -/
set_option maxRecDepth 100000
theorem if_u {c : Prop} [Decidable c] {α : Type} {A B : α → Prop} {z z' : α} (h : if c then A z else B z) (k : if c then A z' else B z') (hA : ∀ x y, A x → A y → x = y) (hB : ∀ x y, B x → B y → x = y) : z = z' := by
  by_cases q : c
  · rw [if_pos q] at h k; exact hA _ _ h k
  · rw [if_neg q] at h k; exact hB _ _ h k
theorem eqU {α : Type} {T : α} : ∀ x y : α, x = T → y = T → x = y := fun _ _ h k => h.trans k.symm
theorem cB_mn {S : Nat → Prop} {N : Nat} : ∀ {M : Nat}, N ≤ M → cB S N ≤ cB S M := by
  intro M
  induction M with
  | zero => intro h; rw [show N = 0 by omega]; exact Nat.le_refl _
  | succ M ih =>
    intro h
    rcases Nat.lt_or_ge M N with q | q
    · rw [show N = M + 1 by omega]; exact Nat.le_refl _
    · have h1 := ih q
      by_cases e : S M
      · rw [cB_t e]; omega
      · rw [cB_f e]; exact h1
theorem SpAt_u {v : Nat → Nat} {n x k : Nat} : ∀ z z' : Int, SpAt v n x k z → SpAt v n x k z' → z = z' := by
  intro z z' h h2
  rcases h with ⟨p, a1, a2, a3, rfl⟩ | ⟨a1, rfl⟩ <;> rcases h2 with ⟨q, b1, b2, b3, rfl⟩ | ⟨b1, rfl⟩
  · rcases Nat.lt_trichotomy p q with e | e | e
    · have h3 := cnt_at a2; have h4 := cnt_mono (v := v) (a := 0) (x := x) (show p + 1 ≤ q from e); omega
    · rw [e]
    · have h3 := cnt_at b2; have h4 := cnt_mono (v := v) (a := 0) (x := x) (show q + 1 ≤ p from e); omega
  · have h3 := cnt_at a2; have h4 := cnt_mono (v := v) (a := 0) (x := x) (show p + 1 ≤ n from a1); omega
  · have h3 := cnt_at b2; have h4 := cnt_mono (v := v) (a := 0) (x := x) (show q + 1 ≤ n from b1); omega
  · rfl
theorem Hvy_u {v wt : Nat → Nat} {l r t x y : Nat} (h : IsHvy v wt l r t x) (k : IsHvy v wt l r t y) : x = y := by
  by_cases e : x = y
  · exact e
  · have h1 := h.2.2 y k.1 k.2.1 (fun q => e q.symm)
    have h2 := k.2.2 x h.1 h.2.1 e
    unfold hvy at h1 h2
    rcases h1 with a | ⟨a, b⟩ <;> rcases h2 with c | ⟨c, d⟩
    · omega
    · omega
    · omega
    · exact (ahd_asym b d).elim
theorem BRn_u {v : Nat → Nat} {L p R b m b2 m2 : Nat} (hp : L < p) (h : BRn v L p R b m) (k : BRn v L p R b2 m2) : b = b2 ∧ m = m2 := by
  obtain ⟨h1, h2⟩ := h
  obtain ⟨k1, k2⟩ := k
  have h2 := h2.resolve_left (fun q => by omega)
  have k2 := k2.resolve_left (fun q => by omega)
  have a1 := h1 b2 k2.1 k2.2.1 m2 k2.2.2.2
  have a2 := k1 b h2.1 h2.2.1 m h2.2.2.2
  rcases Nat.lt_trichotomy b b2 with e | e | e
  · have := a2.2 e; omega
  · exact ⟨e, by omega⟩
  · have := a1.2 e; omega
theorem Best_u {S : Nat → Nat → Prop} {n : Nat} {q : Int} : ∀ z z' : Int, SpBest S n q z → SpBest S n q z' → z = z' := by
  intro z z' h k
  rcases h with ⟨h1, rfl⟩ | ⟨l, m, a1, a2, a3, a4, rfl⟩ <;> rcases k with ⟨k1, rfl⟩ | ⟨l2, m2, b1, b2, b3, b4, rfl⟩
  · rfl
  · exact absurd b3 (h1 _ _ (by omega) (by omega))
  · exact absurd a3 (k1 _ _ (by omega) (by omega))
  · have c1 := a4 l2 (l2 + m2 - 1) (by omega) (by omega) b3
    have c2 := b4 l (l + m - 1) (by omega) (by omega) a3
    rcases Nat.lt_trichotomy l l2 with e | e | e
    · have := c2.2 e; omega
    · subst e
      rw [show m = m2 by omega]
    · have := c1.2 e; omega
theorem TB_u {v : Nat → Nat} {n : Nat} {k : Int} {l : Nat} {b f b2 f2 : Int} (h : TB v n k l b f) (h2 : TB v n k l b2 f2) : b = b2 ∧ f = f2 := by
  rcases h with ⟨rfl, rfl, h1⟩ | ⟨lb, mb, rfl, rfl, a1, a2, a3⟩ <;> rcases h2 with ⟨rfl, rfl, k1⟩ | ⟨lb2, mb2, rfl, rfl, c1, c2, c3⟩
  · exact ⟨rfl, rfl⟩
  · exact absurd c2 (h1 _ _ c1)
  · exact absurd a2 (k1 _ _ a1)
  · have d1 := a3 lb2 mb2 c1 c2
    have d2 := c3 lb mb a1 a2
    rcases Nat.lt_trichotomy lb lb2 with e | e | e
    · have := d2.2 e; omega
    · subst e
      exact ⟨rfl, by omega⟩
    · have := d1.2 e; omega
theorem MX_u {f : Nat → Nat} {l m b b2 : Nat} {z z2 : Int} (hm : l < m) (h : MX f l m b z) (k : MX f l m b2 z2) : b = b2 ∧ z = z2 := by
  have h := h.resolve_left (fun q => by omega)
  have k := k.resolve_left (fun q => by omega)
  obtain ⟨h1, h2, rfl, h4⟩ := h
  obtain ⟨k1, k2, rfl, k4⟩ := k
  have a1 := h4 b2 k1 k2
  have a2 := k4 b h1 h2
  rcases Nat.lt_trichotomy b b2 with e | e | e
  · have := a2.2 e; omega
  · subst e; exact ⟨rfl, rfl⟩
  · have := a1.2 e; omega
theorem ofR_in {v : Nat → Nat} {l r t i j : Nat} {S : Nat → Prop} (hi : i < dst v l r) (hj : j < dst v l r) (si : S (ofR v l r t i)) (sj : S (ofR v l r t j)) (e : cB (fun j => S (ofR v l r t j)) i = cB (fun j => S (ofR v l r t j)) j) : i = j := by
  rcases Nat.lt_trichotomy i j with q | q | q
  · have h1 := cB_t (S := fun j => S (ofR v l r t j)) si
    have h2 := cB_mn (S := fun j => S (ofR v l r t j)) (show i + 1 ≤ j from q)
    omega
  · exact q
  · have h1 := cB_t (S := fun j => S (ofR v l r t j)) sj
    have h2 := cB_mn (S := fun j => S (ofR v l r t j)) (show j + 1 ≤ i from q)
    omega
theorem EDT_u {b n : Nat} {v wt : Nat → Nat} {un : Nat} {hm : Nat → Nat} {hv hw : Nat → Nat → Nat} {fr : Int} {n2 : Nat} {v2 w2 : Nat → Nat} {u1 u2 : Nat} {m1 m2 : Nat → Nat} {a1 a2 c1 c2 : Nat → Nat → Nat} {f1 f2 : Int} (h : EDT b n v wt un hm hv hw fr n2 v2 w2 u1 m1 a1 c1 f1) (k : EDT b n v wt un hm hv hw fr n2 v2 w2 u2 m2 a2 c2 f2) : u1 = u2 ∧ m1 = m2 ∧ a1 = a2 ∧ c1 = c2 ∧ f1 = f2 := by
  rcases h with ⟨s1, e1, e2, e3, e4, e5⟩ | ⟨s1, e1, e2, e3, e4, e5⟩ <;> rcases k with ⟨t1, g1, g2, g3, g4, g5⟩ | ⟨t1, g1, g2, g3, g4, g5⟩
  · exact ⟨e1.trans g1.symm, e2.trans g2.symm, e3.trans g3.symm, e4.trans g4.symm, e5.trans g5.symm⟩
  · exact absurd s1 t1
  · exact absurd t1 s1
  · exact ⟨e1.trans g1.symm, e2.trans g2.symm, e3.trans g3.symm, e4.trans g4.symm, e5.trans g5.symm⟩
theorem one_mode {n : Nat} {v : Nat → Nat} {t : Nat} {l r q z : Int} {z' : Int} (h : Sp_mode n v t l r q z) (k : Sp_mode n v t l r q z') : z = z' := by
  unfold Sp_mode at h k
  split at h
  · rename_i hc
    rw [if_pos hc] at k
    exact h.trans k.symm
  · rename_i hc
    rw [if_neg hc] at k
    exact h.trans k.symm
theorem one_often {n : Nat} {v : Nat → Nat} {l r x z : Int} {z' : Int} (h : Sp_often n v l r x z) (k : Sp_often n v l r x z') : z = z' := by
  unfold Sp_often at h k
  split at h
  · rename_i hc
    rw [if_pos hc] at k
    exact h.trans k.symm
  · rename_i hc
    rw [if_neg hc] at k
    exact h.trans k.symm
theorem one_unlike {n : Nat} {v : Nat → Nat} {l r z : Int} {z' : Int} (h : Sp_unlike n v l r z) (k : Sp_unlike n v l r z') : z = z' := by
  unfold Sp_unlike at h k
  split at h
  · rename_i hc
    rw [if_pos hc] at k
    exact h.trans k.symm
  · rename_i hc
    rw [if_neg hc] at k
    exact h.trans k.symm
theorem one_times {n : Nat} {v : Nat → Nat} {l r m z : Int} {z' : Int} (h : Sp_times n v l r m z) (k : Sp_times n v l r m z') : z = z' := by
  unfold Sp_times at h k
  split at h
  · rename_i hc
    rw [if_pos hc] at k
    exact h.trans k.symm
  · rename_i hc
    rw [if_neg hc] at k
    exact h.trans k.symm
theorem one_pair {n : Nat} {v : Nat → Nat} {t b : Nat} {i j q z : Int} {z' : Int} (h : Sp_pair n v t b i j q z) (k : Sp_pair n v t b i j q z') : z = z' := by
  unfold Sp_pair at h k
  split at h
  · rename_i hc
    rw [if_pos hc] at k
    exact h.trans k.symm
  · rename_i hc
    rw [if_neg hc] at k
    exact h.trans k.symm
theorem one_twisted {n : Nat} {v : Nat → Nat} {l r z : Int} {z' : Int} (h : Sp_twisted n v l r z) (k : Sp_twisted n v l r z') : z = z' := by
  unfold Sp_twisted at h k
  split at h
  · rename_i hc
    rw [if_pos hc] at k
    exact h.trans k.symm
  · rename_i hc
    rw [if_neg hc] at k
    exact h.trans k.symm
theorem one_common {n : Nat} {v : Nat → Nat} {l r m z : Int} {z' : Int} (h : Sp_common n v l r m z) (k : Sp_common n v l r m z') : z = z' := by
  unfold Sp_common at h k
  split at h
  · rename_i hc
    rw [if_pos hc] at k
    exact h.trans k.symm
  · rename_i hc
    rw [if_neg hc] at k
    exact h.trans k.symm
theorem one_windows {n : Nat} {v : Nat → Nat} {t : Nat} {w q z : Int} {z' : Int} (h : Sp_windows n v t w q z) (k : Sp_windows n v t w q z') : z = z' := by
  unfold Sp_windows at h k
  split at h
  · rename_i hc
    rw [if_pos hc] at k
    exact h.trans k.symm
  · rename_i hc
    rw [if_neg hc] at k
    exact h.trans k.symm
theorem one_spans {n : Nat} {v : Nat → Nat} {t : Nat} {x z : Int} {z' : Int} (h : Sp_spans n v t x z) (k : Sp_spans n v t x z') : z = z' := by
  unfold Sp_spans at h k
  split at h
  · rename_i hc
    rw [if_pos hc] at k
    exact h.trans k.symm
  · rename_i hc
    rw [if_neg hc] at k
    exact h.trans k.symm
theorem one_ifSet {n : Nat} {v : Nat → Nat} {t : Nat} {p x l r z : Int} {z' : Int} (h : Sp_ifSet n v t p x l r z) (k : Sp_ifSet n v t p x l r z') : z = z' := by
  unfold Sp_ifSet at h k
  split at h
  · rename_i hc
    rw [if_pos hc] at k
    exact h.trans k.symm
  · rename_i hc
    rw [if_neg hc] at k
    exact h.trans k.symm
theorem one_ifTies {n : Nat} {v : Nat → Nat} {ti l r z : Int} {z' : Int} (h : Sp_ifTies n v ti l r z) (k : Sp_ifTies n v ti l r z') : z = z' := by
  unfold Sp_ifTies at h k
  split at h
  · rename_i hc
    rw [if_pos hc] at k
    exact h.trans k.symm
  · rename_i hc
    rw [if_neg hc] at k
    exact h.trans k.symm
theorem one_lead {n : Nat} {v : Nat → Nat} {t : Nat} {l r z : Int} {z' : Int} (h : Sp_lead n v t l r z) (k : Sp_lead n v t l r z') : z = z' := by
  unfold Sp_lead at h k
  split at h
  · rename_i hc
    rw [if_pos hc] at k
    exact h.trans k.symm
  · rename_i hc
    rw [if_neg hc] at k
    exact h.trans k.symm
theorem one_rarest {n : Nat} {v : Nat → Nat} {t : Nat} {l r q z : Int} {z' : Int} (h : Sp_rarest n v t l r q z) (k : Sp_rarest n v t l r q z') : z = z' := by
  unfold Sp_rarest at h k
  split at h
  · rename_i hc
    rw [if_pos hc] at k
    exact h.trans k.symm
  · rename_i hc
    rw [if_neg hc] at k
    exact h.trans k.symm
theorem one_follow {n : Nat} {v : Nat → Nat} {x p bk z : Int} {z' : Int} (h : Sp_follow n v x p bk z) (k : Sp_follow n v x p bk z') : z = z' := by
  unfold Sp_follow at h k
  split at h
  · rename_i hc
    rw [if_pos hc] at k
    exact h.trans k.symm
  · rename_i hc
    rw [if_neg hc] at k
    exact h.trans k.symm
theorem one_together {n : Nat} {v : Nat → Nat} {t : Nat} {l r m k q z : Int} {z' : Int} (h : Sp_together n v t l r m k q z) (k : Sp_together n v t l r m k q z') : z = z' := by
  unfold Sp_together at h k
  split at h
  · rename_i hc
    rw [if_pos hc] at k
    exact h.trans k.symm
  · rename_i hc
    rw [if_neg hc] at k
    exact h.trans k.symm
theorem one_agree {n : Nat} {v : Nat → Nat} {t : Nat} {l m r z : Int} {z' : Int} (h : Sp_agree n v t l m r z) (k : Sp_agree n v t l m r z') : z = z' := by
  unfold Sp_agree at h k
  split at h
  · rename_i hc
    rw [if_pos hc] at k
    exact h.trans k.symm
  · rename_i hc
    rw [if_neg hc] at k
    exact h.trans k.symm
theorem one_beginnings {n : Nat} {v : Nat → Nat} {t : Nat} {q z : Int} {z' : Int} (h : Sp_beginnings n v t q z) (k : Sp_beginnings n v t q z') : z = z' := by
  unfold Sp_beginnings at h k
  split at h
  · rename_i hc
    rw [if_pos hc] at k
    exact h.trans k.symm
  · rename_i hc
    rw [if_neg hc] at k
    exact h.trans k.symm
theorem one_gap {n : Nat} {v : Nat → Nat} {x z : Int} {z' : Int} (h : Sp_gap n v x z) (k : Sp_gap n v x z') : z = z' := by
  unfold Sp_gap at h k
  split at h
  · rename_i hc
    rw [if_pos hc] at k
    exact h.trans k.symm
  · rename_i hc
    rw [if_neg hc] at k
    exact h.trans k.symm
theorem one_ranked {n : Nat} {v : Nat → Nat} {t : Nat} {l r k q z : Int} {z' : Int} (h : Sp_ranked n v t l r k q z) (k : Sp_ranked n v t l r k q z') : z = z' := by
  unfold Sp_ranked at h k
  split at h
  · rename_i hc
    rw [if_pos hc] at k
    split at h
    · rename_i hd
      rw [if_pos hd] at k
      exact h.trans k.symm
    · rename_i hd
      rw [if_neg hd] at k
      exact h.trans k.symm
  · rename_i hc
    rw [if_neg hc] at k
    exact h.trans k.symm
theorem one_rank {n : Nat} {v : Nat → Nat} {t : Nat} {l r x z : Int} {z' : Int} (h : Sp_rank n v t l r x z) (k : Sp_rank n v t l r x z') : z = z' := by
  unfold Sp_rank at h k
  split at h
  · rename_i hc
    rw [if_pos hc] at k
    split at h
    · rename_i hd
      rw [if_pos hd] at k
      exact h.trans k.symm
    · rename_i hd
      rw [if_neg hd] at k
      exact h.trans k.symm
  · rename_i hc
    rw [if_neg hc] at k
    exact h.trans k.symm
theorem one_majority {n : Nat} {v : Nat → Nat} {t : Nat} {l r z : Int} {z' : Int} (h : Sp_majority n v t l r z) (k : Sp_majority n v t l r z') : z = z' := by
  unfold Sp_majority at h k
  split at h
  · rename_i hc
    rw [if_pos hc] at k
    split at h
    · rename_i hd
      rw [if_pos hd] at k
      exact h.trans k.symm
    · rename_i hd
      rw [if_neg hd] at k
      exact h.trans k.symm
  · rename_i hc
    rw [if_neg hc] at k
    exact h.trans k.symm
theorem one_window {n : Nat} {v : Nat → Nat} {t : Nat} {w k z : Int} {z' : Int} (h : Sp_window n v t w k z) (k : Sp_window n v t w k z') : z = z' := by
  unfold Sp_window at h k
  split at h
  · rename_i hc
    rw [if_pos hc] at k
    split at h
    · rename_i hd
      rw [if_pos hd] at k
      exact h.trans k.symm
    · rename_i hd
      rw [if_neg hd] at k
      exact h.trans k.symm
  · rename_i hc
    rw [if_neg hc] at k
    exact h.trans k.symm
theorem one_ifOut {n : Nat} {v : Nat → Nat} {t : Nat} {p l r z : Int} {z' : Int} (h : Sp_ifOut n v t p l r z) (k : Sp_ifOut n v t p l r z') : z = z' := by
  unfold Sp_ifOut at h k
  split at h
  · rename_i hc
    rw [if_pos hc] at k
    split at h
    · rename_i hd
      rw [if_pos hd] at k
      exact h.trans k.symm
    · rename_i hd
      rw [if_neg hd] at k
      exact h.trans k.symm
  · rename_i hc
    rw [if_neg hc] at k
    exact h.trans k.symm
theorem one_peeled {n : Nat} {v : Nat → Nat} {t : Nat} {l r k z : Int} {z' : Int} (h : Sp_peeled n v t l r k z) (k : Sp_peeled n v t l r k z') : z = z' := by
  unfold Sp_peeled at h k
  split at h
  · rename_i hc
    rw [if_pos hc] at k
    split at h
    · rename_i hd
      rw [if_pos hd] at k
      exact h.trans k.symm
    · rename_i hd
      rw [if_neg hd] at k
      exact h.trans k.symm
  · rename_i hc
    rw [if_neg hc] at k
    exact h.trans k.symm
theorem one_fault {ft fp q z : Int} {z' : Int} (h : Sp_fault ft fp q z) (k : Sp_fault ft fp q z') : z = z' := h.trans k.symm
theorem one_id {x z : Int} {z' : Int} (h : Sp_id x z) (k : Sp_id x z') : z = z' := h.trans k.symm
theorem one_count {n : Nat} {v wt : Nat → Nat} {t b : Nat} {ln un tp q z : Int} {z' : Int} (h : Sp_count n v wt t b ln un tp q z) (k : Sp_count n v wt t b ln un tp q z') : z = z' := h.trans k.symm
theorem one_at {n : Nat} {v : Nat → Nat} {x k z : Int} {z' : Int} (h : Sp_at n v x k z) (k : Sp_at n v x k z') : z = z' := by
  unfold Sp_at at h k
  split at h
  · rename_i hc
    rw [if_pos hc] at k
    exact SpAt_u _ _ h k
  · rename_i hc
    rw [if_neg hc] at k
    exact h.trans k.symm
theorem one_longest {n : Nat} {v : Nat → Nat} {t : Nat} {x q z : Int} {z' : Int} (h : Sp_longest n v t x q z) (k : Sp_longest n v t x q z') : z = z' := by
  unfold Sp_longest at h k
  split at h
  · rename_i hc
    rw [if_pos hc] at k
    exact Best_u _ _ h k
  · rename_i hc
    rw [if_neg hc] at k
    exact h.trans k.symm
theorem one_reign {n : Nat} {v : Nat → Nat} {x q z : Int} {z' : Int} (h : Sp_reign n v x q z) (k : Sp_reign n v x q z') : z = z' := by
  unfold Sp_reign at h k
  split at h
  · rename_i hc
    rw [if_pos hc] at k
    exact Best_u _ _ h k
  · rename_i hc
    rw [if_neg hc] at k
    exact h.trans k.symm
theorem one_was {n : Nat} {v : Nat → Nat} {un : Nat} {hm : Nat → Nat} {hv : Nat → Nat → Nat} {k p z : Int} {z' : Int} (h : Sp_was n v un hm hv k p z) (k : Sp_was n v un hm hv k p z') : z = z' := by
  unfold Sp_was at h k
  split at h
  · rename_i hc
    rw [if_pos hc] at k
    exact h.trans k.symm
  · rename_i hc
    rw [if_neg hc] at k
    exact h.trans k.symm
theorem one_part {n : Nat} {v : Nat → Nat} {t : Nat} {k z : Int} {z' : Int} (h : Sp_part n v t k z) (k : Sp_part n v t k z') : z = z' := by
  unfold Sp_part at h k
  split at h
  · rename_i hc
    rw [if_pos hc] at k
    split at h
    · rename_i hd
      rw [if_pos hd] at k
      exact h.trans k.symm
    · rename_i hd
      rw [if_neg hd] at k
      split at h
      · rename_i he
        rw [if_pos he] at k
        exact h.trans k.symm
      · rename_i he
        rw [if_neg he] at k
        exact h.trans k.symm
  · rename_i hc
    rw [if_neg hc] at k
    exact h.trans k.symm
theorem one_heaviest {n : Nat} {v wt : Nat → Nat} {t : Nat} {l r q z : Int} {z' : Int} (h : Sp_heaviest n v wt t l r q z) (k : Sp_heaviest n v wt t l r q z') : z = z' := by
  unfold Sp_heaviest at h k
  split at h
  · rename_i hc
    rw [if_pos hc] at k
    obtain ⟨a, ha, rfl⟩ := h
    obtain ⟨b, hb, rfl⟩ := k
    rw [Hvy_u ha hb]
  · rename_i hc
    rw [if_neg hc] at k
    exact h.trans k.symm
theorem one_median {n : Nat} {v : Nat → Nat} {l r z : Int} {z' : Int} (h : Sp_median n v l r z) (k : Sp_median n v l r z') : z = z' := by
  unfold Sp_median at h k
  split at h
  · rename_i hc
    rw [if_pos hc] at k
    obtain ⟨a, a1, a2, rfl⟩ := h
    obtain ⟨b, b1, b2, rfl⟩ := k
    rcases Nat.lt_trichotomy a b with e | e | e
    · have := csum_mono (v := v) (L := l.toNat) (R := (r + 1).toNat) (show a + 1 ≤ b from e); omega
    · rw [e]
    · have := csum_mono (v := v) (L := l.toNat) (R := (r + 1).toNat) (show b + 1 ≤ a from e); omega
  · rename_i hc
    rw [if_neg hc] at k
    exact h.trans k.symm
theorem one_run {n : Nat} {v : Nat → Nat} {l r q z : Int} {z' : Int} (h : Sp_run n v l r q z) (k : Sp_run n v l r q z') : z = z' := by
  unfold Sp_run at h k
  split at h
  · rename_i hc
    rw [if_pos hc] at k
    obtain ⟨b, m, a1, rfl⟩ := h
    obtain ⟨b2, m2, a2, rfl⟩ := k
    obtain ⟨rfl, rfl⟩ := BRn_u (by omega) a1 a2
    rfl
  · rename_i hc
    rw [if_neg hc] at k
    exact h.trans k.symm
theorem one_tightest {n : Nat} {v : Nat → Nat} {k q z : Int} {z' : Int} (h : Sp_tightest n v k q z) (k : Sp_tightest n v k q z') : z = z' := by
  unfold Sp_tightest at h k
  split at h
  · rename_i hc
    rw [if_pos hc] at k
    obtain ⟨a, f, a1, rfl⟩ := h
    obtain ⟨b, g, b1, rfl⟩ := k
    obtain ⟨rfl, rfl⟩ := TB_u a1 b1
    rfl
  · rename_i hc
    rw [if_neg hc] at k
    exact h.trans k.symm
theorem one_needed {n : Nat} {v : Nat → Nat} {l r x z : Int} {z' : Int} (h : Sp_needed n v l r x z) (k : Sp_needed n v l r x z') : z = z' := by
  unfold Sp_needed at h k
  split at h
  · rename_i hc
    rw [if_pos hc] at k
    obtain ⟨a, a1, a2, rfl⟩ := h
    obtain ⟨b, b1, b2, rfl⟩ := k
    rcases Nat.lt_trichotomy a b with e | e | e
    · have := b2 a e; omega
    · rw [e]
    · have := a2 b e; omega
  · rename_i hc
    rw [if_neg hc] at k
    exact h.trans k.symm
theorem one_split {n : Nat} {v : Nat → Nat} {t : Nat} {l r q z : Int} {z' : Int} (h : Sp_split n v t l r q z) (k : Sp_split n v t l r q z') : z = z' := by
  unfold Sp_split at h k
  split at h
  · rename_i hc
    rw [if_pos hc] at k
    obtain ⟨b, y, a1, rfl⟩ := h
    obtain ⟨b2, y2, a2, rfl⟩ := k
    obtain ⟨rfl, rfl⟩ := MX_u (by omega) a1 a2
    rfl
  · rename_i hc
    rw [if_neg hc] at k
    exact h.trans k.symm
theorem one_wide {n : Nat} {v : Nat → Nat} {t : Nat} {k z : Int} {z' : Int} (h : Sp_wide n v t k z) (k : Sp_wide n v t k z') : z = z' := by
  unfold Sp_wide at h k
  split at h
  · rename_i hc
    rw [if_pos hc] at k
    rcases h with ⟨a, a1, a2, a3, a4, rfl⟩ | ⟨a1, rfl⟩ <;> rcases k with ⟨b, b1, b2, b3, b4, rfl⟩ | ⟨b1, rfl⟩
    · rcases Nat.lt_trichotomy a b with e | e | e
      · exact absurd a3 (b4 a a1 e)
      · rw [e]
      · exact absurd b3 (a4 b b1 e)
    · exact absurd a3 (b1 a a1 a2)
    · exact absurd b3 (a1 b b1 b2)
    · rfl
  · rename_i hc
    rw [if_neg hc] at k
    exact h.trans k.symm
theorem one_since {n : Nat} {v : Nat → Nat} {un : Nat} {hm : Nat → Nat} {hv : Nat → Nat → Nat} {p z : Int} {z' : Int} (h : Sp_since n v un hm hv p z) (k : Sp_since n v un hm hv p z') : z = z' := by
  unfold Sp_since at h k
  split at h
  · rename_i hc
    rw [if_pos hc] at k
    rcases h with ⟨a, a1, a2, a3, a4, rfl⟩ | ⟨a1, rfl⟩ <;> rcases k with ⟨b, b1, b2, b3, b4, rfl⟩ | ⟨b1, rfl⟩
    · rcases Nat.lt_trichotomy a b with e | e | e
      · exact absurd a3 (b4 a a1 e)
      · rw [e]
      · exact absurd b3 (a4 b b1 e)
    · exact absurd a3 (b1 a a1 a2)
    · exact absurd b3 (a1 b b1 b2)
    · rfl
  · rename_i hc
    rw [if_neg hc] at k
    exact h.trans k.symm
theorem one_candidate {n : Nat} {v : Nat → Nat} {t b : Nat} {l r k z : Int} {z' : Int} (h : Sp_candidate n v t b l r k z) (k : Sp_candidate n v t b l r k z') : z = z' := by
  unfold Sp_candidate at h k
  split at h
  · rename_i hc
    rw [if_pos hc] at k
    obtain ⟨e, a1, h⟩ := h
    obtain ⟨e2, b1, k⟩ := k
    obtain rfl := WB_uniq a1 b1
    split at h
    · rename_i hd
      rw [if_pos hd] at k
      exact h.trans k.symm
    · rename_i hd
      rw [if_neg hd] at k
      rcases h with ⟨i, i1, i2, i3, rfl⟩ | ⟨i1, rfl⟩ <;> rcases k with ⟨j, j1, j2, j3, rfl⟩ | ⟨j1, rfl⟩
      · rw [ofR_in (S := CSt v t n b l.toNat (zdiv (l.toNat + b - 1) b) e (r.toNat + 1)) i1 j1 i2 j2 (by omega)]
      · have h1 := cB_t (S := fun j => CSt v t n b l.toNat (zdiv (l.toNat + b - 1) b) e (r.toNat + 1) (ofR v l.toNat (r.toNat + 1) t j)) i2
        have h2 := cB_mn (S := fun j => CSt v t n b l.toNat (zdiv (l.toNat + b - 1) b) e (r.toNat + 1) (ofR v l.toNat (r.toNat + 1) t j)) (show i + 1 ≤ _ from i1)
        omega
      · have h1 := cB_t (S := fun j => CSt v t n b l.toNat (zdiv (l.toNat + b - 1) b) e (r.toNat + 1) (ofR v l.toNat (r.toNat + 1) t j)) j2
        have h2 := cB_mn (S := fun j => CSt v t n b l.toNat (zdiv (l.toNat + b - 1) b) e (r.toNat + 1) (ofR v l.toNat (r.toNat + 1) t j)) (show j + 1 ≤ _ from j1)
        omega
      · rfl
  · rename_i hc
    rw [if_neg hc] at k
    exact h.trans k.symm
theorem one_fill {n : Nat} {v wt : Nat → Nat} {l r x z : Int} {n2 : Nat} {v2 w2 : Nat → Nat} {z' : Int} {n2' : Nat} {v2' : Nat → Nat} {w2' : Nat → Nat} (h : Sp_fill n v wt l r x z n2 v2 w2) (k : Sp_fill n v wt l r x z' n2' v2' w2') : z = z' ∧ n2 = n2' ∧ v2 = v2' ∧ w2 = w2' := by
  unfold Sp_fill at h k
  split at h
  · rename_i hc
    rw [if_pos hc] at k
    obtain ⟨h1, h2, h3, h4⟩ := h
    obtain ⟨k1, k2, k3, k4⟩ := k
    rw [h3] at h1
    rw [k3] at k1
    exact ⟨h1.trans k1.symm, h2.trans k2.symm, h3.trans k3.symm, h4.trans k4.symm⟩
  · rename_i hc
    rw [if_neg hc] at k
    obtain ⟨h1, h2, h3, h4⟩ := h
    obtain ⟨k1, k2, k3, k4⟩ := k
    exact ⟨h1.trans k1.symm, h2.trans k2.symm, h3.trans k3.symm, h4.trans k4.symm⟩
theorem one_flip {n : Nat} {v wt : Nat → Nat} {l r z : Int} {n2 : Nat} {v2 w2 : Nat → Nat} {z' : Int} {n2' : Nat} {v2' : Nat → Nat} {w2' : Nat → Nat} (h : Sp_flip n v wt l r z n2 v2 w2) (k : Sp_flip n v wt l r z' n2' v2' w2') : z = z' ∧ n2 = n2' ∧ v2 = v2' ∧ w2 = w2' := by
  unfold Sp_flip at h k
  split at h
  · rename_i hc
    rw [if_pos hc] at k
    obtain ⟨h1, h2, h3, h4⟩ := h
    obtain ⟨k1, k2, k3, k4⟩ := k
    rw [h3] at h1
    rw [k3] at k1
    exact ⟨h1.trans k1.symm, h2.trans k2.symm, h3.trans k3.symm, h4.trans k4.symm⟩
  · rename_i hc
    rw [if_neg hc] at k
    obtain ⟨h1, h2, h3, h4⟩ := h
    obtain ⟨k1, k2, k3, k4⟩ := k
    exact ⟨h1.trans k1.symm, h2.trans k2.symm, h3.trans k3.symm, h4.trans k4.symm⟩
theorem one_shift {n : Nat} {v wt : Nat → Nat} {l r k z : Int} {n2 : Nat} {v2 w2 : Nat → Nat} {z' : Int} {n2' : Nat} {v2' : Nat → Nat} {w2' : Nat → Nat} (h : Sp_shift n v wt l r k z n2 v2 w2) (k : Sp_shift n v wt l r k z' n2' v2' w2') : z = z' ∧ n2 = n2' ∧ v2 = v2' ∧ w2 = w2' := by
  unfold Sp_shift at h k
  split at h
  · rename_i hc
    rw [if_pos hc] at k
    obtain ⟨h1, h2, h3, h4⟩ := h
    obtain ⟨k1, k2, k3, k4⟩ := k
    rw [h3] at h1
    rw [k3] at k1
    exact ⟨h1.trans k1.symm, h2.trans k2.symm, h3.trans k3.symm, h4.trans k4.symm⟩
  · rename_i hc
    rw [if_neg hc] at k
    obtain ⟨h1, h2, h3, h4⟩ := h
    obtain ⟨k1, k2, k3, k4⟩ := k
    exact ⟨h1.trans k1.symm, h2.trans k2.symm, h3.trans k3.symm, h4.trans k4.symm⟩
theorem one_replace {n : Nat} {v wt : Nat → Nat} {x y z : Int} {n2 : Nat} {v2 w2 : Nat → Nat} {z' : Int} {n2' : Nat} {v2' : Nat → Nat} {w2' : Nat → Nat} (h : Sp_replace n v wt x y z n2 v2 w2) (k : Sp_replace n v wt x y z' n2' v2' w2') : z = z' ∧ n2 = n2' ∧ v2 = v2' ∧ w2 = w2' := by
  unfold Sp_replace at h k
  split at h
  · rename_i hc
    rw [if_pos hc] at k
    obtain ⟨h1, h2, h3, h4⟩ := h
    obtain ⟨k1, k2, k3, k4⟩ := k
    rw [h3] at h1
    rw [k3] at k1
    exact ⟨h1.trans k1.symm, h2.trans k2.symm, h3.trans k3.symm, h4.trans k4.symm⟩
  · rename_i hc
    rw [if_neg hc] at k
    obtain ⟨h1, h2, h3, h4⟩ := h
    obtain ⟨k1, k2, k3, k4⟩ := k
    exact ⟨h1.trans k1.symm, h2.trans k2.symm, h3.trans k3.symm, h4.trans k4.symm⟩
theorem one_sort {n : Nat} {v wt : Nat → Nat} {l r up z : Int} {n2 : Nat} {v2 w2 : Nat → Nat} {z' : Int} {n2' : Nat} {v2' : Nat → Nat} {w2' : Nat → Nat} (h : Sp_sort n v wt l r up z n2 v2 w2) (k : Sp_sort n v wt l r up z' n2' v2' w2') : z = z' ∧ n2 = n2' ∧ v2 = v2' ∧ w2 = w2' := by
  unfold Sp_sort at h k
  split at h
  · rename_i hc
    rw [if_pos hc] at k
    obtain ⟨h1, h2, h3, h4⟩ := h
    obtain ⟨k1, k2, k3, k4⟩ := k
    rw [h3] at h1
    rw [k3] at k1
    exact ⟨h1.trans k1.symm, h2.trans k2.symm, h3.trans k3.symm, h4.trans k4.symm⟩
  · rename_i hc
    rw [if_neg hc] at k
    obtain ⟨h1, h2, h3, h4⟩ := h
    obtain ⟨k1, k2, k3, k4⟩ := k
    exact ⟨h1.trans k1.symm, h2.trans k2.symm, h3.trans k3.symm, h4.trans k4.symm⟩
theorem one_set {n : Nat} {v wt : Nat → Nat} {p x z : Int} {n2 : Nat} {v2 w2 : Nat → Nat} {z' : Int} {n2' : Nat} {v2' : Nat → Nat} {w2' : Nat → Nat} (h : Sp_set n v wt p x z n2 v2 w2) (k : Sp_set n v wt p x z' n2' v2' w2') : z = z' ∧ n2 = n2' ∧ v2 = v2' ∧ w2 = w2' := by
  unfold Sp_set at h k
  split at h
  · rename_i hc
    rw [if_pos hc] at k
    obtain ⟨h1, h2, h3, h4⟩ := h
    obtain ⟨k1, k2, k3, k4⟩ := k
    exact ⟨h1.trans k1.symm, h2.trans k2.symm, h3.trans k3.symm, h4.trans k4.symm⟩
  · rename_i hc
    rw [if_neg hc] at k
    obtain ⟨h1, h2, h3, h4⟩ := h
    obtain ⟨k1, k2, k3, k4⟩ := k
    exact ⟨h1.trans k1.symm, h2.trans k2.symm, h3.trans k3.symm, h4.trans k4.symm⟩
theorem one_weigh {n : Nat} {v wt : Nat → Nat} {p x z : Int} {n2 : Nat} {v2 w2 : Nat → Nat} {z' : Int} {n2' : Nat} {v2' : Nat → Nat} {w2' : Nat → Nat} (h : Sp_weigh n v wt p x z n2 v2 w2) (k : Sp_weigh n v wt p x z' n2' v2' w2') : z = z' ∧ n2 = n2' ∧ v2 = v2' ∧ w2 = w2' := by
  unfold Sp_weigh at h k
  split at h
  · rename_i hc
    rw [if_pos hc] at k
    obtain ⟨h1, h2, h3, h4⟩ := h
    obtain ⟨k1, k2, k3, k4⟩ := k
    exact ⟨h1.trans k1.symm, h2.trans k2.symm, h3.trans k3.symm, h4.trans k4.symm⟩
  · rename_i hc
    rw [if_neg hc] at k
    obtain ⟨h1, h2, h3, h4⟩ := h
    obtain ⟨k1, k2, k3, k4⟩ := k
    exact ⟨h1.trans k1.symm, h2.trans k2.symm, h3.trans k3.symm, h4.trans k4.symm⟩
theorem one_insert {n : Nat} {v wt : Nat → Nat} {p x z : Int} {n2 : Nat} {v2 w2 : Nat → Nat} {z' : Int} {n2' : Nat} {v2' : Nat → Nat} {w2' : Nat → Nat} (h : Sp_insert n v wt p x z n2 v2 w2) (k : Sp_insert n v wt p x z' n2' v2' w2') : z = z' ∧ n2 = n2' ∧ v2 = v2' ∧ w2 = w2' := by
  unfold Sp_insert at h k
  split at h
  · rename_i hc
    rw [if_pos hc] at k
    obtain ⟨h1, h2, h3, h4⟩ := h
    obtain ⟨k1, k2, k3, k4⟩ := k
    exact ⟨h1.trans k1.symm, h2.trans k2.symm, h3.trans k3.symm, h4.trans k4.symm⟩
  · rename_i hc
    rw [if_neg hc] at k
    obtain ⟨h1, h2, h3, h4⟩ := h
    obtain ⟨k1, k2, k3, k4⟩ := k
    exact ⟨h1.trans k1.symm, h2.trans k2.symm, h3.trans k3.symm, h4.trans k4.symm⟩
theorem one_remove {n : Nat} {v wt : Nat → Nat} {p z : Int} {n2 : Nat} {v2 w2 : Nat → Nat} {z' : Int} {n2' : Nat} {v2' : Nat → Nat} {w2' : Nat → Nat} (h : Sp_remove n v wt p z n2 v2 w2) (k : Sp_remove n v wt p z' n2' v2' w2') : z = z' ∧ n2 = n2' ∧ v2 = v2' ∧ w2 = w2' := by
  unfold Sp_remove at h k
  split at h
  · rename_i hc
    rw [if_pos hc] at k
    obtain ⟨h1, h2, h3, h4⟩ := h
    obtain ⟨k1, k2, k3, k4⟩ := k
    exact ⟨h1.trans k1.symm, h2.trans k2.symm, h3.trans k3.symm, h4.trans k4.symm⟩
  · rename_i hc
    rw [if_neg hc] at k
    obtain ⟨h1, h2, h3, h4⟩ := h
    obtain ⟨k1, k2, k3, k4⟩ := k
    exact ⟨h1.trans k1.symm, h2.trans k2.symm, h3.trans k3.symm, h4.trans k4.symm⟩
theorem one_swap {n : Nat} {v wt : Nat → Nat} {p q z : Int} {n2 : Nat} {v2 w2 : Nat → Nat} {z' : Int} {n2' : Nat} {v2' : Nat → Nat} {w2' : Nat → Nat} (h : Sp_swap n v wt p q z n2 v2 w2) (k : Sp_swap n v wt p q z' n2' v2' w2') : z = z' ∧ n2 = n2' ∧ v2 = v2' ∧ w2 = w2' := by
  unfold Sp_swap at h k
  split at h
  · rename_i hc
    rw [if_pos hc] at k
    obtain ⟨h1, h2, h3, h4⟩ := h
    obtain ⟨k1, k2, k3, k4⟩ := k
    exact ⟨h1.trans k1.symm, h2.trans k2.symm, h3.trans k3.symm, h4.trans k4.symm⟩
  · rename_i hc
    rw [if_neg hc] at k
    obtain ⟨h1, h2, h3, h4⟩ := h
    obtain ⟨k1, k2, k3, k4⟩ := k
    exact ⟨h1.trans k1.symm, h2.trans k2.symm, h3.trans k3.symm, h4.trans k4.symm⟩
theorem one_undo {n : Nat} {v wt : Nat → Nat} {b un : Nat} {hm : Nat → Nat} {hv hw : Nat → Nat → Nat} {fr z : Int} {n2 : Nat} {v2 w2 : Nat → Nat} {un2 : Nat} {fr2 : Int} {z' : Int} {n2' : Nat} {v2' : Nat → Nat} {w2' : Nat → Nat} {un2' : Nat} {fr2' : Int} (h : Sp_undo n v wt b un hm hv hw fr z n2 v2 w2 un2 fr2) (k : Sp_undo n v wt b un hm hv hw fr z' n2' v2' w2' un2' fr2') : z = z' ∧ n2 = n2' ∧ v2 = v2' ∧ w2 = w2' ∧ un2 = un2' ∧ fr2 = fr2' := by
  unfold Sp_undo at h k
  split at h
  · rename_i hc
    rw [if_pos hc] at k
    obtain ⟨h1, h2, h3, h4, h5, h6⟩ := h
    obtain ⟨k1, k2, k3, k4, k5, k6⟩ := k
    exact ⟨h1.trans k1.symm, h2.trans k2.symm, h3.trans k3.symm, h4.trans k4.symm, h5.trans k5.symm, h6.trans k6.symm⟩
  · rename_i hc
    rw [if_neg hc] at k
    obtain ⟨h1, h2, h3, h4, h5, h6⟩ := h
    obtain ⟨k1, k2, k3, k4, k5, k6⟩ := k
    exact ⟨h1.trans k1.symm, h2.trans k2.symm, h3.trans k3.symm, h4.trans k4.symm, h5.trans k5.symm, h6.trans k6.symm⟩
theorem one_feed {t : Nat → Nat} {tp : Nat} {a b c d e : Int} {r : Int} {tp2 : Nat} {t2 : Nat → Nat} {r' : Int} {tp2' : Nat} {t2' : Nat → Nat} (h : Sp_feed t tp a b c d e r tp2 t2) (k : Sp_feed t tp a b c d e r' tp2' t2') : r = r' ∧ tp2 = tp2' ∧ t2 = t2' := by
  unfold Sp_feed at h k
  split at h
  · rename_i hc
    rw [if_pos hc] at k
    exact ⟨h.1.trans k.1.symm, h.2.1.trans k.2.1.symm, h.2.2.trans k.2.2.symm⟩
  · rename_i hc
    rw [if_neg hc] at k
    exact ⟨h.1.trans k.1.symm, h.2.1.trans k.2.1.symm, h.2.2.trans k.2.2.symm⟩
theorem one_place {n : Nat} {v wt : Nat → Nat} {b : Nat} {p q th z : Int} {th' : Int} {z' : Int} (h : Sp_place n v wt b p q th z) (k : Sp_place n v wt b p q th' z') : th = th' ∧ z = z' := by
  unfold Sp_place at h k
  split at h
  · rename_i hc
    rw [if_pos hc] at k
    split at h
    · rename_i hd
      rw [if_pos hd] at k
      exact ⟨h.1.trans k.1.symm, h.2.trans k.2.symm⟩
    · rename_i hd
      rw [if_neg hd] at k
      exact ⟨h.1.trans k.1.symm, h.2.trans k.2.symm⟩
  · rename_i hc
    rw [if_neg hc] at k
    exact ⟨h.1.trans k.1.symm, h.2.trans k.2.symm⟩
theorem one_text {t : Nat → Nat} {tp : Nat} {q : Int} {n : Nat} {v w : Nat → Nat} {b ti : Nat} {ln : Int} {un : Nat} {fr fa fp : Int} {r_ : Int} {n2 : Nat} {v2 w2 : Nat → Nat} {b2 ti2 : Nat} {ln2 : Int} {un2 : Nat} {fr2 fa2 fp2 : Int} {tp2 : Nat} {r_' : Int} {n2' : Nat} {v2' : Nat → Nat} {w2' : Nat → Nat} {b2' : Nat} {ti2' : Nat} {ln2' : Int} {un2' : Nat} {fr2' : Int} {fa2' : Int} {fp2' : Int} {tp2' : Nat} (h : Sp_text t tp q n v w b ti ln un fr fa fp r_ n2 v2 w2 b2 ti2 ln2 un2 fr2 fa2 fp2 tp2) (k : Sp_text t tp q n v w b ti ln un fr fa fp r_' n2' v2' w2' b2' ti2' ln2' un2' fr2' fa2' fp2' tp2') : r_ = r_' ∧ n2 = n2' ∧ v2 = v2' ∧ w2 = w2' ∧ b2 = b2' ∧ ti2 = ti2' ∧ ln2 = ln2' ∧ un2 = un2' ∧ fr2 = fr2' ∧ fa2 = fa2' ∧ fp2 = fp2' ∧ tp2 = tp2' := by
  rcases h with ⟨c, h1, h2, h3, h4, h5, h6, h7, h8, h9, h10, h11, h12⟩ | ⟨c, h12, h⟩ <;> rcases k with ⟨d, k1, k2, k3, k4, k5, k6, k7, k8, k9, k10, k11, k12⟩ | ⟨d, k12, k⟩
  · exact ⟨h1.trans k1.symm, h2.trans k2.symm, h3.trans k3.symm, h4.trans k4.symm, h5.trans k5.symm, h6.trans k6.symm, h7.trans k7.symm, h8.trans k8.symm, h9.trans k9.symm, h10.trans k10.symm, h11.trans k11.symm, h12.trans k12.symm⟩
  · exact absurd d c
  · exact absurd c d
  · rcases h with ⟨a, p, hx, h1, h2, h3, h4, h5, h6, h7, h8, h9, h10, h11⟩ | ⟨m, u, x, bl, tx, l, hx, h1, h2, h3, h4, h5, h6, h7, h8, h9, h10, h11⟩ <;> rcases k with ⟨a', p', kx, k1, k2, k3, k4, k5, k6, k7, k8, k9, k10, k11⟩ | ⟨m', u', x', bl', tx', l', kx, k1, k2, k3, k4, k5, k6, k7, k8, k9, k10, k11⟩
    · cases TXT_u hx kx
      exact ⟨h1.trans k1.symm, h2.trans k2.symm, h3.trans k3.symm, h4.trans k4.symm, h5.trans k5.symm, h6.trans k6.symm, h7.trans k7.symm, h8.trans k8.symm, h9.trans k9.symm, h10.trans k10.symm, h11.trans k11.symm, h12.trans k12.symm⟩
    · cases TXT_u hx kx
    · cases TXT_u hx kx
    · cases TXT_u hx kx
      exact ⟨h1.trans k1.symm, h2.trans k2.symm, h3.trans k3.symm, h4.trans k4.symm, h5.trans k5.symm, h6.trans k6.symm, h7.trans k7.symm, h8.trans k8.symm, h9.trans k9.symm, h10.trans k10.symm, h11.trans k11.symm, h12.trans k12.symm⟩
