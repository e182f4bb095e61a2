/-! plainMode: the best of the places by which their values are ranked -/
set_option maxRecDepth 100000
def rep (w : Nat → Nat) (l r t p : Nat) : Prop := if t = 1 then p = lsP w (w p) r else p = fsP w l (w p) r
def PMo (w : Nat → Nat) (l r t p : Nat) (be : Int) (mo : Nat) : Prop :=
  (be = -1 ∧ ∀ q, l ≤ q → q < p → w q < 1000 → ¬ rep w l r t q) ∨
  ∃ b : Nat, be = (b : Int) ∧ l ≤ b ∧ b < p ∧ w b < 1000 ∧ rep w l r t b ∧ mo = cnt w l r (w b) ∧ ∀ q, l ≤ q → q < p → w q < 1000 → rep w l r t q → q ≠ b → ahd w l r t (w b) (w q)
theorem rep_inj {w : Nat → Nat} {l r t p q : Nat} (hp : rep w l r t p) (hq : rep w l r t q) (h : w p = w q) : p = q := by
  unfold rep at hp hq
  by_cases e : t = 1
  · rw [if_pos e] at hp hq; rw [hp, hq, h]
  · rw [if_neg e] at hp hq; rw [hp, hq, h]
theorem rep_iff {w : Nat → Nat} {l r t p : Nat} (h1 : l ≤ p) (h2 : p < r) : rep w l r t p ↔ (if t = 1 then (cnt w l p (w p) : Int) = (cnt w l r (w p) : Int) - 1 else cnt w l p (w p) = 0) := by
  have e := cnt_succ w (w p) h1
  rw [if_pos rfl] at e
  have e2 := cnt_split (v := w) (x := w p) (show l ≤ p + 1 by omega) (show p + 1 ≤ r from h2)
  unfold rep
  by_cases t1 : t = 1
  · rw [if_pos t1, if_pos t1]
    have hs := lsP_spec (cnt_in (v := w) h1 h2)
    constructor
    · intro h
      by_cases q : 0 < cnt w (p + 1) r (w p)
      · obtain ⟨z, z1, z2, z3⟩ := cnt_pos.mp q
        exact absurd z3 (hs.2.2.2 z (by omega) z2)
      · omega
    · intro h
      by_cases q : lsP w (w p) r = p
      · exact q.symm
      · have : p < lsP w (w p) r := by
          by_cases q2 : lsP w (w p) r < p
          · exact absurd rfl (hs.2.2.2 p q2 h2)
          · omega
        have : 0 < cnt w (p + 1) r (w p) := cnt_pos.mpr ⟨_, this, hs.2.1, hs.2.2.1⟩
        omega
  · rw [if_neg t1, if_neg t1]
    have hs := fsP_spec (cnt_in (v := w) h1 h2)
    constructor
    · intro h
      by_cases q : 0 < cnt w l p (w p)
      · obtain ⟨z, z1, z2, z3⟩ := cnt_pos.mp q
        exact absurd z3 (hs.2.2.2 z z1 (by omega))
      · omega
    · intro h
      by_cases q : fsP w l (w p) r = p
      · exact q.symm
      · have : fsP w l (w p) r < p := by
          by_cases q2 : p < fsP w l (w p) r
          · exact absurd rfl (hs.2.2.2 p h1 q2)
          · omega
        have : 0 < cnt w l p (w p) := cnt_pos.mpr ⟨_, hs.1, this, hs.2.2.1⟩
        omega
theorem pmo_0 {w : Nat → Nat} {l r t mo : Nat} : PMo w l r t l (-1) mo := Or.inl ⟨rfl, fun q h1 h2 => by omega⟩
theorem pmo_skip {w : Nat → Nat} {l r t p mo : Nat} {be : Int} (h : PMo w l r t p be mo) (hp : w p < 1000 → ¬ rep w l r t p) : PMo w l r t (p + 1) be mo := by
  rcases h with ⟨h1, h2⟩ | ⟨b, h1, h2, h3, h4, h5, h6, h7⟩
  · refine Or.inl ⟨h1, fun q q1 q2 q3 => ?_⟩
    by_cases e : q = p
    · subst e; exact hp q3
    · exact h2 q q1 (by omega) q3
  · refine Or.inr ⟨b, h1, h2, by omega, h4, h5, h6, fun q q1 q2 q3 q4 q5 => ?_⟩
    by_cases e : q = p
    · subst e; exact absurd q4 (hp q3)
    · exact h7 q q1 (by omega) q3 q4 q5
theorem pmo_new {w : Nat → Nat} {l r t p mo : Nat} (h : PMo w l r t p (-1) mo) (h1 : l ≤ p) (hw : w p < 1000) (hr : rep w l r t p) : PMo w l r t (p + 1) (p : Int) (cnt w l r (w p)) := by
  rcases h with ⟨_, h2⟩ | ⟨b, hb, _⟩
  · refine Or.inr ⟨p, rfl, h1, by omega, hw, hr, rfl, fun q q1 q2 q3 q4 q5 => ?_⟩
    exact absurd q4 (h2 q q1 (by omega) q3)
  · omega
theorem pmo_get {w : Nat → Nat} {l r t p mo : Nat} {be : Int} (h : PMo w l r t p be mo) (hb : ¬ be = -1) : ∃ b : Nat, be = (b : Int) ∧ (l ≤ b ∧ b < p ∧ w b < 1000 ∧ mo = cnt w l r (w b)) ∧ rep w l r t b ∧ ∀ q, l ≤ q → q < p → w q < 1000 → rep w l r t q → q ≠ b → ahd w l r t (w b) (w q) := by
  rcases h with ⟨h1, _⟩ | ⟨b, h1, h2, h3, h4, h5, h6, h7⟩
  · exact absurd h1 hb
  · exact ⟨b, h1, ⟨h2, h3, h4, h6⟩, h5, h7⟩
def PMb (w : Nat → Nat) (l r t p b : Nat) : Prop := rep w l r t b ∧ ∀ q, l ≤ q → q < p → w q < 1000 → rep w l r t q → q ≠ b → ahd w l r t (w b) (w q)
theorem pmo_win {w : Nat → Nat} {l r t p b : Nat} (h : PMb w l r t p b) (h1 : l ≤ p) (hw : w p < 1000) (hr : rep w l r t p) (ha : ahd w l r t (w p) (w b)) : PMo w l r t (p + 1) (p : Int) (cnt w l r (w p)) := by
  refine Or.inr ⟨p, rfl, h1, by omega, hw, hr, rfl, fun q q1 q2 q3 q4 q5 => ?_⟩
  by_cases e : q = b
  · subst e; exact ha
  · exact ahd_trans ha (h.2 q q1 (by omega) q3 q4 e)
theorem pmo_lose {w : Nat → Nat} {l r t p b mo : Nat} (h : PMb w l r t p b) (hb : l ≤ b ∧ b < p ∧ w b < 1000 ∧ mo = cnt w l r (w b)) (ha : ahd w l r t (w b) (w p)) : PMo w l r t (p + 1) (b : Int) mo := by
  refine Or.inr ⟨b, rfl, hb.1, by omega, hb.2.2.1, h.1, hb.2.2.2, fun q q1 q2 q3 q4 q5 => ?_⟩
  by_cases e : q = p
  · subst e; exact ha
  · exact h.2 q q1 (by omega) q3 q4 q5
/-- the test of ties by places -/
def ttA (t : Nat) (x y i j : Int) : Prop := if t = 0 then i < j else if t = 1 then j < i else if t = 2 then x < y else y < x
theorem tt_iff {w : Nat → Nat} {l r t p b : Nat} (hp : rep w l r t p) (hb : rep w l r t b) : ttA t (w p : Int) (w b : Int) (p : Int) (b : Int) ↔ tieA w l r t (w p) (w b) := by
  unfold ttA tieA
  unfold rep at hp hb
  by_cases t0 : t = 0
  · rw [if_pos t0, if_pos t0, if_neg (by omega)] at *
    rw [← hp, ← hb]; omega
  · by_cases t1 : t = 1
    · simp only [t1, if_true] at hp hb ⊢
      simp only [show ¬ (1 : Nat) = 0 by decide, if_false]
      rw [← hp, ← hb]; omega
    · rw [if_neg t0, if_neg t0, if_neg t1, if_neg t1]
      split <;> omega
theorem pmo_tie {w : Nat → Nat} {l r t p b : Nat} (hp : rep w l r t p) (hb : rep w l r t b) (h1 : l ≤ p) (h2 : p < r) (h3 : l ≤ b) (h4 : b < p) (hc : cnt w l r (w p) = cnt w l r (w b)) (hn : ¬ ttA t (w p : Int) (w b : Int) (p : Int) (b : Int)) : ahd w l r t (w b) (w p) := by
  refine Or.inr ⟨by omega, ?_⟩
  have hne : w p ≠ w b := fun e => by have := rep_inj hp hb e; omega
  rcases tieA_tot (t := t) (cnt_in (v := w) h1 h2) (cnt_in (v := w) h3 (show b < r by omega)) hne with q | q
  · exact absurd ((tt_iff hp hb).mpr q) hn
  · exact q
theorem rep_ex {w : Nat → Nat} {l r t x : Nat} (h : 0 < cnt w l r x) : ∃ p, l ≤ p ∧ p < r ∧ w p = x ∧ rep w l r t p := by
  by_cases t1 : t = 1
  · obtain ⟨g1, g2, g3, g4⟩ := lsP_spec h
    exact ⟨_, g1, g2, g3, by unfold rep; rw [if_pos t1, g3]⟩
  · obtain ⟨g1, g2, g3, g4⟩ := fsP_spec h
    exact ⟨_, g1, g2, g3, by unfold rep; rw [if_neg t1, g3]⟩
theorem pmo_end {w : Nat → Nat} {l r t b : Nat} (hb : l ≤ b ∧ b < r ∧ w b < 1000) (h : PMb w l r t r b) : w b = md w l r t := by
  refine md_uniq hb.2.2 (cnt_in (v := w) hb.1 hb.2.1) (fun y hy py hne => ?_)
  obtain ⟨p, p1, p2, p3, p4⟩ := rep_ex (t := t) py
  have := h.2 p p1 p2 (by omega) p4 (fun e => hne (by rw [← p3, e]))
  rw [p3] at this
  exact this
theorem pmo_none {w : Nat → Nat} {l r t mo : Nat} (h : PMo w l r t r (-1) mo) : ∀ q, l ≤ q → q < r → 1000 ≤ w q := by
  intro q h1 h2
  rcases h with ⟨_, h3⟩ | ⟨b, hb, _⟩
  · by_cases e : w q < 1000
    · obtain ⟨p, p1, p2, p3, p4⟩ := rep_ex (t := t) (cnt_in (v := w) h1 h2)
      exact absurd p4 (h3 p p1 p2 (by omega))
    · omega
  · omega
def wRow (G : zG) (ro rv rw : Nat) (rm : Int) (fv : Nat → Int) : va_W := [(ro, .inr (2, [.ref rv, .ref rw, .int (iZ rm)])), (rv, .inl (G.2 0, 120, .inl (zA fv)))]
theorem pmc_t {w : Nat → Nat} {l q c x : Nat} (h : c = cnt w l q x) (hl : l ≤ q) (e : w q = x) : c + 1 = cnt w l (q + 1) x := by rw [cnt_succ w x hl, if_pos e, h]
theorem pmc_f {w : Nat → Nat} {l q c x : Nat} (h : c = cnt w l q x) (hl : l ≤ q) (e : ¬ w q = x) : c = cnt w l (q + 1) x := by rw [cnt_succ w x hl, if_neg e, h]; rfl
theorem pma_t {w : Nat → Nat} {l q a p x : Nat} (h : a = cnt w l (min q p) x) (hl : l ≤ q) (hq : q < p) (e : w q = x) : a + 1 = cnt w l (min (q + 1) p) x := by
  rw [show min (q + 1) p = q + 1 by omega]
  rw [show min q p = q by omega] at h
  exact pmc_t h hl e
theorem pma_p {w : Nat → Nat} {l q a p x : Nat} (h : a = cnt w l (min q p) x) (hq : p ≤ q) : a = cnt w l (min (q + 1) p) x := by
  rw [show min (q + 1) p = p by omega]
  rw [show min q p = p by omega] at h
  exact h
theorem pma_f {w : Nat → Nat} {l q a p x : Nat} (h : a = cnt w l (min q p) x) (hl : l ≤ q) (e : ¬ w q = x) : a = cnt w l (min (q + 1) p) x := by
  by_cases hq : q < p
  · rw [show min (q + 1) p = q + 1 by omega]
    rw [show min q p = q by omega] at h
    exact pmc_f h hl e
  · exact pma_p h (by omega)
theorem pma_e {w : Nat → Nat} {l q a p r x : Nat} (h : a = cnt w l (min q p) x) (hq : q = r) (hp : p < r) : a = cnt w l p x := by
  rw [show min q p = p by omega] at h
  exact h
theorem pmo_new2 {w : Nat → Nat} {l r t p mo : Nat} {be : Int} (h : PMo w l r t p be mo) (e : be = -1) (h1 : l ≤ p) (hw : w p < 1000) (hr : rep w l r t p) : PMo w l r t (p + 1) (p : Int) (cnt w l r (w p)) := by
  subst e
  exact pmo_new h h1 hw hr
theorem pmo_none2 {w : Nat → Nat} {l r t mo : Nat} {be : Int} (h : PMo w l r t r be mo) (e : be = -1) : ∀ q, l ≤ q → q < r → 1000 ≤ w q := by
  subst e
  exact pmo_none h
theorem lk_s {i : Nat} {v v2 w w2 : Nat → Nat} (h : ∀ j, j < i → v j = v2 j ∧ w j = w2 j) (h1 : v i = v2 i) (h2 : w i = w2 i) : ∀ j, j < i + 1 → v j = v2 j ∧ w j = w2 j := by
  intro j hj
  by_cases e : j = i
  · subst e; exact ⟨h1, h2⟩
  · exact h j (by omega)
def sb (u : Nat) : Int := if u < 128 then (u : Int) else (u : Int) - 256
theorem sb_and {u : Nat} (h : u < 256) : zand (sb u) 255 = (u : Int) := by
  have h1 : (iZ (sb u) &&& iZ 255) = nI ((iZ (sb u)).toBitVec.toNat % 2 ^ 8) := pk_and _ 8 (by decide)
  have hr : -128 ≤ sb u ∧ sb u < 128 ∧ sb u % 256 = (u : Int) := by unfold sb; split <;> omega
  unfold zand
  rw [h1, ← iZ_nI, bv256, iZ_toInt (show -2147483648 ≤ sb u ∧ sb u < 2147483648 by omega), iZ_toInt (by omega)]
  exact hr.2.2
def hereZ (t : Nat → Nat) (n k : Nat) : Int := if k < n then (t k : Int) else -1
def wRd (rd rr dk : Nat) (g : Nat → Int) (wd : Value) : va_W := [(rd, .inr (7, [.int (iZ (g 0)), .ref rr, .int (iZ (g 2)), .int (iZ (g 3)), .int (iZ (g 4)), .int (iZ (g 5)), .int (iZ (g 6)), .int (iZ (g 7)), .int (iZ (g 8)), .int (iZ (g 9)), .int (iZ (g 10)), wd, .ref dk]))]
theorem hereZ_1 {t : Nat → Nat} {n k : Nat} (h : k < n) : (t k : Int) = hereZ t n k := (if_pos h).symm
theorem hereZ_2 {t : Nat → Nat} {n k : Nat} (h : ¬ k < n) : -1 = hereZ t n k := (if_neg h).symm
theorem hereZ_r {t : Nat → Nat} {n k : Nat} (h : ∀ i, i < n → t i < 256) : -1 ≤ hereZ t n k ∧ hereZ t n k < 256 := by
  unfold hereZ
  split
  · rename_i q; have := h k q; omega
  · omega
section ZSN
variable {pg : Program} {l : Launch} {ev : Env} {R : Room} {s0 s : State} {m : MethodId} {ar : Array Value} {bl : List Frame} {me : Method} {c : Code} {H : Heap} {locs : List Loc} {ce sl : Nat} {G : zG} {cc : ByteArray} {nL : Nat} {own : String} {ret : Option FieldType} {ls : Array Slot} {st : List Value} {as0 : List Nat}
theorem zp_runSN (C : zC pg s0 s m ar me c G cc nL own ret) (hS : va_S (zB s0 s.heap.size as0) s.heap H locs) (hlz : ls.size = nL) {wc : va_W} (hP : va_P G.1 vwCl wc H) {S : Type} {y : MethodName} {code' : ByteArray} {nL' fr lo idx pc : Nat} {ret' : Option FieldType} {host : String} (n : Nat) {As rest : List Value} {res : S → Option Value} {P : S → Prop} (hM : zPur l y code' nL' ret' fr lo s0 G As wc res P)
    (hG : GoodIn lw_all (ws_ y code' nL' ret')) (hl : Cond.methodLinkNest own idx y host ∈ lw_tbl) (hx : Cond.static y ∈ lw_all ∧ Cond.initialized y.cls ∈ lw_all) (hd : y.cls ≠ "java/lang/invoke/MethodHandle" ∧ y.cls ≠ "java/lang/invoke/VarHandle" ∧ (parseMethodDescriptor y.desc).map (fun d => d.parameters.length) = some n) (hn : As.length = n) (hst : st = As.reverse ++ rest) (hW : (rest.map fun v => v.category).sum ≤ 8) (hR : fr + 1 ≤ R.frames ∧ 8 + (nL' + 11) + lo ≤ R.locals) (hf : ce + 0 ≤ R.cells ∧ sl + 0 ≤ R.slots) (hdg : decode cc pc = .ok (.invokestatic idx, 3)) :
    va_Run pg l ev R s m ar bl me c H locs ce sl 0 0 (F0 m pc ls st) rest (zPq res P As.toArray) zNo :=
  va_runSN (As := As) (rest := rest) C.1 hM ⟨va_cnB n C.1.2.2.2.2 hG rfl rfl rfl (zNwM C.2.2.2.1 C.2.2.2.2.1 hl) (C.1.2.2.2.2 _ hx.2) hd hR, C.1.2.2.2.2 _ hx.1, trivial⟩ ⟨zPp_blind, zp_pre C hS hP _⟩ rfl hn hlz hst (lv_room (pc := pc) (ls := ls) (rest := st) hW) hdg hf
end ZSN
