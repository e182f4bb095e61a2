/-! the desk's pictures: a list of places, and what it says of the row -/
set_option maxRecDepth 100000
def wPl (G : zG) (p pa x : Nat) (f : Nat → Nat) : va_W := [(p, .inr (9, [.ref pa, .int (iZ (x : Int))])), (pa, .inl (G.2 0, 120, .inl (zA (nA f))))]
/-- the list f of m places is that of the places of x in a row v of n -/
def PlC (n : Nat) (v : Nat → Nat) (x m : Nat) (f : Nat → Nat) : Prop := m = cnt v 0 n x ∧ ∀ j, j < m → f j < n ∧ v (f j) = x ∧ cnt v 0 (f j) x = j
def plq (q : Int) (n : Nat) : Nat := min q.toNat n
theorem zbool2 {r : Int} (h : r = 0 ∨ r = 1) : narrow .boolean (.int (iZ r)) = .int (iZ r) := by rcases h with rfl | rfl <;> rfl
theorem zp_nil {D : va_G} {cl : List vw_C} {H : Heap} : va_P D cl [] H := fun k q h => by simp at h
theorem zS0 {s0 s : State} : va_S (zB s0 s.heap.size []) s.heap s.heap [] := va_S.rf
theorem cnt_mono {v : Nat → Nat} {a b c x : Nat} (h : b ≤ c) : cnt v a b x ≤ cnt v a c x := by
  by_cases hab : a ≤ b
  · rw [cnt_split (v := v) (x := x) hab h]; omega
  · rw [cnt_0 v (by omega)]; omega
theorem cnt_at {v : Nat → Nat} {p x : Nat} (h : v p = x) : cnt v 0 (p + 1) x = cnt v 0 p x + 1 := by
  rw [cnt_succ v x (Nat.zero_le p), if_pos h]
theorem qlc_n {n : Nat} {v : Nat → Nat} {x m : Nat} {f : Nat → Nat} (h : PlC n v x m f) (hn : n ≤ 120) : m ≤ n ∧ m ≤ 120 := by
  have h1 := h.1
  have h2 := cnt_le v 0 n x
  omega
theorem qlc_f {n : Nat} {v : Nat → Nat} {x m j : Nat} {f : Nat → Nat} (h : PlC n v x m f) (hn : n ≤ 120) (hj : j < m) : f j < n ∧ f j < 120 := by
  have h1 := (h.2 j hj).1
  omega
theorem qlc_mono {n : Nat} {v : Nat → Nat} {x m i j : Nat} {f : Nat → Nat} (h : PlC n v x m f) (hj : j < m) (hij : i ≤ j) : f i ≤ f j := by
  obtain ⟨a1, a2, a3⟩ := h.2 i (by omega)
  obtain ⟨b1, b2, b3⟩ := h.2 j hj
  by_cases q : f j < f i
  · have h1 := cnt_at b2
    have h2 := cnt_mono (v := v) (a := 0) (x := x) (show f j + 1 ≤ f i from q)
    omega
  · omega
theorem qlc_lo {n : Nat} {v : Nat → Nat} {x m k : Nat} {f : Nat → Nat} {q : Int} (h : PlC n v x m f) (hk : k < m) (hq : (f k : Int) < q) : ∀ j, j < k + 1 → (f j : Int) < q := by
  intro j hj
  have := qlc_mono h hk (show j ≤ k by omega)
  omega
theorem qlc_hi {n : Nat} {v : Nat → Nat} {x m k : Nat} {f : Nat → Nat} {q : Int} (h : PlC n v x m f) (hk : k < m) (hq : q ≤ (f k : Int)) : ∀ j, k ≤ j → j < m → q ≤ (f j : Int) := by
  intro j hj hm
  have := qlc_mono h hm hj
  omega
theorem qlc_end {n : Nat} {v : Nat → Nat} {x m lo hi : Nat} {f : Nat → Nat} {q : Int} (h : PlC n v x m f) (hn : n ≤ 120) (hh : hi ≤ lo) (hm : lo ≤ m) (il : ∀ j, j < lo → (f j : Int) < q) (ih : ∀ j, hi ≤ j → j < m → q ≤ (f j : Int)) : (lo : Int) = ((cnt v 0 (plq q n) x : Nat) : Int) := by
  have e : lo = cnt v 0 (plq q n) x := by
    apply Nat.le_antisymm
    · by_cases h0 : lo = 0
      · omega
      · obtain ⟨a1, a2, a3⟩ := h.2 (lo - 1) (by omega)
        have h1 := il (lo - 1) (by omega)
        have h2 := cnt_at a2
        have h3 := cnt_mono (v := v) (a := 0) (x := x) (show f (lo - 1) + 1 ≤ plq q n by unfold plq; omega)
        omega
    · by_cases h0 : lo < m
      · obtain ⟨a1, a2, a3⟩ := h.2 lo h0
        have h1 := ih lo hh h0
        have h3 := cnt_mono (v := v) (a := 0) (x := x) (show plq q n ≤ f lo by unfold plq; omega)
        omega
      · have h1 := h.1
        have h3 := cnt_mono (v := v) (a := 0) (x := x) (show plq q n ≤ n by unfold plq; omega)
        omega
  exact congrArg Int.ofNat e
-- longs
def cmpZ (a b : Int) : Int := if b < a then 1 else if a = b then 0 else -1
theorem cmpZ_spec (a b : Int) : (a < b ∧ cmpZ a b = -1) ∨ (a = b ∧ cmpZ a b = 0) ∨ (b < a ∧ cmpZ a b = 1) := by
  unfold cmpZ
  split
  · omega
  · split <;> omega
theorem lZ_eq {a b : Int} (ha : -9223372036854775808 ≤ a ∧ a < 9223372036854775808) (hb : -9223372036854775808 ≤ b ∧ b < 9223372036854775808) : lZ a = lZ b ↔ a = b := by
  rw [← Int64.toInt_inj, lZ_toInt ha, lZ_toInt hb]
theorem lg_cmpZ {a b : Int} (ha : -9223372036854775808 ≤ a ∧ a < 9223372036854775808) (hb : -9223372036854775808 ≤ b ∧ b < 9223372036854775808) : lg_cmp (lZ a) (lZ b) = iZ (cmpZ a b) := by
  unfold lg_cmp cmpZ
  have h1 : (lZ a > lZ b) ↔ b < a := lZ_lt hb ha
  have h2 := lZ_eq ha hb
  by_cases q : b < a
  · rw [if_pos (h1.mpr q), if_pos q]; rfl
  · rw [if_neg (fun z => q (h1.mp z)), if_neg q]
    by_cases r : a = b
    · rw [if_pos (h2.mpr r), if_pos r]; rfl
    · rw [if_neg (fun z => r (h2.mp z)), if_neg r]; rfl
section LROWS
variable {pg : Program} {l : Launch} {ev : Env} {R : Room} {s0 s : State} {m : MethodId} {ar : Array Value} {bl : List Frame} {me : Method} {c : Code} {H : Heap} {locs : List Loc} {ce sl : Nat} {Q : State → Prop} {G : zG} {cc : ByteArray} {nL : Nat} {own : String} {ret : Option FieldType} {ls : Array Slot} {st : List Value}
theorem z_lcmpZ (C : zC pg s0 s m ar me c G cc nL own ret) (pc : Nat) {a b : Int} (hdg : decode cc pc = .ok (.lcmp, 1)) (ha : -9223372036854775808 ≤ a ∧ a < 9223372036854775808) (hb : -9223372036854775808 ≤ b ∧ b < 9223372036854775808) (kk : W pg l ev R s m ar bl me c H locs ce sl Q (F0 m (pc + 1) ls (.int (iZ (cmpZ a b)) :: st))) : W pg l ev R s m ar bl me c H locs ce sl Q (F0 m pc ls (.long (lZ b) :: .long (lZ a) :: st)) := z_lcmp C pc hdg (by rw [lg_cmpZ ha hb]; exact kk)
theorem z_ldc2 (C : zC pg s0 s m ar me c G cc nL own ret) (pc : Nat) {idx : Nat} {v : Int64} {a : Int} (hq : Cond.constantLong own idx v ∈ lw_all) (hv : v = lZ a) (hdg : decode cc pc = .ok (.ldc2_w idx, 3)) (kk : W pg l ev R s m ar bl me c H locs ce sl Q (F0 m (pc + 3) ls (.long (lZ a) :: st))) : W pg l ev R s m ar bl me c H locs ce sl Q (F0 m pc ls st) := lv_ldc2 C.1.1 C.1.2.1 C.1.2.2.2.1 (C.1.2.2.2.2 _ hq) hdg (hv ▸ kk)
end LROWS
theorem plq_n {l n : Nat} (h : l ≤ n) : plq (l : Int) n = l := by unfold plq; omega
theorem qlc_first {n l y m : Nat} {v : Nat → Nat} {f : Nat → Nat} (h : PlC n v y m f) (hn : n ≤ 120) (hin : 0 < cnt v l n y) (hln : l ≤ n) : cnt v 0 (plq (l : Int) n) y < m ∧ m ≤ 120 ∧ ((f (cnt v 0 (plq (l : Int) n) y) : Nat) : Int) = ((fsP v l y n : Nat) : Int) := by
  rw [plq_n hln]
  have h1 := cnt_split (v := v) (x := y) (Nat.zero_le l) hln
  have h2 := h.1
  have h3 := qlc_n h hn
  obtain ⟨g1, g2, g3, g4⟩ := fsP_spec hin
  obtain ⟨a1, a2, a3⟩ := h.2 (cnt v 0 l y) (by omega)
  refine ⟨by omega, h3.2, ?_⟩
  have hge : l ≤ f (cnt v 0 l y) := by
    by_cases q : f (cnt v 0 l y) < l
    · have e1 := cnt_at a2
      have e2 := cnt_mono (v := v) (a := 0) (x := y) (show f (cnt v 0 l y) + 1 ≤ l from q)
      omega
    · omega
  have e : f (cnt v 0 l y) = fsP v l y n := by
    apply Nat.le_antisymm
    · by_cases q : fsP v l y n < f (cnt v 0 l y)
      · have e1 := cnt_at g3
        have e2 := cnt_mono (v := v) (a := 0) (x := y) (show fsP v l y n + 1 ≤ f (cnt v 0 l y) from q)
        have e3 := cnt_mono (v := v) (a := 0) (x := y) g1
        omega
      · omega
    · by_cases q : f (cnt v 0 l y) < fsP v l y n
      · exact absurd a2 (g4 _ hge q)
      · omega
  rw [e]
theorem qlc_last {n r y m : Nat} {v : Nat → Nat} {f : Nat → Nat} (h : PlC n v y m f) (hn : n ≤ 120) (hin : 0 < cnt v 0 r y) (hr : r ≤ n) : 0 < cnt v 0 (plq (r : Int) n) y ∧ cnt v 0 (plq (r : Int) n) y ≤ m ∧ m ≤ 120 ∧ ((f (cnt v 0 (plq (r : Int) n) y - 1) : Nat) : Int) = ((lsP v y r : Nat) : Int) := by
  rw [plq_n hr]
  have h2 := h.1
  have h3 := qlc_n h hn
  have h4 := cnt_mono (v := v) (a := 0) (x := y) hr
  obtain ⟨g1, g2, g3, g4⟩ := lsP_spec hin
  obtain ⟨a1, a2, a3⟩ := h.2 (cnt v 0 r y - 1) (by omega)
  refine ⟨hin, by omega, h3.2, ?_⟩
  have e1 := cnt_at g3
  have e5 := cnt_mono (v := v) (a := 0) (x := y) (show lsP v y r + 1 ≤ r from g2)
  have e2 := cnt_at a2
  have e : f (cnt v 0 r y - 1) = lsP v y r := by
    apply Nat.le_antisymm
    · by_cases q : lsP v y r < f (cnt v 0 r y - 1)
      · by_cases q2 : f (cnt v 0 r y - 1) < r
        · exact absurd a2 (g4 _ q q2)
        · have e3 := cnt_mono (v := v) (a := 0) (x := y) (show r ≤ f (cnt v 0 r y - 1) by omega)
          omega
      · omega
    · by_cases q : f (cnt v 0 r y - 1) < lsP v y r
      · have e3 := cnt_mono (v := v) (a := 0) (x := y) (show f (cnt v 0 r y - 1) + 1 ≤ lsP v y r from q)
        omega
      · omega
  rw [e]
theorem qlc_in {n l r y : Nat} {v : Nat → Nat} (h1 : l ≤ r) (h2 : r ≤ n) : ((cnt v 0 (plq (r : Int) n) y : Nat) : Int) - ((cnt v 0 (plq (l : Int) n) y : Nat) : Int) = ((cnt v l r y : Nat) : Int) := by
  rw [plq_n h2, plq_n (Nat.le_trans h1 h2)]
  have := cnt_split (v := v) (x := y) (Nat.zero_le l) h1
  omega
theorem fsP_ext {v : Nat → Nat} {l r n x : Nat} (hr : r ≤ n) (h : 0 < cnt v l r x) : fsP v l x n = fsP v l x r := by
  obtain ⟨g1, g2, g3, g4⟩ := fsP_spec h
  exact (fsP_uniq g1 (by omega) g3 g4).symm
section MINR
variable {pg : Program} {l : Launch} {ev : Env} {R : Room} {s0 s : State} {m : MethodId} {ar : Array Value} {bl : List Frame} {me : Method} {c : Code} {H : Heap} {locs : List Loc} {ce sl : Nat} {Q : State → Prop} {G : zG} {cc : ByteArray} {nL : Nat} {own : String} {ret : Option FieldType} {ls : Array Slot} {st : List Value}
def zmin (a b : Int) : Int := if b < a then b else a
def zmax (a b : Int) : Int := if a < b then b else a
theorem zmin_spec (a b : Int) : (b < a ∧ zmin a b = b) ∨ (a ≤ b ∧ zmin a b = a) := by unfold zmin; split <;> omega
theorem zmax_spec (a b : Int) : (a < b ∧ zmax a b = b) ∨ (b ≤ a ∧ zmax a b = a) := by unfold zmax; split <;> omega
theorem z_min (C : zC pg s0 s m ar me c G cc nL own ret) (hlz : ls.size = nL) (pc : Nat) {idx : Nat} {a b : Int} (hq : Cond.methodLink own idx Lib.Math.min.name ∈ lw_all) (hdg : decode cc pc = .ok (.invokestatic idx, 3)) (ha : -2147483648 ≤ a ∧ a < 2147483648) (hb : -2147483648 ≤ b ∧ b < 2147483648) (hR : 1 ≤ R.frames ∧ (st.map fun v => v.category).sum + 13 ≤ R.locals) (hf : ce ≤ R.cells ∧ sl ≤ R.slots) (kk : W pg l ev R s m ar bl me c H locs ce sl Q (F0 m (pc + 3) ls (.int (iZ (zmin a b)) :: st))) : W pg l ev R s m ar bl me c H locs ce sl Q (F0 m pc ls (.int (iZ b) :: .int (iZ a) :: st)) := by
  refine va_mmin C.1.1 C.1.2.1 (C.1.2.2.1.trans hlz.symm) C.1.2.2.2.1 (C.1.2.2.2.2 _ hq) (C.1.2.2.2.2 _ q452) (C.1.2.2.2.2 _ q102) (C.1.2.2.2.2 _ q453) hR.1 hR.2 hf.1 hf.2 hdg ?_
  have e : (if iZ b < iZ a then iZ b else iZ a) = iZ (zmin a b) := by
    unfold zmin
    by_cases q : b < a
    · rw [if_pos ((iZ_lt hb ha).mpr q), if_pos q]
    · rw [if_neg (fun z => q ((iZ_lt hb ha).mp z)), if_neg q]
  rw [e]
  exact kk
end MINR
/-- the last block that ends at r or ahead of it; -1 if none -/
def lbZ (n b r : Nat) : Int := if r = n - 1 then ((zdiv (n + b - 1) b : Nat) : Int) - 1 else ((zdiv (r + 1) b : Nat) : Int) - 1
theorem lbZ_1 {n b r : Nat} (h : r = n - 1) : ((zdiv (n + b - 1) b : Nat) : Int) - 1 = lbZ n b r := (if_pos h).symm
theorem lbZ_2 {n b r : Nat} (h : ¬ r = n - 1) : ((zdiv (r + 1) b : Nat) : Int) - 1 = lbZ n b r := (if_neg h).symm
theorem PlC_pos {n y m l r : Nat} {v f : Nat → Nat} (h : PlC n v y m f) (px : 0 < cnt v l r y) (hr : r ≤ n) : 0 < m := by
  have h1 := cnt_mono (v := v) (a := l) (x := y) hr
  have h2 := h.1
  by_cases z : l ≤ n
  · have h3 := cnt_split (v := v) (x := y) (Nat.zero_le l) z
    omega
  · have h4 := cnt_0 v (x := y) (show n ≤ l by omega)
    omega
