/-! the Reader's world -/
set_option maxRecDepth 100000
def rdW (G : zG) (ad : Nat → Nat) (sz a0 ki wh pe ln bk ti hb ht mn : Int) (wd : Value) (v w : Nat → Int) (D : List Value) (f : Nat → Int) : va_W := [(ad 0, .inr (7, [.int (iZ sz), .ref (ad 1), .int (iZ a0), .int (iZ ki), .int (iZ wh), .int (iZ pe), .int (iZ ln), .int (iZ bk), .int (iZ ti), .int (iZ hb), .int (iZ ht), wd, .ref (ad 4)])), (ad 1, .inr (2, [.ref (ad 2), .ref (ad 3), .int (iZ mn)])), (ad 2, .inl (G.2 0, 120, .inl (zA v))), (ad 3, .inl (G.2 0, 120, .inl (zA w))), (ad 4, .inr (1, D)), (ad 5, .inl (G.2 1, 900, .inl (zA f)))]
/-- the word of a word's token -/
def WDX (G : zG) (tt : Nat → Nat) (pl nx : Nat) (wd : Value) (WS : va_W) : Prop := ∃ (q a k : Nat) (g : Nat → Nat), wd = .ref q ∧ WS = stW G q a k (fun j => (g j : Int)) ∧ k ≤ 7 ∧ (∀ j, j < k → g j < 128) ∧ (∀ j, j < k → g j = tt (pl + j)) ∧ (nx - pl ≤ 7 → k = nx - pl) ∧ (7 ≤ nx - pl → k = 7)
/-- the reader stands behind a token -/
def RTK (G : zG) (tt : Nat → Nat) (tn so pl vl nx : Nat) (M : Int) (wd : Value) (WS : va_W) : Prop := so ≤ 4 ∧ pl ≤ nx ∧ nx ≤ tn ∧ (so ≠ 0 → pl < nx) ∧ (so = 2 → ∃ N : Nat, M = (N : Int) ∧ NUMD N vl) ∧ (so = 1 → wIx tt pl nx vl ∧ WDX G tt pl nx wd WS)
theorem RTK_b {G : zG} {tt : Nat → Nat} {tn so pl vl nx : Nat} {M : Int} {wd : Value} {WS : va_W} (h : RTK G tt tn so pl vl nx M wd WS) : so ≤ 4 ∧ pl ≤ nx ∧ nx ≤ tn ∧ (so ≠ 0 → pl < nx) := ⟨h.1, h.2.1, h.2.2.1, h.2.2.2.1⟩
theorem RTK_of {G : zG} {tt : Nat → Nat} {tn a so pl vl nx : Nat} {M : Int} {wd : Value} {WS : va_W} (h : TOK tt tn a so pl vl nx) (ha : a ≤ tn) (h2 : so = 2 → ∃ N : Nat, M = (N : Int) ∧ NUMD N vl) (h1 : so = 1 → wIx tt pl nx vl ∧ WDX G tt pl nx wd WS) : RTK G tt tn so pl vl nx M wd WS := by
  have hb := TOK_b h ha
  exact ⟨hb.2.2.2.1, hb.2.1, hb.2.2.1, hb.2.2.2.2.1, h2, h1⟩
theorem TOK_w {t : Nat → Nat} {n a so pl vl nx p : Nat} (h : TOK t n a so pl vl nx) (h1 : SKP tW t n a p) (h2 : tS (hereZ t n p)) : so = 1 := by
  obtain ⟨h0, h⟩ := h
  obtain rfl := SKP_u h0 h1
  rcases h with ⟨k1, k2, k3, k4⟩ | ⟨k1, k2, k3, k4⟩ | ⟨k1, k2, k3, k4⟩ | ⟨k1, k2, k3, k4⟩
  · exact absurd (tS_lt h2) (by omega)
  · exact k2
  · exact (sd_no h2 k1).elim
  · exact absurd h2 k2
theorem wIx_ex (tt : Nat → Nat) (p e : Nat) : ∃ x, wIx tt p e x := by
  by_cases h : ∃ k, k < 8 ∧ wIs tt p e k
  · obtain ⟨k, h1, h2⟩ := h
    exact ⟨k, Or.inl ⟨h1, h2⟩⟩
  · exact ⟨8, Or.inr ⟨rfl, fun k h1 h2 => h ⟨k, h1, h2⟩⟩⟩
theorem upZ {g : Nat → Nat} {n c : Nat} : va_up (fun j => (g j : Int)) n (c : Int) = fun j => ((va_up g n c j : Nat) : Int) := by
  funext j
  unfold va_up
  split <;> rfl
theorem tS_c {tt : Nat → Nat} {tn e : Nat} (h : tS (hereZ tt tn e)) : ∃ c : Nat, c < 128 ∧ hereZ tt tn e = (c : Int) ∧ tt e = c := by
  have h0 : 0 ≤ hereZ tt tn e := by unfold tS at h; omega
  refine ⟨tt e, ?_, hz_at h0, rfl⟩
  have := hz_at h0
  unfold tS at h
  omega
theorem NUMD_n {N V lo hi : Nat} (h : NUMD N V) (hh : hi ≤ 999) : ((lo : Int) ≤ (N : Int) ∧ (N : Int) ≤ (hi : Int)) ↔ (lo ≤ V ∧ V ≤ hi) := by
  obtain ⟨a1, a2, a3, a4⟩ := h
  constructor
  · rintro ⟨b1, b2⟩
    rcases Nat.lt_or_ge V 100000 with q | q
    · have := a3 (by omega); omega
    · have := a4 q; omega
  · rintro ⟨b1, b2⟩
    have := a3 (by omega)
    omega
theorem NUMD_v {N V : Nat} (h : NUMD N V) (hh : V ≤ 999) : N = V := h.2.2.1 (by omega)
theorem NUMD_l {N V m : Nat} (h : NUMD N V) (hm : m ≤ 120) : N < m ↔ V < m := by
  obtain ⟨a1, a2, a3, a4⟩ := h
  constructor
  · intro b
    rcases Nat.lt_or_ge V 100000 with q | q
    · have := a3 (by omega); omega
    · have := a4 q; omega
  · intro b
    have := a3 (by omega)
    omega
theorem NUMD_b {N V : Nat} (h : NUMD N V) : N ≤ 100000 := h.1
theorem NUMD_z {N V : Nat} {c : Int} (_ : NUMD N V) (hc : 48 ≤ c) : ∃ M : Nat, (M : Int) = zmin (10 * (N : Int) + c - 48) 100000 ∧ (M : Int) ≤ 100000 := by
  have hm := zmin_spec (10 * (N : Int) + c - 48) 100000
  exact ⟨(zmin (10 * (N : Int) + c - 48) 100000).toNat, by omega, by omega⟩
def zThr (s0 : State) : Prop := ∃ q1 q2 : Value, q1.isRef = true ∧ q2.isRef = true ∧ va_Z RJ9 "UNASSIGNED_STACK" "[Ljava/lang/StackTraceElement;" q1 (fun q => s0.heap.size ≤ q) s0 s0.heap ∧ va_Z RJ9 "SUPPRESSED_SENTINEL" "Ljava/util/List;" q2 (fun q => s0.heap.size ≤ q) s0 s0.heap
/-- the words of the Reader's class -/
def zRW (s0 : State) (wq wv : Nat → Nat) : Prop := zLit s0 RX8 154 "first" (wq 0) (wv 0) (wL 0) (wD 0) ∧ zLit s0 RX8 156 "last" (wq 1) (wv 1) (wL 1) (wD 1) ∧ zLit s0 RX8 158 "least" (wq 2) (wv 2) (wL 2) (wD 2) ∧ zLit s0 RX8 160 "most" (wq 3) (wv 3) (wL 3) (wD 3) ∧ zLit s0 RX8 112 "row" (wq 4) (wv 4) (wL 4) (wD 4) ∧ zLit s0 RX8 120 "weight" (wq 5) (wv 5) (wL 5) (wD 5) ∧ zLit s0 RX8 124 "block" (wq 6) (wv 6) (wL 6) (wD 6) ∧ zLit s0 RX8 150 "ties" (wq 7) (wv 7) (wL 7) (wD 7)
theorem zPre_rw {s0 : State} {G : zG} (h : zSt s0 G) : ∃ wq wv : Nat → Nat, zRW s0 wq wv := by
  obtain ⟨q0, v0, h0⟩ := zPre_w0 h
  obtain ⟨q1, v1, h1⟩ := zPre_w1 h
  obtain ⟨q2, v2, h2⟩ := zPre_w2 h
  obtain ⟨q3, v3, h3⟩ := zPre_w3 h
  obtain ⟨q4, v4, h4⟩ := zPre_w4 h
  obtain ⟨q5, v5, h5⟩ := zPre_w5 h
  obtain ⟨q6, v6, h6⟩ := zPre_w6 h
  obtain ⟨q7, v7, h7⟩ := zPre_w7 h
  exact ⟨fun k => [q0, q1, q2, q3, q4, q5, q6, q7].getD k 0, fun k => [v0, v1, v2, v3, v4, v5, v6, v7].getD k 0, h0, h1, h2, h3, h4, h5, h6, h7⟩
theorem zPre_thr {s0 : State} {G : zG} (h : zSt s0 G) : zThr s0 := by
  obtain ⟨⟨b, hb, hg⟩, -⟩ := h
  have hn := c_right hg
  have hA : ∀ q : Nat, q < s0.heap.size → ¬ (s0.heap.size ≤ q) := fun q h => Nat.not_le.mpr h
  have h2 : (Cond.isRef (.static "java/lang/Throwable" "UNASSIGNED_STACK" "[Ljava/lang/StackTraceElement;")).before #[.ref b] s0 = true := nw_leaf hn 7 rfl
  have h3 : (Cond.isRef (.static "java/lang/Throwable" "SUPPRESSED_SENTINEL" "Ljava/util/List;")).before #[.ref b] s0 = true := nw_leaf hn 8 rfl
  obtain ⟨q1, e1, r1⟩ := Cond.isRef_spec (args := #[.ref b]) (first := s0) (o := none) (s := s0) (idx := []) h2
  obtain ⟨q2, e2, r2⟩ := Cond.isRef_spec (args := #[.ref b]) (first := s0) (o := none) (s := s0) (idx := []) h3
  exact ⟨q1, q2, r1, r2, va_Zof (hb _ q618) (hb _ (lw_all_tbl q107)) e1 hA, va_Zof (hb _ q620) (hb _ (lw_all_tbl q107)) e2 hA⟩
theorem eq_word {tt : Nat → Nat} {pl nx vl kk k : Nat} {g : Nat → Nat} (hk : k < 8) (hx : wIx tt pl nx vl) (h5 : ∀ j, j < kk → g j = tt (pl + j)) (h6 : nx - pl ≤ 7 → kk = nx - pl) (h7 : 7 ≤ nx - pl → kk = 7) : (kk = wL k ∧ ∀ j, j < kk → g j = wD k j) ↔ vl = k := by
  have hl := (w_f1 k hk).2.2
  have hP : (kk = wL k ∧ ∀ j, j < kk → g j = wD k j) ↔ wIs tt pl nx k := by
    constructor
    · rintro ⟨a1, a2⟩
      have hn : nx - pl ≤ 7 := by
        rcases Nat.lt_or_ge 7 (nx - pl) with q | q
        · have := h7 (by omega); omega
        · exact q
      have := h6 hn
      refine ⟨by omega, fun i hi => ?_⟩
      rw [← h5 i (by omega), a2 i (by omega)]
      rfl
    · rintro ⟨a1, a2⟩
      have := h6 (by omega)
      refine ⟨by omega, fun j hj => ?_⟩
      rw [h5 j hj, a2 j (by omega)]
      rfl
  rw [hP]
  constructor
  · intro h
    rcases hx with ⟨b1, b2⟩ | ⟨b1, b2⟩
    · exact wIs_u b1 hk b2 h
    · exact absurd h (b2 k hk)
  · rintro rfl
    rcases hx with ⟨b1, b2⟩ | ⟨b1, b2⟩
    · exact b2
    · omega
section ZAN
variable {pg : Program} {l : Launch} {ev : Env} {R : Room} {s0 s : State} {m : MethodId} {ar : Array Value} {bl : List Frame} {me : Method} {c : Code} {H : Heap} {locs : List Loc} {ce sl : Nat} {Q : State → Prop} {G : zG} {cc : ByteArray} {nL : Nat} {own : String} {ret : Option FieldType} {ls : Array Slot} {st : List Value} {lv : List (Nat × Value)}
theorem z_aloadN (C : zC pg s0 s m ar me c G cc nL own ret) (pc : Nat) {k : Fin 4} {i : Nat} (hl : lv_has ls nL lv) (hdg : decode cc pc = .ok (.aload_n k, 1)) (hi : (k : Nat) = i) (q : Nat) (hq : lv[q]? = some (i, .null)) (kk : W pg l ev R s m ar bl me c H locs ce sl Q (F0 m (pc + 1) ls (.null :: st))) : W pg l ev R s m ar bl me c H locs ce sl Q (F0 m pc ls st) := lv_aload_nN C.1.1 C.1.2.1 hdg hi (lv_at hl q hq) kk
end ZAN
