/-! what the premise tells of NOWHERE and of the cache of Integers -/
set_option maxRecDepth 100000
theorem c_right {args : Array Value} {s : State} {A B : Cond} (h : (Cond.and A B).before args s = true) : B.before args s = true := by
  have h1 := va_andE (A := A) (B := B) (args := args) (first := s) (s := s) (o := none) (idx := []) (by simpa [Cond.before, Cond.holds] using h)
  simpa [Cond.before, Cond.holds] using h1.2
def andL : Cond → List Cond
  | .and a b => andL a ++ andL b
  | c => [c]
theorem andL_b {args : Array Value} {s : State} : ∀ {c : Cond}, c.before args s = true → ∀ x ∈ andL c, x.before args s = true := by
  intro c
  induction c with
  | and a b iha ihb =>
    intro h x hx
    rcases List.mem_append.mp hx with q | q
    · exact iha (Cond.before_left h) x q
    · exact ihb (c_right h) x q
  | _ =>
    intro h x hx
    cases List.mem_singleton.mp hx
    exact h
theorem nw_leaf {args : Array Value} {s : State} (h : narrow_1.before args s = true) (i : Nat) {x : Cond} (hx : (andL narrow_1)[i]? = some x) : x.before args s = true := andL_b h x (List.mem_of_getElem? hx)
theorem zPre_nw {s0 : State} {G : zG} (h : zSt s0 G) : ∃ nw, zNwh s0 nw ∧ zNwo s0 nw := by
  obtain ⟨⟨b, hb, hg⟩, -⟩ := h
  have hn := c_right hg
  have h9 : (Cond.exactly (.static "ModeDesk" "NOWHERE" "LModeDesk$Places;") "ModeDesk$Places").before #[.ref b] s0 = true := nw_leaf hn 9 rfl
  have h133 : (Cond.eq (.field (.static "ModeDesk" "NOWHERE" "LModeDesk$Places;") "ModeDesk$Places" "many" "I") (.int (0 : Int32))).before #[.ref b] s0 = true := nw_leaf hn 133 rfl
  obtain ⟨a, c, cell, k, ha, -⟩ := Cond.exactly_spec h9
  have hA : ∀ q : Nat, q < s0.heap.size → ¬ (s0.heap.size ≤ q) := fun q h => Nat.not_le.mpr h
  have e0 : iZ ((0 : Nat) : Int) = (0 : Int32) := by decide
  refine ⟨a, va_Zof (hb _ q741) (hb _ (lw_all_tbl q89)) ha hA, va_Oof h9 ha hA, ?_⟩
  rw [e0]
  exact vk_OFof ha (va_eqt h133) hA
theorem vb_c_z : ∀ k : Nat, k < 256 → vb_c k = iZ ((k : Int) - 128) := by decide +kernel
theorem zPre_bx {s0 : State} {G : zG} (h : zSt s0 G) : zBxs s0 := by
  obtain ⟨⟨b, hb, hg⟩, -⟩ := h
  have hn := c_right hg
  have h134 : (Cond.eq (.static "java/lang/Integer$IntegerCache" "high" "I") (.int (127 : Int32))).before #[.ref b] s0 = true := nw_leaf hn 134 rfl
  have h136 : (Cond.arrayOf (.static "java/lang/Integer$IntegerCache" "cache" "[Ljava/lang/Integer;") (.object "java/lang/Integer")).before #[.ref b] s0 = true := nw_leaf hn 136 rfl
  have h137 : (Cond.eq (.length (.static "java/lang/Integer$IntegerCache" "cache" "[Ljava/lang/Integer;")) (.int (256 : Int32))).before #[.ref b] s0 = true := nw_leaf hn 137 rfl
  have h138 : (Cond.all (.static "java/lang/Integer$IntegerCache" "cache" "[Ljava/lang/Integer;") (.and (.exactly (.elem (.static "java/lang/Integer$IntegerCache" "cache" "[Ljava/lang/Integer;") (.index 0)) "java/lang/Integer") (.eq (.field (.elem (.static "java/lang/Integer$IntegerCache" "cache" "[Ljava/lang/Integer;") (.index 0)) "java/lang/Integer" "value" "I") (.sub (.index 0) (.int 128))))).before #[.ref b] s0 = true := nw_leaf hn 138 rfl
  have hA : ∀ q : Nat, q < s0.heap.size → ¬ (s0.heap.size ≤ q) := fun q h => Nat.not_le.mpr h
  have hlen : (Term.length (.static "java/lang/Integer$IntegerCache" "cache" "[Ljava/lang/Integer;")).eval #[.ref b] s0 none [] s0 = some (.int (Int32.ofNat 256)) := va_eqt h137
  obtain ⟨ad, hC, hel⟩ := vb_Cof (A := fun q => s0.heap.size ≤ q) rfl hlen h138 hA
  obtain ⟨t, ht, hT⟩ := va_Tof (N := 256) (f := fun j => .ref (ad j)) (A := fun q => s0.heap.size ≤ q) (by decide) h136 hlen hel hA
  have e1 : iZ 127 = (127 : Int32) := by decide
  refine ⟨ad, t, fun k hk => ⟨hC.1 k hk, ?_⟩, va_Zof (hb _ q963) (hb _ (lw_all_tbl q118)) ht hA, hT, ?_⟩
  · rw [← vb_c_z k hk]
    exact hC.2 k hk
  · rw [e1]
    exact va_Zof (hb _ q961) (hb _ (lw_all_tbl q118)) (va_eqt h134) hA
