/-! Row.like; the kept rows; bytes of the tape -/
set_option maxRecDepth 100000
def rw3 (G : zG) (o v w : Nat) (m : Int) (a b : Nat → Int) : va_W := [(o, .inr (2, [.ref v, .ref w, .int (iZ m)])), (v, .inl (G.2 0, 120, .inl (zA a))), (w, .inl (G.2 0, 120, .inl (zA b)))]
section ZLIKE
variable {pg : Program} {l : Launch} {ev : Env} {R : Room} {s0 s : State} {m : MethodId} {ar : Array Value} {bl : List Frame} {me : Method} {c : Code} {H : Heap} {locs : List Loc} {ce sl : Nat} {Q : State → Prop} {G : zG} {cc : ByteArray} {nL : Nat} {own : String} {ret : Option FieldType} {ls : Array Slot} {st : List Value} {as0 : List Nat} {w : va_W}
theorem z_copyi (C : zC pg s0 s m ar me c G cc nL own ret) (hH : zH s0 s G as0 w H locs) (hlz : ls.size = nL) (pc q0 q1 : Nat) {idx a0 a : Nat} {f g : Nat → Int} {w' : va_W} (h0 : w[q0]? = some (a0, .inl (G.2 0, 120, .inl (zA f)))) (h1 : w[q1]? = some (a, .inl (G.2 0, 120, .inl (zA g)))) (hw : w.set q1 (a, .inl (G.2 0, 120, .inl (zA f))) = w') (hq : Cond.methodLink own idx arraycopyName ∈ lw_all) (hR : 1 ≤ R.frames ∧ (st.map fun v => v.category).sum + 18 ≤ R.locals) (hdg : decode cc pc = .ok (.invokestatic idx, 3))
    (kk : ∀ (H1 : Heap) (locs1 : List Loc), zH s0 s G as0 w' H1 locs1 → W pg l ev R s m ar bl me c H1 locs1 ce sl Q (F0 m (pc + 3) ls st)) : W pg l ev R s m ar bl me c H locs ce sl Q (F0 m pc ls (.int (iZ 120) :: .int (iZ 0) :: .ref a :: .int (iZ 0) :: .ref a0 :: st)) := by
  subst hw
  have e0 : (iZ 0).toNatClampNeg = 0 := by decide
  have e1 : (iZ 120).toNatClampNeg = 120 := by decide
  refine va_copyi C.1.1 C.1.2.1 (C.1.2.2.1.trans hlz.symm) C.1.2.2.2.1 (C.1.2.2.2.2 _ hq) (C.1.2.2.2.2 _ q456) (C.1.2.2.2.2 _ q455) (C.1.2.2.2.2 _ q104) C.2.2.2.2.2 hH.1 hH.2.1 hH.2.2 q0 q1 0 0 h0 h1 rfl rfl rfl (by decide) (by decide) (by decide) (by rw [e0, e1]; decide) (by rw [e0, e1]; decide) (fun i _ => rfl) hR.1 (by exact hR.2) hdg ?_
  rw [e0, e1]
  intro H1 l1 p d z
  have hn : (w.set q1 (a, .inl (G.2 0, 120, .inl (va_cpy (zA f) (zA g) 0 0 120))))[q1]? = some (a, .inl (G.2 0, 120, .inl (va_cpy (zA f) (zA g) 0 0 120))) := List.getElem?_set_self (List.getElem?_eq_some_iff.mp h1).1
  have h2 := zH_arr (g := zA f) ⟨p, d, z⟩ hn (fun j hj => by
    show (if 0 ≤ j ∧ j < 0 + 120 then zA f (0 + (j - 0)) else zA g j) = zA f j
    rw [if_pos ⟨Nat.zero_le _, by omega⟩, Nat.zero_add, Nat.sub_zero])
  rw [List.set_set] at h2
  exact kk H1 l1 h2
theorem z_i2b (C : zC pg s0 s m ar me c G cc nL own ret) (pc : Nat) {a e : Int} (hdg : decode cc pc = .ok (.i2b, 1)) (he : (iZ a).toInt8.toInt32 = iZ e) (kk : W pg l ev R s m ar bl me c H locs ce sl Q (F0 m (pc + 1) ls (.int (iZ e) :: st))) : W pg l ev R s m ar bl me c H locs ce sl Q (F0 m pc ls (.int (iZ a) :: st)) := lv_i2b C.1.1 C.1.2.1 hdg he kk
end ZLIKE
theorem i2b_z {y : Int} (hy : -2147483648 ≤ y ∧ y < 2147483648) : (iZ y).toInt8.toInt32 = iZ (sb (y % 256).toNat) := by
  have hs : -2147483648 ≤ sb (y % 256).toNat ∧ sb (y % 256).toNat < 2147483648 := by unfold sb; split <;> omega
  rw [← Int32.toInt_inj, Int8.toInt_toInt32, Int32.toInt_toInt8, iZ_toInt hy, iZ_toInt hs, Int.bmod_def]
  unfold sb
  split <;> split <;> omega
theorem sb_by {u : Nat} (h : u < 256) : (iZ (sb u)).toInt8.toInt32 = iZ (sb u) := by
  have hs : -128 ≤ sb u ∧ sb u < 128 ∧ (sb u % 256).toNat = u := by unfold sb; split <;> omega
  rw [i2b_z (by omega), hs.2.2]
theorem i2b_byt {z sh : Int} {k : Nat} (hz : -2147483648 ≤ z ∧ z < 2147483648) (hk : k < 4) (hs : sh = 24 - 8 * (k : Int)) : (iZ (zshr z sh)).toInt8.toInt32 = iZ (sb (bytN z k)) := by
  rw [i2b_z (zshr_rng _ _)]
  have h1 := z_byt2 hz hk hs
  have h2 := bytN_lt z k
  have h3 : zand (zshr z sh) 255 = zshr z sh % 256 := by
    have e : (iZ (zshr z sh) &&& iZ 255) = nI ((iZ (zshr z sh)).toBitVec.toNat % 2 ^ 8) := pk_and _ 8 (by decide)
    unfold zand
    rw [e, ← iZ_nI, bv256, iZ_toInt (zshr_rng _ _), iZ_toInt (by have := Int.emod_nonneg (zshr z sh) (show (256 : Int) ≠ 0 by decide); have := Int.emod_lt_of_pos (zshr z sh) (show (0 : Int) < 256 by decide); omega)]
  rw [← h3, h1]
  congr 2
theorem fed_s {a : Nat → Int} {t : Nat → Nat} {tp k : Nat} {wa wb wc wd we : Int} (h : ∀ i, i < tp + k → a i = sb (fedF t tp wa wb wc wd we k i)) : ∀ i, i < tp + (k + 1) → va_up a (tp + k) (sb (bytN (wd5 wa wb wc wd we k) (k % 4))) i = sb (fedF t tp wa wb wc wd we (k + 1) i) := fun i hi => by
  rw [← fedF_s]
  by_cases e : i = tp + k
  · rw [e, va_up_self, va_up_self]
  · rw [va_up_ne _ _ e, va_up_ne _ _ e]; exact h i (by omega)
theorem fed_lt {t : Nat → Nat} {tp k : Nat} {wa wb wc wd we : Int} (h : ∀ i, i < tp → t i < 256) : ∀ i, i < tp + k → fedF t tp wa wb wc wd we k i < 256 := fun i hi => by
  unfold fedF
  split
  · exact bytN_lt _ _
  · exact h i (by omega)
-- the kept rows
def KPT (kp : Nat → Nat) : Prop := (∀ j, j < 12 → ∃ i, i < 12 ∧ kp j = 209 + 3 * i) ∧ ∀ i j, i < 12 → j < 12 → kp i = kp j → i = j
theorem kp_ge {kp : Nat → Nat} (h : KPT kp) {j : Nat} (hj : j < 12) : 209 ≤ kp j ∧ kp j ≤ 242 := by
  obtain ⟨i, hi, e⟩ := h.1 j hj
  omega
def PASTD (un : Nat) (kp : Nat → Nat) (F : Nat → Int) (Ar : Nat → Nat → Int) (hm : Nat → Nat) (hv hw : Nat → Nat → Nat) : Prop := ∀ k, k < un → F (kp k) = (hm k : Int) ∧ hm k ≤ 120 ∧ ∀ p, p < hm k → Ar (kp k + 1) p = (hv k p : Int) ∧ Ar (kp k + 2) p = (hw k p : Int) ∧ hv k p < 1000 ∧ 1 ≤ hw k p ∧ hw k p ≤ 9
theorem dW0_row {ad : Nat → Nat} {G : zG} {F : Nat → Int} {Ar : Nat → Nat → Int} {kp : Nat → Nat} {pl : Nat → Option Nat} {i : Nat} (hi : i < 12) : (dW0 ad G F Ar kp pl)[20 + 3 * i]? = some (ad (209 + 3 * i), .inr (2, [.ref (ad (209 + 3 * i + 1)), .ref (ad (209 + 3 * i + 2)), .int (iZ (F (209 + 3 * i)))])) ∧ (dW0 ad G F Ar kp pl)[20 + 3 * i + 1]? = some (ad (209 + 3 * i + 1), .inl (G.2 0, 120, .inl (zA (Ar (209 + 3 * i + 1))))) ∧ (dW0 ad G F Ar kp pl)[20 + 3 * i + 2]? = some (ad (209 + 3 * i + 2), .inl (G.2 0, 120, .inl (zA (Ar (209 + 3 * i + 2))))) := by
  rcases (show i = 0 ∨ i = 1 ∨ i = 2 ∨ i = 3 ∨ i = 4 ∨ i = 5 ∨ i = 6 ∨ i = 7 ∨ i = 8 ∨ i = 9 ∨ i = 10 ∨ i = 11 from by omega) with rfl | rfl | rfl | rfl | rfl | rfl | rfl | rfl | rfl | rfl | rfl | rfl <;> exact ⟨rfl, rfl, rfl⟩
theorem keptP {D : va_G} {cl : List vw_C} {H : Heap} {ad : Nat → Nat} {G : zG} {F : Nat → Int} {Ar : Nat → Nat → Int} {kp : Nat → Nat} {pl : Nat → Option Nat} (hP : va_P D cl (dW0 ad G F Ar kp pl) H) (hk : KPT kp) {j : Nat} (hj : j < 12) : va_P D cl (rw3 G (ad (kp j)) (ad (kp j + 1)) (ad (kp j + 2)) (F (kp j)) (Ar (kp j + 1)) (Ar (kp j + 2))) H := by
  obtain ⟨i, hi, e⟩ := hk.1 j hj
  obtain ⟨h1, h2, h3⟩ := dW0_row (ad := ad) (G := G) (F := F) (Ar := Ar) (kp := kp) (pl := pl) hi
  rw [e]
  intro k q hq
  match k, hq with
  | 0, hq => cases hq; exact hP _ _ h1
  | 1, hq => cases hq; exact hP _ _ h2
  | 2, hq => cases hq; exact hP _ _ h3
  | k + 3, hq => simp [rw3] at hq
-- kept's rotation
def kpS (kp : Nat → Nat) (k : Nat) : Nat → Nat := fun j => if j + 1 < k then kp (j + 1) else kp j
theorem kpS_1 {kp : Nat → Nat} : kp = kpS kp 1 := by
  funext j
  unfold kpS
  rw [if_neg (by omega)]
theorem kpS_s {kp : Nat → Nat} {k : Nat} (hk : 1 ≤ k) : va_up (kpS kp k) (k - 1) (kpS kp k k) = kpS kp (k + 1) := by
  funext j
  unfold va_up kpS
  by_cases e : j = k - 1
  · rw [if_pos e, if_neg (by omega), if_pos (by omega), e, show k - 1 + 1 = k by omega]
  · rw [if_neg e]
    by_cases q : j + 1 < k
    · rw [if_pos q, if_pos (by omega)]
    · rw [if_neg q, if_neg (by omega)]
def kpR (kp : Nat → Nat) : Nat → Nat := va_up (kpS kp 12) 11 (kp 0)
theorem kpR_lt {kp : Nat → Nat} {j : Nat} (h : j < 11) : kpR kp j = kp (j + 1) := by
  unfold kpR
  rw [va_up_ne _ _ (by omega)]
  unfold kpS
  rw [if_pos (by omega)]
theorem kpR_11 {kp : Nat → Nat} : kpR kp 11 = kp 0 := va_up_self _ _ _
theorem KPT_R {kp : Nat → Nat} (h : KPT kp) : KPT (kpR kp) := by
  refine ⟨fun j hj => ?_, fun i j hi hj e => ?_⟩
  · by_cases q : j < 11
    · rw [kpR_lt q]; exact h.1 _ (by omega)
    · rw [show j = 11 by omega, kpR_11]; exact h.1 _ (by omega)
  · by_cases q : i < 11 <;> by_cases q2 : j < 11
    · rw [kpR_lt q, kpR_lt q2] at e
      have := h.2 _ _ (by omega) (by omega) e
      omega
    · rw [kpR_lt q, show j = 11 by omega, kpR_11] at e
      have := h.2 _ _ (by omega) (by omega) e
      omega
    · rw [show i = 11 by omega, kpR_11, kpR_lt q2] at e
      have := h.2 _ _ (by omega) (by omega) e
      omega
    · omega
theorem PASTD_R {kp : Nat → Nat} {F : Nat → Int} {Ar : Nat → Nat → Int} {hm : Nat → Nat} {hv hw : Nat → Nat → Nat} (h : PASTD 12 kp F Ar hm hv hw) : PASTD 11 (kpR kp) F Ar (fun j => hm (j + 1)) (fun j => hv (j + 1)) (fun j => hw (j + 1)) := fun k hk => by
  rw [kpR_lt hk]
  exact h (k + 1) (by omega)
/-- a row is kept behind those that are -/
theorem PASTD_push {u : Nat} {kp : Nat → Nat} {F : Nat → Int} {Ar : Nat → Nat → Int} {hm : Nat → Nat} {hv hw : Nat → Nat → Nat} {n : Nat} {v wt : Nat → Nat} {a b : Nat → Int} (hk : KPT kp) (hu : u < 12) (h : PASTD u kp F Ar hm hv hw) (hn : n ≤ 120) (ha : ∀ i, i < n → a i = (v i : Int)) (hb : ∀ i, i < n → b i = (wt i : Int)) (hvv : ∀ i, i < n → v i < 1000) (hww : ∀ i, i < n → 1 ≤ wt i ∧ wt i ≤ 9) : PASTD (u + 1) kp (va_up F (kp u) (n : Int)) (va_up (va_up Ar (kp u + 1) a) (kp u + 2) b) (va_up hm u n) (va_up hv u v) (va_up hw u wt) := fun k hk2 => by
  obtain ⟨iu, hiu, eu⟩ := hk.1 u hu
  by_cases e : k = u
  · subst e
    rw [va_up_self, va_up_self, va_up_self, va_up_self, va_up_ne _ _ (show kp k + 1 ≠ kp k + 2 by omega), va_up_self, va_up_self]
    exact ⟨rfl, hn, fun p hp => ⟨ha p hp, hb p hp, hvv p hp, (hww p hp).1, (hww p hp).2⟩⟩
  · obtain ⟨ik, hik, ek⟩ := hk.1 k (by omega)
    have hne : kp k ≠ kp u := fun q => e (hk.2 k u (by omega) hu q)
    rw [va_up_ne _ _ hne, va_up_ne _ _ e, va_up_ne _ _ e, va_up_ne _ _ e, va_up_ne _ _ (show kp k + 1 ≠ kp u + 2 by omega), va_up_ne _ _ (show kp k + 1 ≠ kp u + 1 by omega), va_up_ne _ _ (show kp k + 2 ≠ kp u + 2 by omega), va_up_ne _ _ (show kp k + 2 ≠ kp u + 1 by omega)]
    exact h k (by omega)
def likeKs (i b : Nat) : List Nat := [20 + 3 * i, 20 + 3 * i + 1, 20 + 3 * i + 2, b, b + 1, b + 2]
def likeKs2 (i b : Nat) : List Nat := [b, b + 1, b + 2, 20 + 3 * i, 20 + 3 * i + 1, 20 + 3 * i + 2]
section LIKEK
variable {ad : Nat → Nat} {G : zG} {F : Nat → Int} {Ar : Nat → Nat → Int} {kp : Nat → Nat} {pl : Nat → Option Nat} {PW : va_W} {i : Nat}
set_option maxHeartbeats 4000000 in
theorem setL_dk_k (hi : i < 12) : (likeKs i 14).map (fun k => (dW ad G F Ar kp pl PW)[k]?) = (rw3 G (ad (209 + 3 * i)) (ad ((209 + 3 * i) + 1)) (ad ((209 + 3 * i) + 2)) (F (209 + 3 * i)) (Ar ((209 + 3 * i) + 1)) (Ar ((209 + 3 * i) + 2)) ++ rw3 G (ad 203) (ad (203 + 1)) (ad (203 + 2)) (F 203) (Ar (203 + 1)) (Ar (203 + 2))).map some := by
  rcases (show i = 0 ∨ i = 1 ∨ i = 2 ∨ i = 3 ∨ i = 4 ∨ i = 5 ∨ i = 6 ∨ i = 7 ∨ i = 8 ∨ i = 9 ∨ i = 10 ∨ i = 11 from by omega) with rfl | rfl | rfl | rfl | rfl | rfl | rfl | rfl | rfl | rfl | rfl | rfl <;> rfl
theorem setL_dk_n (hi : i < 12) : (likeKs i 14).Nodup := by
  rcases (show i = 0 ∨ i = 1 ∨ i = 2 ∨ i = 3 ∨ i = 4 ∨ i = 5 ∨ i = 6 ∨ i = 7 ∨ i = 8 ∨ i = 9 ∨ i = 10 ∨ i = 11 from by omega) with rfl | rfl | rfl | rfl | rfl | rfl | rfl | rfl | rfl | rfl | rfl | rfl <;> decide
set_option maxHeartbeats 8000000 in
theorem setL_dk_w (hi : i < 12) : setL (dW ad G F Ar kp pl PW) (likeKs i 14) (rw3 G (ad (209 + 3 * i)) (ad ((209 + 3 * i) + 1)) (ad ((209 + 3 * i) + 2)) (F 203) (Ar (203 + 1)) (Ar (203 + 2)) ++ rw3 G (ad 203) (ad (203 + 1)) (ad (203 + 2)) (F 203) (Ar (203 + 1)) (Ar (203 + 2))) = dW ad G (va_up F (209 + 3 * i) (F 203)) (va_up (va_up Ar ((209 + 3 * i) + 1) (Ar (203 + 1))) ((209 + 3 * i) + 2) (Ar (203 + 2))) kp pl PW := by
  rcases (show i = 0 ∨ i = 1 ∨ i = 2 ∨ i = 3 ∨ i = 4 ∨ i = 5 ∨ i = 6 ∨ i = 7 ∨ i = 8 ∨ i = 9 ∨ i = 10 ∨ i = 11 from by omega) with rfl | rfl | rfl | rfl | rfl | rfl | rfl | rfl | rfl | rfl | rfl | rfl <;> rfl
set_option maxHeartbeats 4000000 in
theorem setL_sk_k (hi : i < 12) : (likeKs2 i 11).map (fun k => (dW ad G F Ar kp pl PW)[k]?) = (rw3 G (ad 200) (ad (200 + 1)) (ad (200 + 2)) (F 200) (Ar (200 + 1)) (Ar (200 + 2)) ++ rw3 G (ad (209 + 3 * i)) (ad ((209 + 3 * i) + 1)) (ad ((209 + 3 * i) + 2)) (F (209 + 3 * i)) (Ar ((209 + 3 * i) + 1)) (Ar ((209 + 3 * i) + 2))).map some := by
  rcases (show i = 0 ∨ i = 1 ∨ i = 2 ∨ i = 3 ∨ i = 4 ∨ i = 5 ∨ i = 6 ∨ i = 7 ∨ i = 8 ∨ i = 9 ∨ i = 10 ∨ i = 11 from by omega) with rfl | rfl | rfl | rfl | rfl | rfl | rfl | rfl | rfl | rfl | rfl | rfl <;> rfl
theorem setL_sk_n (hi : i < 12) : (likeKs2 i 11).Nodup := by
  rcases (show i = 0 ∨ i = 1 ∨ i = 2 ∨ i = 3 ∨ i = 4 ∨ i = 5 ∨ i = 6 ∨ i = 7 ∨ i = 8 ∨ i = 9 ∨ i = 10 ∨ i = 11 from by omega) with rfl | rfl | rfl | rfl | rfl | rfl | rfl | rfl | rfl | rfl | rfl | rfl <;> decide
set_option maxHeartbeats 8000000 in
theorem setL_sk_w (hi : i < 12) : setL (dW ad G F Ar kp pl PW) (likeKs2 i 11) (rw3 G (ad 200) (ad (200 + 1)) (ad (200 + 2)) (F (209 + 3 * i)) (Ar ((209 + 3 * i) + 1)) (Ar ((209 + 3 * i) + 2)) ++ rw3 G (ad (209 + 3 * i)) (ad ((209 + 3 * i) + 1)) (ad ((209 + 3 * i) + 2)) (F (209 + 3 * i)) (Ar ((209 + 3 * i) + 1)) (Ar ((209 + 3 * i) + 2))) = dW ad G (va_up F 200 (F (209 + 3 * i))) (va_up (va_up Ar (200 + 1) (Ar ((209 + 3 * i) + 1))) (200 + 2) (Ar ((209 + 3 * i) + 2))) kp pl PW := by
  rcases (show i = 0 ∨ i = 1 ∨ i = 2 ∨ i = 3 ∨ i = 4 ∨ i = 5 ∨ i = 6 ∨ i = 7 ∨ i = 8 ∨ i = 9 ∨ i = 10 ∨ i = 11 from by omega) with rfl | rfl | rfl | rfl | rfl | rfl | rfl | rfl | rfl | rfl | rfl | rfl <;> rfl

end LIKEK
section KPST
variable {pg : Program} {l : Launch} {ev : Env} {R : Room} {s0 s : State} {m : MethodId} {ar : Array Value} {bl : List Frame} {me : Method} {c : Code} {H : Heap} {locs : List Loc} {ce sl : Nat} {Q : State → Prop} {G : zG} {cc : ByteArray} {nL : Nat} {ret : Option FieldType} {ls : Array Slot} {st : List Value} {as0 : List Nat} {ad : Nat → Nat} {F : Nat → Int} {Ar : Nat → Nat → Int} {kp : Nat → Nat} {pl : Nat → Option Nat} {PW : va_W}
set_option maxHeartbeats 4000000 in
theorem z_kpst (C : zC pg s0 s m ar me c G cc nL RX1 ret) (hH : zH s0 s G as0 (dW ad G F Ar kp pl PW) H locs) (pc n x : Nat) {e : Int} (hi : e = n) (hn : n < 12) (hx : ∃ i, i < 12 ∧ x = 209 + 3 * i) (hdg : decode cc pc = .ok (.aastore, 1)) (kk : ∀ (H1 : Heap) (locs1 : List Loc), zH s0 s G as0 (dW ad G F Ar (va_up kp n x) pl PW) H1 locs1 → W pg l ev R s m ar bl me c H1 locs1 ce sl Q (F0 m (pc + 1) ls st)) : W pg l ev R s m ar bl me c H locs ce sl Q (F0 m pc ls (.ref (ad x) :: .int (iZ e) :: .ref (ad 13) :: st)) := by
  subst hi
  obtain ⟨i, hi, rfl⟩ := hx
  have h1 := (dW0_row (ad := ad) (G := G) (F := F) (Ar := Ar) (kp := kp) (pl := pl) hi).1
  have h2 : (dW ad G F Ar kp pl PW)[20 + 3 * i]? = some (ad (209 + 3 * i), .inr (2, [.ref (ad (209 + 3 * i + 1)), .ref (ad (209 + 3 * i + 2)), .int (iZ (F (209 + 3 * i)))])) := by
    show (dW0 ad G F Ar kp pl ++ PW)[20 + 3 * i]? = _
    rw [List.getElem?_append_left (List.getElem?_eq_some_iff.mp h1).1]
    exact h1
  refine va_astq (r := (RX2, TX2, 3)) C.1.1 C.1.2.1 C.2.2.2.2.2 hH.1 hH.2.1 hH.2.2 3 4 (20 + 3 * i) 2 (f := fun j => some (ad (kp j))) rfl rfl h2 rfl (iZ_in hn (by decide)) hdg ?_
  rw [iZ_clamp n (by omega)]
  intro H1 l1 p d z
  have e2 : va_up (fun j => some (ad (kp j))) n (some (ad (209 + 3 * i))) = fun j => some (ad (va_up kp n (209 + 3 * i) j)) := by
    funext j
    unfold va_up
    split <;> rfl
  rw [e2] at p d
  exact kk H1 l1 ⟨p, d, z⟩
end KPST
set_option maxHeartbeats 4000000 in
theorem m_X2_like (lau : Launch) (s0 : State) (G : zG) (sz : Nat) (o v w : Nat) (m : Int) (a b : Nat → Int) (o2 v2 w2 : Nat) (m2 : Int) (a2 b2 : Nat → Int) : zMet (S := Unit) lau yX2_like cX2_like 2 (some (.object "ModeDesk$Row")) 1 20 0 0 s0 G sz [.ref o, .ref o2] (rw3 G o v w m a b ++ rw3 G o2 v2 w2 m2 a2 b2) (fun _ => some (.ref o)) (fun _ => True) (fun _ => rw3 G o v w m2 a2 b2 ++ rw3 G o2 v2 w2 m2 a2 b2) := by
  refine zMet.of (by decide) (Nat.le_of_ble_eq_true rfl) ?_
  intro pg ev s1 mi ar bl me cd ls Q as0 hC hH hl hQ hsz
  generalize s1.heap = H at hH ⊢
  generalize ([] : List Loc) = locs at hH ⊢
  have hl : lv_has ls 2 [(0, .ref o), (1, .ref o2)] := hl
  refine z_aload_n hC 0 hl dX2_like_0 rfl 1 rfl ?_
  refine z_get (v := .ref v2) hC hH 1 in_X2 rfl 0 (by decide) q139 3 rfl rfl dX2_like_1 ?_
  refine z_iconst hC 4 dX2_like_4 ?_
  refine z_aload_n hC 5 hl dX2_like_5 rfl 0 rfl ?_
  refine z_get (v := .ref v) hC hH 6 in_X2 rfl 0 (by decide) q139 0 rfl rfl dX2_like_6 ?_
  refine z_iconst hC 9 dX2_like_9 ?_
  refine z_bipush hC 10 dX2_like_10 rfl ?_
  refine z_copyi hC hH hl.1 12 4 1 rfl rfl rfl q694 ⟨Nat.le_of_ble_eq_true rfl, Nat.le_of_ble_eq_true rfl⟩ dX2_like_12 (fun H locs hH => ?_)
  have hH : zH s0 s1 G as0 (rw3 G o v w m a2 b ++ rw3 G o2 v2 w2 m2 a2 b2) H locs := hH
  refine z_aload_n hC 15 hl dX2_like_15 rfl 1 rfl ?_
  refine z_get (v := .ref w2) hC hH 16 in_X2 rfl 1 (by decide) q142 3 rfl rfl dX2_like_16 ?_
  refine z_iconst hC 19 dX2_like_19 ?_
  refine z_aload_n hC 20 hl dX2_like_20 rfl 0 rfl ?_
  refine z_get (v := .ref w) hC hH 21 in_X2 rfl 1 (by decide) q142 0 rfl rfl dX2_like_21 ?_
  refine z_iconst hC 24 dX2_like_24 ?_
  refine z_bipush hC 25 dX2_like_25 rfl ?_
  refine z_copyi hC hH hl.1 27 5 2 rfl rfl rfl q694 ⟨Nat.le_of_ble_eq_true rfl, Nat.le_of_ble_eq_true rfl⟩ dX2_like_27 (fun H locs hH => ?_)
  have hH : zH s0 s1 G as0 (rw3 G o v w m a2 b2 ++ rw3 G o2 v2 w2 m2 a2 b2) H locs := hH
  refine z_aload_n hC 30 hl dX2_like_30 rfl 0 rfl ?_
  refine z_aload_n hC 31 hl dX2_like_31 rfl 1 rfl ?_
  refine z_get (v := .int (iZ m2)) hC hH 32 in_X2 rfl 2 (by decide) q147 3 rfl rfl dX2_like_32 ?_
  refine z_put hC hH 35 tyX2 in_X2 tyX2_ok nmX2 rfl 2 (by decide) q147 0 rfl rfl rfl rfl (Nat.le_of_ble_eq_true rfl) rfl dX2_like_35 (fun H locs hH => ?_)
  have hH : zH s0 s1 G as0 (rw3 G o v w m2 a2 b2 ++ rw3 G o2 v2 w2 m2 a2 b2) H locs := hH
  refine z_aload_n hC 38 hl dX2_like_38 rfl 0 rfl ?_
  exact z_aret hC hH hQ 39 () dX2_like_39 rfl trivial rfl (Nat.le_refl _) (Nat.le_refl _)
