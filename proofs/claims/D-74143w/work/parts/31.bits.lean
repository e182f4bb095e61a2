/-! shifts and masks; what feed lays on the tape -/
set_option maxRecDepth 100000
def zshr (a b : Int) : Int := (iZ a >>> (iZ b &&& 31)).toInt
def zand (a b : Int) : Int := (iZ a &&& iZ b).toInt
def bytN (z : Int) (k : Nat) : Nat := (z / 2 ^ (24 - 8 * k) % 256).toNat
def wd5 (a b c d e : Int) (k : Nat) : Int := if k < 4 then a else if k < 8 then b else if k < 12 then c else if k < 16 then d else e
def fedF (t : Nat → Nat) (tp : Nat) (a b c d e : Int) (k : Nat) : Nat → Nat := fun p => if tp ≤ p ∧ p < tp + k then bytN (wd5 a b c d e (p - tp)) ((p - tp) % 4) else t p
def Sp_feed (t : Nat → Nat) (tp : Nat) (a b c d e : Int) (r : Int) (tp2 : Nat) (t2 : Nat → Nat) : Prop :=
  if 880 < tp then r = -1 ∧ tp2 = tp ∧ t2 = t else r = ((tp + 20 : Nat) : Int) ∧ tp2 = tp + 20 ∧ t2 = fedF t tp a b c d e 20
theorem zshr_eq (a b : Int) : iZ a >>> (iZ b &&& 31) = iZ (zshr a b) := iZ_of _
theorem zand_eq (a b : Int) : iZ a &&& iZ b = iZ (zand a b) := iZ_of _
theorem zshr_rng (a b : Int) : -2147483648 ≤ zshr a b ∧ zshr a b < 2147483648 := iZ_rng _
theorem bv256 (y : Int32) : ((y.toBitVec.toNat % 2 ^ 8 : Nat) : Int) = y.toInt % 256 := by
  have h := BitVec.toInt_eq_toNat_cond y.toBitVec
  have h2 : y.toInt = y.toBitVec.toInt := rfl
  rw [h2, h]
  have h3 := y.toBitVec.isLt
  split <;> omega
theorem z_byt {z : Int} {k : Nat} (hz : -2147483648 ≤ z ∧ z < 2147483648) (hk : k < 4) : zand (zshr z (24 - 8 * (k : Int))) 255 = (bytN z k : Int) := by
  have h1 : (iZ (zshr z (24 - 8 * (k : Int))) &&& iZ 255) = nI ((iZ (zshr z (24 - 8 * (k : Int)))).toBitVec.toNat % 2 ^ 8) := pk_and _ 8 (by decide)
  unfold zand
  rw [h1, ← iZ_nI, bv256, iZ_toInt (zshr_rng _ _)]
  have h4 : zshr z (24 - 8 * (k : Int)) = z / 2 ^ (24 - 8 * k) := by
    have q : ∀ (j : Nat) (s : Int32), (s.toBitVec.smod 32).toNat = j → (iZ z >>> s).toInt = z / 2 ^ j := by
      intro j s hs
      rw [pk_shr _ _ j hs, iZ_toInt hz, Int.shiftRight_eq_div_pow]
      rfl
    unfold zshr
    rcases (show k = 0 ∨ k = 1 ∨ k = 2 ∨ k = 3 from by omega) with rfl | rfl | rfl | rfl
    · exact q 24 _ (by decide)
    · exact q 16 _ (by decide)
    · exact q 8 _ (by decide)
    · exact q 0 _ (by decide)
  rw [h4]
  unfold bytN
  rw [iZ_toInt (by omega), Int.toNat_of_nonneg (Int.emod_nonneg _ (by decide))]
theorem z_byt2 {z sh : Int} {k : Nat} (hz : -2147483648 ≤ z ∧ z < 2147483648) (hk : k < 4) (hs : sh = 24 - 8 * (k : Int)) : zand (zshr z sh) 255 = (bytN z k : Int) := by
  rw [hs]
  exact z_byt hz hk
theorem bytN_lt (z : Int) (k : Nat) : bytN z k < 256 := by unfold bytN; omega
theorem wd5_rng {a b c d e : Int} {k : Nat} (ha : -2147483648 ≤ a ∧ a < 2147483648) (hb : -2147483648 ≤ b ∧ b < 2147483648) (hc : -2147483648 ≤ c ∧ c < 2147483648) (hd : -2147483648 ≤ d ∧ d < 2147483648) (he : -2147483648 ≤ e ∧ e < 2147483648) : -2147483648 ≤ wd5 a b c d e k ∧ wd5 a b c d e k < 2147483648 := by
  unfold wd5
  repeat' split
  all_goals assumption
theorem fedF_0 {t : Nat → Nat} {tp : Nat} {a b c d e : Int} : fedF t tp a b c d e 0 = t := by
  funext p
  unfold fedF
  rw [if_neg (by omega)]
theorem fedF_s {t : Nat → Nat} {tp k : Nat} {a b c d e : Int} : va_up (fedF t tp a b c d e k) (tp + k) (bytN (wd5 a b c d e k) (k % 4)) = fedF t tp a b c d e (k + 1) := by
  funext p
  unfold va_up fedF
  by_cases h : p = tp + k
  · rw [if_pos h, if_pos (by omega), h, show tp + k - tp = k from by omega]
  · rw [if_neg h]
    by_cases h2 : tp ≤ p ∧ p < tp + k
    · rw [if_pos h2, if_pos (by omega)]
    · rw [if_neg h2, if_neg (by omega)]
section BITS
variable {pg : Program} {l : Launch} {ev : Env} {R : Room} {s0 s : State} {m : MethodId} {ar : Array Value} {bl : List Frame} {me : Method} {c : Code} {H : Heap} {locs : List Loc} {ce sl : Nat} {Q : State → Prop} {G : zG} {cc : ByteArray} {nL : Nat} {own : String} {ret : Option FieldType} {ls : Array Slot} {st : List Value}
theorem z_ishr (C : zC pg s0 s m ar me c G cc nL own ret) (pc : Nat) {a b e : Int} (hdg : decode cc pc = .ok (.ishr, 1)) (he : zshr a b = e) (kk : W pg l ev R s m ar bl me c H locs ce sl Q (F0 m (pc + 1) ls (.int (iZ e) :: st))) : W pg l ev R s m ar bl me c H locs ce sl Q (F0 m pc ls (.int (iZ b) :: .int (iZ a) :: st)) := lv_ishr C.1.1 C.1.2.1 hdg (by rw [zshr_eq, he]; exact kk)
theorem z_iand (C : zC pg s0 s m ar me c G cc nL own ret) (pc : Nat) {a b e : Int} (hdg : decode cc pc = .ok (.iand, 1)) (he : zand a b = e) (kk : W pg l ev R s m ar bl me c H locs ce sl Q (F0 m (pc + 1) ls (.int (iZ e) :: st))) : W pg l ev R s m ar bl me c H locs ce sl Q (F0 m pc ls (.int (iZ b) :: .int (iZ a) :: st)) := lv_iand C.1.1 C.1.2.1 hdg (by rw [zand_eq, he]; exact kk)
end BITS
