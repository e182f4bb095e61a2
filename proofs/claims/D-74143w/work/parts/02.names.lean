/-! DECODE ROWS BY BYTES: one lemma an opcode; a method's code is cut into short pieces once, and a row reads its own piece alone. -/
set_option maxRecDepth 100000
/-- the code has just these bytes from pc on -/
def DkAt (code : ByteArray) (pc : Nat) (bs : List UInt8) : Prop := ∀ (j : Nat) (b : UInt8), bs[j]? = some b → code.data.toList[pc + j]? = some b
/-- the piece W has the bytes bs from its place j on -/
def dkIn (W : List UInt8) (j : Nat) (bs : List UInt8) : Bool := decide ((W.drop j).take bs.length = bs)
theorem dk_seg {l W T : List UInt8} {o o2 : Nat} (h : l.drop o = W ++ T) (n : Nat) (hn : W.length = n) (ho : o + n = o2) : l.drop o2 = T := by
  subst ho
  rw [← List.drop_drop, h, List.drop_left' hn]
theorem dk_at {code : ByteArray} {W T bs : List UInt8} {o pc : Nat} (h : code.data.toList.drop o = W ++ T) (j : Nat) (hp : o + j = pc) (hw : dkIn W j bs = true) : DkAt code pc bs := by
  subst hp
  intro i b e
  have h1 := of_decide_eq_true hw
  have h2 : i < bs.length := (List.getElem?_eq_some_iff.mp e).1
  have h3 : W[j + i]? = some b := by
    rw [← h1, List.getElem?_take, if_pos h2, List.getElem?_drop] at e
    exact e
  have h4 : j + i < W.length := (List.getElem?_eq_some_iff.mp h3).1
  have h5 : (code.data.toList.drop o)[j + i]? = some b := by
    rw [h, List.getElem?_append_left h4]
    exact h3
  rw [List.getElem?_drop, ← Nat.add_assoc] at h5
  exact h5
theorem dk_u1 {A : ByteArray} {p : Nat} {b : UInt8} (h : A.data.toList[p]? = some b) : (Reader.u1 : Reader DecodeError Nat) A p = .ok (b.toNat, p + 1) := by
  obtain ⟨h1, h2⟩ := List.getElem?_eq_some_iff.mp h
  have h3 : p < A.size := by simpa using h1
  have h4 : A[p]'h3 = b := h2
  have e : (Reader.u1 : Reader DecodeError Nat) A p = (if h : p < A.size then .ok (A[p].toNat, p + 1) else .error (HasTruncated.truncated p)) := by
    show (do if h : p < A.size then do set (p + 1); Pure.pure A[p].toNat else MonadExcept.throw (HasTruncated.truncated p) : Reader DecodeError Nat) A p = _
    by_cases hi : p < A.size
    · rw [dif_pos hi, dif_pos hi]; rfl
    · rw [dif_neg hi, dif_neg hi]; rfl
  rw [e, dif_pos h3, h4]
theorem dk_bind {α β : Type} {r : Reader DecodeError α} {f : α → Reader DecodeError β} {A : ByteArray} {p s : Nat} {a : α} (h : r A p = .ok (a, s)) : (r >>= f) A p = f a A s := by
  show (do let (a, s) ← r A p; f a A s : Except DecodeError (β × Nat)) = _
  rw [h]
  rfl
theorem dk_map {α β : Type} {r : Reader DecodeError α} {g : α → β} {A : ByteArray} {p s : Nat} {a : α} (h : r A p = .ok (a, s)) : (g <$> r) A p = .ok (g a, s) := by
  show (do let (a, s) ← r A p; .ok (g a, s) : Except DecodeError (β × Nat)) = _
  rw [h]
  rfl
theorem dk_u2 {A : ByteArray} {p : Nat} {a b : UInt8} (h : A.data.toList[p]? = some a) (h2 : A.data.toList[p + 1]? = some b) : (Reader.u2 : Reader DecodeError Nat) A p = .ok (a.toNat * 256 + b.toNat, p + 2) := by
  show (Reader.u1 >>= fun hi => Reader.u1 >>= fun lo => Pure.pure (hi * 256 + lo) : Reader DecodeError Nat) A p = _
  rw [dk_bind (dk_u1 h), dk_bind (dk_u1 h2)]
  rfl
theorem dk_of {code : ByteArray} {pc n : Nat} {i : Instr} (h : Decoder.instr pc code pc = .ok (i, pc + n)) : decode code pc = .ok (i, n) := by
  have e : decode code pc = (match Decoder.instr pc code pc with | .error x => .error x | .ok (j, s) => .ok (j, s - pc)) := by
    show (do let (j, s) ← Decoder.instr pc code pc; Pure.pure (j, s - pc) : Except DecodeError (Instr × Nat)) = _
    cases Decoder.instr pc code pc <;> rfl
  rw [e, h]
  show Except.ok (i, pc + n - pc) = _
  rw [Nat.add_sub_cancel_left]
theorem dk_1 {code : ByteArray} {pc : Nat} (h : DkAt code pc [1]) : decode code pc = .ok (.aconst_null, 1) := dk_of ((dk_bind (dk_u1 (h 0 _ rfl))).trans rfl)
theorem dk_2 {code : ByteArray} {pc : Nat} (h : DkAt code pc [2]) : decode code pc = .ok (.iconst (-1), 1) := dk_of ((dk_bind (dk_u1 (h 0 _ rfl))).trans rfl)
theorem dk_3 {code : ByteArray} {pc : Nat} (h : DkAt code pc [3]) : decode code pc = .ok (.iconst 0, 1) := dk_of ((dk_bind (dk_u1 (h 0 _ rfl))).trans rfl)
theorem dk_4 {code : ByteArray} {pc : Nat} (h : DkAt code pc [4]) : decode code pc = .ok (.iconst 1, 1) := dk_of ((dk_bind (dk_u1 (h 0 _ rfl))).trans rfl)
theorem dk_5 {code : ByteArray} {pc : Nat} (h : DkAt code pc [5]) : decode code pc = .ok (.iconst 2, 1) := dk_of ((dk_bind (dk_u1 (h 0 _ rfl))).trans rfl)
theorem dk_6 {code : ByteArray} {pc : Nat} (h : DkAt code pc [6]) : decode code pc = .ok (.iconst 3, 1) := dk_of ((dk_bind (dk_u1 (h 0 _ rfl))).trans rfl)
theorem dk_7 {code : ByteArray} {pc : Nat} (h : DkAt code pc [7]) : decode code pc = .ok (.iconst 4, 1) := dk_of ((dk_bind (dk_u1 (h 0 _ rfl))).trans rfl)
theorem dk_8 {code : ByteArray} {pc : Nat} (h : DkAt code pc [8]) : decode code pc = .ok (.iconst 5, 1) := dk_of ((dk_bind (dk_u1 (h 0 _ rfl))).trans rfl)
theorem dk_9 {code : ByteArray} {pc : Nat} (h : DkAt code pc [9]) : decode code pc = .ok (.lconst 0, 1) := dk_of ((dk_bind (dk_u1 (h 0 _ rfl))).trans rfl)
theorem dk_10 {code : ByteArray} {pc : Nat} (h : DkAt code pc [10]) : decode code pc = .ok (.lconst 1, 1) := dk_of ((dk_bind (dk_u1 (h 0 _ rfl))).trans rfl)
theorem dk_16 {code : ByteArray} {pc : Nat} (a : UInt8) (h : DkAt code pc [16, a]) : decode code pc = .ok (.bipush (Reader.signed 8 a.toNat), 2) := dk_of ((dk_bind (dk_u1 (h 0 _ rfl))).trans ((dk_bind (dk_map (dk_u1 (h 1 _ rfl)))).trans rfl))
theorem dk_17 {code : ByteArray} {pc : Nat} (a b : UInt8) (h : DkAt code pc [17, a, b]) : decode code pc = .ok (.sipush (Reader.signed 16 (a.toNat * 256 + b.toNat)), 3) := dk_of ((dk_bind (dk_u1 (h 0 _ rfl))).trans ((dk_bind (dk_map (dk_u2 (h 1 _ rfl) (h 2 _ rfl)))).trans rfl))
theorem dk_18 {code : ByteArray} {pc : Nat} (a : UInt8) (h : DkAt code pc [18, a]) : decode code pc = .ok (.ldc a.toNat, 2) := dk_of ((dk_bind (dk_u1 (h 0 _ rfl))).trans ((dk_bind (dk_u1 (h 1 _ rfl))).trans rfl))
theorem dk_19 {code : ByteArray} {pc : Nat} (a b : UInt8) (h : DkAt code pc [19, a, b]) : decode code pc = .ok (.ldc_w (a.toNat * 256 + b.toNat), 3) := dk_of ((dk_bind (dk_u1 (h 0 _ rfl))).trans ((dk_bind (dk_u2 (h 1 _ rfl) (h 2 _ rfl))).trans rfl))
theorem dk_20 {code : ByteArray} {pc : Nat} (a b : UInt8) (h : DkAt code pc [20, a, b]) : decode code pc = .ok (.ldc2_w (a.toNat * 256 + b.toNat), 3) := dk_of ((dk_bind (dk_u1 (h 0 _ rfl))).trans ((dk_bind (dk_u2 (h 1 _ rfl) (h 2 _ rfl))).trans rfl))
theorem dk_21 {code : ByteArray} {pc : Nat} (a : UInt8) (h : DkAt code pc [21, a]) : decode code pc = .ok (.iload a.toNat, 2) := dk_of ((dk_bind (dk_u1 (h 0 _ rfl))).trans ((dk_bind (dk_u1 (h 1 _ rfl))).trans rfl))
theorem dk_22 {code : ByteArray} {pc : Nat} (a : UInt8) (h : DkAt code pc [22, a]) : decode code pc = .ok (.lload a.toNat, 2) := dk_of ((dk_bind (dk_u1 (h 0 _ rfl))).trans ((dk_bind (dk_u1 (h 1 _ rfl))).trans rfl))
theorem dk_25 {code : ByteArray} {pc : Nat} (a : UInt8) (h : DkAt code pc [25, a]) : decode code pc = .ok (.aload a.toNat, 2) := dk_of ((dk_bind (dk_u1 (h 0 _ rfl))).trans ((dk_bind (dk_u1 (h 1 _ rfl))).trans rfl))
theorem dk_26 {code : ByteArray} {pc : Nat} (h : DkAt code pc [26]) : decode code pc = .ok (.iload_n 0, 1) := dk_of ((dk_bind (dk_u1 (h 0 _ rfl))).trans rfl)
theorem dk_27 {code : ByteArray} {pc : Nat} (h : DkAt code pc [27]) : decode code pc = .ok (.iload_n 1, 1) := dk_of ((dk_bind (dk_u1 (h 0 _ rfl))).trans rfl)
theorem dk_28 {code : ByteArray} {pc : Nat} (h : DkAt code pc [28]) : decode code pc = .ok (.iload_n 2, 1) := dk_of ((dk_bind (dk_u1 (h 0 _ rfl))).trans rfl)
theorem dk_29 {code : ByteArray} {pc : Nat} (h : DkAt code pc [29]) : decode code pc = .ok (.iload_n 3, 1) := dk_of ((dk_bind (dk_u1 (h 0 _ rfl))).trans rfl)
theorem dk_30 {code : ByteArray} {pc : Nat} (h : DkAt code pc [30]) : decode code pc = .ok (.lload_n 0, 1) := dk_of ((dk_bind (dk_u1 (h 0 _ rfl))).trans rfl)
theorem dk_32 {code : ByteArray} {pc : Nat} (h : DkAt code pc [32]) : decode code pc = .ok (.lload_n 2, 1) := dk_of ((dk_bind (dk_u1 (h 0 _ rfl))).trans rfl)
theorem dk_42 {code : ByteArray} {pc : Nat} (h : DkAt code pc [42]) : decode code pc = .ok (.aload_n 0, 1) := dk_of ((dk_bind (dk_u1 (h 0 _ rfl))).trans rfl)
theorem dk_43 {code : ByteArray} {pc : Nat} (h : DkAt code pc [43]) : decode code pc = .ok (.aload_n 1, 1) := dk_of ((dk_bind (dk_u1 (h 0 _ rfl))).trans rfl)
theorem dk_44 {code : ByteArray} {pc : Nat} (h : DkAt code pc [44]) : decode code pc = .ok (.aload_n 2, 1) := dk_of ((dk_bind (dk_u1 (h 0 _ rfl))).trans rfl)
theorem dk_45 {code : ByteArray} {pc : Nat} (h : DkAt code pc [45]) : decode code pc = .ok (.aload_n 3, 1) := dk_of ((dk_bind (dk_u1 (h 0 _ rfl))).trans rfl)
theorem dk_46 {code : ByteArray} {pc : Nat} (h : DkAt code pc [46]) : decode code pc = .ok (.iaload, 1) := dk_of ((dk_bind (dk_u1 (h 0 _ rfl))).trans rfl)
theorem dk_47 {code : ByteArray} {pc : Nat} (h : DkAt code pc [47]) : decode code pc = .ok (.laload, 1) := dk_of ((dk_bind (dk_u1 (h 0 _ rfl))).trans rfl)
theorem dk_50 {code : ByteArray} {pc : Nat} (h : DkAt code pc [50]) : decode code pc = .ok (.aaload, 1) := dk_of ((dk_bind (dk_u1 (h 0 _ rfl))).trans rfl)
theorem dk_51 {code : ByteArray} {pc : Nat} (h : DkAt code pc [51]) : decode code pc = .ok (.baload, 1) := dk_of ((dk_bind (dk_u1 (h 0 _ rfl))).trans rfl)
theorem dk_54 {code : ByteArray} {pc : Nat} (a : UInt8) (h : DkAt code pc [54, a]) : decode code pc = .ok (.istore a.toNat, 2) := dk_of ((dk_bind (dk_u1 (h 0 _ rfl))).trans ((dk_bind (dk_u1 (h 1 _ rfl))).trans rfl))
theorem dk_58 {code : ByteArray} {pc : Nat} (a : UInt8) (h : DkAt code pc [58, a]) : decode code pc = .ok (.astore a.toNat, 2) := dk_of ((dk_bind (dk_u1 (h 0 _ rfl))).trans ((dk_bind (dk_u1 (h 1 _ rfl))).trans rfl))
theorem dk_60 {code : ByteArray} {pc : Nat} (h : DkAt code pc [60]) : decode code pc = .ok (.istore_n 1, 1) := dk_of ((dk_bind (dk_u1 (h 0 _ rfl))).trans rfl)
theorem dk_61 {code : ByteArray} {pc : Nat} (h : DkAt code pc [61]) : decode code pc = .ok (.istore_n 2, 1) := dk_of ((dk_bind (dk_u1 (h 0 _ rfl))).trans rfl)
theorem dk_62 {code : ByteArray} {pc : Nat} (h : DkAt code pc [62]) : decode code pc = .ok (.istore_n 3, 1) := dk_of ((dk_bind (dk_u1 (h 0 _ rfl))).trans rfl)
theorem dk_76 {code : ByteArray} {pc : Nat} (h : DkAt code pc [76]) : decode code pc = .ok (.astore_n 1, 1) := dk_of ((dk_bind (dk_u1 (h 0 _ rfl))).trans rfl)
theorem dk_77 {code : ByteArray} {pc : Nat} (h : DkAt code pc [77]) : decode code pc = .ok (.astore_n 2, 1) := dk_of ((dk_bind (dk_u1 (h 0 _ rfl))).trans rfl)
theorem dk_78 {code : ByteArray} {pc : Nat} (h : DkAt code pc [78]) : decode code pc = .ok (.astore_n 3, 1) := dk_of ((dk_bind (dk_u1 (h 0 _ rfl))).trans rfl)
theorem dk_79 {code : ByteArray} {pc : Nat} (h : DkAt code pc [79]) : decode code pc = .ok (.iastore, 1) := dk_of ((dk_bind (dk_u1 (h 0 _ rfl))).trans rfl)
theorem dk_80 {code : ByteArray} {pc : Nat} (h : DkAt code pc [80]) : decode code pc = .ok (.lastore, 1) := dk_of ((dk_bind (dk_u1 (h 0 _ rfl))).trans rfl)
theorem dk_83 {code : ByteArray} {pc : Nat} (h : DkAt code pc [83]) : decode code pc = .ok (.aastore, 1) := dk_of ((dk_bind (dk_u1 (h 0 _ rfl))).trans rfl)
theorem dk_84 {code : ByteArray} {pc : Nat} (h : DkAt code pc [84]) : decode code pc = .ok (.bastore, 1) := dk_of ((dk_bind (dk_u1 (h 0 _ rfl))).trans rfl)
theorem dk_87 {code : ByteArray} {pc : Nat} (h : DkAt code pc [87]) : decode code pc = .ok (.pop, 1) := dk_of ((dk_bind (dk_u1 (h 0 _ rfl))).trans rfl)
theorem dk_89 {code : ByteArray} {pc : Nat} (h : DkAt code pc [89]) : decode code pc = .ok (.dup, 1) := dk_of ((dk_bind (dk_u1 (h 0 _ rfl))).trans rfl)
theorem dk_90 {code : ByteArray} {pc : Nat} (h : DkAt code pc [90]) : decode code pc = .ok (.dup_x1, 1) := dk_of ((dk_bind (dk_u1 (h 0 _ rfl))).trans rfl)
theorem dk_92 {code : ByteArray} {pc : Nat} (h : DkAt code pc [92]) : decode code pc = .ok (.dup2, 1) := dk_of ((dk_bind (dk_u1 (h 0 _ rfl))).trans rfl)
theorem dk_96 {code : ByteArray} {pc : Nat} (h : DkAt code pc [96]) : decode code pc = .ok (.iadd, 1) := dk_of ((dk_bind (dk_u1 (h 0 _ rfl))).trans rfl)
theorem dk_100 {code : ByteArray} {pc : Nat} (h : DkAt code pc [100]) : decode code pc = .ok (.isub, 1) := dk_of ((dk_bind (dk_u1 (h 0 _ rfl))).trans rfl)
theorem dk_104 {code : ByteArray} {pc : Nat} (h : DkAt code pc [104]) : decode code pc = .ok (.imul, 1) := dk_of ((dk_bind (dk_u1 (h 0 _ rfl))).trans rfl)
theorem dk_108 {code : ByteArray} {pc : Nat} (h : DkAt code pc [108]) : decode code pc = .ok (.idiv, 1) := dk_of ((dk_bind (dk_u1 (h 0 _ rfl))).trans rfl)
theorem dk_112 {code : ByteArray} {pc : Nat} (h : DkAt code pc [112]) : decode code pc = .ok (.irem, 1) := dk_of ((dk_bind (dk_u1 (h 0 _ rfl))).trans rfl)
theorem dk_120 {code : ByteArray} {pc : Nat} (h : DkAt code pc [120]) : decode code pc = .ok (.ishl, 1) := dk_of ((dk_bind (dk_u1 (h 0 _ rfl))).trans rfl)
theorem dk_122 {code : ByteArray} {pc : Nat} (h : DkAt code pc [122]) : decode code pc = .ok (.ishr, 1) := dk_of ((dk_bind (dk_u1 (h 0 _ rfl))).trans rfl)
theorem dk_124 {code : ByteArray} {pc : Nat} (h : DkAt code pc [124]) : decode code pc = .ok (.iushr, 1) := dk_of ((dk_bind (dk_u1 (h 0 _ rfl))).trans rfl)
theorem dk_126 {code : ByteArray} {pc : Nat} (h : DkAt code pc [126]) : decode code pc = .ok (.iand, 1) := dk_of ((dk_bind (dk_u1 (h 0 _ rfl))).trans rfl)
theorem dk_128 {code : ByteArray} {pc : Nat} (h : DkAt code pc [128]) : decode code pc = .ok (.ior, 1) := dk_of ((dk_bind (dk_u1 (h 0 _ rfl))).trans rfl)
theorem dk_132 {code : ByteArray} {pc : Nat} (a b : UInt8) (h : DkAt code pc [132, a, b]) : decode code pc = .ok (.iinc a.toNat (Reader.signed 8 b.toNat), 3) := dk_of ((dk_bind (dk_u1 (h 0 _ rfl))).trans ((dk_bind (dk_u1 (h 1 _ rfl))).trans ((dk_bind (dk_map (dk_u1 (h 2 _ rfl)))).trans rfl)))
theorem dk_133 {code : ByteArray} {pc : Nat} (h : DkAt code pc [133]) : decode code pc = .ok (.i2l, 1) := dk_of ((dk_bind (dk_u1 (h 0 _ rfl))).trans rfl)
theorem dk_145 {code : ByteArray} {pc : Nat} (h : DkAt code pc [145]) : decode code pc = .ok (.i2b, 1) := dk_of ((dk_bind (dk_u1 (h 0 _ rfl))).trans rfl)
theorem dk_146 {code : ByteArray} {pc : Nat} (h : DkAt code pc [146]) : decode code pc = .ok (.i2c, 1) := dk_of ((dk_bind (dk_u1 (h 0 _ rfl))).trans rfl)
theorem dk_148 {code : ByteArray} {pc : Nat} (h : DkAt code pc [148]) : decode code pc = .ok (.lcmp, 1) := dk_of ((dk_bind (dk_u1 (h 0 _ rfl))).trans rfl)
theorem dk_153 {code : ByteArray} {pc : Nat} (a b : UInt8) (h : DkAt code pc [153, a, b]) : decode code pc = .ok (.ifCond .eq (Reader.signed 16 (a.toNat * 256 + b.toNat)), 3) := dk_of ((dk_bind (dk_u1 (h 0 _ rfl))).trans ((dk_bind (dk_map (dk_u2 (h 1 _ rfl) (h 2 _ rfl)))).trans rfl))
theorem dk_154 {code : ByteArray} {pc : Nat} (a b : UInt8) (h : DkAt code pc [154, a, b]) : decode code pc = .ok (.ifCond .ne (Reader.signed 16 (a.toNat * 256 + b.toNat)), 3) := dk_of ((dk_bind (dk_u1 (h 0 _ rfl))).trans ((dk_bind (dk_map (dk_u2 (h 1 _ rfl) (h 2 _ rfl)))).trans rfl))
theorem dk_155 {code : ByteArray} {pc : Nat} (a b : UInt8) (h : DkAt code pc [155, a, b]) : decode code pc = .ok (.ifCond .lt (Reader.signed 16 (a.toNat * 256 + b.toNat)), 3) := dk_of ((dk_bind (dk_u1 (h 0 _ rfl))).trans ((dk_bind (dk_map (dk_u2 (h 1 _ rfl) (h 2 _ rfl)))).trans rfl))
theorem dk_156 {code : ByteArray} {pc : Nat} (a b : UInt8) (h : DkAt code pc [156, a, b]) : decode code pc = .ok (.ifCond .ge (Reader.signed 16 (a.toNat * 256 + b.toNat)), 3) := dk_of ((dk_bind (dk_u1 (h 0 _ rfl))).trans ((dk_bind (dk_map (dk_u2 (h 1 _ rfl) (h 2 _ rfl)))).trans rfl))
theorem dk_157 {code : ByteArray} {pc : Nat} (a b : UInt8) (h : DkAt code pc [157, a, b]) : decode code pc = .ok (.ifCond .gt (Reader.signed 16 (a.toNat * 256 + b.toNat)), 3) := dk_of ((dk_bind (dk_u1 (h 0 _ rfl))).trans ((dk_bind (dk_map (dk_u2 (h 1 _ rfl) (h 2 _ rfl)))).trans rfl))
theorem dk_158 {code : ByteArray} {pc : Nat} (a b : UInt8) (h : DkAt code pc [158, a, b]) : decode code pc = .ok (.ifCond .le (Reader.signed 16 (a.toNat * 256 + b.toNat)), 3) := dk_of ((dk_bind (dk_u1 (h 0 _ rfl))).trans ((dk_bind (dk_map (dk_u2 (h 1 _ rfl) (h 2 _ rfl)))).trans rfl))
theorem dk_159 {code : ByteArray} {pc : Nat} (a b : UInt8) (h : DkAt code pc [159, a, b]) : decode code pc = .ok (.if_icmp .eq (Reader.signed 16 (a.toNat * 256 + b.toNat)), 3) := dk_of ((dk_bind (dk_u1 (h 0 _ rfl))).trans ((dk_bind (dk_map (dk_u2 (h 1 _ rfl) (h 2 _ rfl)))).trans rfl))
theorem dk_160 {code : ByteArray} {pc : Nat} (a b : UInt8) (h : DkAt code pc [160, a, b]) : decode code pc = .ok (.if_icmp .ne (Reader.signed 16 (a.toNat * 256 + b.toNat)), 3) := dk_of ((dk_bind (dk_u1 (h 0 _ rfl))).trans ((dk_bind (dk_map (dk_u2 (h 1 _ rfl) (h 2 _ rfl)))).trans rfl))
theorem dk_161 {code : ByteArray} {pc : Nat} (a b : UInt8) (h : DkAt code pc [161, a, b]) : decode code pc = .ok (.if_icmp .lt (Reader.signed 16 (a.toNat * 256 + b.toNat)), 3) := dk_of ((dk_bind (dk_u1 (h 0 _ rfl))).trans ((dk_bind (dk_map (dk_u2 (h 1 _ rfl) (h 2 _ rfl)))).trans rfl))
theorem dk_162 {code : ByteArray} {pc : Nat} (a b : UInt8) (h : DkAt code pc [162, a, b]) : decode code pc = .ok (.if_icmp .ge (Reader.signed 16 (a.toNat * 256 + b.toNat)), 3) := dk_of ((dk_bind (dk_u1 (h 0 _ rfl))).trans ((dk_bind (dk_map (dk_u2 (h 1 _ rfl) (h 2 _ rfl)))).trans rfl))
theorem dk_163 {code : ByteArray} {pc : Nat} (a b : UInt8) (h : DkAt code pc [163, a, b]) : decode code pc = .ok (.if_icmp .gt (Reader.signed 16 (a.toNat * 256 + b.toNat)), 3) := dk_of ((dk_bind (dk_u1 (h 0 _ rfl))).trans ((dk_bind (dk_map (dk_u2 (h 1 _ rfl) (h 2 _ rfl)))).trans rfl))
theorem dk_164 {code : ByteArray} {pc : Nat} (a b : UInt8) (h : DkAt code pc [164, a, b]) : decode code pc = .ok (.if_icmp .le (Reader.signed 16 (a.toNat * 256 + b.toNat)), 3) := dk_of ((dk_bind (dk_u1 (h 0 _ rfl))).trans ((dk_bind (dk_map (dk_u2 (h 1 _ rfl) (h 2 _ rfl)))).trans rfl))
theorem dk_166 {code : ByteArray} {pc : Nat} (a b : UInt8) (h : DkAt code pc [166, a, b]) : decode code pc = .ok (.if_acmp .ne (Reader.signed 16 (a.toNat * 256 + b.toNat)), 3) := dk_of ((dk_bind (dk_u1 (h 0 _ rfl))).trans ((dk_bind (dk_map (dk_u2 (h 1 _ rfl) (h 2 _ rfl)))).trans rfl))
theorem dk_167 {code : ByteArray} {pc : Nat} (a b : UInt8) (h : DkAt code pc [167, a, b]) : decode code pc = .ok (.goto (Reader.signed 16 (a.toNat * 256 + b.toNat)), 3) := dk_of ((dk_bind (dk_u1 (h 0 _ rfl))).trans ((dk_bind (dk_map (dk_u2 (h 1 _ rfl) (h 2 _ rfl)))).trans rfl))
theorem dk_172 {code : ByteArray} {pc : Nat} (h : DkAt code pc [172]) : decode code pc = .ok (.ireturn, 1) := dk_of ((dk_bind (dk_u1 (h 0 _ rfl))).trans rfl)
theorem dk_176 {code : ByteArray} {pc : Nat} (h : DkAt code pc [176]) : decode code pc = .ok (.areturn, 1) := dk_of ((dk_bind (dk_u1 (h 0 _ rfl))).trans rfl)
theorem dk_177 {code : ByteArray} {pc : Nat} (h : DkAt code pc [177]) : decode code pc = .ok (.return_, 1) := dk_of ((dk_bind (dk_u1 (h 0 _ rfl))).trans rfl)
theorem dk_178 {code : ByteArray} {pc : Nat} (a b : UInt8) (h : DkAt code pc [178, a, b]) : decode code pc = .ok (.getstatic (a.toNat * 256 + b.toNat), 3) := dk_of ((dk_bind (dk_u1 (h 0 _ rfl))).trans ((dk_bind (dk_u2 (h 1 _ rfl) (h 2 _ rfl))).trans rfl))
theorem dk_180 {code : ByteArray} {pc : Nat} (a b : UInt8) (h : DkAt code pc [180, a, b]) : decode code pc = .ok (.getfield (a.toNat * 256 + b.toNat), 3) := dk_of ((dk_bind (dk_u1 (h 0 _ rfl))).trans ((dk_bind (dk_u2 (h 1 _ rfl) (h 2 _ rfl))).trans rfl))
theorem dk_181 {code : ByteArray} {pc : Nat} (a b : UInt8) (h : DkAt code pc [181, a, b]) : decode code pc = .ok (.putfield (a.toNat * 256 + b.toNat), 3) := dk_of ((dk_bind (dk_u1 (h 0 _ rfl))).trans ((dk_bind (dk_u2 (h 1 _ rfl) (h 2 _ rfl))).trans rfl))
theorem dk_182 {code : ByteArray} {pc : Nat} (a b : UInt8) (h : DkAt code pc [182, a, b]) : decode code pc = .ok (.invokevirtual (a.toNat * 256 + b.toNat), 3) := dk_of ((dk_bind (dk_u1 (h 0 _ rfl))).trans ((dk_bind (dk_u2 (h 1 _ rfl) (h 2 _ rfl))).trans rfl))
theorem dk_183 {code : ByteArray} {pc : Nat} (a b : UInt8) (h : DkAt code pc [183, a, b]) : decode code pc = .ok (.invokespecial (a.toNat * 256 + b.toNat), 3) := dk_of ((dk_bind (dk_u1 (h 0 _ rfl))).trans ((dk_bind (dk_u2 (h 1 _ rfl) (h 2 _ rfl))).trans rfl))
theorem dk_184 {code : ByteArray} {pc : Nat} (a b : UInt8) (h : DkAt code pc [184, a, b]) : decode code pc = .ok (.invokestatic (a.toNat * 256 + b.toNat), 3) := dk_of ((dk_bind (dk_u1 (h 0 _ rfl))).trans ((dk_bind (dk_u2 (h 1 _ rfl) (h 2 _ rfl))).trans rfl))
theorem dk_187 {code : ByteArray} {pc : Nat} (a b : UInt8) (h : DkAt code pc [187, a, b]) : decode code pc = .ok (.new (a.toNat * 256 + b.toNat), 3) := dk_of ((dk_bind (dk_u1 (h 0 _ rfl))).trans ((dk_bind (dk_u2 (h 1 _ rfl) (h 2 _ rfl))).trans rfl))
theorem dk_188_4 {code : ByteArray} {pc : Nat} (h : DkAt code pc [188, 4]) : decode code pc = .ok (.newarray .boolean, 2) := dk_of ((dk_bind (dk_u1 (h 0 _ rfl))).trans ((dk_bind (dk_u1 (h 1 _ rfl))).trans rfl))
theorem dk_188_8 {code : ByteArray} {pc : Nat} (h : DkAt code pc [188, 8]) : decode code pc = .ok (.newarray .byte, 2) := dk_of ((dk_bind (dk_u1 (h 0 _ rfl))).trans ((dk_bind (dk_u1 (h 1 _ rfl))).trans rfl))
theorem dk_188_10 {code : ByteArray} {pc : Nat} (h : DkAt code pc [188, 10]) : decode code pc = .ok (.newarray .int, 2) := dk_of ((dk_bind (dk_u1 (h 0 _ rfl))).trans ((dk_bind (dk_u1 (h 1 _ rfl))).trans rfl))
theorem dk_188_11 {code : ByteArray} {pc : Nat} (h : DkAt code pc [188, 11]) : decode code pc = .ok (.newarray .long, 2) := dk_of ((dk_bind (dk_u1 (h 0 _ rfl))).trans ((dk_bind (dk_u1 (h 1 _ rfl))).trans rfl))
theorem dk_189 {code : ByteArray} {pc : Nat} (a b : UInt8) (h : DkAt code pc [189, a, b]) : decode code pc = .ok (.anewarray (a.toNat * 256 + b.toNat), 3) := dk_of ((dk_bind (dk_u1 (h 0 _ rfl))).trans ((dk_bind (dk_u2 (h 1 _ rfl) (h 2 _ rfl))).trans rfl))
theorem dk_190 {code : ByteArray} {pc : Nat} (h : DkAt code pc [190]) : decode code pc = .ok (.arraylength, 1) := dk_of ((dk_bind (dk_u1 (h 0 _ rfl))).trans rfl)
theorem dk_191 {code : ByteArray} {pc : Nat} (h : DkAt code pc [191]) : decode code pc = .ok (.athrow, 1) := dk_of ((dk_bind (dk_u1 (h 0 _ rfl))).trans rfl)
theorem dk_192 {code : ByteArray} {pc : Nat} (a b : UInt8) (h : DkAt code pc [192, a, b]) : decode code pc = .ok (.checkcast (a.toNat * 256 + b.toNat), 3) := dk_of ((dk_bind (dk_u1 (h 0 _ rfl))).trans ((dk_bind (dk_u2 (h 1 _ rfl) (h 2 _ rfl))).trans rfl))
theorem dk_193 {code : ByteArray} {pc : Nat} (a b : UInt8) (h : DkAt code pc [193, a, b]) : decode code pc = .ok (.instanceof (a.toNat * 256 + b.toNat), 3) := dk_of ((dk_bind (dk_u1 (h 0 _ rfl))).trans ((dk_bind (dk_u2 (h 1 _ rfl) (h 2 _ rfl))).trans rfl))
theorem dk_198 {code : ByteArray} {pc : Nat} (a b : UInt8) (h : DkAt code pc [198, a, b]) : decode code pc = .ok (.ifnull (Reader.signed 16 (a.toNat * 256 + b.toNat)), 3) := dk_of ((dk_bind (dk_u1 (h 0 _ rfl))).trans ((dk_bind (dk_map (dk_u2 (h 1 _ rfl) (h 2 _ rfl)))).trans rfl))
theorem dk_199 {code : ByteArray} {pc : Nat} (a b : UInt8) (h : DkAt code pc [199, a, b]) : decode code pc = .ok (.ifnonnull (Reader.signed 16 (a.toNat * 256 + b.toNat)), 3) := dk_of ((dk_bind (dk_u1 (h 0 _ rfl))).trans ((dk_bind (dk_map (dk_u2 (h 1 _ rfl) (h 2 _ rfl)))).trans rfl))
/-! java/lang/AbstractStringBuilder -/
set_option maxRecDepth 100000
def RJ0 : String := "java/lang/AbstractStringBuilder"
abbrev cJ0_init : ByteArray := prog_21_method_2_code
def yJ0_init : MethodName := ⟨RJ0, "<init>", "(I)V"⟩
def dkwJ0_init_1 : List UInt8 := [167, 0, 16, 42, 27, 184, 0, 26, 181, 0, 15, 42, 4, 181, 0, 22, 177]
abbrev dktJ0_init_1 : List UInt8 := dkwJ0_init_1 ++ []
def dkwJ0_init_0 : List UInt8 := [42, 183, 0, 3, 178, 0, 18, 153, 0, 18, 42, 27, 188, 8, 181, 0, 15, 42, 3, 181, 0, 22]
abbrev dktJ0_init_0 : List UInt8 := dkwJ0_init_0 ++ dktJ0_init_1
theorem dksJ0_init_0 : cJ0_init.data.toList.drop 0 = dktJ0_init_0 := by decide +kernel
theorem dksJ0_init_1 : cJ0_init.data.toList.drop 22 = dktJ0_init_1 := dk_seg dksJ0_init_0 22 rfl rfl
theorem dJ0_init_0 : decode cJ0_init 0 = .ok (.aload_n 0, 1) := dk_42 (dk_at dksJ0_init_0 0 rfl rfl)
theorem dJ0_init_1 : decode cJ0_init 1 = .ok (.invokespecial 3, 3) := dk_183 0 3 (dk_at dksJ0_init_0 1 rfl rfl)
theorem dJ0_init_4 : decode cJ0_init 4 = .ok (.getstatic 18, 3) := dk_178 0 18 (dk_at dksJ0_init_0 4 rfl rfl)
theorem dJ0_init_7 : decode cJ0_init 7 = .ok (.ifCond .eq 18, 3) := dk_153 0 18 (dk_at dksJ0_init_0 7 rfl rfl)
theorem dJ0_init_10 : decode cJ0_init 10 = .ok (.aload_n 0, 1) := dk_42 (dk_at dksJ0_init_0 10 rfl rfl)
theorem dJ0_init_11 : decode cJ0_init 11 = .ok (.iload_n 1, 1) := dk_27 (dk_at dksJ0_init_0 11 rfl rfl)
theorem dJ0_init_12 : decode cJ0_init 12 = .ok (.newarray .byte, 2) := dk_188_8 (dk_at dksJ0_init_0 12 rfl rfl)
theorem dJ0_init_14 : decode cJ0_init 14 = .ok (.putfield 15, 3) := dk_181 0 15 (dk_at dksJ0_init_0 14 rfl rfl)
theorem dJ0_init_17 : decode cJ0_init 17 = .ok (.aload_n 0, 1) := dk_42 (dk_at dksJ0_init_0 17 rfl rfl)
theorem dJ0_init_18 : decode cJ0_init 18 = .ok (.iconst 0, 1) := dk_3 (dk_at dksJ0_init_0 18 rfl rfl)
theorem dJ0_init_19 : decode cJ0_init 19 = .ok (.putfield 22, 3) := dk_181 0 22 (dk_at dksJ0_init_0 19 rfl rfl)
theorem dJ0_init_22 : decode cJ0_init 22 = .ok (.goto 16, 3) := dk_167 0 16 (dk_at dksJ0_init_1 0 rfl rfl)
theorem dJ0_init_25 : decode cJ0_init 25 = .ok (.aload_n 0, 1) := dk_42 (dk_at dksJ0_init_1 3 rfl rfl)
theorem dJ0_init_26 : decode cJ0_init 26 = .ok (.iload_n 1, 1) := dk_27 (dk_at dksJ0_init_1 4 rfl rfl)
theorem dJ0_init_27 : decode cJ0_init 27 = .ok (.invokestatic 26, 3) := dk_184 0 26 (dk_at dksJ0_init_1 5 rfl rfl)
theorem dJ0_init_30 : decode cJ0_init 30 = .ok (.putfield 15, 3) := dk_181 0 15 (dk_at dksJ0_init_1 8 rfl rfl)
theorem dJ0_init_33 : decode cJ0_init 33 = .ok (.aload_n 0, 1) := dk_42 (dk_at dksJ0_init_1 11 rfl rfl)
theorem dJ0_init_34 : decode cJ0_init 34 = .ok (.iconst 1, 1) := dk_4 (dk_at dksJ0_init_1 12 rfl rfl)
theorem dJ0_init_35 : decode cJ0_init 35 = .ok (.putfield 22, 3) := dk_181 0 22 (dk_at dksJ0_init_1 13 rfl rfl)
theorem dJ0_init_38 : decode cJ0_init 38 = .ok (.return_, 1) := dk_177 (dk_at dksJ0_init_1 16 rfl rfl)
abbrev cJ0_length : ByteArray := prog_21_method_6_code
def yJ0_length : MethodName := ⟨RJ0, "length", "()I"⟩
theorem dJ0_length_0 : decode cJ0_length 0 = .ok (.aload_n 0, 1) := by decide +kernel
theorem dJ0_length_1 : decode cJ0_length 1 = .ok (.getfield 79, 3) := by decide +kernel
theorem dJ0_length_4 : decode cJ0_length 4 = .ok (.ireturn, 1) := by decide +kernel
abbrev cJ0_append : ByteArray := prog_21_method_31_code
def yJ0_append : MethodName := ⟨RJ0, "append", "(C)Ljava/lang/AbstractStringBuilder;"⟩
def dkwJ0_append_3 : List UInt8 := [181, 0, 79, 27, 184, 0, 197, 42, 176]
abbrev dktJ0_append_3 : List UInt8 := dkwJ0_append_3 ++ []
def dkwJ0_append_2 : List UInt8 := [182, 0, 83, 153, 0, 7, 42, 182, 0, 195, 42, 180, 0, 15, 42, 89, 180, 0, 79, 90, 4, 96]
abbrev dktJ0_append_2 : List UInt8 := dkwJ0_append_2 ++ dktJ0_append_3
def dkwJ0_append_1 : List UInt8 := [42, 180, 0, 15, 42, 89, 180, 0, 79, 90, 4, 96, 181, 0, 79, 27, 145, 84, 167, 0, 33, 42]
abbrev dktJ0_append_1 : List UInt8 := dkwJ0_append_1 ++ dktJ0_append_2
def dkwJ0_append_0 : List UInt8 := [42, 42, 180, 0, 79, 4, 96, 182, 0, 100, 42, 182, 0, 83, 153, 0, 31, 27, 184, 0, 191, 153, 0, 24]
abbrev dktJ0_append_0 : List UInt8 := dkwJ0_append_0 ++ dktJ0_append_1
theorem dksJ0_append_0 : cJ0_append.data.toList.drop 0 = dktJ0_append_0 := by decide +kernel
theorem dksJ0_append_1 : cJ0_append.data.toList.drop 24 = dktJ0_append_1 := dk_seg dksJ0_append_0 24 rfl rfl
theorem dksJ0_append_2 : cJ0_append.data.toList.drop 46 = dktJ0_append_2 := dk_seg dksJ0_append_1 22 rfl rfl
theorem dksJ0_append_3 : cJ0_append.data.toList.drop 68 = dktJ0_append_3 := dk_seg dksJ0_append_2 22 rfl rfl
theorem dJ0_append_0 : decode cJ0_append 0 = .ok (.aload_n 0, 1) := dk_42 (dk_at dksJ0_append_0 0 rfl rfl)
theorem dJ0_append_1 : decode cJ0_append 1 = .ok (.aload_n 0, 1) := dk_42 (dk_at dksJ0_append_0 1 rfl rfl)
theorem dJ0_append_2 : decode cJ0_append 2 = .ok (.getfield 79, 3) := dk_180 0 79 (dk_at dksJ0_append_0 2 rfl rfl)
theorem dJ0_append_5 : decode cJ0_append 5 = .ok (.iconst 1, 1) := dk_4 (dk_at dksJ0_append_0 5 rfl rfl)
theorem dJ0_append_6 : decode cJ0_append 6 = .ok (.iadd, 1) := dk_96 (dk_at dksJ0_append_0 6 rfl rfl)
theorem dJ0_append_7 : decode cJ0_append 7 = .ok (.invokevirtual 100, 3) := dk_182 0 100 (dk_at dksJ0_append_0 7 rfl rfl)
theorem dJ0_append_10 : decode cJ0_append 10 = .ok (.aload_n 0, 1) := dk_42 (dk_at dksJ0_append_0 10 rfl rfl)
theorem dJ0_append_11 : decode cJ0_append 11 = .ok (.invokevirtual 83, 3) := dk_182 0 83 (dk_at dksJ0_append_0 11 rfl rfl)
theorem dJ0_append_14 : decode cJ0_append 14 = .ok (.ifCond .eq 31, 3) := dk_153 0 31 (dk_at dksJ0_append_0 14 rfl rfl)
theorem dJ0_append_17 : decode cJ0_append 17 = .ok (.iload_n 1, 1) := dk_27 (dk_at dksJ0_append_0 17 rfl rfl)
theorem dJ0_append_18 : decode cJ0_append 18 = .ok (.invokestatic 191, 3) := dk_184 0 191 (dk_at dksJ0_append_0 18 rfl rfl)
theorem dJ0_append_21 : decode cJ0_append 21 = .ok (.ifCond .eq 24, 3) := dk_153 0 24 (dk_at dksJ0_append_0 21 rfl rfl)
theorem dJ0_append_24 : decode cJ0_append 24 = .ok (.aload_n 0, 1) := dk_42 (dk_at dksJ0_append_1 0 rfl rfl)
theorem dJ0_append_25 : decode cJ0_append 25 = .ok (.getfield 15, 3) := dk_180 0 15 (dk_at dksJ0_append_1 1 rfl rfl)
theorem dJ0_append_28 : decode cJ0_append 28 = .ok (.aload_n 0, 1) := dk_42 (dk_at dksJ0_append_1 4 rfl rfl)
theorem dJ0_append_29 : decode cJ0_append 29 = .ok (.dup, 1) := dk_89 (dk_at dksJ0_append_1 5 rfl rfl)
theorem dJ0_append_30 : decode cJ0_append 30 = .ok (.getfield 79, 3) := dk_180 0 79 (dk_at dksJ0_append_1 6 rfl rfl)
theorem dJ0_append_33 : decode cJ0_append 33 = .ok (.dup_x1, 1) := dk_90 (dk_at dksJ0_append_1 9 rfl rfl)
theorem dJ0_append_34 : decode cJ0_append 34 = .ok (.iconst 1, 1) := dk_4 (dk_at dksJ0_append_1 10 rfl rfl)
theorem dJ0_append_35 : decode cJ0_append 35 = .ok (.iadd, 1) := dk_96 (dk_at dksJ0_append_1 11 rfl rfl)
theorem dJ0_append_36 : decode cJ0_append 36 = .ok (.putfield 79, 3) := dk_181 0 79 (dk_at dksJ0_append_1 12 rfl rfl)
theorem dJ0_append_39 : decode cJ0_append 39 = .ok (.iload_n 1, 1) := dk_27 (dk_at dksJ0_append_1 15 rfl rfl)
theorem dJ0_append_40 : decode cJ0_append 40 = .ok (.i2b, 1) := dk_145 (dk_at dksJ0_append_1 16 rfl rfl)
theorem dJ0_append_41 : decode cJ0_append 41 = .ok (.bastore, 1) := dk_84 (dk_at dksJ0_append_1 17 rfl rfl)
theorem dJ0_append_42 : decode cJ0_append 42 = .ok (.goto 33, 3) := dk_167 0 33 (dk_at dksJ0_append_1 18 rfl rfl)
theorem dJ0_append_45 : decode cJ0_append 45 = .ok (.aload_n 0, 1) := dk_42 (dk_at dksJ0_append_1 21 rfl rfl)
theorem dJ0_append_46 : decode cJ0_append 46 = .ok (.invokevirtual 83, 3) := dk_182 0 83 (dk_at dksJ0_append_2 0 rfl rfl)
theorem dJ0_append_49 : decode cJ0_append 49 = .ok (.ifCond .eq 7, 3) := dk_153 0 7 (dk_at dksJ0_append_2 3 rfl rfl)
theorem dJ0_append_52 : decode cJ0_append 52 = .ok (.aload_n 0, 1) := dk_42 (dk_at dksJ0_append_2 6 rfl rfl)
theorem dJ0_append_53 : decode cJ0_append 53 = .ok (.invokevirtual 195, 3) := dk_182 0 195 (dk_at dksJ0_append_2 7 rfl rfl)
theorem dJ0_append_56 : decode cJ0_append 56 = .ok (.aload_n 0, 1) := dk_42 (dk_at dksJ0_append_2 10 rfl rfl)
theorem dJ0_append_57 : decode cJ0_append 57 = .ok (.getfield 15, 3) := dk_180 0 15 (dk_at dksJ0_append_2 11 rfl rfl)
theorem dJ0_append_60 : decode cJ0_append 60 = .ok (.aload_n 0, 1) := dk_42 (dk_at dksJ0_append_2 14 rfl rfl)
theorem dJ0_append_61 : decode cJ0_append 61 = .ok (.dup, 1) := dk_89 (dk_at dksJ0_append_2 15 rfl rfl)
theorem dJ0_append_62 : decode cJ0_append 62 = .ok (.getfield 79, 3) := dk_180 0 79 (dk_at dksJ0_append_2 16 rfl rfl)
theorem dJ0_append_65 : decode cJ0_append 65 = .ok (.dup_x1, 1) := dk_90 (dk_at dksJ0_append_2 19 rfl rfl)
theorem dJ0_append_66 : decode cJ0_append 66 = .ok (.iconst 1, 1) := dk_4 (dk_at dksJ0_append_2 20 rfl rfl)
theorem dJ0_append_67 : decode cJ0_append 67 = .ok (.iadd, 1) := dk_96 (dk_at dksJ0_append_2 21 rfl rfl)
theorem dJ0_append_68 : decode cJ0_append 68 = .ok (.putfield 79, 3) := dk_181 0 79 (dk_at dksJ0_append_3 0 rfl rfl)
theorem dJ0_append_71 : decode cJ0_append 71 = .ok (.iload_n 1, 1) := dk_27 (dk_at dksJ0_append_3 3 rfl rfl)
theorem dJ0_append_72 : decode cJ0_append 72 = .ok (.invokestatic 197, 3) := dk_184 0 197 (dk_at dksJ0_append_3 4 rfl rfl)
theorem dJ0_append_75 : decode cJ0_append 75 = .ok (.aload_n 0, 1) := dk_42 (dk_at dksJ0_append_3 7 rfl rfl)
theorem dJ0_append_76 : decode cJ0_append 76 = .ok (.areturn, 1) := dk_176 (dk_at dksJ0_append_3 8 rfl rfl)
abbrev cJ0_ensureCapacityInternal : ByteArray := prog_21_method_9_code
def yJ0_ensureCapacityInternal : MethodName := ⟨RJ0, "ensureCapacityInternal", "(I)V"⟩
def dkwJ0_ensureCapacityInternal_1 : List UInt8 := [182, 0, 104, 42, 180, 0, 22, 120, 184, 0, 108, 181, 0, 15, 177]
abbrev dktJ0_ensureCapacityInternal_1 : List UInt8 := dkwJ0_ensureCapacityInternal_1 ++ []
def dkwJ0_ensureCapacityInternal_0 : List UInt8 := [42, 180, 0, 15, 190, 42, 180, 0, 22, 122, 61, 27, 28, 100, 158, 0, 24, 42, 42, 180, 0, 15, 42, 27]
abbrev dktJ0_ensureCapacityInternal_0 : List UInt8 := dkwJ0_ensureCapacityInternal_0 ++ dktJ0_ensureCapacityInternal_1
theorem dksJ0_ensureCapacityInternal_0 : cJ0_ensureCapacityInternal.data.toList.drop 0 = dktJ0_ensureCapacityInternal_0 := by decide +kernel
theorem dksJ0_ensureCapacityInternal_1 : cJ0_ensureCapacityInternal.data.toList.drop 24 = dktJ0_ensureCapacityInternal_1 := dk_seg dksJ0_ensureCapacityInternal_0 24 rfl rfl
theorem dJ0_ensureCapacityInternal_0 : decode cJ0_ensureCapacityInternal 0 = .ok (.aload_n 0, 1) := dk_42 (dk_at dksJ0_ensureCapacityInternal_0 0 rfl rfl)
theorem dJ0_ensureCapacityInternal_1 : decode cJ0_ensureCapacityInternal 1 = .ok (.getfield 15, 3) := dk_180 0 15 (dk_at dksJ0_ensureCapacityInternal_0 1 rfl rfl)
theorem dJ0_ensureCapacityInternal_4 : decode cJ0_ensureCapacityInternal 4 = .ok (.arraylength, 1) := dk_190 (dk_at dksJ0_ensureCapacityInternal_0 4 rfl rfl)
theorem dJ0_ensureCapacityInternal_5 : decode cJ0_ensureCapacityInternal 5 = .ok (.aload_n 0, 1) := dk_42 (dk_at dksJ0_ensureCapacityInternal_0 5 rfl rfl)
theorem dJ0_ensureCapacityInternal_6 : decode cJ0_ensureCapacityInternal 6 = .ok (.getfield 22, 3) := dk_180 0 22 (dk_at dksJ0_ensureCapacityInternal_0 6 rfl rfl)
theorem dJ0_ensureCapacityInternal_9 : decode cJ0_ensureCapacityInternal 9 = .ok (.ishr, 1) := dk_122 (dk_at dksJ0_ensureCapacityInternal_0 9 rfl rfl)
theorem dJ0_ensureCapacityInternal_10 : decode cJ0_ensureCapacityInternal 10 = .ok (.istore_n 2, 1) := dk_61 (dk_at dksJ0_ensureCapacityInternal_0 10 rfl rfl)
theorem dJ0_ensureCapacityInternal_11 : decode cJ0_ensureCapacityInternal 11 = .ok (.iload_n 1, 1) := dk_27 (dk_at dksJ0_ensureCapacityInternal_0 11 rfl rfl)
theorem dJ0_ensureCapacityInternal_12 : decode cJ0_ensureCapacityInternal 12 = .ok (.iload_n 2, 1) := dk_28 (dk_at dksJ0_ensureCapacityInternal_0 12 rfl rfl)
theorem dJ0_ensureCapacityInternal_13 : decode cJ0_ensureCapacityInternal 13 = .ok (.isub, 1) := dk_100 (dk_at dksJ0_ensureCapacityInternal_0 13 rfl rfl)
theorem dJ0_ensureCapacityInternal_14 : decode cJ0_ensureCapacityInternal 14 = .ok (.ifCond .le 24, 3) := dk_158 0 24 (dk_at dksJ0_ensureCapacityInternal_0 14 rfl rfl)
theorem dJ0_ensureCapacityInternal_17 : decode cJ0_ensureCapacityInternal 17 = .ok (.aload_n 0, 1) := dk_42 (dk_at dksJ0_ensureCapacityInternal_0 17 rfl rfl)
theorem dJ0_ensureCapacityInternal_18 : decode cJ0_ensureCapacityInternal 18 = .ok (.aload_n 0, 1) := dk_42 (dk_at dksJ0_ensureCapacityInternal_0 18 rfl rfl)
theorem dJ0_ensureCapacityInternal_19 : decode cJ0_ensureCapacityInternal 19 = .ok (.getfield 15, 3) := dk_180 0 15 (dk_at dksJ0_ensureCapacityInternal_0 19 rfl rfl)
theorem dJ0_ensureCapacityInternal_22 : decode cJ0_ensureCapacityInternal 22 = .ok (.aload_n 0, 1) := dk_42 (dk_at dksJ0_ensureCapacityInternal_0 22 rfl rfl)
theorem dJ0_ensureCapacityInternal_23 : decode cJ0_ensureCapacityInternal 23 = .ok (.iload_n 1, 1) := dk_27 (dk_at dksJ0_ensureCapacityInternal_0 23 rfl rfl)
theorem dJ0_ensureCapacityInternal_24 : decode cJ0_ensureCapacityInternal 24 = .ok (.invokevirtual 104, 3) := dk_182 0 104 (dk_at dksJ0_ensureCapacityInternal_1 0 rfl rfl)
theorem dJ0_ensureCapacityInternal_27 : decode cJ0_ensureCapacityInternal 27 = .ok (.aload_n 0, 1) := dk_42 (dk_at dksJ0_ensureCapacityInternal_1 3 rfl rfl)
theorem dJ0_ensureCapacityInternal_28 : decode cJ0_ensureCapacityInternal 28 = .ok (.getfield 22, 3) := dk_180 0 22 (dk_at dksJ0_ensureCapacityInternal_1 4 rfl rfl)
theorem dJ0_ensureCapacityInternal_31 : decode cJ0_ensureCapacityInternal 31 = .ok (.ishl, 1) := dk_120 (dk_at dksJ0_ensureCapacityInternal_1 7 rfl rfl)
theorem dJ0_ensureCapacityInternal_32 : decode cJ0_ensureCapacityInternal 32 = .ok (.invokestatic 108, 3) := dk_184 0 108 (dk_at dksJ0_ensureCapacityInternal_1 8 rfl rfl)
theorem dJ0_ensureCapacityInternal_35 : decode cJ0_ensureCapacityInternal 35 = .ok (.putfield 15, 3) := dk_181 0 15 (dk_at dksJ0_ensureCapacityInternal_1 11 rfl rfl)
theorem dJ0_ensureCapacityInternal_38 : decode cJ0_ensureCapacityInternal 38 = .ok (.return_, 1) := dk_177 (dk_at dksJ0_ensureCapacityInternal_1 14 rfl rfl)
abbrev cJ0_newCapacity : ByteArray := prog_21_method_10_code
def yJ0_newCapacity : MethodName := ⟨RJ0, "newCapacity", "(I)I"⟩
def dkwJ0_newCapacity_2 : List UInt8 := [183, 0, 124, 191, 21, 5, 42, 180, 0, 22, 122, 172]
abbrev dktJ0_newCapacity_2 : List UInt8 := dkwJ0_newCapacity_2 ++ []
def dkwJ0_newCapacity_1 : List UInt8 := [180, 0, 22, 120, 96, 184, 0, 114, 54, 5, 21, 5, 18, 39, 160, 0, 13, 187, 0, 120, 89, 18, 122]
abbrev dktJ0_newCapacity_1 : List UInt8 := dkwJ0_newCapacity_1 ++ dktJ0_newCapacity_2
def dkwJ0_newCapacity_0 : List UInt8 := [42, 180, 0, 15, 190, 61, 27, 42, 180, 0, 22, 120, 62, 29, 28, 100, 54, 4, 28, 21, 4, 28, 5, 42]
abbrev dktJ0_newCapacity_0 : List UInt8 := dkwJ0_newCapacity_0 ++ dktJ0_newCapacity_1
theorem dksJ0_newCapacity_0 : cJ0_newCapacity.data.toList.drop 0 = dktJ0_newCapacity_0 := by decide +kernel
theorem dksJ0_newCapacity_1 : cJ0_newCapacity.data.toList.drop 24 = dktJ0_newCapacity_1 := dk_seg dksJ0_newCapacity_0 24 rfl rfl
theorem dksJ0_newCapacity_2 : cJ0_newCapacity.data.toList.drop 47 = dktJ0_newCapacity_2 := dk_seg dksJ0_newCapacity_1 23 rfl rfl
theorem dJ0_newCapacity_0 : decode cJ0_newCapacity 0 = .ok (.aload_n 0, 1) := dk_42 (dk_at dksJ0_newCapacity_0 0 rfl rfl)
theorem dJ0_newCapacity_1 : decode cJ0_newCapacity 1 = .ok (.getfield 15, 3) := dk_180 0 15 (dk_at dksJ0_newCapacity_0 1 rfl rfl)
theorem dJ0_newCapacity_4 : decode cJ0_newCapacity 4 = .ok (.arraylength, 1) := dk_190 (dk_at dksJ0_newCapacity_0 4 rfl rfl)
theorem dJ0_newCapacity_5 : decode cJ0_newCapacity 5 = .ok (.istore_n 2, 1) := dk_61 (dk_at dksJ0_newCapacity_0 5 rfl rfl)
theorem dJ0_newCapacity_6 : decode cJ0_newCapacity 6 = .ok (.iload_n 1, 1) := dk_27 (dk_at dksJ0_newCapacity_0 6 rfl rfl)
theorem dJ0_newCapacity_7 : decode cJ0_newCapacity 7 = .ok (.aload_n 0, 1) := dk_42 (dk_at dksJ0_newCapacity_0 7 rfl rfl)
theorem dJ0_newCapacity_8 : decode cJ0_newCapacity 8 = .ok (.getfield 22, 3) := dk_180 0 22 (dk_at dksJ0_newCapacity_0 8 rfl rfl)
theorem dJ0_newCapacity_11 : decode cJ0_newCapacity 11 = .ok (.ishl, 1) := dk_120 (dk_at dksJ0_newCapacity_0 11 rfl rfl)
theorem dJ0_newCapacity_12 : decode cJ0_newCapacity 12 = .ok (.istore_n 3, 1) := dk_62 (dk_at dksJ0_newCapacity_0 12 rfl rfl)
theorem dJ0_newCapacity_13 : decode cJ0_newCapacity 13 = .ok (.iload_n 3, 1) := dk_29 (dk_at dksJ0_newCapacity_0 13 rfl rfl)
theorem dJ0_newCapacity_14 : decode cJ0_newCapacity 14 = .ok (.iload_n 2, 1) := dk_28 (dk_at dksJ0_newCapacity_0 14 rfl rfl)
theorem dJ0_newCapacity_15 : decode cJ0_newCapacity 15 = .ok (.isub, 1) := dk_100 (dk_at dksJ0_newCapacity_0 15 rfl rfl)
theorem dJ0_newCapacity_16 : decode cJ0_newCapacity 16 = .ok (.istore 4, 2) := dk_54 4 (dk_at dksJ0_newCapacity_0 16 rfl rfl)
theorem dJ0_newCapacity_18 : decode cJ0_newCapacity 18 = .ok (.iload_n 2, 1) := dk_28 (dk_at dksJ0_newCapacity_0 18 rfl rfl)
theorem dJ0_newCapacity_19 : decode cJ0_newCapacity 19 = .ok (.iload 4, 2) := dk_21 4 (dk_at dksJ0_newCapacity_0 19 rfl rfl)
theorem dJ0_newCapacity_21 : decode cJ0_newCapacity 21 = .ok (.iload_n 2, 1) := dk_28 (dk_at dksJ0_newCapacity_0 21 rfl rfl)
theorem dJ0_newCapacity_22 : decode cJ0_newCapacity 22 = .ok (.iconst 2, 1) := dk_5 (dk_at dksJ0_newCapacity_0 22 rfl rfl)
theorem dJ0_newCapacity_23 : decode cJ0_newCapacity 23 = .ok (.aload_n 0, 1) := dk_42 (dk_at dksJ0_newCapacity_0 23 rfl rfl)
theorem dJ0_newCapacity_24 : decode cJ0_newCapacity 24 = .ok (.getfield 22, 3) := dk_180 0 22 (dk_at dksJ0_newCapacity_1 0 rfl rfl)
theorem dJ0_newCapacity_27 : decode cJ0_newCapacity 27 = .ok (.ishl, 1) := dk_120 (dk_at dksJ0_newCapacity_1 3 rfl rfl)
theorem dJ0_newCapacity_28 : decode cJ0_newCapacity 28 = .ok (.iadd, 1) := dk_96 (dk_at dksJ0_newCapacity_1 4 rfl rfl)
theorem dJ0_newCapacity_29 : decode cJ0_newCapacity 29 = .ok (.invokestatic 114, 3) := dk_184 0 114 (dk_at dksJ0_newCapacity_1 5 rfl rfl)
theorem dJ0_newCapacity_32 : decode cJ0_newCapacity 32 = .ok (.istore 5, 2) := dk_54 5 (dk_at dksJ0_newCapacity_1 8 rfl rfl)
theorem dJ0_newCapacity_34 : decode cJ0_newCapacity 34 = .ok (.iload 5, 2) := dk_21 5 (dk_at dksJ0_newCapacity_1 10 rfl rfl)
theorem dJ0_newCapacity_36 : decode cJ0_newCapacity 36 = .ok (.ldc 39, 2) := dk_18 39 (dk_at dksJ0_newCapacity_1 12 rfl rfl)
theorem dJ0_newCapacity_38 : decode cJ0_newCapacity 38 = .ok (.if_icmp .ne 13, 3) := dk_160 0 13 (dk_at dksJ0_newCapacity_1 14 rfl rfl)
theorem dJ0_newCapacity_41 : decode cJ0_newCapacity 41 = .ok (.new 120, 3) := dk_187 0 120 (dk_at dksJ0_newCapacity_1 17 rfl rfl)
theorem dJ0_newCapacity_44 : decode cJ0_newCapacity 44 = .ok (.dup, 1) := dk_89 (dk_at dksJ0_newCapacity_1 20 rfl rfl)
theorem dJ0_newCapacity_45 : decode cJ0_newCapacity 45 = .ok (.ldc 122, 2) := dk_18 122 (dk_at dksJ0_newCapacity_1 21 rfl rfl)
theorem dJ0_newCapacity_47 : decode cJ0_newCapacity 47 = .ok (.invokespecial 124, 3) := dk_183 0 124 (dk_at dksJ0_newCapacity_2 0 rfl rfl)
theorem dJ0_newCapacity_50 : decode cJ0_newCapacity 50 = .ok (.athrow, 1) := dk_191 (dk_at dksJ0_newCapacity_2 3 rfl rfl)
theorem dJ0_newCapacity_51 : decode cJ0_newCapacity 51 = .ok (.iload 5, 2) := dk_21 5 (dk_at dksJ0_newCapacity_2 4 rfl rfl)
theorem dJ0_newCapacity_53 : decode cJ0_newCapacity 53 = .ok (.aload_n 0, 1) := dk_42 (dk_at dksJ0_newCapacity_2 6 rfl rfl)
theorem dJ0_newCapacity_54 : decode cJ0_newCapacity 54 = .ok (.getfield 22, 3) := dk_180 0 22 (dk_at dksJ0_newCapacity_2 7 rfl rfl)
theorem dJ0_newCapacity_57 : decode cJ0_newCapacity 57 = .ok (.ishr, 1) := dk_122 (dk_at dksJ0_newCapacity_2 10 rfl rfl)
theorem dJ0_newCapacity_58 : decode cJ0_newCapacity 58 = .ok (.ireturn, 1) := dk_172 (dk_at dksJ0_newCapacity_2 11 rfl rfl)
abbrev cJ0_isLatin1 : ByteArray := prog_21_method_68_code
def yJ0_isLatin1 : MethodName := ⟨RJ0, "isLatin1", "()Z"⟩
def dkwJ0_isLatin1_0 : List UInt8 := [178, 0, 18, 153, 0, 14, 42, 180, 0, 22, 154, 0, 7, 4, 167, 0, 4, 3, 172]
abbrev dktJ0_isLatin1_0 : List UInt8 := dkwJ0_isLatin1_0 ++ []
theorem dksJ0_isLatin1_0 : cJ0_isLatin1.data.toList.drop 0 = dktJ0_isLatin1_0 := by decide +kernel
theorem dJ0_isLatin1_0 : decode cJ0_isLatin1 0 = .ok (.getstatic 18, 3) := dk_178 0 18 (dk_at dksJ0_isLatin1_0 0 rfl rfl)
theorem dJ0_isLatin1_3 : decode cJ0_isLatin1 3 = .ok (.ifCond .eq 14, 3) := dk_153 0 14 (dk_at dksJ0_isLatin1_0 3 rfl rfl)
theorem dJ0_isLatin1_6 : decode cJ0_isLatin1 6 = .ok (.aload_n 0, 1) := dk_42 (dk_at dksJ0_isLatin1_0 6 rfl rfl)
theorem dJ0_isLatin1_7 : decode cJ0_isLatin1 7 = .ok (.getfield 22, 3) := dk_180 0 22 (dk_at dksJ0_isLatin1_0 7 rfl rfl)
theorem dJ0_isLatin1_10 : decode cJ0_isLatin1 10 = .ok (.ifCond .ne 7, 3) := dk_154 0 7 (dk_at dksJ0_isLatin1_0 10 rfl rfl)
theorem dJ0_isLatin1_13 : decode cJ0_isLatin1 13 = .ok (.iconst 1, 1) := dk_4 (dk_at dksJ0_isLatin1_0 13 rfl rfl)
theorem dJ0_isLatin1_14 : decode cJ0_isLatin1 14 = .ok (.goto 4, 3) := dk_167 0 4 (dk_at dksJ0_isLatin1_0 14 rfl rfl)
theorem dJ0_isLatin1_17 : decode cJ0_isLatin1 17 = .ok (.iconst 0, 1) := dk_3 (dk_at dksJ0_isLatin1_0 17 rfl rfl)
theorem dJ0_isLatin1_18 : decode cJ0_isLatin1 18 = .ok (.ireturn, 1) := dk_172 (dk_at dksJ0_isLatin1_0 18 rfl rfl)
abbrev cJ0_inflate : ByteArray := prog_21_method_11_code
def yJ0_inflate : MethodName := ⟨RJ0, "inflate", "()V"⟩
def dkwJ0_inflate_1 : List UInt8 := [42, 180, 0, 79, 184, 0, 125, 42, 43, 181, 0, 15, 42, 4, 181, 0, 22, 177]
abbrev dktJ0_inflate_1 : List UInt8 := dkwJ0_inflate_1 ++ []
def dkwJ0_inflate_0 : List UInt8 := [42, 182, 0, 83, 154, 0, 4, 177, 42, 180, 0, 15, 190, 184, 0, 26, 76, 42, 180, 0, 15, 3, 43, 3]
abbrev dktJ0_inflate_0 : List UInt8 := dkwJ0_inflate_0 ++ dktJ0_inflate_1
theorem dksJ0_inflate_0 : cJ0_inflate.data.toList.drop 0 = dktJ0_inflate_0 := by decide +kernel
theorem dksJ0_inflate_1 : cJ0_inflate.data.toList.drop 24 = dktJ0_inflate_1 := dk_seg dksJ0_inflate_0 24 rfl rfl
theorem dJ0_inflate_0 : decode cJ0_inflate 0 = .ok (.aload_n 0, 1) := dk_42 (dk_at dksJ0_inflate_0 0 rfl rfl)
theorem dJ0_inflate_1 : decode cJ0_inflate 1 = .ok (.invokevirtual 83, 3) := dk_182 0 83 (dk_at dksJ0_inflate_0 1 rfl rfl)
theorem dJ0_inflate_4 : decode cJ0_inflate 4 = .ok (.ifCond .ne 4, 3) := dk_154 0 4 (dk_at dksJ0_inflate_0 4 rfl rfl)
theorem dJ0_inflate_7 : decode cJ0_inflate 7 = .ok (.return_, 1) := dk_177 (dk_at dksJ0_inflate_0 7 rfl rfl)
theorem dJ0_inflate_8 : decode cJ0_inflate 8 = .ok (.aload_n 0, 1) := dk_42 (dk_at dksJ0_inflate_0 8 rfl rfl)
theorem dJ0_inflate_9 : decode cJ0_inflate 9 = .ok (.getfield 15, 3) := dk_180 0 15 (dk_at dksJ0_inflate_0 9 rfl rfl)
theorem dJ0_inflate_12 : decode cJ0_inflate 12 = .ok (.arraylength, 1) := dk_190 (dk_at dksJ0_inflate_0 12 rfl rfl)
theorem dJ0_inflate_13 : decode cJ0_inflate 13 = .ok (.invokestatic 26, 3) := dk_184 0 26 (dk_at dksJ0_inflate_0 13 rfl rfl)
theorem dJ0_inflate_16 : decode cJ0_inflate 16 = .ok (.astore_n 1, 1) := dk_76 (dk_at dksJ0_inflate_0 16 rfl rfl)
theorem dJ0_inflate_17 : decode cJ0_inflate 17 = .ok (.aload_n 0, 1) := dk_42 (dk_at dksJ0_inflate_0 17 rfl rfl)
theorem dJ0_inflate_18 : decode cJ0_inflate 18 = .ok (.getfield 15, 3) := dk_180 0 15 (dk_at dksJ0_inflate_0 18 rfl rfl)
theorem dJ0_inflate_21 : decode cJ0_inflate 21 = .ok (.iconst 0, 1) := dk_3 (dk_at dksJ0_inflate_0 21 rfl rfl)
theorem dJ0_inflate_22 : decode cJ0_inflate 22 = .ok (.aload_n 1, 1) := dk_43 (dk_at dksJ0_inflate_0 22 rfl rfl)
theorem dJ0_inflate_23 : decode cJ0_inflate 23 = .ok (.iconst 0, 1) := dk_3 (dk_at dksJ0_inflate_0 23 rfl rfl)
theorem dJ0_inflate_24 : decode cJ0_inflate 24 = .ok (.aload_n 0, 1) := dk_42 (dk_at dksJ0_inflate_1 0 rfl rfl)
theorem dJ0_inflate_25 : decode cJ0_inflate 25 = .ok (.getfield 79, 3) := dk_180 0 79 (dk_at dksJ0_inflate_1 1 rfl rfl)
theorem dJ0_inflate_28 : decode cJ0_inflate 28 = .ok (.invokestatic 125, 3) := dk_184 0 125 (dk_at dksJ0_inflate_1 4 rfl rfl)
theorem dJ0_inflate_31 : decode cJ0_inflate 31 = .ok (.aload_n 0, 1) := dk_42 (dk_at dksJ0_inflate_1 7 rfl rfl)
theorem dJ0_inflate_32 : decode cJ0_inflate 32 = .ok (.aload_n 1, 1) := dk_43 (dk_at dksJ0_inflate_1 8 rfl rfl)
theorem dJ0_inflate_33 : decode cJ0_inflate 33 = .ok (.putfield 15, 3) := dk_181 0 15 (dk_at dksJ0_inflate_1 9 rfl rfl)
theorem dJ0_inflate_36 : decode cJ0_inflate 36 = .ok (.aload_n 0, 1) := dk_42 (dk_at dksJ0_inflate_1 12 rfl rfl)
theorem dJ0_inflate_37 : decode cJ0_inflate 37 = .ok (.iconst 1, 1) := dk_4 (dk_at dksJ0_inflate_1 13 rfl rfl)
theorem dJ0_inflate_38 : decode cJ0_inflate 38 = .ok (.putfield 22, 3) := dk_181 0 22 (dk_at dksJ0_inflate_1 14 rfl rfl)
theorem dJ0_inflate_41 : decode cJ0_inflate 41 = .ok (.return_, 1) := dk_177 (dk_at dksJ0_inflate_1 17 rfl rfl)
abbrev cJ0_getValue : ByteArray := prog_21_method_64_code
def yJ0_getValue : MethodName := ⟨RJ0, "getValue", "()[B"⟩
theorem dJ0_getValue_0 : decode cJ0_getValue 0 = .ok (.aload_n 0, 1) := by decide +kernel
theorem dJ0_getValue_1 : decode cJ0_getValue 1 = .ok (.getfield 15, 3) := by decide +kernel
theorem dJ0_getValue_4 : decode cJ0_getValue 4 = .ok (.areturn, 1) := by decide +kernel
theorem q97 : (Jvm.Cond.initialized "java/lang/AbstractStringBuilder") ∈ lw_all := lw_g (lw_at lw_m1 9 rfl) rfl
theorem q383 : (Jvm.Cond.instanceMethod ({ cls := "java/lang/AbstractStringBuilder", name := "<init>", desc := "(I)V" } : Jvm.MethodName)) ∈ lw_all := lw_g (lw_at lw_m2 55 rfl) rfl
theorem q384 : (Jvm.Cond.code ({ cls := "java/lang/AbstractStringBuilder", name := "<init>", desc := "(I)V" } : Jvm.MethodName) prog_21_method_2_code (2 : Nat) (Option.none : Option Jvm.ClassFile.FieldType)) ∈ lw_all := lw_g (lw_at lw_m2 56 rfl) rfl
theorem q385 : (Jvm.Cond.methodLink "java/lang/AbstractStringBuilder" (3 : Nat) ({ cls := "java/lang/Object", name := "<init>", desc := "()V" } : Jvm.MethodName)) ∈ lw_all := lw_g (lw_at lw_m2 57 rfl) rfl
theorem q386 : (Jvm.Cond.fieldLink "java/lang/AbstractStringBuilder" (18 : Nat) "java/lang/String" "COMPACT_STRINGS" "Z") ∈ lw_all := lw_g (lw_at lw_m2 58 rfl) rfl
theorem q388 : (Jvm.Cond.methodLink "java/lang/AbstractStringBuilder" (26 : Nat) ({ cls := "java/lang/StringUTF16", name := "newBytesFor", desc := "(I)[B" } : Jvm.MethodName)) ∈ lw_all := lw_g (lw_at lw_m2 60 rfl) rfl
theorem q395 : (Jvm.Cond.fieldLink "java/lang/AbstractStringBuilder" (15 : Nat) "java/lang/AbstractStringBuilder" "value" "[B") ∈ lw_all := lw_g (lw_at lw_m2 67 rfl) rfl
theorem q396 : (Jvm.Cond.fieldLink "java/lang/AbstractStringBuilder" (22 : Nat) "java/lang/AbstractStringBuilder" "coder" "B") ∈ lw_all := lw_g (lw_at lw_m2 68 rfl) rfl
theorem q398 : (Jvm.Cond.fieldLink "java/lang/AbstractStringBuilder" (79 : Nat) "java/lang/AbstractStringBuilder" "count" "I") ∈ lw_all := lw_g (lw_at lw_m2 70 rfl) rfl
theorem q400 : (Jvm.Cond.soleField "java/lang/AbstractStringBuilder" "value") ∈ lw_all := lw_g (lw_at lw_m2 72 rfl) rfl
theorem q402 : (Jvm.Cond.soleField "java/lang/AbstractStringBuilder" "coder") ∈ lw_all := lw_g (lw_at lw_m2 74 rfl) rfl
theorem q404 : (Jvm.Cond.soleField "java/lang/AbstractStringBuilder" "maybeLatin1") ∈ lw_all := lw_g (lw_at lw_m2 76 rfl) rfl
theorem q406 : (Jvm.Cond.soleField "java/lang/AbstractStringBuilder" "count") ∈ lw_all := lw_g (lw_at lw_m2 78 rfl) rfl
theorem q413 : (Jvm.Cond.instanceMethod ({ cls := "java/lang/AbstractStringBuilder", name := "length", desc := "()I" } : Jvm.MethodName)) ∈ lw_all := lw_g (lw_at lw_m2 85 rfl) rfl
theorem q414 : (Jvm.Cond.code ({ cls := "java/lang/AbstractStringBuilder", name := "length", desc := "()I" } : Jvm.MethodName) prog_21_method_6_code (1 : Nat) (Option.some Jvm.ClassFile.FieldType.int)) ∈ lw_all := lw_g (lw_at lw_m2 86 rfl) rfl
theorem q420 : (Jvm.Cond.instanceMethod ({ cls := "java/lang/AbstractStringBuilder", name := "append", desc := "(C)Ljava/lang/AbstractStringBuilder;" } : Jvm.MethodName)) ∈ lw_all := lw_g (lw_at lw_m2 92 rfl) rfl
theorem q421 : (Jvm.Cond.code ({ cls := "java/lang/AbstractStringBuilder", name := "append", desc := "(C)Ljava/lang/AbstractStringBuilder;" } : Jvm.MethodName) prog_21_method_31_code (2 : Nat) (Option.some (Jvm.ClassFile.FieldType.object "java/lang/AbstractStringBuilder"))) ∈ lw_all := lw_g (lw_at lw_m2 93 rfl) rfl
theorem q422 : (Jvm.Cond.methodLink "java/lang/AbstractStringBuilder" (100 : Nat) ({ cls := "java/lang/AbstractStringBuilder", name := "ensureCapacityInternal", desc := "(I)V" } : Jvm.MethodName)) ∈ lw_all := lw_g (lw_at lw_m2 94 rfl) rfl
theorem q423 : (Jvm.Cond.privateMethod ({ cls := "java/lang/AbstractStringBuilder", name := "ensureCapacityInternal", desc := "(I)V" } : Jvm.MethodName)) ∈ lw_tbl := lw_at lw_m2 95 rfl
theorem q424 : (Jvm.Cond.instanceMethod ({ cls := "java/lang/AbstractStringBuilder", name := "ensureCapacityInternal", desc := "(I)V" } : Jvm.MethodName)) ∈ lw_all := lw_g (lw_at lw_m2 96 rfl) rfl
theorem q425 : (Jvm.Cond.code ({ cls := "java/lang/AbstractStringBuilder", name := "ensureCapacityInternal", desc := "(I)V" } : Jvm.MethodName) prog_21_method_9_code (3 : Nat) (Option.none : Option Jvm.ClassFile.FieldType)) ∈ lw_all := lw_g (lw_at lw_m2 97 rfl) rfl
theorem q426 : (Jvm.Cond.methodLink "java/lang/AbstractStringBuilder" (104 : Nat) ({ cls := "java/lang/AbstractStringBuilder", name := "newCapacity", desc := "(I)I" } : Jvm.MethodName)) ∈ lw_all := lw_g (lw_at lw_m2 98 rfl) rfl
theorem q427 : (Jvm.Cond.privateMethod ({ cls := "java/lang/AbstractStringBuilder", name := "newCapacity", desc := "(I)I" } : Jvm.MethodName)) ∈ lw_tbl := lw_at lw_m2 99 rfl
theorem q428 : (Jvm.Cond.instanceMethod ({ cls := "java/lang/AbstractStringBuilder", name := "newCapacity", desc := "(I)I" } : Jvm.MethodName)) ∈ lw_all := lw_g (lw_at lw_m2 100 rfl) rfl
theorem q429 : (Jvm.Cond.code ({ cls := "java/lang/AbstractStringBuilder", name := "newCapacity", desc := "(I)I" } : Jvm.MethodName) prog_21_method_10_code (6 : Nat) (Option.some Jvm.ClassFile.FieldType.int)) ∈ lw_all := lw_g (lw_at lw_m2 101 rfl) rfl
theorem q430 : (Jvm.Cond.methodLink "java/lang/AbstractStringBuilder" (114 : Nat) ({ cls := "jdk/internal/util/ArraysSupport", name := "newLength", desc := "(III)I" } : Jvm.MethodName)) ∈ lw_all := lw_g (lw_at lw_m2 102 rfl) rfl
theorem q440 : (Jvm.Cond.constant "java/lang/AbstractStringBuilder" (39 : Nat) (2147483647 : Int32)) ∈ lw_all := lw_g (lw_at lw_m2 112 rfl) rfl
theorem q441 : (Jvm.Cond.methodLink "java/lang/AbstractStringBuilder" (108 : Nat) ({ cls := "java/util/Arrays", name := "copyOf", desc := "([BI)[B" } : Jvm.MethodName)) ∈ lw_all := lw_g (lw_at lw_m2 113 rfl) rfl
theorem q457 : (Jvm.Cond.methodLink "java/lang/AbstractStringBuilder" (83 : Nat) ({ cls := "java/lang/AbstractStringBuilder", name := "isLatin1", desc := "()Z" } : Jvm.MethodName)) ∈ lw_all := lw_g (lw_at lw_m2 129 rfl) rfl
theorem q458 : (Jvm.Cond.instanceMethod ({ cls := "java/lang/AbstractStringBuilder", name := "isLatin1", desc := "()Z" } : Jvm.MethodName)) ∈ lw_all := lw_g (lw_at lw_m2 130 rfl) rfl
theorem q459 : (Jvm.Cond.sameMethod "java/lang/AbstractStringBuilder" "java/lang/AbstractStringBuilder" "isLatin1" "()Z") ∈ lw_all := lw_g (lw_at lw_m2 131 rfl) rfl
theorem q461 : (Jvm.Cond.code ({ cls := "java/lang/AbstractStringBuilder", name := "isLatin1", desc := "()Z" } : Jvm.MethodName) prog_21_method_68_code (1 : Nat) (Option.some Jvm.ClassFile.FieldType.boolean)) ∈ lw_all := lw_g (lw_at lw_m2 133 rfl) rfl
theorem q462 : (Jvm.Cond.methodLink "java/lang/AbstractStringBuilder" (191 : Nat) ({ cls := "java/lang/StringLatin1", name := "canEncode", desc := "(C)Z" } : Jvm.MethodName)) ∈ lw_all := lw_g (lw_at lw_m2 134 rfl) rfl
theorem q465 : (Jvm.Cond.methodLink "java/lang/AbstractStringBuilder" (195 : Nat) ({ cls := "java/lang/AbstractStringBuilder", name := "inflate", desc := "()V" } : Jvm.MethodName)) ∈ lw_all := lw_g (lw_at lw_m2 137 rfl) rfl
theorem q466 : (Jvm.Cond.privateMethod ({ cls := "java/lang/AbstractStringBuilder", name := "inflate", desc := "()V" } : Jvm.MethodName)) ∈ lw_tbl := lw_at lw_m2 138 rfl
theorem q467 : (Jvm.Cond.instanceMethod ({ cls := "java/lang/AbstractStringBuilder", name := "inflate", desc := "()V" } : Jvm.MethodName)) ∈ lw_all := lw_g (lw_at lw_m2 139 rfl) rfl
theorem q468 : (Jvm.Cond.code ({ cls := "java/lang/AbstractStringBuilder", name := "inflate", desc := "()V" } : Jvm.MethodName) prog_21_method_11_code (2 : Nat) (Option.none : Option Jvm.ClassFile.FieldType)) ∈ lw_all := lw_g (lw_at lw_m2 140 rfl) rfl
theorem q469 : (Jvm.Cond.methodLink "java/lang/AbstractStringBuilder" (125 : Nat) ({ cls := "java/lang/StringLatin1", name := "inflate", desc := "([BI[BII)V" } : Jvm.MethodName)) ∈ lw_all := lw_g (lw_at lw_m2 141 rfl) rfl
theorem q498 : (Jvm.Cond.methodLink "java/lang/AbstractStringBuilder" (197 : Nat) ({ cls := "java/lang/StringUTF16", name := "putCharSB", desc := "([BII)V" } : Jvm.MethodName)) ∈ lw_all := lw_g (lw_at lw_m2 170 rfl) rfl
theorem q524 : (Jvm.Cond.instanceMethod ({ cls := "java/lang/AbstractStringBuilder", name := "getValue", desc := "()[B" } : Jvm.MethodName)) ∈ lw_all := lw_g (lw_at lw_m2 196 rfl) rfl
theorem q525 : (Jvm.Cond.sameMethod "java/lang/AbstractStringBuilder" "java/lang/AbstractStringBuilder" "getValue" "()[B") ∈ lw_all := lw_g (lw_at lw_m2 197 rfl) rfl
theorem q527 : (Jvm.Cond.code ({ cls := "java/lang/AbstractStringBuilder", name := "getValue", desc := "()[B" } : Jvm.MethodName) prog_21_method_64_code (1 : Nat) (Option.some (Jvm.ClassFile.FieldType.array Jvm.ClassFile.FieldType.byte))) ∈ lw_all := lw_g (lw_at lw_m2 199 rfl) rfl
theorem q1973 : (Jvm.Cond.sameMethod "java/lang/AbstractStringBuilder" "java/lang/AbstractStringBuilder" "length" "()I") ∈ lw_all := lw_g (lw_at lw_m8 205 rfl) rfl
theorem q1974 : (Jvm.Cond.sameMethod "java/lang/AbstractStringBuilder" "java/lang/AbstractStringBuilder" "append" "(C)Ljava/lang/AbstractStringBuilder;") ∈ lw_all := lw_g (lw_at lw_m8 206 rfl) rfl
theorem q1975 : (Jvm.Cond.sameMethod "java/lang/AbstractStringBuilder" "java/lang/AbstractStringBuilder" "ensureCapacityInternal" "(I)V") ∈ lw_all := lw_g (lw_at lw_m8 207 rfl) rfl
theorem q1976 : (Jvm.Cond.sameMethod "java/lang/AbstractStringBuilder" "java/lang/AbstractStringBuilder" "newCapacity" "(I)I") ∈ lw_all := lw_g (lw_at lw_m8 208 rfl) rfl
theorem q1977 : (Jvm.Cond.sameMethod "java/lang/AbstractStringBuilder" "java/lang/AbstractStringBuilder" "inflate" "()V") ∈ lw_all := lw_g (lw_at lw_m8 209 rfl) rfl
/-! java/lang/StringBuilder -/
set_option maxRecDepth 100000
def RJ1 : String := "java/lang/StringBuilder"
def TJ1 : u_T := fun k => match k with
  | 0 => ("java/lang/AbstractStringBuilder", "value", "[B", false)
  | 1 => ("java/lang/AbstractStringBuilder", "coder", "B", false)
  | 2 => ("java/lang/AbstractStringBuilder", "maybeLatin1", "Z", false)
  | _ => ("java/lang/AbstractStringBuilder", "count", "I", false)
def tyJ1 : Nat → FieldType := fun k => match k with
  | 0 => .array .byte
  | 1 => .byte
  | 2 => .boolean
  | _ => .int
abbrev wsJ10 : List Cond := u_ws RJ1 TJ1 4
theorem nmJ1 : ∀ a, a < 4 → ∀ b, b < 4 → a ≠ b → (TJ1 a).2.1 ≠ (TJ1 b).2.1 := by decide +kernel
theorem tyJ1_ok : ∀ k, k < 4 → parseFieldDescriptor (TJ1 k).2.2.1 = some (tyJ1 k) := by decide +kernel
abbrev cJ1_init : ByteArray := prog_36_method_1_code
def yJ1_init : MethodName := ⟨RJ1, "<init>", "()V"⟩
def dkwJ1_init_0 : List UInt8 := [42, 16, 16, 183, 0, 1, 177]
abbrev dktJ1_init_0 : List UInt8 := dkwJ1_init_0 ++ []
theorem dksJ1_init_0 : cJ1_init.data.toList.drop 0 = dktJ1_init_0 := by decide +kernel
theorem dJ1_init_0 : decode cJ1_init 0 = .ok (.aload_n 0, 1) := dk_42 (dk_at dksJ1_init_0 0 rfl rfl)
theorem dJ1_init_1 : decode cJ1_init 1 = .ok (.bipush 16, 2) := dk_16 16 (dk_at dksJ1_init_0 1 rfl rfl)
theorem dJ1_init_3 : decode cJ1_init 3 = .ok (.invokespecial 1, 3) := dk_183 0 1 (dk_at dksJ1_init_0 3 rfl rfl)
theorem dJ1_init_6 : decode cJ1_init 6 = .ok (.return_, 1) := dk_177 (dk_at dksJ1_init_0 6 rfl rfl)
abbrev cJ1_length : ByteArray := prog_36_method_93_code
def yJ1_length : MethodName := ⟨RJ1, "length", "()I"⟩
theorem dJ1_length_0 : decode cJ1_length 0 = .ok (.aload_n 0, 1) := by decide +kernel
theorem dJ1_length_1 : decode cJ1_length 1 = .ok (.invokespecial 343, 3) := by decide +kernel
theorem dJ1_length_4 : decode cJ1_length 4 = .ok (.ireturn, 1) := by decide +kernel
abbrev cJ1_append : ByteArray := prog_36_method_14_code
def yJ1_append : MethodName := ⟨RJ1, "append", "(C)Ljava/lang/StringBuilder;"⟩
def dkwJ1_append_0 : List UInt8 := [42, 27, 183, 0, 50, 87, 42, 176]
abbrev dktJ1_append_0 : List UInt8 := dkwJ1_append_0 ++ []
theorem dksJ1_append_0 : cJ1_append.data.toList.drop 0 = dktJ1_append_0 := by decide +kernel
theorem dJ1_append_0 : decode cJ1_append 0 = .ok (.aload_n 0, 1) := dk_42 (dk_at dksJ1_append_0 0 rfl rfl)
theorem dJ1_append_1 : decode cJ1_append 1 = .ok (.iload_n 1, 1) := dk_27 (dk_at dksJ1_append_0 1 rfl rfl)
theorem dJ1_append_2 : decode cJ1_append 2 = .ok (.invokespecial 50, 3) := dk_183 0 50 (dk_at dksJ1_append_0 2 rfl rfl)
theorem dJ1_append_5 : decode cJ1_append 5 = .ok (.pop, 1) := dk_87 (dk_at dksJ1_append_0 5 rfl rfl)
theorem dJ1_append_6 : decode cJ1_append 6 = .ok (.aload_n 0, 1) := dk_42 (dk_at dksJ1_append_0 6 rfl rfl)
theorem dJ1_append_7 : decode cJ1_append 7 = .ok (.areturn, 1) := dk_176 (dk_at dksJ1_append_0 7 rfl rfl)
abbrev cJ1_toString : ByteArray := prog_36_method_42_code
def yJ1_toString : MethodName := ⟨RJ1, "toString", "()Ljava/lang/String;"⟩
def dkwJ1_toString_0 : List UInt8 := [187, 0, 18, 89, 42, 183, 0, 137, 176]
abbrev dktJ1_toString_0 : List UInt8 := dkwJ1_toString_0 ++ []
theorem dksJ1_toString_0 : cJ1_toString.data.toList.drop 0 = dktJ1_toString_0 := by decide +kernel
theorem dJ1_toString_0 : decode cJ1_toString 0 = .ok (.new 18, 3) := dk_187 0 18 (dk_at dksJ1_toString_0 0 rfl rfl)
theorem dJ1_toString_3 : decode cJ1_toString 3 = .ok (.dup, 1) := dk_89 (dk_at dksJ1_toString_0 3 rfl rfl)
theorem dJ1_toString_4 : decode cJ1_toString 4 = .ok (.aload_n 0, 1) := dk_42 (dk_at dksJ1_toString_0 4 rfl rfl)
theorem dJ1_toString_5 : decode cJ1_toString 5 = .ok (.invokespecial 137, 3) := dk_183 0 137 (dk_at dksJ1_toString_0 5 rfl rfl)
theorem dJ1_toString_8 : decode cJ1_toString 8 = .ok (.areturn, 1) := dk_176 (dk_at dksJ1_toString_0 8 rfl rfl)
theorem q98 : (Jvm.Cond.initialized "java/lang/StringBuilder") ∈ lw_all := lw_g (lw_at lw_m1 10 rfl) rfl
theorem q378 : (Jvm.Cond.instantiable "java/lang/StringBuilder" (4 : Nat)) ∈ lw_all := lw_g (lw_at lw_m2 50 rfl) rfl
theorem q380 : (Jvm.Cond.instanceMethod ({ cls := "java/lang/StringBuilder", name := "<init>", desc := "()V" } : Jvm.MethodName)) ∈ lw_all := lw_g (lw_at lw_m2 52 rfl) rfl
theorem q381 : (Jvm.Cond.code ({ cls := "java/lang/StringBuilder", name := "<init>", desc := "()V" } : Jvm.MethodName) prog_36_method_1_code (1 : Nat) (Option.none : Option Jvm.ClassFile.FieldType)) ∈ lw_all := lw_g (lw_at lw_m2 53 rfl) rfl
theorem q382 : (Jvm.Cond.methodLink "java/lang/StringBuilder" (1 : Nat) ({ cls := "java/lang/AbstractStringBuilder", name := "<init>", desc := "(I)V" } : Jvm.MethodName)) ∈ lw_all := lw_g (lw_at lw_m2 54 rfl) rfl
theorem q399 : (Jvm.Cond.lays "java/lang/StringBuilder" "java/lang/AbstractStringBuilder" "value" "[B") ∈ lw_all := lw_g (lw_at lw_m2 71 rfl) rfl
theorem q401 : (Jvm.Cond.lays "java/lang/StringBuilder" "java/lang/AbstractStringBuilder" "coder" "B") ∈ lw_all := lw_g (lw_at lw_m2 73 rfl) rfl
theorem q403 : (Jvm.Cond.lays "java/lang/StringBuilder" "java/lang/AbstractStringBuilder" "maybeLatin1" "Z") ∈ lw_all := lw_g (lw_at lw_m2 75 rfl) rfl
theorem q405 : (Jvm.Cond.lays "java/lang/StringBuilder" "java/lang/AbstractStringBuilder" "count" "I") ∈ lw_all := lw_g (lw_at lw_m2 77 rfl) rfl
theorem q407 : (Jvm.Cond.superclass "java/lang/StringBuilder" "java/lang/AbstractStringBuilder") ∈ lw_all := lw_g (lw_at lw_m2 79 rfl) rfl
theorem q409 : (Jvm.Cond.instanceMethod ({ cls := "java/lang/StringBuilder", name := "length", desc := "()I" } : Jvm.MethodName)) ∈ lw_all := lw_g (lw_at lw_m2 81 rfl) rfl
theorem q410 : (Jvm.Cond.selects "java/lang/StringBuilder" ({ cls := "java/lang/StringBuilder", name := "length", desc := "()I" } : Jvm.MethodName) ({ cls := "java/lang/StringBuilder", name := "length", desc := "()I" } : Jvm.MethodName)) ∈ lw_all := lw_g (lw_at lw_m2 82 rfl) rfl
theorem q411 : (Jvm.Cond.code ({ cls := "java/lang/StringBuilder", name := "length", desc := "()I" } : Jvm.MethodName) prog_36_method_93_code (1 : Nat) (Option.some Jvm.ClassFile.FieldType.int)) ∈ lw_all := lw_g (lw_at lw_m2 83 rfl) rfl
theorem q412 : (Jvm.Cond.methodLink "java/lang/StringBuilder" (343 : Nat) ({ cls := "java/lang/AbstractStringBuilder", name := "length", desc := "()I" } : Jvm.MethodName)) ∈ lw_all := lw_g (lw_at lw_m2 84 rfl) rfl
theorem q416 : (Jvm.Cond.instanceMethod ({ cls := "java/lang/StringBuilder", name := "append", desc := "(C)Ljava/lang/StringBuilder;" } : Jvm.MethodName)) ∈ lw_all := lw_g (lw_at lw_m2 88 rfl) rfl
theorem q417 : (Jvm.Cond.selects "java/lang/StringBuilder" ({ cls := "java/lang/StringBuilder", name := "append", desc := "(C)Ljava/lang/StringBuilder;" } : Jvm.MethodName) ({ cls := "java/lang/StringBuilder", name := "append", desc := "(C)Ljava/lang/StringBuilder;" } : Jvm.MethodName)) ∈ lw_all := lw_g (lw_at lw_m2 89 rfl) rfl
theorem q418 : (Jvm.Cond.code ({ cls := "java/lang/StringBuilder", name := "append", desc := "(C)Ljava/lang/StringBuilder;" } : Jvm.MethodName) prog_36_method_14_code (2 : Nat) (Option.some (Jvm.ClassFile.FieldType.object "java/lang/StringBuilder"))) ∈ lw_all := lw_g (lw_at lw_m2 90 rfl) rfl
theorem q419 : (Jvm.Cond.methodLink "java/lang/StringBuilder" (50 : Nat) ({ cls := "java/lang/AbstractStringBuilder", name := "append", desc := "(C)Ljava/lang/AbstractStringBuilder;" } : Jvm.MethodName)) ∈ lw_all := lw_g (lw_at lw_m2 91 rfl) rfl
theorem q460 : (Jvm.Cond.selects "java/lang/StringBuilder" ({ cls := "java/lang/AbstractStringBuilder", name := "isLatin1", desc := "()Z" } : Jvm.MethodName) ({ cls := "java/lang/AbstractStringBuilder", name := "isLatin1", desc := "()Z" } : Jvm.MethodName)) ∈ lw_all := lw_g (lw_at lw_m2 132 rfl) rfl
theorem q511 : (Jvm.Cond.instanceMethod ({ cls := "java/lang/StringBuilder", name := "toString", desc := "()Ljava/lang/String;" } : Jvm.MethodName)) ∈ lw_all := lw_g (lw_at lw_m2 183 rfl) rfl
theorem q512 : (Jvm.Cond.selects "java/lang/StringBuilder" ({ cls := "java/lang/StringBuilder", name := "toString", desc := "()Ljava/lang/String;" } : Jvm.MethodName) ({ cls := "java/lang/StringBuilder", name := "toString", desc := "()Ljava/lang/String;" } : Jvm.MethodName)) ∈ lw_all := lw_g (lw_at lw_m2 184 rfl) rfl
theorem q513 : (Jvm.Cond.code ({ cls := "java/lang/StringBuilder", name := "toString", desc := "()Ljava/lang/String;" } : Jvm.MethodName) prog_36_method_42_code (1 : Nat) (Option.some (Jvm.ClassFile.FieldType.object "java/lang/String"))) ∈ lw_all := lw_g (lw_at lw_m2 185 rfl) rfl
theorem q514 : (Jvm.Cond.classLink "java/lang/StringBuilder" (18 : Nat) "java/lang/String") ∈ lw_all := lw_g (lw_at lw_m2 186 rfl) rfl
theorem q516 : (Jvm.Cond.methodLink "java/lang/StringBuilder" (137 : Nat) ({ cls := "java/lang/String", name := "<init>", desc := "(Ljava/lang/StringBuilder;)V" } : Jvm.MethodName)) ∈ lw_all := lw_g (lw_at lw_m2 188 rfl) rfl
theorem q526 : (Jvm.Cond.selects "java/lang/StringBuilder" ({ cls := "java/lang/AbstractStringBuilder", name := "getValue", desc := "()[B" } : Jvm.MethodName) ({ cls := "java/lang/AbstractStringBuilder", name := "getValue", desc := "()[B" } : Jvm.MethodName)) ∈ lw_all := lw_g (lw_at lw_m2 198 rfl) rfl
theorem q1978 : (Jvm.Cond.selects "java/lang/StringBuilder" ({ cls := "java/lang/AbstractStringBuilder", name := "length", desc := "()I" } : Jvm.MethodName) ({ cls := "java/lang/StringBuilder", name := "length", desc := "()I" } : Jvm.MethodName)) ∈ lw_all := lw_g (lw_at lw_m8 210 rfl) rfl
theorem q1991 : (Jvm.Cond.castable "java/lang/StringBuilder" "java/lang/Object") ∈ lw_tbl := lw_at lw_m8 223 rfl
theorem in_J1 : ∀ w ∈ wsJ10, w ∈ lw_all := lw_in wsJ10 [399, 401, 403, 405] (by decide +kernel) (by decide +kernel)
/-! java/lang/Exception -/
set_option maxRecDepth 100000
def RJ10 : String := "java/lang/Exception"
abbrev cJ10_init : ByteArray := prog_27_method_5_code
def yJ10_init : MethodName := ⟨RJ10, "<init>", "(Ljava/lang/String;Ljava/lang/Throwable;ZZ)V"⟩
def dkwJ10_init_0 : List UInt8 := [42, 43, 44, 29, 21, 4, 183, 0, 16, 177]
abbrev dktJ10_init_0 : List UInt8 := dkwJ10_init_0 ++ []
theorem dksJ10_init_0 : cJ10_init.data.toList.drop 0 = dktJ10_init_0 := by decide +kernel
theorem dJ10_init_0 : decode cJ10_init 0 = .ok (.aload_n 0, 1) := dk_42 (dk_at dksJ10_init_0 0 rfl rfl)
theorem dJ10_init_1 : decode cJ10_init 1 = .ok (.aload_n 1, 1) := dk_43 (dk_at dksJ10_init_0 1 rfl rfl)
theorem dJ10_init_2 : decode cJ10_init 2 = .ok (.aload_n 2, 1) := dk_44 (dk_at dksJ10_init_0 2 rfl rfl)
theorem dJ10_init_3 : decode cJ10_init 3 = .ok (.iload_n 3, 1) := dk_29 (dk_at dksJ10_init_0 3 rfl rfl)
theorem dJ10_init_4 : decode cJ10_init 4 = .ok (.iload 4, 2) := dk_21 4 (dk_at dksJ10_init_0 4 rfl rfl)
theorem dJ10_init_6 : decode cJ10_init 6 = .ok (.invokespecial 16, 3) := dk_183 0 16 (dk_at dksJ10_init_0 6 rfl rfl)
theorem dJ10_init_9 : decode cJ10_init 9 = .ok (.return_, 1) := dk_177 (dk_at dksJ10_init_0 9 rfl rfl)
abbrev cJ10_init_2 : ByteArray := prog_27_method_1_code
def yJ10_init_2 : MethodName := ⟨RJ10, "<init>", "()V"⟩
theorem dJ10_init_2_0 : decode cJ10_init_2 0 = .ok (.aload_n 0, 1) := by decide +kernel
theorem dJ10_init_2_1 : decode cJ10_init_2 1 = .ok (.invokespecial 1, 3) := by decide +kernel
theorem dJ10_init_2_4 : decode cJ10_init_2 4 = .ok (.return_, 1) := by decide +kernel
abbrev cJ10_init_3 : ByteArray := prog_27_method_2_code
def yJ10_init_3 : MethodName := ⟨RJ10, "<init>", "(Ljava/lang/String;)V"⟩
def dkwJ10_init_3_0 : List UInt8 := [42, 43, 183, 0, 7, 177]
abbrev dktJ10_init_3_0 : List UInt8 := dkwJ10_init_3_0 ++ []
theorem dksJ10_init_3_0 : cJ10_init_3.data.toList.drop 0 = dktJ10_init_3_0 := by decide +kernel
theorem dJ10_init_3_0 : decode cJ10_init_3 0 = .ok (.aload_n 0, 1) := dk_42 (dk_at dksJ10_init_3_0 0 rfl rfl)
theorem dJ10_init_3_1 : decode cJ10_init_3 1 = .ok (.aload_n 1, 1) := dk_43 (dk_at dksJ10_init_3_0 1 rfl rfl)
theorem dJ10_init_3_2 : decode cJ10_init_3 2 = .ok (.invokespecial 7, 3) := dk_183 0 7 (dk_at dksJ10_init_3_0 2 rfl rfl)
theorem dJ10_init_3_5 : decode cJ10_init_3 5 = .ok (.return_, 1) := dk_177 (dk_at dksJ10_init_3_0 5 rfl rfl)
theorem q108 : (Jvm.Cond.initialized "java/lang/Exception") ∈ lw_all := lw_g (lw_at lw_m1 20 rfl) rfl
theorem q596 : (Jvm.Cond.declares ({ cls := "java/lang/Exception", name := "<init>", desc := "()V" } : Jvm.MethodName)) ∈ lw_tbl := lw_at lw_m3 28 rfl
theorem q597 : (Jvm.Cond.declares ({ cls := "java/lang/Exception", name := "<init>", desc := "(Ljava/lang/String;)V" } : Jvm.MethodName)) ∈ lw_tbl := lw_at lw_m3 29 rfl
theorem q637 : (Jvm.Cond.instanceMethod ({ cls := "java/lang/Exception", name := "<init>", desc := "(Ljava/lang/String;Ljava/lang/Throwable;ZZ)V" } : Jvm.MethodName)) ∈ lw_all := lw_g (lw_at lw_m3 69 rfl) rfl
theorem q638 : (Jvm.Cond.code ({ cls := "java/lang/Exception", name := "<init>", desc := "(Ljava/lang/String;Ljava/lang/Throwable;ZZ)V" } : Jvm.MethodName) prog_27_method_5_code (5 : Nat) (Option.none : Option Jvm.ClassFile.FieldType)) ∈ lw_all := lw_g (lw_at lw_m3 70 rfl) rfl
theorem q639 : (Jvm.Cond.methodLink "java/lang/Exception" (16 : Nat) ({ cls := "java/lang/Throwable", name := "<init>", desc := "(Ljava/lang/String;Ljava/lang/Throwable;ZZ)V" } : Jvm.MethodName)) ∈ lw_all := lw_g (lw_at lw_m3 71 rfl) rfl
theorem q952 : (Jvm.Cond.instanceMethod ({ cls := "java/lang/Exception", name := "<init>", desc := "()V" } : Jvm.MethodName)) ∈ lw_all := lw_g (lw_at lw_m4 144 rfl) rfl
theorem q953 : (Jvm.Cond.code ({ cls := "java/lang/Exception", name := "<init>", desc := "()V" } : Jvm.MethodName) prog_27_method_1_code (1 : Nat) (Option.none : Option Jvm.ClassFile.FieldType)) ∈ lw_all := lw_g (lw_at lw_m4 145 rfl) rfl
theorem q954 : (Jvm.Cond.methodLink "java/lang/Exception" (1 : Nat) ({ cls := "java/lang/Throwable", name := "<init>", desc := "()V" } : Jvm.MethodName)) ∈ lw_all := lw_g (lw_at lw_m4 146 rfl) rfl
theorem q1376 : (Jvm.Cond.instanceMethod ({ cls := "java/lang/Exception", name := "<init>", desc := "(Ljava/lang/String;)V" } : Jvm.MethodName)) ∈ lw_all := lw_g (lw_at lw_m6 88 rfl) rfl
theorem q1377 : (Jvm.Cond.code ({ cls := "java/lang/Exception", name := "<init>", desc := "(Ljava/lang/String;)V" } : Jvm.MethodName) prog_27_method_2_code (2 : Nat) (Option.none : Option Jvm.ClassFile.FieldType)) ∈ lw_all := lw_g (lw_at lw_m6 89 rfl) rfl
theorem q1378 : (Jvm.Cond.methodLink "java/lang/Exception" (7 : Nat) ({ cls := "java/lang/Throwable", name := "<init>", desc := "(Ljava/lang/String;)V" } : Jvm.MethodName)) ∈ lw_all := lw_g (lw_at lw_m6 90 rfl) rfl
/-! java/lang/RuntimeException -/
set_option maxRecDepth 100000
def RJ11 : String := "java/lang/RuntimeException"
abbrev cJ11_init : ByteArray := prog_34_method_1_code
def yJ11_init : MethodName := ⟨RJ11, "<init>", "()V"⟩
theorem dJ11_init_0 : decode cJ11_init 0 = .ok (.aload_n 0, 1) := by decide +kernel
theorem dJ11_init_1 : decode cJ11_init 1 = .ok (.invokespecial 1, 3) := by decide +kernel
theorem dJ11_init_4 : decode cJ11_init 4 = .ok (.return_, 1) := by decide +kernel
abbrev cJ11_init_2 : ByteArray := prog_34_method_2_code
def yJ11_init_2 : MethodName := ⟨RJ11, "<init>", "(Ljava/lang/String;)V"⟩
def dkwJ11_init_2_0 : List UInt8 := [42, 43, 183, 0, 7, 177]
abbrev dktJ11_init_2_0 : List UInt8 := dkwJ11_init_2_0 ++ []
theorem dksJ11_init_2_0 : cJ11_init_2.data.toList.drop 0 = dktJ11_init_2_0 := by decide +kernel
theorem dJ11_init_2_0 : decode cJ11_init_2 0 = .ok (.aload_n 0, 1) := dk_42 (dk_at dksJ11_init_2_0 0 rfl rfl)
theorem dJ11_init_2_1 : decode cJ11_init_2 1 = .ok (.aload_n 1, 1) := dk_43 (dk_at dksJ11_init_2_0 1 rfl rfl)
theorem dJ11_init_2_2 : decode cJ11_init_2 2 = .ok (.invokespecial 7, 3) := dk_183 0 7 (dk_at dksJ11_init_2_0 2 rfl rfl)
theorem dJ11_init_2_5 : decode cJ11_init_2 5 = .ok (.return_, 1) := dk_177 (dk_at dksJ11_init_2_0 5 rfl rfl)
theorem q111 : (Jvm.Cond.initialized "java/lang/RuntimeException") ∈ lw_all := lw_g (lw_at lw_m1 23 rfl) rfl
theorem q937 : (Jvm.Cond.declares ({ cls := "java/lang/RuntimeException", name := "<init>", desc := "()V" } : Jvm.MethodName)) ∈ lw_tbl := lw_at lw_m4 129 rfl
theorem q938 : (Jvm.Cond.declares ({ cls := "java/lang/RuntimeException", name := "<init>", desc := "(Ljava/lang/String;)V" } : Jvm.MethodName)) ∈ lw_tbl := lw_at lw_m4 130 rfl
theorem q949 : (Jvm.Cond.instanceMethod ({ cls := "java/lang/RuntimeException", name := "<init>", desc := "()V" } : Jvm.MethodName)) ∈ lw_all := lw_g (lw_at lw_m4 141 rfl) rfl
theorem q950 : (Jvm.Cond.code ({ cls := "java/lang/RuntimeException", name := "<init>", desc := "()V" } : Jvm.MethodName) prog_34_method_1_code (1 : Nat) (Option.none : Option Jvm.ClassFile.FieldType)) ∈ lw_all := lw_g (lw_at lw_m4 142 rfl) rfl
theorem q951 : (Jvm.Cond.methodLink "java/lang/RuntimeException" (1 : Nat) ({ cls := "java/lang/Exception", name := "<init>", desc := "()V" } : Jvm.MethodName)) ∈ lw_all := lw_g (lw_at lw_m4 143 rfl) rfl
theorem q1373 : (Jvm.Cond.instanceMethod ({ cls := "java/lang/RuntimeException", name := "<init>", desc := "(Ljava/lang/String;)V" } : Jvm.MethodName)) ∈ lw_all := lw_g (lw_at lw_m6 85 rfl) rfl
theorem q1374 : (Jvm.Cond.code ({ cls := "java/lang/RuntimeException", name := "<init>", desc := "(Ljava/lang/String;)V" } : Jvm.MethodName) prog_34_method_2_code (2 : Nat) (Option.none : Option Jvm.ClassFile.FieldType)) ∈ lw_all := lw_g (lw_at lw_m6 86 rfl) rfl
theorem q1375 : (Jvm.Cond.methodLink "java/lang/RuntimeException" (7 : Nat) ({ cls := "java/lang/Exception", name := "<init>", desc := "(Ljava/lang/String;)V" } : Jvm.MethodName)) ∈ lw_all := lw_g (lw_at lw_m6 87 rfl) rfl
/-! java/lang/IndexOutOfBoundsException -/
set_option maxRecDepth 100000
def RJ12 : String := "java/lang/IndexOutOfBoundsException"
def TJ12 : u_T := fun k => match k with
  | 0 => ("java/lang/Throwable", "cause", "Ljava/lang/Throwable;", false)
  | 1 => ("java/lang/Throwable", "stackTrace", "[Ljava/lang/StackTraceElement;", false)
  | 2 => ("java/lang/Throwable", "suppressedExceptions", "Ljava/util/List;", false)
  | 3 => ("java/lang/Throwable", "detailMessage", "Ljava/lang/String;", false)
  | 4 => ("java/lang/Throwable", "backtrace", "Ljava/lang/Object;", false)
  | _ => ("java/lang/Throwable", "depth", "I", false)
def tyJ12 : Nat → FieldType := fun k => match k with
  | 0 => .object "java/lang/Throwable"
  | 1 => .array (.object "java/lang/StackTraceElement")
  | 2 => .object "java/util/List"
  | 3 => .object "java/lang/String"
  | 4 => .object "java/lang/Object"
  | _ => .int
abbrev wsJ120 : List Cond := u_ws RJ12 TJ12 6
theorem nmJ12 : ∀ a, a < 6 → ∀ b, b < 6 → a ≠ b → (TJ12 a).2.1 ≠ (TJ12 b).2.1 := by decide +kernel
theorem tyJ12_ok : ∀ k, k < 6 → parseFieldDescriptor (TJ12 k).2.2.1 = some (tyJ12 k) := by decide +kernel
abbrev cJ12_init : ByteArray := prog_28_method_2_code
def yJ12_init : MethodName := ⟨RJ12, "<init>", "(Ljava/lang/String;)V"⟩
def dkwJ12_init_0 : List UInt8 := [42, 43, 183, 0, 7, 177]
abbrev dktJ12_init_0 : List UInt8 := dkwJ12_init_0 ++ []
theorem dksJ12_init_0 : cJ12_init.data.toList.drop 0 = dktJ12_init_0 := by decide +kernel
theorem dJ12_init_0 : decode cJ12_init 0 = .ok (.aload_n 0, 1) := dk_42 (dk_at dksJ12_init_0 0 rfl rfl)
theorem dJ12_init_1 : decode cJ12_init 1 = .ok (.aload_n 1, 1) := dk_43 (dk_at dksJ12_init_0 1 rfl rfl)
theorem dJ12_init_2 : decode cJ12_init 2 = .ok (.invokespecial 7, 3) := dk_183 0 7 (dk_at dksJ12_init_0 2 rfl rfl)
theorem dJ12_init_5 : decode cJ12_init 5 = .ok (.return_, 1) := dk_177 (dk_at dksJ12_init_0 5 rfl rfl)
abbrev cJ12_init_2 : ByteArray := prog_28_method_1_code
def yJ12_init_2 : MethodName := ⟨RJ12, "<init>", "()V"⟩
theorem dJ12_init_2_0 : decode cJ12_init_2 0 = .ok (.aload_n 0, 1) := by decide +kernel
theorem dJ12_init_2_1 : decode cJ12_init_2 1 = .ok (.invokespecial 1, 3) := by decide +kernel
theorem dJ12_init_2_4 : decode cJ12_init_2 4 = .ok (.return_, 1) := by decide +kernel
theorem q112 : (Jvm.Cond.initialized "java/lang/IndexOutOfBoundsException") ∈ lw_all := lw_g (lw_at lw_m1 24 rfl) rfl
theorem q625 : (Jvm.Cond.selects "java/lang/IndexOutOfBoundsException" ({ cls := "java/lang/Throwable", name := "fillInStackTrace", desc := "()Ljava/lang/Throwable;" } : Jvm.MethodName) ({ cls := "java/lang/Throwable", name := "fillInStackTrace", desc := "()Ljava/lang/Throwable;" } : Jvm.MethodName)) ∈ lw_all := lw_g (lw_at lw_m3 57 rfl) rfl
theorem q1370 : (Jvm.Cond.instanceMethod ({ cls := "java/lang/IndexOutOfBoundsException", name := "<init>", desc := "(Ljava/lang/String;)V" } : Jvm.MethodName)) ∈ lw_all := lw_g (lw_at lw_m6 82 rfl) rfl
theorem q1371 : (Jvm.Cond.code ({ cls := "java/lang/IndexOutOfBoundsException", name := "<init>", desc := "(Ljava/lang/String;)V" } : Jvm.MethodName) prog_28_method_2_code (2 : Nat) (Option.none : Option Jvm.ClassFile.FieldType)) ∈ lw_all := lw_g (lw_at lw_m6 83 rfl) rfl
theorem q1372 : (Jvm.Cond.methodLink "java/lang/IndexOutOfBoundsException" (7 : Nat) ({ cls := "java/lang/RuntimeException", name := "<init>", desc := "(Ljava/lang/String;)V" } : Jvm.MethodName)) ∈ lw_all := lw_g (lw_at lw_m6 84 rfl) rfl
theorem q1389 : (Jvm.Cond.declares ({ cls := "java/lang/IndexOutOfBoundsException", name := "<init>", desc := "()V" } : Jvm.MethodName)) ∈ lw_tbl := lw_at lw_m6 101 rfl
theorem q1390 : (Jvm.Cond.declares ({ cls := "java/lang/IndexOutOfBoundsException", name := "<init>", desc := "(Ljava/lang/String;)V" } : Jvm.MethodName)) ∈ lw_tbl := lw_at lw_m6 102 rfl
theorem q1398 : (Jvm.Cond.instantiable "java/lang/IndexOutOfBoundsException" (6 : Nat)) ∈ lw_all := lw_g (lw_at lw_m6 110 rfl) rfl
theorem q1399 : (Jvm.Cond.castable "java/lang/IndexOutOfBoundsException" "java/lang/IndexOutOfBoundsException") ∈ lw_tbl := lw_at lw_m6 111 rfl
theorem q1400 : (Jvm.Cond.selects "java/lang/IndexOutOfBoundsException" ({ cls := "java/lang/Throwable", name := "fillInStackTrace", desc := "(I)Ljava/lang/Throwable;" } : Jvm.MethodName) ({ cls := "java/lang/Throwable", name := "fillInStackTrace", desc := "(I)Ljava/lang/Throwable;" } : Jvm.MethodName)) ∈ lw_all := lw_g (lw_at lw_m6 112 rfl) rfl
theorem q1401 : (Jvm.Cond.lays "java/lang/IndexOutOfBoundsException" "java/lang/Throwable" "cause" "Ljava/lang/Throwable;") ∈ lw_all := lw_g (lw_at lw_m6 113 rfl) rfl
theorem q1402 : (Jvm.Cond.lays "java/lang/IndexOutOfBoundsException" "java/lang/Throwable" "stackTrace" "[Ljava/lang/StackTraceElement;") ∈ lw_all := lw_g (lw_at lw_m6 114 rfl) rfl
theorem q1403 : (Jvm.Cond.lays "java/lang/IndexOutOfBoundsException" "java/lang/Throwable" "suppressedExceptions" "Ljava/util/List;") ∈ lw_all := lw_g (lw_at lw_m6 115 rfl) rfl
theorem q1404 : (Jvm.Cond.lays "java/lang/IndexOutOfBoundsException" "java/lang/Throwable" "detailMessage" "Ljava/lang/String;") ∈ lw_all := lw_g (lw_at lw_m6 116 rfl) rfl
theorem q1405 : (Jvm.Cond.lays "java/lang/IndexOutOfBoundsException" "java/lang/Throwable" "backtrace" "Ljava/lang/Object;") ∈ lw_all := lw_g (lw_at lw_m6 117 rfl) rfl
theorem q1407 : (Jvm.Cond.instanceMethod ({ cls := "java/lang/IndexOutOfBoundsException", name := "<init>", desc := "()V" } : Jvm.MethodName)) ∈ lw_all := lw_g (lw_at lw_m6 119 rfl) rfl
theorem q1408 : (Jvm.Cond.code ({ cls := "java/lang/IndexOutOfBoundsException", name := "<init>", desc := "()V" } : Jvm.MethodName) prog_28_method_1_code (1 : Nat) (Option.none : Option Jvm.ClassFile.FieldType)) ∈ lw_all := lw_g (lw_at lw_m6 120 rfl) rfl
theorem q1409 : (Jvm.Cond.methodLink "java/lang/IndexOutOfBoundsException" (1 : Nat) ({ cls := "java/lang/RuntimeException", name := "<init>", desc := "()V" } : Jvm.MethodName)) ∈ lw_all := lw_g (lw_at lw_m6 121 rfl) rfl
theorem q1410 : (Jvm.Cond.lays "java/lang/IndexOutOfBoundsException" "java/lang/Throwable" "depth" "I") ∈ lw_all := lw_g (lw_at lw_m6 122 rfl) rfl
theorem q1411 : (Jvm.Cond.superclass "java/lang/IndexOutOfBoundsException" "java/lang/RuntimeException") ∈ lw_all := lw_g (lw_at lw_m6 123 rfl) rfl
theorem q1996 : (Jvm.Cond.castable "java/lang/IndexOutOfBoundsException" "java/lang/Object") ∈ lw_tbl := lw_at lw_m8 228 rfl
theorem in_J12 : ∀ w ∈ wsJ120, w ∈ lw_all := lw_in wsJ120 [1401, 1402, 1403, 1404, 1405, 1410] (by decide +kernel) (by decide +kernel)
/-! java/lang/ArrayIndexOutOfBoundsException -/
set_option maxRecDepth 100000
def RJ13 : String := "java/lang/ArrayIndexOutOfBoundsException"
def TJ13 : u_T := fun k => match k with
  | 0 => ("java/lang/Throwable", "backtrace", "Ljava/lang/Object;", false)
  | 1 => ("java/lang/Throwable", "detailMessage", "Ljava/lang/String;", false)
  | 2 => ("java/lang/Throwable", "cause", "Ljava/lang/Throwable;", false)
  | 3 => ("java/lang/Throwable", "stackTrace", "[Ljava/lang/StackTraceElement;", false)
  | 4 => ("java/lang/Throwable", "depth", "I", false)
  | _ => ("java/lang/Throwable", "suppressedExceptions", "Ljava/util/List;", false)
def tyJ13 : Nat → FieldType := fun k => match k with
  | 0 => .object "java/lang/Object"
  | 1 => .object "java/lang/String"
  | 2 => .object "java/lang/Throwable"
  | 3 => .array (.object "java/lang/StackTraceElement")
  | 4 => .int
  | _ => .object "java/util/List"
abbrev wsJ130 : List Cond := u_ws RJ13 TJ13 6
theorem nmJ13 : ∀ a, a < 6 → ∀ b, b < 6 → a ≠ b → (TJ13 a).2.1 ≠ (TJ13 b).2.1 := by decide +kernel
theorem tyJ13_ok : ∀ k, k < 6 → parseFieldDescriptor (TJ13 k).2.2.1 = some (tyJ13 k) := by decide +kernel
abbrev cJ13_init : ByteArray := prog_23_method_2_code
def yJ13_init : MethodName := ⟨RJ13, "<init>", "(Ljava/lang/String;)V"⟩
def dkwJ13_init_0 : List UInt8 := [42, 43, 183, 0, 7, 177]
abbrev dktJ13_init_0 : List UInt8 := dkwJ13_init_0 ++ []
theorem dksJ13_init_0 : cJ13_init.data.toList.drop 0 = dktJ13_init_0 := by decide +kernel
theorem dJ13_init_0 : decode cJ13_init 0 = .ok (.aload_n 0, 1) := dk_42 (dk_at dksJ13_init_0 0 rfl rfl)
theorem dJ13_init_1 : decode cJ13_init 1 = .ok (.aload_n 1, 1) := dk_43 (dk_at dksJ13_init_0 1 rfl rfl)
theorem dJ13_init_2 : decode cJ13_init 2 = .ok (.invokespecial 7, 3) := dk_183 0 7 (dk_at dksJ13_init_0 2 rfl rfl)
theorem dJ13_init_5 : decode cJ13_init 5 = .ok (.return_, 1) := dk_177 (dk_at dksJ13_init_0 5 rfl rfl)
theorem q113 : (Jvm.Cond.initialized "java/lang/ArrayIndexOutOfBoundsException") ∈ lw_all := lw_g (lw_at lw_m1 25 rfl) rfl
theorem q624 : (Jvm.Cond.selects "java/lang/ArrayIndexOutOfBoundsException" ({ cls := "java/lang/Throwable", name := "fillInStackTrace", desc := "()Ljava/lang/Throwable;" } : Jvm.MethodName) ({ cls := "java/lang/Throwable", name := "fillInStackTrace", desc := "()Ljava/lang/Throwable;" } : Jvm.MethodName)) ∈ lw_all := lw_g (lw_at lw_m3 56 rfl) rfl
theorem q1366 : (Jvm.Cond.instantiable "java/lang/ArrayIndexOutOfBoundsException" (6 : Nat)) ∈ lw_all := lw_g (lw_at lw_m6 78 rfl) rfl
theorem q1367 : (Jvm.Cond.instanceMethod ({ cls := "java/lang/ArrayIndexOutOfBoundsException", name := "<init>", desc := "(Ljava/lang/String;)V" } : Jvm.MethodName)) ∈ lw_all := lw_g (lw_at lw_m6 79 rfl) rfl
theorem q1368 : (Jvm.Cond.code ({ cls := "java/lang/ArrayIndexOutOfBoundsException", name := "<init>", desc := "(Ljava/lang/String;)V" } : Jvm.MethodName) prog_23_method_2_code (2 : Nat) (Option.none : Option Jvm.ClassFile.FieldType)) ∈ lw_all := lw_g (lw_at lw_m6 80 rfl) rfl
theorem q1369 : (Jvm.Cond.methodLink "java/lang/ArrayIndexOutOfBoundsException" (7 : Nat) ({ cls := "java/lang/IndexOutOfBoundsException", name := "<init>", desc := "(Ljava/lang/String;)V" } : Jvm.MethodName)) ∈ lw_all := lw_g (lw_at lw_m6 81 rfl) rfl
theorem q1381 : (Jvm.Cond.lays "java/lang/ArrayIndexOutOfBoundsException" "java/lang/Throwable" "backtrace" "Ljava/lang/Object;") ∈ lw_all := lw_g (lw_at lw_m6 93 rfl) rfl
theorem q1382 : (Jvm.Cond.lays "java/lang/ArrayIndexOutOfBoundsException" "java/lang/Throwable" "detailMessage" "Ljava/lang/String;") ∈ lw_all := lw_g (lw_at lw_m6 94 rfl) rfl
theorem q1383 : (Jvm.Cond.lays "java/lang/ArrayIndexOutOfBoundsException" "java/lang/Throwable" "cause" "Ljava/lang/Throwable;") ∈ lw_all := lw_g (lw_at lw_m6 95 rfl) rfl
theorem q1384 : (Jvm.Cond.lays "java/lang/ArrayIndexOutOfBoundsException" "java/lang/Throwable" "stackTrace" "[Ljava/lang/StackTraceElement;") ∈ lw_all := lw_g (lw_at lw_m6 96 rfl) rfl
theorem q1385 : (Jvm.Cond.lays "java/lang/ArrayIndexOutOfBoundsException" "java/lang/Throwable" "depth" "I") ∈ lw_all := lw_g (lw_at lw_m6 97 rfl) rfl
theorem q1386 : (Jvm.Cond.lays "java/lang/ArrayIndexOutOfBoundsException" "java/lang/Throwable" "suppressedExceptions" "Ljava/util/List;") ∈ lw_all := lw_g (lw_at lw_m6 98 rfl) rfl
theorem q1387 : (Jvm.Cond.superclass "java/lang/ArrayIndexOutOfBoundsException" "java/lang/IndexOutOfBoundsException") ∈ lw_all := lw_g (lw_at lw_m6 99 rfl) rfl
theorem q1388 : (Jvm.Cond.castable "java/lang/ArrayIndexOutOfBoundsException" "java/lang/ArrayIndexOutOfBoundsException") ∈ lw_tbl := lw_at lw_m6 100 rfl
theorem q1391 : (Jvm.Cond.selects "java/lang/ArrayIndexOutOfBoundsException" ({ cls := "java/lang/Throwable", name := "fillInStackTrace", desc := "(I)Ljava/lang/Throwable;" } : Jvm.MethodName) ({ cls := "java/lang/Throwable", name := "fillInStackTrace", desc := "(I)Ljava/lang/Throwable;" } : Jvm.MethodName)) ∈ lw_all := lw_g (lw_at lw_m6 103 rfl) rfl
theorem q1982 : (Jvm.Cond.castable "java/lang/ArrayIndexOutOfBoundsException" "java/lang/IndexOutOfBoundsException") ∈ lw_tbl := lw_at lw_m8 214 rfl
theorem q1995 : (Jvm.Cond.castable "java/lang/ArrayIndexOutOfBoundsException" "java/lang/Object") ∈ lw_tbl := lw_at lw_m8 227 rfl
theorem in_J13 : ∀ w ∈ wsJ130, w ∈ lw_all := lw_in wsJ130 [1381, 1382, 1383, 1384, 1385, 1386] (by decide +kernel) (by decide +kernel)
/-! java/util/NoSuchElementException -/
set_option maxRecDepth 100000
def RJ14 : String := "java/util/NoSuchElementException"
def TJ14 : u_T := fun k => match k with
  | 0 => ("java/lang/Throwable", "cause", "Ljava/lang/Throwable;", false)
  | 1 => ("java/lang/Throwable", "stackTrace", "[Ljava/lang/StackTraceElement;", false)
  | 2 => ("java/lang/Throwable", "suppressedExceptions", "Ljava/util/List;", false)
  | 3 => ("java/lang/Throwable", "detailMessage", "Ljava/lang/String;", false)
  | 4 => ("java/lang/Throwable", "backtrace", "Ljava/lang/Object;", false)
  | _ => ("java/lang/Throwable", "depth", "I", false)
def tyJ14 : Nat → FieldType := fun k => match k with
  | 0 => .object "java/lang/Throwable"
  | 1 => .array (.object "java/lang/StackTraceElement")
  | 2 => .object "java/util/List"
  | 3 => .object "java/lang/String"
  | 4 => .object "java/lang/Object"
  | _ => .int
abbrev wsJ140 : List Cond := u_ws RJ14 TJ14 6
theorem nmJ14 : ∀ a, a < 6 → ∀ b, b < 6 → a ≠ b → (TJ14 a).2.1 ≠ (TJ14 b).2.1 := by decide +kernel
theorem tyJ14_ok : ∀ k, k < 6 → parseFieldDescriptor (TJ14 k).2.2.1 = some (tyJ14 k) := by decide +kernel
abbrev cJ14_init : ByteArray := prog_50_method_1_code
def yJ14_init : MethodName := ⟨RJ14, "<init>", "()V"⟩
theorem dJ14_init_0 : decode cJ14_init 0 = .ok (.aload_n 0, 1) := by decide +kernel
theorem dJ14_init_1 : decode cJ14_init 1 = .ok (.invokespecial 1, 3) := by decide +kernel
theorem dJ14_init_4 : decode cJ14_init 4 = .ok (.return_, 1) := by decide +kernel
theorem q114 : (Jvm.Cond.initialized "java/util/NoSuchElementException") ∈ lw_all := lw_g (lw_at lw_m1 26 rfl) rfl
theorem q626 : (Jvm.Cond.selects "java/util/NoSuchElementException" ({ cls := "java/lang/Throwable", name := "fillInStackTrace", desc := "()Ljava/lang/Throwable;" } : Jvm.MethodName) ({ cls := "java/lang/Throwable", name := "fillInStackTrace", desc := "()Ljava/lang/Throwable;" } : Jvm.MethodName)) ∈ lw_all := lw_g (lw_at lw_m3 58 rfl) rfl
theorem q935 : (Jvm.Cond.instantiable "java/util/NoSuchElementException" (6 : Nat)) ∈ lw_all := lw_g (lw_at lw_m4 127 rfl) rfl
theorem q936 : (Jvm.Cond.castable "java/util/NoSuchElementException" "java/util/NoSuchElementException") ∈ lw_tbl := lw_at lw_m4 128 rfl
theorem q939 : (Jvm.Cond.selects "java/util/NoSuchElementException" ({ cls := "java/lang/Throwable", name := "fillInStackTrace", desc := "(I)Ljava/lang/Throwable;" } : Jvm.MethodName) ({ cls := "java/lang/Throwable", name := "fillInStackTrace", desc := "(I)Ljava/lang/Throwable;" } : Jvm.MethodName)) ∈ lw_all := lw_g (lw_at lw_m4 131 rfl) rfl
theorem q940 : (Jvm.Cond.lays "java/util/NoSuchElementException" "java/lang/Throwable" "cause" "Ljava/lang/Throwable;") ∈ lw_all := lw_g (lw_at lw_m4 132 rfl) rfl
theorem q941 : (Jvm.Cond.lays "java/util/NoSuchElementException" "java/lang/Throwable" "stackTrace" "[Ljava/lang/StackTraceElement;") ∈ lw_all := lw_g (lw_at lw_m4 133 rfl) rfl
theorem q942 : (Jvm.Cond.lays "java/util/NoSuchElementException" "java/lang/Throwable" "suppressedExceptions" "Ljava/util/List;") ∈ lw_all := lw_g (lw_at lw_m4 134 rfl) rfl
theorem q943 : (Jvm.Cond.lays "java/util/NoSuchElementException" "java/lang/Throwable" "detailMessage" "Ljava/lang/String;") ∈ lw_all := lw_g (lw_at lw_m4 135 rfl) rfl
theorem q944 : (Jvm.Cond.lays "java/util/NoSuchElementException" "java/lang/Throwable" "backtrace" "Ljava/lang/Object;") ∈ lw_all := lw_g (lw_at lw_m4 136 rfl) rfl
theorem q946 : (Jvm.Cond.instanceMethod ({ cls := "java/util/NoSuchElementException", name := "<init>", desc := "()V" } : Jvm.MethodName)) ∈ lw_all := lw_g (lw_at lw_m4 138 rfl) rfl
theorem q947 : (Jvm.Cond.code ({ cls := "java/util/NoSuchElementException", name := "<init>", desc := "()V" } : Jvm.MethodName) prog_50_method_1_code (1 : Nat) (Option.none : Option Jvm.ClassFile.FieldType)) ∈ lw_all := lw_g (lw_at lw_m4 139 rfl) rfl
theorem q948 : (Jvm.Cond.methodLink "java/util/NoSuchElementException" (1 : Nat) ({ cls := "java/lang/RuntimeException", name := "<init>", desc := "()V" } : Jvm.MethodName)) ∈ lw_all := lw_g (lw_at lw_m4 140 rfl) rfl
theorem q955 : (Jvm.Cond.lays "java/util/NoSuchElementException" "java/lang/Throwable" "depth" "I") ∈ lw_all := lw_g (lw_at lw_m4 147 rfl) rfl
theorem q956 : (Jvm.Cond.superclass "java/util/NoSuchElementException" "java/lang/RuntimeException") ∈ lw_all := lw_g (lw_at lw_m4 148 rfl) rfl
theorem q1997 : (Jvm.Cond.castable "java/util/NoSuchElementException" "java/lang/Object") ∈ lw_tbl := lw_at lw_m8 229 rfl
theorem in_J14 : ∀ w ∈ wsJ140, w ∈ lw_all := lw_in wsJ140 [940, 941, 942, 943, 944, 955] (by decide +kernel) (by decide +kernel)
/-! java/lang/Number -/
set_option maxRecDepth 100000
def RJ15 : String := "java/lang/Number"
abbrev cJ15_init : ByteArray := prog_33_method_1_code
def yJ15_init : MethodName := ⟨RJ15, "<init>", "()V"⟩
theorem dJ15_init_0 : decode cJ15_init 0 = .ok (.aload_n 0, 1) := by decide +kernel
theorem dJ15_init_1 : decode cJ15_init 1 = .ok (.invokespecial 1, 3) := by decide +kernel
theorem dJ15_init_4 : decode cJ15_init 4 = .ok (.return_, 1) := by decide +kernel
theorem q116 : (Jvm.Cond.initialized "java/lang/Number") ∈ lw_all := lw_g (lw_at lw_m1 28 rfl) rfl
theorem q970 : (Jvm.Cond.instanceMethod ({ cls := "java/lang/Number", name := "<init>", desc := "()V" } : Jvm.MethodName)) ∈ lw_all := lw_g (lw_at lw_m4 162 rfl) rfl
theorem q971 : (Jvm.Cond.code ({ cls := "java/lang/Number", name := "<init>", desc := "()V" } : Jvm.MethodName) prog_33_method_1_code (1 : Nat) (Option.none : Option Jvm.ClassFile.FieldType)) ∈ lw_all := lw_g (lw_at lw_m4 163 rfl) rfl
theorem q972 : (Jvm.Cond.methodLink "java/lang/Number" (1 : Nat) ({ cls := "java/lang/Object", name := "<init>", desc := "()V" } : Jvm.MethodName)) ∈ lw_all := lw_g (lw_at lw_m4 164 rfl) rfl
/-! java/lang/Integer -/
set_option maxRecDepth 100000
def RJ16 : String := "java/lang/Integer"
def TJ16 : u_T := fun k => match k with
  | _ => ("java/lang/Integer", "value", "I", true)
def tyJ16 : Nat → FieldType := fun k => match k with
  | _ => .int
abbrev wsJ160 : List Cond := u_ws RJ16 TJ16 1
theorem nmJ16 : ∀ a, a < 1 → ∀ b, b < 1 → a ≠ b → (TJ16 a).2.1 ≠ (TJ16 b).2.1 := by decide +kernel
theorem tyJ16_ok : ∀ k, k < 1 → parseFieldDescriptor (TJ16 k).2.2.1 = some (tyJ16 k) := by decide +kernel
abbrev cJ16_valueOf : ByteArray := prog_29_method_22_code
def yJ16_valueOf : MethodName := ⟨RJ16, "valueOf", "(I)Ljava/lang/Integer;"⟩
def dkwJ16_valueOf_1 : List UInt8 := [187, 0, 1, 89, 26, 183, 0, 199, 176]
abbrev dktJ16_valueOf_1 : List UInt8 := dkwJ16_valueOf_1 ++ []
def dkwJ16_valueOf_0 : List UInt8 := [26, 16, 128, 161, 0, 20, 26, 178, 0, 191, 163, 0, 13, 178, 0, 195, 26, 17, 0, 128, 96, 50, 176]
abbrev dktJ16_valueOf_0 : List UInt8 := dkwJ16_valueOf_0 ++ dktJ16_valueOf_1
theorem dksJ16_valueOf_0 : cJ16_valueOf.data.toList.drop 0 = dktJ16_valueOf_0 := by decide +kernel
theorem dksJ16_valueOf_1 : cJ16_valueOf.data.toList.drop 23 = dktJ16_valueOf_1 := dk_seg dksJ16_valueOf_0 23 rfl rfl
theorem dJ16_valueOf_0 : decode cJ16_valueOf 0 = .ok (.iload_n 0, 1) := dk_26 (dk_at dksJ16_valueOf_0 0 rfl rfl)
theorem dJ16_valueOf_1 : decode cJ16_valueOf 1 = .ok (.bipush (-128), 2) := dk_16 128 (dk_at dksJ16_valueOf_0 1 rfl rfl)
theorem dJ16_valueOf_3 : decode cJ16_valueOf 3 = .ok (.if_icmp .lt 20, 3) := dk_161 0 20 (dk_at dksJ16_valueOf_0 3 rfl rfl)
theorem dJ16_valueOf_6 : decode cJ16_valueOf 6 = .ok (.iload_n 0, 1) := dk_26 (dk_at dksJ16_valueOf_0 6 rfl rfl)
theorem dJ16_valueOf_7 : decode cJ16_valueOf 7 = .ok (.getstatic 191, 3) := dk_178 0 191 (dk_at dksJ16_valueOf_0 7 rfl rfl)
theorem dJ16_valueOf_10 : decode cJ16_valueOf 10 = .ok (.if_icmp .gt 13, 3) := dk_163 0 13 (dk_at dksJ16_valueOf_0 10 rfl rfl)
theorem dJ16_valueOf_13 : decode cJ16_valueOf 13 = .ok (.getstatic 195, 3) := dk_178 0 195 (dk_at dksJ16_valueOf_0 13 rfl rfl)
theorem dJ16_valueOf_16 : decode cJ16_valueOf 16 = .ok (.iload_n 0, 1) := dk_26 (dk_at dksJ16_valueOf_0 16 rfl rfl)
theorem dJ16_valueOf_17 : decode cJ16_valueOf 17 = .ok (.sipush 128, 3) := dk_17 0 128 (dk_at dksJ16_valueOf_0 17 rfl rfl)
theorem dJ16_valueOf_20 : decode cJ16_valueOf 20 = .ok (.iadd, 1) := dk_96 (dk_at dksJ16_valueOf_0 20 rfl rfl)
theorem dJ16_valueOf_21 : decode cJ16_valueOf 21 = .ok (.aaload, 1) := dk_50 (dk_at dksJ16_valueOf_0 21 rfl rfl)
theorem dJ16_valueOf_22 : decode cJ16_valueOf 22 = .ok (.areturn, 1) := dk_176 (dk_at dksJ16_valueOf_0 22 rfl rfl)
theorem dJ16_valueOf_23 : decode cJ16_valueOf 23 = .ok (.new 1, 3) := dk_187 0 1 (dk_at dksJ16_valueOf_1 0 rfl rfl)
theorem dJ16_valueOf_26 : decode cJ16_valueOf 26 = .ok (.dup, 1) := dk_89 (dk_at dksJ16_valueOf_1 3 rfl rfl)
theorem dJ16_valueOf_27 : decode cJ16_valueOf 27 = .ok (.iload_n 0, 1) := dk_26 (dk_at dksJ16_valueOf_1 4 rfl rfl)
theorem dJ16_valueOf_28 : decode cJ16_valueOf 28 = .ok (.invokespecial 199, 3) := dk_183 0 199 (dk_at dksJ16_valueOf_1 5 rfl rfl)
theorem dJ16_valueOf_31 : decode cJ16_valueOf 31 = .ok (.areturn, 1) := dk_176 (dk_at dksJ16_valueOf_1 8 rfl rfl)
abbrev cJ16_init : ByteArray := prog_29_method_23_code
def yJ16_init : MethodName := ⟨RJ16, "<init>", "(I)V"⟩
def dkwJ16_init_0 : List UInt8 := [42, 183, 0, 202, 42, 27, 181, 0, 205, 177]
abbrev dktJ16_init_0 : List UInt8 := dkwJ16_init_0 ++ []
theorem dksJ16_init_0 : cJ16_init.data.toList.drop 0 = dktJ16_init_0 := by decide +kernel
theorem dJ16_init_0 : decode cJ16_init 0 = .ok (.aload_n 0, 1) := dk_42 (dk_at dksJ16_init_0 0 rfl rfl)
theorem dJ16_init_1 : decode cJ16_init 1 = .ok (.invokespecial 202, 3) := dk_183 0 202 (dk_at dksJ16_init_0 1 rfl rfl)
theorem dJ16_init_4 : decode cJ16_init 4 = .ok (.aload_n 0, 1) := dk_42 (dk_at dksJ16_init_0 4 rfl rfl)
theorem dJ16_init_5 : decode cJ16_init 5 = .ok (.iload_n 1, 1) := dk_27 (dk_at dksJ16_init_0 5 rfl rfl)
theorem dJ16_init_6 : decode cJ16_init 6 = .ok (.putfield 205, 3) := dk_181 0 205 (dk_at dksJ16_init_0 6 rfl rfl)
theorem dJ16_init_9 : decode cJ16_init 9 = .ok (.return_, 1) := dk_177 (dk_at dksJ16_init_0 9 rfl rfl)
abbrev cJ16_intValue : ByteArray := prog_29_method_27_code
def yJ16_intValue : MethodName := ⟨RJ16, "intValue", "()I"⟩
theorem dJ16_intValue_0 : decode cJ16_intValue 0 = .ok (.aload_n 0, 1) := by decide +kernel
theorem dJ16_intValue_1 : decode cJ16_intValue 1 = .ok (.getfield 205, 3) := by decide +kernel
theorem dJ16_intValue_4 : decode cJ16_intValue 4 = .ok (.ireturn, 1) := by decide +kernel
theorem q117 : (Jvm.Cond.initialized "java/lang/Integer") ∈ lw_all := lw_g (lw_at lw_m1 29 rfl) rfl
theorem q958 : (Jvm.Cond.static ({ cls := "java/lang/Integer", name := "valueOf", desc := "(I)Ljava/lang/Integer;" } : Jvm.MethodName)) ∈ lw_all := lw_g (lw_at lw_m4 150 rfl) rfl
theorem q959 : (Jvm.Cond.code ({ cls := "java/lang/Integer", name := "valueOf", desc := "(I)Ljava/lang/Integer;" } : Jvm.MethodName) prog_29_method_22_code (1 : Nat) (Option.some (Jvm.ClassFile.FieldType.object "java/lang/Integer"))) ∈ lw_all := lw_g (lw_at lw_m4 151 rfl) rfl
theorem q960 : (Jvm.Cond.fieldLink "java/lang/Integer" (191 : Nat) "java/lang/Integer$IntegerCache" "high" "I") ∈ lw_all := lw_g (lw_at lw_m4 152 rfl) rfl
theorem q962 : (Jvm.Cond.fieldLink "java/lang/Integer" (195 : Nat) "java/lang/Integer$IntegerCache" "cache" "[Ljava/lang/Integer;") ∈ lw_all := lw_g (lw_at lw_m4 154 rfl) rfl
theorem q964 : (Jvm.Cond.classLink "java/lang/Integer" (1 : Nat) "java/lang/Integer") ∈ lw_all := lw_g (lw_at lw_m4 156 rfl) rfl
theorem q965 : (Jvm.Cond.instantiable "java/lang/Integer" (1 : Nat)) ∈ lw_all := lw_g (lw_at lw_m4 157 rfl) rfl
theorem q966 : (Jvm.Cond.methodLink "java/lang/Integer" (199 : Nat) ({ cls := "java/lang/Integer", name := "<init>", desc := "(I)V" } : Jvm.MethodName)) ∈ lw_all := lw_g (lw_at lw_m4 158 rfl) rfl
theorem q967 : (Jvm.Cond.instanceMethod ({ cls := "java/lang/Integer", name := "<init>", desc := "(I)V" } : Jvm.MethodName)) ∈ lw_all := lw_g (lw_at lw_m4 159 rfl) rfl
theorem q968 : (Jvm.Cond.code ({ cls := "java/lang/Integer", name := "<init>", desc := "(I)V" } : Jvm.MethodName) prog_29_method_23_code (2 : Nat) (Option.none : Option Jvm.ClassFile.FieldType)) ∈ lw_all := lw_g (lw_at lw_m4 160 rfl) rfl
theorem q969 : (Jvm.Cond.methodLink "java/lang/Integer" (202 : Nat) ({ cls := "java/lang/Number", name := "<init>", desc := "()V" } : Jvm.MethodName)) ∈ lw_all := lw_g (lw_at lw_m4 161 rfl) rfl
theorem q973 : (Jvm.Cond.fieldLink "java/lang/Integer" (205 : Nat) "java/lang/Integer" "value" "I") ∈ lw_all := lw_g (lw_at lw_m4 165 rfl) rfl
theorem q974 : (Jvm.Cond.laysFinal "java/lang/Integer" "java/lang/Integer" "value" "I") ∈ lw_all := lw_g (lw_at lw_m4 166 rfl) rfl
theorem q975 : (Jvm.Cond.soleField "java/lang/Integer" "value") ∈ lw_all := lw_g (lw_at lw_m4 167 rfl) rfl
theorem q976 : (Jvm.Cond.superclass "java/lang/Integer" "java/lang/Number") ∈ lw_all := lw_g (lw_at lw_m4 168 rfl) rfl
theorem q1020 : (Jvm.Cond.instanceMethod ({ cls := "java/lang/Integer", name := "intValue", desc := "()I" } : Jvm.MethodName)) ∈ lw_all := lw_g (lw_at lw_m4 212 rfl) rfl
theorem q1021 : (Jvm.Cond.selects "java/lang/Integer" ({ cls := "java/lang/Integer", name := "intValue", desc := "()I" } : Jvm.MethodName) ({ cls := "java/lang/Integer", name := "intValue", desc := "()I" } : Jvm.MethodName)) ∈ lw_all := lw_g (lw_at lw_m4 213 rfl) rfl
theorem q1022 : (Jvm.Cond.code ({ cls := "java/lang/Integer", name := "intValue", desc := "()I" } : Jvm.MethodName) prog_29_method_27_code (1 : Nat) (Option.some Jvm.ClassFile.FieldType.int)) ∈ lw_all := lw_g (lw_at lw_m4 214 rfl) rfl
theorem q1999 : (Jvm.Cond.castable "java/lang/Integer" "java/lang/Object") ∈ lw_tbl := lw_at lw_m8 231 rfl
theorem in_J16 : ∀ w ∈ wsJ160, w ∈ lw_all := lw_in wsJ160 [974] (by decide +kernel) (by decide +kernel)
/-! java/lang/Object -/
set_option maxRecDepth 100000
def RJ17 : String := "java/lang/Object"
abbrev cJ17_init : ByteArray := object_method_1_code
def yJ17_init : MethodName := ⟨RJ17, "<init>", "()V"⟩
theorem dJ17_init_0 : decode cJ17_init 0 = .ok (.return_, 1) := by decide +kernel
theorem q131 : (Jvm.Cond.instanceMethod ({ cls := "java/lang/Object", name := "<init>", desc := "()V" } : Jvm.MethodName)) ∈ lw_all := lw_g (lw_at lw_m1 43 rfl) rfl
theorem q132 : (Jvm.Cond.code ({ cls := "java/lang/Object", name := "<init>", desc := "()V" } : Jvm.MethodName) object_method_1_code (1 : Nat) (Option.none : Option Jvm.ClassFile.FieldType)) ∈ lw_all := lw_g (lw_at lw_m1 44 rfl) rfl
theorem q446 : (Jvm.Cond.native ({ cls := "java/lang/Object", name := "clone", desc := "()Ljava/lang/Object;" } : Jvm.MethodName)) ∈ lw_all := lw_g (lw_at lw_m2 118 rfl) rfl
theorem q447 : (Jvm.Cond.instanceMethod ({ cls := "java/lang/Object", name := "clone", desc := "()Ljava/lang/Object;" } : Jvm.MethodName)) ∈ lw_all := lw_g (lw_at lw_m2 119 rfl) rfl
theorem q1981 : (Jvm.Cond.initialized "java/lang/Object") ∈ lw_all := lw_g (lw_at lw_m8 213 rfl) rfl
/-! java/lang/String -/
set_option maxRecDepth 100000
def RJ2 : String := "java/lang/String"
def TJ2 : u_T := fun k => match k with
  | 0 => ("java/lang/String", "value", "[B", true)
  | 1 => ("java/lang/String", "coder", "B", true)
  | 2 => ("java/lang/String", "hash", "I", false)
  | _ => ("java/lang/String", "hashIsZero", "Z", false)
def tyJ2 : Nat → FieldType := fun k => match k with
  | 0 => .array .byte
  | 1 => .byte
  | 2 => .int
  | _ => .boolean
abbrev wsJ20 : List Cond := u_ws RJ2 TJ2 4
theorem nmJ2 : ∀ a, a < 4 → ∀ b, b < 4 → a ≠ b → (TJ2 a).2.1 ≠ (TJ2 b).2.1 := by decide +kernel
theorem tyJ2_ok : ∀ k, k < 4 → parseFieldDescriptor (TJ2 k).2.2.1 = some (tyJ2 k) := by decide +kernel
abbrev cJ2_checkBoundsOffCount : ByteArray := prog_35_method_157_code
def yJ2_checkBoundsOffCount : MethodName := ⟨RJ2, "checkBoundsOffCount", "(III)I"⟩
def dkwJ2_checkBoundsOffCount_0 : List UInt8 := [26, 27, 28, 178, 4, 29, 184, 4, 41, 172]
abbrev dktJ2_checkBoundsOffCount_0 : List UInt8 := dkwJ2_checkBoundsOffCount_0 ++ []
theorem dksJ2_checkBoundsOffCount_0 : cJ2_checkBoundsOffCount.data.toList.drop 0 = dktJ2_checkBoundsOffCount_0 := by decide +kernel
theorem dJ2_checkBoundsOffCount_0 : decode cJ2_checkBoundsOffCount 0 = .ok (.iload_n 0, 1) := dk_26 (dk_at dksJ2_checkBoundsOffCount_0 0 rfl rfl)
theorem dJ2_checkBoundsOffCount_1 : decode cJ2_checkBoundsOffCount 1 = .ok (.iload_n 1, 1) := dk_27 (dk_at dksJ2_checkBoundsOffCount_0 1 rfl rfl)
theorem dJ2_checkBoundsOffCount_2 : decode cJ2_checkBoundsOffCount 2 = .ok (.iload_n 2, 1) := dk_28 (dk_at dksJ2_checkBoundsOffCount_0 2 rfl rfl)
theorem dJ2_checkBoundsOffCount_3 : decode cJ2_checkBoundsOffCount 3 = .ok (.getstatic 1053, 3) := dk_178 4 29 (dk_at dksJ2_checkBoundsOffCount_0 3 rfl rfl)
theorem dJ2_checkBoundsOffCount_6 : decode cJ2_checkBoundsOffCount 6 = .ok (.invokestatic 1065, 3) := dk_184 4 41 (dk_at dksJ2_checkBoundsOffCount_0 6 rfl rfl)
theorem dJ2_checkBoundsOffCount_9 : decode cJ2_checkBoundsOffCount 9 = .ok (.ireturn, 1) := dk_172 (dk_at dksJ2_checkBoundsOffCount_0 9 rfl rfl)
abbrev cJ2_checkIndex : ByteArray := prog_35_method_155_code
def yJ2_checkIndex : MethodName := ⟨RJ2, "checkIndex", "(II)V"⟩
def dkwJ2_checkIndex_0 : List UInt8 := [26, 27, 178, 4, 29, 184, 4, 35, 87, 177]
abbrev dktJ2_checkIndex_0 : List UInt8 := dkwJ2_checkIndex_0 ++ []
theorem dksJ2_checkIndex_0 : cJ2_checkIndex.data.toList.drop 0 = dktJ2_checkIndex_0 := by decide +kernel
theorem dJ2_checkIndex_0 : decode cJ2_checkIndex 0 = .ok (.iload_n 0, 1) := dk_26 (dk_at dksJ2_checkIndex_0 0 rfl rfl)
theorem dJ2_checkIndex_1 : decode cJ2_checkIndex 1 = .ok (.iload_n 1, 1) := dk_27 (dk_at dksJ2_checkIndex_0 1 rfl rfl)
theorem dJ2_checkIndex_2 : decode cJ2_checkIndex 2 = .ok (.getstatic 1053, 3) := dk_178 4 29 (dk_at dksJ2_checkIndex_0 2 rfl rfl)
theorem dJ2_checkIndex_5 : decode cJ2_checkIndex 5 = .ok (.invokestatic 1059, 3) := dk_184 4 35 (dk_at dksJ2_checkIndex_0 5 rfl rfl)
theorem dJ2_checkIndex_8 : decode cJ2_checkIndex 8 = .ok (.pop, 1) := dk_87 (dk_at dksJ2_checkIndex_0 8 rfl rfl)
theorem dJ2_checkIndex_9 : decode cJ2_checkIndex 9 = .ok (.return_, 1) := dk_177 (dk_at dksJ2_checkIndex_0 9 rfl rfl)
abbrev cJ2_init : ByteArray := prog_35_method_53_code
def yJ2_init : MethodName := ⟨RJ2, "<init>", "(Ljava/lang/StringBuilder;)V"⟩
def dkwJ2_init_0 : List UInt8 := [42, 43, 1, 183, 1, 233, 177]
abbrev dktJ2_init_0 : List UInt8 := dkwJ2_init_0 ++ []
theorem dksJ2_init_0 : cJ2_init.data.toList.drop 0 = dktJ2_init_0 := by decide +kernel
theorem dJ2_init_0 : decode cJ2_init 0 = .ok (.aload_n 0, 1) := dk_42 (dk_at dksJ2_init_0 0 rfl rfl)
theorem dJ2_init_1 : decode cJ2_init 1 = .ok (.aload_n 1, 1) := dk_43 (dk_at dksJ2_init_0 1 rfl rfl)
theorem dJ2_init_2 : decode cJ2_init 2 = .ok (.aconst_null, 1) := dk_1 (dk_at dksJ2_init_0 2 rfl rfl)
theorem dJ2_init_3 : decode cJ2_init 3 = .ok (.invokespecial 489, 3) := dk_183 1 233 (dk_at dksJ2_init_0 3 rfl rfl)
theorem dJ2_init_6 : decode cJ2_init 6 = .ok (.return_, 1) := dk_177 (dk_at dksJ2_init_0 6 rfl rfl)
abbrev cJ2_init_2 : ByteArray := prog_35_method_150_code
def yJ2_init_2 : MethodName := ⟨RJ2, "<init>", "(Ljava/lang/AbstractStringBuilder;Ljava/lang/Void;)V"⟩
def dkwJ2_init_2_4 : List UInt8 := [181, 0, 9, 177]
abbrev dktJ2_init_2_4 : List UInt8 := dkwJ2_init_2_4 ++ []
def dkwJ2_init_2_3 : List UInt8 := [184, 0, 47, 181, 0, 15, 177, 42, 4, 181, 0, 15, 42, 45, 3, 21, 4, 4, 120, 184, 0, 54]
abbrev dktJ2_init_2_3 : List UInt8 := dkwJ2_init_2_3 ++ dktJ2_init_2_4
def dkwJ2_init_2_2 : List UInt8 := [180, 4, 24, 153, 0, 28, 42, 45, 3, 21, 4, 184, 4, 27, 181, 0, 9, 42, 42, 180, 0, 9, 21, 4]
abbrev dktJ2_init_2_2 : List UInt8 := dkwJ2_init_2_2 ++ dktJ2_init_2_3
def dkwJ2_init_2_1 : List UInt8 := [181, 0, 15, 42, 45, 3, 21, 4, 184, 0, 54, 181, 0, 9, 167, 0, 59, 178, 0, 38, 153, 0, 35, 43]
abbrev dktJ2_init_2_1 : List UInt8 := dkwJ2_init_2_1 ++ dktJ2_init_2_2
def dkwJ2_init_2_0 : List UInt8 := [42, 183, 0, 1, 43, 182, 2, 40, 78, 43, 182, 2, 37, 54, 4, 43, 182, 4, 23, 153, 0, 22, 42, 3]
abbrev dktJ2_init_2_0 : List UInt8 := dkwJ2_init_2_0 ++ dktJ2_init_2_1
theorem dksJ2_init_2_0 : cJ2_init_2.data.toList.drop 0 = dktJ2_init_2_0 := by decide +kernel
theorem dksJ2_init_2_1 : cJ2_init_2.data.toList.drop 24 = dktJ2_init_2_1 := dk_seg dksJ2_init_2_0 24 rfl rfl
theorem dksJ2_init_2_2 : cJ2_init_2.data.toList.drop 48 = dktJ2_init_2_2 := dk_seg dksJ2_init_2_1 24 rfl rfl
theorem dksJ2_init_2_3 : cJ2_init_2.data.toList.drop 72 = dktJ2_init_2_3 := dk_seg dksJ2_init_2_2 24 rfl rfl
theorem dksJ2_init_2_4 : cJ2_init_2.data.toList.drop 94 = dktJ2_init_2_4 := dk_seg dksJ2_init_2_3 22 rfl rfl
theorem dJ2_init_2_0 : decode cJ2_init_2 0 = .ok (.aload_n 0, 1) := dk_42 (dk_at dksJ2_init_2_0 0 rfl rfl)
theorem dJ2_init_2_1 : decode cJ2_init_2 1 = .ok (.invokespecial 1, 3) := dk_183 0 1 (dk_at dksJ2_init_2_0 1 rfl rfl)
theorem dJ2_init_2_4 : decode cJ2_init_2 4 = .ok (.aload_n 1, 1) := dk_43 (dk_at dksJ2_init_2_0 4 rfl rfl)
theorem dJ2_init_2_5 : decode cJ2_init_2 5 = .ok (.invokevirtual 552, 3) := dk_182 2 40 (dk_at dksJ2_init_2_0 5 rfl rfl)
theorem dJ2_init_2_8 : decode cJ2_init_2 8 = .ok (.astore_n 3, 1) := dk_78 (dk_at dksJ2_init_2_0 8 rfl rfl)
theorem dJ2_init_2_9 : decode cJ2_init_2 9 = .ok (.aload_n 1, 1) := dk_43 (dk_at dksJ2_init_2_0 9 rfl rfl)
theorem dJ2_init_2_10 : decode cJ2_init_2 10 = .ok (.invokevirtual 549, 3) := dk_182 2 37 (dk_at dksJ2_init_2_0 10 rfl rfl)
theorem dJ2_init_2_13 : decode cJ2_init_2 13 = .ok (.istore 4, 2) := dk_54 4 (dk_at dksJ2_init_2_0 13 rfl rfl)
theorem dJ2_init_2_15 : decode cJ2_init_2 15 = .ok (.aload_n 1, 1) := dk_43 (dk_at dksJ2_init_2_0 15 rfl rfl)
theorem dJ2_init_2_16 : decode cJ2_init_2 16 = .ok (.invokevirtual 1047, 3) := dk_182 4 23 (dk_at dksJ2_init_2_0 16 rfl rfl)
theorem dJ2_init_2_19 : decode cJ2_init_2 19 = .ok (.ifCond .eq 22, 3) := dk_153 0 22 (dk_at dksJ2_init_2_0 19 rfl rfl)
theorem dJ2_init_2_22 : decode cJ2_init_2 22 = .ok (.aload_n 0, 1) := dk_42 (dk_at dksJ2_init_2_0 22 rfl rfl)
theorem dJ2_init_2_23 : decode cJ2_init_2 23 = .ok (.iconst 0, 1) := dk_3 (dk_at dksJ2_init_2_0 23 rfl rfl)
theorem dJ2_init_2_24 : decode cJ2_init_2 24 = .ok (.putfield 15, 3) := dk_181 0 15 (dk_at dksJ2_init_2_1 0 rfl rfl)
theorem dJ2_init_2_27 : decode cJ2_init_2 27 = .ok (.aload_n 0, 1) := dk_42 (dk_at dksJ2_init_2_1 3 rfl rfl)
theorem dJ2_init_2_28 : decode cJ2_init_2 28 = .ok (.aload_n 3, 1) := dk_45 (dk_at dksJ2_init_2_1 4 rfl rfl)
theorem dJ2_init_2_29 : decode cJ2_init_2 29 = .ok (.iconst 0, 1) := dk_3 (dk_at dksJ2_init_2_1 5 rfl rfl)
theorem dJ2_init_2_30 : decode cJ2_init_2 30 = .ok (.iload 4, 2) := dk_21 4 (dk_at dksJ2_init_2_1 6 rfl rfl)
theorem dJ2_init_2_32 : decode cJ2_init_2 32 = .ok (.invokestatic 54, 3) := dk_184 0 54 (dk_at dksJ2_init_2_1 8 rfl rfl)
theorem dJ2_init_2_35 : decode cJ2_init_2 35 = .ok (.putfield 9, 3) := dk_181 0 9 (dk_at dksJ2_init_2_1 11 rfl rfl)
theorem dJ2_init_2_38 : decode cJ2_init_2 38 = .ok (.goto 59, 3) := dk_167 0 59 (dk_at dksJ2_init_2_1 14 rfl rfl)
theorem dJ2_init_2_41 : decode cJ2_init_2 41 = .ok (.getstatic 38, 3) := dk_178 0 38 (dk_at dksJ2_init_2_1 17 rfl rfl)
theorem dJ2_init_2_44 : decode cJ2_init_2 44 = .ok (.ifCond .eq 35, 3) := dk_153 0 35 (dk_at dksJ2_init_2_1 20 rfl rfl)
theorem dJ2_init_2_47 : decode cJ2_init_2 47 = .ok (.aload_n 1, 1) := dk_43 (dk_at dksJ2_init_2_1 23 rfl rfl)
theorem dJ2_init_2_48 : decode cJ2_init_2 48 = .ok (.getfield 1048, 3) := dk_180 4 24 (dk_at dksJ2_init_2_2 0 rfl rfl)
theorem dJ2_init_2_51 : decode cJ2_init_2 51 = .ok (.ifCond .eq 28, 3) := dk_153 0 28 (dk_at dksJ2_init_2_2 3 rfl rfl)
theorem dJ2_init_2_54 : decode cJ2_init_2 54 = .ok (.aload_n 0, 1) := dk_42 (dk_at dksJ2_init_2_2 6 rfl rfl)
theorem dJ2_init_2_55 : decode cJ2_init_2 55 = .ok (.aload_n 3, 1) := dk_45 (dk_at dksJ2_init_2_2 7 rfl rfl)
theorem dJ2_init_2_56 : decode cJ2_init_2 56 = .ok (.iconst 0, 1) := dk_3 (dk_at dksJ2_init_2_2 8 rfl rfl)
theorem dJ2_init_2_57 : decode cJ2_init_2 57 = .ok (.iload 4, 2) := dk_21 4 (dk_at dksJ2_init_2_2 9 rfl rfl)
theorem dJ2_init_2_59 : decode cJ2_init_2 59 = .ok (.invokestatic 1051, 3) := dk_184 4 27 (dk_at dksJ2_init_2_2 11 rfl rfl)
theorem dJ2_init_2_62 : decode cJ2_init_2 62 = .ok (.putfield 9, 3) := dk_181 0 9 (dk_at dksJ2_init_2_2 14 rfl rfl)
theorem dJ2_init_2_65 : decode cJ2_init_2 65 = .ok (.aload_n 0, 1) := dk_42 (dk_at dksJ2_init_2_2 17 rfl rfl)
theorem dJ2_init_2_66 : decode cJ2_init_2 66 = .ok (.aload_n 0, 1) := dk_42 (dk_at dksJ2_init_2_2 18 rfl rfl)
theorem dJ2_init_2_67 : decode cJ2_init_2 67 = .ok (.getfield 9, 3) := dk_180 0 9 (dk_at dksJ2_init_2_2 19 rfl rfl)
theorem dJ2_init_2_70 : decode cJ2_init_2 70 = .ok (.iload 4, 2) := dk_21 4 (dk_at dksJ2_init_2_2 22 rfl rfl)
theorem dJ2_init_2_72 : decode cJ2_init_2 72 = .ok (.invokestatic 47, 3) := dk_184 0 47 (dk_at dksJ2_init_2_3 0 rfl rfl)
theorem dJ2_init_2_75 : decode cJ2_init_2 75 = .ok (.putfield 15, 3) := dk_181 0 15 (dk_at dksJ2_init_2_3 3 rfl rfl)
theorem dJ2_init_2_78 : decode cJ2_init_2 78 = .ok (.return_, 1) := dk_177 (dk_at dksJ2_init_2_3 6 rfl rfl)
theorem dJ2_init_2_79 : decode cJ2_init_2 79 = .ok (.aload_n 0, 1) := dk_42 (dk_at dksJ2_init_2_3 7 rfl rfl)
theorem dJ2_init_2_80 : decode cJ2_init_2 80 = .ok (.iconst 1, 1) := dk_4 (dk_at dksJ2_init_2_3 8 rfl rfl)
theorem dJ2_init_2_81 : decode cJ2_init_2 81 = .ok (.putfield 15, 3) := dk_181 0 15 (dk_at dksJ2_init_2_3 9 rfl rfl)
theorem dJ2_init_2_84 : decode cJ2_init_2 84 = .ok (.aload_n 0, 1) := dk_42 (dk_at dksJ2_init_2_3 12 rfl rfl)
theorem dJ2_init_2_85 : decode cJ2_init_2 85 = .ok (.aload_n 3, 1) := dk_45 (dk_at dksJ2_init_2_3 13 rfl rfl)
theorem dJ2_init_2_86 : decode cJ2_init_2 86 = .ok (.iconst 0, 1) := dk_3 (dk_at dksJ2_init_2_3 14 rfl rfl)
theorem dJ2_init_2_87 : decode cJ2_init_2 87 = .ok (.iload 4, 2) := dk_21 4 (dk_at dksJ2_init_2_3 15 rfl rfl)
theorem dJ2_init_2_89 : decode cJ2_init_2 89 = .ok (.iconst 1, 1) := dk_4 (dk_at dksJ2_init_2_3 17 rfl rfl)
theorem dJ2_init_2_90 : decode cJ2_init_2 90 = .ok (.ishl, 1) := dk_120 (dk_at dksJ2_init_2_3 18 rfl rfl)
theorem dJ2_init_2_91 : decode cJ2_init_2 91 = .ok (.invokestatic 54, 3) := dk_184 0 54 (dk_at dksJ2_init_2_3 19 rfl rfl)
theorem dJ2_init_2_94 : decode cJ2_init_2 94 = .ok (.putfield 9, 3) := dk_181 0 9 (dk_at dksJ2_init_2_4 0 rfl rfl)
theorem dJ2_init_2_97 : decode cJ2_init_2 97 = .ok (.return_, 1) := dk_177 (dk_at dksJ2_init_2_4 3 rfl rfl)
abbrev cJ2_equals : ByteArray := prog_35_method_66_code
def yJ2_equals : MethodName := ⟨RJ2, "equals", "(Ljava/lang/Object;)Z"⟩
def dkwJ2_equals_2 : List UInt8 := [184, 2, 29, 153, 0, 7, 4, 167, 0, 4, 3, 172]
abbrev dktJ2_equals_2 : List UInt8 := dkwJ2_equals_2 ++ []
def dkwJ2_equals_1 : List UInt8 := [153, 0, 14, 42, 180, 0, 15, 44, 180, 0, 15, 160, 0, 21, 42, 180, 0, 9, 44, 180, 0, 9]
abbrev dktJ2_equals_1 : List UInt8 := dkwJ2_equals_1 ++ dktJ2_equals_2
def dkwJ2_equals_0 : List UInt8 := [42, 43, 166, 0, 5, 4, 172, 43, 193, 0, 10, 153, 0, 43, 43, 192, 0, 10, 77, 178, 0, 38]
abbrev dktJ2_equals_0 : List UInt8 := dkwJ2_equals_0 ++ dktJ2_equals_1
theorem dksJ2_equals_0 : cJ2_equals.data.toList.drop 0 = dktJ2_equals_0 := by decide +kernel
theorem dksJ2_equals_1 : cJ2_equals.data.toList.drop 22 = dktJ2_equals_1 := dk_seg dksJ2_equals_0 22 rfl rfl
theorem dksJ2_equals_2 : cJ2_equals.data.toList.drop 44 = dktJ2_equals_2 := dk_seg dksJ2_equals_1 22 rfl rfl
theorem dJ2_equals_0 : decode cJ2_equals 0 = .ok (.aload_n 0, 1) := dk_42 (dk_at dksJ2_equals_0 0 rfl rfl)
theorem dJ2_equals_1 : decode cJ2_equals 1 = .ok (.aload_n 1, 1) := dk_43 (dk_at dksJ2_equals_0 1 rfl rfl)
theorem dJ2_equals_2 : decode cJ2_equals 2 = .ok (.if_acmp .ne 5, 3) := dk_166 0 5 (dk_at dksJ2_equals_0 2 rfl rfl)
theorem dJ2_equals_5 : decode cJ2_equals 5 = .ok (.iconst 1, 1) := dk_4 (dk_at dksJ2_equals_0 5 rfl rfl)
theorem dJ2_equals_6 : decode cJ2_equals 6 = .ok (.ireturn, 1) := dk_172 (dk_at dksJ2_equals_0 6 rfl rfl)
theorem dJ2_equals_7 : decode cJ2_equals 7 = .ok (.aload_n 1, 1) := dk_43 (dk_at dksJ2_equals_0 7 rfl rfl)
theorem dJ2_equals_8 : decode cJ2_equals 8 = .ok (.instanceof 10, 3) := dk_193 0 10 (dk_at dksJ2_equals_0 8 rfl rfl)
theorem dJ2_equals_11 : decode cJ2_equals 11 = .ok (.ifCond .eq 43, 3) := dk_153 0 43 (dk_at dksJ2_equals_0 11 rfl rfl)
theorem dJ2_equals_14 : decode cJ2_equals 14 = .ok (.aload_n 1, 1) := dk_43 (dk_at dksJ2_equals_0 14 rfl rfl)
theorem dJ2_equals_15 : decode cJ2_equals 15 = .ok (.checkcast 10, 3) := dk_192 0 10 (dk_at dksJ2_equals_0 15 rfl rfl)
theorem dJ2_equals_18 : decode cJ2_equals 18 = .ok (.astore_n 2, 1) := dk_77 (dk_at dksJ2_equals_0 18 rfl rfl)
theorem dJ2_equals_19 : decode cJ2_equals 19 = .ok (.getstatic 38, 3) := dk_178 0 38 (dk_at dksJ2_equals_0 19 rfl rfl)
theorem dJ2_equals_22 : decode cJ2_equals 22 = .ok (.ifCond .eq 14, 3) := dk_153 0 14 (dk_at dksJ2_equals_1 0 rfl rfl)
theorem dJ2_equals_25 : decode cJ2_equals 25 = .ok (.aload_n 0, 1) := dk_42 (dk_at dksJ2_equals_1 3 rfl rfl)
theorem dJ2_equals_26 : decode cJ2_equals 26 = .ok (.getfield 15, 3) := dk_180 0 15 (dk_at dksJ2_equals_1 4 rfl rfl)
theorem dJ2_equals_29 : decode cJ2_equals 29 = .ok (.aload_n 2, 1) := dk_44 (dk_at dksJ2_equals_1 7 rfl rfl)
theorem dJ2_equals_30 : decode cJ2_equals 30 = .ok (.getfield 15, 3) := dk_180 0 15 (dk_at dksJ2_equals_1 8 rfl rfl)
theorem dJ2_equals_33 : decode cJ2_equals 33 = .ok (.if_icmp .ne 21, 3) := dk_160 0 21 (dk_at dksJ2_equals_1 11 rfl rfl)
theorem dJ2_equals_36 : decode cJ2_equals 36 = .ok (.aload_n 0, 1) := dk_42 (dk_at dksJ2_equals_1 14 rfl rfl)
theorem dJ2_equals_37 : decode cJ2_equals 37 = .ok (.getfield 9, 3) := dk_180 0 9 (dk_at dksJ2_equals_1 15 rfl rfl)
theorem dJ2_equals_40 : decode cJ2_equals 40 = .ok (.aload_n 2, 1) := dk_44 (dk_at dksJ2_equals_1 18 rfl rfl)
theorem dJ2_equals_41 : decode cJ2_equals 41 = .ok (.getfield 9, 3) := dk_180 0 9 (dk_at dksJ2_equals_1 19 rfl rfl)
theorem dJ2_equals_44 : decode cJ2_equals 44 = .ok (.invokestatic 541, 3) := dk_184 2 29 (dk_at dksJ2_equals_2 0 rfl rfl)
theorem dJ2_equals_47 : decode cJ2_equals 47 = .ok (.ifCond .eq 7, 3) := dk_153 0 7 (dk_at dksJ2_equals_2 3 rfl rfl)
theorem dJ2_equals_50 : decode cJ2_equals 50 = .ok (.iconst 1, 1) := dk_4 (dk_at dksJ2_equals_2 6 rfl rfl)
theorem dJ2_equals_51 : decode cJ2_equals 51 = .ok (.goto 4, 3) := dk_167 0 4 (dk_at dksJ2_equals_2 7 rfl rfl)
theorem dJ2_equals_54 : decode cJ2_equals 54 = .ok (.iconst 0, 1) := dk_3 (dk_at dksJ2_equals_2 10 rfl rfl)
theorem dJ2_equals_55 : decode cJ2_equals 55 = .ok (.ireturn, 1) := dk_172 (dk_at dksJ2_equals_2 11 rfl rfl)
abbrev cJ2_length : ByteArray := prog_35_method_54_code
def yJ2_length : MethodName := ⟨RJ2, "length", "()I"⟩
def dkwJ2_length_0 : List UInt8 := [42, 180, 0, 9, 190, 42, 182, 1, 79, 122, 172]
abbrev dktJ2_length_0 : List UInt8 := dkwJ2_length_0 ++ []
theorem dksJ2_length_0 : cJ2_length.data.toList.drop 0 = dktJ2_length_0 := by decide +kernel
theorem dJ2_length_0 : decode cJ2_length 0 = .ok (.aload_n 0, 1) := dk_42 (dk_at dksJ2_length_0 0 rfl rfl)
theorem dJ2_length_1 : decode cJ2_length 1 = .ok (.getfield 9, 3) := dk_180 0 9 (dk_at dksJ2_length_0 1 rfl rfl)
theorem dJ2_length_4 : decode cJ2_length 4 = .ok (.arraylength, 1) := dk_190 (dk_at dksJ2_length_0 4 rfl rfl)
theorem dJ2_length_5 : decode cJ2_length 5 = .ok (.aload_n 0, 1) := dk_42 (dk_at dksJ2_length_0 5 rfl rfl)
theorem dJ2_length_6 : decode cJ2_length 6 = .ok (.invokevirtual 335, 3) := dk_182 1 79 (dk_at dksJ2_length_0 6 rfl rfl)
theorem dJ2_length_9 : decode cJ2_length 9 = .ok (.ishr, 1) := dk_122 (dk_at dksJ2_length_0 9 rfl rfl)
theorem dJ2_length_10 : decode cJ2_length 10 = .ok (.ireturn, 1) := dk_172 (dk_at dksJ2_length_0 10 rfl rfl)
abbrev cJ2_coder : ByteArray := prog_35_method_152_code
def yJ2_coder : MethodName := ⟨RJ2, "coder", "()B"⟩
def dkwJ2_coder_0 : List UInt8 := [178, 0, 38, 153, 0, 10, 42, 180, 0, 15, 167, 0, 4, 4, 172]
abbrev dktJ2_coder_0 : List UInt8 := dkwJ2_coder_0 ++ []
theorem dksJ2_coder_0 : cJ2_coder.data.toList.drop 0 = dktJ2_coder_0 := by decide +kernel
theorem dJ2_coder_0 : decode cJ2_coder 0 = .ok (.getstatic 38, 3) := dk_178 0 38 (dk_at dksJ2_coder_0 0 rfl rfl)
theorem dJ2_coder_3 : decode cJ2_coder 3 = .ok (.ifCond .eq 10, 3) := dk_153 0 10 (dk_at dksJ2_coder_0 3 rfl rfl)
theorem dJ2_coder_6 : decode cJ2_coder 6 = .ok (.aload_n 0, 1) := dk_42 (dk_at dksJ2_coder_0 6 rfl rfl)
theorem dJ2_coder_7 : decode cJ2_coder 7 = .ok (.getfield 15, 3) := dk_180 0 15 (dk_at dksJ2_coder_0 7 rfl rfl)
theorem dJ2_coder_10 : decode cJ2_coder 10 = .ok (.goto 4, 3) := dk_167 0 4 (dk_at dksJ2_coder_0 10 rfl rfl)
theorem dJ2_coder_13 : decode cJ2_coder 13 = .ok (.iconst 1, 1) := dk_4 (dk_at dksJ2_coder_0 13 rfl rfl)
theorem dJ2_coder_14 : decode cJ2_coder 14 = .ok (.ireturn, 1) := dk_172 (dk_at dksJ2_coder_0 14 rfl rfl)
abbrev cJ2_charAt : ByteArray := prog_35_method_56_code
def yJ2_charAt : MethodName := ⟨RJ2, "charAt", "(I)C"⟩
def dkwJ2_charAt_1 : List UInt8 := [172]
abbrev dktJ2_charAt_1 : List UInt8 := dkwJ2_charAt_1 ++ []
def dkwJ2_charAt_0 : List UInt8 := [42, 182, 1, 236, 153, 0, 12, 42, 180, 0, 9, 27, 184, 1, 239, 172, 42, 180, 0, 9, 27, 184, 1, 242]
abbrev dktJ2_charAt_0 : List UInt8 := dkwJ2_charAt_0 ++ dktJ2_charAt_1
theorem dksJ2_charAt_0 : cJ2_charAt.data.toList.drop 0 = dktJ2_charAt_0 := by decide +kernel
theorem dksJ2_charAt_1 : cJ2_charAt.data.toList.drop 24 = dktJ2_charAt_1 := dk_seg dksJ2_charAt_0 24 rfl rfl
theorem dJ2_charAt_0 : decode cJ2_charAt 0 = .ok (.aload_n 0, 1) := dk_42 (dk_at dksJ2_charAt_0 0 rfl rfl)
theorem dJ2_charAt_1 : decode cJ2_charAt 1 = .ok (.invokevirtual 492, 3) := dk_182 1 236 (dk_at dksJ2_charAt_0 1 rfl rfl)
theorem dJ2_charAt_4 : decode cJ2_charAt 4 = .ok (.ifCond .eq 12, 3) := dk_153 0 12 (dk_at dksJ2_charAt_0 4 rfl rfl)
theorem dJ2_charAt_7 : decode cJ2_charAt 7 = .ok (.aload_n 0, 1) := dk_42 (dk_at dksJ2_charAt_0 7 rfl rfl)
theorem dJ2_charAt_8 : decode cJ2_charAt 8 = .ok (.getfield 9, 3) := dk_180 0 9 (dk_at dksJ2_charAt_0 8 rfl rfl)
theorem dJ2_charAt_11 : decode cJ2_charAt 11 = .ok (.iload_n 1, 1) := dk_27 (dk_at dksJ2_charAt_0 11 rfl rfl)
theorem dJ2_charAt_12 : decode cJ2_charAt 12 = .ok (.invokestatic 495, 3) := dk_184 1 239 (dk_at dksJ2_charAt_0 12 rfl rfl)
theorem dJ2_charAt_15 : decode cJ2_charAt 15 = .ok (.ireturn, 1) := dk_172 (dk_at dksJ2_charAt_0 15 rfl rfl)
theorem dJ2_charAt_16 : decode cJ2_charAt 16 = .ok (.aload_n 0, 1) := dk_42 (dk_at dksJ2_charAt_0 16 rfl rfl)
theorem dJ2_charAt_17 : decode cJ2_charAt 17 = .ok (.getfield 9, 3) := dk_180 0 9 (dk_at dksJ2_charAt_0 17 rfl rfl)
theorem dJ2_charAt_20 : decode cJ2_charAt 20 = .ok (.iload_n 1, 1) := dk_27 (dk_at dksJ2_charAt_0 20 rfl rfl)
theorem dJ2_charAt_21 : decode cJ2_charAt 21 = .ok (.invokestatic 498, 3) := dk_184 1 242 (dk_at dksJ2_charAt_0 21 rfl rfl)
theorem dJ2_charAt_24 : decode cJ2_charAt 24 = .ok (.ireturn, 1) := dk_172 (dk_at dksJ2_charAt_1 0 rfl rfl)
abbrev cJ2_isLatin1 : ByteArray := prog_35_method_154_code
def yJ2_isLatin1 : MethodName := ⟨RJ2, "isLatin1", "()Z"⟩
def dkwJ2_isLatin1_0 : List UInt8 := [178, 0, 38, 153, 0, 14, 42, 180, 0, 15, 154, 0, 7, 4, 167, 0, 4, 3, 172]
abbrev dktJ2_isLatin1_0 : List UInt8 := dkwJ2_isLatin1_0 ++ []
theorem dksJ2_isLatin1_0 : cJ2_isLatin1.data.toList.drop 0 = dktJ2_isLatin1_0 := by decide +kernel
theorem dJ2_isLatin1_0 : decode cJ2_isLatin1 0 = .ok (.getstatic 38, 3) := dk_178 0 38 (dk_at dksJ2_isLatin1_0 0 rfl rfl)
theorem dJ2_isLatin1_3 : decode cJ2_isLatin1 3 = .ok (.ifCond .eq 14, 3) := dk_153 0 14 (dk_at dksJ2_isLatin1_0 3 rfl rfl)
theorem dJ2_isLatin1_6 : decode cJ2_isLatin1 6 = .ok (.aload_n 0, 1) := dk_42 (dk_at dksJ2_isLatin1_0 6 rfl rfl)
theorem dJ2_isLatin1_7 : decode cJ2_isLatin1 7 = .ok (.getfield 15, 3) := dk_180 0 15 (dk_at dksJ2_isLatin1_0 7 rfl rfl)
theorem dJ2_isLatin1_10 : decode cJ2_isLatin1 10 = .ok (.ifCond .ne 7, 3) := dk_154 0 7 (dk_at dksJ2_isLatin1_0 10 rfl rfl)
theorem dJ2_isLatin1_13 : decode cJ2_isLatin1 13 = .ok (.iconst 1, 1) := dk_4 (dk_at dksJ2_isLatin1_0 13 rfl rfl)
theorem dJ2_isLatin1_14 : decode cJ2_isLatin1 14 = .ok (.goto 4, 3) := dk_167 0 4 (dk_at dksJ2_isLatin1_0 14 rfl rfl)
theorem dJ2_isLatin1_17 : decode cJ2_isLatin1 17 = .ok (.iconst 0, 1) := dk_3 (dk_at dksJ2_isLatin1_0 17 rfl rfl)
theorem dJ2_isLatin1_18 : decode cJ2_isLatin1 18 = .ok (.ireturn, 1) := dk_172 (dk_at dksJ2_isLatin1_0 18 rfl rfl)
theorem q99 : (Jvm.Cond.initialized "java/lang/String") ∈ lw_all := lw_g (lw_at lw_m1 11 rfl) rfl
theorem q387 : (Jvm.Cond.laysStatic "java/lang/String" "COMPACT_STRINGS" "Z") ∈ lw_tbl := lw_at lw_m2 59 rfl
theorem q397 : (Jvm.Cond.fieldLink "java/lang/String" (1048 : Nat) "java/lang/AbstractStringBuilder" "maybeLatin1" "Z") ∈ lw_all := lw_g (lw_at lw_m2 69 rfl) rfl
theorem q482 : (Jvm.Cond.static ({ cls := "java/lang/String", name := "checkBoundsOffCount", desc := "(III)I" } : Jvm.MethodName)) ∈ lw_all := lw_g (lw_at lw_m2 154 rfl) rfl
theorem q483 : (Jvm.Cond.code ({ cls := "java/lang/String", name := "checkBoundsOffCount", desc := "(III)I" } : Jvm.MethodName) prog_35_method_157_code (3 : Nat) (Option.some Jvm.ClassFile.FieldType.int)) ∈ lw_all := lw_g (lw_at lw_m2 155 rfl) rfl
theorem q484 : (Jvm.Cond.fieldLink "java/lang/String" (1053 : Nat) "jdk/internal/util/Preconditions" "SIOOBE_FORMATTER" "Ljava/util/function/BiFunction;") ∈ lw_all := lw_g (lw_at lw_m2 156 rfl) rfl
theorem q486 : (Jvm.Cond.methodLink "java/lang/String" (1065 : Nat) ({ cls := "jdk/internal/util/Preconditions", name := "checkFromIndexSize", desc := "(IIILjava/util/function/BiFunction;)I" } : Jvm.MethodName)) ∈ lw_all := lw_g (lw_at lw_m2 158 rfl) rfl
theorem q505 : (Jvm.Cond.static ({ cls := "java/lang/String", name := "checkIndex", desc := "(II)V" } : Jvm.MethodName)) ∈ lw_all := lw_g (lw_at lw_m2 177 rfl) rfl
theorem q506 : (Jvm.Cond.code ({ cls := "java/lang/String", name := "checkIndex", desc := "(II)V" } : Jvm.MethodName) prog_35_method_155_code (2 : Nat) (Option.none : Option Jvm.ClassFile.FieldType)) ∈ lw_all := lw_g (lw_at lw_m2 178 rfl) rfl
theorem q507 : (Jvm.Cond.methodLink "java/lang/String" (1059 : Nat) ({ cls := "jdk/internal/util/Preconditions", name := "checkIndex", desc := "(IILjava/util/function/BiFunction;)I" } : Jvm.MethodName)) ∈ lw_all := lw_g (lw_at lw_m2 179 rfl) rfl
theorem q515 : (Jvm.Cond.instantiable "java/lang/String" (4 : Nat)) ∈ lw_all := lw_g (lw_at lw_m2 187 rfl) rfl
theorem q517 : (Jvm.Cond.instanceMethod ({ cls := "java/lang/String", name := "<init>", desc := "(Ljava/lang/StringBuilder;)V" } : Jvm.MethodName)) ∈ lw_all := lw_g (lw_at lw_m2 189 rfl) rfl
theorem q518 : (Jvm.Cond.code ({ cls := "java/lang/String", name := "<init>", desc := "(Ljava/lang/StringBuilder;)V" } : Jvm.MethodName) prog_35_method_53_code (2 : Nat) (Option.none : Option Jvm.ClassFile.FieldType)) ∈ lw_all := lw_g (lw_at lw_m2 190 rfl) rfl
theorem q519 : (Jvm.Cond.methodLink "java/lang/String" (489 : Nat) ({ cls := "java/lang/String", name := "<init>", desc := "(Ljava/lang/AbstractStringBuilder;Ljava/lang/Void;)V" } : Jvm.MethodName)) ∈ lw_all := lw_g (lw_at lw_m2 191 rfl) rfl
theorem q520 : (Jvm.Cond.instanceMethod ({ cls := "java/lang/String", name := "<init>", desc := "(Ljava/lang/AbstractStringBuilder;Ljava/lang/Void;)V" } : Jvm.MethodName)) ∈ lw_all := lw_g (lw_at lw_m2 192 rfl) rfl
theorem q521 : (Jvm.Cond.code ({ cls := "java/lang/String", name := "<init>", desc := "(Ljava/lang/AbstractStringBuilder;Ljava/lang/Void;)V" } : Jvm.MethodName) prog_35_method_150_code (5 : Nat) (Option.none : Option Jvm.ClassFile.FieldType)) ∈ lw_all := lw_g (lw_at lw_m2 193 rfl) rfl
theorem q522 : (Jvm.Cond.methodLink "java/lang/String" (1 : Nat) ({ cls := "java/lang/Object", name := "<init>", desc := "()V" } : Jvm.MethodName)) ∈ lw_all := lw_g (lw_at lw_m2 194 rfl) rfl
theorem q523 : (Jvm.Cond.methodLink "java/lang/String" (552 : Nat) ({ cls := "java/lang/AbstractStringBuilder", name := "getValue", desc := "()[B" } : Jvm.MethodName)) ∈ lw_all := lw_g (lw_at lw_m2 195 rfl) rfl
theorem q528 : (Jvm.Cond.methodLink "java/lang/String" (549 : Nat) ({ cls := "java/lang/AbstractStringBuilder", name := "length", desc := "()I" } : Jvm.MethodName)) ∈ lw_all := lw_g (lw_at lw_m2 200 rfl) rfl
theorem q529 : (Jvm.Cond.methodLink "java/lang/String" (1047 : Nat) ({ cls := "java/lang/AbstractStringBuilder", name := "isLatin1", desc := "()Z" } : Jvm.MethodName)) ∈ lw_all := lw_g (lw_at lw_m2 201 rfl) rfl
theorem q530 : (Jvm.Cond.methodLink "java/lang/String" (54 : Nat) ({ cls := "java/util/Arrays", name := "copyOfRange", desc := "([BII)[B" } : Jvm.MethodName)) ∈ lw_all := lw_g (lw_at lw_m2 202 rfl) rfl
theorem q539 : (Jvm.Cond.fieldLink "java/lang/String" (38 : Nat) "java/lang/String" "COMPACT_STRINGS" "Z") ∈ lw_all := lw_g (lw_at lw_m2 211 rfl) rfl
theorem q540 : (Jvm.Cond.methodLink "java/lang/String" (1051 : Nat) ({ cls := "java/lang/StringUTF16", name := "compress", desc := "([BII)[B" } : Jvm.MethodName)) ∈ lw_all := lw_g (lw_at lw_m2 212 rfl) rfl
theorem q550 : (Jvm.Cond.methodLink "java/lang/String" (47 : Nat) ({ cls := "java/lang/StringUTF16", name := "coderFromArrayLen", desc := "([BI)B" } : Jvm.MethodName)) ∈ lw_all := lw_g (lw_at lw_m2 222 rfl) rfl
theorem q553 : (Jvm.Cond.fieldLink "java/lang/String" (9 : Nat) "java/lang/String" "value" "[B") ∈ lw_all := lw_g (lw_at lw_m2 225 rfl) rfl
theorem q554 : (Jvm.Cond.fieldLink "java/lang/String" (15 : Nat) "java/lang/String" "coder" "B") ∈ lw_all := lw_g (lw_at lw_m2 226 rfl) rfl
theorem q555 : (Jvm.Cond.laysFinal "java/lang/String" "java/lang/String" "value" "[B") ∈ lw_all := lw_g (lw_at lw_m2 227 rfl) rfl
theorem q556 : (Jvm.Cond.soleField "java/lang/String" "value") ∈ lw_all := lw_g (lw_at lw_m2 228 rfl) rfl
theorem q557 : (Jvm.Cond.laysFinal "java/lang/String" "java/lang/String" "coder" "B") ∈ lw_all := lw_g (lw_at lw_m2 229 rfl) rfl
theorem q558 : (Jvm.Cond.soleField "java/lang/String" "coder") ∈ lw_all := lw_g (lw_at lw_m2 230 rfl) rfl
theorem q559 : (Jvm.Cond.lays "java/lang/String" "java/lang/String" "hash" "I") ∈ lw_all := lw_g (lw_at lw_m2 231 rfl) rfl
theorem q560 : (Jvm.Cond.soleField "java/lang/String" "hash") ∈ lw_all := lw_g (lw_at lw_m2 232 rfl) rfl
theorem q561 : (Jvm.Cond.lays "java/lang/String" "java/lang/String" "hashIsZero" "Z") ∈ lw_all := lw_g (lw_at lw_m2 233 rfl) rfl
theorem q562 : (Jvm.Cond.soleField "java/lang/String" "hashIsZero") ∈ lw_all := lw_g (lw_at lw_m2 234 rfl) rfl
theorem q563 : (Jvm.Cond.superclass "java/lang/String" "java/lang/Object") ∈ lw_all := lw_g (lw_at lw_m2 235 rfl) rfl
theorem q578 : (Jvm.Cond.instanceMethod ({ cls := "java/lang/String", name := "equals", desc := "(Ljava/lang/Object;)Z" } : Jvm.MethodName)) ∈ lw_all := lw_g (lw_at lw_m3 10 rfl) rfl
theorem q579 : (Jvm.Cond.selects "java/lang/String" ({ cls := "java/lang/String", name := "equals", desc := "(Ljava/lang/Object;)Z" } : Jvm.MethodName) ({ cls := "java/lang/String", name := "equals", desc := "(Ljava/lang/Object;)Z" } : Jvm.MethodName)) ∈ lw_all := lw_g (lw_at lw_m3 11 rfl) rfl
theorem q580 : (Jvm.Cond.code ({ cls := "java/lang/String", name := "equals", desc := "(Ljava/lang/Object;)Z" } : Jvm.MethodName) prog_35_method_66_code (3 : Nat) (Option.some Jvm.ClassFile.FieldType.boolean)) ∈ lw_all := lw_g (lw_at lw_m3 12 rfl) rfl
theorem q581 : (Jvm.Cond.classLink "java/lang/String" (10 : Nat) "java/lang/String") ∈ lw_all := lw_g (lw_at lw_m3 13 rfl) rfl
theorem q582 : (Jvm.Cond.methodLink "java/lang/String" (541 : Nat) ({ cls := "java/lang/StringLatin1", name := "equals", desc := "([B[B)Z" } : Jvm.MethodName)) ∈ lw_all := lw_g (lw_at lw_m3 14 rfl) rfl
theorem q1576 : (Jvm.Cond.instanceMethod ({ cls := "java/lang/String", name := "length", desc := "()I" } : Jvm.MethodName)) ∈ lw_all := lw_g (lw_at lw_m7 48 rfl) rfl
theorem q1577 : (Jvm.Cond.selects "java/lang/String" ({ cls := "java/lang/String", name := "length", desc := "()I" } : Jvm.MethodName) ({ cls := "java/lang/String", name := "length", desc := "()I" } : Jvm.MethodName)) ∈ lw_all := lw_g (lw_at lw_m7 49 rfl) rfl
theorem q1578 : (Jvm.Cond.code ({ cls := "java/lang/String", name := "length", desc := "()I" } : Jvm.MethodName) prog_35_method_54_code (1 : Nat) (Option.some Jvm.ClassFile.FieldType.int)) ∈ lw_all := lw_g (lw_at lw_m7 50 rfl) rfl
theorem q1579 : (Jvm.Cond.methodLink "java/lang/String" (335 : Nat) ({ cls := "java/lang/String", name := "coder", desc := "()B" } : Jvm.MethodName)) ∈ lw_all := lw_g (lw_at lw_m7 51 rfl) rfl
theorem q1580 : (Jvm.Cond.instanceMethod ({ cls := "java/lang/String", name := "coder", desc := "()B" } : Jvm.MethodName)) ∈ lw_all := lw_g (lw_at lw_m7 52 rfl) rfl
theorem q1581 : (Jvm.Cond.selects "java/lang/String" ({ cls := "java/lang/String", name := "coder", desc := "()B" } : Jvm.MethodName) ({ cls := "java/lang/String", name := "coder", desc := "()B" } : Jvm.MethodName)) ∈ lw_all := lw_g (lw_at lw_m7 53 rfl) rfl
theorem q1582 : (Jvm.Cond.code ({ cls := "java/lang/String", name := "coder", desc := "()B" } : Jvm.MethodName) prog_35_method_152_code (1 : Nat) (Option.some Jvm.ClassFile.FieldType.byte)) ∈ lw_all := lw_g (lw_at lw_m7 54 rfl) rfl
theorem q1584 : (Jvm.Cond.instanceMethod ({ cls := "java/lang/String", name := "charAt", desc := "(I)C" } : Jvm.MethodName)) ∈ lw_all := lw_g (lw_at lw_m7 56 rfl) rfl
theorem q1585 : (Jvm.Cond.selects "java/lang/String" ({ cls := "java/lang/String", name := "charAt", desc := "(I)C" } : Jvm.MethodName) ({ cls := "java/lang/String", name := "charAt", desc := "(I)C" } : Jvm.MethodName)) ∈ lw_all := lw_g (lw_at lw_m7 57 rfl) rfl
theorem q1586 : (Jvm.Cond.code ({ cls := "java/lang/String", name := "charAt", desc := "(I)C" } : Jvm.MethodName) prog_35_method_56_code (2 : Nat) (Option.some Jvm.ClassFile.FieldType.char)) ∈ lw_all := lw_g (lw_at lw_m7 58 rfl) rfl
theorem q1587 : (Jvm.Cond.methodLink "java/lang/String" (492 : Nat) ({ cls := "java/lang/String", name := "isLatin1", desc := "()Z" } : Jvm.MethodName)) ∈ lw_all := lw_g (lw_at lw_m7 59 rfl) rfl
theorem q1588 : (Jvm.Cond.instanceMethod ({ cls := "java/lang/String", name := "isLatin1", desc := "()Z" } : Jvm.MethodName)) ∈ lw_all := lw_g (lw_at lw_m7 60 rfl) rfl
theorem q1589 : (Jvm.Cond.selects "java/lang/String" ({ cls := "java/lang/String", name := "isLatin1", desc := "()Z" } : Jvm.MethodName) ({ cls := "java/lang/String", name := "isLatin1", desc := "()Z" } : Jvm.MethodName)) ∈ lw_all := lw_g (lw_at lw_m7 61 rfl) rfl
theorem q1590 : (Jvm.Cond.code ({ cls := "java/lang/String", name := "isLatin1", desc := "()Z" } : Jvm.MethodName) prog_35_method_154_code (1 : Nat) (Option.some Jvm.ClassFile.FieldType.boolean)) ∈ lw_all := lw_g (lw_at lw_m7 62 rfl) rfl
theorem q1591 : (Jvm.Cond.methodLink "java/lang/String" (495 : Nat) ({ cls := "java/lang/StringLatin1", name := "charAt", desc := "([BI)C" } : Jvm.MethodName)) ∈ lw_all := lw_g (lw_at lw_m7 63 rfl) rfl
theorem q1595 : (Jvm.Cond.methodLink "java/lang/String" (498 : Nat) ({ cls := "java/lang/StringUTF16", name := "charAt", desc := "([BI)C" } : Jvm.MethodName)) ∈ lw_all := lw_g (lw_at lw_m7 67 rfl) rfl
theorem q1992 : (Jvm.Cond.castable "java/lang/String" "java/lang/Object") ∈ lw_tbl := lw_at lw_m8 224 rfl
theorem in_J2 : ∀ w ∈ wsJ20, w ∈ lw_all := lw_in wsJ20 [555, 557, 559, 561] (by decide +kernel) (by decide +kernel)
/-! java/lang/StringUTF16 -/
set_option maxRecDepth 100000
def RJ3 : String := "java/lang/StringUTF16"
abbrev cJ3_newBytesFor : ByteArray := prog_38_method_2_code
def yJ3_newBytesFor : MethodName := ⟨RJ3, "newBytesFor", "(I)[B"⟩
def dkwJ3_newBytesFor_0 : List UInt8 := [26, 184, 0, 11, 188, 8, 176]
abbrev dktJ3_newBytesFor_0 : List UInt8 := dkwJ3_newBytesFor_0 ++ []
theorem dksJ3_newBytesFor_0 : cJ3_newBytesFor.data.toList.drop 0 = dktJ3_newBytesFor_0 := by decide +kernel
theorem dJ3_newBytesFor_0 : decode cJ3_newBytesFor 0 = .ok (.iload_n 0, 1) := dk_26 (dk_at dksJ3_newBytesFor_0 0 rfl rfl)
theorem dJ3_newBytesFor_1 : decode cJ3_newBytesFor 1 = .ok (.invokestatic 11, 3) := dk_184 0 11 (dk_at dksJ3_newBytesFor_0 1 rfl rfl)
theorem dJ3_newBytesFor_4 : decode cJ3_newBytesFor 4 = .ok (.newarray .byte, 2) := dk_188_8 (dk_at dksJ3_newBytesFor_0 4 rfl rfl)
theorem dJ3_newBytesFor_6 : decode cJ3_newBytesFor 6 = .ok (.areturn, 1) := dk_176 (dk_at dksJ3_newBytesFor_0 6 rfl rfl)
abbrev cJ3_newBytesLength : ByteArray := prog_38_method_3_code
def yJ3_newBytesLength : MethodName := ⟨RJ3, "newBytesLength", "(I)I"⟩
def dkwJ3_newBytesLength_2 : List UInt8 := [182, 0, 32, 182, 0, 37, 183, 0, 41, 191, 26, 4, 120, 172]
abbrev dktJ3_newBytesLength_2 : List UInt8 := dkwJ3_newBytesLength_2 ++ []
def dkwJ3_newBytesLength_1 : List UInt8 := [187, 0, 23, 89, 183, 0, 25, 18, 26, 182, 0, 28, 26, 182, 0, 32, 18, 35, 182, 0, 28, 18, 20]
abbrev dktJ3_newBytesLength_1 : List UInt8 := dkwJ3_newBytesLength_1 ++ dktJ3_newBytesLength_2
def dkwJ3_newBytesLength_0 : List UInt8 := [26, 156, 0, 11, 187, 0, 17, 89, 183, 0, 19, 191, 26, 18, 20, 161, 0, 40, 187, 0, 21, 89]
abbrev dktJ3_newBytesLength_0 : List UInt8 := dkwJ3_newBytesLength_0 ++ dktJ3_newBytesLength_1
theorem dksJ3_newBytesLength_0 : cJ3_newBytesLength.data.toList.drop 0 = dktJ3_newBytesLength_0 := by decide +kernel
theorem dksJ3_newBytesLength_1 : cJ3_newBytesLength.data.toList.drop 22 = dktJ3_newBytesLength_1 := dk_seg dksJ3_newBytesLength_0 22 rfl rfl
theorem dksJ3_newBytesLength_2 : cJ3_newBytesLength.data.toList.drop 45 = dktJ3_newBytesLength_2 := dk_seg dksJ3_newBytesLength_1 23 rfl rfl
theorem dJ3_newBytesLength_0 : decode cJ3_newBytesLength 0 = .ok (.iload_n 0, 1) := dk_26 (dk_at dksJ3_newBytesLength_0 0 rfl rfl)
theorem dJ3_newBytesLength_1 : decode cJ3_newBytesLength 1 = .ok (.ifCond .ge 11, 3) := dk_156 0 11 (dk_at dksJ3_newBytesLength_0 1 rfl rfl)
theorem dJ3_newBytesLength_4 : decode cJ3_newBytesLength 4 = .ok (.new 17, 3) := dk_187 0 17 (dk_at dksJ3_newBytesLength_0 4 rfl rfl)
theorem dJ3_newBytesLength_7 : decode cJ3_newBytesLength 7 = .ok (.dup, 1) := dk_89 (dk_at dksJ3_newBytesLength_0 7 rfl rfl)
theorem dJ3_newBytesLength_8 : decode cJ3_newBytesLength 8 = .ok (.invokespecial 19, 3) := dk_183 0 19 (dk_at dksJ3_newBytesLength_0 8 rfl rfl)
theorem dJ3_newBytesLength_11 : decode cJ3_newBytesLength 11 = .ok (.athrow, 1) := dk_191 (dk_at dksJ3_newBytesLength_0 11 rfl rfl)
theorem dJ3_newBytesLength_12 : decode cJ3_newBytesLength 12 = .ok (.iload_n 0, 1) := dk_26 (dk_at dksJ3_newBytesLength_0 12 rfl rfl)
theorem dJ3_newBytesLength_13 : decode cJ3_newBytesLength 13 = .ok (.ldc 20, 2) := dk_18 20 (dk_at dksJ3_newBytesLength_0 13 rfl rfl)
theorem dJ3_newBytesLength_15 : decode cJ3_newBytesLength 15 = .ok (.if_icmp .lt 40, 3) := dk_161 0 40 (dk_at dksJ3_newBytesLength_0 15 rfl rfl)
theorem dJ3_newBytesLength_18 : decode cJ3_newBytesLength 18 = .ok (.new 21, 3) := dk_187 0 21 (dk_at dksJ3_newBytesLength_0 18 rfl rfl)
theorem dJ3_newBytesLength_21 : decode cJ3_newBytesLength 21 = .ok (.dup, 1) := dk_89 (dk_at dksJ3_newBytesLength_0 21 rfl rfl)
theorem dJ3_newBytesLength_22 : decode cJ3_newBytesLength 22 = .ok (.new 23, 3) := dk_187 0 23 (dk_at dksJ3_newBytesLength_1 0 rfl rfl)
theorem dJ3_newBytesLength_25 : decode cJ3_newBytesLength 25 = .ok (.dup, 1) := dk_89 (dk_at dksJ3_newBytesLength_1 3 rfl rfl)
theorem dJ3_newBytesLength_26 : decode cJ3_newBytesLength 26 = .ok (.invokespecial 25, 3) := dk_183 0 25 (dk_at dksJ3_newBytesLength_1 4 rfl rfl)
theorem dJ3_newBytesLength_29 : decode cJ3_newBytesLength 29 = .ok (.ldc 26, 2) := dk_18 26 (dk_at dksJ3_newBytesLength_1 7 rfl rfl)
theorem dJ3_newBytesLength_31 : decode cJ3_newBytesLength 31 = .ok (.invokevirtual 28, 3) := dk_182 0 28 (dk_at dksJ3_newBytesLength_1 9 rfl rfl)
theorem dJ3_newBytesLength_34 : decode cJ3_newBytesLength 34 = .ok (.iload_n 0, 1) := dk_26 (dk_at dksJ3_newBytesLength_1 12 rfl rfl)
theorem dJ3_newBytesLength_35 : decode cJ3_newBytesLength 35 = .ok (.invokevirtual 32, 3) := dk_182 0 32 (dk_at dksJ3_newBytesLength_1 13 rfl rfl)
theorem dJ3_newBytesLength_38 : decode cJ3_newBytesLength 38 = .ok (.ldc 35, 2) := dk_18 35 (dk_at dksJ3_newBytesLength_1 16 rfl rfl)
theorem dJ3_newBytesLength_40 : decode cJ3_newBytesLength 40 = .ok (.invokevirtual 28, 3) := dk_182 0 28 (dk_at dksJ3_newBytesLength_1 18 rfl rfl)
theorem dJ3_newBytesLength_43 : decode cJ3_newBytesLength 43 = .ok (.ldc 20, 2) := dk_18 20 (dk_at dksJ3_newBytesLength_1 21 rfl rfl)
theorem dJ3_newBytesLength_45 : decode cJ3_newBytesLength 45 = .ok (.invokevirtual 32, 3) := dk_182 0 32 (dk_at dksJ3_newBytesLength_2 0 rfl rfl)
theorem dJ3_newBytesLength_48 : decode cJ3_newBytesLength 48 = .ok (.invokevirtual 37, 3) := dk_182 0 37 (dk_at dksJ3_newBytesLength_2 3 rfl rfl)
theorem dJ3_newBytesLength_51 : decode cJ3_newBytesLength 51 = .ok (.invokespecial 41, 3) := dk_183 0 41 (dk_at dksJ3_newBytesLength_2 6 rfl rfl)
theorem dJ3_newBytesLength_54 : decode cJ3_newBytesLength 54 = .ok (.athrow, 1) := dk_191 (dk_at dksJ3_newBytesLength_2 9 rfl rfl)
theorem dJ3_newBytesLength_55 : decode cJ3_newBytesLength 55 = .ok (.iload_n 0, 1) := dk_26 (dk_at dksJ3_newBytesLength_2 10 rfl rfl)
theorem dJ3_newBytesLength_56 : decode cJ3_newBytesLength 56 = .ok (.iconst 1, 1) := dk_4 (dk_at dksJ3_newBytesLength_2 11 rfl rfl)
theorem dJ3_newBytesLength_57 : decode cJ3_newBytesLength 57 = .ok (.ishl, 1) := dk_120 (dk_at dksJ3_newBytesLength_2 12 rfl rfl)
theorem dJ3_newBytesLength_58 : decode cJ3_newBytesLength 58 = .ok (.ireturn, 1) := dk_172 (dk_at dksJ3_newBytesLength_2 13 rfl rfl)
abbrev cJ3_inflate : ByteArray := prog_38_method_86_code
def yJ3_inflate : MethodName := ⟨RJ3, "inflate", "([BI[BII)V"⟩
def dkwJ3_inflate_1 : List UInt8 := [132, 1, 1, 51, 17, 0, 255, 126, 184, 0, 111, 132, 5, 1, 167, 255, 228, 177]
abbrev dktJ3_inflate_1 : List UInt8 := dkwJ3_inflate_1 ++ []
def dkwJ3_inflate_0 : List UInt8 := [29, 21, 4, 44, 184, 0, 173, 3, 54, 5, 21, 5, 21, 4, 162, 0, 27, 44, 29, 132, 3, 1, 42, 27]
abbrev dktJ3_inflate_0 : List UInt8 := dkwJ3_inflate_0 ++ dktJ3_inflate_1
theorem dksJ3_inflate_0 : cJ3_inflate.data.toList.drop 0 = dktJ3_inflate_0 := by decide +kernel
theorem dksJ3_inflate_1 : cJ3_inflate.data.toList.drop 24 = dktJ3_inflate_1 := dk_seg dksJ3_inflate_0 24 rfl rfl
theorem dJ3_inflate_0 : decode cJ3_inflate 0 = .ok (.iload_n 3, 1) := dk_29 (dk_at dksJ3_inflate_0 0 rfl rfl)
theorem dJ3_inflate_1 : decode cJ3_inflate 1 = .ok (.iload 4, 2) := dk_21 4 (dk_at dksJ3_inflate_0 1 rfl rfl)
theorem dJ3_inflate_3 : decode cJ3_inflate 3 = .ok (.aload_n 2, 1) := dk_44 (dk_at dksJ3_inflate_0 3 rfl rfl)
theorem dJ3_inflate_4 : decode cJ3_inflate 4 = .ok (.invokestatic 173, 3) := dk_184 0 173 (dk_at dksJ3_inflate_0 4 rfl rfl)
theorem dJ3_inflate_7 : decode cJ3_inflate 7 = .ok (.iconst 0, 1) := dk_3 (dk_at dksJ3_inflate_0 7 rfl rfl)
theorem dJ3_inflate_8 : decode cJ3_inflate 8 = .ok (.istore 5, 2) := dk_54 5 (dk_at dksJ3_inflate_0 8 rfl rfl)
theorem dJ3_inflate_10 : decode cJ3_inflate 10 = .ok (.iload 5, 2) := dk_21 5 (dk_at dksJ3_inflate_0 10 rfl rfl)
theorem dJ3_inflate_12 : decode cJ3_inflate 12 = .ok (.iload 4, 2) := dk_21 4 (dk_at dksJ3_inflate_0 12 rfl rfl)
theorem dJ3_inflate_14 : decode cJ3_inflate 14 = .ok (.if_icmp .ge 27, 3) := dk_162 0 27 (dk_at dksJ3_inflate_0 14 rfl rfl)
theorem dJ3_inflate_17 : decode cJ3_inflate 17 = .ok (.aload_n 2, 1) := dk_44 (dk_at dksJ3_inflate_0 17 rfl rfl)
theorem dJ3_inflate_18 : decode cJ3_inflate 18 = .ok (.iload_n 3, 1) := dk_29 (dk_at dksJ3_inflate_0 18 rfl rfl)
theorem dJ3_inflate_19 : decode cJ3_inflate 19 = .ok (.iinc 3 1, 3) := dk_132 3 1 (dk_at dksJ3_inflate_0 19 rfl rfl)
theorem dJ3_inflate_22 : decode cJ3_inflate 22 = .ok (.aload_n 0, 1) := dk_42 (dk_at dksJ3_inflate_0 22 rfl rfl)
theorem dJ3_inflate_23 : decode cJ3_inflate 23 = .ok (.iload_n 1, 1) := dk_27 (dk_at dksJ3_inflate_0 23 rfl rfl)
theorem dJ3_inflate_24 : decode cJ3_inflate 24 = .ok (.iinc 1 1, 3) := dk_132 1 1 (dk_at dksJ3_inflate_1 0 rfl rfl)
theorem dJ3_inflate_27 : decode cJ3_inflate 27 = .ok (.baload, 1) := dk_51 (dk_at dksJ3_inflate_1 3 rfl rfl)
theorem dJ3_inflate_28 : decode cJ3_inflate 28 = .ok (.sipush 255, 3) := dk_17 0 255 (dk_at dksJ3_inflate_1 4 rfl rfl)
theorem dJ3_inflate_31 : decode cJ3_inflate 31 = .ok (.iand, 1) := dk_126 (dk_at dksJ3_inflate_1 7 rfl rfl)
theorem dJ3_inflate_32 : decode cJ3_inflate 32 = .ok (.invokestatic 111, 3) := dk_184 0 111 (dk_at dksJ3_inflate_1 8 rfl rfl)
theorem dJ3_inflate_35 : decode cJ3_inflate 35 = .ok (.iinc 5 1, 3) := dk_132 5 1 (dk_at dksJ3_inflate_1 11 rfl rfl)
theorem dJ3_inflate_38 : decode cJ3_inflate 38 = .ok (.goto (-28), 3) := dk_167 255 228 (dk_at dksJ3_inflate_1 14 rfl rfl)
theorem dJ3_inflate_41 : decode cJ3_inflate 41 = .ok (.return_, 1) := dk_177 (dk_at dksJ3_inflate_1 17 rfl rfl)
abbrev cJ3_checkBoundsOffCount : ByteArray := prog_38_method_94_code
def yJ3_checkBoundsOffCount : MethodName := ⟨RJ3, "checkBoundsOffCount", "(II[B)V"⟩
def dkwJ3_checkBoundsOffCount_0 : List UInt8 := [26, 27, 44, 184, 0, 48, 184, 1, 163, 87, 177]
abbrev dktJ3_checkBoundsOffCount_0 : List UInt8 := dkwJ3_checkBoundsOffCount_0 ++ []
theorem dksJ3_checkBoundsOffCount_0 : cJ3_checkBoundsOffCount.data.toList.drop 0 = dktJ3_checkBoundsOffCount_0 := by decide +kernel
theorem dJ3_checkBoundsOffCount_0 : decode cJ3_checkBoundsOffCount 0 = .ok (.iload_n 0, 1) := dk_26 (dk_at dksJ3_checkBoundsOffCount_0 0 rfl rfl)
theorem dJ3_checkBoundsOffCount_1 : decode cJ3_checkBoundsOffCount 1 = .ok (.iload_n 1, 1) := dk_27 (dk_at dksJ3_checkBoundsOffCount_0 1 rfl rfl)
theorem dJ3_checkBoundsOffCount_2 : decode cJ3_checkBoundsOffCount 2 = .ok (.aload_n 2, 1) := dk_44 (dk_at dksJ3_checkBoundsOffCount_0 2 rfl rfl)
theorem dJ3_checkBoundsOffCount_3 : decode cJ3_checkBoundsOffCount 3 = .ok (.invokestatic 48, 3) := dk_184 0 48 (dk_at dksJ3_checkBoundsOffCount_0 3 rfl rfl)
theorem dJ3_checkBoundsOffCount_6 : decode cJ3_checkBoundsOffCount 6 = .ok (.invokestatic 419, 3) := dk_184 1 163 (dk_at dksJ3_checkBoundsOffCount_0 6 rfl rfl)
theorem dJ3_checkBoundsOffCount_9 : decode cJ3_checkBoundsOffCount 9 = .ok (.pop, 1) := dk_87 (dk_at dksJ3_checkBoundsOffCount_0 9 rfl rfl)
theorem dJ3_checkBoundsOffCount_10 : decode cJ3_checkBoundsOffCount 10 = .ok (.return_, 1) := dk_177 (dk_at dksJ3_checkBoundsOffCount_0 10 rfl rfl)
abbrev cJ3_length : ByteArray := prog_38_method_6_code
def yJ3_length : MethodName := ⟨RJ3, "length", "([B)I"⟩
def dkwJ3_length_0 : List UInt8 := [42, 190, 4, 122, 172]
abbrev dktJ3_length_0 : List UInt8 := dkwJ3_length_0 ++ []
theorem dksJ3_length_0 : cJ3_length.data.toList.drop 0 = dktJ3_length_0 := by decide +kernel
theorem dJ3_length_0 : decode cJ3_length 0 = .ok (.aload_n 0, 1) := dk_42 (dk_at dksJ3_length_0 0 rfl rfl)
theorem dJ3_length_1 : decode cJ3_length 1 = .ok (.arraylength, 1) := dk_190 (dk_at dksJ3_length_0 1 rfl rfl)
theorem dJ3_length_2 : decode cJ3_length 2 = .ok (.iconst 1, 1) := dk_4 (dk_at dksJ3_length_0 2 rfl rfl)
theorem dJ3_length_3 : decode cJ3_length 3 = .ok (.ishr, 1) := dk_122 (dk_at dksJ3_length_0 3 rfl rfl)
theorem dJ3_length_4 : decode cJ3_length 4 = .ok (.ireturn, 1) := dk_172 (dk_at dksJ3_length_0 4 rfl rfl)
abbrev cJ3_putChar : ByteArray := prog_38_method_4_code
def yJ3_putChar : MethodName := ⟨RJ3, "putChar", "([BII)V"⟩
def dkwJ3_putChar_2 : List UInt8 := [178, 0, 63, 122, 145, 84, 177]
abbrev dktJ3_putChar_2 : List UInt8 := dkwJ3_putChar_2 ++ []
def dkwJ3_putChar_1 : List UInt8 := [183, 0, 56, 191, 27, 4, 120, 60, 42, 27, 132, 1, 1, 28, 178, 0, 59, 122, 145, 84, 42, 27, 28]
abbrev dktJ3_putChar_1 : List UInt8 := dkwJ3_putChar_1 ++ dktJ3_putChar_2
def dkwJ3_putChar_0 : List UInt8 := [178, 0, 44, 154, 0, 25, 27, 155, 0, 11, 27, 42, 184, 0, 48, 161, 0, 13, 187, 0, 52, 89, 18, 54]
abbrev dktJ3_putChar_0 : List UInt8 := dkwJ3_putChar_0 ++ dktJ3_putChar_1
theorem dksJ3_putChar_0 : cJ3_putChar.data.toList.drop 0 = dktJ3_putChar_0 := by decide +kernel
theorem dksJ3_putChar_1 : cJ3_putChar.data.toList.drop 24 = dktJ3_putChar_1 := dk_seg dksJ3_putChar_0 24 rfl rfl
theorem dksJ3_putChar_2 : cJ3_putChar.data.toList.drop 47 = dktJ3_putChar_2 := dk_seg dksJ3_putChar_1 23 rfl rfl
theorem dJ3_putChar_0 : decode cJ3_putChar 0 = .ok (.getstatic 44, 3) := dk_178 0 44 (dk_at dksJ3_putChar_0 0 rfl rfl)
theorem dJ3_putChar_3 : decode cJ3_putChar 3 = .ok (.ifCond .ne 25, 3) := dk_154 0 25 (dk_at dksJ3_putChar_0 3 rfl rfl)
theorem dJ3_putChar_6 : decode cJ3_putChar 6 = .ok (.iload_n 1, 1) := dk_27 (dk_at dksJ3_putChar_0 6 rfl rfl)
theorem dJ3_putChar_7 : decode cJ3_putChar 7 = .ok (.ifCond .lt 11, 3) := dk_155 0 11 (dk_at dksJ3_putChar_0 7 rfl rfl)
theorem dJ3_putChar_10 : decode cJ3_putChar 10 = .ok (.iload_n 1, 1) := dk_27 (dk_at dksJ3_putChar_0 10 rfl rfl)
theorem dJ3_putChar_11 : decode cJ3_putChar 11 = .ok (.aload_n 0, 1) := dk_42 (dk_at dksJ3_putChar_0 11 rfl rfl)
theorem dJ3_putChar_12 : decode cJ3_putChar 12 = .ok (.invokestatic 48, 3) := dk_184 0 48 (dk_at dksJ3_putChar_0 12 rfl rfl)
theorem dJ3_putChar_15 : decode cJ3_putChar 15 = .ok (.if_icmp .lt 13, 3) := dk_161 0 13 (dk_at dksJ3_putChar_0 15 rfl rfl)
theorem dJ3_putChar_18 : decode cJ3_putChar 18 = .ok (.new 52, 3) := dk_187 0 52 (dk_at dksJ3_putChar_0 18 rfl rfl)
theorem dJ3_putChar_21 : decode cJ3_putChar 21 = .ok (.dup, 1) := dk_89 (dk_at dksJ3_putChar_0 21 rfl rfl)
theorem dJ3_putChar_22 : decode cJ3_putChar 22 = .ok (.ldc 54, 2) := dk_18 54 (dk_at dksJ3_putChar_0 22 rfl rfl)
theorem dJ3_putChar_24 : decode cJ3_putChar 24 = .ok (.invokespecial 56, 3) := dk_183 0 56 (dk_at dksJ3_putChar_1 0 rfl rfl)
theorem dJ3_putChar_27 : decode cJ3_putChar 27 = .ok (.athrow, 1) := dk_191 (dk_at dksJ3_putChar_1 3 rfl rfl)
theorem dJ3_putChar_28 : decode cJ3_putChar 28 = .ok (.iload_n 1, 1) := dk_27 (dk_at dksJ3_putChar_1 4 rfl rfl)
theorem dJ3_putChar_29 : decode cJ3_putChar 29 = .ok (.iconst 1, 1) := dk_4 (dk_at dksJ3_putChar_1 5 rfl rfl)
theorem dJ3_putChar_30 : decode cJ3_putChar 30 = .ok (.ishl, 1) := dk_120 (dk_at dksJ3_putChar_1 6 rfl rfl)
theorem dJ3_putChar_31 : decode cJ3_putChar 31 = .ok (.istore_n 1, 1) := dk_60 (dk_at dksJ3_putChar_1 7 rfl rfl)
theorem dJ3_putChar_32 : decode cJ3_putChar 32 = .ok (.aload_n 0, 1) := dk_42 (dk_at dksJ3_putChar_1 8 rfl rfl)
theorem dJ3_putChar_33 : decode cJ3_putChar 33 = .ok (.iload_n 1, 1) := dk_27 (dk_at dksJ3_putChar_1 9 rfl rfl)
theorem dJ3_putChar_34 : decode cJ3_putChar 34 = .ok (.iinc 1 1, 3) := dk_132 1 1 (dk_at dksJ3_putChar_1 10 rfl rfl)
theorem dJ3_putChar_37 : decode cJ3_putChar 37 = .ok (.iload_n 2, 1) := dk_28 (dk_at dksJ3_putChar_1 13 rfl rfl)
theorem dJ3_putChar_38 : decode cJ3_putChar 38 = .ok (.getstatic 59, 3) := dk_178 0 59 (dk_at dksJ3_putChar_1 14 rfl rfl)
theorem dJ3_putChar_41 : decode cJ3_putChar 41 = .ok (.ishr, 1) := dk_122 (dk_at dksJ3_putChar_1 17 rfl rfl)
theorem dJ3_putChar_42 : decode cJ3_putChar 42 = .ok (.i2b, 1) := dk_145 (dk_at dksJ3_putChar_1 18 rfl rfl)
theorem dJ3_putChar_43 : decode cJ3_putChar 43 = .ok (.bastore, 1) := dk_84 (dk_at dksJ3_putChar_1 19 rfl rfl)
theorem dJ3_putChar_44 : decode cJ3_putChar 44 = .ok (.aload_n 0, 1) := dk_42 (dk_at dksJ3_putChar_1 20 rfl rfl)
theorem dJ3_putChar_45 : decode cJ3_putChar 45 = .ok (.iload_n 1, 1) := dk_27 (dk_at dksJ3_putChar_1 21 rfl rfl)
theorem dJ3_putChar_46 : decode cJ3_putChar 46 = .ok (.iload_n 2, 1) := dk_28 (dk_at dksJ3_putChar_1 22 rfl rfl)
theorem dJ3_putChar_47 : decode cJ3_putChar 47 = .ok (.getstatic 63, 3) := dk_178 0 63 (dk_at dksJ3_putChar_2 0 rfl rfl)
theorem dJ3_putChar_50 : decode cJ3_putChar 50 = .ok (.ishr, 1) := dk_122 (dk_at dksJ3_putChar_2 3 rfl rfl)
theorem dJ3_putChar_51 : decode cJ3_putChar 51 = .ok (.i2b, 1) := dk_145 (dk_at dksJ3_putChar_2 4 rfl rfl)
theorem dJ3_putChar_52 : decode cJ3_putChar 52 = .ok (.bastore, 1) := dk_84 (dk_at dksJ3_putChar_2 5 rfl rfl)
theorem dJ3_putChar_53 : decode cJ3_putChar 53 = .ok (.return_, 1) := dk_177 (dk_at dksJ3_putChar_2 6 rfl rfl)
abbrev cJ3_putCharSB : ByteArray := prog_38_method_71_code
def yJ3_putCharSB : MethodName := ⟨RJ3, "putCharSB", "([BII)V"⟩
def dkwJ3_putCharSB_0 : List UInt8 := [27, 42, 184, 0, 67, 42, 27, 28, 184, 0, 111, 177]
abbrev dktJ3_putCharSB_0 : List UInt8 := dkwJ3_putCharSB_0 ++ []
theorem dksJ3_putCharSB_0 : cJ3_putCharSB.data.toList.drop 0 = dktJ3_putCharSB_0 := by decide +kernel
theorem dJ3_putCharSB_0 : decode cJ3_putCharSB 0 = .ok (.iload_n 1, 1) := dk_27 (dk_at dksJ3_putCharSB_0 0 rfl rfl)
theorem dJ3_putCharSB_1 : decode cJ3_putCharSB 1 = .ok (.aload_n 0, 1) := dk_42 (dk_at dksJ3_putCharSB_0 1 rfl rfl)
theorem dJ3_putCharSB_2 : decode cJ3_putCharSB 2 = .ok (.invokestatic 67, 3) := dk_184 0 67 (dk_at dksJ3_putCharSB_0 2 rfl rfl)
theorem dJ3_putCharSB_5 : decode cJ3_putCharSB 5 = .ok (.aload_n 0, 1) := dk_42 (dk_at dksJ3_putCharSB_0 5 rfl rfl)
theorem dJ3_putCharSB_6 : decode cJ3_putCharSB 6 = .ok (.iload_n 1, 1) := dk_27 (dk_at dksJ3_putCharSB_0 6 rfl rfl)
theorem dJ3_putCharSB_7 : decode cJ3_putCharSB 7 = .ok (.iload_n 2, 1) := dk_28 (dk_at dksJ3_putCharSB_0 7 rfl rfl)
theorem dJ3_putCharSB_8 : decode cJ3_putCharSB 8 = .ok (.invokestatic 111, 3) := dk_184 0 111 (dk_at dksJ3_putCharSB_0 8 rfl rfl)
theorem dJ3_putCharSB_11 : decode cJ3_putCharSB 11 = .ok (.return_, 1) := dk_177 (dk_at dksJ3_putCharSB_0 11 rfl rfl)
abbrev cJ3_checkIndex : ByteArray := prog_38_method_91_code
def yJ3_checkIndex : MethodName := ⟨RJ3, "checkIndex", "(I[B)V"⟩
def dkwJ3_checkIndex_0 : List UInt8 := [26, 43, 184, 0, 48, 184, 1, 158, 177]
abbrev dktJ3_checkIndex_0 : List UInt8 := dkwJ3_checkIndex_0 ++ []
theorem dksJ3_checkIndex_0 : cJ3_checkIndex.data.toList.drop 0 = dktJ3_checkIndex_0 := by decide +kernel
theorem dJ3_checkIndex_0 : decode cJ3_checkIndex 0 = .ok (.iload_n 0, 1) := dk_26 (dk_at dksJ3_checkIndex_0 0 rfl rfl)
theorem dJ3_checkIndex_1 : decode cJ3_checkIndex 1 = .ok (.aload_n 1, 1) := dk_43 (dk_at dksJ3_checkIndex_0 1 rfl rfl)
theorem dJ3_checkIndex_2 : decode cJ3_checkIndex 2 = .ok (.invokestatic 48, 3) := dk_184 0 48 (dk_at dksJ3_checkIndex_0 2 rfl rfl)
theorem dJ3_checkIndex_5 : decode cJ3_checkIndex 5 = .ok (.invokestatic 414, 3) := dk_184 1 158 (dk_at dksJ3_checkIndex_0 5 rfl rfl)
theorem dJ3_checkIndex_8 : decode cJ3_checkIndex 8 = .ok (.return_, 1) := dk_177 (dk_at dksJ3_checkIndex_0 8 rfl rfl)
abbrev cJ3_compress : ByteArray := prog_38_method_17_code
def yJ3_compress : MethodName := ⟨RJ3, "compress", "([BII)[B"⟩
def dkwJ3_compress_2 : List UInt8 := [25, 5, 3, 45, 3, 28, 184, 0, 123, 28, 159, 0, 6, 25, 5, 176, 45, 176]
abbrev dktJ3_compress_2 : List UInt8 := dkwJ3_compress_2 ++ []
def dkwJ3_compress_1 : List UInt8 := [27, 28, 96, 184, 0, 11, 184, 0, 126, 58, 5, 25, 5, 21, 4, 184, 0, 71, 17, 0, 255, 163, 0, 16]
abbrev dktJ3_compress_1 : List UInt8 := dkwJ3_compress_1 ++ dktJ3_compress_2
def dkwJ3_compress_0 : List UInt8 := [28, 188, 8, 78, 42, 27, 45, 3, 28, 184, 0, 123, 54, 4, 21, 4, 28, 159, 0, 47, 42, 27, 4, 120]
abbrev dktJ3_compress_0 : List UInt8 := dkwJ3_compress_0 ++ dktJ3_compress_1
theorem dksJ3_compress_0 : cJ3_compress.data.toList.drop 0 = dktJ3_compress_0 := by decide +kernel
theorem dksJ3_compress_1 : cJ3_compress.data.toList.drop 24 = dktJ3_compress_1 := dk_seg dksJ3_compress_0 24 rfl rfl
theorem dksJ3_compress_2 : cJ3_compress.data.toList.drop 48 = dktJ3_compress_2 := dk_seg dksJ3_compress_1 24 rfl rfl
theorem dJ3_compress_0 : decode cJ3_compress 0 = .ok (.iload_n 2, 1) := dk_28 (dk_at dksJ3_compress_0 0 rfl rfl)
theorem dJ3_compress_1 : decode cJ3_compress 1 = .ok (.newarray .byte, 2) := dk_188_8 (dk_at dksJ3_compress_0 1 rfl rfl)
theorem dJ3_compress_3 : decode cJ3_compress 3 = .ok (.astore_n 3, 1) := dk_78 (dk_at dksJ3_compress_0 3 rfl rfl)
theorem dJ3_compress_4 : decode cJ3_compress 4 = .ok (.aload_n 0, 1) := dk_42 (dk_at dksJ3_compress_0 4 rfl rfl)
theorem dJ3_compress_5 : decode cJ3_compress 5 = .ok (.iload_n 1, 1) := dk_27 (dk_at dksJ3_compress_0 5 rfl rfl)
theorem dJ3_compress_6 : decode cJ3_compress 6 = .ok (.aload_n 3, 1) := dk_45 (dk_at dksJ3_compress_0 6 rfl rfl)
theorem dJ3_compress_7 : decode cJ3_compress 7 = .ok (.iconst 0, 1) := dk_3 (dk_at dksJ3_compress_0 7 rfl rfl)
theorem dJ3_compress_8 : decode cJ3_compress 8 = .ok (.iload_n 2, 1) := dk_28 (dk_at dksJ3_compress_0 8 rfl rfl)
theorem dJ3_compress_9 : decode cJ3_compress 9 = .ok (.invokestatic 123, 3) := dk_184 0 123 (dk_at dksJ3_compress_0 9 rfl rfl)
theorem dJ3_compress_12 : decode cJ3_compress 12 = .ok (.istore 4, 2) := dk_54 4 (dk_at dksJ3_compress_0 12 rfl rfl)
theorem dJ3_compress_14 : decode cJ3_compress 14 = .ok (.iload 4, 2) := dk_21 4 (dk_at dksJ3_compress_0 14 rfl rfl)
theorem dJ3_compress_16 : decode cJ3_compress 16 = .ok (.iload_n 2, 1) := dk_28 (dk_at dksJ3_compress_0 16 rfl rfl)
theorem dJ3_compress_17 : decode cJ3_compress 17 = .ok (.if_icmp .eq 47, 3) := dk_159 0 47 (dk_at dksJ3_compress_0 17 rfl rfl)
theorem dJ3_compress_20 : decode cJ3_compress 20 = .ok (.aload_n 0, 1) := dk_42 (dk_at dksJ3_compress_0 20 rfl rfl)
theorem dJ3_compress_21 : decode cJ3_compress 21 = .ok (.iload_n 1, 1) := dk_27 (dk_at dksJ3_compress_0 21 rfl rfl)
theorem dJ3_compress_22 : decode cJ3_compress 22 = .ok (.iconst 1, 1) := dk_4 (dk_at dksJ3_compress_0 22 rfl rfl)
theorem dJ3_compress_23 : decode cJ3_compress 23 = .ok (.ishl, 1) := dk_120 (dk_at dksJ3_compress_0 23 rfl rfl)
theorem dJ3_compress_24 : decode cJ3_compress 24 = .ok (.iload_n 1, 1) := dk_27 (dk_at dksJ3_compress_1 0 rfl rfl)
theorem dJ3_compress_25 : decode cJ3_compress 25 = .ok (.iload_n 2, 1) := dk_28 (dk_at dksJ3_compress_1 1 rfl rfl)
theorem dJ3_compress_26 : decode cJ3_compress 26 = .ok (.iadd, 1) := dk_96 (dk_at dksJ3_compress_1 2 rfl rfl)
theorem dJ3_compress_27 : decode cJ3_compress 27 = .ok (.invokestatic 11, 3) := dk_184 0 11 (dk_at dksJ3_compress_1 3 rfl rfl)
theorem dJ3_compress_30 : decode cJ3_compress 30 = .ok (.invokestatic 126, 3) := dk_184 0 126 (dk_at dksJ3_compress_1 6 rfl rfl)
theorem dJ3_compress_33 : decode cJ3_compress 33 = .ok (.astore 5, 2) := dk_58 5 (dk_at dksJ3_compress_1 9 rfl rfl)
theorem dJ3_compress_35 : decode cJ3_compress 35 = .ok (.aload 5, 2) := dk_25 5 (dk_at dksJ3_compress_1 11 rfl rfl)
theorem dJ3_compress_37 : decode cJ3_compress 37 = .ok (.iload 4, 2) := dk_21 4 (dk_at dksJ3_compress_1 13 rfl rfl)
theorem dJ3_compress_39 : decode cJ3_compress 39 = .ok (.invokestatic 71, 3) := dk_184 0 71 (dk_at dksJ3_compress_1 15 rfl rfl)
theorem dJ3_compress_42 : decode cJ3_compress 42 = .ok (.sipush 255, 3) := dk_17 0 255 (dk_at dksJ3_compress_1 18 rfl rfl)
theorem dJ3_compress_45 : decode cJ3_compress 45 = .ok (.if_icmp .gt 16, 3) := dk_163 0 16 (dk_at dksJ3_compress_1 21 rfl rfl)
theorem dJ3_compress_48 : decode cJ3_compress 48 = .ok (.aload 5, 2) := dk_25 5 (dk_at dksJ3_compress_2 0 rfl rfl)
theorem dJ3_compress_50 : decode cJ3_compress 50 = .ok (.iconst 0, 1) := dk_3 (dk_at dksJ3_compress_2 2 rfl rfl)
theorem dJ3_compress_51 : decode cJ3_compress 51 = .ok (.aload_n 3, 1) := dk_45 (dk_at dksJ3_compress_2 3 rfl rfl)
theorem dJ3_compress_52 : decode cJ3_compress 52 = .ok (.iconst 0, 1) := dk_3 (dk_at dksJ3_compress_2 4 rfl rfl)
theorem dJ3_compress_53 : decode cJ3_compress 53 = .ok (.iload_n 2, 1) := dk_28 (dk_at dksJ3_compress_2 5 rfl rfl)
theorem dJ3_compress_54 : decode cJ3_compress 54 = .ok (.invokestatic 123, 3) := dk_184 0 123 (dk_at dksJ3_compress_2 6 rfl rfl)
theorem dJ3_compress_57 : decode cJ3_compress 57 = .ok (.iload_n 2, 1) := dk_28 (dk_at dksJ3_compress_2 9 rfl rfl)
theorem dJ3_compress_58 : decode cJ3_compress 58 = .ok (.if_icmp .eq 6, 3) := dk_159 0 6 (dk_at dksJ3_compress_2 10 rfl rfl)
theorem dJ3_compress_61 : decode cJ3_compress 61 = .ok (.aload 5, 2) := dk_25 5 (dk_at dksJ3_compress_2 13 rfl rfl)
theorem dJ3_compress_63 : decode cJ3_compress 63 = .ok (.areturn, 1) := dk_176 (dk_at dksJ3_compress_2 15 rfl rfl)
theorem dJ3_compress_64 : decode cJ3_compress 64 = .ok (.aload_n 3, 1) := dk_45 (dk_at dksJ3_compress_2 16 rfl rfl)
theorem dJ3_compress_65 : decode cJ3_compress 65 = .ok (.areturn, 1) := dk_176 (dk_at dksJ3_compress_2 17 rfl rfl)
abbrev cJ3_compress_2 : ByteArray := prog_38_method_22_code
def yJ3_compress_2 : MethodName := ⟨RJ3, "compress", "([BI[BII)I"⟩
def dkwJ3_compress_2_2 : List UInt8 := [132, 5, 1, 167, 255, 216, 21, 4, 172]
abbrev dktJ3_compress_2_2 : List UInt8 := dkwJ3_compress_2_2 ++ []
def dkwJ3_compress_2_1 : List UInt8 := [21, 6, 17, 0, 255, 164, 0, 6, 21, 5, 172, 44, 29, 21, 6, 145, 84, 132, 1, 1, 132, 3, 1]
abbrev dktJ3_compress_2_1 : List UInt8 := dkwJ3_compress_2_1 ++ dktJ3_compress_2_2
def dkwJ3_compress_2_0 : List UInt8 := [27, 21, 4, 42, 184, 0, 173, 3, 54, 5, 21, 5, 21, 4, 162, 0, 39, 42, 27, 184, 0, 71, 54, 6]
abbrev dktJ3_compress_2_0 : List UInt8 := dkwJ3_compress_2_0 ++ dktJ3_compress_2_1
theorem dksJ3_compress_2_0 : cJ3_compress_2.data.toList.drop 0 = dktJ3_compress_2_0 := by decide +kernel
theorem dksJ3_compress_2_1 : cJ3_compress_2.data.toList.drop 24 = dktJ3_compress_2_1 := dk_seg dksJ3_compress_2_0 24 rfl rfl
theorem dksJ3_compress_2_2 : cJ3_compress_2.data.toList.drop 47 = dktJ3_compress_2_2 := dk_seg dksJ3_compress_2_1 23 rfl rfl
theorem dJ3_compress_2_0 : decode cJ3_compress_2 0 = .ok (.iload_n 1, 1) := dk_27 (dk_at dksJ3_compress_2_0 0 rfl rfl)
theorem dJ3_compress_2_1 : decode cJ3_compress_2 1 = .ok (.iload 4, 2) := dk_21 4 (dk_at dksJ3_compress_2_0 1 rfl rfl)
theorem dJ3_compress_2_3 : decode cJ3_compress_2 3 = .ok (.aload_n 0, 1) := dk_42 (dk_at dksJ3_compress_2_0 3 rfl rfl)
theorem dJ3_compress_2_4 : decode cJ3_compress_2 4 = .ok (.invokestatic 173, 3) := dk_184 0 173 (dk_at dksJ3_compress_2_0 4 rfl rfl)
theorem dJ3_compress_2_7 : decode cJ3_compress_2 7 = .ok (.iconst 0, 1) := dk_3 (dk_at dksJ3_compress_2_0 7 rfl rfl)
theorem dJ3_compress_2_8 : decode cJ3_compress_2 8 = .ok (.istore 5, 2) := dk_54 5 (dk_at dksJ3_compress_2_0 8 rfl rfl)
theorem dJ3_compress_2_10 : decode cJ3_compress_2 10 = .ok (.iload 5, 2) := dk_21 5 (dk_at dksJ3_compress_2_0 10 rfl rfl)
theorem dJ3_compress_2_12 : decode cJ3_compress_2 12 = .ok (.iload 4, 2) := dk_21 4 (dk_at dksJ3_compress_2_0 12 rfl rfl)
theorem dJ3_compress_2_14 : decode cJ3_compress_2 14 = .ok (.if_icmp .ge 39, 3) := dk_162 0 39 (dk_at dksJ3_compress_2_0 14 rfl rfl)
theorem dJ3_compress_2_17 : decode cJ3_compress_2 17 = .ok (.aload_n 0, 1) := dk_42 (dk_at dksJ3_compress_2_0 17 rfl rfl)
theorem dJ3_compress_2_18 : decode cJ3_compress_2 18 = .ok (.iload_n 1, 1) := dk_27 (dk_at dksJ3_compress_2_0 18 rfl rfl)
theorem dJ3_compress_2_19 : decode cJ3_compress_2 19 = .ok (.invokestatic 71, 3) := dk_184 0 71 (dk_at dksJ3_compress_2_0 19 rfl rfl)
theorem dJ3_compress_2_22 : decode cJ3_compress_2 22 = .ok (.istore 6, 2) := dk_54 6 (dk_at dksJ3_compress_2_0 22 rfl rfl)
theorem dJ3_compress_2_24 : decode cJ3_compress_2 24 = .ok (.iload 6, 2) := dk_21 6 (dk_at dksJ3_compress_2_1 0 rfl rfl)
theorem dJ3_compress_2_26 : decode cJ3_compress_2 26 = .ok (.sipush 255, 3) := dk_17 0 255 (dk_at dksJ3_compress_2_1 2 rfl rfl)
theorem dJ3_compress_2_29 : decode cJ3_compress_2 29 = .ok (.if_icmp .le 6, 3) := dk_164 0 6 (dk_at dksJ3_compress_2_1 5 rfl rfl)
theorem dJ3_compress_2_32 : decode cJ3_compress_2 32 = .ok (.iload 5, 2) := dk_21 5 (dk_at dksJ3_compress_2_1 8 rfl rfl)
theorem dJ3_compress_2_34 : decode cJ3_compress_2 34 = .ok (.ireturn, 1) := dk_172 (dk_at dksJ3_compress_2_1 10 rfl rfl)
theorem dJ3_compress_2_35 : decode cJ3_compress_2 35 = .ok (.aload_n 2, 1) := dk_44 (dk_at dksJ3_compress_2_1 11 rfl rfl)
theorem dJ3_compress_2_36 : decode cJ3_compress_2 36 = .ok (.iload_n 3, 1) := dk_29 (dk_at dksJ3_compress_2_1 12 rfl rfl)
theorem dJ3_compress_2_37 : decode cJ3_compress_2 37 = .ok (.iload 6, 2) := dk_21 6 (dk_at dksJ3_compress_2_1 13 rfl rfl)
theorem dJ3_compress_2_39 : decode cJ3_compress_2 39 = .ok (.i2b, 1) := dk_145 (dk_at dksJ3_compress_2_1 15 rfl rfl)
theorem dJ3_compress_2_40 : decode cJ3_compress_2 40 = .ok (.bastore, 1) := dk_84 (dk_at dksJ3_compress_2_1 16 rfl rfl)
theorem dJ3_compress_2_41 : decode cJ3_compress_2 41 = .ok (.iinc 1 1, 3) := dk_132 1 1 (dk_at dksJ3_compress_2_1 17 rfl rfl)
theorem dJ3_compress_2_44 : decode cJ3_compress_2 44 = .ok (.iinc 3 1, 3) := dk_132 3 1 (dk_at dksJ3_compress_2_1 20 rfl rfl)
theorem dJ3_compress_2_47 : decode cJ3_compress_2 47 = .ok (.iinc 5 1, 3) := dk_132 5 1 (dk_at dksJ3_compress_2_2 0 rfl rfl)
theorem dJ3_compress_2_50 : decode cJ3_compress_2 50 = .ok (.goto (-40), 3) := dk_167 255 216 (dk_at dksJ3_compress_2_2 3 rfl rfl)
theorem dJ3_compress_2_53 : decode cJ3_compress_2 53 = .ok (.iload 4, 2) := dk_21 4 (dk_at dksJ3_compress_2_2 6 rfl rfl)
theorem dJ3_compress_2_55 : decode cJ3_compress_2 55 = .ok (.ireturn, 1) := dk_172 (dk_at dksJ3_compress_2_2 8 rfl rfl)
abbrev cJ3_getChar : ByteArray := prog_38_method_5_code
def yJ3_getChar : MethodName := ⟨RJ3, "getChar", "([BI)C"⟩
def dkwJ3_getChar_2 : List UInt8 := [51, 17, 0, 255, 126, 178, 0, 63, 120, 128, 146, 172]
abbrev dktJ3_getChar_2 : List UInt8 := dkwJ3_getChar_2 ++ []
def dkwJ3_getChar_1 : List UInt8 := [183, 0, 56, 191, 27, 4, 120, 60, 42, 27, 132, 1, 1, 51, 17, 0, 255, 126, 178, 0, 59, 120, 42, 27]
abbrev dktJ3_getChar_1 : List UInt8 := dkwJ3_getChar_1 ++ dktJ3_getChar_2
def dkwJ3_getChar_0 : List UInt8 := [178, 0, 44, 154, 0, 25, 27, 155, 0, 11, 27, 42, 184, 0, 48, 161, 0, 13, 187, 0, 52, 89, 18, 54]
abbrev dktJ3_getChar_0 : List UInt8 := dkwJ3_getChar_0 ++ dktJ3_getChar_1
theorem dksJ3_getChar_0 : cJ3_getChar.data.toList.drop 0 = dktJ3_getChar_0 := by decide +kernel
theorem dksJ3_getChar_1 : cJ3_getChar.data.toList.drop 24 = dktJ3_getChar_1 := dk_seg dksJ3_getChar_0 24 rfl rfl
theorem dksJ3_getChar_2 : cJ3_getChar.data.toList.drop 48 = dktJ3_getChar_2 := dk_seg dksJ3_getChar_1 24 rfl rfl
theorem dJ3_getChar_0 : decode cJ3_getChar 0 = .ok (.getstatic 44, 3) := dk_178 0 44 (dk_at dksJ3_getChar_0 0 rfl rfl)
theorem dJ3_getChar_3 : decode cJ3_getChar 3 = .ok (.ifCond .ne 25, 3) := dk_154 0 25 (dk_at dksJ3_getChar_0 3 rfl rfl)
theorem dJ3_getChar_6 : decode cJ3_getChar 6 = .ok (.iload_n 1, 1) := dk_27 (dk_at dksJ3_getChar_0 6 rfl rfl)
theorem dJ3_getChar_7 : decode cJ3_getChar 7 = .ok (.ifCond .lt 11, 3) := dk_155 0 11 (dk_at dksJ3_getChar_0 7 rfl rfl)
theorem dJ3_getChar_10 : decode cJ3_getChar 10 = .ok (.iload_n 1, 1) := dk_27 (dk_at dksJ3_getChar_0 10 rfl rfl)
theorem dJ3_getChar_11 : decode cJ3_getChar 11 = .ok (.aload_n 0, 1) := dk_42 (dk_at dksJ3_getChar_0 11 rfl rfl)
theorem dJ3_getChar_12 : decode cJ3_getChar 12 = .ok (.invokestatic 48, 3) := dk_184 0 48 (dk_at dksJ3_getChar_0 12 rfl rfl)
theorem dJ3_getChar_15 : decode cJ3_getChar 15 = .ok (.if_icmp .lt 13, 3) := dk_161 0 13 (dk_at dksJ3_getChar_0 15 rfl rfl)
theorem dJ3_getChar_18 : decode cJ3_getChar 18 = .ok (.new 52, 3) := dk_187 0 52 (dk_at dksJ3_getChar_0 18 rfl rfl)
theorem dJ3_getChar_21 : decode cJ3_getChar 21 = .ok (.dup, 1) := dk_89 (dk_at dksJ3_getChar_0 21 rfl rfl)
theorem dJ3_getChar_22 : decode cJ3_getChar 22 = .ok (.ldc 54, 2) := dk_18 54 (dk_at dksJ3_getChar_0 22 rfl rfl)
theorem dJ3_getChar_24 : decode cJ3_getChar 24 = .ok (.invokespecial 56, 3) := dk_183 0 56 (dk_at dksJ3_getChar_1 0 rfl rfl)
theorem dJ3_getChar_27 : decode cJ3_getChar 27 = .ok (.athrow, 1) := dk_191 (dk_at dksJ3_getChar_1 3 rfl rfl)
theorem dJ3_getChar_28 : decode cJ3_getChar 28 = .ok (.iload_n 1, 1) := dk_27 (dk_at dksJ3_getChar_1 4 rfl rfl)
theorem dJ3_getChar_29 : decode cJ3_getChar 29 = .ok (.iconst 1, 1) := dk_4 (dk_at dksJ3_getChar_1 5 rfl rfl)
theorem dJ3_getChar_30 : decode cJ3_getChar 30 = .ok (.ishl, 1) := dk_120 (dk_at dksJ3_getChar_1 6 rfl rfl)
theorem dJ3_getChar_31 : decode cJ3_getChar 31 = .ok (.istore_n 1, 1) := dk_60 (dk_at dksJ3_getChar_1 7 rfl rfl)
theorem dJ3_getChar_32 : decode cJ3_getChar 32 = .ok (.aload_n 0, 1) := dk_42 (dk_at dksJ3_getChar_1 8 rfl rfl)
theorem dJ3_getChar_33 : decode cJ3_getChar 33 = .ok (.iload_n 1, 1) := dk_27 (dk_at dksJ3_getChar_1 9 rfl rfl)
theorem dJ3_getChar_34 : decode cJ3_getChar 34 = .ok (.iinc 1 1, 3) := dk_132 1 1 (dk_at dksJ3_getChar_1 10 rfl rfl)
theorem dJ3_getChar_37 : decode cJ3_getChar 37 = .ok (.baload, 1) := dk_51 (dk_at dksJ3_getChar_1 13 rfl rfl)
theorem dJ3_getChar_38 : decode cJ3_getChar 38 = .ok (.sipush 255, 3) := dk_17 0 255 (dk_at dksJ3_getChar_1 14 rfl rfl)
theorem dJ3_getChar_41 : decode cJ3_getChar 41 = .ok (.iand, 1) := dk_126 (dk_at dksJ3_getChar_1 17 rfl rfl)
theorem dJ3_getChar_42 : decode cJ3_getChar 42 = .ok (.getstatic 59, 3) := dk_178 0 59 (dk_at dksJ3_getChar_1 18 rfl rfl)
theorem dJ3_getChar_45 : decode cJ3_getChar 45 = .ok (.ishl, 1) := dk_120 (dk_at dksJ3_getChar_1 21 rfl rfl)
theorem dJ3_getChar_46 : decode cJ3_getChar 46 = .ok (.aload_n 0, 1) := dk_42 (dk_at dksJ3_getChar_1 22 rfl rfl)
theorem dJ3_getChar_47 : decode cJ3_getChar 47 = .ok (.iload_n 1, 1) := dk_27 (dk_at dksJ3_getChar_1 23 rfl rfl)
theorem dJ3_getChar_48 : decode cJ3_getChar 48 = .ok (.baload, 1) := dk_51 (dk_at dksJ3_getChar_2 0 rfl rfl)
theorem dJ3_getChar_49 : decode cJ3_getChar 49 = .ok (.sipush 255, 3) := dk_17 0 255 (dk_at dksJ3_getChar_2 1 rfl rfl)
theorem dJ3_getChar_52 : decode cJ3_getChar 52 = .ok (.iand, 1) := dk_126 (dk_at dksJ3_getChar_2 4 rfl rfl)
theorem dJ3_getChar_53 : decode cJ3_getChar 53 = .ok (.getstatic 63, 3) := dk_178 0 63 (dk_at dksJ3_getChar_2 5 rfl rfl)
theorem dJ3_getChar_56 : decode cJ3_getChar 56 = .ok (.ishl, 1) := dk_120 (dk_at dksJ3_getChar_2 8 rfl rfl)
theorem dJ3_getChar_57 : decode cJ3_getChar 57 = .ok (.ior, 1) := dk_128 (dk_at dksJ3_getChar_2 9 rfl rfl)
theorem dJ3_getChar_58 : decode cJ3_getChar 58 = .ok (.i2c, 1) := dk_146 (dk_at dksJ3_getChar_2 10 rfl rfl)
theorem dJ3_getChar_59 : decode cJ3_getChar 59 = .ok (.ireturn, 1) := dk_172 (dk_at dksJ3_getChar_2 11 rfl rfl)
abbrev cJ3_coderFromArrayLen : ByteArray := prog_38_method_15_code
def yJ3_coderFromArrayLen : MethodName := ⟨RJ3, "coderFromArrayLen", "([BI)B"⟩
def dkwJ3_coderFromArrayLen_0 : List UInt8 := [27, 42, 190, 100, 16, 31, 124, 145, 172]
abbrev dktJ3_coderFromArrayLen_0 : List UInt8 := dkwJ3_coderFromArrayLen_0 ++ []
theorem dksJ3_coderFromArrayLen_0 : cJ3_coderFromArrayLen.data.toList.drop 0 = dktJ3_coderFromArrayLen_0 := by decide +kernel
theorem dJ3_coderFromArrayLen_0 : decode cJ3_coderFromArrayLen 0 = .ok (.iload_n 1, 1) := dk_27 (dk_at dksJ3_coderFromArrayLen_0 0 rfl rfl)
theorem dJ3_coderFromArrayLen_1 : decode cJ3_coderFromArrayLen 1 = .ok (.aload_n 0, 1) := dk_42 (dk_at dksJ3_coderFromArrayLen_0 1 rfl rfl)
theorem dJ3_coderFromArrayLen_2 : decode cJ3_coderFromArrayLen 2 = .ok (.arraylength, 1) := dk_190 (dk_at dksJ3_coderFromArrayLen_0 2 rfl rfl)
theorem dJ3_coderFromArrayLen_3 : decode cJ3_coderFromArrayLen 3 = .ok (.isub, 1) := dk_100 (dk_at dksJ3_coderFromArrayLen_0 3 rfl rfl)
theorem dJ3_coderFromArrayLen_4 : decode cJ3_coderFromArrayLen 4 = .ok (.bipush 31, 2) := dk_16 31 (dk_at dksJ3_coderFromArrayLen_0 4 rfl rfl)
theorem dJ3_coderFromArrayLen_6 : decode cJ3_coderFromArrayLen 6 = .ok (.iushr, 1) := dk_124 (dk_at dksJ3_coderFromArrayLen_0 6 rfl rfl)
theorem dJ3_coderFromArrayLen_7 : decode cJ3_coderFromArrayLen 7 = .ok (.i2b, 1) := dk_145 (dk_at dksJ3_coderFromArrayLen_0 7 rfl rfl)
theorem dJ3_coderFromArrayLen_8 : decode cJ3_coderFromArrayLen 8 = .ok (.ireturn, 1) := dk_172 (dk_at dksJ3_coderFromArrayLen_0 8 rfl rfl)
abbrev cJ3_charAt : ByteArray := prog_38_method_83_code
def yJ3_charAt : MethodName := ⟨RJ3, "charAt", "([BI)C"⟩
def dkwJ3_charAt_0 : List UInt8 := [27, 42, 184, 0, 67, 42, 27, 184, 0, 71, 172]
abbrev dktJ3_charAt_0 : List UInt8 := dkwJ3_charAt_0 ++ []
theorem dksJ3_charAt_0 : cJ3_charAt.data.toList.drop 0 = dktJ3_charAt_0 := by decide +kernel
theorem dJ3_charAt_0 : decode cJ3_charAt 0 = .ok (.iload_n 1, 1) := dk_27 (dk_at dksJ3_charAt_0 0 rfl rfl)
theorem dJ3_charAt_1 : decode cJ3_charAt 1 = .ok (.aload_n 0, 1) := dk_42 (dk_at dksJ3_charAt_0 1 rfl rfl)
theorem dJ3_charAt_2 : decode cJ3_charAt 2 = .ok (.invokestatic 67, 3) := dk_184 0 67 (dk_at dksJ3_charAt_0 2 rfl rfl)
theorem dJ3_charAt_5 : decode cJ3_charAt 5 = .ok (.aload_n 0, 1) := dk_42 (dk_at dksJ3_charAt_0 5 rfl rfl)
theorem dJ3_charAt_6 : decode cJ3_charAt 6 = .ok (.iload_n 1, 1) := dk_27 (dk_at dksJ3_charAt_0 6 rfl rfl)
theorem dJ3_charAt_7 : decode cJ3_charAt 7 = .ok (.invokestatic 71, 3) := dk_184 0 71 (dk_at dksJ3_charAt_0 7 rfl rfl)
theorem dJ3_charAt_10 : decode cJ3_charAt 10 = .ok (.ireturn, 1) := dk_172 (dk_at dksJ3_charAt_0 10 rfl rfl)
theorem q100 : (Jvm.Cond.initialized "java/lang/StringUTF16") ∈ lw_all := lw_g (lw_at lw_m1 12 rfl) rfl
theorem q389 : (Jvm.Cond.static ({ cls := "java/lang/StringUTF16", name := "newBytesFor", desc := "(I)[B" } : Jvm.MethodName)) ∈ lw_all := lw_g (lw_at lw_m2 61 rfl) rfl
theorem q390 : (Jvm.Cond.code ({ cls := "java/lang/StringUTF16", name := "newBytesFor", desc := "(I)[B" } : Jvm.MethodName) prog_38_method_2_code (1 : Nat) (Option.some (Jvm.ClassFile.FieldType.array Jvm.ClassFile.FieldType.byte))) ∈ lw_all := lw_g (lw_at lw_m2 62 rfl) rfl
theorem q391 : (Jvm.Cond.methodLink "java/lang/StringUTF16" (11 : Nat) ({ cls := "java/lang/StringUTF16", name := "newBytesLength", desc := "(I)I" } : Jvm.MethodName)) ∈ lw_all := lw_g (lw_at lw_m2 63 rfl) rfl
theorem q392 : (Jvm.Cond.static ({ cls := "java/lang/StringUTF16", name := "newBytesLength", desc := "(I)I" } : Jvm.MethodName)) ∈ lw_all := lw_g (lw_at lw_m2 64 rfl) rfl
theorem q393 : (Jvm.Cond.code ({ cls := "java/lang/StringUTF16", name := "newBytesLength", desc := "(I)I" } : Jvm.MethodName) prog_38_method_3_code (1 : Nat) (Option.some Jvm.ClassFile.FieldType.int)) ∈ lw_all := lw_g (lw_at lw_m2 65 rfl) rfl
theorem q394 : (Jvm.Cond.constant "java/lang/StringUTF16" (20 : Nat) (1073741823 : Int32)) ∈ lw_all := lw_g (lw_at lw_m2 66 rfl) rfl
theorem q473 : (Jvm.Cond.static ({ cls := "java/lang/StringUTF16", name := "inflate", desc := "([BI[BII)V" } : Jvm.MethodName)) ∈ lw_all := lw_g (lw_at lw_m2 145 rfl) rfl
theorem q474 : (Jvm.Cond.code ({ cls := "java/lang/StringUTF16", name := "inflate", desc := "([BI[BII)V" } : Jvm.MethodName) prog_38_method_86_code (6 : Nat) (Option.none : Option Jvm.ClassFile.FieldType)) ∈ lw_all := lw_g (lw_at lw_m2 146 rfl) rfl
theorem q475 : (Jvm.Cond.methodLink "java/lang/StringUTF16" (173 : Nat) ({ cls := "java/lang/StringUTF16", name := "checkBoundsOffCount", desc := "(II[B)V" } : Jvm.MethodName)) ∈ lw_all := lw_g (lw_at lw_m2 147 rfl) rfl
theorem q476 : (Jvm.Cond.static ({ cls := "java/lang/StringUTF16", name := "checkBoundsOffCount", desc := "(II[B)V" } : Jvm.MethodName)) ∈ lw_all := lw_g (lw_at lw_m2 148 rfl) rfl
theorem q477 : (Jvm.Cond.code ({ cls := "java/lang/StringUTF16", name := "checkBoundsOffCount", desc := "(II[B)V" } : Jvm.MethodName) prog_38_method_94_code (3 : Nat) (Option.none : Option Jvm.ClassFile.FieldType)) ∈ lw_all := lw_g (lw_at lw_m2 149 rfl) rfl
theorem q478 : (Jvm.Cond.methodLink "java/lang/StringUTF16" (48 : Nat) ({ cls := "java/lang/StringUTF16", name := "length", desc := "([B)I" } : Jvm.MethodName)) ∈ lw_all := lw_g (lw_at lw_m2 150 rfl) rfl
theorem q479 : (Jvm.Cond.static ({ cls := "java/lang/StringUTF16", name := "length", desc := "([B)I" } : Jvm.MethodName)) ∈ lw_all := lw_g (lw_at lw_m2 151 rfl) rfl
theorem q480 : (Jvm.Cond.code ({ cls := "java/lang/StringUTF16", name := "length", desc := "([B)I" } : Jvm.MethodName) prog_38_method_6_code (1 : Nat) (Option.some Jvm.ClassFile.FieldType.int)) ∈ lw_all := lw_g (lw_at lw_m2 152 rfl) rfl
theorem q481 : (Jvm.Cond.methodLink "java/lang/StringUTF16" (419 : Nat) ({ cls := "java/lang/String", name := "checkBoundsOffCount", desc := "(III)I" } : Jvm.MethodName)) ∈ lw_all := lw_g (lw_at lw_m2 153 rfl) rfl
theorem q489 : (Jvm.Cond.methodLink "java/lang/StringUTF16" (111 : Nat) ({ cls := "java/lang/StringUTF16", name := "putChar", desc := "([BII)V" } : Jvm.MethodName)) ∈ lw_all := lw_g (lw_at lw_m2 161 rfl) rfl
theorem q490 : (Jvm.Cond.static ({ cls := "java/lang/StringUTF16", name := "putChar", desc := "([BII)V" } : Jvm.MethodName)) ∈ lw_all := lw_g (lw_at lw_m2 162 rfl) rfl
theorem q491 : (Jvm.Cond.code ({ cls := "java/lang/StringUTF16", name := "putChar", desc := "([BII)V" } : Jvm.MethodName) prog_38_method_4_code (3 : Nat) (Option.none : Option Jvm.ClassFile.FieldType)) ∈ lw_all := lw_g (lw_at lw_m2 163 rfl) rfl
theorem q492 : (Jvm.Cond.fieldLink "java/lang/StringUTF16" (44 : Nat) "java/lang/StringUTF16" "$assertionsDisabled" "Z") ∈ lw_all := lw_g (lw_at lw_m2 164 rfl) rfl
theorem q493 : (Jvm.Cond.laysStatic "java/lang/StringUTF16" "$assertionsDisabled" "Z") ∈ lw_tbl := lw_at lw_m2 165 rfl
theorem q494 : (Jvm.Cond.fieldLink "java/lang/StringUTF16" (59 : Nat) "java/lang/StringUTF16" "HI_BYTE_SHIFT" "I") ∈ lw_all := lw_g (lw_at lw_m2 166 rfl) rfl
theorem q495 : (Jvm.Cond.laysStatic "java/lang/StringUTF16" "HI_BYTE_SHIFT" "I") ∈ lw_tbl := lw_at lw_m2 167 rfl
theorem q496 : (Jvm.Cond.fieldLink "java/lang/StringUTF16" (63 : Nat) "java/lang/StringUTF16" "LO_BYTE_SHIFT" "I") ∈ lw_all := lw_g (lw_at lw_m2 168 rfl) rfl
theorem q497 : (Jvm.Cond.laysStatic "java/lang/StringUTF16" "LO_BYTE_SHIFT" "I") ∈ lw_tbl := lw_at lw_m2 169 rfl
theorem q499 : (Jvm.Cond.static ({ cls := "java/lang/StringUTF16", name := "putCharSB", desc := "([BII)V" } : Jvm.MethodName)) ∈ lw_all := lw_g (lw_at lw_m2 171 rfl) rfl
theorem q500 : (Jvm.Cond.code ({ cls := "java/lang/StringUTF16", name := "putCharSB", desc := "([BII)V" } : Jvm.MethodName) prog_38_method_71_code (3 : Nat) (Option.none : Option Jvm.ClassFile.FieldType)) ∈ lw_all := lw_g (lw_at lw_m2 172 rfl) rfl
theorem q501 : (Jvm.Cond.methodLink "java/lang/StringUTF16" (67 : Nat) ({ cls := "java/lang/StringUTF16", name := "checkIndex", desc := "(I[B)V" } : Jvm.MethodName)) ∈ lw_all := lw_g (lw_at lw_m2 173 rfl) rfl
theorem q502 : (Jvm.Cond.static ({ cls := "java/lang/StringUTF16", name := "checkIndex", desc := "(I[B)V" } : Jvm.MethodName)) ∈ lw_all := lw_g (lw_at lw_m2 174 rfl) rfl
theorem q503 : (Jvm.Cond.code ({ cls := "java/lang/StringUTF16", name := "checkIndex", desc := "(I[B)V" } : Jvm.MethodName) prog_38_method_91_code (2 : Nat) (Option.none : Option Jvm.ClassFile.FieldType)) ∈ lw_all := lw_g (lw_at lw_m2 175 rfl) rfl
theorem q504 : (Jvm.Cond.methodLink "java/lang/StringUTF16" (414 : Nat) ({ cls := "java/lang/String", name := "checkIndex", desc := "(II)V" } : Jvm.MethodName)) ∈ lw_all := lw_g (lw_at lw_m2 176 rfl) rfl
theorem q541 : (Jvm.Cond.static ({ cls := "java/lang/StringUTF16", name := "compress", desc := "([BII)[B" } : Jvm.MethodName)) ∈ lw_all := lw_g (lw_at lw_m2 213 rfl) rfl
theorem q542 : (Jvm.Cond.code ({ cls := "java/lang/StringUTF16", name := "compress", desc := "([BII)[B" } : Jvm.MethodName) prog_38_method_17_code (6 : Nat) (Option.some (Jvm.ClassFile.FieldType.array Jvm.ClassFile.FieldType.byte))) ∈ lw_all := lw_g (lw_at lw_m2 214 rfl) rfl
theorem q543 : (Jvm.Cond.methodLink "java/lang/StringUTF16" (123 : Nat) ({ cls := "java/lang/StringUTF16", name := "compress", desc := "([BI[BII)I" } : Jvm.MethodName)) ∈ lw_all := lw_g (lw_at lw_m2 215 rfl) rfl
theorem q544 : (Jvm.Cond.static ({ cls := "java/lang/StringUTF16", name := "compress", desc := "([BI[BII)I" } : Jvm.MethodName)) ∈ lw_all := lw_g (lw_at lw_m2 216 rfl) rfl
theorem q545 : (Jvm.Cond.code ({ cls := "java/lang/StringUTF16", name := "compress", desc := "([BI[BII)I" } : Jvm.MethodName) prog_38_method_22_code (7 : Nat) (Option.some Jvm.ClassFile.FieldType.int)) ∈ lw_all := lw_g (lw_at lw_m2 217 rfl) rfl
theorem q546 : (Jvm.Cond.methodLink "java/lang/StringUTF16" (71 : Nat) ({ cls := "java/lang/StringUTF16", name := "getChar", desc := "([BI)C" } : Jvm.MethodName)) ∈ lw_all := lw_g (lw_at lw_m2 218 rfl) rfl
theorem q547 : (Jvm.Cond.static ({ cls := "java/lang/StringUTF16", name := "getChar", desc := "([BI)C" } : Jvm.MethodName)) ∈ lw_all := lw_g (lw_at lw_m2 219 rfl) rfl
theorem q548 : (Jvm.Cond.code ({ cls := "java/lang/StringUTF16", name := "getChar", desc := "([BI)C" } : Jvm.MethodName) prog_38_method_5_code (2 : Nat) (Option.some Jvm.ClassFile.FieldType.char)) ∈ lw_all := lw_g (lw_at lw_m2 220 rfl) rfl
theorem q549 : (Jvm.Cond.methodLink "java/lang/StringUTF16" (126 : Nat) ({ cls := "java/util/Arrays", name := "copyOfRange", desc := "([BII)[B" } : Jvm.MethodName)) ∈ lw_all := lw_g (lw_at lw_m2 221 rfl) rfl
theorem q551 : (Jvm.Cond.static ({ cls := "java/lang/StringUTF16", name := "coderFromArrayLen", desc := "([BI)B" } : Jvm.MethodName)) ∈ lw_all := lw_g (lw_at lw_m2 223 rfl) rfl
theorem q552 : (Jvm.Cond.code ({ cls := "java/lang/StringUTF16", name := "coderFromArrayLen", desc := "([BI)B" } : Jvm.MethodName) prog_38_method_15_code (2 : Nat) (Option.some Jvm.ClassFile.FieldType.byte)) ∈ lw_all := lw_g (lw_at lw_m2 224 rfl) rfl
theorem q1596 : (Jvm.Cond.static ({ cls := "java/lang/StringUTF16", name := "charAt", desc := "([BI)C" } : Jvm.MethodName)) ∈ lw_all := lw_g (lw_at lw_m7 68 rfl) rfl
theorem q1597 : (Jvm.Cond.code ({ cls := "java/lang/StringUTF16", name := "charAt", desc := "([BI)C" } : Jvm.MethodName) prog_38_method_83_code (2 : Nat) (Option.some Jvm.ClassFile.FieldType.char)) ∈ lw_all := lw_g (lw_at lw_m7 69 rfl) rfl
/-! jdk/internal/util/ArraysSupport -/
set_option maxRecDepth 100000
def RJ4 : String := "jdk/internal/util/ArraysSupport"
abbrev cJ4_newLength : ByteArray := prog_53_method_27_code
def yJ4_newLength : MethodName := ⟨RJ4, "newLength", "(III)I"⟩
def dkwJ4_newLength_1 : List UInt8 := [184, 0, 201, 172]
abbrev dktJ4_newLength_1 : List UInt8 := dkwJ4_newLength_1 ++ []
def dkwJ4_newLength_0 : List UInt8 := [26, 27, 28, 184, 0, 194, 96, 62, 3, 29, 162, 0, 11, 29, 18, 200, 163, 0, 5, 29, 172, 26, 27]
abbrev dktJ4_newLength_0 : List UInt8 := dkwJ4_newLength_0 ++ dktJ4_newLength_1
theorem dksJ4_newLength_0 : cJ4_newLength.data.toList.drop 0 = dktJ4_newLength_0 := by decide +kernel
theorem dksJ4_newLength_1 : cJ4_newLength.data.toList.drop 23 = dktJ4_newLength_1 := dk_seg dksJ4_newLength_0 23 rfl rfl
theorem dJ4_newLength_0 : decode cJ4_newLength 0 = .ok (.iload_n 0, 1) := dk_26 (dk_at dksJ4_newLength_0 0 rfl rfl)
theorem dJ4_newLength_1 : decode cJ4_newLength 1 = .ok (.iload_n 1, 1) := dk_27 (dk_at dksJ4_newLength_0 1 rfl rfl)
theorem dJ4_newLength_2 : decode cJ4_newLength 2 = .ok (.iload_n 2, 1) := dk_28 (dk_at dksJ4_newLength_0 2 rfl rfl)
theorem dJ4_newLength_3 : decode cJ4_newLength 3 = .ok (.invokestatic 194, 3) := dk_184 0 194 (dk_at dksJ4_newLength_0 3 rfl rfl)
theorem dJ4_newLength_6 : decode cJ4_newLength 6 = .ok (.iadd, 1) := dk_96 (dk_at dksJ4_newLength_0 6 rfl rfl)
theorem dJ4_newLength_7 : decode cJ4_newLength 7 = .ok (.istore_n 3, 1) := dk_62 (dk_at dksJ4_newLength_0 7 rfl rfl)
theorem dJ4_newLength_8 : decode cJ4_newLength 8 = .ok (.iconst 0, 1) := dk_3 (dk_at dksJ4_newLength_0 8 rfl rfl)
theorem dJ4_newLength_9 : decode cJ4_newLength 9 = .ok (.iload_n 3, 1) := dk_29 (dk_at dksJ4_newLength_0 9 rfl rfl)
theorem dJ4_newLength_10 : decode cJ4_newLength 10 = .ok (.if_icmp .ge 11, 3) := dk_162 0 11 (dk_at dksJ4_newLength_0 10 rfl rfl)
theorem dJ4_newLength_13 : decode cJ4_newLength 13 = .ok (.iload_n 3, 1) := dk_29 (dk_at dksJ4_newLength_0 13 rfl rfl)
theorem dJ4_newLength_14 : decode cJ4_newLength 14 = .ok (.ldc 200, 2) := dk_18 200 (dk_at dksJ4_newLength_0 14 rfl rfl)
theorem dJ4_newLength_16 : decode cJ4_newLength 16 = .ok (.if_icmp .gt 5, 3) := dk_163 0 5 (dk_at dksJ4_newLength_0 16 rfl rfl)
theorem dJ4_newLength_19 : decode cJ4_newLength 19 = .ok (.iload_n 3, 1) := dk_29 (dk_at dksJ4_newLength_0 19 rfl rfl)
theorem dJ4_newLength_20 : decode cJ4_newLength 20 = .ok (.ireturn, 1) := dk_172 (dk_at dksJ4_newLength_0 20 rfl rfl)
theorem dJ4_newLength_21 : decode cJ4_newLength 21 = .ok (.iload_n 0, 1) := dk_26 (dk_at dksJ4_newLength_0 21 rfl rfl)
theorem dJ4_newLength_22 : decode cJ4_newLength 22 = .ok (.iload_n 1, 1) := dk_27 (dk_at dksJ4_newLength_0 22 rfl rfl)
theorem dJ4_newLength_23 : decode cJ4_newLength 23 = .ok (.invokestatic 201, 3) := dk_184 0 201 (dk_at dksJ4_newLength_1 0 rfl rfl)
theorem dJ4_newLength_26 : decode cJ4_newLength 26 = .ok (.ireturn, 1) := dk_172 (dk_at dksJ4_newLength_1 3 rfl rfl)
abbrev cJ4_hugeLength : ByteArray := prog_53_method_28_code
def yJ4_hugeLength : MethodName := ⟨RJ4, "hugeLength", "(II)I"⟩
def dkwJ4_hugeLength_2 : List UInt8 := [191, 28, 18, 200, 163, 0, 6, 18, 200, 172, 28, 172]
abbrev dktJ4_hugeLength_2 : List UInt8 := dkwJ4_hugeLength_2 ++ []
def dkwJ4_hugeLength_1 : List UInt8 := [26, 182, 0, 98, 18, 208, 182, 0, 94, 27, 182, 0, 98, 18, 210, 182, 0, 94, 182, 0, 101, 183, 0, 212]
abbrev dktJ4_hugeLength_1 : List UInt8 := dkwJ4_hugeLength_1 ++ dktJ4_hugeLength_2
def dkwJ4_hugeLength_0 : List UInt8 := [26, 27, 96, 61, 28, 156, 0, 44, 187, 0, 204, 89, 187, 0, 89, 89, 183, 0, 91, 18, 206, 182, 0, 94]
abbrev dktJ4_hugeLength_0 : List UInt8 := dkwJ4_hugeLength_0 ++ dktJ4_hugeLength_1
theorem dksJ4_hugeLength_0 : cJ4_hugeLength.data.toList.drop 0 = dktJ4_hugeLength_0 := by decide +kernel
theorem dksJ4_hugeLength_1 : cJ4_hugeLength.data.toList.drop 24 = dktJ4_hugeLength_1 := dk_seg dksJ4_hugeLength_0 24 rfl rfl
theorem dksJ4_hugeLength_2 : cJ4_hugeLength.data.toList.drop 48 = dktJ4_hugeLength_2 := dk_seg dksJ4_hugeLength_1 24 rfl rfl
theorem dJ4_hugeLength_0 : decode cJ4_hugeLength 0 = .ok (.iload_n 0, 1) := dk_26 (dk_at dksJ4_hugeLength_0 0 rfl rfl)
theorem dJ4_hugeLength_1 : decode cJ4_hugeLength 1 = .ok (.iload_n 1, 1) := dk_27 (dk_at dksJ4_hugeLength_0 1 rfl rfl)
theorem dJ4_hugeLength_2 : decode cJ4_hugeLength 2 = .ok (.iadd, 1) := dk_96 (dk_at dksJ4_hugeLength_0 2 rfl rfl)
theorem dJ4_hugeLength_3 : decode cJ4_hugeLength 3 = .ok (.istore_n 2, 1) := dk_61 (dk_at dksJ4_hugeLength_0 3 rfl rfl)
theorem dJ4_hugeLength_4 : decode cJ4_hugeLength 4 = .ok (.iload_n 2, 1) := dk_28 (dk_at dksJ4_hugeLength_0 4 rfl rfl)
theorem dJ4_hugeLength_5 : decode cJ4_hugeLength 5 = .ok (.ifCond .ge 44, 3) := dk_156 0 44 (dk_at dksJ4_hugeLength_0 5 rfl rfl)
theorem dJ4_hugeLength_8 : decode cJ4_hugeLength 8 = .ok (.new 204, 3) := dk_187 0 204 (dk_at dksJ4_hugeLength_0 8 rfl rfl)
theorem dJ4_hugeLength_11 : decode cJ4_hugeLength 11 = .ok (.dup, 1) := dk_89 (dk_at dksJ4_hugeLength_0 11 rfl rfl)
theorem dJ4_hugeLength_12 : decode cJ4_hugeLength 12 = .ok (.new 89, 3) := dk_187 0 89 (dk_at dksJ4_hugeLength_0 12 rfl rfl)
theorem dJ4_hugeLength_15 : decode cJ4_hugeLength 15 = .ok (.dup, 1) := dk_89 (dk_at dksJ4_hugeLength_0 15 rfl rfl)
theorem dJ4_hugeLength_16 : decode cJ4_hugeLength 16 = .ok (.invokespecial 91, 3) := dk_183 0 91 (dk_at dksJ4_hugeLength_0 16 rfl rfl)
theorem dJ4_hugeLength_19 : decode cJ4_hugeLength 19 = .ok (.ldc 206, 2) := dk_18 206 (dk_at dksJ4_hugeLength_0 19 rfl rfl)
theorem dJ4_hugeLength_21 : decode cJ4_hugeLength 21 = .ok (.invokevirtual 94, 3) := dk_182 0 94 (dk_at dksJ4_hugeLength_0 21 rfl rfl)
theorem dJ4_hugeLength_24 : decode cJ4_hugeLength 24 = .ok (.iload_n 0, 1) := dk_26 (dk_at dksJ4_hugeLength_1 0 rfl rfl)
theorem dJ4_hugeLength_25 : decode cJ4_hugeLength 25 = .ok (.invokevirtual 98, 3) := dk_182 0 98 (dk_at dksJ4_hugeLength_1 1 rfl rfl)
theorem dJ4_hugeLength_28 : decode cJ4_hugeLength 28 = .ok (.ldc 208, 2) := dk_18 208 (dk_at dksJ4_hugeLength_1 4 rfl rfl)
theorem dJ4_hugeLength_30 : decode cJ4_hugeLength 30 = .ok (.invokevirtual 94, 3) := dk_182 0 94 (dk_at dksJ4_hugeLength_1 6 rfl rfl)
theorem dJ4_hugeLength_33 : decode cJ4_hugeLength 33 = .ok (.iload_n 1, 1) := dk_27 (dk_at dksJ4_hugeLength_1 9 rfl rfl)
theorem dJ4_hugeLength_34 : decode cJ4_hugeLength 34 = .ok (.invokevirtual 98, 3) := dk_182 0 98 (dk_at dksJ4_hugeLength_1 10 rfl rfl)
theorem dJ4_hugeLength_37 : decode cJ4_hugeLength 37 = .ok (.ldc 210, 2) := dk_18 210 (dk_at dksJ4_hugeLength_1 13 rfl rfl)
theorem dJ4_hugeLength_39 : decode cJ4_hugeLength 39 = .ok (.invokevirtual 94, 3) := dk_182 0 94 (dk_at dksJ4_hugeLength_1 15 rfl rfl)
theorem dJ4_hugeLength_42 : decode cJ4_hugeLength 42 = .ok (.invokevirtual 101, 3) := dk_182 0 101 (dk_at dksJ4_hugeLength_1 18 rfl rfl)
theorem dJ4_hugeLength_45 : decode cJ4_hugeLength 45 = .ok (.invokespecial 212, 3) := dk_183 0 212 (dk_at dksJ4_hugeLength_1 21 rfl rfl)
theorem dJ4_hugeLength_48 : decode cJ4_hugeLength 48 = .ok (.athrow, 1) := dk_191 (dk_at dksJ4_hugeLength_2 0 rfl rfl)
theorem dJ4_hugeLength_49 : decode cJ4_hugeLength 49 = .ok (.iload_n 2, 1) := dk_28 (dk_at dksJ4_hugeLength_2 1 rfl rfl)
theorem dJ4_hugeLength_50 : decode cJ4_hugeLength 50 = .ok (.ldc 200, 2) := dk_18 200 (dk_at dksJ4_hugeLength_2 2 rfl rfl)
theorem dJ4_hugeLength_52 : decode cJ4_hugeLength 52 = .ok (.if_icmp .gt 6, 3) := dk_163 0 6 (dk_at dksJ4_hugeLength_2 4 rfl rfl)
theorem dJ4_hugeLength_55 : decode cJ4_hugeLength 55 = .ok (.ldc 200, 2) := dk_18 200 (dk_at dksJ4_hugeLength_2 7 rfl rfl)
theorem dJ4_hugeLength_57 : decode cJ4_hugeLength 57 = .ok (.ireturn, 1) := dk_172 (dk_at dksJ4_hugeLength_2 9 rfl rfl)
theorem dJ4_hugeLength_58 : decode cJ4_hugeLength 58 = .ok (.iload_n 2, 1) := dk_28 (dk_at dksJ4_hugeLength_2 10 rfl rfl)
theorem dJ4_hugeLength_59 : decode cJ4_hugeLength 59 = .ok (.ireturn, 1) := dk_172 (dk_at dksJ4_hugeLength_2 11 rfl rfl)
theorem q101 : (Jvm.Cond.initialized "jdk/internal/util/ArraysSupport") ∈ lw_all := lw_g (lw_at lw_m1 13 rfl) rfl
theorem q431 : (Jvm.Cond.static ({ cls := "jdk/internal/util/ArraysSupport", name := "newLength", desc := "(III)I" } : Jvm.MethodName)) ∈ lw_all := lw_g (lw_at lw_m2 103 rfl) rfl
theorem q432 : (Jvm.Cond.code ({ cls := "jdk/internal/util/ArraysSupport", name := "newLength", desc := "(III)I" } : Jvm.MethodName) prog_53_method_27_code (4 : Nat) (Option.some Jvm.ClassFile.FieldType.int)) ∈ lw_all := lw_g (lw_at lw_m2 104 rfl) rfl
theorem q433 : (Jvm.Cond.methodLink "jdk/internal/util/ArraysSupport" (194 : Nat) ({ cls := "java/lang/Math", name := "max", desc := "(II)I" } : Jvm.MethodName)) ∈ lw_all := lw_g (lw_at lw_m2 105 rfl) rfl
theorem q436 : (Jvm.Cond.constant "jdk/internal/util/ArraysSupport" (200 : Nat) (2147483639 : Int32)) ∈ lw_all := lw_g (lw_at lw_m2 108 rfl) rfl
theorem q437 : (Jvm.Cond.methodLink "jdk/internal/util/ArraysSupport" (201 : Nat) ({ cls := "jdk/internal/util/ArraysSupport", name := "hugeLength", desc := "(II)I" } : Jvm.MethodName)) ∈ lw_all := lw_g (lw_at lw_m2 109 rfl) rfl
theorem q438 : (Jvm.Cond.static ({ cls := "jdk/internal/util/ArraysSupport", name := "hugeLength", desc := "(II)I" } : Jvm.MethodName)) ∈ lw_all := lw_g (lw_at lw_m2 110 rfl) rfl
theorem q439 : (Jvm.Cond.code ({ cls := "jdk/internal/util/ArraysSupport", name := "hugeLength", desc := "(II)I" } : Jvm.MethodName) prog_53_method_28_code (3 : Nat) (Option.some Jvm.ClassFile.FieldType.int)) ∈ lw_all := lw_g (lw_at lw_m2 111 rfl) rfl
/-! java/lang/Math -/
set_option maxRecDepth 100000
def RJ5 : String := "java/lang/Math"
abbrev cJ5_max : ByteArray := prog_32_method_65_code
def yJ5_max : MethodName := ⟨RJ5, "max", "(II)I"⟩
def dkwJ5_max_0 : List UInt8 := [26, 27, 161, 0, 7, 26, 167, 0, 4, 27, 172]
abbrev dktJ5_max_0 : List UInt8 := dkwJ5_max_0 ++ []
theorem dksJ5_max_0 : cJ5_max.data.toList.drop 0 = dktJ5_max_0 := by decide +kernel
theorem dJ5_max_0 : decode cJ5_max 0 = .ok (.iload_n 0, 1) := dk_26 (dk_at dksJ5_max_0 0 rfl rfl)
theorem dJ5_max_1 : decode cJ5_max 1 = .ok (.iload_n 1, 1) := dk_27 (dk_at dksJ5_max_0 1 rfl rfl)
theorem dJ5_max_2 : decode cJ5_max 2 = .ok (.if_icmp .lt 7, 3) := dk_161 0 7 (dk_at dksJ5_max_0 2 rfl rfl)
theorem dJ5_max_5 : decode cJ5_max 5 = .ok (.iload_n 0, 1) := dk_26 (dk_at dksJ5_max_0 5 rfl rfl)
theorem dJ5_max_6 : decode cJ5_max 6 = .ok (.goto 4, 3) := dk_167 0 4 (dk_at dksJ5_max_0 6 rfl rfl)
theorem dJ5_max_9 : decode cJ5_max 9 = .ok (.iload_n 1, 1) := dk_27 (dk_at dksJ5_max_0 9 rfl rfl)
theorem dJ5_max_10 : decode cJ5_max 10 = .ok (.ireturn, 1) := dk_172 (dk_at dksJ5_max_0 10 rfl rfl)
abbrev cJ5_min : ByteArray := prog_32_method_69_code
def yJ5_min : MethodName := ⟨RJ5, "min", "(II)I"⟩
def dkwJ5_min_0 : List UInt8 := [26, 27, 163, 0, 7, 26, 167, 0, 4, 27, 172]
abbrev dktJ5_min_0 : List UInt8 := dkwJ5_min_0 ++ []
theorem dksJ5_min_0 : cJ5_min.data.toList.drop 0 = dktJ5_min_0 := by decide +kernel
theorem dJ5_min_0 : decode cJ5_min 0 = .ok (.iload_n 0, 1) := dk_26 (dk_at dksJ5_min_0 0 rfl rfl)
theorem dJ5_min_1 : decode cJ5_min 1 = .ok (.iload_n 1, 1) := dk_27 (dk_at dksJ5_min_0 1 rfl rfl)
theorem dJ5_min_2 : decode cJ5_min 2 = .ok (.if_icmp .gt 7, 3) := dk_163 0 7 (dk_at dksJ5_min_0 2 rfl rfl)
theorem dJ5_min_5 : decode cJ5_min 5 = .ok (.iload_n 0, 1) := dk_26 (dk_at dksJ5_min_0 5 rfl rfl)
theorem dJ5_min_6 : decode cJ5_min 6 = .ok (.goto 4, 3) := dk_167 0 4 (dk_at dksJ5_min_0 6 rfl rfl)
theorem dJ5_min_9 : decode cJ5_min 9 = .ok (.iload_n 1, 1) := dk_27 (dk_at dksJ5_min_0 9 rfl rfl)
theorem dJ5_min_10 : decode cJ5_min 10 = .ok (.ireturn, 1) := dk_172 (dk_at dksJ5_min_0 10 rfl rfl)
theorem q102 : (Jvm.Cond.initialized "java/lang/Math") ∈ lw_all := lw_g (lw_at lw_m1 14 rfl) rfl
theorem q434 : (Jvm.Cond.static ({ cls := "java/lang/Math", name := "max", desc := "(II)I" } : Jvm.MethodName)) ∈ lw_all := lw_g (lw_at lw_m2 106 rfl) rfl
theorem q435 : (Jvm.Cond.code ({ cls := "java/lang/Math", name := "max", desc := "(II)I" } : Jvm.MethodName) prog_32_method_65_code (2 : Nat) (Option.some Jvm.ClassFile.FieldType.int)) ∈ lw_all := lw_g (lw_at lw_m2 107 rfl) rfl
theorem q452 : (Jvm.Cond.static ({ cls := "java/lang/Math", name := "min", desc := "(II)I" } : Jvm.MethodName)) ∈ lw_all := lw_g (lw_at lw_m2 124 rfl) rfl
theorem q453 : (Jvm.Cond.code ({ cls := "java/lang/Math", name := "min", desc := "(II)I" } : Jvm.MethodName) prog_32_method_69_code (2 : Nat) (Option.some Jvm.ClassFile.FieldType.int)) ∈ lw_all := lw_g (lw_at lw_m2 125 rfl) rfl
/-! java/util/Arrays -/
set_option maxRecDepth 100000
def RJ6 : String := "java/util/Arrays"
abbrev cJ6_copyOf : ByteArray := prog_46_method_121_code
def yJ6_copyOf : MethodName := ⟨RJ6, "copyOf", "([BI)[B"⟩
def dkwJ6_copyOf_1 : List UInt8 := [27, 184, 1, 48, 184, 0, 150, 44, 176]
abbrev dktJ6_copyOf_1 : List UInt8 := dkwJ6_copyOf_1 ++ []
def dkwJ6_copyOf_0 : List UInt8 := [27, 42, 190, 160, 0, 11, 42, 182, 1, 54, 192, 1, 55, 176, 27, 188, 8, 77, 42, 3, 44, 3, 42, 190]
abbrev dktJ6_copyOf_0 : List UInt8 := dkwJ6_copyOf_0 ++ dktJ6_copyOf_1
theorem dksJ6_copyOf_0 : cJ6_copyOf.data.toList.drop 0 = dktJ6_copyOf_0 := by decide +kernel
theorem dksJ6_copyOf_1 : cJ6_copyOf.data.toList.drop 24 = dktJ6_copyOf_1 := dk_seg dksJ6_copyOf_0 24 rfl rfl
theorem dJ6_copyOf_0 : decode cJ6_copyOf 0 = .ok (.iload_n 1, 1) := dk_27 (dk_at dksJ6_copyOf_0 0 rfl rfl)
theorem dJ6_copyOf_1 : decode cJ6_copyOf 1 = .ok (.aload_n 0, 1) := dk_42 (dk_at dksJ6_copyOf_0 1 rfl rfl)
theorem dJ6_copyOf_2 : decode cJ6_copyOf 2 = .ok (.arraylength, 1) := dk_190 (dk_at dksJ6_copyOf_0 2 rfl rfl)
theorem dJ6_copyOf_3 : decode cJ6_copyOf 3 = .ok (.if_icmp .ne 11, 3) := dk_160 0 11 (dk_at dksJ6_copyOf_0 3 rfl rfl)
theorem dJ6_copyOf_6 : decode cJ6_copyOf 6 = .ok (.aload_n 0, 1) := dk_42 (dk_at dksJ6_copyOf_0 6 rfl rfl)
theorem dJ6_copyOf_7 : decode cJ6_copyOf 7 = .ok (.invokevirtual 310, 3) := dk_182 1 54 (dk_at dksJ6_copyOf_0 7 rfl rfl)
theorem dJ6_copyOf_10 : decode cJ6_copyOf 10 = .ok (.checkcast 311, 3) := dk_192 1 55 (dk_at dksJ6_copyOf_0 10 rfl rfl)
theorem dJ6_copyOf_13 : decode cJ6_copyOf 13 = .ok (.areturn, 1) := dk_176 (dk_at dksJ6_copyOf_0 13 rfl rfl)
theorem dJ6_copyOf_14 : decode cJ6_copyOf 14 = .ok (.iload_n 1, 1) := dk_27 (dk_at dksJ6_copyOf_0 14 rfl rfl)
theorem dJ6_copyOf_15 : decode cJ6_copyOf 15 = .ok (.newarray .byte, 2) := dk_188_8 (dk_at dksJ6_copyOf_0 15 rfl rfl)
theorem dJ6_copyOf_17 : decode cJ6_copyOf 17 = .ok (.astore_n 2, 1) := dk_77 (dk_at dksJ6_copyOf_0 17 rfl rfl)
theorem dJ6_copyOf_18 : decode cJ6_copyOf 18 = .ok (.aload_n 0, 1) := dk_42 (dk_at dksJ6_copyOf_0 18 rfl rfl)
theorem dJ6_copyOf_19 : decode cJ6_copyOf 19 = .ok (.iconst 0, 1) := dk_3 (dk_at dksJ6_copyOf_0 19 rfl rfl)
theorem dJ6_copyOf_20 : decode cJ6_copyOf 20 = .ok (.aload_n 2, 1) := dk_44 (dk_at dksJ6_copyOf_0 20 rfl rfl)
theorem dJ6_copyOf_21 : decode cJ6_copyOf 21 = .ok (.iconst 0, 1) := dk_3 (dk_at dksJ6_copyOf_0 21 rfl rfl)
theorem dJ6_copyOf_22 : decode cJ6_copyOf 22 = .ok (.aload_n 0, 1) := dk_42 (dk_at dksJ6_copyOf_0 22 rfl rfl)
theorem dJ6_copyOf_23 : decode cJ6_copyOf 23 = .ok (.arraylength, 1) := dk_190 (dk_at dksJ6_copyOf_0 23 rfl rfl)
theorem dJ6_copyOf_24 : decode cJ6_copyOf 24 = .ok (.iload_n 1, 1) := dk_27 (dk_at dksJ6_copyOf_1 0 rfl rfl)
theorem dJ6_copyOf_25 : decode cJ6_copyOf 25 = .ok (.invokestatic 304, 3) := dk_184 1 48 (dk_at dksJ6_copyOf_1 1 rfl rfl)
theorem dJ6_copyOf_28 : decode cJ6_copyOf 28 = .ok (.invokestatic 150, 3) := dk_184 0 150 (dk_at dksJ6_copyOf_1 4 rfl rfl)
theorem dJ6_copyOf_31 : decode cJ6_copyOf 31 = .ok (.aload_n 2, 1) := dk_44 (dk_at dksJ6_copyOf_1 7 rfl rfl)
theorem dJ6_copyOf_32 : decode cJ6_copyOf 32 = .ok (.areturn, 1) := dk_176 (dk_at dksJ6_copyOf_1 8 rfl rfl)
abbrev cJ6_copyOfRange : ByteArray := prog_46_method_132_code
def yJ6_copyOfRange : MethodName := ⟨RJ6, "copyOfRange", "([BII)[B"⟩
def dkwJ6_copyOfRange_1 : List UInt8 := [176]
abbrev dktJ6_copyOfRange_1 : List UInt8 := dkwJ6_copyOfRange_1 ++ []
def dkwJ6_copyOfRange_0 : List UInt8 := [27, 154, 0, 9, 28, 42, 190, 159, 0, 10, 42, 27, 28, 184, 1, 83, 176, 42, 182, 1, 54, 192, 1, 55]
abbrev dktJ6_copyOfRange_0 : List UInt8 := dkwJ6_copyOfRange_0 ++ dktJ6_copyOfRange_1
theorem dksJ6_copyOfRange_0 : cJ6_copyOfRange.data.toList.drop 0 = dktJ6_copyOfRange_0 := by decide +kernel
theorem dksJ6_copyOfRange_1 : cJ6_copyOfRange.data.toList.drop 24 = dktJ6_copyOfRange_1 := dk_seg dksJ6_copyOfRange_0 24 rfl rfl
theorem dJ6_copyOfRange_0 : decode cJ6_copyOfRange 0 = .ok (.iload_n 1, 1) := dk_27 (dk_at dksJ6_copyOfRange_0 0 rfl rfl)
theorem dJ6_copyOfRange_1 : decode cJ6_copyOfRange 1 = .ok (.ifCond .ne 9, 3) := dk_154 0 9 (dk_at dksJ6_copyOfRange_0 1 rfl rfl)
theorem dJ6_copyOfRange_4 : decode cJ6_copyOfRange 4 = .ok (.iload_n 2, 1) := dk_28 (dk_at dksJ6_copyOfRange_0 4 rfl rfl)
theorem dJ6_copyOfRange_5 : decode cJ6_copyOfRange 5 = .ok (.aload_n 0, 1) := dk_42 (dk_at dksJ6_copyOfRange_0 5 rfl rfl)
theorem dJ6_copyOfRange_6 : decode cJ6_copyOfRange 6 = .ok (.arraylength, 1) := dk_190 (dk_at dksJ6_copyOfRange_0 6 rfl rfl)
theorem dJ6_copyOfRange_7 : decode cJ6_copyOfRange 7 = .ok (.if_icmp .eq 10, 3) := dk_159 0 10 (dk_at dksJ6_copyOfRange_0 7 rfl rfl)
theorem dJ6_copyOfRange_10 : decode cJ6_copyOfRange 10 = .ok (.aload_n 0, 1) := dk_42 (dk_at dksJ6_copyOfRange_0 10 rfl rfl)
theorem dJ6_copyOfRange_11 : decode cJ6_copyOfRange 11 = .ok (.iload_n 1, 1) := dk_27 (dk_at dksJ6_copyOfRange_0 11 rfl rfl)
theorem dJ6_copyOfRange_12 : decode cJ6_copyOfRange 12 = .ok (.iload_n 2, 1) := dk_28 (dk_at dksJ6_copyOfRange_0 12 rfl rfl)
theorem dJ6_copyOfRange_13 : decode cJ6_copyOfRange 13 = .ok (.invokestatic 339, 3) := dk_184 1 83 (dk_at dksJ6_copyOfRange_0 13 rfl rfl)
theorem dJ6_copyOfRange_16 : decode cJ6_copyOfRange 16 = .ok (.areturn, 1) := dk_176 (dk_at dksJ6_copyOfRange_0 16 rfl rfl)
theorem dJ6_copyOfRange_17 : decode cJ6_copyOfRange 17 = .ok (.aload_n 0, 1) := dk_42 (dk_at dksJ6_copyOfRange_0 17 rfl rfl)
theorem dJ6_copyOfRange_18 : decode cJ6_copyOfRange 18 = .ok (.invokevirtual 310, 3) := dk_182 1 54 (dk_at dksJ6_copyOfRange_0 18 rfl rfl)
theorem dJ6_copyOfRange_21 : decode cJ6_copyOfRange 21 = .ok (.checkcast 311, 3) := dk_192 1 55 (dk_at dksJ6_copyOfRange_0 21 rfl rfl)
theorem dJ6_copyOfRange_24 : decode cJ6_copyOfRange 24 = .ok (.areturn, 1) := dk_176 (dk_at dksJ6_copyOfRange_1 0 rfl rfl)
abbrev cJ6_copyOfRangeByte : ByteArray := prog_46_method_133_code
def yJ6_copyOfRangeByte : MethodName := ⟨RJ6, "copyOfRangeByte", "([BII)[B"⟩
def dkwJ6_copyOfRangeByte_1 : List UInt8 := [184, 1, 48, 184, 0, 150, 25, 4, 176]
abbrev dktJ6_copyOfRangeByte_1 : List UInt8 := dkwJ6_copyOfRangeByte_1 ++ []
def dkwJ6_copyOfRangeByte_0 : List UInt8 := [27, 28, 184, 1, 87, 28, 27, 100, 62, 29, 188, 8, 58, 4, 42, 27, 25, 4, 3, 42, 190, 27, 100, 29]
abbrev dktJ6_copyOfRangeByte_0 : List UInt8 := dkwJ6_copyOfRangeByte_0 ++ dktJ6_copyOfRangeByte_1
theorem dksJ6_copyOfRangeByte_0 : cJ6_copyOfRangeByte.data.toList.drop 0 = dktJ6_copyOfRangeByte_0 := by decide +kernel
theorem dksJ6_copyOfRangeByte_1 : cJ6_copyOfRangeByte.data.toList.drop 24 = dktJ6_copyOfRangeByte_1 := dk_seg dksJ6_copyOfRangeByte_0 24 rfl rfl
theorem dJ6_copyOfRangeByte_0 : decode cJ6_copyOfRangeByte 0 = .ok (.iload_n 1, 1) := dk_27 (dk_at dksJ6_copyOfRangeByte_0 0 rfl rfl)
theorem dJ6_copyOfRangeByte_1 : decode cJ6_copyOfRangeByte 1 = .ok (.iload_n 2, 1) := dk_28 (dk_at dksJ6_copyOfRangeByte_0 1 rfl rfl)
theorem dJ6_copyOfRangeByte_2 : decode cJ6_copyOfRangeByte 2 = .ok (.invokestatic 343, 3) := dk_184 1 87 (dk_at dksJ6_copyOfRangeByte_0 2 rfl rfl)
theorem dJ6_copyOfRangeByte_5 : decode cJ6_copyOfRangeByte 5 = .ok (.iload_n 2, 1) := dk_28 (dk_at dksJ6_copyOfRangeByte_0 5 rfl rfl)
theorem dJ6_copyOfRangeByte_6 : decode cJ6_copyOfRangeByte 6 = .ok (.iload_n 1, 1) := dk_27 (dk_at dksJ6_copyOfRangeByte_0 6 rfl rfl)
theorem dJ6_copyOfRangeByte_7 : decode cJ6_copyOfRangeByte 7 = .ok (.isub, 1) := dk_100 (dk_at dksJ6_copyOfRangeByte_0 7 rfl rfl)
theorem dJ6_copyOfRangeByte_8 : decode cJ6_copyOfRangeByte 8 = .ok (.istore_n 3, 1) := dk_62 (dk_at dksJ6_copyOfRangeByte_0 8 rfl rfl)
theorem dJ6_copyOfRangeByte_9 : decode cJ6_copyOfRangeByte 9 = .ok (.iload_n 3, 1) := dk_29 (dk_at dksJ6_copyOfRangeByte_0 9 rfl rfl)
theorem dJ6_copyOfRangeByte_10 : decode cJ6_copyOfRangeByte 10 = .ok (.newarray .byte, 2) := dk_188_8 (dk_at dksJ6_copyOfRangeByte_0 10 rfl rfl)
theorem dJ6_copyOfRangeByte_12 : decode cJ6_copyOfRangeByte 12 = .ok (.astore 4, 2) := dk_58 4 (dk_at dksJ6_copyOfRangeByte_0 12 rfl rfl)
theorem dJ6_copyOfRangeByte_14 : decode cJ6_copyOfRangeByte 14 = .ok (.aload_n 0, 1) := dk_42 (dk_at dksJ6_copyOfRangeByte_0 14 rfl rfl)
theorem dJ6_copyOfRangeByte_15 : decode cJ6_copyOfRangeByte 15 = .ok (.iload_n 1, 1) := dk_27 (dk_at dksJ6_copyOfRangeByte_0 15 rfl rfl)
theorem dJ6_copyOfRangeByte_16 : decode cJ6_copyOfRangeByte 16 = .ok (.aload 4, 2) := dk_25 4 (dk_at dksJ6_copyOfRangeByte_0 16 rfl rfl)
theorem dJ6_copyOfRangeByte_18 : decode cJ6_copyOfRangeByte 18 = .ok (.iconst 0, 1) := dk_3 (dk_at dksJ6_copyOfRangeByte_0 18 rfl rfl)
theorem dJ6_copyOfRangeByte_19 : decode cJ6_copyOfRangeByte 19 = .ok (.aload_n 0, 1) := dk_42 (dk_at dksJ6_copyOfRangeByte_0 19 rfl rfl)
theorem dJ6_copyOfRangeByte_20 : decode cJ6_copyOfRangeByte 20 = .ok (.arraylength, 1) := dk_190 (dk_at dksJ6_copyOfRangeByte_0 20 rfl rfl)
theorem dJ6_copyOfRangeByte_21 : decode cJ6_copyOfRangeByte 21 = .ok (.iload_n 1, 1) := dk_27 (dk_at dksJ6_copyOfRangeByte_0 21 rfl rfl)
theorem dJ6_copyOfRangeByte_22 : decode cJ6_copyOfRangeByte 22 = .ok (.isub, 1) := dk_100 (dk_at dksJ6_copyOfRangeByte_0 22 rfl rfl)
theorem dJ6_copyOfRangeByte_23 : decode cJ6_copyOfRangeByte 23 = .ok (.iload_n 3, 1) := dk_29 (dk_at dksJ6_copyOfRangeByte_0 23 rfl rfl)
theorem dJ6_copyOfRangeByte_24 : decode cJ6_copyOfRangeByte 24 = .ok (.invokestatic 304, 3) := dk_184 1 48 (dk_at dksJ6_copyOfRangeByte_1 0 rfl rfl)
theorem dJ6_copyOfRangeByte_27 : decode cJ6_copyOfRangeByte 27 = .ok (.invokestatic 150, 3) := dk_184 0 150 (dk_at dksJ6_copyOfRangeByte_1 3 rfl rfl)
theorem dJ6_copyOfRangeByte_30 : decode cJ6_copyOfRangeByte 30 = .ok (.aload 4, 2) := dk_25 4 (dk_at dksJ6_copyOfRangeByte_1 6 rfl rfl)
theorem dJ6_copyOfRangeByte_32 : decode cJ6_copyOfRangeByte 32 = .ok (.areturn, 1) := dk_176 (dk_at dksJ6_copyOfRangeByte_1 8 rfl rfl)
abbrev cJ6_checkLength : ByteArray := prog_46_method_131_code
def yJ6_checkLength : MethodName := ⟨RJ6, "checkLength", "(II)V"⟩
def dkwJ6_checkLength_1 : List UInt8 := [182, 0, 50, 27, 182, 0, 54, 182, 0, 61, 183, 0, 65, 191, 177]
abbrev dktJ6_checkLength_1 : List UInt8 := dkwJ6_checkLength_1 ++ []
def dkwJ6_checkLength_0 : List UInt8 := [27, 26, 162, 0, 35, 187, 0, 43, 89, 187, 0, 45, 89, 183, 0, 47, 26, 182, 0, 54, 19, 1, 81]
abbrev dktJ6_checkLength_0 : List UInt8 := dkwJ6_checkLength_0 ++ dktJ6_checkLength_1
theorem dksJ6_checkLength_0 : cJ6_checkLength.data.toList.drop 0 = dktJ6_checkLength_0 := by decide +kernel
theorem dksJ6_checkLength_1 : cJ6_checkLength.data.toList.drop 23 = dktJ6_checkLength_1 := dk_seg dksJ6_checkLength_0 23 rfl rfl
theorem dJ6_checkLength_0 : decode cJ6_checkLength 0 = .ok (.iload_n 1, 1) := dk_27 (dk_at dksJ6_checkLength_0 0 rfl rfl)
theorem dJ6_checkLength_1 : decode cJ6_checkLength 1 = .ok (.iload_n 0, 1) := dk_26 (dk_at dksJ6_checkLength_0 1 rfl rfl)
theorem dJ6_checkLength_2 : decode cJ6_checkLength 2 = .ok (.if_icmp .ge 35, 3) := dk_162 0 35 (dk_at dksJ6_checkLength_0 2 rfl rfl)
theorem dJ6_checkLength_5 : decode cJ6_checkLength 5 = .ok (.new 43, 3) := dk_187 0 43 (dk_at dksJ6_checkLength_0 5 rfl rfl)
theorem dJ6_checkLength_8 : decode cJ6_checkLength 8 = .ok (.dup, 1) := dk_89 (dk_at dksJ6_checkLength_0 8 rfl rfl)
theorem dJ6_checkLength_9 : decode cJ6_checkLength 9 = .ok (.new 45, 3) := dk_187 0 45 (dk_at dksJ6_checkLength_0 9 rfl rfl)
theorem dJ6_checkLength_12 : decode cJ6_checkLength 12 = .ok (.dup, 1) := dk_89 (dk_at dksJ6_checkLength_0 12 rfl rfl)
theorem dJ6_checkLength_13 : decode cJ6_checkLength 13 = .ok (.invokespecial 47, 3) := dk_183 0 47 (dk_at dksJ6_checkLength_0 13 rfl rfl)
theorem dJ6_checkLength_16 : decode cJ6_checkLength 16 = .ok (.iload_n 0, 1) := dk_26 (dk_at dksJ6_checkLength_0 16 rfl rfl)
theorem dJ6_checkLength_17 : decode cJ6_checkLength 17 = .ok (.invokevirtual 54, 3) := dk_182 0 54 (dk_at dksJ6_checkLength_0 17 rfl rfl)
theorem dJ6_checkLength_20 : decode cJ6_checkLength 20 = .ok (.ldc_w 337, 3) := dk_19 1 81 (dk_at dksJ6_checkLength_0 20 rfl rfl)
theorem dJ6_checkLength_23 : decode cJ6_checkLength 23 = .ok (.invokevirtual 50, 3) := dk_182 0 50 (dk_at dksJ6_checkLength_1 0 rfl rfl)
theorem dJ6_checkLength_26 : decode cJ6_checkLength 26 = .ok (.iload_n 1, 1) := dk_27 (dk_at dksJ6_checkLength_1 3 rfl rfl)
theorem dJ6_checkLength_27 : decode cJ6_checkLength 27 = .ok (.invokevirtual 54, 3) := dk_182 0 54 (dk_at dksJ6_checkLength_1 4 rfl rfl)
theorem dJ6_checkLength_30 : decode cJ6_checkLength 30 = .ok (.invokevirtual 61, 3) := dk_182 0 61 (dk_at dksJ6_checkLength_1 7 rfl rfl)
theorem dJ6_checkLength_33 : decode cJ6_checkLength 33 = .ok (.invokespecial 65, 3) := dk_183 0 65 (dk_at dksJ6_checkLength_1 10 rfl rfl)
theorem dJ6_checkLength_36 : decode cJ6_checkLength 36 = .ok (.athrow, 1) := dk_191 (dk_at dksJ6_checkLength_1 13 rfl rfl)
theorem dJ6_checkLength_37 : decode cJ6_checkLength 37 = .ok (.return_, 1) := dk_177 (dk_at dksJ6_checkLength_1 14 rfl rfl)
theorem q103 : (Jvm.Cond.initialized "java/util/Arrays") ∈ lw_all := lw_g (lw_at lw_m1 15 rfl) rfl
theorem q442 : (Jvm.Cond.static ({ cls := "java/util/Arrays", name := "copyOf", desc := "([BI)[B" } : Jvm.MethodName)) ∈ lw_all := lw_g (lw_at lw_m2 114 rfl) rfl
theorem q443 : (Jvm.Cond.code ({ cls := "java/util/Arrays", name := "copyOf", desc := "([BI)[B" } : Jvm.MethodName) prog_46_method_121_code (3 : Nat) (Option.some (Jvm.ClassFile.FieldType.array Jvm.ClassFile.FieldType.byte))) ∈ lw_all := lw_g (lw_at lw_m2 115 rfl) rfl
theorem q444 : (Jvm.Cond.methodLink "java/util/Arrays" (310 : Nat) ({ cls := "[B", name := "clone", desc := "()Ljava/lang/Object;" } : Jvm.MethodName)) ∈ lw_all := lw_g (lw_at lw_m2 116 rfl) rfl
theorem q450 : (Jvm.Cond.classLink "java/util/Arrays" (311 : Nat) "[B") ∈ lw_all := lw_g (lw_at lw_m2 122 rfl) rfl
theorem q451 : (Jvm.Cond.methodLink "java/util/Arrays" (304 : Nat) ({ cls := "java/lang/Math", name := "min", desc := "(II)I" } : Jvm.MethodName)) ∈ lw_all := lw_g (lw_at lw_m2 123 rfl) rfl
theorem q454 : (Jvm.Cond.methodLink "java/util/Arrays" (150 : Nat) ({ cls := "java/lang/System", name := "arraycopy", desc := "(Ljava/lang/Object;ILjava/lang/Object;II)V" } : Jvm.MethodName)) ∈ lw_all := lw_g (lw_at lw_m2 126 rfl) rfl
theorem q531 : (Jvm.Cond.static ({ cls := "java/util/Arrays", name := "copyOfRange", desc := "([BII)[B" } : Jvm.MethodName)) ∈ lw_all := lw_g (lw_at lw_m2 203 rfl) rfl
theorem q532 : (Jvm.Cond.code ({ cls := "java/util/Arrays", name := "copyOfRange", desc := "([BII)[B" } : Jvm.MethodName) prog_46_method_132_code (3 : Nat) (Option.some (Jvm.ClassFile.FieldType.array Jvm.ClassFile.FieldType.byte))) ∈ lw_all := lw_g (lw_at lw_m2 204 rfl) rfl
theorem q533 : (Jvm.Cond.methodLink "java/util/Arrays" (339 : Nat) ({ cls := "java/util/Arrays", name := "copyOfRangeByte", desc := "([BII)[B" } : Jvm.MethodName)) ∈ lw_all := lw_g (lw_at lw_m2 205 rfl) rfl
theorem q534 : (Jvm.Cond.static ({ cls := "java/util/Arrays", name := "copyOfRangeByte", desc := "([BII)[B" } : Jvm.MethodName)) ∈ lw_all := lw_g (lw_at lw_m2 206 rfl) rfl
theorem q535 : (Jvm.Cond.code ({ cls := "java/util/Arrays", name := "copyOfRangeByte", desc := "([BII)[B" } : Jvm.MethodName) prog_46_method_133_code (5 : Nat) (Option.some (Jvm.ClassFile.FieldType.array Jvm.ClassFile.FieldType.byte))) ∈ lw_all := lw_g (lw_at lw_m2 207 rfl) rfl
theorem q536 : (Jvm.Cond.methodLink "java/util/Arrays" (343 : Nat) ({ cls := "java/util/Arrays", name := "checkLength", desc := "(II)V" } : Jvm.MethodName)) ∈ lw_all := lw_g (lw_at lw_m2 208 rfl) rfl
theorem q537 : (Jvm.Cond.static ({ cls := "java/util/Arrays", name := "checkLength", desc := "(II)V" } : Jvm.MethodName)) ∈ lw_all := lw_g (lw_at lw_m2 209 rfl) rfl
theorem q538 : (Jvm.Cond.code ({ cls := "java/util/Arrays", name := "checkLength", desc := "(II)V" } : Jvm.MethodName) prog_46_method_131_code (2 : Nat) (Option.none : Option Jvm.ClassFile.FieldType)) ∈ lw_all := lw_g (lw_at lw_m2 210 rfl) rfl
/-! java/lang/StringLatin1 -/
set_option maxRecDepth 100000
def RJ7 : String := "java/lang/StringLatin1"
abbrev cJ7_canEncode : ByteArray := prog_37_method_3_code
def yJ7_canEncode : MethodName := ⟨RJ7, "canEncode", "(C)Z"⟩
def dkwJ7_canEncode_0 : List UInt8 := [26, 17, 0, 255, 163, 0, 7, 4, 167, 0, 4, 3, 172]
abbrev dktJ7_canEncode_0 : List UInt8 := dkwJ7_canEncode_0 ++ []
theorem dksJ7_canEncode_0 : cJ7_canEncode.data.toList.drop 0 = dktJ7_canEncode_0 := by decide +kernel
theorem dJ7_canEncode_0 : decode cJ7_canEncode 0 = .ok (.iload_n 0, 1) := dk_26 (dk_at dksJ7_canEncode_0 0 rfl rfl)
theorem dJ7_canEncode_1 : decode cJ7_canEncode 1 = .ok (.sipush 255, 3) := dk_17 0 255 (dk_at dksJ7_canEncode_0 1 rfl rfl)
theorem dJ7_canEncode_4 : decode cJ7_canEncode 4 = .ok (.if_icmp .gt 7, 3) := dk_163 0 7 (dk_at dksJ7_canEncode_0 4 rfl rfl)
theorem dJ7_canEncode_7 : decode cJ7_canEncode 7 = .ok (.iconst 1, 1) := dk_4 (dk_at dksJ7_canEncode_0 7 rfl rfl)
theorem dJ7_canEncode_8 : decode cJ7_canEncode 8 = .ok (.goto 4, 3) := dk_167 0 4 (dk_at dksJ7_canEncode_0 8 rfl rfl)
theorem dJ7_canEncode_11 : decode cJ7_canEncode 11 = .ok (.iconst 0, 1) := dk_3 (dk_at dksJ7_canEncode_0 11 rfl rfl)
theorem dJ7_canEncode_12 : decode cJ7_canEncode 12 = .ok (.ireturn, 1) := dk_172 (dk_at dksJ7_canEncode_0 12 rfl rfl)
abbrev cJ7_inflate : ByteArray := prog_37_method_50_code
def yJ7_inflate : MethodName := ⟨RJ7, "inflate", "([BI[BII)V"⟩
def dkwJ7_inflate_0 : List UInt8 := [42, 27, 44, 29, 21, 4, 184, 0, 240, 177]
abbrev dktJ7_inflate_0 : List UInt8 := dkwJ7_inflate_0 ++ []
theorem dksJ7_inflate_0 : cJ7_inflate.data.toList.drop 0 = dktJ7_inflate_0 := by decide +kernel
theorem dJ7_inflate_0 : decode cJ7_inflate 0 = .ok (.aload_n 0, 1) := dk_42 (dk_at dksJ7_inflate_0 0 rfl rfl)
theorem dJ7_inflate_1 : decode cJ7_inflate 1 = .ok (.iload_n 1, 1) := dk_27 (dk_at dksJ7_inflate_0 1 rfl rfl)
theorem dJ7_inflate_2 : decode cJ7_inflate 2 = .ok (.aload_n 2, 1) := dk_44 (dk_at dksJ7_inflate_0 2 rfl rfl)
theorem dJ7_inflate_3 : decode cJ7_inflate 3 = .ok (.iload_n 3, 1) := dk_29 (dk_at dksJ7_inflate_0 3 rfl rfl)
theorem dJ7_inflate_4 : decode cJ7_inflate 4 = .ok (.iload 4, 2) := dk_21 4 (dk_at dksJ7_inflate_0 4 rfl rfl)
theorem dJ7_inflate_6 : decode cJ7_inflate 6 = .ok (.invokestatic 240, 3) := dk_184 0 240 (dk_at dksJ7_inflate_0 6 rfl rfl)
theorem dJ7_inflate_9 : decode cJ7_inflate 9 = .ok (.return_, 1) := dk_177 (dk_at dksJ7_inflate_0 9 rfl rfl)
abbrev cJ7_equals : ByteArray := prog_37_method_13_code
def yJ7_equals : MethodName := ⟨RJ7, "equals", "([B[B)Z"⟩
def dkwJ7_equals_1 : List UInt8 := [3, 172, 132, 2, 1, 167, 255, 236, 4, 172, 3, 172]
abbrev dktJ7_equals_1 : List UInt8 := dkwJ7_equals_1 ++ []
def dkwJ7_equals_0 : List UInt8 := [42, 190, 43, 190, 160, 0, 30, 3, 61, 28, 42, 190, 162, 0, 20, 42, 28, 51, 43, 28, 51, 159, 0, 5]
abbrev dktJ7_equals_0 : List UInt8 := dkwJ7_equals_0 ++ dktJ7_equals_1
theorem dksJ7_equals_0 : cJ7_equals.data.toList.drop 0 = dktJ7_equals_0 := by decide +kernel
theorem dksJ7_equals_1 : cJ7_equals.data.toList.drop 24 = dktJ7_equals_1 := dk_seg dksJ7_equals_0 24 rfl rfl
theorem dJ7_equals_0 : decode cJ7_equals 0 = .ok (.aload_n 0, 1) := dk_42 (dk_at dksJ7_equals_0 0 rfl rfl)
theorem dJ7_equals_1 : decode cJ7_equals 1 = .ok (.arraylength, 1) := dk_190 (dk_at dksJ7_equals_0 1 rfl rfl)
theorem dJ7_equals_2 : decode cJ7_equals 2 = .ok (.aload_n 1, 1) := dk_43 (dk_at dksJ7_equals_0 2 rfl rfl)
theorem dJ7_equals_3 : decode cJ7_equals 3 = .ok (.arraylength, 1) := dk_190 (dk_at dksJ7_equals_0 3 rfl rfl)
theorem dJ7_equals_4 : decode cJ7_equals 4 = .ok (.if_icmp .ne 30, 3) := dk_160 0 30 (dk_at dksJ7_equals_0 4 rfl rfl)
theorem dJ7_equals_7 : decode cJ7_equals 7 = .ok (.iconst 0, 1) := dk_3 (dk_at dksJ7_equals_0 7 rfl rfl)
theorem dJ7_equals_8 : decode cJ7_equals 8 = .ok (.istore_n 2, 1) := dk_61 (dk_at dksJ7_equals_0 8 rfl rfl)
theorem dJ7_equals_9 : decode cJ7_equals 9 = .ok (.iload_n 2, 1) := dk_28 (dk_at dksJ7_equals_0 9 rfl rfl)
theorem dJ7_equals_10 : decode cJ7_equals 10 = .ok (.aload_n 0, 1) := dk_42 (dk_at dksJ7_equals_0 10 rfl rfl)
theorem dJ7_equals_11 : decode cJ7_equals 11 = .ok (.arraylength, 1) := dk_190 (dk_at dksJ7_equals_0 11 rfl rfl)
theorem dJ7_equals_12 : decode cJ7_equals 12 = .ok (.if_icmp .ge 20, 3) := dk_162 0 20 (dk_at dksJ7_equals_0 12 rfl rfl)
theorem dJ7_equals_15 : decode cJ7_equals 15 = .ok (.aload_n 0, 1) := dk_42 (dk_at dksJ7_equals_0 15 rfl rfl)
theorem dJ7_equals_16 : decode cJ7_equals 16 = .ok (.iload_n 2, 1) := dk_28 (dk_at dksJ7_equals_0 16 rfl rfl)
theorem dJ7_equals_17 : decode cJ7_equals 17 = .ok (.baload, 1) := dk_51 (dk_at dksJ7_equals_0 17 rfl rfl)
theorem dJ7_equals_18 : decode cJ7_equals 18 = .ok (.aload_n 1, 1) := dk_43 (dk_at dksJ7_equals_0 18 rfl rfl)
theorem dJ7_equals_19 : decode cJ7_equals 19 = .ok (.iload_n 2, 1) := dk_28 (dk_at dksJ7_equals_0 19 rfl rfl)
theorem dJ7_equals_20 : decode cJ7_equals 20 = .ok (.baload, 1) := dk_51 (dk_at dksJ7_equals_0 20 rfl rfl)
theorem dJ7_equals_21 : decode cJ7_equals 21 = .ok (.if_icmp .eq 5, 3) := dk_159 0 5 (dk_at dksJ7_equals_0 21 rfl rfl)
theorem dJ7_equals_24 : decode cJ7_equals 24 = .ok (.iconst 0, 1) := dk_3 (dk_at dksJ7_equals_1 0 rfl rfl)
theorem dJ7_equals_25 : decode cJ7_equals 25 = .ok (.ireturn, 1) := dk_172 (dk_at dksJ7_equals_1 1 rfl rfl)
theorem dJ7_equals_26 : decode cJ7_equals 26 = .ok (.iinc 2 1, 3) := dk_132 2 1 (dk_at dksJ7_equals_1 2 rfl rfl)
theorem dJ7_equals_29 : decode cJ7_equals 29 = .ok (.goto (-20), 3) := dk_167 255 236 (dk_at dksJ7_equals_1 5 rfl rfl)
theorem dJ7_equals_32 : decode cJ7_equals 32 = .ok (.iconst 1, 1) := dk_4 (dk_at dksJ7_equals_1 8 rfl rfl)
theorem dJ7_equals_33 : decode cJ7_equals 33 = .ok (.ireturn, 1) := dk_172 (dk_at dksJ7_equals_1 9 rfl rfl)
theorem dJ7_equals_34 : decode cJ7_equals 34 = .ok (.iconst 0, 1) := dk_3 (dk_at dksJ7_equals_1 10 rfl rfl)
theorem dJ7_equals_35 : decode cJ7_equals 35 = .ok (.ireturn, 1) := dk_172 (dk_at dksJ7_equals_1 11 rfl rfl)
abbrev cJ7_charAt : ByteArray := prog_37_method_2_code
def yJ7_charAt : MethodName := ⟨RJ7, "charAt", "([BI)C"⟩
def dkwJ7_charAt_0 : List UInt8 := [27, 42, 190, 184, 0, 9, 42, 27, 51, 17, 0, 255, 126, 146, 172]
abbrev dktJ7_charAt_0 : List UInt8 := dkwJ7_charAt_0 ++ []
theorem dksJ7_charAt_0 : cJ7_charAt.data.toList.drop 0 = dktJ7_charAt_0 := by decide +kernel
theorem dJ7_charAt_0 : decode cJ7_charAt 0 = .ok (.iload_n 1, 1) := dk_27 (dk_at dksJ7_charAt_0 0 rfl rfl)
theorem dJ7_charAt_1 : decode cJ7_charAt 1 = .ok (.aload_n 0, 1) := dk_42 (dk_at dksJ7_charAt_0 1 rfl rfl)
theorem dJ7_charAt_2 : decode cJ7_charAt 2 = .ok (.arraylength, 1) := dk_190 (dk_at dksJ7_charAt_0 2 rfl rfl)
theorem dJ7_charAt_3 : decode cJ7_charAt 3 = .ok (.invokestatic 9, 3) := dk_184 0 9 (dk_at dksJ7_charAt_0 3 rfl rfl)
theorem dJ7_charAt_6 : decode cJ7_charAt 6 = .ok (.aload_n 0, 1) := dk_42 (dk_at dksJ7_charAt_0 6 rfl rfl)
theorem dJ7_charAt_7 : decode cJ7_charAt 7 = .ok (.iload_n 1, 1) := dk_27 (dk_at dksJ7_charAt_0 7 rfl rfl)
theorem dJ7_charAt_8 : decode cJ7_charAt 8 = .ok (.baload, 1) := dk_51 (dk_at dksJ7_charAt_0 8 rfl rfl)
theorem dJ7_charAt_9 : decode cJ7_charAt 9 = .ok (.sipush 255, 3) := dk_17 0 255 (dk_at dksJ7_charAt_0 9 rfl rfl)
theorem dJ7_charAt_12 : decode cJ7_charAt 12 = .ok (.iand, 1) := dk_126 (dk_at dksJ7_charAt_0 12 rfl rfl)
theorem dJ7_charAt_13 : decode cJ7_charAt 13 = .ok (.i2c, 1) := dk_146 (dk_at dksJ7_charAt_0 13 rfl rfl)
theorem dJ7_charAt_14 : decode cJ7_charAt 14 = .ok (.ireturn, 1) := dk_172 (dk_at dksJ7_charAt_0 14 rfl rfl)
theorem q105 : (Jvm.Cond.initialized "java/lang/StringLatin1") ∈ lw_all := lw_g (lw_at lw_m1 17 rfl) rfl
theorem q463 : (Jvm.Cond.static ({ cls := "java/lang/StringLatin1", name := "canEncode", desc := "(C)Z" } : Jvm.MethodName)) ∈ lw_all := lw_g (lw_at lw_m2 135 rfl) rfl
theorem q464 : (Jvm.Cond.code ({ cls := "java/lang/StringLatin1", name := "canEncode", desc := "(C)Z" } : Jvm.MethodName) prog_37_method_3_code (1 : Nat) (Option.some Jvm.ClassFile.FieldType.boolean)) ∈ lw_all := lw_g (lw_at lw_m2 136 rfl) rfl
theorem q470 : (Jvm.Cond.static ({ cls := "java/lang/StringLatin1", name := "inflate", desc := "([BI[BII)V" } : Jvm.MethodName)) ∈ lw_all := lw_g (lw_at lw_m2 142 rfl) rfl
theorem q471 : (Jvm.Cond.code ({ cls := "java/lang/StringLatin1", name := "inflate", desc := "([BI[BII)V" } : Jvm.MethodName) prog_37_method_50_code (5 : Nat) (Option.none : Option Jvm.ClassFile.FieldType)) ∈ lw_all := lw_g (lw_at lw_m2 143 rfl) rfl
theorem q472 : (Jvm.Cond.methodLink "java/lang/StringLatin1" (240 : Nat) ({ cls := "java/lang/StringUTF16", name := "inflate", desc := "([BI[BII)V" } : Jvm.MethodName)) ∈ lw_all := lw_g (lw_at lw_m2 144 rfl) rfl
theorem q583 : (Jvm.Cond.static ({ cls := "java/lang/StringLatin1", name := "equals", desc := "([B[B)Z" } : Jvm.MethodName)) ∈ lw_all := lw_g (lw_at lw_m3 15 rfl) rfl
theorem q584 : (Jvm.Cond.code ({ cls := "java/lang/StringLatin1", name := "equals", desc := "([B[B)Z" } : Jvm.MethodName) prog_37_method_13_code (3 : Nat) (Option.some Jvm.ClassFile.FieldType.boolean)) ∈ lw_all := lw_g (lw_at lw_m3 16 rfl) rfl
theorem q1592 : (Jvm.Cond.static ({ cls := "java/lang/StringLatin1", name := "charAt", desc := "([BI)C" } : Jvm.MethodName)) ∈ lw_all := lw_g (lw_at lw_m7 64 rfl) rfl
theorem q1593 : (Jvm.Cond.code ({ cls := "java/lang/StringLatin1", name := "charAt", desc := "([BI)C" } : Jvm.MethodName) prog_37_method_2_code (2 : Nat) (Option.some Jvm.ClassFile.FieldType.char)) ∈ lw_all := lw_g (lw_at lw_m7 65 rfl) rfl
theorem q1594 : (Jvm.Cond.methodLink "java/lang/StringLatin1" (9 : Nat) ({ cls := "java/lang/String", name := "checkIndex", desc := "(II)V" } : Jvm.MethodName)) ∈ lw_all := lw_g (lw_at lw_m7 66 rfl) rfl
/-! jdk/internal/util/Preconditions -/
set_option maxRecDepth 100000
def RJ8 : String := "jdk/internal/util/Preconditions"
abbrev cJ8_checkFromIndexSize : ByteArray := prog_54_method_13_code
def yJ8_checkFromIndexSize : MethodName := ⟨RJ8, "checkFromIndexSize", "(IIILjava/util/function/BiFunction;)I"⟩
def dkwJ8_checkFromIndexSize_1 : List UInt8 := [172]
abbrev dktJ8_checkFromIndexSize_1 : List UInt8 := dkwJ8_checkFromIndexSize_1 ++ []
def dkwJ8_checkFromIndexSize_0 : List UInt8 := [28, 26, 128, 27, 128, 155, 0, 10, 27, 28, 26, 100, 164, 0, 11, 45, 26, 27, 28, 184, 0, 103, 191, 26]
abbrev dktJ8_checkFromIndexSize_0 : List UInt8 := dkwJ8_checkFromIndexSize_0 ++ dktJ8_checkFromIndexSize_1
theorem dksJ8_checkFromIndexSize_0 : cJ8_checkFromIndexSize.data.toList.drop 0 = dktJ8_checkFromIndexSize_0 := by decide +kernel
theorem dksJ8_checkFromIndexSize_1 : cJ8_checkFromIndexSize.data.toList.drop 24 = dktJ8_checkFromIndexSize_1 := dk_seg dksJ8_checkFromIndexSize_0 24 rfl rfl
theorem dJ8_checkFromIndexSize_0 : decode cJ8_checkFromIndexSize 0 = .ok (.iload_n 2, 1) := dk_28 (dk_at dksJ8_checkFromIndexSize_0 0 rfl rfl)
theorem dJ8_checkFromIndexSize_1 : decode cJ8_checkFromIndexSize 1 = .ok (.iload_n 0, 1) := dk_26 (dk_at dksJ8_checkFromIndexSize_0 1 rfl rfl)
theorem dJ8_checkFromIndexSize_2 : decode cJ8_checkFromIndexSize 2 = .ok (.ior, 1) := dk_128 (dk_at dksJ8_checkFromIndexSize_0 2 rfl rfl)
theorem dJ8_checkFromIndexSize_3 : decode cJ8_checkFromIndexSize 3 = .ok (.iload_n 1, 1) := dk_27 (dk_at dksJ8_checkFromIndexSize_0 3 rfl rfl)
theorem dJ8_checkFromIndexSize_4 : decode cJ8_checkFromIndexSize 4 = .ok (.ior, 1) := dk_128 (dk_at dksJ8_checkFromIndexSize_0 4 rfl rfl)
theorem dJ8_checkFromIndexSize_5 : decode cJ8_checkFromIndexSize 5 = .ok (.ifCond .lt 10, 3) := dk_155 0 10 (dk_at dksJ8_checkFromIndexSize_0 5 rfl rfl)
theorem dJ8_checkFromIndexSize_8 : decode cJ8_checkFromIndexSize 8 = .ok (.iload_n 1, 1) := dk_27 (dk_at dksJ8_checkFromIndexSize_0 8 rfl rfl)
theorem dJ8_checkFromIndexSize_9 : decode cJ8_checkFromIndexSize 9 = .ok (.iload_n 2, 1) := dk_28 (dk_at dksJ8_checkFromIndexSize_0 9 rfl rfl)
theorem dJ8_checkFromIndexSize_10 : decode cJ8_checkFromIndexSize 10 = .ok (.iload_n 0, 1) := dk_26 (dk_at dksJ8_checkFromIndexSize_0 10 rfl rfl)
theorem dJ8_checkFromIndexSize_11 : decode cJ8_checkFromIndexSize 11 = .ok (.isub, 1) := dk_100 (dk_at dksJ8_checkFromIndexSize_0 11 rfl rfl)
theorem dJ8_checkFromIndexSize_12 : decode cJ8_checkFromIndexSize 12 = .ok (.if_icmp .le 11, 3) := dk_164 0 11 (dk_at dksJ8_checkFromIndexSize_0 12 rfl rfl)
theorem dJ8_checkFromIndexSize_15 : decode cJ8_checkFromIndexSize 15 = .ok (.aload_n 3, 1) := dk_45 (dk_at dksJ8_checkFromIndexSize_0 15 rfl rfl)
theorem dJ8_checkFromIndexSize_16 : decode cJ8_checkFromIndexSize 16 = .ok (.iload_n 0, 1) := dk_26 (dk_at dksJ8_checkFromIndexSize_0 16 rfl rfl)
theorem dJ8_checkFromIndexSize_17 : decode cJ8_checkFromIndexSize 17 = .ok (.iload_n 1, 1) := dk_27 (dk_at dksJ8_checkFromIndexSize_0 17 rfl rfl)
theorem dJ8_checkFromIndexSize_18 : decode cJ8_checkFromIndexSize 18 = .ok (.iload_n 2, 1) := dk_28 (dk_at dksJ8_checkFromIndexSize_0 18 rfl rfl)
theorem dJ8_checkFromIndexSize_19 : decode cJ8_checkFromIndexSize 19 = .ok (.invokestatic 103, 3) := dk_184 0 103 (dk_at dksJ8_checkFromIndexSize_0 19 rfl rfl)
theorem dJ8_checkFromIndexSize_22 : decode cJ8_checkFromIndexSize 22 = .ok (.athrow, 1) := dk_191 (dk_at dksJ8_checkFromIndexSize_0 22 rfl rfl)
theorem dJ8_checkFromIndexSize_23 : decode cJ8_checkFromIndexSize 23 = .ok (.iload_n 0, 1) := dk_26 (dk_at dksJ8_checkFromIndexSize_0 23 rfl rfl)
theorem dJ8_checkFromIndexSize_24 : decode cJ8_checkFromIndexSize 24 = .ok (.ireturn, 1) := dk_172 (dk_at dksJ8_checkFromIndexSize_1 0 rfl rfl)
abbrev cJ8_checkIndex : ByteArray := prog_54_method_11_code
def yJ8_checkIndex : MethodName := ⟨RJ8, "checkIndex", "(IILjava/util/function/BiFunction;)I"⟩
def dkwJ8_checkIndex_0 : List UInt8 := [26, 155, 0, 8, 26, 27, 161, 0, 10, 44, 26, 27, 184, 0, 95, 191, 26, 172]
abbrev dktJ8_checkIndex_0 : List UInt8 := dkwJ8_checkIndex_0 ++ []
theorem dksJ8_checkIndex_0 : cJ8_checkIndex.data.toList.drop 0 = dktJ8_checkIndex_0 := by decide +kernel
theorem dJ8_checkIndex_0 : decode cJ8_checkIndex 0 = .ok (.iload_n 0, 1) := dk_26 (dk_at dksJ8_checkIndex_0 0 rfl rfl)
theorem dJ8_checkIndex_1 : decode cJ8_checkIndex 1 = .ok (.ifCond .lt 8, 3) := dk_155 0 8 (dk_at dksJ8_checkIndex_0 1 rfl rfl)
theorem dJ8_checkIndex_4 : decode cJ8_checkIndex 4 = .ok (.iload_n 0, 1) := dk_26 (dk_at dksJ8_checkIndex_0 4 rfl rfl)
theorem dJ8_checkIndex_5 : decode cJ8_checkIndex 5 = .ok (.iload_n 1, 1) := dk_27 (dk_at dksJ8_checkIndex_0 5 rfl rfl)
theorem dJ8_checkIndex_6 : decode cJ8_checkIndex 6 = .ok (.if_icmp .lt 10, 3) := dk_161 0 10 (dk_at dksJ8_checkIndex_0 6 rfl rfl)
theorem dJ8_checkIndex_9 : decode cJ8_checkIndex 9 = .ok (.aload_n 2, 1) := dk_44 (dk_at dksJ8_checkIndex_0 9 rfl rfl)
theorem dJ8_checkIndex_10 : decode cJ8_checkIndex 10 = .ok (.iload_n 0, 1) := dk_26 (dk_at dksJ8_checkIndex_0 10 rfl rfl)
theorem dJ8_checkIndex_11 : decode cJ8_checkIndex 11 = .ok (.iload_n 1, 1) := dk_27 (dk_at dksJ8_checkIndex_0 11 rfl rfl)
theorem dJ8_checkIndex_12 : decode cJ8_checkIndex 12 = .ok (.invokestatic 95, 3) := dk_184 0 95 (dk_at dksJ8_checkIndex_0 12 rfl rfl)
theorem dJ8_checkIndex_15 : decode cJ8_checkIndex 15 = .ok (.athrow, 1) := dk_191 (dk_at dksJ8_checkIndex_0 15 rfl rfl)
theorem dJ8_checkIndex_16 : decode cJ8_checkIndex 16 = .ok (.iload_n 0, 1) := dk_26 (dk_at dksJ8_checkIndex_0 16 rfl rfl)
theorem dJ8_checkIndex_17 : decode cJ8_checkIndex 17 = .ok (.ireturn, 1) := dk_172 (dk_at dksJ8_checkIndex_0 17 rfl rfl)
theorem q106 : (Jvm.Cond.initialized "jdk/internal/util/Preconditions") ∈ lw_all := lw_g (lw_at lw_m1 18 rfl) rfl
theorem q485 : (Jvm.Cond.laysStatic "jdk/internal/util/Preconditions" "SIOOBE_FORMATTER" "Ljava/util/function/BiFunction;") ∈ lw_tbl := lw_at lw_m2 157 rfl
theorem q487 : (Jvm.Cond.static ({ cls := "jdk/internal/util/Preconditions", name := "checkFromIndexSize", desc := "(IIILjava/util/function/BiFunction;)I" } : Jvm.MethodName)) ∈ lw_all := lw_g (lw_at lw_m2 159 rfl) rfl
theorem q488 : (Jvm.Cond.code ({ cls := "jdk/internal/util/Preconditions", name := "checkFromIndexSize", desc := "(IIILjava/util/function/BiFunction;)I" } : Jvm.MethodName) prog_54_method_13_code (4 : Nat) (Option.some Jvm.ClassFile.FieldType.int)) ∈ lw_all := lw_g (lw_at lw_m2 160 rfl) rfl
theorem q508 : (Jvm.Cond.static ({ cls := "jdk/internal/util/Preconditions", name := "checkIndex", desc := "(IILjava/util/function/BiFunction;)I" } : Jvm.MethodName)) ∈ lw_all := lw_g (lw_at lw_m2 180 rfl) rfl
theorem q509 : (Jvm.Cond.code ({ cls := "jdk/internal/util/Preconditions", name := "checkIndex", desc := "(IILjava/util/function/BiFunction;)I" } : Jvm.MethodName) prog_54_method_11_code (3 : Nat) (Option.some Jvm.ClassFile.FieldType.int)) ∈ lw_all := lw_g (lw_at lw_m2 181 rfl) rfl
/-! java/lang/Throwable -/
set_option maxRecDepth 100000
def RJ9 : String := "java/lang/Throwable"
def TJ9 : u_T := fun k => match k with
  | 0 => ("java/lang/Throwable", "cause", "Ljava/lang/Throwable;", false)
  | 1 => ("java/lang/Throwable", "stackTrace", "[Ljava/lang/StackTraceElement;", false)
  | 2 => ("java/lang/Throwable", "suppressedExceptions", "Ljava/util/List;", false)
  | 3 => ("java/lang/Throwable", "detailMessage", "Ljava/lang/String;", false)
  | _ => ("java/lang/Throwable", "backtrace", "Ljava/lang/Object;", false)
def tyJ9 : Nat → FieldType := fun k => match k with
  | 0 => .object "java/lang/Throwable"
  | 1 => .array (.object "java/lang/StackTraceElement")
  | 2 => .object "java/util/List"
  | 3 => .object "java/lang/String"
  | _ => .object "java/lang/Object"
abbrev wsJ90 : List Cond := u_ws RJ9 TJ9 5
theorem nmJ9 : ∀ a, a < 5 → ∀ b, b < 5 → a ≠ b → (TJ9 a).2.1 ≠ (TJ9 b).2.1 := by decide +kernel
theorem tyJ9_ok : ∀ k, k < 5 → parseFieldDescriptor (TJ9 k).2.2.1 = some (tyJ9 k) := by decide +kernel
abbrev cJ9_init : ByteArray := prog_40_method_1_code
def yJ9_init : MethodName := ⟨RJ9, "<init>", "()V"⟩
def dkwJ9_init_1 : List UInt8 := [182, 0, 27, 87, 177]
abbrev dktJ9_init_1 : List UInt8 := dkwJ9_init_1 ++ []
def dkwJ9_init_0 : List UInt8 := [42, 183, 0, 1, 42, 42, 181, 0, 7, 42, 178, 0, 13, 181, 0, 17, 42, 178, 0, 20, 181, 0, 24, 42]
abbrev dktJ9_init_0 : List UInt8 := dkwJ9_init_0 ++ dktJ9_init_1
theorem dksJ9_init_0 : cJ9_init.data.toList.drop 0 = dktJ9_init_0 := by decide +kernel
theorem dksJ9_init_1 : cJ9_init.data.toList.drop 24 = dktJ9_init_1 := dk_seg dksJ9_init_0 24 rfl rfl
theorem dJ9_init_0 : decode cJ9_init 0 = .ok (.aload_n 0, 1) := dk_42 (dk_at dksJ9_init_0 0 rfl rfl)
theorem dJ9_init_1 : decode cJ9_init 1 = .ok (.invokespecial 1, 3) := dk_183 0 1 (dk_at dksJ9_init_0 1 rfl rfl)
theorem dJ9_init_4 : decode cJ9_init 4 = .ok (.aload_n 0, 1) := dk_42 (dk_at dksJ9_init_0 4 rfl rfl)
theorem dJ9_init_5 : decode cJ9_init 5 = .ok (.aload_n 0, 1) := dk_42 (dk_at dksJ9_init_0 5 rfl rfl)
theorem dJ9_init_6 : decode cJ9_init 6 = .ok (.putfield 7, 3) := dk_181 0 7 (dk_at dksJ9_init_0 6 rfl rfl)
theorem dJ9_init_9 : decode cJ9_init 9 = .ok (.aload_n 0, 1) := dk_42 (dk_at dksJ9_init_0 9 rfl rfl)
theorem dJ9_init_10 : decode cJ9_init 10 = .ok (.getstatic 13, 3) := dk_178 0 13 (dk_at dksJ9_init_0 10 rfl rfl)
theorem dJ9_init_13 : decode cJ9_init 13 = .ok (.putfield 17, 3) := dk_181 0 17 (dk_at dksJ9_init_0 13 rfl rfl)
theorem dJ9_init_16 : decode cJ9_init 16 = .ok (.aload_n 0, 1) := dk_42 (dk_at dksJ9_init_0 16 rfl rfl)
theorem dJ9_init_17 : decode cJ9_init 17 = .ok (.getstatic 20, 3) := dk_178 0 20 (dk_at dksJ9_init_0 17 rfl rfl)
theorem dJ9_init_20 : decode cJ9_init 20 = .ok (.putfield 24, 3) := dk_181 0 24 (dk_at dksJ9_init_0 20 rfl rfl)
theorem dJ9_init_23 : decode cJ9_init 23 = .ok (.aload_n 0, 1) := dk_42 (dk_at dksJ9_init_0 23 rfl rfl)
theorem dJ9_init_24 : decode cJ9_init 24 = .ok (.invokevirtual 27, 3) := dk_182 0 27 (dk_at dksJ9_init_1 0 rfl rfl)
theorem dJ9_init_27 : decode cJ9_init 27 = .ok (.pop, 1) := dk_87 (dk_at dksJ9_init_1 3 rfl rfl)
theorem dJ9_init_28 : decode cJ9_init 28 = .ok (.return_, 1) := dk_177 (dk_at dksJ9_init_1 4 rfl rfl)
abbrev cJ9_init_2 : ByteArray := prog_40_method_5_code
def yJ9_init_2 : MethodName := ⟨RJ9, "<init>", "(Ljava/lang/String;Ljava/lang/Throwable;ZZ)V"⟩
def dkwJ9_init_2_2 : List UInt8 := [44, 181, 0, 7, 29, 154, 0, 8, 42, 1, 181, 0, 24, 177]
abbrev dktJ9_init_2_2 : List UInt8 := dkwJ9_init_2_2 ++ []
def dkwJ9_init_2_1 : List UInt8 := [21, 4, 153, 0, 11, 42, 182, 0, 27, 87, 167, 0, 8, 42, 1, 181, 0, 17, 42, 43, 181, 0, 31, 42]
abbrev dktJ9_init_2_1 : List UInt8 := dkwJ9_init_2_1 ++ dktJ9_init_2_2
def dkwJ9_init_2_0 : List UInt8 := [42, 183, 0, 1, 42, 42, 181, 0, 7, 42, 178, 0, 13, 181, 0, 17, 42, 178, 0, 20, 181, 0, 24]
abbrev dktJ9_init_2_0 : List UInt8 := dkwJ9_init_2_0 ++ dktJ9_init_2_1
theorem dksJ9_init_2_0 : cJ9_init_2.data.toList.drop 0 = dktJ9_init_2_0 := by decide +kernel
theorem dksJ9_init_2_1 : cJ9_init_2.data.toList.drop 23 = dktJ9_init_2_1 := dk_seg dksJ9_init_2_0 23 rfl rfl
theorem dksJ9_init_2_2 : cJ9_init_2.data.toList.drop 47 = dktJ9_init_2_2 := dk_seg dksJ9_init_2_1 24 rfl rfl
theorem dJ9_init_2_0 : decode cJ9_init_2 0 = .ok (.aload_n 0, 1) := dk_42 (dk_at dksJ9_init_2_0 0 rfl rfl)
theorem dJ9_init_2_1 : decode cJ9_init_2 1 = .ok (.invokespecial 1, 3) := dk_183 0 1 (dk_at dksJ9_init_2_0 1 rfl rfl)
theorem dJ9_init_2_4 : decode cJ9_init_2 4 = .ok (.aload_n 0, 1) := dk_42 (dk_at dksJ9_init_2_0 4 rfl rfl)
theorem dJ9_init_2_5 : decode cJ9_init_2 5 = .ok (.aload_n 0, 1) := dk_42 (dk_at dksJ9_init_2_0 5 rfl rfl)
theorem dJ9_init_2_6 : decode cJ9_init_2 6 = .ok (.putfield 7, 3) := dk_181 0 7 (dk_at dksJ9_init_2_0 6 rfl rfl)
theorem dJ9_init_2_9 : decode cJ9_init_2 9 = .ok (.aload_n 0, 1) := dk_42 (dk_at dksJ9_init_2_0 9 rfl rfl)
theorem dJ9_init_2_10 : decode cJ9_init_2 10 = .ok (.getstatic 13, 3) := dk_178 0 13 (dk_at dksJ9_init_2_0 10 rfl rfl)
theorem dJ9_init_2_13 : decode cJ9_init_2 13 = .ok (.putfield 17, 3) := dk_181 0 17 (dk_at dksJ9_init_2_0 13 rfl rfl)
theorem dJ9_init_2_16 : decode cJ9_init_2 16 = .ok (.aload_n 0, 1) := dk_42 (dk_at dksJ9_init_2_0 16 rfl rfl)
theorem dJ9_init_2_17 : decode cJ9_init_2 17 = .ok (.getstatic 20, 3) := dk_178 0 20 (dk_at dksJ9_init_2_0 17 rfl rfl)
theorem dJ9_init_2_20 : decode cJ9_init_2 20 = .ok (.putfield 24, 3) := dk_181 0 24 (dk_at dksJ9_init_2_0 20 rfl rfl)
theorem dJ9_init_2_23 : decode cJ9_init_2 23 = .ok (.iload 4, 2) := dk_21 4 (dk_at dksJ9_init_2_1 0 rfl rfl)
theorem dJ9_init_2_25 : decode cJ9_init_2 25 = .ok (.ifCond .eq 11, 3) := dk_153 0 11 (dk_at dksJ9_init_2_1 2 rfl rfl)
theorem dJ9_init_2_28 : decode cJ9_init_2 28 = .ok (.aload_n 0, 1) := dk_42 (dk_at dksJ9_init_2_1 5 rfl rfl)
theorem dJ9_init_2_29 : decode cJ9_init_2 29 = .ok (.invokevirtual 27, 3) := dk_182 0 27 (dk_at dksJ9_init_2_1 6 rfl rfl)
theorem dJ9_init_2_32 : decode cJ9_init_2 32 = .ok (.pop, 1) := dk_87 (dk_at dksJ9_init_2_1 9 rfl rfl)
theorem dJ9_init_2_33 : decode cJ9_init_2 33 = .ok (.goto 8, 3) := dk_167 0 8 (dk_at dksJ9_init_2_1 10 rfl rfl)
theorem dJ9_init_2_36 : decode cJ9_init_2 36 = .ok (.aload_n 0, 1) := dk_42 (dk_at dksJ9_init_2_1 13 rfl rfl)
theorem dJ9_init_2_37 : decode cJ9_init_2 37 = .ok (.aconst_null, 1) := dk_1 (dk_at dksJ9_init_2_1 14 rfl rfl)
theorem dJ9_init_2_38 : decode cJ9_init_2 38 = .ok (.putfield 17, 3) := dk_181 0 17 (dk_at dksJ9_init_2_1 15 rfl rfl)
theorem dJ9_init_2_41 : decode cJ9_init_2 41 = .ok (.aload_n 0, 1) := dk_42 (dk_at dksJ9_init_2_1 18 rfl rfl)
theorem dJ9_init_2_42 : decode cJ9_init_2 42 = .ok (.aload_n 1, 1) := dk_43 (dk_at dksJ9_init_2_1 19 rfl rfl)
theorem dJ9_init_2_43 : decode cJ9_init_2 43 = .ok (.putfield 31, 3) := dk_181 0 31 (dk_at dksJ9_init_2_1 20 rfl rfl)
theorem dJ9_init_2_46 : decode cJ9_init_2 46 = .ok (.aload_n 0, 1) := dk_42 (dk_at dksJ9_init_2_1 23 rfl rfl)
theorem dJ9_init_2_47 : decode cJ9_init_2 47 = .ok (.aload_n 2, 1) := dk_44 (dk_at dksJ9_init_2_2 0 rfl rfl)
theorem dJ9_init_2_48 : decode cJ9_init_2 48 = .ok (.putfield 7, 3) := dk_181 0 7 (dk_at dksJ9_init_2_2 1 rfl rfl)
theorem dJ9_init_2_51 : decode cJ9_init_2 51 = .ok (.iload_n 3, 1) := dk_29 (dk_at dksJ9_init_2_2 4 rfl rfl)
theorem dJ9_init_2_52 : decode cJ9_init_2 52 = .ok (.ifCond .ne 8, 3) := dk_154 0 8 (dk_at dksJ9_init_2_2 5 rfl rfl)
theorem dJ9_init_2_55 : decode cJ9_init_2 55 = .ok (.aload_n 0, 1) := dk_42 (dk_at dksJ9_init_2_2 8 rfl rfl)
theorem dJ9_init_2_56 : decode cJ9_init_2 56 = .ok (.aconst_null, 1) := dk_1 (dk_at dksJ9_init_2_2 9 rfl rfl)
theorem dJ9_init_2_57 : decode cJ9_init_2 57 = .ok (.putfield 24, 3) := dk_181 0 24 (dk_at dksJ9_init_2_2 10 rfl rfl)
theorem dJ9_init_2_60 : decode cJ9_init_2 60 = .ok (.return_, 1) := dk_177 (dk_at dksJ9_init_2_2 13 rfl rfl)
abbrev cJ9_init_3 : ByteArray := prog_40_method_2_code
def yJ9_init_3 : MethodName := ⟨RJ9, "<init>", "(Ljava/lang/String;)V"⟩
def dkwJ9_init_3_1 : List UInt8 := [182, 0, 27, 87, 42, 43, 181, 0, 31, 177]
abbrev dktJ9_init_3_1 : List UInt8 := dkwJ9_init_3_1 ++ []
def dkwJ9_init_3_0 : List UInt8 := [42, 183, 0, 1, 42, 42, 181, 0, 7, 42, 178, 0, 13, 181, 0, 17, 42, 178, 0, 20, 181, 0, 24, 42]
abbrev dktJ9_init_3_0 : List UInt8 := dkwJ9_init_3_0 ++ dktJ9_init_3_1
theorem dksJ9_init_3_0 : cJ9_init_3.data.toList.drop 0 = dktJ9_init_3_0 := by decide +kernel
theorem dksJ9_init_3_1 : cJ9_init_3.data.toList.drop 24 = dktJ9_init_3_1 := dk_seg dksJ9_init_3_0 24 rfl rfl
theorem dJ9_init_3_0 : decode cJ9_init_3 0 = .ok (.aload_n 0, 1) := dk_42 (dk_at dksJ9_init_3_0 0 rfl rfl)
theorem dJ9_init_3_1 : decode cJ9_init_3 1 = .ok (.invokespecial 1, 3) := dk_183 0 1 (dk_at dksJ9_init_3_0 1 rfl rfl)
theorem dJ9_init_3_4 : decode cJ9_init_3 4 = .ok (.aload_n 0, 1) := dk_42 (dk_at dksJ9_init_3_0 4 rfl rfl)
theorem dJ9_init_3_5 : decode cJ9_init_3 5 = .ok (.aload_n 0, 1) := dk_42 (dk_at dksJ9_init_3_0 5 rfl rfl)
theorem dJ9_init_3_6 : decode cJ9_init_3 6 = .ok (.putfield 7, 3) := dk_181 0 7 (dk_at dksJ9_init_3_0 6 rfl rfl)
theorem dJ9_init_3_9 : decode cJ9_init_3 9 = .ok (.aload_n 0, 1) := dk_42 (dk_at dksJ9_init_3_0 9 rfl rfl)
theorem dJ9_init_3_10 : decode cJ9_init_3 10 = .ok (.getstatic 13, 3) := dk_178 0 13 (dk_at dksJ9_init_3_0 10 rfl rfl)
theorem dJ9_init_3_13 : decode cJ9_init_3 13 = .ok (.putfield 17, 3) := dk_181 0 17 (dk_at dksJ9_init_3_0 13 rfl rfl)
theorem dJ9_init_3_16 : decode cJ9_init_3 16 = .ok (.aload_n 0, 1) := dk_42 (dk_at dksJ9_init_3_0 16 rfl rfl)
theorem dJ9_init_3_17 : decode cJ9_init_3 17 = .ok (.getstatic 20, 3) := dk_178 0 20 (dk_at dksJ9_init_3_0 17 rfl rfl)
theorem dJ9_init_3_20 : decode cJ9_init_3 20 = .ok (.putfield 24, 3) := dk_181 0 24 (dk_at dksJ9_init_3_0 20 rfl rfl)
theorem dJ9_init_3_23 : decode cJ9_init_3 23 = .ok (.aload_n 0, 1) := dk_42 (dk_at dksJ9_init_3_0 23 rfl rfl)
theorem dJ9_init_3_24 : decode cJ9_init_3 24 = .ok (.invokevirtual 27, 3) := dk_182 0 27 (dk_at dksJ9_init_3_1 0 rfl rfl)
theorem dJ9_init_3_27 : decode cJ9_init_3 27 = .ok (.pop, 1) := dk_87 (dk_at dksJ9_init_3_1 3 rfl rfl)
theorem dJ9_init_3_28 : decode cJ9_init_3 28 = .ok (.aload_n 0, 1) := dk_42 (dk_at dksJ9_init_3_1 4 rfl rfl)
theorem dJ9_init_3_29 : decode cJ9_init_3 29 = .ok (.aload_n 1, 1) := dk_43 (dk_at dksJ9_init_3_1 5 rfl rfl)
theorem dJ9_init_3_30 : decode cJ9_init_3 30 = .ok (.putfield 31, 3) := dk_181 0 31 (dk_at dksJ9_init_3_1 6 rfl rfl)
theorem dJ9_init_3_33 : decode cJ9_init_3 33 = .ok (.return_, 1) := dk_177 (dk_at dksJ9_init_3_1 9 rfl rfl)
theorem q107 : (Jvm.Cond.initialized "java/lang/Throwable") ∈ lw_all := lw_g (lw_at lw_m1 19 rfl) rfl
theorem q598 : (Jvm.Cond.declares ({ cls := "java/lang/Throwable", name := "<init>", desc := "()V" } : Jvm.MethodName)) ∈ lw_tbl := lw_at lw_m3 30 rfl
theorem q599 : (Jvm.Cond.declares ({ cls := "java/lang/Throwable", name := "<init>", desc := "(Ljava/lang/String;)V" } : Jvm.MethodName)) ∈ lw_tbl := lw_at lw_m3 31 rfl
theorem q603 : (Jvm.Cond.lays "java/lang/Throwable" "java/lang/Throwable" "cause" "Ljava/lang/Throwable;") ∈ lw_all := lw_g (lw_at lw_m3 35 rfl) rfl
theorem q605 : (Jvm.Cond.lays "java/lang/Throwable" "java/lang/Throwable" "stackTrace" "[Ljava/lang/StackTraceElement;") ∈ lw_all := lw_g (lw_at lw_m3 37 rfl) rfl
theorem q607 : (Jvm.Cond.lays "java/lang/Throwable" "java/lang/Throwable" "suppressedExceptions" "Ljava/util/List;") ∈ lw_all := lw_g (lw_at lw_m3 39 rfl) rfl
theorem q609 : (Jvm.Cond.lays "java/lang/Throwable" "java/lang/Throwable" "detailMessage" "Ljava/lang/String;") ∈ lw_all := lw_g (lw_at lw_m3 41 rfl) rfl
theorem q611 : (Jvm.Cond.lays "java/lang/Throwable" "java/lang/Throwable" "backtrace" "Ljava/lang/Object;") ∈ lw_all := lw_g (lw_at lw_m3 43 rfl) rfl
theorem q612 : (Jvm.Cond.fieldLink "java/lang/Throwable" (198 : Nat) "java/lang/Throwable" "backtrace" "Ljava/lang/Object;") ∈ lw_all := lw_g (lw_at lw_m3 44 rfl) rfl
theorem q613 : (Jvm.Cond.superclass "java/lang/Throwable" "java/lang/Object") ∈ lw_all := lw_g (lw_at lw_m3 45 rfl) rfl
theorem q614 : (Jvm.Cond.instanceMethod ({ cls := "java/lang/Throwable", name := "<init>", desc := "()V" } : Jvm.MethodName)) ∈ lw_all := lw_g (lw_at lw_m3 46 rfl) rfl
theorem q615 : (Jvm.Cond.code ({ cls := "java/lang/Throwable", name := "<init>", desc := "()V" } : Jvm.MethodName) prog_40_method_1_code (1 : Nat) (Option.none : Option Jvm.ClassFile.FieldType)) ∈ lw_all := lw_g (lw_at lw_m3 47 rfl) rfl
theorem q616 : (Jvm.Cond.methodLink "java/lang/Throwable" (1 : Nat) ({ cls := "java/lang/Object", name := "<init>", desc := "()V" } : Jvm.MethodName)) ∈ lw_all := lw_g (lw_at lw_m3 48 rfl) rfl
theorem q617 : (Jvm.Cond.fieldLink "java/lang/Throwable" (13 : Nat) "java/lang/Throwable" "UNASSIGNED_STACK" "[Ljava/lang/StackTraceElement;") ∈ lw_all := lw_g (lw_at lw_m3 49 rfl) rfl
theorem q618 : (Jvm.Cond.laysStatic "java/lang/Throwable" "UNASSIGNED_STACK" "[Ljava/lang/StackTraceElement;") ∈ lw_tbl := lw_at lw_m3 50 rfl
theorem q619 : (Jvm.Cond.fieldLink "java/lang/Throwable" (20 : Nat) "java/lang/Throwable" "SUPPRESSED_SENTINEL" "Ljava/util/List;") ∈ lw_all := lw_g (lw_at lw_m3 51 rfl) rfl
theorem q620 : (Jvm.Cond.laysStatic "java/lang/Throwable" "SUPPRESSED_SENTINEL" "Ljava/util/List;") ∈ lw_tbl := lw_at lw_m3 52 rfl
theorem q621 : (Jvm.Cond.methodLink "java/lang/Throwable" (27 : Nat) ({ cls := "java/lang/Throwable", name := "fillInStackTrace", desc := "()Ljava/lang/Throwable;" } : Jvm.MethodName)) ∈ lw_all := lw_g (lw_at lw_m3 53 rfl) rfl
theorem q622 : (Jvm.Cond.instanceMethod ({ cls := "java/lang/Throwable", name := "fillInStackTrace", desc := "()Ljava/lang/Throwable;" } : Jvm.MethodName)) ∈ lw_all := lw_g (lw_at lw_m3 54 rfl) rfl
theorem q623 : (Jvm.Cond.sameMethod "java/lang/Throwable" "java/lang/Throwable" "fillInStackTrace" "()Ljava/lang/Throwable;") ∈ lw_all := lw_g (lw_at lw_m3 55 rfl) rfl
theorem q627 : (Jvm.Cond.codeSync ({ cls := "java/lang/Throwable", name := "fillInStackTrace", desc := "()Ljava/lang/Throwable;" } : Jvm.MethodName) prog_40_method_18_code (1 : Nat) (Option.some (Jvm.ClassFile.FieldType.object "java/lang/Throwable"))) ∈ lw_all := lw_g (lw_at lw_m3 59 rfl) rfl
theorem q628 : (Jvm.Cond.methodLink "java/lang/Throwable" (202 : Nat) ({ cls := "java/lang/Throwable", name := "fillInStackTrace", desc := "(I)Ljava/lang/Throwable;" } : Jvm.MethodName)) ∈ lw_all := lw_g (lw_at lw_m3 60 rfl) rfl
theorem q629 : (Jvm.Cond.privateMethod ({ cls := "java/lang/Throwable", name := "fillInStackTrace", desc := "(I)Ljava/lang/Throwable;" } : Jvm.MethodName)) ∈ lw_tbl := lw_at lw_m3 61 rfl
theorem q630 : (Jvm.Cond.instanceMethod ({ cls := "java/lang/Throwable", name := "fillInStackTrace", desc := "(I)Ljava/lang/Throwable;" } : Jvm.MethodName)) ∈ lw_all := lw_g (lw_at lw_m3 62 rfl) rfl
theorem q631 : (Jvm.Cond.instantiable "java/lang/Throwable" (6 : Nat)) ∈ lw_all := lw_g (lw_at lw_m3 63 rfl) rfl
theorem q632 : (Jvm.Cond.native ({ cls := "java/lang/Throwable", name := "fillInStackTrace", desc := "(I)Ljava/lang/Throwable;" } : Jvm.MethodName)) ∈ lw_all := lw_g (lw_at lw_m3 64 rfl) rfl
theorem q640 : (Jvm.Cond.instanceMethod ({ cls := "java/lang/Throwable", name := "<init>", desc := "(Ljava/lang/String;Ljava/lang/Throwable;ZZ)V" } : Jvm.MethodName)) ∈ lw_all := lw_g (lw_at lw_m3 72 rfl) rfl
theorem q641 : (Jvm.Cond.code ({ cls := "java/lang/Throwable", name := "<init>", desc := "(Ljava/lang/String;Ljava/lang/Throwable;ZZ)V" } : Jvm.MethodName) prog_40_method_5_code (5 : Nat) (Option.none : Option Jvm.ClassFile.FieldType)) ∈ lw_all := lw_g (lw_at lw_m3 73 rfl) rfl
theorem q646 : (Jvm.Cond.fieldLink "java/lang/Throwable" (198 : Nat) "java/lang/Throwable" "backtrace" "Ljava/lang/Object;") ∈ lw_all := lw_g (lw_at lw_m3 78 rfl) rfl
theorem q647 : (Jvm.Cond.fieldLink "java/lang/Throwable" (31 : Nat) "java/lang/Throwable" "detailMessage" "Ljava/lang/String;") ∈ lw_all := lw_g (lw_at lw_m3 79 rfl) rfl
theorem q648 : (Jvm.Cond.fieldLink "java/lang/Throwable" (7 : Nat) "java/lang/Throwable" "cause" "Ljava/lang/Throwable;") ∈ lw_all := lw_g (lw_at lw_m3 80 rfl) rfl
theorem q649 : (Jvm.Cond.fieldLink "java/lang/Throwable" (17 : Nat) "java/lang/Throwable" "stackTrace" "[Ljava/lang/StackTraceElement;") ∈ lw_all := lw_g (lw_at lw_m3 81 rfl) rfl
theorem q650 : (Jvm.Cond.fieldLink "java/lang/Throwable" (24 : Nat) "java/lang/Throwable" "suppressedExceptions" "Ljava/util/List;") ∈ lw_all := lw_g (lw_at lw_m3 82 rfl) rfl
theorem q655 : (Jvm.Cond.soleField "java/lang/Throwable" "backtrace") ∈ lw_all := lw_g (lw_at lw_m3 87 rfl) rfl
theorem q656 : (Jvm.Cond.soleField "java/lang/Throwable" "detailMessage") ∈ lw_all := lw_g (lw_at lw_m3 88 rfl) rfl
theorem q657 : (Jvm.Cond.soleField "java/lang/Throwable" "cause") ∈ lw_all := lw_g (lw_at lw_m3 89 rfl) rfl
theorem q658 : (Jvm.Cond.soleField "java/lang/Throwable" "stackTrace") ∈ lw_all := lw_g (lw_at lw_m3 90 rfl) rfl
theorem q660 : (Jvm.Cond.soleField "java/lang/Throwable" "depth") ∈ lw_all := lw_g (lw_at lw_m3 92 rfl) rfl
theorem q661 : (Jvm.Cond.soleField "java/lang/Throwable" "suppressedExceptions") ∈ lw_all := lw_g (lw_at lw_m3 93 rfl) rfl
theorem q1379 : (Jvm.Cond.instanceMethod ({ cls := "java/lang/Throwable", name := "<init>", desc := "(Ljava/lang/String;)V" } : Jvm.MethodName)) ∈ lw_all := lw_g (lw_at lw_m6 91 rfl) rfl
theorem q1380 : (Jvm.Cond.code ({ cls := "java/lang/Throwable", name := "<init>", desc := "(Ljava/lang/String;)V" } : Jvm.MethodName) prog_40_method_2_code (2 : Nat) (Option.none : Option Jvm.ClassFile.FieldType)) ∈ lw_all := lw_g (lw_at lw_m6 92 rfl) rfl
theorem q1979 : (Jvm.Cond.sameMethod "java/lang/Throwable" "java/lang/Throwable" "fillInStackTrace" "(I)Ljava/lang/Throwable;") ∈ lw_all := lw_g (lw_at lw_m8 211 rfl) rfl
theorem q2005 : (Jvm.Cond.castable "java/lang/Throwable" "java/lang/Object") ∈ lw_tbl := lw_at lw_m8 237 rfl
theorem in_J9 : ∀ w ∈ wsJ90, w ∈ lw_all := lw_in wsJ90 [603, 605, 607, 609, 611] (by decide +kernel) (by decide +kernel)
/-! ModeDesk$Places -/
set_option maxRecDepth 100000
def RX10 : String := "ModeDesk$Places"
def TX10 : u_T := fun k => match k with
  | 0 => ("ModeDesk$Places", "at", "[I", true)
  | _ => ("ModeDesk$Places", "many", "I", false)
def tyX10 : Nat → FieldType := fun k => match k with
  | 0 => .array .int
  | _ => .int
abbrev wsX100 : List Cond := u_ws RX10 TX10 2
theorem nmX10 : ∀ a, a < 2 → ∀ b, b < 2 → a ≠ b → (TX10 a).2.1 ≠ (TX10 b).2.1 := by decide +kernel
theorem tyX10_ok : ∀ k, k < 2 → parseFieldDescriptor (TX10 k).2.2.1 = some (tyX10 k) := by decide +kernel
abbrev cX10_init : ByteArray := prog_12_method_1_code
def yX10_init : MethodName := ⟨RX10, "<init>", "()V"⟩
def dkwX10_init_0 : List UInt8 := [42, 183, 0, 3, 42, 16, 120, 188, 10, 181, 0, 9, 177]
abbrev dktX10_init_0 : List UInt8 := dkwX10_init_0 ++ []
theorem dksX10_init_0 : cX10_init.data.toList.drop 0 = dktX10_init_0 := by decide +kernel
theorem dX10_init_0 : decode cX10_init 0 = .ok (.aload_n 0, 1) := dk_42 (dk_at dksX10_init_0 0 rfl rfl)
theorem dX10_init_1 : decode cX10_init 1 = .ok (.invokespecial 3, 3) := dk_183 0 3 (dk_at dksX10_init_0 1 rfl rfl)
theorem dX10_init_4 : decode cX10_init 4 = .ok (.aload_n 0, 1) := dk_42 (dk_at dksX10_init_0 4 rfl rfl)
theorem dX10_init_5 : decode cX10_init 5 = .ok (.bipush 120, 2) := dk_16 120 (dk_at dksX10_init_0 5 rfl rfl)
theorem dX10_init_7 : decode cX10_init 7 = .ok (.newarray .int, 2) := dk_188_10 (dk_at dksX10_init_0 7 rfl rfl)
theorem dX10_init_9 : decode cX10_init 9 = .ok (.putfield 9, 3) := dk_181 0 9 (dk_at dksX10_init_0 9 rfl rfl)
theorem dX10_init_12 : decode cX10_init 12 = .ok (.return_, 1) := dk_177 (dk_at dksX10_init_0 12 rfl rfl)
abbrev cX10_adds : ByteArray := prog_12_method_2_code
def yX10_adds : MethodName := ⟨RX10, "adds", "(I)V"⟩
def dkwX10_adds_0 : List UInt8 := [42, 180, 0, 9, 42, 180, 0, 15, 27, 79, 42, 89, 180, 0, 15, 4, 96, 181, 0, 15, 177]
abbrev dktX10_adds_0 : List UInt8 := dkwX10_adds_0 ++ []
theorem dksX10_adds_0 : cX10_adds.data.toList.drop 0 = dktX10_adds_0 := by decide +kernel
theorem dX10_adds_0 : decode cX10_adds 0 = .ok (.aload_n 0, 1) := dk_42 (dk_at dksX10_adds_0 0 rfl rfl)
theorem dX10_adds_1 : decode cX10_adds 1 = .ok (.getfield 9, 3) := dk_180 0 9 (dk_at dksX10_adds_0 1 rfl rfl)
theorem dX10_adds_4 : decode cX10_adds 4 = .ok (.aload_n 0, 1) := dk_42 (dk_at dksX10_adds_0 4 rfl rfl)
theorem dX10_adds_5 : decode cX10_adds 5 = .ok (.getfield 15, 3) := dk_180 0 15 (dk_at dksX10_adds_0 5 rfl rfl)
theorem dX10_adds_8 : decode cX10_adds 8 = .ok (.iload_n 1, 1) := dk_27 (dk_at dksX10_adds_0 8 rfl rfl)
theorem dX10_adds_9 : decode cX10_adds 9 = .ok (.iastore, 1) := dk_79 (dk_at dksX10_adds_0 9 rfl rfl)
theorem dX10_adds_10 : decode cX10_adds 10 = .ok (.aload_n 0, 1) := dk_42 (dk_at dksX10_adds_0 10 rfl rfl)
theorem dX10_adds_11 : decode cX10_adds 11 = .ok (.dup, 1) := dk_89 (dk_at dksX10_adds_0 11 rfl rfl)
theorem dX10_adds_12 : decode cX10_adds 12 = .ok (.getfield 15, 3) := dk_180 0 15 (dk_at dksX10_adds_0 12 rfl rfl)
theorem dX10_adds_15 : decode cX10_adds 15 = .ok (.iconst 1, 1) := dk_4 (dk_at dksX10_adds_0 15 rfl rfl)
theorem dX10_adds_16 : decode cX10_adds 16 = .ok (.iadd, 1) := dk_96 (dk_at dksX10_adds_0 16 rfl rfl)
theorem dX10_adds_17 : decode cX10_adds 17 = .ok (.putfield 15, 3) := dk_181 0 15 (dk_at dksX10_adds_0 17 rfl rfl)
theorem dX10_adds_20 : decode cX10_adds 20 = .ok (.return_, 1) := dk_177 (dk_at dksX10_adds_0 20 rfl rfl)
abbrev cX10_within : ByteArray := prog_12_method_4_code
def yX10_within : MethodName := ⟨RX10, "within", "(II)I"⟩
def dkwX10_within_0 : List UInt8 := [42, 28, 4, 96, 182, 0, 19, 42, 27, 182, 0, 19, 100, 172]
abbrev dktX10_within_0 : List UInt8 := dkwX10_within_0 ++ []
theorem dksX10_within_0 : cX10_within.data.toList.drop 0 = dktX10_within_0 := by decide +kernel
theorem dX10_within_0 : decode cX10_within 0 = .ok (.aload_n 0, 1) := dk_42 (dk_at dksX10_within_0 0 rfl rfl)
theorem dX10_within_1 : decode cX10_within 1 = .ok (.iload_n 2, 1) := dk_28 (dk_at dksX10_within_0 1 rfl rfl)
theorem dX10_within_2 : decode cX10_within 2 = .ok (.iconst 1, 1) := dk_4 (dk_at dksX10_within_0 2 rfl rfl)
theorem dX10_within_3 : decode cX10_within 3 = .ok (.iadd, 1) := dk_96 (dk_at dksX10_within_0 3 rfl rfl)
theorem dX10_within_4 : decode cX10_within 4 = .ok (.invokevirtual 19, 3) := dk_182 0 19 (dk_at dksX10_within_0 4 rfl rfl)
theorem dX10_within_7 : decode cX10_within 7 = .ok (.aload_n 0, 1) := dk_42 (dk_at dksX10_within_0 7 rfl rfl)
theorem dX10_within_8 : decode cX10_within 8 = .ok (.iload_n 1, 1) := dk_27 (dk_at dksX10_within_0 8 rfl rfl)
theorem dX10_within_9 : decode cX10_within 9 = .ok (.invokevirtual 19, 3) := dk_182 0 19 (dk_at dksX10_within_0 9 rfl rfl)
theorem dX10_within_12 : decode cX10_within 12 = .ok (.isub, 1) := dk_100 (dk_at dksX10_within_0 12 rfl rfl)
theorem dX10_within_13 : decode cX10_within 13 = .ok (.ireturn, 1) := dk_172 (dk_at dksX10_within_0 13 rfl rfl)
abbrev cX10_ahead : ByteArray := prog_12_method_3_code
def yX10_ahead : MethodName := ⟨RX10, "ahead", "(I)I"⟩
def dkwX10_ahead_1 : List UInt8 := [21, 4, 46, 27, 162, 0, 11, 21, 4, 4, 96, 61, 167, 0, 6, 21, 4, 62, 167, 255, 222, 28, 172]
abbrev dktX10_ahead_1 : List UInt8 := dkwX10_ahead_1 ++ []
def dkwX10_ahead_0 : List UInt8 := [3, 61, 42, 180, 0, 15, 62, 28, 29, 162, 0, 35, 28, 29, 96, 5, 108, 54, 4, 42, 180, 0, 9]
abbrev dktX10_ahead_0 : List UInt8 := dkwX10_ahead_0 ++ dktX10_ahead_1
theorem dksX10_ahead_0 : cX10_ahead.data.toList.drop 0 = dktX10_ahead_0 := by decide +kernel
theorem dksX10_ahead_1 : cX10_ahead.data.toList.drop 23 = dktX10_ahead_1 := dk_seg dksX10_ahead_0 23 rfl rfl
theorem dX10_ahead_0 : decode cX10_ahead 0 = .ok (.iconst 0, 1) := dk_3 (dk_at dksX10_ahead_0 0 rfl rfl)
theorem dX10_ahead_1 : decode cX10_ahead 1 = .ok (.istore_n 2, 1) := dk_61 (dk_at dksX10_ahead_0 1 rfl rfl)
theorem dX10_ahead_2 : decode cX10_ahead 2 = .ok (.aload_n 0, 1) := dk_42 (dk_at dksX10_ahead_0 2 rfl rfl)
theorem dX10_ahead_3 : decode cX10_ahead 3 = .ok (.getfield 15, 3) := dk_180 0 15 (dk_at dksX10_ahead_0 3 rfl rfl)
theorem dX10_ahead_6 : decode cX10_ahead 6 = .ok (.istore_n 3, 1) := dk_62 (dk_at dksX10_ahead_0 6 rfl rfl)
theorem dX10_ahead_7 : decode cX10_ahead 7 = .ok (.iload_n 2, 1) := dk_28 (dk_at dksX10_ahead_0 7 rfl rfl)
theorem dX10_ahead_8 : decode cX10_ahead 8 = .ok (.iload_n 3, 1) := dk_29 (dk_at dksX10_ahead_0 8 rfl rfl)
theorem dX10_ahead_9 : decode cX10_ahead 9 = .ok (.if_icmp .ge 35, 3) := dk_162 0 35 (dk_at dksX10_ahead_0 9 rfl rfl)
theorem dX10_ahead_12 : decode cX10_ahead 12 = .ok (.iload_n 2, 1) := dk_28 (dk_at dksX10_ahead_0 12 rfl rfl)
theorem dX10_ahead_13 : decode cX10_ahead 13 = .ok (.iload_n 3, 1) := dk_29 (dk_at dksX10_ahead_0 13 rfl rfl)
theorem dX10_ahead_14 : decode cX10_ahead 14 = .ok (.iadd, 1) := dk_96 (dk_at dksX10_ahead_0 14 rfl rfl)
theorem dX10_ahead_15 : decode cX10_ahead 15 = .ok (.iconst 2, 1) := dk_5 (dk_at dksX10_ahead_0 15 rfl rfl)
theorem dX10_ahead_16 : decode cX10_ahead 16 = .ok (.idiv, 1) := dk_108 (dk_at dksX10_ahead_0 16 rfl rfl)
theorem dX10_ahead_17 : decode cX10_ahead 17 = .ok (.istore 4, 2) := dk_54 4 (dk_at dksX10_ahead_0 17 rfl rfl)
theorem dX10_ahead_19 : decode cX10_ahead 19 = .ok (.aload_n 0, 1) := dk_42 (dk_at dksX10_ahead_0 19 rfl rfl)
theorem dX10_ahead_20 : decode cX10_ahead 20 = .ok (.getfield 9, 3) := dk_180 0 9 (dk_at dksX10_ahead_0 20 rfl rfl)
theorem dX10_ahead_23 : decode cX10_ahead 23 = .ok (.iload 4, 2) := dk_21 4 (dk_at dksX10_ahead_1 0 rfl rfl)
theorem dX10_ahead_25 : decode cX10_ahead 25 = .ok (.iaload, 1) := dk_46 (dk_at dksX10_ahead_1 2 rfl rfl)
theorem dX10_ahead_26 : decode cX10_ahead 26 = .ok (.iload_n 1, 1) := dk_27 (dk_at dksX10_ahead_1 3 rfl rfl)
theorem dX10_ahead_27 : decode cX10_ahead 27 = .ok (.if_icmp .ge 11, 3) := dk_162 0 11 (dk_at dksX10_ahead_1 4 rfl rfl)
theorem dX10_ahead_30 : decode cX10_ahead 30 = .ok (.iload 4, 2) := dk_21 4 (dk_at dksX10_ahead_1 7 rfl rfl)
theorem dX10_ahead_32 : decode cX10_ahead 32 = .ok (.iconst 1, 1) := dk_4 (dk_at dksX10_ahead_1 9 rfl rfl)
theorem dX10_ahead_33 : decode cX10_ahead 33 = .ok (.iadd, 1) := dk_96 (dk_at dksX10_ahead_1 10 rfl rfl)
theorem dX10_ahead_34 : decode cX10_ahead 34 = .ok (.istore_n 2, 1) := dk_61 (dk_at dksX10_ahead_1 11 rfl rfl)
theorem dX10_ahead_35 : decode cX10_ahead 35 = .ok (.goto 6, 3) := dk_167 0 6 (dk_at dksX10_ahead_1 12 rfl rfl)
theorem dX10_ahead_38 : decode cX10_ahead 38 = .ok (.iload 4, 2) := dk_21 4 (dk_at dksX10_ahead_1 15 rfl rfl)
theorem dX10_ahead_40 : decode cX10_ahead 40 = .ok (.istore_n 3, 1) := dk_62 (dk_at dksX10_ahead_1 17 rfl rfl)
theorem dX10_ahead_41 : decode cX10_ahead 41 = .ok (.goto (-34), 3) := dk_167 255 222 (dk_at dksX10_ahead_1 18 rfl rfl)
theorem dX10_ahead_44 : decode cX10_ahead 44 = .ok (.iload_n 2, 1) := dk_28 (dk_at dksX10_ahead_1 21 rfl rfl)
theorem dX10_ahead_45 : decode cX10_ahead 45 = .ok (.ireturn, 1) := dk_172 (dk_at dksX10_ahead_1 22 rfl rfl)
abbrev cX10_iterator : ByteArray := prog_12_method_5_code
def yX10_iterator : MethodName := ⟨RX10, "iterator", "()Ljava/util/Iterator;"⟩
def dkwX10_iterator_0 : List UInt8 := [187, 0, 23, 89, 42, 183, 0, 25, 176]
abbrev dktX10_iterator_0 : List UInt8 := dkwX10_iterator_0 ++ []
theorem dksX10_iterator_0 : cX10_iterator.data.toList.drop 0 = dktX10_iterator_0 := by decide +kernel
theorem dX10_iterator_0 : decode cX10_iterator 0 = .ok (.new 23, 3) := dk_187 0 23 (dk_at dksX10_iterator_0 0 rfl rfl)
theorem dX10_iterator_3 : decode cX10_iterator 3 = .ok (.dup, 1) := dk_89 (dk_at dksX10_iterator_0 3 rfl rfl)
theorem dX10_iterator_4 : decode cX10_iterator 4 = .ok (.aload_n 0, 1) := dk_42 (dk_at dksX10_iterator_0 4 rfl rfl)
theorem dX10_iterator_5 : decode cX10_iterator 5 = .ok (.invokespecial 25, 3) := dk_183 0 25 (dk_at dksX10_iterator_0 5 rfl rfl)
theorem dX10_iterator_8 : decode cX10_iterator 8 = .ok (.areturn, 1) := dk_176 (dk_at dksX10_iterator_0 8 rfl rfl)
theorem q110 : (Jvm.Cond.initialized "ModeDesk$Places") ∈ lw_all := lw_g (lw_at lw_m1 22 rfl) rfl
theorem q699 : (Jvm.Cond.instantiable "ModeDesk$Places" (2 : Nat)) ∈ lw_all := lw_g (lw_at lw_m3 131 rfl) rfl
theorem q701 : (Jvm.Cond.instanceMethod ({ cls := "ModeDesk$Places", name := "<init>", desc := "()V" } : Jvm.MethodName)) ∈ lw_all := lw_g (lw_at lw_m3 133 rfl) rfl
theorem q702 : (Jvm.Cond.code ({ cls := "ModeDesk$Places", name := "<init>", desc := "()V" } : Jvm.MethodName) prog_12_method_1_code (1 : Nat) (Option.none : Option Jvm.ClassFile.FieldType)) ∈ lw_all := lw_g (lw_at lw_m3 134 rfl) rfl
theorem q703 : (Jvm.Cond.methodLink "ModeDesk$Places" (3 : Nat) ({ cls := "java/lang/Object", name := "<init>", desc := "()V" } : Jvm.MethodName)) ∈ lw_all := lw_g (lw_at lw_m3 135 rfl) rfl
theorem q704 : (Jvm.Cond.fieldLink "ModeDesk$Places" (9 : Nat) "ModeDesk$Places" "at" "[I") ∈ lw_all := lw_g (lw_at lw_m3 136 rfl) rfl
theorem q707 : (Jvm.Cond.fieldLink "ModeDesk$Places" (15 : Nat) "ModeDesk$Places" "many" "I") ∈ lw_all := lw_g (lw_at lw_m3 139 rfl) rfl
theorem q710 : (Jvm.Cond.laysFinal "ModeDesk$Places" "ModeDesk$Places" "at" "[I") ∈ lw_all := lw_g (lw_at lw_m3 142 rfl) rfl
theorem q711 : (Jvm.Cond.soleField "ModeDesk$Places" "at") ∈ lw_all := lw_g (lw_at lw_m3 143 rfl) rfl
theorem q712 : (Jvm.Cond.lays "ModeDesk$Places" "ModeDesk$Places" "many" "I") ∈ lw_all := lw_g (lw_at lw_m3 144 rfl) rfl
theorem q713 : (Jvm.Cond.soleField "ModeDesk$Places" "many") ∈ lw_all := lw_g (lw_at lw_m3 145 rfl) rfl
theorem q714 : (Jvm.Cond.superclass "ModeDesk$Places" "java/lang/Object") ∈ lw_all := lw_g (lw_at lw_m3 146 rfl) rfl
theorem q716 : (Jvm.Cond.instanceMethod ({ cls := "ModeDesk$Places", name := "adds", desc := "(I)V" } : Jvm.MethodName)) ∈ lw_all := lw_g (lw_at lw_m3 148 rfl) rfl
theorem q717 : (Jvm.Cond.selects "ModeDesk$Places" ({ cls := "ModeDesk$Places", name := "adds", desc := "(I)V" } : Jvm.MethodName) ({ cls := "ModeDesk$Places", name := "adds", desc := "(I)V" } : Jvm.MethodName)) ∈ lw_all := lw_g (lw_at lw_m3 149 rfl) rfl
theorem q718 : (Jvm.Cond.code ({ cls := "ModeDesk$Places", name := "adds", desc := "(I)V" } : Jvm.MethodName) prog_12_method_2_code (2 : Nat) (Option.none : Option Jvm.ClassFile.FieldType)) ∈ lw_all := lw_g (lw_at lw_m3 150 rfl) rfl
theorem q743 : (Jvm.Cond.instanceMethod ({ cls := "ModeDesk$Places", name := "within", desc := "(II)I" } : Jvm.MethodName)) ∈ lw_all := lw_g (lw_at lw_m3 175 rfl) rfl
theorem q744 : (Jvm.Cond.selects "ModeDesk$Places" ({ cls := "ModeDesk$Places", name := "within", desc := "(II)I" } : Jvm.MethodName) ({ cls := "ModeDesk$Places", name := "within", desc := "(II)I" } : Jvm.MethodName)) ∈ lw_all := lw_g (lw_at lw_m3 176 rfl) rfl
theorem q745 : (Jvm.Cond.code ({ cls := "ModeDesk$Places", name := "within", desc := "(II)I" } : Jvm.MethodName) prog_12_method_4_code (3 : Nat) (Option.some Jvm.ClassFile.FieldType.int)) ∈ lw_all := lw_g (lw_at lw_m3 177 rfl) rfl
theorem q746 : (Jvm.Cond.methodLink "ModeDesk$Places" (19 : Nat) ({ cls := "ModeDesk$Places", name := "ahead", desc := "(I)I" } : Jvm.MethodName)) ∈ lw_all := lw_g (lw_at lw_m3 178 rfl) rfl
theorem q747 : (Jvm.Cond.instanceMethod ({ cls := "ModeDesk$Places", name := "ahead", desc := "(I)I" } : Jvm.MethodName)) ∈ lw_all := lw_g (lw_at lw_m3 179 rfl) rfl
theorem q748 : (Jvm.Cond.selects "ModeDesk$Places" ({ cls := "ModeDesk$Places", name := "ahead", desc := "(I)I" } : Jvm.MethodName) ({ cls := "ModeDesk$Places", name := "ahead", desc := "(I)I" } : Jvm.MethodName)) ∈ lw_all := lw_g (lw_at lw_m3 180 rfl) rfl
theorem q749 : (Jvm.Cond.code ({ cls := "ModeDesk$Places", name := "ahead", desc := "(I)I" } : Jvm.MethodName) prog_12_method_3_code (5 : Nat) (Option.some Jvm.ClassFile.FieldType.int)) ∈ lw_all := lw_g (lw_at lw_m3 181 rfl) rfl
theorem q889 : (Jvm.Cond.instanceMethod ({ cls := "ModeDesk$Places", name := "iterator", desc := "()Ljava/util/Iterator;" } : Jvm.MethodName)) ∈ lw_all := lw_g (lw_at lw_m4 81 rfl) rfl
theorem q890 : (Jvm.Cond.selects "ModeDesk$Places" ({ cls := "ModeDesk$Places", name := "iterator", desc := "()Ljava/util/Iterator;" } : Jvm.MethodName) ({ cls := "ModeDesk$Places", name := "iterator", desc := "()Ljava/util/Iterator;" } : Jvm.MethodName)) ∈ lw_all := lw_g (lw_at lw_m4 82 rfl) rfl
theorem q891 : (Jvm.Cond.code ({ cls := "ModeDesk$Places", name := "iterator", desc := "()Ljava/util/Iterator;" } : Jvm.MethodName) prog_12_method_5_code (1 : Nat) (Option.some (Jvm.ClassFile.FieldType.object "java/util/Iterator"))) ∈ lw_all := lw_g (lw_at lw_m4 83 rfl) rfl
theorem q892 : (Jvm.Cond.classLink "ModeDesk$Places" (23 : Nat) "ModeDesk$Places$1") ∈ lw_all := lw_g (lw_at lw_m4 84 rfl) rfl
theorem q894 : (Jvm.Cond.methodLink "ModeDesk$Places" (25 : Nat) ({ cls := "ModeDesk$Places$1", name := "<init>", desc := "(LModeDesk$Places;)V" } : Jvm.MethodName)) ∈ lw_all := lw_g (lw_at lw_m4 86 rfl) rfl
theorem q1994 : (Jvm.Cond.castable "ModeDesk$Places" "java/lang/Object") ∈ lw_tbl := lw_at lw_m8 226 rfl
theorem in_X10 : ∀ w ∈ wsX100, w ∈ lw_all := lw_in wsX100 [710, 712] (by decide +kernel) (by decide +kernel)
/-! ModeDesk$Places$1 -/
set_option maxRecDepth 100000
def RX11 : String := "ModeDesk$Places$1"
def TX11 : u_T := fun k => match k with
  | 0 => ("ModeDesk$Places$1", "k", "I", false)
  | _ => ("ModeDesk$Places$1", "this$0", "LModeDesk$Places;", true)
def tyX11 : Nat → FieldType := fun k => match k with
  | 0 => .int
  | _ => .object "ModeDesk$Places"
abbrev wsX110 : List Cond := u_ws RX11 TX11 2
theorem nmX11 : ∀ a, a < 2 → ∀ b, b < 2 → a ≠ b → (TX11 a).2.1 ≠ (TX11 b).2.1 := by decide +kernel
theorem tyX11_ok : ∀ k, k < 2 → parseFieldDescriptor (TX11 k).2.2.1 = some (tyX11 k) := by decide +kernel
abbrev cX11_init : ByteArray := prog_13_method_1_code
def yX11_init : MethodName := ⟨RX11, "<init>", "(LModeDesk$Places;)V"⟩
def dkwX11_init_0 : List UInt8 := [42, 43, 181, 0, 1, 42, 183, 0, 7, 177]
abbrev dktX11_init_0 : List UInt8 := dkwX11_init_0 ++ []
theorem dksX11_init_0 : cX11_init.data.toList.drop 0 = dktX11_init_0 := by decide +kernel
theorem dX11_init_0 : decode cX11_init 0 = .ok (.aload_n 0, 1) := dk_42 (dk_at dksX11_init_0 0 rfl rfl)
theorem dX11_init_1 : decode cX11_init 1 = .ok (.aload_n 1, 1) := dk_43 (dk_at dksX11_init_0 1 rfl rfl)
theorem dX11_init_2 : decode cX11_init 2 = .ok (.putfield 1, 3) := dk_181 0 1 (dk_at dksX11_init_0 2 rfl rfl)
theorem dX11_init_5 : decode cX11_init 5 = .ok (.aload_n 0, 1) := dk_42 (dk_at dksX11_init_0 5 rfl rfl)
theorem dX11_init_6 : decode cX11_init 6 = .ok (.invokespecial 7, 3) := dk_183 0 7 (dk_at dksX11_init_0 6 rfl rfl)
theorem dX11_init_9 : decode cX11_init 9 = .ok (.return_, 1) := dk_177 (dk_at dksX11_init_0 9 rfl rfl)
abbrev cX11_hasNext : ByteArray := prog_13_method_2_code
def yX11_hasNext : MethodName := ⟨RX11, "hasNext", "()Z"⟩
def dkwX11_hasNext_0 : List UInt8 := [42, 180, 0, 13, 42, 180, 0, 1, 180, 0, 17, 162, 0, 7, 4, 167, 0, 4, 3, 172]
abbrev dktX11_hasNext_0 : List UInt8 := dkwX11_hasNext_0 ++ []
theorem dksX11_hasNext_0 : cX11_hasNext.data.toList.drop 0 = dktX11_hasNext_0 := by decide +kernel
theorem dX11_hasNext_0 : decode cX11_hasNext 0 = .ok (.aload_n 0, 1) := dk_42 (dk_at dksX11_hasNext_0 0 rfl rfl)
theorem dX11_hasNext_1 : decode cX11_hasNext 1 = .ok (.getfield 13, 3) := dk_180 0 13 (dk_at dksX11_hasNext_0 1 rfl rfl)
theorem dX11_hasNext_4 : decode cX11_hasNext 4 = .ok (.aload_n 0, 1) := dk_42 (dk_at dksX11_hasNext_0 4 rfl rfl)
theorem dX11_hasNext_5 : decode cX11_hasNext 5 = .ok (.getfield 1, 3) := dk_180 0 1 (dk_at dksX11_hasNext_0 5 rfl rfl)
theorem dX11_hasNext_8 : decode cX11_hasNext 8 = .ok (.getfield 17, 3) := dk_180 0 17 (dk_at dksX11_hasNext_0 8 rfl rfl)
theorem dX11_hasNext_11 : decode cX11_hasNext 11 = .ok (.if_icmp .ge 7, 3) := dk_162 0 7 (dk_at dksX11_hasNext_0 11 rfl rfl)
theorem dX11_hasNext_14 : decode cX11_hasNext 14 = .ok (.iconst 1, 1) := dk_4 (dk_at dksX11_hasNext_0 14 rfl rfl)
theorem dX11_hasNext_15 : decode cX11_hasNext 15 = .ok (.goto 4, 3) := dk_167 0 4 (dk_at dksX11_hasNext_0 15 rfl rfl)
theorem dX11_hasNext_18 : decode cX11_hasNext 18 = .ok (.iconst 0, 1) := dk_3 (dk_at dksX11_hasNext_0 18 rfl rfl)
theorem dX11_hasNext_19 : decode cX11_hasNext 19 = .ok (.ireturn, 1) := dk_172 (dk_at dksX11_hasNext_0 19 rfl rfl)
abbrev cX11_next : ByteArray := prog_13_method_4_code
def yX11_next : MethodName := ⟨RX11, "next", "()Ljava/lang/Object;"⟩
theorem dX11_next_0 : decode cX11_next 0 = .ok (.aload_n 0, 1) := by decide +kernel
theorem dX11_next_1 : decode cX11_next 1 = .ok (.invokevirtual 35, 3) := by decide +kernel
theorem dX11_next_4 : decode cX11_next 4 = .ok (.areturn, 1) := by decide +kernel
abbrev cX11_next_2 : ByteArray := prog_13_method_3_code
def yX11_next_2 : MethodName := ⟨RX11, "next", "()Ljava/lang/Integer;"⟩
def dkwX11_next_2_2 : List UInt8 := [184, 0, 29, 176]
abbrev dktX11_next_2_2 : List UInt8 := dkwX11_next_2_2 ++ []
def dkwX11_next_2_1 : List UInt8 := [180, 0, 13, 4, 96, 181, 0, 13, 42, 180, 0, 1, 180, 0, 25, 42, 180, 0, 13, 4, 100, 46]
abbrev dktX11_next_2_1 : List UInt8 := dkwX11_next_2_1 ++ dktX11_next_2_2
def dkwX11_next_2_0 : List UInt8 := [42, 180, 0, 13, 42, 180, 0, 1, 180, 0, 17, 160, 0, 11, 187, 0, 22, 89, 183, 0, 24, 191, 42, 89]
abbrev dktX11_next_2_0 : List UInt8 := dkwX11_next_2_0 ++ dktX11_next_2_1
theorem dksX11_next_2_0 : cX11_next_2.data.toList.drop 0 = dktX11_next_2_0 := by decide +kernel
theorem dksX11_next_2_1 : cX11_next_2.data.toList.drop 24 = dktX11_next_2_1 := dk_seg dksX11_next_2_0 24 rfl rfl
theorem dksX11_next_2_2 : cX11_next_2.data.toList.drop 46 = dktX11_next_2_2 := dk_seg dksX11_next_2_1 22 rfl rfl
theorem dX11_next_2_0 : decode cX11_next_2 0 = .ok (.aload_n 0, 1) := dk_42 (dk_at dksX11_next_2_0 0 rfl rfl)
theorem dX11_next_2_1 : decode cX11_next_2 1 = .ok (.getfield 13, 3) := dk_180 0 13 (dk_at dksX11_next_2_0 1 rfl rfl)
theorem dX11_next_2_4 : decode cX11_next_2 4 = .ok (.aload_n 0, 1) := dk_42 (dk_at dksX11_next_2_0 4 rfl rfl)
theorem dX11_next_2_5 : decode cX11_next_2 5 = .ok (.getfield 1, 3) := dk_180 0 1 (dk_at dksX11_next_2_0 5 rfl rfl)
theorem dX11_next_2_8 : decode cX11_next_2 8 = .ok (.getfield 17, 3) := dk_180 0 17 (dk_at dksX11_next_2_0 8 rfl rfl)
theorem dX11_next_2_11 : decode cX11_next_2 11 = .ok (.if_icmp .ne 11, 3) := dk_160 0 11 (dk_at dksX11_next_2_0 11 rfl rfl)
theorem dX11_next_2_14 : decode cX11_next_2 14 = .ok (.new 22, 3) := dk_187 0 22 (dk_at dksX11_next_2_0 14 rfl rfl)
theorem dX11_next_2_17 : decode cX11_next_2 17 = .ok (.dup, 1) := dk_89 (dk_at dksX11_next_2_0 17 rfl rfl)
theorem dX11_next_2_18 : decode cX11_next_2 18 = .ok (.invokespecial 24, 3) := dk_183 0 24 (dk_at dksX11_next_2_0 18 rfl rfl)
theorem dX11_next_2_21 : decode cX11_next_2 21 = .ok (.athrow, 1) := dk_191 (dk_at dksX11_next_2_0 21 rfl rfl)
theorem dX11_next_2_22 : decode cX11_next_2 22 = .ok (.aload_n 0, 1) := dk_42 (dk_at dksX11_next_2_0 22 rfl rfl)
theorem dX11_next_2_23 : decode cX11_next_2 23 = .ok (.dup, 1) := dk_89 (dk_at dksX11_next_2_0 23 rfl rfl)
theorem dX11_next_2_24 : decode cX11_next_2 24 = .ok (.getfield 13, 3) := dk_180 0 13 (dk_at dksX11_next_2_1 0 rfl rfl)
theorem dX11_next_2_27 : decode cX11_next_2 27 = .ok (.iconst 1, 1) := dk_4 (dk_at dksX11_next_2_1 3 rfl rfl)
theorem dX11_next_2_28 : decode cX11_next_2 28 = .ok (.iadd, 1) := dk_96 (dk_at dksX11_next_2_1 4 rfl rfl)
theorem dX11_next_2_29 : decode cX11_next_2 29 = .ok (.putfield 13, 3) := dk_181 0 13 (dk_at dksX11_next_2_1 5 rfl rfl)
theorem dX11_next_2_32 : decode cX11_next_2 32 = .ok (.aload_n 0, 1) := dk_42 (dk_at dksX11_next_2_1 8 rfl rfl)
theorem dX11_next_2_33 : decode cX11_next_2 33 = .ok (.getfield 1, 3) := dk_180 0 1 (dk_at dksX11_next_2_1 9 rfl rfl)
theorem dX11_next_2_36 : decode cX11_next_2 36 = .ok (.getfield 25, 3) := dk_180 0 25 (dk_at dksX11_next_2_1 12 rfl rfl)
theorem dX11_next_2_39 : decode cX11_next_2 39 = .ok (.aload_n 0, 1) := dk_42 (dk_at dksX11_next_2_1 15 rfl rfl)
theorem dX11_next_2_40 : decode cX11_next_2 40 = .ok (.getfield 13, 3) := dk_180 0 13 (dk_at dksX11_next_2_1 16 rfl rfl)
theorem dX11_next_2_43 : decode cX11_next_2 43 = .ok (.iconst 1, 1) := dk_4 (dk_at dksX11_next_2_1 19 rfl rfl)
theorem dX11_next_2_44 : decode cX11_next_2 44 = .ok (.isub, 1) := dk_100 (dk_at dksX11_next_2_1 20 rfl rfl)
theorem dX11_next_2_45 : decode cX11_next_2 45 = .ok (.iaload, 1) := dk_46 (dk_at dksX11_next_2_1 21 rfl rfl)
theorem dX11_next_2_46 : decode cX11_next_2 46 = .ok (.invokestatic 29, 3) := dk_184 0 29 (dk_at dksX11_next_2_2 0 rfl rfl)
theorem dX11_next_2_49 : decode cX11_next_2 49 = .ok (.areturn, 1) := dk_176 (dk_at dksX11_next_2_2 3 rfl rfl)
theorem q115 : (Jvm.Cond.initialized "ModeDesk$Places$1") ∈ lw_all := lw_g (lw_at lw_m1 27 rfl) rfl
theorem q705 : (Jvm.Cond.fieldLinkNest "ModeDesk$Places$1" (25 : Nat) "ModeDesk$Places" "at" "[I" "ModeDesk") ∈ lw_tbl := lw_at lw_m3 137 rfl
theorem q708 : (Jvm.Cond.fieldLinkNest "ModeDesk$Places$1" (17 : Nat) "ModeDesk$Places" "many" "I" "ModeDesk") ∈ lw_tbl := lw_at lw_m3 140 rfl
theorem q893 : (Jvm.Cond.instantiable "ModeDesk$Places$1" (2 : Nat)) ∈ lw_all := lw_g (lw_at lw_m4 85 rfl) rfl
theorem q895 : (Jvm.Cond.instanceMethod ({ cls := "ModeDesk$Places$1", name := "<init>", desc := "(LModeDesk$Places;)V" } : Jvm.MethodName)) ∈ lw_all := lw_g (lw_at lw_m4 87 rfl) rfl
theorem q896 : (Jvm.Cond.code ({ cls := "ModeDesk$Places$1", name := "<init>", desc := "(LModeDesk$Places;)V" } : Jvm.MethodName) prog_13_method_1_code (2 : Nat) (Option.none : Option Jvm.ClassFile.FieldType)) ∈ lw_all := lw_g (lw_at lw_m4 88 rfl) rfl
theorem q897 : (Jvm.Cond.methodLink "ModeDesk$Places$1" (7 : Nat) ({ cls := "java/lang/Object", name := "<init>", desc := "()V" } : Jvm.MethodName)) ∈ lw_all := lw_g (lw_at lw_m4 89 rfl) rfl
theorem q898 : (Jvm.Cond.fieldLink "ModeDesk$Places$1" (13 : Nat) "ModeDesk$Places$1" "k" "I") ∈ lw_all := lw_g (lw_at lw_m4 90 rfl) rfl
theorem q899 : (Jvm.Cond.fieldLink "ModeDesk$Places$1" (1 : Nat) "ModeDesk$Places$1" "this$0" "LModeDesk$Places;") ∈ lw_all := lw_g (lw_at lw_m4 91 rfl) rfl
theorem q900 : (Jvm.Cond.lays "ModeDesk$Places$1" "ModeDesk$Places$1" "k" "I") ∈ lw_all := lw_g (lw_at lw_m4 92 rfl) rfl
theorem q901 : (Jvm.Cond.soleField "ModeDesk$Places$1" "k") ∈ lw_all := lw_g (lw_at lw_m4 93 rfl) rfl
theorem q902 : (Jvm.Cond.laysFinal "ModeDesk$Places$1" "ModeDesk$Places$1" "this$0" "LModeDesk$Places;") ∈ lw_all := lw_g (lw_at lw_m4 94 rfl) rfl
theorem q903 : (Jvm.Cond.soleField "ModeDesk$Places$1" "this$0") ∈ lw_all := lw_g (lw_at lw_m4 95 rfl) rfl
theorem q904 : (Jvm.Cond.superclass "ModeDesk$Places$1" "java/lang/Object") ∈ lw_all := lw_g (lw_at lw_m4 96 rfl) rfl
theorem q909 : (Jvm.Cond.castable "ModeDesk$Places$1" "java/util/Iterator") ∈ lw_tbl := lw_at lw_m4 101 rfl
theorem q910 : (Jvm.Cond.selects "ModeDesk$Places$1" ({ cls := "java/util/Iterator", name := "hasNext", desc := "()Z" } : Jvm.MethodName) ({ cls := "ModeDesk$Places$1", name := "hasNext", desc := "()Z" } : Jvm.MethodName)) ∈ lw_all := lw_g (lw_at lw_m4 102 rfl) rfl
theorem q911 : (Jvm.Cond.unhidden "ModeDesk$Places$1" "hasNext" "()Z") ∈ lw_tbl := lw_at lw_m4 103 rfl
theorem q912 : (Jvm.Cond.instanceMethod ({ cls := "ModeDesk$Places$1", name := "hasNext", desc := "()Z" } : Jvm.MethodName)) ∈ lw_all := lw_g (lw_at lw_m4 104 rfl) rfl
theorem q913 : (Jvm.Cond.publicMethod ({ cls := "ModeDesk$Places$1", name := "hasNext", desc := "()Z" } : Jvm.MethodName)) ∈ lw_tbl := lw_at lw_m4 105 rfl
theorem q914 : (Jvm.Cond.code ({ cls := "ModeDesk$Places$1", name := "hasNext", desc := "()Z" } : Jvm.MethodName) prog_13_method_2_code (1 : Nat) (Option.some Jvm.ClassFile.FieldType.boolean)) ∈ lw_all := lw_g (lw_at lw_m4 106 rfl) rfl
theorem q925 : (Jvm.Cond.selects "ModeDesk$Places$1" ({ cls := "java/util/Iterator", name := "next", desc := "()Ljava/lang/Object;" } : Jvm.MethodName) ({ cls := "ModeDesk$Places$1", name := "next", desc := "()Ljava/lang/Object;" } : Jvm.MethodName)) ∈ lw_all := lw_g (lw_at lw_m4 117 rfl) rfl
theorem q926 : (Jvm.Cond.unhidden "ModeDesk$Places$1" "next" "()Ljava/lang/Object;") ∈ lw_tbl := lw_at lw_m4 118 rfl
theorem q927 : (Jvm.Cond.instanceMethod ({ cls := "ModeDesk$Places$1", name := "next", desc := "()Ljava/lang/Object;" } : Jvm.MethodName)) ∈ lw_all := lw_g (lw_at lw_m4 119 rfl) rfl
theorem q928 : (Jvm.Cond.publicMethod ({ cls := "ModeDesk$Places$1", name := "next", desc := "()Ljava/lang/Object;" } : Jvm.MethodName)) ∈ lw_tbl := lw_at lw_m4 120 rfl
theorem q929 : (Jvm.Cond.code ({ cls := "ModeDesk$Places$1", name := "next", desc := "()Ljava/lang/Object;" } : Jvm.MethodName) prog_13_method_4_code (1 : Nat) (Option.some (Jvm.ClassFile.FieldType.object "java/lang/Object"))) ∈ lw_all := lw_g (lw_at lw_m4 121 rfl) rfl
theorem q930 : (Jvm.Cond.methodLink "ModeDesk$Places$1" (35 : Nat) ({ cls := "ModeDesk$Places$1", name := "next", desc := "()Ljava/lang/Integer;" } : Jvm.MethodName)) ∈ lw_all := lw_g (lw_at lw_m4 122 rfl) rfl
theorem q931 : (Jvm.Cond.instanceMethod ({ cls := "ModeDesk$Places$1", name := "next", desc := "()Ljava/lang/Integer;" } : Jvm.MethodName)) ∈ lw_all := lw_g (lw_at lw_m4 123 rfl) rfl
theorem q932 : (Jvm.Cond.selects "ModeDesk$Places$1" ({ cls := "ModeDesk$Places$1", name := "next", desc := "()Ljava/lang/Integer;" } : Jvm.MethodName) ({ cls := "ModeDesk$Places$1", name := "next", desc := "()Ljava/lang/Integer;" } : Jvm.MethodName)) ∈ lw_all := lw_g (lw_at lw_m4 124 rfl) rfl
theorem q933 : (Jvm.Cond.code ({ cls := "ModeDesk$Places$1", name := "next", desc := "()Ljava/lang/Integer;" } : Jvm.MethodName) prog_13_method_3_code (1 : Nat) (Option.some (Jvm.ClassFile.FieldType.object "java/lang/Integer"))) ∈ lw_all := lw_g (lw_at lw_m4 125 rfl) rfl
theorem q934 : (Jvm.Cond.classLink "ModeDesk$Places$1" (22 : Nat) "java/util/NoSuchElementException") ∈ lw_all := lw_g (lw_at lw_m4 126 rfl) rfl
theorem q945 : (Jvm.Cond.methodLink "ModeDesk$Places$1" (24 : Nat) ({ cls := "java/util/NoSuchElementException", name := "<init>", desc := "()V" } : Jvm.MethodName)) ∈ lw_all := lw_g (lw_at lw_m4 137 rfl) rfl
theorem q957 : (Jvm.Cond.methodLink "ModeDesk$Places$1" (29 : Nat) ({ cls := "java/lang/Integer", name := "valueOf", desc := "(I)Ljava/lang/Integer;" } : Jvm.MethodName)) ∈ lw_all := lw_g (lw_at lw_m4 149 rfl) rfl
theorem q1998 : (Jvm.Cond.castable "ModeDesk$Places$1" "java/lang/Object") ∈ lw_tbl := lw_at lw_m8 230 rfl
theorem in_X11 : ∀ w ∈ wsX110, w ∈ lw_all := lw_in wsX110 [900, 902] (by decide +kernel) (by decide +kernel)
/-! ModeDesk$1Scale -/
set_option maxRecDepth 100000
def RX12 : String := "ModeDesk$1Scale"
def TX12 : u_T := fun k => match k with
  | 0 => ("ModeDesk$1Scale", "val$l", "I", true)
  | 1 => ("ModeDesk$1Scale", "val$r", "I", true)
  | _ => ("ModeDesk$1Scale", "this$0", "LModeDesk;", true)
def tyX12 : Nat → FieldType := fun k => match k with
  | 0 => .int
  | 1 => .int
  | _ => .object "ModeDesk"
abbrev wsX120 : List Cond := u_ws RX12 TX12 3
theorem nmX12 : ∀ a, a < 3 → ∀ b, b < 3 → a ≠ b → (TX12 a).2.1 ≠ (TX12 b).2.1 := by decide +kernel
theorem tyX12_ok : ∀ k, k < 3 → parseFieldDescriptor (TX12 k).2.2.1 = some (tyX12 k) := by decide +kernel
abbrev cX12_init : ByteArray := prog_3_method_1_code
def yX12_init : MethodName := ⟨RX12, "<init>", "(LModeDesk;II)V"⟩
def dkwX12_init_0 : List UInt8 := [42, 43, 181, 0, 1, 42, 28, 181, 0, 7, 42, 29, 181, 0, 11, 42, 183, 0, 14, 177]
abbrev dktX12_init_0 : List UInt8 := dkwX12_init_0 ++ []
theorem dksX12_init_0 : cX12_init.data.toList.drop 0 = dktX12_init_0 := by decide +kernel
theorem dX12_init_0 : decode cX12_init 0 = .ok (.aload_n 0, 1) := dk_42 (dk_at dksX12_init_0 0 rfl rfl)
theorem dX12_init_1 : decode cX12_init 1 = .ok (.aload_n 1, 1) := dk_43 (dk_at dksX12_init_0 1 rfl rfl)
theorem dX12_init_2 : decode cX12_init 2 = .ok (.putfield 1, 3) := dk_181 0 1 (dk_at dksX12_init_0 2 rfl rfl)
theorem dX12_init_5 : decode cX12_init 5 = .ok (.aload_n 0, 1) := dk_42 (dk_at dksX12_init_0 5 rfl rfl)
theorem dX12_init_6 : decode cX12_init 6 = .ok (.iload_n 2, 1) := dk_28 (dk_at dksX12_init_0 6 rfl rfl)
theorem dX12_init_7 : decode cX12_init 7 = .ok (.putfield 7, 3) := dk_181 0 7 (dk_at dksX12_init_0 7 rfl rfl)
theorem dX12_init_10 : decode cX12_init 10 = .ok (.aload_n 0, 1) := dk_42 (dk_at dksX12_init_0 10 rfl rfl)
theorem dX12_init_11 : decode cX12_init 11 = .ok (.iload_n 3, 1) := dk_29 (dk_at dksX12_init_0 11 rfl rfl)
theorem dX12_init_12 : decode cX12_init 12 = .ok (.putfield 11, 3) := dk_181 0 11 (dk_at dksX12_init_0 12 rfl rfl)
theorem dX12_init_15 : decode cX12_init 15 = .ok (.aload_n 0, 1) := dk_42 (dk_at dksX12_init_0 15 rfl rfl)
theorem dX12_init_16 : decode cX12_init 16 = .ok (.invokespecial 14, 3) := dk_183 0 14 (dk_at dksX12_init_0 16 rfl rfl)
theorem dX12_init_19 : decode cX12_init 19 = .ok (.return_, 1) := dk_177 (dk_at dksX12_init_0 19 rfl rfl)
abbrev cX12_of : ByteArray := prog_3_method_2_code
def yX12_of : MethodName := ⟨RX12, "of", "(I)I"⟩
def dkwX12_of_3 : List UInt8 := [167, 0, 4, 3, 96, 61, 167, 255, 194, 28, 172]
abbrev dktX12_of_3 : List UInt8 := dkwX12_of_3 ++ []
def dkwX12_of_2 : List UInt8 := [180, 0, 11, 133, 184, 0, 48, 153, 0, 19, 42, 180, 0, 1, 180, 0, 52, 180, 0, 56, 21, 4, 46]
abbrev dktX12_of_2 : List UInt8 := dkwX12_of_2 ++ dktX12_of_3
def dkwX12_of_1 : List UInt8 := [185, 0, 38, 1, 0, 192, 0, 42, 182, 0, 44, 54, 4, 28, 21, 4, 133, 42, 180, 0, 7, 133, 42]
abbrev dktX12_of_1 : List UInt8 := dkwX12_of_1 ++ dktX12_of_2
def dkwX12_of_0 : List UInt8 := [3, 61, 42, 180, 0, 1, 27, 182, 0, 20, 182, 0, 26, 78, 45, 185, 0, 32, 1, 0, 153, 0, 59, 45]
abbrev dktX12_of_0 : List UInt8 := dkwX12_of_0 ++ dktX12_of_1
theorem dksX12_of_0 : cX12_of.data.toList.drop 0 = dktX12_of_0 := by decide +kernel
theorem dksX12_of_1 : cX12_of.data.toList.drop 24 = dktX12_of_1 := dk_seg dksX12_of_0 24 rfl rfl
theorem dksX12_of_2 : cX12_of.data.toList.drop 47 = dktX12_of_2 := dk_seg dksX12_of_1 23 rfl rfl
theorem dksX12_of_3 : cX12_of.data.toList.drop 70 = dktX12_of_3 := dk_seg dksX12_of_2 23 rfl rfl
theorem dX12_of_0 : decode cX12_of 0 = .ok (.iconst 0, 1) := dk_3 (dk_at dksX12_of_0 0 rfl rfl)
theorem dX12_of_1 : decode cX12_of 1 = .ok (.istore_n 2, 1) := dk_61 (dk_at dksX12_of_0 1 rfl rfl)
theorem dX12_of_2 : decode cX12_of 2 = .ok (.aload_n 0, 1) := dk_42 (dk_at dksX12_of_0 2 rfl rfl)
theorem dX12_of_3 : decode cX12_of 3 = .ok (.getfield 1, 3) := dk_180 0 1 (dk_at dksX12_of_0 3 rfl rfl)
theorem dX12_of_6 : decode cX12_of 6 = .ok (.iload_n 1, 1) := dk_27 (dk_at dksX12_of_0 6 rfl rfl)
theorem dX12_of_7 : decode cX12_of 7 = .ok (.invokevirtual 20, 3) := dk_182 0 20 (dk_at dksX12_of_0 7 rfl rfl)
theorem dX12_of_10 : decode cX12_of 10 = .ok (.invokevirtual 26, 3) := dk_182 0 26 (dk_at dksX12_of_0 10 rfl rfl)
theorem dX12_of_13 : decode cX12_of 13 = .ok (.astore_n 3, 1) := dk_78 (dk_at dksX12_of_0 13 rfl rfl)
theorem dX12_of_14 : decode cX12_of 14 = .ok (.aload_n 3, 1) := dk_45 (dk_at dksX12_of_0 14 rfl rfl)
theorem dX12_of_15 : decode cX12_of 15 = .ok (.invokeinterface 32 1, 5) := by decide +kernel
theorem dX12_of_20 : decode cX12_of 20 = .ok (.ifCond .eq 59, 3) := dk_153 0 59 (dk_at dksX12_of_0 20 rfl rfl)
theorem dX12_of_23 : decode cX12_of 23 = .ok (.aload_n 3, 1) := dk_45 (dk_at dksX12_of_0 23 rfl rfl)
theorem dX12_of_24 : decode cX12_of 24 = .ok (.invokeinterface 38 1, 5) := by decide +kernel
theorem dX12_of_29 : decode cX12_of 29 = .ok (.checkcast 42, 3) := dk_192 0 42 (dk_at dksX12_of_1 5 rfl rfl)
theorem dX12_of_32 : decode cX12_of 32 = .ok (.invokevirtual 44, 3) := dk_182 0 44 (dk_at dksX12_of_1 8 rfl rfl)
theorem dX12_of_35 : decode cX12_of 35 = .ok (.istore 4, 2) := dk_54 4 (dk_at dksX12_of_1 11 rfl rfl)
theorem dX12_of_37 : decode cX12_of 37 = .ok (.iload_n 2, 1) := dk_28 (dk_at dksX12_of_1 13 rfl rfl)
theorem dX12_of_38 : decode cX12_of 38 = .ok (.iload 4, 2) := dk_21 4 (dk_at dksX12_of_1 14 rfl rfl)
theorem dX12_of_40 : decode cX12_of 40 = .ok (.i2l, 1) := dk_133 (dk_at dksX12_of_1 16 rfl rfl)
theorem dX12_of_41 : decode cX12_of 41 = .ok (.aload_n 0, 1) := dk_42 (dk_at dksX12_of_1 17 rfl rfl)
theorem dX12_of_42 : decode cX12_of 42 = .ok (.getfield 7, 3) := dk_180 0 7 (dk_at dksX12_of_1 18 rfl rfl)
theorem dX12_of_45 : decode cX12_of 45 = .ok (.i2l, 1) := dk_133 (dk_at dksX12_of_1 21 rfl rfl)
theorem dX12_of_46 : decode cX12_of 46 = .ok (.aload_n 0, 1) := dk_42 (dk_at dksX12_of_1 22 rfl rfl)
theorem dX12_of_47 : decode cX12_of 47 = .ok (.getfield 11, 3) := dk_180 0 11 (dk_at dksX12_of_2 0 rfl rfl)
theorem dX12_of_50 : decode cX12_of 50 = .ok (.i2l, 1) := dk_133 (dk_at dksX12_of_2 3 rfl rfl)
theorem dX12_of_51 : decode cX12_of 51 = .ok (.invokestatic 48, 3) := dk_184 0 48 (dk_at dksX12_of_2 4 rfl rfl)
theorem dX12_of_54 : decode cX12_of 54 = .ok (.ifCond .eq 19, 3) := dk_153 0 19 (dk_at dksX12_of_2 7 rfl rfl)
theorem dX12_of_57 : decode cX12_of 57 = .ok (.aload_n 0, 1) := dk_42 (dk_at dksX12_of_2 10 rfl rfl)
theorem dX12_of_58 : decode cX12_of 58 = .ok (.getfield 1, 3) := dk_180 0 1 (dk_at dksX12_of_2 11 rfl rfl)
theorem dX12_of_61 : decode cX12_of 61 = .ok (.getfield 52, 3) := dk_180 0 52 (dk_at dksX12_of_2 14 rfl rfl)
theorem dX12_of_64 : decode cX12_of 64 = .ok (.getfield 56, 3) := dk_180 0 56 (dk_at dksX12_of_2 17 rfl rfl)
theorem dX12_of_67 : decode cX12_of 67 = .ok (.iload 4, 2) := dk_21 4 (dk_at dksX12_of_2 20 rfl rfl)
theorem dX12_of_69 : decode cX12_of 69 = .ok (.iaload, 1) := dk_46 (dk_at dksX12_of_2 22 rfl rfl)
theorem dX12_of_70 : decode cX12_of 70 = .ok (.goto 4, 3) := dk_167 0 4 (dk_at dksX12_of_3 0 rfl rfl)
theorem dX12_of_73 : decode cX12_of 73 = .ok (.iconst 0, 1) := dk_3 (dk_at dksX12_of_3 3 rfl rfl)
theorem dX12_of_74 : decode cX12_of 74 = .ok (.iadd, 1) := dk_96 (dk_at dksX12_of_3 4 rfl rfl)
theorem dX12_of_75 : decode cX12_of 75 = .ok (.istore_n 2, 1) := dk_61 (dk_at dksX12_of_3 5 rfl rfl)
theorem dX12_of_76 : decode cX12_of 76 = .ok (.goto (-62), 3) := dk_167 255 194 (dk_at dksX12_of_3 6 rfl rfl)
theorem dX12_of_79 : decode cX12_of 79 = .ok (.iload_n 2, 1) := dk_28 (dk_at dksX12_of_3 9 rfl rfl)
theorem dX12_of_80 : decode cX12_of 80 = .ok (.ireturn, 1) := dk_172 (dk_at dksX12_of_3 10 rfl rfl)
theorem q119 : (Jvm.Cond.initialized "ModeDesk$1Scale") ∈ lw_all := lw_g (lw_at lw_m1 31 rfl) rfl
theorem q143 : (Jvm.Cond.fieldLinkNest "ModeDesk$1Scale" (56 : Nat) "ModeDesk$Row" "weight" "[I" "ModeDesk") ∈ lw_tbl := lw_at lw_m1 55 rfl
theorem q212 : (Jvm.Cond.fieldLinkNest "ModeDesk$1Scale" (52 : Nat) "ModeDesk" "row" "LModeDesk$Row;" "ModeDesk") ∈ lw_tbl := lw_at lw_m1 124 rfl
theorem q1092 : (Jvm.Cond.instantiable "ModeDesk$1Scale" (3 : Nat)) ∈ lw_all := lw_g (lw_at lw_m5 44 rfl) rfl
theorem q1094 : (Jvm.Cond.instanceMethod ({ cls := "ModeDesk$1Scale", name := "<init>", desc := "(LModeDesk;II)V" } : Jvm.MethodName)) ∈ lw_all := lw_g (lw_at lw_m5 46 rfl) rfl
theorem q1095 : (Jvm.Cond.code ({ cls := "ModeDesk$1Scale", name := "<init>", desc := "(LModeDesk;II)V" } : Jvm.MethodName) prog_3_method_1_code (4 : Nat) (Option.none : Option Jvm.ClassFile.FieldType)) ∈ lw_all := lw_g (lw_at lw_m5 47 rfl) rfl
theorem q1096 : (Jvm.Cond.methodLink "ModeDesk$1Scale" (14 : Nat) ({ cls := "java/lang/Object", name := "<init>", desc := "()V" } : Jvm.MethodName)) ∈ lw_all := lw_g (lw_at lw_m5 48 rfl) rfl
theorem q1097 : (Jvm.Cond.fieldLink "ModeDesk$1Scale" (7 : Nat) "ModeDesk$1Scale" "val$l" "I") ∈ lw_all := lw_g (lw_at lw_m5 49 rfl) rfl
theorem q1098 : (Jvm.Cond.fieldLink "ModeDesk$1Scale" (11 : Nat) "ModeDesk$1Scale" "val$r" "I") ∈ lw_all := lw_g (lw_at lw_m5 50 rfl) rfl
theorem q1099 : (Jvm.Cond.fieldLink "ModeDesk$1Scale" (1 : Nat) "ModeDesk$1Scale" "this$0" "LModeDesk;") ∈ lw_all := lw_g (lw_at lw_m5 51 rfl) rfl
theorem q1100 : (Jvm.Cond.laysFinal "ModeDesk$1Scale" "ModeDesk$1Scale" "val$l" "I") ∈ lw_all := lw_g (lw_at lw_m5 52 rfl) rfl
theorem q1101 : (Jvm.Cond.soleField "ModeDesk$1Scale" "val$l") ∈ lw_all := lw_g (lw_at lw_m5 53 rfl) rfl
theorem q1102 : (Jvm.Cond.laysFinal "ModeDesk$1Scale" "ModeDesk$1Scale" "val$r" "I") ∈ lw_all := lw_g (lw_at lw_m5 54 rfl) rfl
theorem q1103 : (Jvm.Cond.soleField "ModeDesk$1Scale" "val$r") ∈ lw_all := lw_g (lw_at lw_m5 55 rfl) rfl
theorem q1104 : (Jvm.Cond.laysFinal "ModeDesk$1Scale" "ModeDesk$1Scale" "this$0" "LModeDesk;") ∈ lw_all := lw_g (lw_at lw_m5 56 rfl) rfl
theorem q1105 : (Jvm.Cond.soleField "ModeDesk$1Scale" "this$0") ∈ lw_all := lw_g (lw_at lw_m5 57 rfl) rfl
theorem q1106 : (Jvm.Cond.superclass "ModeDesk$1Scale" "java/lang/Object") ∈ lw_all := lw_g (lw_at lw_m5 58 rfl) rfl
theorem q1108 : (Jvm.Cond.instanceMethod ({ cls := "ModeDesk$1Scale", name := "of", desc := "(I)I" } : Jvm.MethodName)) ∈ lw_all := lw_g (lw_at lw_m5 60 rfl) rfl
theorem q1109 : (Jvm.Cond.selects "ModeDesk$1Scale" ({ cls := "ModeDesk$1Scale", name := "of", desc := "(I)I" } : Jvm.MethodName) ({ cls := "ModeDesk$1Scale", name := "of", desc := "(I)I" } : Jvm.MethodName)) ∈ lw_all := lw_g (lw_at lw_m5 61 rfl) rfl
theorem q1110 : (Jvm.Cond.code ({ cls := "ModeDesk$1Scale", name := "of", desc := "(I)I" } : Jvm.MethodName) prog_3_method_2_code (5 : Nat) (Option.some Jvm.ClassFile.FieldType.int)) ∈ lw_all := lw_g (lw_at lw_m5 62 rfl) rfl
theorem q1111 : (Jvm.Cond.methodLinkNest "ModeDesk$1Scale" (20 : Nat) ({ cls := "ModeDesk", name := "of", desc := "(I)LModeDesk$Places;" } : Jvm.MethodName) "ModeDesk") ∈ lw_tbl := lw_at lw_m5 63 rfl
theorem q1112 : (Jvm.Cond.methodLink "ModeDesk$1Scale" (26 : Nat) ({ cls := "ModeDesk$Places", name := "iterator", desc := "()Ljava/util/Iterator;" } : Jvm.MethodName)) ∈ lw_all := lw_g (lw_at lw_m5 64 rfl) rfl
theorem q1113 : (Jvm.Cond.interfaceEntry "ModeDesk$1Scale" (32 : Nat)) ∈ lw_tbl := lw_at lw_m5 65 rfl
theorem q1114 : (Jvm.Cond.methodLink "ModeDesk$1Scale" (32 : Nat) ({ cls := "java/util/Iterator", name := "hasNext", desc := "()Z" } : Jvm.MethodName)) ∈ lw_all := lw_g (lw_at lw_m5 66 rfl) rfl
theorem q1115 : (Jvm.Cond.interfaceEntry "ModeDesk$1Scale" (38 : Nat)) ∈ lw_tbl := lw_at lw_m5 67 rfl
theorem q1116 : (Jvm.Cond.methodLink "ModeDesk$1Scale" (38 : Nat) ({ cls := "java/util/Iterator", name := "next", desc := "()Ljava/lang/Object;" } : Jvm.MethodName)) ∈ lw_all := lw_g (lw_at lw_m5 68 rfl) rfl
theorem q1117 : (Jvm.Cond.classLink "ModeDesk$1Scale" (42 : Nat) "java/lang/Integer") ∈ lw_all := lw_g (lw_at lw_m5 69 rfl) rfl
theorem q1118 : (Jvm.Cond.methodLink "ModeDesk$1Scale" (44 : Nat) ({ cls := "java/lang/Integer", name := "intValue", desc := "()I" } : Jvm.MethodName)) ∈ lw_all := lw_g (lw_at lw_m5 70 rfl) rfl
theorem q1119 : (Jvm.Cond.methodLinkNest "ModeDesk$1Scale" (48 : Nat) ({ cls := "ModeDesk", name := "isIn", desc := "(JJJ)Z" } : Jvm.MethodName) "ModeDesk") ∈ lw_tbl := lw_at lw_m5 71 rfl
theorem q2000 : (Jvm.Cond.castable "ModeDesk$1Scale" "java/lang/Object") ∈ lw_tbl := lw_at lw_m8 232 rfl
theorem in_X12 : ∀ w ∈ wsX120, w ∈ lw_all := lw_in wsX120 [1100, 1102, 1104] (by decide +kernel) (by decide +kernel)
/-! ModeDesk$Windows -/
set_option maxRecDepth 100000
def RX13 : String := "ModeDesk$Windows"
def TX13 : u_T := fun k => match k with
  | 0 => ("ModeDesk$Windows", "width", "I", true)
  | 1 => ("ModeDesk$Windows", "l", "I", false)
  | _ => ("ModeDesk$Windows", "this$0", "LModeDesk;", true)
def tyX13 : Nat → FieldType := fun k => match k with
  | 0 => .int
  | 1 => .int
  | _ => .object "ModeDesk"
abbrev wsX130 : List Cond := u_ws RX13 TX13 3
theorem nmX13 : ∀ a, a < 3 → ∀ b, b < 3 → a ≠ b → (TX13 a).2.1 ≠ (TX13 b).2.1 := by decide +kernel
theorem tyX13_ok : ∀ k, k < 3 → parseFieldDescriptor (TX13 k).2.2.1 = some (tyX13 k) := by decide +kernel
abbrev cX13_hasNext : ByteArray := prog_17_method_2_code
def yX13_hasNext : MethodName := ⟨RX13, "hasNext", "()Z"⟩
def dkwX13_hasNext_1 : List UInt8 := [167, 0, 4, 3, 172]
abbrev dktX13_hasNext_1 : List UInt8 := dkwX13_hasNext_1 ++ []
def dkwX13_hasNext_0 : List UInt8 := [42, 180, 0, 17, 42, 180, 0, 13, 96, 42, 180, 0, 1, 180, 0, 20, 180, 0, 26, 163, 0, 7, 4]
abbrev dktX13_hasNext_0 : List UInt8 := dkwX13_hasNext_0 ++ dktX13_hasNext_1
theorem dksX13_hasNext_0 : cX13_hasNext.data.toList.drop 0 = dktX13_hasNext_0 := by decide +kernel
theorem dksX13_hasNext_1 : cX13_hasNext.data.toList.drop 23 = dktX13_hasNext_1 := dk_seg dksX13_hasNext_0 23 rfl rfl
theorem dX13_hasNext_0 : decode cX13_hasNext 0 = .ok (.aload_n 0, 1) := dk_42 (dk_at dksX13_hasNext_0 0 rfl rfl)
theorem dX13_hasNext_1 : decode cX13_hasNext 1 = .ok (.getfield 17, 3) := dk_180 0 17 (dk_at dksX13_hasNext_0 1 rfl rfl)
theorem dX13_hasNext_4 : decode cX13_hasNext 4 = .ok (.aload_n 0, 1) := dk_42 (dk_at dksX13_hasNext_0 4 rfl rfl)
theorem dX13_hasNext_5 : decode cX13_hasNext 5 = .ok (.getfield 13, 3) := dk_180 0 13 (dk_at dksX13_hasNext_0 5 rfl rfl)
theorem dX13_hasNext_8 : decode cX13_hasNext 8 = .ok (.iadd, 1) := dk_96 (dk_at dksX13_hasNext_0 8 rfl rfl)
theorem dX13_hasNext_9 : decode cX13_hasNext 9 = .ok (.aload_n 0, 1) := dk_42 (dk_at dksX13_hasNext_0 9 rfl rfl)
theorem dX13_hasNext_10 : decode cX13_hasNext 10 = .ok (.getfield 1, 3) := dk_180 0 1 (dk_at dksX13_hasNext_0 10 rfl rfl)
theorem dX13_hasNext_13 : decode cX13_hasNext 13 = .ok (.getfield 20, 3) := dk_180 0 20 (dk_at dksX13_hasNext_0 13 rfl rfl)
theorem dX13_hasNext_16 : decode cX13_hasNext 16 = .ok (.getfield 26, 3) := dk_180 0 26 (dk_at dksX13_hasNext_0 16 rfl rfl)
theorem dX13_hasNext_19 : decode cX13_hasNext 19 = .ok (.if_icmp .gt 7, 3) := dk_163 0 7 (dk_at dksX13_hasNext_0 19 rfl rfl)
theorem dX13_hasNext_22 : decode cX13_hasNext 22 = .ok (.iconst 1, 1) := dk_4 (dk_at dksX13_hasNext_0 22 rfl rfl)
theorem dX13_hasNext_23 : decode cX13_hasNext 23 = .ok (.goto 4, 3) := dk_167 0 4 (dk_at dksX13_hasNext_1 0 rfl rfl)
theorem dX13_hasNext_26 : decode cX13_hasNext 26 = .ok (.iconst 0, 1) := dk_3 (dk_at dksX13_hasNext_1 3 rfl rfl)
theorem dX13_hasNext_27 : decode cX13_hasNext 27 = .ok (.ireturn, 1) := dk_172 (dk_at dksX13_hasNext_1 4 rfl rfl)
abbrev cX13_next : ByteArray := prog_17_method_4_code
def yX13_next : MethodName := ⟨RX13, "next", "()Ljava/lang/Object;"⟩
theorem dX13_next_0 : decode cX13_next 0 = .ok (.aload_n 0, 1) := by decide +kernel
theorem dX13_next_1 : decode cX13_next 1 = .ok (.invokevirtual 48, 3) := by decide +kernel
theorem dX13_next_4 : decode cX13_next 4 = .ok (.areturn, 1) := by decide +kernel
abbrev cX13_next_2 : ByteArray := prog_17_method_3_code
def yX13_next_2 : MethodName := ⟨RX13, "next", "()Ljava/lang/Integer;"⟩
def dkwX13_next_2_2 : List UInt8 := [182, 0, 38, 184, 0, 42, 176]
abbrev dktX13_next_2_2 : List UInt8 := dkwX13_next_2_2 ++ []
def dkwX13_next_2_1 : List UInt8 := [181, 0, 17, 42, 180, 0, 1, 42, 180, 0, 17, 4, 100, 42, 180, 0, 17, 42, 180, 0, 13, 96, 5, 100]
abbrev dktX13_next_2_1 : List UInt8 := dkwX13_next_2_1 ++ dktX13_next_2_2
def dkwX13_next_2_0 : List UInt8 := [42, 182, 0, 31, 154, 0, 11, 187, 0, 35, 89, 183, 0, 37, 191, 42, 89, 180, 0, 17, 4, 96]
abbrev dktX13_next_2_0 : List UInt8 := dkwX13_next_2_0 ++ dktX13_next_2_1
theorem dksX13_next_2_0 : cX13_next_2.data.toList.drop 0 = dktX13_next_2_0 := by decide +kernel
theorem dksX13_next_2_1 : cX13_next_2.data.toList.drop 22 = dktX13_next_2_1 := dk_seg dksX13_next_2_0 22 rfl rfl
theorem dksX13_next_2_2 : cX13_next_2.data.toList.drop 46 = dktX13_next_2_2 := dk_seg dksX13_next_2_1 24 rfl rfl
theorem dX13_next_2_0 : decode cX13_next_2 0 = .ok (.aload_n 0, 1) := dk_42 (dk_at dksX13_next_2_0 0 rfl rfl)
theorem dX13_next_2_1 : decode cX13_next_2 1 = .ok (.invokevirtual 31, 3) := dk_182 0 31 (dk_at dksX13_next_2_0 1 rfl rfl)
theorem dX13_next_2_4 : decode cX13_next_2 4 = .ok (.ifCond .ne 11, 3) := dk_154 0 11 (dk_at dksX13_next_2_0 4 rfl rfl)
theorem dX13_next_2_7 : decode cX13_next_2 7 = .ok (.new 35, 3) := dk_187 0 35 (dk_at dksX13_next_2_0 7 rfl rfl)
theorem dX13_next_2_10 : decode cX13_next_2 10 = .ok (.dup, 1) := dk_89 (dk_at dksX13_next_2_0 10 rfl rfl)
theorem dX13_next_2_11 : decode cX13_next_2 11 = .ok (.invokespecial 37, 3) := dk_183 0 37 (dk_at dksX13_next_2_0 11 rfl rfl)
theorem dX13_next_2_14 : decode cX13_next_2 14 = .ok (.athrow, 1) := dk_191 (dk_at dksX13_next_2_0 14 rfl rfl)
theorem dX13_next_2_15 : decode cX13_next_2 15 = .ok (.aload_n 0, 1) := dk_42 (dk_at dksX13_next_2_0 15 rfl rfl)
theorem dX13_next_2_16 : decode cX13_next_2 16 = .ok (.dup, 1) := dk_89 (dk_at dksX13_next_2_0 16 rfl rfl)
theorem dX13_next_2_17 : decode cX13_next_2 17 = .ok (.getfield 17, 3) := dk_180 0 17 (dk_at dksX13_next_2_0 17 rfl rfl)
theorem dX13_next_2_20 : decode cX13_next_2 20 = .ok (.iconst 1, 1) := dk_4 (dk_at dksX13_next_2_0 20 rfl rfl)
theorem dX13_next_2_21 : decode cX13_next_2 21 = .ok (.iadd, 1) := dk_96 (dk_at dksX13_next_2_0 21 rfl rfl)
theorem dX13_next_2_22 : decode cX13_next_2 22 = .ok (.putfield 17, 3) := dk_181 0 17 (dk_at dksX13_next_2_1 0 rfl rfl)
theorem dX13_next_2_25 : decode cX13_next_2 25 = .ok (.aload_n 0, 1) := dk_42 (dk_at dksX13_next_2_1 3 rfl rfl)
theorem dX13_next_2_26 : decode cX13_next_2 26 = .ok (.getfield 1, 3) := dk_180 0 1 (dk_at dksX13_next_2_1 4 rfl rfl)
theorem dX13_next_2_29 : decode cX13_next_2 29 = .ok (.aload_n 0, 1) := dk_42 (dk_at dksX13_next_2_1 7 rfl rfl)
theorem dX13_next_2_30 : decode cX13_next_2 30 = .ok (.getfield 17, 3) := dk_180 0 17 (dk_at dksX13_next_2_1 8 rfl rfl)
theorem dX13_next_2_33 : decode cX13_next_2 33 = .ok (.iconst 1, 1) := dk_4 (dk_at dksX13_next_2_1 11 rfl rfl)
theorem dX13_next_2_34 : decode cX13_next_2 34 = .ok (.isub, 1) := dk_100 (dk_at dksX13_next_2_1 12 rfl rfl)
theorem dX13_next_2_35 : decode cX13_next_2 35 = .ok (.aload_n 0, 1) := dk_42 (dk_at dksX13_next_2_1 13 rfl rfl)
theorem dX13_next_2_36 : decode cX13_next_2 36 = .ok (.getfield 17, 3) := dk_180 0 17 (dk_at dksX13_next_2_1 14 rfl rfl)
theorem dX13_next_2_39 : decode cX13_next_2 39 = .ok (.aload_n 0, 1) := dk_42 (dk_at dksX13_next_2_1 17 rfl rfl)
theorem dX13_next_2_40 : decode cX13_next_2 40 = .ok (.getfield 13, 3) := dk_180 0 13 (dk_at dksX13_next_2_1 18 rfl rfl)
theorem dX13_next_2_43 : decode cX13_next_2 43 = .ok (.iadd, 1) := dk_96 (dk_at dksX13_next_2_1 21 rfl rfl)
theorem dX13_next_2_44 : decode cX13_next_2 44 = .ok (.iconst 2, 1) := dk_5 (dk_at dksX13_next_2_1 22 rfl rfl)
theorem dX13_next_2_45 : decode cX13_next_2 45 = .ok (.isub, 1) := dk_100 (dk_at dksX13_next_2_1 23 rfl rfl)
theorem dX13_next_2_46 : decode cX13_next_2 46 = .ok (.invokevirtual 38, 3) := dk_182 0 38 (dk_at dksX13_next_2_2 0 rfl rfl)
theorem dX13_next_2_49 : decode cX13_next_2 49 = .ok (.invokestatic 42, 3) := dk_184 0 42 (dk_at dksX13_next_2_2 3 rfl rfl)
theorem dX13_next_2_52 : decode cX13_next_2 52 = .ok (.areturn, 1) := dk_176 (dk_at dksX13_next_2_2 6 rfl rfl)
abbrev cX13_init : ByteArray := prog_17_method_1_code
def yX13_init : MethodName := ⟨RX13, "<init>", "(LModeDesk;I)V"⟩
def dkwX13_init_0 : List UInt8 := [42, 43, 181, 0, 1, 42, 183, 0, 7, 42, 28, 181, 0, 13, 177]
abbrev dktX13_init_0 : List UInt8 := dkwX13_init_0 ++ []
theorem dksX13_init_0 : cX13_init.data.toList.drop 0 = dktX13_init_0 := by decide +kernel
theorem dX13_init_0 : decode cX13_init 0 = .ok (.aload_n 0, 1) := dk_42 (dk_at dksX13_init_0 0 rfl rfl)
theorem dX13_init_1 : decode cX13_init 1 = .ok (.aload_n 1, 1) := dk_43 (dk_at dksX13_init_0 1 rfl rfl)
theorem dX13_init_2 : decode cX13_init 2 = .ok (.putfield 1, 3) := dk_181 0 1 (dk_at dksX13_init_0 2 rfl rfl)
theorem dX13_init_5 : decode cX13_init 5 = .ok (.aload_n 0, 1) := dk_42 (dk_at dksX13_init_0 5 rfl rfl)
theorem dX13_init_6 : decode cX13_init 6 = .ok (.invokespecial 7, 3) := dk_183 0 7 (dk_at dksX13_init_0 6 rfl rfl)
theorem dX13_init_9 : decode cX13_init 9 = .ok (.aload_n 0, 1) := dk_42 (dk_at dksX13_init_0 9 rfl rfl)
theorem dX13_init_10 : decode cX13_init 10 = .ok (.iload_n 2, 1) := dk_28 (dk_at dksX13_init_0 10 rfl rfl)
theorem dX13_init_11 : decode cX13_init 11 = .ok (.putfield 13, 3) := dk_181 0 13 (dk_at dksX13_init_0 11 rfl rfl)
theorem dX13_init_14 : decode cX13_init 14 = .ok (.return_, 1) := dk_177 (dk_at dksX13_init_0 14 rfl rfl)
theorem q120 : (Jvm.Cond.initialized "ModeDesk$Windows") ∈ lw_all := lw_g (lw_at lw_m1 32 rfl) rfl
theorem q146 : (Jvm.Cond.fieldLinkNest "ModeDesk$Windows" (26 : Nat) "ModeDesk$Row" "many" "I" "ModeDesk") ∈ lw_tbl := lw_at lw_m1 58 rfl
theorem q211 : (Jvm.Cond.fieldLinkNest "ModeDesk$Windows" (20 : Nat) "ModeDesk" "row" "LModeDesk$Row;" "ModeDesk") ∈ lw_tbl := lw_at lw_m1 123 rfl
theorem q915 : (Jvm.Cond.castable "ModeDesk$Windows" "java/util/Iterator") ∈ lw_tbl := lw_at lw_m4 107 rfl
theorem q916 : (Jvm.Cond.selects "ModeDesk$Windows" ({ cls := "java/util/Iterator", name := "hasNext", desc := "()Z" } : Jvm.MethodName) ({ cls := "ModeDesk$Windows", name := "hasNext", desc := "()Z" } : Jvm.MethodName)) ∈ lw_all := lw_g (lw_at lw_m4 108 rfl) rfl
theorem q917 : (Jvm.Cond.unhidden "ModeDesk$Windows" "hasNext" "()Z") ∈ lw_tbl := lw_at lw_m4 109 rfl
theorem q918 : (Jvm.Cond.instanceMethod ({ cls := "ModeDesk$Windows", name := "hasNext", desc := "()Z" } : Jvm.MethodName)) ∈ lw_all := lw_g (lw_at lw_m4 110 rfl) rfl
theorem q919 : (Jvm.Cond.publicMethod ({ cls := "ModeDesk$Windows", name := "hasNext", desc := "()Z" } : Jvm.MethodName)) ∈ lw_tbl := lw_at lw_m4 111 rfl
theorem q920 : (Jvm.Cond.code ({ cls := "ModeDesk$Windows", name := "hasNext", desc := "()Z" } : Jvm.MethodName) prog_17_method_2_code (1 : Nat) (Option.some Jvm.ClassFile.FieldType.boolean)) ∈ lw_all := lw_g (lw_at lw_m4 112 rfl) rfl
theorem q977 : (Jvm.Cond.selects "ModeDesk$Windows" ({ cls := "java/util/Iterator", name := "next", desc := "()Ljava/lang/Object;" } : Jvm.MethodName) ({ cls := "ModeDesk$Windows", name := "next", desc := "()Ljava/lang/Object;" } : Jvm.MethodName)) ∈ lw_all := lw_g (lw_at lw_m4 169 rfl) rfl
theorem q978 : (Jvm.Cond.unhidden "ModeDesk$Windows" "next" "()Ljava/lang/Object;") ∈ lw_tbl := lw_at lw_m4 170 rfl
theorem q979 : (Jvm.Cond.instanceMethod ({ cls := "ModeDesk$Windows", name := "next", desc := "()Ljava/lang/Object;" } : Jvm.MethodName)) ∈ lw_all := lw_g (lw_at lw_m4 171 rfl) rfl
theorem q980 : (Jvm.Cond.publicMethod ({ cls := "ModeDesk$Windows", name := "next", desc := "()Ljava/lang/Object;" } : Jvm.MethodName)) ∈ lw_tbl := lw_at lw_m4 172 rfl
theorem q981 : (Jvm.Cond.code ({ cls := "ModeDesk$Windows", name := "next", desc := "()Ljava/lang/Object;" } : Jvm.MethodName) prog_17_method_4_code (1 : Nat) (Option.some (Jvm.ClassFile.FieldType.object "java/lang/Object"))) ∈ lw_all := lw_g (lw_at lw_m4 173 rfl) rfl
theorem q982 : (Jvm.Cond.methodLink "ModeDesk$Windows" (48 : Nat) ({ cls := "ModeDesk$Windows", name := "next", desc := "()Ljava/lang/Integer;" } : Jvm.MethodName)) ∈ lw_all := lw_g (lw_at lw_m4 174 rfl) rfl
theorem q983 : (Jvm.Cond.instanceMethod ({ cls := "ModeDesk$Windows", name := "next", desc := "()Ljava/lang/Integer;" } : Jvm.MethodName)) ∈ lw_all := lw_g (lw_at lw_m4 175 rfl) rfl
theorem q984 : (Jvm.Cond.selects "ModeDesk$Windows" ({ cls := "ModeDesk$Windows", name := "next", desc := "()Ljava/lang/Integer;" } : Jvm.MethodName) ({ cls := "ModeDesk$Windows", name := "next", desc := "()Ljava/lang/Integer;" } : Jvm.MethodName)) ∈ lw_all := lw_g (lw_at lw_m4 176 rfl) rfl
theorem q985 : (Jvm.Cond.code ({ cls := "ModeDesk$Windows", name := "next", desc := "()Ljava/lang/Integer;" } : Jvm.MethodName) prog_17_method_3_code (1 : Nat) (Option.some (Jvm.ClassFile.FieldType.object "java/lang/Integer"))) ∈ lw_all := lw_g (lw_at lw_m4 177 rfl) rfl
theorem q986 : (Jvm.Cond.methodLink "ModeDesk$Windows" (31 : Nat) ({ cls := "ModeDesk$Windows", name := "hasNext", desc := "()Z" } : Jvm.MethodName)) ∈ lw_all := lw_g (lw_at lw_m4 178 rfl) rfl
theorem q987 : (Jvm.Cond.classLink "ModeDesk$Windows" (35 : Nat) "java/util/NoSuchElementException") ∈ lw_all := lw_g (lw_at lw_m4 179 rfl) rfl
theorem q988 : (Jvm.Cond.methodLink "ModeDesk$Windows" (37 : Nat) ({ cls := "java/util/NoSuchElementException", name := "<init>", desc := "()V" } : Jvm.MethodName)) ∈ lw_all := lw_g (lw_at lw_m4 180 rfl) rfl
theorem q989 : (Jvm.Cond.methodLinkNest "ModeDesk$Windows" (38 : Nat) ({ cls := "ModeDesk", name := "modeOf", desc := "(II)I" } : Jvm.MethodName) "ModeDesk") ∈ lw_tbl := lw_at lw_m4 181 rfl
theorem q1017 : (Jvm.Cond.methodLink "ModeDesk$Windows" (42 : Nat) ({ cls := "java/lang/Integer", name := "valueOf", desc := "(I)Ljava/lang/Integer;" } : Jvm.MethodName)) ∈ lw_all := lw_g (lw_at lw_m4 209 rfl) rfl
theorem q1158 : (Jvm.Cond.instantiable "ModeDesk$Windows" (3 : Nat)) ∈ lw_all := lw_g (lw_at lw_m5 110 rfl) rfl
theorem q1160 : (Jvm.Cond.instanceMethod ({ cls := "ModeDesk$Windows", name := "<init>", desc := "(LModeDesk;I)V" } : Jvm.MethodName)) ∈ lw_all := lw_g (lw_at lw_m5 112 rfl) rfl
theorem q1161 : (Jvm.Cond.code ({ cls := "ModeDesk$Windows", name := "<init>", desc := "(LModeDesk;I)V" } : Jvm.MethodName) prog_17_method_1_code (3 : Nat) (Option.none : Option Jvm.ClassFile.FieldType)) ∈ lw_all := lw_g (lw_at lw_m5 113 rfl) rfl
theorem q1162 : (Jvm.Cond.methodLink "ModeDesk$Windows" (7 : Nat) ({ cls := "java/lang/Object", name := "<init>", desc := "()V" } : Jvm.MethodName)) ∈ lw_all := lw_g (lw_at lw_m5 114 rfl) rfl
theorem q1163 : (Jvm.Cond.fieldLink "ModeDesk$Windows" (13 : Nat) "ModeDesk$Windows" "width" "I") ∈ lw_all := lw_g (lw_at lw_m5 115 rfl) rfl
theorem q1164 : (Jvm.Cond.fieldLink "ModeDesk$Windows" (17 : Nat) "ModeDesk$Windows" "l" "I") ∈ lw_all := lw_g (lw_at lw_m5 116 rfl) rfl
theorem q1165 : (Jvm.Cond.fieldLink "ModeDesk$Windows" (1 : Nat) "ModeDesk$Windows" "this$0" "LModeDesk;") ∈ lw_all := lw_g (lw_at lw_m5 117 rfl) rfl
theorem q1166 : (Jvm.Cond.laysFinal "ModeDesk$Windows" "ModeDesk$Windows" "width" "I") ∈ lw_all := lw_g (lw_at lw_m5 118 rfl) rfl
theorem q1167 : (Jvm.Cond.soleField "ModeDesk$Windows" "width") ∈ lw_all := lw_g (lw_at lw_m5 119 rfl) rfl
theorem q1168 : (Jvm.Cond.lays "ModeDesk$Windows" "ModeDesk$Windows" "l" "I") ∈ lw_all := lw_g (lw_at lw_m5 120 rfl) rfl
theorem q1169 : (Jvm.Cond.soleField "ModeDesk$Windows" "l") ∈ lw_all := lw_g (lw_at lw_m5 121 rfl) rfl
theorem q1170 : (Jvm.Cond.laysFinal "ModeDesk$Windows" "ModeDesk$Windows" "this$0" "LModeDesk;") ∈ lw_all := lw_g (lw_at lw_m5 122 rfl) rfl
theorem q1171 : (Jvm.Cond.soleField "ModeDesk$Windows" "this$0") ∈ lw_all := lw_g (lw_at lw_m5 123 rfl) rfl
theorem q1172 : (Jvm.Cond.superclass "ModeDesk$Windows" "java/lang/Object") ∈ lw_all := lw_g (lw_at lw_m5 124 rfl) rfl
theorem q1980 : (Jvm.Cond.selects "ModeDesk$Windows" ({ cls := "ModeDesk$Windows", name := "hasNext", desc := "()Z" } : Jvm.MethodName) ({ cls := "ModeDesk$Windows", name := "hasNext", desc := "()Z" } : Jvm.MethodName)) ∈ lw_all := lw_g (lw_at lw_m8 212 rfl) rfl
theorem q2001 : (Jvm.Cond.castable "ModeDesk$Windows" "java/lang/Object") ∈ lw_tbl := lw_at lw_m8 233 rfl
theorem in_X13 : ∀ w ∈ wsX130, w ∈ lw_all := lw_in wsX130 [1166, 1168, 1170] (by decide +kernel) (by decide +kernel)
/-! ModeDesk$Walk -/
set_option maxRecDepth 100000
def RX14 : String := "ModeDesk$Walk"
abbrev cX14_init : ByteArray := prog_16_method_1_code
def yX14_init : MethodName := ⟨RX14, "<init>", "(LModeDesk;)V"⟩
def dkwX14_init_0 : List UInt8 := [42, 43, 181, 0, 1, 42, 183, 0, 7, 177]
abbrev dktX14_init_0 : List UInt8 := dkwX14_init_0 ++ []
theorem dksX14_init_0 : cX14_init.data.toList.drop 0 = dktX14_init_0 := by decide +kernel
theorem dX14_init_0 : decode cX14_init 0 = .ok (.aload_n 0, 1) := dk_42 (dk_at dksX14_init_0 0 rfl rfl)
theorem dX14_init_1 : decode cX14_init 1 = .ok (.aload_n 1, 1) := dk_43 (dk_at dksX14_init_0 1 rfl rfl)
theorem dX14_init_2 : decode cX14_init 2 = .ok (.putfield 1, 3) := dk_181 0 1 (dk_at dksX14_init_0 2 rfl rfl)
theorem dX14_init_5 : decode cX14_init 5 = .ok (.aload_n 0, 1) := dk_42 (dk_at dksX14_init_0 5 rfl rfl)
theorem dX14_init_6 : decode cX14_init 6 = .ok (.invokespecial 7, 3) := dk_183 0 7 (dk_at dksX14_init_0 6 rfl rfl)
theorem dX14_init_9 : decode cX14_init 9 = .ok (.return_, 1) := dk_177 (dk_at dksX14_init_0 9 rfl rfl)
abbrev cX14_goes : ByteArray := prog_16_method_3_code
def yX14_goes : MethodName := ⟨RX14, "goes", "()LModeDesk$Walk;"⟩
def dkwX14_goes_4 : List UInt8 := [29, 28, 182, 0, 36, 132, 3, 1, 167, 255, 187, 132, 1, 1, 167, 255, 152, 42, 176]
abbrev dktX14_goes_4 : List UInt8 := dkwX14_goes_4 ++ []
def dkwX14_goes_3 : List UInt8 := [180, 0, 29, 182, 0, 32, 153, 0, 16, 42, 180, 0, 1, 180, 0, 13, 180, 0, 25, 29, 46, 61, 42, 27]
abbrev dktX14_goes_3 : List UInt8 := dkwX14_goes_3 ++ dktX14_goes_4
def dkwX14_goes_2 : List UInt8 := [180, 0, 1, 42, 180, 0, 1, 180, 0, 13, 180, 0, 25, 29, 46, 28, 27, 29, 42, 180, 0, 1]
abbrev dktX14_goes_2 : List UInt8 := dkwX14_goes_2 ++ dktX14_goes_3
def dkwX14_goes_1 : List UInt8 := [180, 0, 25, 27, 46, 61, 27, 62, 29, 42, 180, 0, 1, 180, 0, 13, 180, 0, 19, 162, 0, 61, 42]
abbrev dktX14_goes_1 : List UInt8 := dkwX14_goes_1 ++ dktX14_goes_2
def dkwX14_goes_0 : List UInt8 := [3, 60, 27, 42, 180, 0, 1, 180, 0, 13, 180, 0, 19, 162, 0, 96, 42, 180, 0, 1, 180, 0, 13]
abbrev dktX14_goes_0 : List UInt8 := dkwX14_goes_0 ++ dktX14_goes_1
theorem dksX14_goes_0 : cX14_goes.data.toList.drop 0 = dktX14_goes_0 := by decide +kernel
theorem dksX14_goes_1 : cX14_goes.data.toList.drop 23 = dktX14_goes_1 := dk_seg dksX14_goes_0 23 rfl rfl
theorem dksX14_goes_2 : cX14_goes.data.toList.drop 46 = dktX14_goes_2 := dk_seg dksX14_goes_1 23 rfl rfl
theorem dksX14_goes_3 : cX14_goes.data.toList.drop 68 = dktX14_goes_3 := dk_seg dksX14_goes_2 22 rfl rfl
theorem dksX14_goes_4 : cX14_goes.data.toList.drop 92 = dktX14_goes_4 := dk_seg dksX14_goes_3 24 rfl rfl
theorem dX14_goes_0 : decode cX14_goes 0 = .ok (.iconst 0, 1) := dk_3 (dk_at dksX14_goes_0 0 rfl rfl)
theorem dX14_goes_1 : decode cX14_goes 1 = .ok (.istore_n 1, 1) := dk_60 (dk_at dksX14_goes_0 1 rfl rfl)
theorem dX14_goes_2 : decode cX14_goes 2 = .ok (.iload_n 1, 1) := dk_27 (dk_at dksX14_goes_0 2 rfl rfl)
theorem dX14_goes_3 : decode cX14_goes 3 = .ok (.aload_n 0, 1) := dk_42 (dk_at dksX14_goes_0 3 rfl rfl)
theorem dX14_goes_4 : decode cX14_goes 4 = .ok (.getfield 1, 3) := dk_180 0 1 (dk_at dksX14_goes_0 4 rfl rfl)
theorem dX14_goes_7 : decode cX14_goes 7 = .ok (.getfield 13, 3) := dk_180 0 13 (dk_at dksX14_goes_0 7 rfl rfl)
theorem dX14_goes_10 : decode cX14_goes 10 = .ok (.getfield 19, 3) := dk_180 0 19 (dk_at dksX14_goes_0 10 rfl rfl)
theorem dX14_goes_13 : decode cX14_goes 13 = .ok (.if_icmp .ge 96, 3) := dk_162 0 96 (dk_at dksX14_goes_0 13 rfl rfl)
theorem dX14_goes_16 : decode cX14_goes 16 = .ok (.aload_n 0, 1) := dk_42 (dk_at dksX14_goes_0 16 rfl rfl)
theorem dX14_goes_17 : decode cX14_goes 17 = .ok (.getfield 1, 3) := dk_180 0 1 (dk_at dksX14_goes_0 17 rfl rfl)
theorem dX14_goes_20 : decode cX14_goes 20 = .ok (.getfield 13, 3) := dk_180 0 13 (dk_at dksX14_goes_0 20 rfl rfl)
theorem dX14_goes_23 : decode cX14_goes 23 = .ok (.getfield 25, 3) := dk_180 0 25 (dk_at dksX14_goes_1 0 rfl rfl)
theorem dX14_goes_26 : decode cX14_goes 26 = .ok (.iload_n 1, 1) := dk_27 (dk_at dksX14_goes_1 3 rfl rfl)
theorem dX14_goes_27 : decode cX14_goes 27 = .ok (.iaload, 1) := dk_46 (dk_at dksX14_goes_1 4 rfl rfl)
theorem dX14_goes_28 : decode cX14_goes 28 = .ok (.istore_n 2, 1) := dk_61 (dk_at dksX14_goes_1 5 rfl rfl)
theorem dX14_goes_29 : decode cX14_goes 29 = .ok (.iload_n 1, 1) := dk_27 (dk_at dksX14_goes_1 6 rfl rfl)
theorem dX14_goes_30 : decode cX14_goes 30 = .ok (.istore_n 3, 1) := dk_62 (dk_at dksX14_goes_1 7 rfl rfl)
theorem dX14_goes_31 : decode cX14_goes 31 = .ok (.iload_n 3, 1) := dk_29 (dk_at dksX14_goes_1 8 rfl rfl)
theorem dX14_goes_32 : decode cX14_goes 32 = .ok (.aload_n 0, 1) := dk_42 (dk_at dksX14_goes_1 9 rfl rfl)
theorem dX14_goes_33 : decode cX14_goes 33 = .ok (.getfield 1, 3) := dk_180 0 1 (dk_at dksX14_goes_1 10 rfl rfl)
theorem dX14_goes_36 : decode cX14_goes 36 = .ok (.getfield 13, 3) := dk_180 0 13 (dk_at dksX14_goes_1 13 rfl rfl)
theorem dX14_goes_39 : decode cX14_goes 39 = .ok (.getfield 19, 3) := dk_180 0 19 (dk_at dksX14_goes_1 16 rfl rfl)
theorem dX14_goes_42 : decode cX14_goes 42 = .ok (.if_icmp .ge 61, 3) := dk_162 0 61 (dk_at dksX14_goes_1 19 rfl rfl)
theorem dX14_goes_45 : decode cX14_goes 45 = .ok (.aload_n 0, 1) := dk_42 (dk_at dksX14_goes_1 22 rfl rfl)
theorem dX14_goes_46 : decode cX14_goes 46 = .ok (.getfield 1, 3) := dk_180 0 1 (dk_at dksX14_goes_2 0 rfl rfl)
theorem dX14_goes_49 : decode cX14_goes 49 = .ok (.aload_n 0, 1) := dk_42 (dk_at dksX14_goes_2 3 rfl rfl)
theorem dX14_goes_50 : decode cX14_goes 50 = .ok (.getfield 1, 3) := dk_180 0 1 (dk_at dksX14_goes_2 4 rfl rfl)
theorem dX14_goes_53 : decode cX14_goes 53 = .ok (.getfield 13, 3) := dk_180 0 13 (dk_at dksX14_goes_2 7 rfl rfl)
theorem dX14_goes_56 : decode cX14_goes 56 = .ok (.getfield 25, 3) := dk_180 0 25 (dk_at dksX14_goes_2 10 rfl rfl)
theorem dX14_goes_59 : decode cX14_goes 59 = .ok (.iload_n 3, 1) := dk_29 (dk_at dksX14_goes_2 13 rfl rfl)
theorem dX14_goes_60 : decode cX14_goes 60 = .ok (.iaload, 1) := dk_46 (dk_at dksX14_goes_2 14 rfl rfl)
theorem dX14_goes_61 : decode cX14_goes 61 = .ok (.iload_n 2, 1) := dk_28 (dk_at dksX14_goes_2 15 rfl rfl)
theorem dX14_goes_62 : decode cX14_goes 62 = .ok (.iload_n 1, 1) := dk_27 (dk_at dksX14_goes_2 16 rfl rfl)
theorem dX14_goes_63 : decode cX14_goes 63 = .ok (.iload_n 3, 1) := dk_29 (dk_at dksX14_goes_2 17 rfl rfl)
theorem dX14_goes_64 : decode cX14_goes 64 = .ok (.aload_n 0, 1) := dk_42 (dk_at dksX14_goes_2 18 rfl rfl)
theorem dX14_goes_65 : decode cX14_goes 65 = .ok (.getfield 1, 3) := dk_180 0 1 (dk_at dksX14_goes_2 19 rfl rfl)
theorem dX14_goes_68 : decode cX14_goes 68 = .ok (.getfield 29, 3) := dk_180 0 29 (dk_at dksX14_goes_3 0 rfl rfl)
theorem dX14_goes_71 : decode cX14_goes 71 = .ok (.invokevirtual 32, 3) := dk_182 0 32 (dk_at dksX14_goes_3 3 rfl rfl)
theorem dX14_goes_74 : decode cX14_goes 74 = .ok (.ifCond .eq 16, 3) := dk_153 0 16 (dk_at dksX14_goes_3 6 rfl rfl)
theorem dX14_goes_77 : decode cX14_goes 77 = .ok (.aload_n 0, 1) := dk_42 (dk_at dksX14_goes_3 9 rfl rfl)
theorem dX14_goes_78 : decode cX14_goes 78 = .ok (.getfield 1, 3) := dk_180 0 1 (dk_at dksX14_goes_3 10 rfl rfl)
theorem dX14_goes_81 : decode cX14_goes 81 = .ok (.getfield 13, 3) := dk_180 0 13 (dk_at dksX14_goes_3 13 rfl rfl)
theorem dX14_goes_84 : decode cX14_goes 84 = .ok (.getfield 25, 3) := dk_180 0 25 (dk_at dksX14_goes_3 16 rfl rfl)
theorem dX14_goes_87 : decode cX14_goes 87 = .ok (.iload_n 3, 1) := dk_29 (dk_at dksX14_goes_3 19 rfl rfl)
theorem dX14_goes_88 : decode cX14_goes 88 = .ok (.iaload, 1) := dk_46 (dk_at dksX14_goes_3 20 rfl rfl)
theorem dX14_goes_89 : decode cX14_goes 89 = .ok (.istore_n 2, 1) := dk_61 (dk_at dksX14_goes_3 21 rfl rfl)
theorem dX14_goes_90 : decode cX14_goes 90 = .ok (.aload_n 0, 1) := dk_42 (dk_at dksX14_goes_3 22 rfl rfl)
theorem dX14_goes_91 : decode cX14_goes 91 = .ok (.iload_n 1, 1) := dk_27 (dk_at dksX14_goes_3 23 rfl rfl)
theorem dX14_goes_92 : decode cX14_goes 92 = .ok (.iload_n 3, 1) := dk_29 (dk_at dksX14_goes_4 0 rfl rfl)
theorem dX14_goes_93 : decode cX14_goes 93 = .ok (.iload_n 2, 1) := dk_28 (dk_at dksX14_goes_4 1 rfl rfl)
theorem dX14_goes_94 : decode cX14_goes 94 = .ok (.invokevirtual 36, 3) := dk_182 0 36 (dk_at dksX14_goes_4 2 rfl rfl)
theorem dX14_goes_97 : decode cX14_goes 97 = .ok (.iinc 3 1, 3) := dk_132 3 1 (dk_at dksX14_goes_4 5 rfl rfl)
theorem dX14_goes_100 : decode cX14_goes 100 = .ok (.goto (-69), 3) := dk_167 255 187 (dk_at dksX14_goes_4 8 rfl rfl)
theorem dX14_goes_103 : decode cX14_goes 103 = .ok (.iinc 1 1, 3) := dk_132 1 1 (dk_at dksX14_goes_4 11 rfl rfl)
theorem dX14_goes_106 : decode cX14_goes 106 = .ok (.goto (-104), 3) := dk_167 255 152 (dk_at dksX14_goes_4 14 rfl rfl)
theorem dX14_goes_109 : decode cX14_goes 109 = .ok (.aload_n 0, 1) := dk_42 (dk_at dksX14_goes_4 17 rfl rfl)
theorem dX14_goes_110 : decode cX14_goes 110 = .ok (.areturn, 1) := dk_176 (dk_at dksX14_goes_4 18 rfl rfl)
theorem q121 : (Jvm.Cond.initialized "ModeDesk$Walk") ∈ lw_all := lw_g (lw_at lw_m1 33 rfl) rfl
theorem q140 : (Jvm.Cond.fieldLinkNest "ModeDesk$Walk" (25 : Nat) "ModeDesk$Row" "value" "[I" "ModeDesk") ∈ lw_tbl := lw_at lw_m1 52 rfl
theorem q148 : (Jvm.Cond.fieldLinkNest "ModeDesk$Walk" (19 : Nat) "ModeDesk$Row" "many" "I" "ModeDesk") ∈ lw_tbl := lw_at lw_m1 60 rfl
theorem q213 : (Jvm.Cond.fieldLinkNest "ModeDesk$Walk" (13 : Nat) "ModeDesk" "row" "LModeDesk$Row;" "ModeDesk") ∈ lw_tbl := lw_at lw_m1 125 rfl
theorem q217 : (Jvm.Cond.fieldLinkNest "ModeDesk$Walk" (29 : Nat) "ModeDesk" "tie" "I" "ModeDesk") ∈ lw_tbl := lw_at lw_m1 129 rfl
theorem q1183 : (Jvm.Cond.instanceMethod ({ cls := "ModeDesk$Walk", name := "<init>", desc := "(LModeDesk;)V" } : Jvm.MethodName)) ∈ lw_all := lw_g (lw_at lw_m5 135 rfl) rfl
theorem q1184 : (Jvm.Cond.code ({ cls := "ModeDesk$Walk", name := "<init>", desc := "(LModeDesk;)V" } : Jvm.MethodName) prog_16_method_1_code (2 : Nat) (Option.none : Option Jvm.ClassFile.FieldType)) ∈ lw_all := lw_g (lw_at lw_m5 136 rfl) rfl
theorem q1185 : (Jvm.Cond.methodLink "ModeDesk$Walk" (7 : Nat) ({ cls := "java/lang/Object", name := "<init>", desc := "()V" } : Jvm.MethodName)) ∈ lw_all := lw_g (lw_at lw_m5 137 rfl) rfl
theorem q1188 : (Jvm.Cond.fieldLink "ModeDesk$Walk" (1 : Nat) "ModeDesk$Walk" "this$0" "LModeDesk;") ∈ lw_all := lw_g (lw_at lw_m5 140 rfl) rfl
theorem q1194 : (Jvm.Cond.soleField "ModeDesk$Walk" "this$0") ∈ lw_all := lw_g (lw_at lw_m5 146 rfl) rfl
theorem q1198 : (Jvm.Cond.declares ({ cls := "ModeDesk$Walk", name := "goes", desc := "()LModeDesk$Walk;" } : Jvm.MethodName)) ∈ lw_tbl := lw_at lw_m5 150 rfl
theorem q1200 : (Jvm.Cond.instanceMethod ({ cls := "ModeDesk$Walk", name := "goes", desc := "()LModeDesk$Walk;" } : Jvm.MethodName)) ∈ lw_all := lw_g (lw_at lw_m5 152 rfl) rfl
theorem q1201 : (Jvm.Cond.code ({ cls := "ModeDesk$Walk", name := "goes", desc := "()LModeDesk$Walk;" } : Jvm.MethodName) prog_16_method_3_code (4 : Nat) (Option.some (Jvm.ClassFile.FieldType.object "ModeDesk$Walk"))) ∈ lw_all := lw_g (lw_at lw_m5 153 rfl) rfl
theorem q1202 : (Jvm.Cond.methodLinkNest "ModeDesk$Walk" (32 : Nat) ({ cls := "ModeDesk", name := "isAhead", desc := "(IIIII)Z" } : Jvm.MethodName) "ModeDesk") ∈ lw_tbl := lw_at lw_m5 154 rfl
theorem q1203 : (Jvm.Cond.methodLink "ModeDesk$Walk" (36 : Nat) ({ cls := "ModeDesk$Walk", name := "meets", desc := "(III)V" } : Jvm.MethodName)) ∈ lw_all := lw_g (lw_at lw_m5 155 rfl) rfl
theorem q1204 : (Jvm.Cond.declares ({ cls := "ModeDesk$Walk", name := "meets", desc := "(III)V" } : Jvm.MethodName)) ∈ lw_tbl := lw_at lw_m5 156 rfl
theorem q1205 : (Jvm.Cond.sameMethod "ModeDesk$Walk" "ModeDesk$Walk" "meets" "(III)V") ∈ lw_all := lw_g (lw_at lw_m5 157 rfl) rfl
/-! ModeDesk$5 -/
set_option maxRecDepth 100000
def RX15 : String := "ModeDesk$5"
def TX15 : u_T := fun k => match k with
  | 0 => ("ModeDesk$Walk", "this$0", "LModeDesk;", true)
  | 1 => ("ModeDesk$5", "val$v", "I", true)
  | _ => ("ModeDesk$5", "this$0", "LModeDesk;", true)
def tyX15 : Nat → FieldType := fun k => match k with
  | 0 => .object "ModeDesk"
  | 1 => .int
  | _ => .object "ModeDesk"
abbrev wsX150 : List Cond := u_ws RX15 TX15 3
-- two fields of one name: no nmX15
theorem tyX15_ok : ∀ k, k < 3 → parseFieldDescriptor (TX15 k).2.2.1 = some (tyX15 k) := by decide +kernel
abbrev cX15_init : ByteArray := prog_7_method_1_code
def yX15_init : MethodName := ⟨RX15, "<init>", "(LModeDesk;I)V"⟩
def dkwX15_init_0 : List UInt8 := [42, 43, 181, 0, 1, 42, 28, 181, 0, 7, 42, 43, 183, 0, 11, 177]
abbrev dktX15_init_0 : List UInt8 := dkwX15_init_0 ++ []
theorem dksX15_init_0 : cX15_init.data.toList.drop 0 = dktX15_init_0 := by decide +kernel
theorem dX15_init_0 : decode cX15_init 0 = .ok (.aload_n 0, 1) := dk_42 (dk_at dksX15_init_0 0 rfl rfl)
theorem dX15_init_1 : decode cX15_init 1 = .ok (.aload_n 1, 1) := dk_43 (dk_at dksX15_init_0 1 rfl rfl)
theorem dX15_init_2 : decode cX15_init 2 = .ok (.putfield 1, 3) := dk_181 0 1 (dk_at dksX15_init_0 2 rfl rfl)
theorem dX15_init_5 : decode cX15_init 5 = .ok (.aload_n 0, 1) := dk_42 (dk_at dksX15_init_0 5 rfl rfl)
theorem dX15_init_6 : decode cX15_init 6 = .ok (.iload_n 2, 1) := dk_28 (dk_at dksX15_init_0 6 rfl rfl)
theorem dX15_init_7 : decode cX15_init 7 = .ok (.putfield 7, 3) := dk_181 0 7 (dk_at dksX15_init_0 7 rfl rfl)
theorem dX15_init_10 : decode cX15_init 10 = .ok (.aload_n 0, 1) := dk_42 (dk_at dksX15_init_0 10 rfl rfl)
theorem dX15_init_11 : decode cX15_init 11 = .ok (.aload_n 1, 1) := dk_43 (dk_at dksX15_init_0 11 rfl rfl)
theorem dX15_init_12 : decode cX15_init 12 = .ok (.invokespecial 11, 3) := dk_183 0 11 (dk_at dksX15_init_0 12 rfl rfl)
theorem dX15_init_15 : decode cX15_init 15 = .ok (.return_, 1) := dk_177 (dk_at dksX15_init_0 15 rfl rfl)
abbrev cX15_meets : ByteArray := prog_7_method_2_code
def yX15_meets : MethodName := ⟨RX15, "meets", "(III)V"⟩
def dkwX15_meets_1 : List UInt8 := [181, 0, 17, 177]
abbrev dktX15_meets_1 : List UInt8 := dkwX15_meets_1 ++ []
def dkwX15_meets_0 : List UInt8 := [42, 180, 0, 1, 89, 180, 0, 17, 29, 42, 180, 0, 7, 160, 0, 7, 4, 167, 0, 4, 3, 96]
abbrev dktX15_meets_0 : List UInt8 := dkwX15_meets_0 ++ dktX15_meets_1
theorem dksX15_meets_0 : cX15_meets.data.toList.drop 0 = dktX15_meets_0 := by decide +kernel
theorem dksX15_meets_1 : cX15_meets.data.toList.drop 22 = dktX15_meets_1 := dk_seg dksX15_meets_0 22 rfl rfl
theorem dX15_meets_0 : decode cX15_meets 0 = .ok (.aload_n 0, 1) := dk_42 (dk_at dksX15_meets_0 0 rfl rfl)
theorem dX15_meets_1 : decode cX15_meets 1 = .ok (.getfield 1, 3) := dk_180 0 1 (dk_at dksX15_meets_0 1 rfl rfl)
theorem dX15_meets_4 : decode cX15_meets 4 = .ok (.dup, 1) := dk_89 (dk_at dksX15_meets_0 4 rfl rfl)
theorem dX15_meets_5 : decode cX15_meets 5 = .ok (.getfield 17, 3) := dk_180 0 17 (dk_at dksX15_meets_0 5 rfl rfl)
theorem dX15_meets_8 : decode cX15_meets 8 = .ok (.iload_n 3, 1) := dk_29 (dk_at dksX15_meets_0 8 rfl rfl)
theorem dX15_meets_9 : decode cX15_meets 9 = .ok (.aload_n 0, 1) := dk_42 (dk_at dksX15_meets_0 9 rfl rfl)
theorem dX15_meets_10 : decode cX15_meets 10 = .ok (.getfield 7, 3) := dk_180 0 7 (dk_at dksX15_meets_0 10 rfl rfl)
theorem dX15_meets_13 : decode cX15_meets 13 = .ok (.if_icmp .ne 7, 3) := dk_160 0 7 (dk_at dksX15_meets_0 13 rfl rfl)
theorem dX15_meets_16 : decode cX15_meets 16 = .ok (.iconst 1, 1) := dk_4 (dk_at dksX15_meets_0 16 rfl rfl)
theorem dX15_meets_17 : decode cX15_meets 17 = .ok (.goto 4, 3) := dk_167 0 4 (dk_at dksX15_meets_0 17 rfl rfl)
theorem dX15_meets_20 : decode cX15_meets 20 = .ok (.iconst 0, 1) := dk_3 (dk_at dksX15_meets_0 20 rfl rfl)
theorem dX15_meets_21 : decode cX15_meets 21 = .ok (.iadd, 1) := dk_96 (dk_at dksX15_meets_0 21 rfl rfl)
theorem dX15_meets_22 : decode cX15_meets 22 = .ok (.putfield 17, 3) := dk_181 0 17 (dk_at dksX15_meets_1 0 rfl rfl)
theorem dX15_meets_25 : decode cX15_meets 25 = .ok (.return_, 1) := dk_177 (dk_at dksX15_meets_1 3 rfl rfl)
theorem q122 : (Jvm.Cond.initialized "ModeDesk$5") ∈ lw_all := lw_g (lw_at lw_m1 34 rfl) rfl
theorem q230 : (Jvm.Cond.fieldLinkNest "ModeDesk$5" (17 : Nat) "ModeDesk" "found" "I" "ModeDesk") ∈ lw_tbl := lw_at lw_m1 142 rfl
theorem q1178 : (Jvm.Cond.instantiable "ModeDesk$5" (3 : Nat)) ∈ lw_all := lw_g (lw_at lw_m5 130 rfl) rfl
theorem q1180 : (Jvm.Cond.instanceMethod ({ cls := "ModeDesk$5", name := "<init>", desc := "(LModeDesk;I)V" } : Jvm.MethodName)) ∈ lw_all := lw_g (lw_at lw_m5 132 rfl) rfl
theorem q1181 : (Jvm.Cond.code ({ cls := "ModeDesk$5", name := "<init>", desc := "(LModeDesk;I)V" } : Jvm.MethodName) prog_7_method_1_code (3 : Nat) (Option.none : Option Jvm.ClassFile.FieldType)) ∈ lw_all := lw_g (lw_at lw_m5 133 rfl) rfl
theorem q1182 : (Jvm.Cond.methodLinkNest "ModeDesk$5" (11 : Nat) ({ cls := "ModeDesk$Walk", name := "<init>", desc := "(LModeDesk;)V" } : Jvm.MethodName) "ModeDesk") ∈ lw_tbl := lw_at lw_m5 134 rfl
theorem q1186 : (Jvm.Cond.fieldLink "ModeDesk$5" (7 : Nat) "ModeDesk$5" "val$v" "I") ∈ lw_all := lw_g (lw_at lw_m5 138 rfl) rfl
theorem q1187 : (Jvm.Cond.fieldLink "ModeDesk$5" (1 : Nat) "ModeDesk$5" "this$0" "LModeDesk;") ∈ lw_all := lw_g (lw_at lw_m5 139 rfl) rfl
theorem q1189 : (Jvm.Cond.laysFinal "ModeDesk$5" "ModeDesk$5" "val$v" "I") ∈ lw_all := lw_g (lw_at lw_m5 141 rfl) rfl
theorem q1190 : (Jvm.Cond.soleField "ModeDesk$5" "val$v") ∈ lw_all := lw_g (lw_at lw_m5 142 rfl) rfl
theorem q1191 : (Jvm.Cond.laysFinal "ModeDesk$5" "ModeDesk$5" "this$0" "LModeDesk;") ∈ lw_all := lw_g (lw_at lw_m5 143 rfl) rfl
theorem q1192 : (Jvm.Cond.soleField "ModeDesk$5" "this$0") ∈ lw_all := lw_g (lw_at lw_m5 144 rfl) rfl
theorem q1193 : (Jvm.Cond.laysFinal "ModeDesk$5" "ModeDesk$Walk" "this$0" "LModeDesk;") ∈ lw_all := lw_g (lw_at lw_m5 145 rfl) rfl
theorem q1195 : (Jvm.Cond.superclass "ModeDesk$5" "ModeDesk$Walk") ∈ lw_all := lw_g (lw_at lw_m5 147 rfl) rfl
theorem q1197 : (Jvm.Cond.sameMethod "ModeDesk$5" "ModeDesk$Walk" "goes" "()LModeDesk$Walk;") ∈ lw_all := lw_g (lw_at lw_m5 149 rfl) rfl
theorem q1199 : (Jvm.Cond.selects "ModeDesk$5" ({ cls := "ModeDesk$5", name := "goes", desc := "()LModeDesk$Walk;" } : Jvm.MethodName) ({ cls := "ModeDesk$Walk", name := "goes", desc := "()LModeDesk$Walk;" } : Jvm.MethodName)) ∈ lw_all := lw_g (lw_at lw_m5 151 rfl) rfl
theorem q1206 : (Jvm.Cond.selects "ModeDesk$5" ({ cls := "ModeDesk$Walk", name := "meets", desc := "(III)V" } : Jvm.MethodName) ({ cls := "ModeDesk$5", name := "meets", desc := "(III)V" } : Jvm.MethodName)) ∈ lw_all := lw_g (lw_at lw_m5 158 rfl) rfl
theorem q1207 : (Jvm.Cond.instanceMethod ({ cls := "ModeDesk$5", name := "meets", desc := "(III)V" } : Jvm.MethodName)) ∈ lw_all := lw_g (lw_at lw_m5 159 rfl) rfl
theorem q1208 : (Jvm.Cond.code ({ cls := "ModeDesk$5", name := "meets", desc := "(III)V" } : Jvm.MethodName) prog_7_method_2_code (4 : Nat) (Option.none : Option Jvm.ClassFile.FieldType)) ∈ lw_all := lw_g (lw_at lw_m5 160 rfl) rfl
theorem q2002 : (Jvm.Cond.castable "ModeDesk$5" "java/lang/Object") ∈ lw_tbl := lw_at lw_m8 234 rfl
theorem in_X15 : ∀ w ∈ wsX150, w ∈ lw_all := lw_in wsX150 [1193, 1189, 1191] (by decide +kernel) (by decide +kernel)
/-! ModeDesk$6 -/
set_option maxRecDepth 100000
def RX16 : String := "ModeDesk$6"
def TX16 : u_T := fun k => match k with
  | 0 => ("ModeDesk$Walk", "this$0", "LModeDesk;", true)
  | 1 => ("ModeDesk$6", "val$v", "I", true)
  | _ => ("ModeDesk$6", "this$0", "LModeDesk;", true)
def tyX16 : Nat → FieldType := fun k => match k with
  | 0 => .object "ModeDesk"
  | 1 => .int
  | _ => .object "ModeDesk"
abbrev wsX160 : List Cond := u_ws RX16 TX16 3
-- two fields of one name: no nmX16
theorem tyX16_ok : ∀ k, k < 3 → parseFieldDescriptor (TX16 k).2.2.1 = some (tyX16 k) := by decide +kernel
abbrev cX16_meets : ByteArray := prog_8_method_2_code
def yX16_meets : MethodName := ⟨RX16, "meets", "(III)V"⟩
def dkwX16_meets_2 : List UInt8 := [28, 181, 0, 25, 177]
abbrev dktX16_meets_2 : List UInt8 := dkwX16_meets_2 ++ []
def dkwX16_meets_1 : List UInt8 := [42, 180, 0, 1, 28, 27, 100, 4, 96, 181, 0, 17, 42, 180, 0, 1, 27, 181, 0, 22, 42, 180, 0, 1]
abbrev dktX16_meets_1 : List UInt8 := dkwX16_meets_1 ++ dktX16_meets_2
def dkwX16_meets_0 : List UInt8 := [29, 42, 180, 0, 7, 160, 0, 18, 28, 27, 100, 4, 96, 42, 180, 0, 1, 180, 0, 17, 163, 0, 4, 177]
abbrev dktX16_meets_0 : List UInt8 := dkwX16_meets_0 ++ dktX16_meets_1
theorem dksX16_meets_0 : cX16_meets.data.toList.drop 0 = dktX16_meets_0 := by decide +kernel
theorem dksX16_meets_1 : cX16_meets.data.toList.drop 24 = dktX16_meets_1 := dk_seg dksX16_meets_0 24 rfl rfl
theorem dksX16_meets_2 : cX16_meets.data.toList.drop 48 = dktX16_meets_2 := dk_seg dksX16_meets_1 24 rfl rfl
theorem dX16_meets_0 : decode cX16_meets 0 = .ok (.iload_n 3, 1) := dk_29 (dk_at dksX16_meets_0 0 rfl rfl)
theorem dX16_meets_1 : decode cX16_meets 1 = .ok (.aload_n 0, 1) := dk_42 (dk_at dksX16_meets_0 1 rfl rfl)
theorem dX16_meets_2 : decode cX16_meets 2 = .ok (.getfield 7, 3) := dk_180 0 7 (dk_at dksX16_meets_0 2 rfl rfl)
theorem dX16_meets_5 : decode cX16_meets 5 = .ok (.if_icmp .ne 18, 3) := dk_160 0 18 (dk_at dksX16_meets_0 5 rfl rfl)
theorem dX16_meets_8 : decode cX16_meets 8 = .ok (.iload_n 2, 1) := dk_28 (dk_at dksX16_meets_0 8 rfl rfl)
theorem dX16_meets_9 : decode cX16_meets 9 = .ok (.iload_n 1, 1) := dk_27 (dk_at dksX16_meets_0 9 rfl rfl)
theorem dX16_meets_10 : decode cX16_meets 10 = .ok (.isub, 1) := dk_100 (dk_at dksX16_meets_0 10 rfl rfl)
theorem dX16_meets_11 : decode cX16_meets 11 = .ok (.iconst 1, 1) := dk_4 (dk_at dksX16_meets_0 11 rfl rfl)
theorem dX16_meets_12 : decode cX16_meets 12 = .ok (.iadd, 1) := dk_96 (dk_at dksX16_meets_0 12 rfl rfl)
theorem dX16_meets_13 : decode cX16_meets 13 = .ok (.aload_n 0, 1) := dk_42 (dk_at dksX16_meets_0 13 rfl rfl)
theorem dX16_meets_14 : decode cX16_meets 14 = .ok (.getfield 1, 3) := dk_180 0 1 (dk_at dksX16_meets_0 14 rfl rfl)
theorem dX16_meets_17 : decode cX16_meets 17 = .ok (.getfield 17, 3) := dk_180 0 17 (dk_at dksX16_meets_0 17 rfl rfl)
theorem dX16_meets_20 : decode cX16_meets 20 = .ok (.if_icmp .gt 4, 3) := dk_163 0 4 (dk_at dksX16_meets_0 20 rfl rfl)
theorem dX16_meets_23 : decode cX16_meets 23 = .ok (.return_, 1) := dk_177 (dk_at dksX16_meets_0 23 rfl rfl)
theorem dX16_meets_24 : decode cX16_meets 24 = .ok (.aload_n 0, 1) := dk_42 (dk_at dksX16_meets_1 0 rfl rfl)
theorem dX16_meets_25 : decode cX16_meets 25 = .ok (.getfield 1, 3) := dk_180 0 1 (dk_at dksX16_meets_1 1 rfl rfl)
theorem dX16_meets_28 : decode cX16_meets 28 = .ok (.iload_n 2, 1) := dk_28 (dk_at dksX16_meets_1 4 rfl rfl)
theorem dX16_meets_29 : decode cX16_meets 29 = .ok (.iload_n 1, 1) := dk_27 (dk_at dksX16_meets_1 5 rfl rfl)
theorem dX16_meets_30 : decode cX16_meets 30 = .ok (.isub, 1) := dk_100 (dk_at dksX16_meets_1 6 rfl rfl)
theorem dX16_meets_31 : decode cX16_meets 31 = .ok (.iconst 1, 1) := dk_4 (dk_at dksX16_meets_1 7 rfl rfl)
theorem dX16_meets_32 : decode cX16_meets 32 = .ok (.iadd, 1) := dk_96 (dk_at dksX16_meets_1 8 rfl rfl)
theorem dX16_meets_33 : decode cX16_meets 33 = .ok (.putfield 17, 3) := dk_181 0 17 (dk_at dksX16_meets_1 9 rfl rfl)
theorem dX16_meets_36 : decode cX16_meets 36 = .ok (.aload_n 0, 1) := dk_42 (dk_at dksX16_meets_1 12 rfl rfl)
theorem dX16_meets_37 : decode cX16_meets 37 = .ok (.getfield 1, 3) := dk_180 0 1 (dk_at dksX16_meets_1 13 rfl rfl)
theorem dX16_meets_40 : decode cX16_meets 40 = .ok (.iload_n 1, 1) := dk_27 (dk_at dksX16_meets_1 16 rfl rfl)
theorem dX16_meets_41 : decode cX16_meets 41 = .ok (.putfield 22, 3) := dk_181 0 22 (dk_at dksX16_meets_1 17 rfl rfl)
theorem dX16_meets_44 : decode cX16_meets 44 = .ok (.aload_n 0, 1) := dk_42 (dk_at dksX16_meets_1 20 rfl rfl)
theorem dX16_meets_45 : decode cX16_meets 45 = .ok (.getfield 1, 3) := dk_180 0 1 (dk_at dksX16_meets_1 21 rfl rfl)
theorem dX16_meets_48 : decode cX16_meets 48 = .ok (.iload_n 2, 1) := dk_28 (dk_at dksX16_meets_2 0 rfl rfl)
theorem dX16_meets_49 : decode cX16_meets 49 = .ok (.putfield 25, 3) := dk_181 0 25 (dk_at dksX16_meets_2 1 rfl rfl)
theorem dX16_meets_52 : decode cX16_meets 52 = .ok (.return_, 1) := dk_177 (dk_at dksX16_meets_2 4 rfl rfl)
abbrev cX16_init : ByteArray := prog_8_method_1_code
def yX16_init : MethodName := ⟨RX16, "<init>", "(LModeDesk;I)V"⟩
def dkwX16_init_0 : List UInt8 := [42, 43, 181, 0, 1, 42, 28, 181, 0, 7, 42, 43, 183, 0, 11, 177]
abbrev dktX16_init_0 : List UInt8 := dkwX16_init_0 ++ []
theorem dksX16_init_0 : cX16_init.data.toList.drop 0 = dktX16_init_0 := by decide +kernel
theorem dX16_init_0 : decode cX16_init 0 = .ok (.aload_n 0, 1) := dk_42 (dk_at dksX16_init_0 0 rfl rfl)
theorem dX16_init_1 : decode cX16_init 1 = .ok (.aload_n 1, 1) := dk_43 (dk_at dksX16_init_0 1 rfl rfl)
theorem dX16_init_2 : decode cX16_init 2 = .ok (.putfield 1, 3) := dk_181 0 1 (dk_at dksX16_init_0 2 rfl rfl)
theorem dX16_init_5 : decode cX16_init 5 = .ok (.aload_n 0, 1) := dk_42 (dk_at dksX16_init_0 5 rfl rfl)
theorem dX16_init_6 : decode cX16_init 6 = .ok (.iload_n 2, 1) := dk_28 (dk_at dksX16_init_0 6 rfl rfl)
theorem dX16_init_7 : decode cX16_init 7 = .ok (.putfield 7, 3) := dk_181 0 7 (dk_at dksX16_init_0 7 rfl rfl)
theorem dX16_init_10 : decode cX16_init 10 = .ok (.aload_n 0, 1) := dk_42 (dk_at dksX16_init_0 10 rfl rfl)
theorem dX16_init_11 : decode cX16_init 11 = .ok (.aload_n 1, 1) := dk_43 (dk_at dksX16_init_0 11 rfl rfl)
theorem dX16_init_12 : decode cX16_init 12 = .ok (.invokespecial 11, 3) := dk_183 0 11 (dk_at dksX16_init_0 12 rfl rfl)
theorem dX16_init_15 : decode cX16_init 15 = .ok (.return_, 1) := dk_177 (dk_at dksX16_init_0 15 rfl rfl)
theorem q123 : (Jvm.Cond.initialized "ModeDesk$6") ∈ lw_all := lw_g (lw_at lw_m1 35 rfl) rfl
theorem q231 : (Jvm.Cond.fieldLinkNest "ModeDesk$6" (17 : Nat) "ModeDesk" "found" "I" "ModeDesk") ∈ lw_tbl := lw_at lw_m1 143 rfl
theorem q234 : (Jvm.Cond.fieldLinkNest "ModeDesk$6" (22 : Nat) "ModeDesk" "foundL" "I" "ModeDesk") ∈ lw_tbl := lw_at lw_m1 146 rfl
theorem q237 : (Jvm.Cond.fieldLinkNest "ModeDesk$6" (25 : Nat) "ModeDesk" "foundR" "I" "ModeDesk") ∈ lw_tbl := lw_at lw_m1 149 rfl
theorem q1209 : (Jvm.Cond.selects "ModeDesk$6" ({ cls := "ModeDesk$Walk", name := "meets", desc := "(III)V" } : Jvm.MethodName) ({ cls := "ModeDesk$6", name := "meets", desc := "(III)V" } : Jvm.MethodName)) ∈ lw_all := lw_g (lw_at lw_m5 161 rfl) rfl
theorem q1210 : (Jvm.Cond.instanceMethod ({ cls := "ModeDesk$6", name := "meets", desc := "(III)V" } : Jvm.MethodName)) ∈ lw_all := lw_g (lw_at lw_m5 162 rfl) rfl
theorem q1211 : (Jvm.Cond.code ({ cls := "ModeDesk$6", name := "meets", desc := "(III)V" } : Jvm.MethodName) prog_8_method_2_code (4 : Nat) (Option.none : Option Jvm.ClassFile.FieldType)) ∈ lw_all := lw_g (lw_at lw_m5 163 rfl) rfl
theorem q1222 : (Jvm.Cond.instantiable "ModeDesk$6" (3 : Nat)) ∈ lw_all := lw_g (lw_at lw_m5 174 rfl) rfl
theorem q1224 : (Jvm.Cond.instanceMethod ({ cls := "ModeDesk$6", name := "<init>", desc := "(LModeDesk;I)V" } : Jvm.MethodName)) ∈ lw_all := lw_g (lw_at lw_m5 176 rfl) rfl
theorem q1225 : (Jvm.Cond.code ({ cls := "ModeDesk$6", name := "<init>", desc := "(LModeDesk;I)V" } : Jvm.MethodName) prog_8_method_1_code (3 : Nat) (Option.none : Option Jvm.ClassFile.FieldType)) ∈ lw_all := lw_g (lw_at lw_m5 177 rfl) rfl
theorem q1226 : (Jvm.Cond.methodLinkNest "ModeDesk$6" (11 : Nat) ({ cls := "ModeDesk$Walk", name := "<init>", desc := "(LModeDesk;)V" } : Jvm.MethodName) "ModeDesk") ∈ lw_tbl := lw_at lw_m5 178 rfl
theorem q1227 : (Jvm.Cond.fieldLink "ModeDesk$6" (7 : Nat) "ModeDesk$6" "val$v" "I") ∈ lw_all := lw_g (lw_at lw_m5 179 rfl) rfl
theorem q1228 : (Jvm.Cond.fieldLink "ModeDesk$6" (1 : Nat) "ModeDesk$6" "this$0" "LModeDesk;") ∈ lw_all := lw_g (lw_at lw_m5 180 rfl) rfl
theorem q1229 : (Jvm.Cond.laysFinal "ModeDesk$6" "ModeDesk$6" "val$v" "I") ∈ lw_all := lw_g (lw_at lw_m5 181 rfl) rfl
theorem q1230 : (Jvm.Cond.soleField "ModeDesk$6" "val$v") ∈ lw_all := lw_g (lw_at lw_m5 182 rfl) rfl
theorem q1231 : (Jvm.Cond.laysFinal "ModeDesk$6" "ModeDesk$6" "this$0" "LModeDesk;") ∈ lw_all := lw_g (lw_at lw_m5 183 rfl) rfl
theorem q1232 : (Jvm.Cond.soleField "ModeDesk$6" "this$0") ∈ lw_all := lw_g (lw_at lw_m5 184 rfl) rfl
theorem q1233 : (Jvm.Cond.laysFinal "ModeDesk$6" "ModeDesk$Walk" "this$0" "LModeDesk;") ∈ lw_all := lw_g (lw_at lw_m5 185 rfl) rfl
theorem q1234 : (Jvm.Cond.superclass "ModeDesk$6" "ModeDesk$Walk") ∈ lw_all := lw_g (lw_at lw_m5 186 rfl) rfl
theorem q1236 : (Jvm.Cond.sameMethod "ModeDesk$6" "ModeDesk$Walk" "goes" "()LModeDesk$Walk;") ∈ lw_all := lw_g (lw_at lw_m5 188 rfl) rfl
theorem q1237 : (Jvm.Cond.selects "ModeDesk$6" ({ cls := "ModeDesk$6", name := "goes", desc := "()LModeDesk$Walk;" } : Jvm.MethodName) ({ cls := "ModeDesk$Walk", name := "goes", desc := "()LModeDesk$Walk;" } : Jvm.MethodName)) ∈ lw_all := lw_g (lw_at lw_m5 189 rfl) rfl
theorem q2003 : (Jvm.Cond.castable "ModeDesk$6" "java/lang/Object") ∈ lw_tbl := lw_at lw_m8 235 rfl
theorem in_X16 : ∀ w ∈ wsX160, w ∈ lw_all := lw_in wsX160 [1233, 1229, 1231] (by decide +kernel) (by decide +kernel)
/-! ModeDesk$7 -/
set_option maxRecDepth 100000
def RX17 : String := "ModeDesk$7"
def TX17 : u_T := fun k => match k with
  | 0 => ("ModeDesk$Walk", "this$0", "LModeDesk;", true)
  | 1 => ("ModeDesk$7", "val$v", "I", true)
  | _ => ("ModeDesk$7", "this$0", "LModeDesk;", true)
def tyX17 : Nat → FieldType := fun k => match k with
  | 0 => .object "ModeDesk"
  | 1 => .int
  | _ => .object "ModeDesk"
abbrev wsX170 : List Cond := u_ws RX17 TX17 3
-- two fields of one name: no nmX17
theorem tyX17_ok : ∀ k, k < 3 → parseFieldDescriptor (TX17 k).2.2.1 = some (tyX17 k) := by decide +kernel
abbrev cX17_meets : ByteArray := prog_9_method_2_code
def yX17_meets : MethodName := ⟨RX17, "meets", "(III)V"⟩
def dkwX17_meets_3 : List UInt8 := [42, 180, 0, 1, 28, 181, 0, 35, 177]
abbrev dktX17_meets_3 : List UInt8 := dkwX17_meets_3 ++ []
def dkwX17_meets_2 : List UInt8 := [163, 0, 4, 177, 42, 180, 0, 1, 28, 27, 100, 4, 96, 181, 0, 17, 42, 180, 0, 1, 27, 181, 0, 32]
abbrev dktX17_meets_2 : List UInt8 := dkwX17_meets_2 ++ dktX17_meets_3
def dkwX17_meets_1 : List UInt8 := [42, 180, 0, 1, 42, 180, 0, 7, 182, 0, 22, 27, 28, 182, 0, 26, 104, 28, 27, 100, 4, 96]
abbrev dktX17_meets_1 : List UInt8 := dkwX17_meets_1 ++ dktX17_meets_2
def dkwX17_meets_0 : List UInt8 := [29, 42, 180, 0, 7, 160, 0, 44, 28, 27, 100, 4, 96, 42, 180, 0, 1, 180, 0, 17, 164, 0, 29, 5]
abbrev dktX17_meets_0 : List UInt8 := dkwX17_meets_0 ++ dktX17_meets_1
theorem dksX17_meets_0 : cX17_meets.data.toList.drop 0 = dktX17_meets_0 := by decide +kernel
theorem dksX17_meets_1 : cX17_meets.data.toList.drop 24 = dktX17_meets_1 := dk_seg dksX17_meets_0 24 rfl rfl
theorem dksX17_meets_2 : cX17_meets.data.toList.drop 46 = dktX17_meets_2 := dk_seg dksX17_meets_1 22 rfl rfl
theorem dksX17_meets_3 : cX17_meets.data.toList.drop 70 = dktX17_meets_3 := dk_seg dksX17_meets_2 24 rfl rfl
theorem dX17_meets_0 : decode cX17_meets 0 = .ok (.iload_n 3, 1) := dk_29 (dk_at dksX17_meets_0 0 rfl rfl)
theorem dX17_meets_1 : decode cX17_meets 1 = .ok (.aload_n 0, 1) := dk_42 (dk_at dksX17_meets_0 1 rfl rfl)
theorem dX17_meets_2 : decode cX17_meets 2 = .ok (.getfield 7, 3) := dk_180 0 7 (dk_at dksX17_meets_0 2 rfl rfl)
theorem dX17_meets_5 : decode cX17_meets 5 = .ok (.if_icmp .ne 44, 3) := dk_160 0 44 (dk_at dksX17_meets_0 5 rfl rfl)
theorem dX17_meets_8 : decode cX17_meets 8 = .ok (.iload_n 2, 1) := dk_28 (dk_at dksX17_meets_0 8 rfl rfl)
theorem dX17_meets_9 : decode cX17_meets 9 = .ok (.iload_n 1, 1) := dk_27 (dk_at dksX17_meets_0 9 rfl rfl)
theorem dX17_meets_10 : decode cX17_meets 10 = .ok (.isub, 1) := dk_100 (dk_at dksX17_meets_0 10 rfl rfl)
theorem dX17_meets_11 : decode cX17_meets 11 = .ok (.iconst 1, 1) := dk_4 (dk_at dksX17_meets_0 11 rfl rfl)
theorem dX17_meets_12 : decode cX17_meets 12 = .ok (.iadd, 1) := dk_96 (dk_at dksX17_meets_0 12 rfl rfl)
theorem dX17_meets_13 : decode cX17_meets 13 = .ok (.aload_n 0, 1) := dk_42 (dk_at dksX17_meets_0 13 rfl rfl)
theorem dX17_meets_14 : decode cX17_meets 14 = .ok (.getfield 1, 3) := dk_180 0 1 (dk_at dksX17_meets_0 14 rfl rfl)
theorem dX17_meets_17 : decode cX17_meets 17 = .ok (.getfield 17, 3) := dk_180 0 17 (dk_at dksX17_meets_0 17 rfl rfl)
theorem dX17_meets_20 : decode cX17_meets 20 = .ok (.if_icmp .le 29, 3) := dk_164 0 29 (dk_at dksX17_meets_0 20 rfl rfl)
theorem dX17_meets_23 : decode cX17_meets 23 = .ok (.iconst 2, 1) := dk_5 (dk_at dksX17_meets_0 23 rfl rfl)
theorem dX17_meets_24 : decode cX17_meets 24 = .ok (.aload_n 0, 1) := dk_42 (dk_at dksX17_meets_1 0 rfl rfl)
theorem dX17_meets_25 : decode cX17_meets 25 = .ok (.getfield 1, 3) := dk_180 0 1 (dk_at dksX17_meets_1 1 rfl rfl)
theorem dX17_meets_28 : decode cX17_meets 28 = .ok (.aload_n 0, 1) := dk_42 (dk_at dksX17_meets_1 4 rfl rfl)
theorem dX17_meets_29 : decode cX17_meets 29 = .ok (.getfield 7, 3) := dk_180 0 7 (dk_at dksX17_meets_1 5 rfl rfl)
theorem dX17_meets_32 : decode cX17_meets 32 = .ok (.invokevirtual 22, 3) := dk_182 0 22 (dk_at dksX17_meets_1 8 rfl rfl)
theorem dX17_meets_35 : decode cX17_meets 35 = .ok (.iload_n 1, 1) := dk_27 (dk_at dksX17_meets_1 11 rfl rfl)
theorem dX17_meets_36 : decode cX17_meets 36 = .ok (.iload_n 2, 1) := dk_28 (dk_at dksX17_meets_1 12 rfl rfl)
theorem dX17_meets_37 : decode cX17_meets 37 = .ok (.invokevirtual 26, 3) := dk_182 0 26 (dk_at dksX17_meets_1 13 rfl rfl)
theorem dX17_meets_40 : decode cX17_meets 40 = .ok (.imul, 1) := dk_104 (dk_at dksX17_meets_1 16 rfl rfl)
theorem dX17_meets_41 : decode cX17_meets 41 = .ok (.iload_n 2, 1) := dk_28 (dk_at dksX17_meets_1 17 rfl rfl)
theorem dX17_meets_42 : decode cX17_meets 42 = .ok (.iload_n 1, 1) := dk_27 (dk_at dksX17_meets_1 18 rfl rfl)
theorem dX17_meets_43 : decode cX17_meets 43 = .ok (.isub, 1) := dk_100 (dk_at dksX17_meets_1 19 rfl rfl)
theorem dX17_meets_44 : decode cX17_meets 44 = .ok (.iconst 1, 1) := dk_4 (dk_at dksX17_meets_1 20 rfl rfl)
theorem dX17_meets_45 : decode cX17_meets 45 = .ok (.iadd, 1) := dk_96 (dk_at dksX17_meets_1 21 rfl rfl)
theorem dX17_meets_46 : decode cX17_meets 46 = .ok (.if_icmp .gt 4, 3) := dk_163 0 4 (dk_at dksX17_meets_2 0 rfl rfl)
theorem dX17_meets_49 : decode cX17_meets 49 = .ok (.return_, 1) := dk_177 (dk_at dksX17_meets_2 3 rfl rfl)
theorem dX17_meets_50 : decode cX17_meets 50 = .ok (.aload_n 0, 1) := dk_42 (dk_at dksX17_meets_2 4 rfl rfl)
theorem dX17_meets_51 : decode cX17_meets 51 = .ok (.getfield 1, 3) := dk_180 0 1 (dk_at dksX17_meets_2 5 rfl rfl)
theorem dX17_meets_54 : decode cX17_meets 54 = .ok (.iload_n 2, 1) := dk_28 (dk_at dksX17_meets_2 8 rfl rfl)
theorem dX17_meets_55 : decode cX17_meets 55 = .ok (.iload_n 1, 1) := dk_27 (dk_at dksX17_meets_2 9 rfl rfl)
theorem dX17_meets_56 : decode cX17_meets 56 = .ok (.isub, 1) := dk_100 (dk_at dksX17_meets_2 10 rfl rfl)
theorem dX17_meets_57 : decode cX17_meets 57 = .ok (.iconst 1, 1) := dk_4 (dk_at dksX17_meets_2 11 rfl rfl)
theorem dX17_meets_58 : decode cX17_meets 58 = .ok (.iadd, 1) := dk_96 (dk_at dksX17_meets_2 12 rfl rfl)
theorem dX17_meets_59 : decode cX17_meets 59 = .ok (.putfield 17, 3) := dk_181 0 17 (dk_at dksX17_meets_2 13 rfl rfl)
theorem dX17_meets_62 : decode cX17_meets 62 = .ok (.aload_n 0, 1) := dk_42 (dk_at dksX17_meets_2 16 rfl rfl)
theorem dX17_meets_63 : decode cX17_meets 63 = .ok (.getfield 1, 3) := dk_180 0 1 (dk_at dksX17_meets_2 17 rfl rfl)
theorem dX17_meets_66 : decode cX17_meets 66 = .ok (.iload_n 1, 1) := dk_27 (dk_at dksX17_meets_2 20 rfl rfl)
theorem dX17_meets_67 : decode cX17_meets 67 = .ok (.putfield 32, 3) := dk_181 0 32 (dk_at dksX17_meets_2 21 rfl rfl)
theorem dX17_meets_70 : decode cX17_meets 70 = .ok (.aload_n 0, 1) := dk_42 (dk_at dksX17_meets_3 0 rfl rfl)
theorem dX17_meets_71 : decode cX17_meets 71 = .ok (.getfield 1, 3) := dk_180 0 1 (dk_at dksX17_meets_3 1 rfl rfl)
theorem dX17_meets_74 : decode cX17_meets 74 = .ok (.iload_n 2, 1) := dk_28 (dk_at dksX17_meets_3 4 rfl rfl)
theorem dX17_meets_75 : decode cX17_meets 75 = .ok (.putfield 35, 3) := dk_181 0 35 (dk_at dksX17_meets_3 5 rfl rfl)
theorem dX17_meets_78 : decode cX17_meets 78 = .ok (.return_, 1) := dk_177 (dk_at dksX17_meets_3 8 rfl rfl)
abbrev cX17_init : ByteArray := prog_9_method_1_code
def yX17_init : MethodName := ⟨RX17, "<init>", "(LModeDesk;I)V"⟩
def dkwX17_init_0 : List UInt8 := [42, 43, 181, 0, 1, 42, 28, 181, 0, 7, 42, 43, 183, 0, 11, 177]
abbrev dktX17_init_0 : List UInt8 := dkwX17_init_0 ++ []
theorem dksX17_init_0 : cX17_init.data.toList.drop 0 = dktX17_init_0 := by decide +kernel
theorem dX17_init_0 : decode cX17_init 0 = .ok (.aload_n 0, 1) := dk_42 (dk_at dksX17_init_0 0 rfl rfl)
theorem dX17_init_1 : decode cX17_init 1 = .ok (.aload_n 1, 1) := dk_43 (dk_at dksX17_init_0 1 rfl rfl)
theorem dX17_init_2 : decode cX17_init 2 = .ok (.putfield 1, 3) := dk_181 0 1 (dk_at dksX17_init_0 2 rfl rfl)
theorem dX17_init_5 : decode cX17_init 5 = .ok (.aload_n 0, 1) := dk_42 (dk_at dksX17_init_0 5 rfl rfl)
theorem dX17_init_6 : decode cX17_init 6 = .ok (.iload_n 2, 1) := dk_28 (dk_at dksX17_init_0 6 rfl rfl)
theorem dX17_init_7 : decode cX17_init 7 = .ok (.putfield 7, 3) := dk_181 0 7 (dk_at dksX17_init_0 7 rfl rfl)
theorem dX17_init_10 : decode cX17_init 10 = .ok (.aload_n 0, 1) := dk_42 (dk_at dksX17_init_0 10 rfl rfl)
theorem dX17_init_11 : decode cX17_init 11 = .ok (.aload_n 1, 1) := dk_43 (dk_at dksX17_init_0 11 rfl rfl)
theorem dX17_init_12 : decode cX17_init 12 = .ok (.invokespecial 11, 3) := dk_183 0 11 (dk_at dksX17_init_0 12 rfl rfl)
theorem dX17_init_15 : decode cX17_init 15 = .ok (.return_, 1) := dk_177 (dk_at dksX17_init_0 15 rfl rfl)
theorem q124 : (Jvm.Cond.initialized "ModeDesk$7") ∈ lw_all := lw_g (lw_at lw_m1 36 rfl) rfl
theorem q232 : (Jvm.Cond.fieldLinkNest "ModeDesk$7" (17 : Nat) "ModeDesk" "found" "I" "ModeDesk") ∈ lw_tbl := lw_at lw_m1 144 rfl
theorem q235 : (Jvm.Cond.fieldLinkNest "ModeDesk$7" (32 : Nat) "ModeDesk" "foundL" "I" "ModeDesk") ∈ lw_tbl := lw_at lw_m1 147 rfl
theorem q238 : (Jvm.Cond.fieldLinkNest "ModeDesk$7" (35 : Nat) "ModeDesk" "foundR" "I" "ModeDesk") ∈ lw_tbl := lw_at lw_m1 150 rfl
theorem q1212 : (Jvm.Cond.selects "ModeDesk$7" ({ cls := "ModeDesk$Walk", name := "meets", desc := "(III)V" } : Jvm.MethodName) ({ cls := "ModeDesk$7", name := "meets", desc := "(III)V" } : Jvm.MethodName)) ∈ lw_all := lw_g (lw_at lw_m5 164 rfl) rfl
theorem q1213 : (Jvm.Cond.instanceMethod ({ cls := "ModeDesk$7", name := "meets", desc := "(III)V" } : Jvm.MethodName)) ∈ lw_all := lw_g (lw_at lw_m5 165 rfl) rfl
theorem q1214 : (Jvm.Cond.code ({ cls := "ModeDesk$7", name := "meets", desc := "(III)V" } : Jvm.MethodName) prog_9_method_2_code (4 : Nat) (Option.none : Option Jvm.ClassFile.FieldType)) ∈ lw_all := lw_g (lw_at lw_m5 166 rfl) rfl
theorem q1215 : (Jvm.Cond.methodLinkNest "ModeDesk$7" (22 : Nat) ({ cls := "ModeDesk", name := "of", desc := "(I)LModeDesk$Places;" } : Jvm.MethodName) "ModeDesk") ∈ lw_tbl := lw_at lw_m5 167 rfl
theorem q1216 : (Jvm.Cond.methodLink "ModeDesk$7" (26 : Nat) ({ cls := "ModeDesk$Places", name := "within", desc := "(II)I" } : Jvm.MethodName)) ∈ lw_all := lw_g (lw_at lw_m5 168 rfl) rfl
theorem q1304 : (Jvm.Cond.instantiable "ModeDesk$7" (3 : Nat)) ∈ lw_all := lw_g (lw_at lw_m6 16 rfl) rfl
theorem q1306 : (Jvm.Cond.instanceMethod ({ cls := "ModeDesk$7", name := "<init>", desc := "(LModeDesk;I)V" } : Jvm.MethodName)) ∈ lw_all := lw_g (lw_at lw_m6 18 rfl) rfl
theorem q1307 : (Jvm.Cond.code ({ cls := "ModeDesk$7", name := "<init>", desc := "(LModeDesk;I)V" } : Jvm.MethodName) prog_9_method_1_code (3 : Nat) (Option.none : Option Jvm.ClassFile.FieldType)) ∈ lw_all := lw_g (lw_at lw_m6 19 rfl) rfl
theorem q1308 : (Jvm.Cond.methodLinkNest "ModeDesk$7" (11 : Nat) ({ cls := "ModeDesk$Walk", name := "<init>", desc := "(LModeDesk;)V" } : Jvm.MethodName) "ModeDesk") ∈ lw_tbl := lw_at lw_m6 20 rfl
theorem q1309 : (Jvm.Cond.fieldLink "ModeDesk$7" (7 : Nat) "ModeDesk$7" "val$v" "I") ∈ lw_all := lw_g (lw_at lw_m6 21 rfl) rfl
theorem q1310 : (Jvm.Cond.fieldLink "ModeDesk$7" (1 : Nat) "ModeDesk$7" "this$0" "LModeDesk;") ∈ lw_all := lw_g (lw_at lw_m6 22 rfl) rfl
theorem q1311 : (Jvm.Cond.laysFinal "ModeDesk$7" "ModeDesk$7" "val$v" "I") ∈ lw_all := lw_g (lw_at lw_m6 23 rfl) rfl
theorem q1312 : (Jvm.Cond.soleField "ModeDesk$7" "val$v") ∈ lw_all := lw_g (lw_at lw_m6 24 rfl) rfl
theorem q1313 : (Jvm.Cond.laysFinal "ModeDesk$7" "ModeDesk$7" "this$0" "LModeDesk;") ∈ lw_all := lw_g (lw_at lw_m6 25 rfl) rfl
theorem q1314 : (Jvm.Cond.soleField "ModeDesk$7" "this$0") ∈ lw_all := lw_g (lw_at lw_m6 26 rfl) rfl
theorem q1315 : (Jvm.Cond.laysFinal "ModeDesk$7" "ModeDesk$Walk" "this$0" "LModeDesk;") ∈ lw_all := lw_g (lw_at lw_m6 27 rfl) rfl
theorem q1316 : (Jvm.Cond.superclass "ModeDesk$7" "ModeDesk$Walk") ∈ lw_all := lw_g (lw_at lw_m6 28 rfl) rfl
theorem q1318 : (Jvm.Cond.sameMethod "ModeDesk$7" "ModeDesk$Walk" "goes" "()LModeDesk$Walk;") ∈ lw_all := lw_g (lw_at lw_m6 30 rfl) rfl
theorem q1319 : (Jvm.Cond.selects "ModeDesk$7" ({ cls := "ModeDesk$7", name := "goes", desc := "()LModeDesk$Walk;" } : Jvm.MethodName) ({ cls := "ModeDesk$Walk", name := "goes", desc := "()LModeDesk$Walk;" } : Jvm.MethodName)) ∈ lw_all := lw_g (lw_at lw_m6 31 rfl) rfl
theorem q2004 : (Jvm.Cond.castable "ModeDesk$7" "java/lang/Object") ∈ lw_tbl := lw_at lw_m8 236 rfl
theorem in_X17 : ∀ w ∈ wsX170, w ∈ lw_all := lw_in wsX170 [1315, 1311, 1313] (by decide +kernel) (by decide +kernel)
/-! ModeDesk$Row -/
set_option maxRecDepth 100000
def RX2 : String := "ModeDesk$Row"
def TX2 : u_T := fun k => match k with
  | 0 => ("ModeDesk$Row", "value", "[I", true)
  | 1 => ("ModeDesk$Row", "weight", "[I", true)
  | _ => ("ModeDesk$Row", "many", "I", false)
def tyX2 : Nat → FieldType := fun k => match k with
  | 0 => .array .int
  | 1 => .array .int
  | _ => .int
abbrev wsX20 : List Cond := u_ws RX2 TX2 3
theorem nmX2 : ∀ a, a < 3 → ∀ b, b < 3 → a ≠ b → (TX2 a).2.1 ≠ (TX2 b).2.1 := by decide +kernel
theorem tyX2_ok : ∀ k, k < 3 → parseFieldDescriptor (TX2 k).2.2.1 = some (tyX2 k) := by decide +kernel
abbrev cX2_init : ByteArray := prog_15_method_1_code
def yX2_init : MethodName := ⟨RX2, "<init>", "()V"⟩
def dkwX2_init_0 : List UInt8 := [42, 183, 0, 3, 42, 16, 120, 188, 10, 181, 0, 9, 42, 16, 120, 188, 10, 181, 0, 15, 177]
abbrev dktX2_init_0 : List UInt8 := dkwX2_init_0 ++ []
theorem dksX2_init_0 : cX2_init.data.toList.drop 0 = dktX2_init_0 := by decide +kernel
theorem dX2_init_0 : decode cX2_init 0 = .ok (.aload_n 0, 1) := dk_42 (dk_at dksX2_init_0 0 rfl rfl)
theorem dX2_init_1 : decode cX2_init 1 = .ok (.invokespecial 3, 3) := dk_183 0 3 (dk_at dksX2_init_0 1 rfl rfl)
theorem dX2_init_4 : decode cX2_init 4 = .ok (.aload_n 0, 1) := dk_42 (dk_at dksX2_init_0 4 rfl rfl)
theorem dX2_init_5 : decode cX2_init 5 = .ok (.bipush 120, 2) := dk_16 120 (dk_at dksX2_init_0 5 rfl rfl)
theorem dX2_init_7 : decode cX2_init 7 = .ok (.newarray .int, 2) := dk_188_10 (dk_at dksX2_init_0 7 rfl rfl)
theorem dX2_init_9 : decode cX2_init 9 = .ok (.putfield 9, 3) := dk_181 0 9 (dk_at dksX2_init_0 9 rfl rfl)
theorem dX2_init_12 : decode cX2_init 12 = .ok (.aload_n 0, 1) := dk_42 (dk_at dksX2_init_0 12 rfl rfl)
theorem dX2_init_13 : decode cX2_init 13 = .ok (.bipush 120, 2) := dk_16 120 (dk_at dksX2_init_0 13 rfl rfl)
theorem dX2_init_15 : decode cX2_init 15 = .ok (.newarray .int, 2) := dk_188_10 (dk_at dksX2_init_0 15 rfl rfl)
theorem dX2_init_17 : decode cX2_init 17 = .ok (.putfield 15, 3) := dk_181 0 15 (dk_at dksX2_init_0 17 rfl rfl)
theorem dX2_init_20 : decode cX2_init 20 = .ok (.return_, 1) := dk_177 (dk_at dksX2_init_0 20 rfl rfl)
abbrev cX2_adds : ByteArray := prog_15_method_4_code
def yX2_adds : MethodName := ⟨RX2, "adds", "(I)V"⟩
def dkwX2_adds_1 : List UInt8 := [180, 0, 24, 4, 96, 181, 0, 24, 177]
abbrev dktX2_adds_1 : List UInt8 := dkwX2_adds_1 ++ []
def dkwX2_adds_0 : List UInt8 := [42, 180, 0, 9, 42, 180, 0, 24, 27, 79, 42, 180, 0, 15, 42, 180, 0, 24, 4, 79, 42, 89]
abbrev dktX2_adds_0 : List UInt8 := dkwX2_adds_0 ++ dktX2_adds_1
theorem dksX2_adds_0 : cX2_adds.data.toList.drop 0 = dktX2_adds_0 := by decide +kernel
theorem dksX2_adds_1 : cX2_adds.data.toList.drop 22 = dktX2_adds_1 := dk_seg dksX2_adds_0 22 rfl rfl
theorem dX2_adds_0 : decode cX2_adds 0 = .ok (.aload_n 0, 1) := dk_42 (dk_at dksX2_adds_0 0 rfl rfl)
theorem dX2_adds_1 : decode cX2_adds 1 = .ok (.getfield 9, 3) := dk_180 0 9 (dk_at dksX2_adds_0 1 rfl rfl)
theorem dX2_adds_4 : decode cX2_adds 4 = .ok (.aload_n 0, 1) := dk_42 (dk_at dksX2_adds_0 4 rfl rfl)
theorem dX2_adds_5 : decode cX2_adds 5 = .ok (.getfield 24, 3) := dk_180 0 24 (dk_at dksX2_adds_0 5 rfl rfl)
theorem dX2_adds_8 : decode cX2_adds 8 = .ok (.iload_n 1, 1) := dk_27 (dk_at dksX2_adds_0 8 rfl rfl)
theorem dX2_adds_9 : decode cX2_adds 9 = .ok (.iastore, 1) := dk_79 (dk_at dksX2_adds_0 9 rfl rfl)
theorem dX2_adds_10 : decode cX2_adds 10 = .ok (.aload_n 0, 1) := dk_42 (dk_at dksX2_adds_0 10 rfl rfl)
theorem dX2_adds_11 : decode cX2_adds 11 = .ok (.getfield 15, 3) := dk_180 0 15 (dk_at dksX2_adds_0 11 rfl rfl)
theorem dX2_adds_14 : decode cX2_adds 14 = .ok (.aload_n 0, 1) := dk_42 (dk_at dksX2_adds_0 14 rfl rfl)
theorem dX2_adds_15 : decode cX2_adds 15 = .ok (.getfield 24, 3) := dk_180 0 24 (dk_at dksX2_adds_0 15 rfl rfl)
theorem dX2_adds_18 : decode cX2_adds 18 = .ok (.iconst 1, 1) := dk_4 (dk_at dksX2_adds_0 18 rfl rfl)
theorem dX2_adds_19 : decode cX2_adds 19 = .ok (.iastore, 1) := dk_79 (dk_at dksX2_adds_0 19 rfl rfl)
theorem dX2_adds_20 : decode cX2_adds 20 = .ok (.aload_n 0, 1) := dk_42 (dk_at dksX2_adds_0 20 rfl rfl)
theorem dX2_adds_21 : decode cX2_adds 21 = .ok (.dup, 1) := dk_89 (dk_at dksX2_adds_0 21 rfl rfl)
theorem dX2_adds_22 : decode cX2_adds 22 = .ok (.getfield 24, 3) := dk_180 0 24 (dk_at dksX2_adds_1 0 rfl rfl)
theorem dX2_adds_25 : decode cX2_adds 25 = .ok (.iconst 1, 1) := dk_4 (dk_at dksX2_adds_1 3 rfl rfl)
theorem dX2_adds_26 : decode cX2_adds 26 = .ok (.iadd, 1) := dk_96 (dk_at dksX2_adds_1 4 rfl rfl)
theorem dX2_adds_27 : decode cX2_adds 27 = .ok (.putfield 24, 3) := dk_181 0 24 (dk_at dksX2_adds_1 5 rfl rfl)
theorem dX2_adds_30 : decode cX2_adds 30 = .ok (.return_, 1) := dk_177 (dk_at dksX2_adds_1 8 rfl rfl)
abbrev cX2_like : ByteArray := prog_15_method_2_code
def yX2_like : MethodName := ⟨RX2, "like", "(LModeDesk$Row;)LModeDesk$Row;"⟩
def dkwX2_like_1 : List UInt8 := [3, 16, 120, 184, 0, 18, 42, 43, 180, 0, 24, 181, 0, 24, 42, 176]
abbrev dktX2_like_1 : List UInt8 := dkwX2_like_1 ++ []
def dkwX2_like_0 : List UInt8 := [43, 180, 0, 9, 3, 42, 180, 0, 9, 3, 16, 120, 184, 0, 18, 43, 180, 0, 15, 3, 42, 180, 0, 15]
abbrev dktX2_like_0 : List UInt8 := dkwX2_like_0 ++ dktX2_like_1
theorem dksX2_like_0 : cX2_like.data.toList.drop 0 = dktX2_like_0 := by decide +kernel
theorem dksX2_like_1 : cX2_like.data.toList.drop 24 = dktX2_like_1 := dk_seg dksX2_like_0 24 rfl rfl
theorem dX2_like_0 : decode cX2_like 0 = .ok (.aload_n 1, 1) := dk_43 (dk_at dksX2_like_0 0 rfl rfl)
theorem dX2_like_1 : decode cX2_like 1 = .ok (.getfield 9, 3) := dk_180 0 9 (dk_at dksX2_like_0 1 rfl rfl)
theorem dX2_like_4 : decode cX2_like 4 = .ok (.iconst 0, 1) := dk_3 (dk_at dksX2_like_0 4 rfl rfl)
theorem dX2_like_5 : decode cX2_like 5 = .ok (.aload_n 0, 1) := dk_42 (dk_at dksX2_like_0 5 rfl rfl)
theorem dX2_like_6 : decode cX2_like 6 = .ok (.getfield 9, 3) := dk_180 0 9 (dk_at dksX2_like_0 6 rfl rfl)
theorem dX2_like_9 : decode cX2_like 9 = .ok (.iconst 0, 1) := dk_3 (dk_at dksX2_like_0 9 rfl rfl)
theorem dX2_like_10 : decode cX2_like 10 = .ok (.bipush 120, 2) := dk_16 120 (dk_at dksX2_like_0 10 rfl rfl)
theorem dX2_like_12 : decode cX2_like 12 = .ok (.invokestatic 18, 3) := dk_184 0 18 (dk_at dksX2_like_0 12 rfl rfl)
theorem dX2_like_15 : decode cX2_like 15 = .ok (.aload_n 1, 1) := dk_43 (dk_at dksX2_like_0 15 rfl rfl)
theorem dX2_like_16 : decode cX2_like 16 = .ok (.getfield 15, 3) := dk_180 0 15 (dk_at dksX2_like_0 16 rfl rfl)
theorem dX2_like_19 : decode cX2_like 19 = .ok (.iconst 0, 1) := dk_3 (dk_at dksX2_like_0 19 rfl rfl)
theorem dX2_like_20 : decode cX2_like 20 = .ok (.aload_n 0, 1) := dk_42 (dk_at dksX2_like_0 20 rfl rfl)
theorem dX2_like_21 : decode cX2_like 21 = .ok (.getfield 15, 3) := dk_180 0 15 (dk_at dksX2_like_0 21 rfl rfl)
theorem dX2_like_24 : decode cX2_like 24 = .ok (.iconst 0, 1) := dk_3 (dk_at dksX2_like_1 0 rfl rfl)
theorem dX2_like_25 : decode cX2_like 25 = .ok (.bipush 120, 2) := dk_16 120 (dk_at dksX2_like_1 1 rfl rfl)
theorem dX2_like_27 : decode cX2_like 27 = .ok (.invokestatic 18, 3) := dk_184 0 18 (dk_at dksX2_like_1 3 rfl rfl)
theorem dX2_like_30 : decode cX2_like 30 = .ok (.aload_n 0, 1) := dk_42 (dk_at dksX2_like_1 6 rfl rfl)
theorem dX2_like_31 : decode cX2_like 31 = .ok (.aload_n 1, 1) := dk_43 (dk_at dksX2_like_1 7 rfl rfl)
theorem dX2_like_32 : decode cX2_like 32 = .ok (.getfield 24, 3) := dk_180 0 24 (dk_at dksX2_like_1 8 rfl rfl)
theorem dX2_like_35 : decode cX2_like 35 = .ok (.putfield 24, 3) := dk_181 0 24 (dk_at dksX2_like_1 11 rfl rfl)
theorem dX2_like_38 : decode cX2_like 38 = .ok (.aload_n 0, 1) := dk_42 (dk_at dksX2_like_1 14 rfl rfl)
theorem dX2_like_39 : decode cX2_like 39 = .ok (.areturn, 1) := dk_176 (dk_at dksX2_like_1 15 rfl rfl)
abbrev cX2_isLike : ByteArray := prog_15_method_3_code
def yX2_isLike : MethodName := ⟨RX2, "isLike", "(LModeDesk$Row;)Z"⟩
def dkwX2_isLike_2 : List UInt8 := [28, 46, 159, 0, 5, 3, 172, 132, 2, 1, 167, 255, 213, 4, 172]
abbrev dktX2_isLike_2 : List UInt8 := dkwX2_isLike_2 ++ []
def dkwX2_isLike_1 : List UInt8 := [180, 0, 9, 28, 46, 43, 180, 0, 9, 28, 46, 160, 0, 18, 42, 180, 0, 15, 28, 46, 43, 180, 0, 15]
abbrev dktX2_isLike_1 : List UInt8 := dkwX2_isLike_1 ++ dktX2_isLike_2
def dkwX2_isLike_0 : List UInt8 := [42, 180, 0, 24, 43, 180, 0, 24, 159, 0, 5, 3, 172, 3, 61, 28, 42, 180, 0, 24, 162, 0, 41, 42]
abbrev dktX2_isLike_0 : List UInt8 := dkwX2_isLike_0 ++ dktX2_isLike_1
theorem dksX2_isLike_0 : cX2_isLike.data.toList.drop 0 = dktX2_isLike_0 := by decide +kernel
theorem dksX2_isLike_1 : cX2_isLike.data.toList.drop 24 = dktX2_isLike_1 := dk_seg dksX2_isLike_0 24 rfl rfl
theorem dksX2_isLike_2 : cX2_isLike.data.toList.drop 48 = dktX2_isLike_2 := dk_seg dksX2_isLike_1 24 rfl rfl
theorem dX2_isLike_0 : decode cX2_isLike 0 = .ok (.aload_n 0, 1) := dk_42 (dk_at dksX2_isLike_0 0 rfl rfl)
theorem dX2_isLike_1 : decode cX2_isLike 1 = .ok (.getfield 24, 3) := dk_180 0 24 (dk_at dksX2_isLike_0 1 rfl rfl)
theorem dX2_isLike_4 : decode cX2_isLike 4 = .ok (.aload_n 1, 1) := dk_43 (dk_at dksX2_isLike_0 4 rfl rfl)
theorem dX2_isLike_5 : decode cX2_isLike 5 = .ok (.getfield 24, 3) := dk_180 0 24 (dk_at dksX2_isLike_0 5 rfl rfl)
theorem dX2_isLike_8 : decode cX2_isLike 8 = .ok (.if_icmp .eq 5, 3) := dk_159 0 5 (dk_at dksX2_isLike_0 8 rfl rfl)
theorem dX2_isLike_11 : decode cX2_isLike 11 = .ok (.iconst 0, 1) := dk_3 (dk_at dksX2_isLike_0 11 rfl rfl)
theorem dX2_isLike_12 : decode cX2_isLike 12 = .ok (.ireturn, 1) := dk_172 (dk_at dksX2_isLike_0 12 rfl rfl)
theorem dX2_isLike_13 : decode cX2_isLike 13 = .ok (.iconst 0, 1) := dk_3 (dk_at dksX2_isLike_0 13 rfl rfl)
theorem dX2_isLike_14 : decode cX2_isLike 14 = .ok (.istore_n 2, 1) := dk_61 (dk_at dksX2_isLike_0 14 rfl rfl)
theorem dX2_isLike_15 : decode cX2_isLike 15 = .ok (.iload_n 2, 1) := dk_28 (dk_at dksX2_isLike_0 15 rfl rfl)
theorem dX2_isLike_16 : decode cX2_isLike 16 = .ok (.aload_n 0, 1) := dk_42 (dk_at dksX2_isLike_0 16 rfl rfl)
theorem dX2_isLike_17 : decode cX2_isLike 17 = .ok (.getfield 24, 3) := dk_180 0 24 (dk_at dksX2_isLike_0 17 rfl rfl)
theorem dX2_isLike_20 : decode cX2_isLike 20 = .ok (.if_icmp .ge 41, 3) := dk_162 0 41 (dk_at dksX2_isLike_0 20 rfl rfl)
theorem dX2_isLike_23 : decode cX2_isLike 23 = .ok (.aload_n 0, 1) := dk_42 (dk_at dksX2_isLike_0 23 rfl rfl)
theorem dX2_isLike_24 : decode cX2_isLike 24 = .ok (.getfield 9, 3) := dk_180 0 9 (dk_at dksX2_isLike_1 0 rfl rfl)
theorem dX2_isLike_27 : decode cX2_isLike 27 = .ok (.iload_n 2, 1) := dk_28 (dk_at dksX2_isLike_1 3 rfl rfl)
theorem dX2_isLike_28 : decode cX2_isLike 28 = .ok (.iaload, 1) := dk_46 (dk_at dksX2_isLike_1 4 rfl rfl)
theorem dX2_isLike_29 : decode cX2_isLike 29 = .ok (.aload_n 1, 1) := dk_43 (dk_at dksX2_isLike_1 5 rfl rfl)
theorem dX2_isLike_30 : decode cX2_isLike 30 = .ok (.getfield 9, 3) := dk_180 0 9 (dk_at dksX2_isLike_1 6 rfl rfl)
theorem dX2_isLike_33 : decode cX2_isLike 33 = .ok (.iload_n 2, 1) := dk_28 (dk_at dksX2_isLike_1 9 rfl rfl)
theorem dX2_isLike_34 : decode cX2_isLike 34 = .ok (.iaload, 1) := dk_46 (dk_at dksX2_isLike_1 10 rfl rfl)
theorem dX2_isLike_35 : decode cX2_isLike 35 = .ok (.if_icmp .ne 18, 3) := dk_160 0 18 (dk_at dksX2_isLike_1 11 rfl rfl)
theorem dX2_isLike_38 : decode cX2_isLike 38 = .ok (.aload_n 0, 1) := dk_42 (dk_at dksX2_isLike_1 14 rfl rfl)
theorem dX2_isLike_39 : decode cX2_isLike 39 = .ok (.getfield 15, 3) := dk_180 0 15 (dk_at dksX2_isLike_1 15 rfl rfl)
theorem dX2_isLike_42 : decode cX2_isLike 42 = .ok (.iload_n 2, 1) := dk_28 (dk_at dksX2_isLike_1 18 rfl rfl)
theorem dX2_isLike_43 : decode cX2_isLike 43 = .ok (.iaload, 1) := dk_46 (dk_at dksX2_isLike_1 19 rfl rfl)
theorem dX2_isLike_44 : decode cX2_isLike 44 = .ok (.aload_n 1, 1) := dk_43 (dk_at dksX2_isLike_1 20 rfl rfl)
theorem dX2_isLike_45 : decode cX2_isLike 45 = .ok (.getfield 15, 3) := dk_180 0 15 (dk_at dksX2_isLike_1 21 rfl rfl)
theorem dX2_isLike_48 : decode cX2_isLike 48 = .ok (.iload_n 2, 1) := dk_28 (dk_at dksX2_isLike_2 0 rfl rfl)
theorem dX2_isLike_49 : decode cX2_isLike 49 = .ok (.iaload, 1) := dk_46 (dk_at dksX2_isLike_2 1 rfl rfl)
theorem dX2_isLike_50 : decode cX2_isLike 50 = .ok (.if_icmp .eq 5, 3) := dk_159 0 5 (dk_at dksX2_isLike_2 2 rfl rfl)
theorem dX2_isLike_53 : decode cX2_isLike 53 = .ok (.iconst 0, 1) := dk_3 (dk_at dksX2_isLike_2 5 rfl rfl)
theorem dX2_isLike_54 : decode cX2_isLike 54 = .ok (.ireturn, 1) := dk_172 (dk_at dksX2_isLike_2 6 rfl rfl)
theorem dX2_isLike_55 : decode cX2_isLike 55 = .ok (.iinc 2 1, 3) := dk_132 2 1 (dk_at dksX2_isLike_2 7 rfl rfl)
theorem dX2_isLike_58 : decode cX2_isLike 58 = .ok (.goto (-43), 3) := dk_167 255 213 (dk_at dksX2_isLike_2 10 rfl rfl)
theorem dX2_isLike_61 : decode cX2_isLike 61 = .ok (.iconst 1, 1) := dk_4 (dk_at dksX2_isLike_2 13 rfl rfl)
theorem dX2_isLike_62 : decode cX2_isLike 62 = .ok (.ireturn, 1) := dk_172 (dk_at dksX2_isLike_2 14 rfl rfl)
abbrev cX2_unlike : ByteArray := prog_15_method_9_code
def yX2_unlike : MethodName := ⟨RX2, "unlike", "(LModeDesk$Row;)I"⟩
def dkwX2_unlike_2 : List UInt8 := [167, 255, 214, 28, 172]
abbrev dktX2_unlike_2 : List UInt8 := dkwX2_unlike_2 ++ []
def dkwX2_unlike_1 : List UInt8 := [180, 0, 9, 29, 46, 43, 180, 0, 9, 29, 46, 159, 0, 7, 4, 167, 0, 4, 3, 96, 61, 132, 3, 1]
abbrev dktX2_unlike_1 : List UInt8 := dkwX2_unlike_1 ++ dktX2_unlike_2
def dkwX2_unlike_0 : List UInt8 := [3, 61, 3, 62, 29, 42, 180, 0, 24, 162, 0, 40, 28, 29, 43, 180, 0, 24, 162, 0, 18, 42]
abbrev dktX2_unlike_0 : List UInt8 := dkwX2_unlike_0 ++ dktX2_unlike_1
theorem dksX2_unlike_0 : cX2_unlike.data.toList.drop 0 = dktX2_unlike_0 := by decide +kernel
theorem dksX2_unlike_1 : cX2_unlike.data.toList.drop 22 = dktX2_unlike_1 := dk_seg dksX2_unlike_0 22 rfl rfl
theorem dksX2_unlike_2 : cX2_unlike.data.toList.drop 46 = dktX2_unlike_2 := dk_seg dksX2_unlike_1 24 rfl rfl
theorem dX2_unlike_0 : decode cX2_unlike 0 = .ok (.iconst 0, 1) := dk_3 (dk_at dksX2_unlike_0 0 rfl rfl)
theorem dX2_unlike_1 : decode cX2_unlike 1 = .ok (.istore_n 2, 1) := dk_61 (dk_at dksX2_unlike_0 1 rfl rfl)
theorem dX2_unlike_2 : decode cX2_unlike 2 = .ok (.iconst 0, 1) := dk_3 (dk_at dksX2_unlike_0 2 rfl rfl)
theorem dX2_unlike_3 : decode cX2_unlike 3 = .ok (.istore_n 3, 1) := dk_62 (dk_at dksX2_unlike_0 3 rfl rfl)
theorem dX2_unlike_4 : decode cX2_unlike 4 = .ok (.iload_n 3, 1) := dk_29 (dk_at dksX2_unlike_0 4 rfl rfl)
theorem dX2_unlike_5 : decode cX2_unlike 5 = .ok (.aload_n 0, 1) := dk_42 (dk_at dksX2_unlike_0 5 rfl rfl)
theorem dX2_unlike_6 : decode cX2_unlike 6 = .ok (.getfield 24, 3) := dk_180 0 24 (dk_at dksX2_unlike_0 6 rfl rfl)
theorem dX2_unlike_9 : decode cX2_unlike 9 = .ok (.if_icmp .ge 40, 3) := dk_162 0 40 (dk_at dksX2_unlike_0 9 rfl rfl)
theorem dX2_unlike_12 : decode cX2_unlike 12 = .ok (.iload_n 2, 1) := dk_28 (dk_at dksX2_unlike_0 12 rfl rfl)
theorem dX2_unlike_13 : decode cX2_unlike 13 = .ok (.iload_n 3, 1) := dk_29 (dk_at dksX2_unlike_0 13 rfl rfl)
theorem dX2_unlike_14 : decode cX2_unlike 14 = .ok (.aload_n 1, 1) := dk_43 (dk_at dksX2_unlike_0 14 rfl rfl)
theorem dX2_unlike_15 : decode cX2_unlike 15 = .ok (.getfield 24, 3) := dk_180 0 24 (dk_at dksX2_unlike_0 15 rfl rfl)
theorem dX2_unlike_18 : decode cX2_unlike 18 = .ok (.if_icmp .ge 18, 3) := dk_162 0 18 (dk_at dksX2_unlike_0 18 rfl rfl)
theorem dX2_unlike_21 : decode cX2_unlike 21 = .ok (.aload_n 0, 1) := dk_42 (dk_at dksX2_unlike_0 21 rfl rfl)
theorem dX2_unlike_22 : decode cX2_unlike 22 = .ok (.getfield 9, 3) := dk_180 0 9 (dk_at dksX2_unlike_1 0 rfl rfl)
theorem dX2_unlike_25 : decode cX2_unlike 25 = .ok (.iload_n 3, 1) := dk_29 (dk_at dksX2_unlike_1 3 rfl rfl)
theorem dX2_unlike_26 : decode cX2_unlike 26 = .ok (.iaload, 1) := dk_46 (dk_at dksX2_unlike_1 4 rfl rfl)
theorem dX2_unlike_27 : decode cX2_unlike 27 = .ok (.aload_n 1, 1) := dk_43 (dk_at dksX2_unlike_1 5 rfl rfl)
theorem dX2_unlike_28 : decode cX2_unlike 28 = .ok (.getfield 9, 3) := dk_180 0 9 (dk_at dksX2_unlike_1 6 rfl rfl)
theorem dX2_unlike_31 : decode cX2_unlike 31 = .ok (.iload_n 3, 1) := dk_29 (dk_at dksX2_unlike_1 9 rfl rfl)
theorem dX2_unlike_32 : decode cX2_unlike 32 = .ok (.iaload, 1) := dk_46 (dk_at dksX2_unlike_1 10 rfl rfl)
theorem dX2_unlike_33 : decode cX2_unlike 33 = .ok (.if_icmp .eq 7, 3) := dk_159 0 7 (dk_at dksX2_unlike_1 11 rfl rfl)
theorem dX2_unlike_36 : decode cX2_unlike 36 = .ok (.iconst 1, 1) := dk_4 (dk_at dksX2_unlike_1 14 rfl rfl)
theorem dX2_unlike_37 : decode cX2_unlike 37 = .ok (.goto 4, 3) := dk_167 0 4 (dk_at dksX2_unlike_1 15 rfl rfl)
theorem dX2_unlike_40 : decode cX2_unlike 40 = .ok (.iconst 0, 1) := dk_3 (dk_at dksX2_unlike_1 18 rfl rfl)
theorem dX2_unlike_41 : decode cX2_unlike 41 = .ok (.iadd, 1) := dk_96 (dk_at dksX2_unlike_1 19 rfl rfl)
theorem dX2_unlike_42 : decode cX2_unlike 42 = .ok (.istore_n 2, 1) := dk_61 (dk_at dksX2_unlike_1 20 rfl rfl)
theorem dX2_unlike_43 : decode cX2_unlike 43 = .ok (.iinc 3 1, 3) := dk_132 3 1 (dk_at dksX2_unlike_1 21 rfl rfl)
theorem dX2_unlike_46 : decode cX2_unlike 46 = .ok (.goto (-42), 3) := dk_167 255 214 (dk_at dksX2_unlike_2 0 rfl rfl)
theorem dX2_unlike_49 : decode cX2_unlike 49 = .ok (.iload_n 2, 1) := dk_28 (dk_at dksX2_unlike_2 3 rfl rfl)
theorem dX2_unlike_50 : decode cX2_unlike 50 = .ok (.ireturn, 1) := dk_172 (dk_at dksX2_unlike_2 4 rfl rfl)
abbrev cX2_opens : ByteArray := prog_15_method_5_code
def yX2_opens : MethodName := ⟨RX2, "opens", "(II)V"⟩
def dkwX2_opens_2 : List UInt8 := [177]
abbrev dktX2_opens_2 : List UInt8 := dkwX2_opens_2 ++ []
def dkwX2_opens_1 : List UInt8 := [42, 180, 0, 9, 27, 28, 79, 42, 180, 0, 15, 27, 4, 79, 42, 89, 180, 0, 24, 4, 96, 181, 0, 24]
abbrev dktX2_opens_1 : List UInt8 := dkwX2_opens_1 ++ dktX2_opens_2
def dkwX2_opens_0 : List UInt8 := [42, 180, 0, 24, 62, 29, 27, 164, 0, 17, 42, 29, 4, 100, 29, 182, 0, 28, 132, 3, 255, 167, 255, 240]
abbrev dktX2_opens_0 : List UInt8 := dkwX2_opens_0 ++ dktX2_opens_1
theorem dksX2_opens_0 : cX2_opens.data.toList.drop 0 = dktX2_opens_0 := by decide +kernel
theorem dksX2_opens_1 : cX2_opens.data.toList.drop 24 = dktX2_opens_1 := dk_seg dksX2_opens_0 24 rfl rfl
theorem dksX2_opens_2 : cX2_opens.data.toList.drop 48 = dktX2_opens_2 := dk_seg dksX2_opens_1 24 rfl rfl
theorem dX2_opens_0 : decode cX2_opens 0 = .ok (.aload_n 0, 1) := dk_42 (dk_at dksX2_opens_0 0 rfl rfl)
theorem dX2_opens_1 : decode cX2_opens 1 = .ok (.getfield 24, 3) := dk_180 0 24 (dk_at dksX2_opens_0 1 rfl rfl)
theorem dX2_opens_4 : decode cX2_opens 4 = .ok (.istore_n 3, 1) := dk_62 (dk_at dksX2_opens_0 4 rfl rfl)
theorem dX2_opens_5 : decode cX2_opens 5 = .ok (.iload_n 3, 1) := dk_29 (dk_at dksX2_opens_0 5 rfl rfl)
theorem dX2_opens_6 : decode cX2_opens 6 = .ok (.iload_n 1, 1) := dk_27 (dk_at dksX2_opens_0 6 rfl rfl)
theorem dX2_opens_7 : decode cX2_opens 7 = .ok (.if_icmp .le 17, 3) := dk_164 0 17 (dk_at dksX2_opens_0 7 rfl rfl)
theorem dX2_opens_10 : decode cX2_opens 10 = .ok (.aload_n 0, 1) := dk_42 (dk_at dksX2_opens_0 10 rfl rfl)
theorem dX2_opens_11 : decode cX2_opens 11 = .ok (.iload_n 3, 1) := dk_29 (dk_at dksX2_opens_0 11 rfl rfl)
theorem dX2_opens_12 : decode cX2_opens 12 = .ok (.iconst 1, 1) := dk_4 (dk_at dksX2_opens_0 12 rfl rfl)
theorem dX2_opens_13 : decode cX2_opens 13 = .ok (.isub, 1) := dk_100 (dk_at dksX2_opens_0 13 rfl rfl)
theorem dX2_opens_14 : decode cX2_opens 14 = .ok (.iload_n 3, 1) := dk_29 (dk_at dksX2_opens_0 14 rfl rfl)
theorem dX2_opens_15 : decode cX2_opens 15 = .ok (.invokevirtual 28, 3) := dk_182 0 28 (dk_at dksX2_opens_0 15 rfl rfl)
theorem dX2_opens_18 : decode cX2_opens 18 = .ok (.iinc 3 (-1), 3) := dk_132 3 255 (dk_at dksX2_opens_0 18 rfl rfl)
theorem dX2_opens_21 : decode cX2_opens 21 = .ok (.goto (-16), 3) := dk_167 255 240 (dk_at dksX2_opens_0 21 rfl rfl)
theorem dX2_opens_24 : decode cX2_opens 24 = .ok (.aload_n 0, 1) := dk_42 (dk_at dksX2_opens_1 0 rfl rfl)
theorem dX2_opens_25 : decode cX2_opens 25 = .ok (.getfield 9, 3) := dk_180 0 9 (dk_at dksX2_opens_1 1 rfl rfl)
theorem dX2_opens_28 : decode cX2_opens 28 = .ok (.iload_n 1, 1) := dk_27 (dk_at dksX2_opens_1 4 rfl rfl)
theorem dX2_opens_29 : decode cX2_opens 29 = .ok (.iload_n 2, 1) := dk_28 (dk_at dksX2_opens_1 5 rfl rfl)
theorem dX2_opens_30 : decode cX2_opens 30 = .ok (.iastore, 1) := dk_79 (dk_at dksX2_opens_1 6 rfl rfl)
theorem dX2_opens_31 : decode cX2_opens 31 = .ok (.aload_n 0, 1) := dk_42 (dk_at dksX2_opens_1 7 rfl rfl)
theorem dX2_opens_32 : decode cX2_opens 32 = .ok (.getfield 15, 3) := dk_180 0 15 (dk_at dksX2_opens_1 8 rfl rfl)
theorem dX2_opens_35 : decode cX2_opens 35 = .ok (.iload_n 1, 1) := dk_27 (dk_at dksX2_opens_1 11 rfl rfl)
theorem dX2_opens_36 : decode cX2_opens 36 = .ok (.iconst 1, 1) := dk_4 (dk_at dksX2_opens_1 12 rfl rfl)
theorem dX2_opens_37 : decode cX2_opens 37 = .ok (.iastore, 1) := dk_79 (dk_at dksX2_opens_1 13 rfl rfl)
theorem dX2_opens_38 : decode cX2_opens 38 = .ok (.aload_n 0, 1) := dk_42 (dk_at dksX2_opens_1 14 rfl rfl)
theorem dX2_opens_39 : decode cX2_opens 39 = .ok (.dup, 1) := dk_89 (dk_at dksX2_opens_1 15 rfl rfl)
theorem dX2_opens_40 : decode cX2_opens 40 = .ok (.getfield 24, 3) := dk_180 0 24 (dk_at dksX2_opens_1 16 rfl rfl)
theorem dX2_opens_43 : decode cX2_opens 43 = .ok (.iconst 1, 1) := dk_4 (dk_at dksX2_opens_1 19 rfl rfl)
theorem dX2_opens_44 : decode cX2_opens 44 = .ok (.iadd, 1) := dk_96 (dk_at dksX2_opens_1 20 rfl rfl)
theorem dX2_opens_45 : decode cX2_opens 45 = .ok (.putfield 24, 3) := dk_181 0 24 (dk_at dksX2_opens_1 21 rfl rfl)
theorem dX2_opens_48 : decode cX2_opens 48 = .ok (.return_, 1) := dk_177 (dk_at dksX2_opens_2 0 rfl rfl)
abbrev cX2_copies : ByteArray := prog_15_method_7_code
def yX2_copies : MethodName := ⟨RX2, "copies", "(II)V"⟩
def dkwX2_copies_1 : List UInt8 := [177]
abbrev dktX2_copies_1 : List UInt8 := dkwX2_copies_1 ++ []
def dkwX2_copies_0 : List UInt8 := [42, 180, 0, 9, 28, 42, 180, 0, 9, 27, 46, 79, 42, 180, 0, 15, 28, 42, 180, 0, 15, 27, 46, 79]
abbrev dktX2_copies_0 : List UInt8 := dkwX2_copies_0 ++ dktX2_copies_1
theorem dksX2_copies_0 : cX2_copies.data.toList.drop 0 = dktX2_copies_0 := by decide +kernel
theorem dksX2_copies_1 : cX2_copies.data.toList.drop 24 = dktX2_copies_1 := dk_seg dksX2_copies_0 24 rfl rfl
theorem dX2_copies_0 : decode cX2_copies 0 = .ok (.aload_n 0, 1) := dk_42 (dk_at dksX2_copies_0 0 rfl rfl)
theorem dX2_copies_1 : decode cX2_copies 1 = .ok (.getfield 9, 3) := dk_180 0 9 (dk_at dksX2_copies_0 1 rfl rfl)
theorem dX2_copies_4 : decode cX2_copies 4 = .ok (.iload_n 2, 1) := dk_28 (dk_at dksX2_copies_0 4 rfl rfl)
theorem dX2_copies_5 : decode cX2_copies 5 = .ok (.aload_n 0, 1) := dk_42 (dk_at dksX2_copies_0 5 rfl rfl)
theorem dX2_copies_6 : decode cX2_copies 6 = .ok (.getfield 9, 3) := dk_180 0 9 (dk_at dksX2_copies_0 6 rfl rfl)
theorem dX2_copies_9 : decode cX2_copies 9 = .ok (.iload_n 1, 1) := dk_27 (dk_at dksX2_copies_0 9 rfl rfl)
theorem dX2_copies_10 : decode cX2_copies 10 = .ok (.iaload, 1) := dk_46 (dk_at dksX2_copies_0 10 rfl rfl)
theorem dX2_copies_11 : decode cX2_copies 11 = .ok (.iastore, 1) := dk_79 (dk_at dksX2_copies_0 11 rfl rfl)
theorem dX2_copies_12 : decode cX2_copies 12 = .ok (.aload_n 0, 1) := dk_42 (dk_at dksX2_copies_0 12 rfl rfl)
theorem dX2_copies_13 : decode cX2_copies 13 = .ok (.getfield 15, 3) := dk_180 0 15 (dk_at dksX2_copies_0 13 rfl rfl)
theorem dX2_copies_16 : decode cX2_copies 16 = .ok (.iload_n 2, 1) := dk_28 (dk_at dksX2_copies_0 16 rfl rfl)
theorem dX2_copies_17 : decode cX2_copies 17 = .ok (.aload_n 0, 1) := dk_42 (dk_at dksX2_copies_0 17 rfl rfl)
theorem dX2_copies_18 : decode cX2_copies 18 = .ok (.getfield 15, 3) := dk_180 0 15 (dk_at dksX2_copies_0 18 rfl rfl)
theorem dX2_copies_21 : decode cX2_copies 21 = .ok (.iload_n 1, 1) := dk_27 (dk_at dksX2_copies_0 21 rfl rfl)
theorem dX2_copies_22 : decode cX2_copies 22 = .ok (.iaload, 1) := dk_46 (dk_at dksX2_copies_0 22 rfl rfl)
theorem dX2_copies_23 : decode cX2_copies 23 = .ok (.iastore, 1) := dk_79 (dk_at dksX2_copies_0 23 rfl rfl)
theorem dX2_copies_24 : decode cX2_copies 24 = .ok (.return_, 1) := dk_177 (dk_at dksX2_copies_1 0 rfl rfl)
abbrev cX2_closes : ByteArray := prog_15_method_6_code
def yX2_closes : MethodName := ⟨RX2, "closes", "(I)V"⟩
def dkwX2_closes_1 : List UInt8 := [28, 182, 0, 28, 132, 2, 1, 167, 255, 237, 177]
abbrev dktX2_closes_1 : List UInt8 := dkwX2_closes_1 ++ []
def dkwX2_closes_0 : List UInt8 := [42, 89, 180, 0, 24, 4, 100, 181, 0, 24, 27, 61, 28, 42, 180, 0, 24, 162, 0, 17, 42, 28, 4, 96]
abbrev dktX2_closes_0 : List UInt8 := dkwX2_closes_0 ++ dktX2_closes_1
theorem dksX2_closes_0 : cX2_closes.data.toList.drop 0 = dktX2_closes_0 := by decide +kernel
theorem dksX2_closes_1 : cX2_closes.data.toList.drop 24 = dktX2_closes_1 := dk_seg dksX2_closes_0 24 rfl rfl
theorem dX2_closes_0 : decode cX2_closes 0 = .ok (.aload_n 0, 1) := dk_42 (dk_at dksX2_closes_0 0 rfl rfl)
theorem dX2_closes_1 : decode cX2_closes 1 = .ok (.dup, 1) := dk_89 (dk_at dksX2_closes_0 1 rfl rfl)
theorem dX2_closes_2 : decode cX2_closes 2 = .ok (.getfield 24, 3) := dk_180 0 24 (dk_at dksX2_closes_0 2 rfl rfl)
theorem dX2_closes_5 : decode cX2_closes 5 = .ok (.iconst 1, 1) := dk_4 (dk_at dksX2_closes_0 5 rfl rfl)
theorem dX2_closes_6 : decode cX2_closes 6 = .ok (.isub, 1) := dk_100 (dk_at dksX2_closes_0 6 rfl rfl)
theorem dX2_closes_7 : decode cX2_closes 7 = .ok (.putfield 24, 3) := dk_181 0 24 (dk_at dksX2_closes_0 7 rfl rfl)
theorem dX2_closes_10 : decode cX2_closes 10 = .ok (.iload_n 1, 1) := dk_27 (dk_at dksX2_closes_0 10 rfl rfl)
theorem dX2_closes_11 : decode cX2_closes 11 = .ok (.istore_n 2, 1) := dk_61 (dk_at dksX2_closes_0 11 rfl rfl)
theorem dX2_closes_12 : decode cX2_closes 12 = .ok (.iload_n 2, 1) := dk_28 (dk_at dksX2_closes_0 12 rfl rfl)
theorem dX2_closes_13 : decode cX2_closes 13 = .ok (.aload_n 0, 1) := dk_42 (dk_at dksX2_closes_0 13 rfl rfl)
theorem dX2_closes_14 : decode cX2_closes 14 = .ok (.getfield 24, 3) := dk_180 0 24 (dk_at dksX2_closes_0 14 rfl rfl)
theorem dX2_closes_17 : decode cX2_closes 17 = .ok (.if_icmp .ge 17, 3) := dk_162 0 17 (dk_at dksX2_closes_0 17 rfl rfl)
theorem dX2_closes_20 : decode cX2_closes 20 = .ok (.aload_n 0, 1) := dk_42 (dk_at dksX2_closes_0 20 rfl rfl)
theorem dX2_closes_21 : decode cX2_closes 21 = .ok (.iload_n 2, 1) := dk_28 (dk_at dksX2_closes_0 21 rfl rfl)
theorem dX2_closes_22 : decode cX2_closes 22 = .ok (.iconst 1, 1) := dk_4 (dk_at dksX2_closes_0 22 rfl rfl)
theorem dX2_closes_23 : decode cX2_closes 23 = .ok (.iadd, 1) := dk_96 (dk_at dksX2_closes_0 23 rfl rfl)
theorem dX2_closes_24 : decode cX2_closes 24 = .ok (.iload_n 2, 1) := dk_28 (dk_at dksX2_closes_1 0 rfl rfl)
theorem dX2_closes_25 : decode cX2_closes 25 = .ok (.invokevirtual 28, 3) := dk_182 0 28 (dk_at dksX2_closes_1 1 rfl rfl)
theorem dX2_closes_28 : decode cX2_closes 28 = .ok (.iinc 2 1, 3) := dk_132 2 1 (dk_at dksX2_closes_1 4 rfl rfl)
theorem dX2_closes_31 : decode cX2_closes 31 = .ok (.goto (-19), 3) := dk_167 255 237 (dk_at dksX2_closes_1 7 rfl rfl)
theorem dX2_closes_34 : decode cX2_closes 34 = .ok (.return_, 1) := dk_177 (dk_at dksX2_closes_1 10 rfl rfl)
abbrev cX2_swaps : ByteArray := prog_15_method_8_code
def yX2_swaps : MethodName := ⟨RX2, "swaps", "(II)V"⟩
def dkwX2_swaps_1 : List UInt8 := [180, 0, 9, 28, 29, 79, 42, 180, 0, 15, 28, 21, 4, 79, 177]
abbrev dktX2_swaps_1 : List UInt8 := dkwX2_swaps_1 ++ []
def dkwX2_swaps_0 : List UInt8 := [42, 180, 0, 9, 27, 46, 62, 42, 180, 0, 15, 27, 46, 54, 4, 42, 28, 27, 182, 0, 28, 42]
abbrev dktX2_swaps_0 : List UInt8 := dkwX2_swaps_0 ++ dktX2_swaps_1
theorem dksX2_swaps_0 : cX2_swaps.data.toList.drop 0 = dktX2_swaps_0 := by decide +kernel
theorem dksX2_swaps_1 : cX2_swaps.data.toList.drop 22 = dktX2_swaps_1 := dk_seg dksX2_swaps_0 22 rfl rfl
theorem dX2_swaps_0 : decode cX2_swaps 0 = .ok (.aload_n 0, 1) := dk_42 (dk_at dksX2_swaps_0 0 rfl rfl)
theorem dX2_swaps_1 : decode cX2_swaps 1 = .ok (.getfield 9, 3) := dk_180 0 9 (dk_at dksX2_swaps_0 1 rfl rfl)
theorem dX2_swaps_4 : decode cX2_swaps 4 = .ok (.iload_n 1, 1) := dk_27 (dk_at dksX2_swaps_0 4 rfl rfl)
theorem dX2_swaps_5 : decode cX2_swaps 5 = .ok (.iaload, 1) := dk_46 (dk_at dksX2_swaps_0 5 rfl rfl)
theorem dX2_swaps_6 : decode cX2_swaps 6 = .ok (.istore_n 3, 1) := dk_62 (dk_at dksX2_swaps_0 6 rfl rfl)
theorem dX2_swaps_7 : decode cX2_swaps 7 = .ok (.aload_n 0, 1) := dk_42 (dk_at dksX2_swaps_0 7 rfl rfl)
theorem dX2_swaps_8 : decode cX2_swaps 8 = .ok (.getfield 15, 3) := dk_180 0 15 (dk_at dksX2_swaps_0 8 rfl rfl)
theorem dX2_swaps_11 : decode cX2_swaps 11 = .ok (.iload_n 1, 1) := dk_27 (dk_at dksX2_swaps_0 11 rfl rfl)
theorem dX2_swaps_12 : decode cX2_swaps 12 = .ok (.iaload, 1) := dk_46 (dk_at dksX2_swaps_0 12 rfl rfl)
theorem dX2_swaps_13 : decode cX2_swaps 13 = .ok (.istore 4, 2) := dk_54 4 (dk_at dksX2_swaps_0 13 rfl rfl)
theorem dX2_swaps_15 : decode cX2_swaps 15 = .ok (.aload_n 0, 1) := dk_42 (dk_at dksX2_swaps_0 15 rfl rfl)
theorem dX2_swaps_16 : decode cX2_swaps 16 = .ok (.iload_n 2, 1) := dk_28 (dk_at dksX2_swaps_0 16 rfl rfl)
theorem dX2_swaps_17 : decode cX2_swaps 17 = .ok (.iload_n 1, 1) := dk_27 (dk_at dksX2_swaps_0 17 rfl rfl)
theorem dX2_swaps_18 : decode cX2_swaps 18 = .ok (.invokevirtual 28, 3) := dk_182 0 28 (dk_at dksX2_swaps_0 18 rfl rfl)
theorem dX2_swaps_21 : decode cX2_swaps 21 = .ok (.aload_n 0, 1) := dk_42 (dk_at dksX2_swaps_0 21 rfl rfl)
theorem dX2_swaps_22 : decode cX2_swaps 22 = .ok (.getfield 9, 3) := dk_180 0 9 (dk_at dksX2_swaps_1 0 rfl rfl)
theorem dX2_swaps_25 : decode cX2_swaps 25 = .ok (.iload_n 2, 1) := dk_28 (dk_at dksX2_swaps_1 3 rfl rfl)
theorem dX2_swaps_26 : decode cX2_swaps 26 = .ok (.iload_n 3, 1) := dk_29 (dk_at dksX2_swaps_1 4 rfl rfl)
theorem dX2_swaps_27 : decode cX2_swaps 27 = .ok (.iastore, 1) := dk_79 (dk_at dksX2_swaps_1 5 rfl rfl)
theorem dX2_swaps_28 : decode cX2_swaps 28 = .ok (.aload_n 0, 1) := dk_42 (dk_at dksX2_swaps_1 6 rfl rfl)
theorem dX2_swaps_29 : decode cX2_swaps 29 = .ok (.getfield 15, 3) := dk_180 0 15 (dk_at dksX2_swaps_1 7 rfl rfl)
theorem dX2_swaps_32 : decode cX2_swaps 32 = .ok (.iload_n 2, 1) := dk_28 (dk_at dksX2_swaps_1 10 rfl rfl)
theorem dX2_swaps_33 : decode cX2_swaps 33 = .ok (.iload 4, 2) := dk_21 4 (dk_at dksX2_swaps_1 11 rfl rfl)
theorem dX2_swaps_35 : decode cX2_swaps 35 = .ok (.iastore, 1) := dk_79 (dk_at dksX2_swaps_1 13 rfl rfl)
theorem dX2_swaps_36 : decode cX2_swaps 36 = .ok (.return_, 1) := dk_177 (dk_at dksX2_swaps_1 14 rfl rfl)
theorem q90 : (Jvm.Cond.initialized "ModeDesk$Row") ∈ lw_all := lw_g (lw_at lw_m1 2 rfl) rfl
theorem q134 : (Jvm.Cond.instantiable "ModeDesk$Row" (3 : Nat)) ∈ lw_all := lw_g (lw_at lw_m1 46 rfl) rfl
theorem q136 : (Jvm.Cond.instanceMethod ({ cls := "ModeDesk$Row", name := "<init>", desc := "()V" } : Jvm.MethodName)) ∈ lw_all := lw_g (lw_at lw_m1 48 rfl) rfl
theorem q137 : (Jvm.Cond.code ({ cls := "ModeDesk$Row", name := "<init>", desc := "()V" } : Jvm.MethodName) prog_15_method_1_code (1 : Nat) (Option.none : Option Jvm.ClassFile.FieldType)) ∈ lw_all := lw_g (lw_at lw_m1 49 rfl) rfl
theorem q138 : (Jvm.Cond.methodLink "ModeDesk$Row" (3 : Nat) ({ cls := "java/lang/Object", name := "<init>", desc := "()V" } : Jvm.MethodName)) ∈ lw_all := lw_g (lw_at lw_m1 50 rfl) rfl
theorem q139 : (Jvm.Cond.fieldLink "ModeDesk$Row" (9 : Nat) "ModeDesk$Row" "value" "[I") ∈ lw_all := lw_g (lw_at lw_m1 51 rfl) rfl
theorem q142 : (Jvm.Cond.fieldLink "ModeDesk$Row" (15 : Nat) "ModeDesk$Row" "weight" "[I") ∈ lw_all := lw_g (lw_at lw_m1 54 rfl) rfl
theorem q147 : (Jvm.Cond.fieldLink "ModeDesk$Row" (24 : Nat) "ModeDesk$Row" "many" "I") ∈ lw_all := lw_g (lw_at lw_m1 59 rfl) rfl
theorem q151 : (Jvm.Cond.laysFinal "ModeDesk$Row" "ModeDesk$Row" "value" "[I") ∈ lw_all := lw_g (lw_at lw_m1 63 rfl) rfl
theorem q152 : (Jvm.Cond.soleField "ModeDesk$Row" "value") ∈ lw_all := lw_g (lw_at lw_m1 64 rfl) rfl
theorem q153 : (Jvm.Cond.laysFinal "ModeDesk$Row" "ModeDesk$Row" "weight" "[I") ∈ lw_all := lw_g (lw_at lw_m1 65 rfl) rfl
theorem q154 : (Jvm.Cond.soleField "ModeDesk$Row" "weight") ∈ lw_all := lw_g (lw_at lw_m1 66 rfl) rfl
theorem q155 : (Jvm.Cond.lays "ModeDesk$Row" "ModeDesk$Row" "many" "I") ∈ lw_all := lw_g (lw_at lw_m1 67 rfl) rfl
theorem q156 : (Jvm.Cond.soleField "ModeDesk$Row" "many") ∈ lw_all := lw_g (lw_at lw_m1 68 rfl) rfl
theorem q157 : (Jvm.Cond.superclass "ModeDesk$Row" "java/lang/Object") ∈ lw_all := lw_g (lw_at lw_m1 69 rfl) rfl
theorem q668 : (Jvm.Cond.instanceMethod ({ cls := "ModeDesk$Row", name := "adds", desc := "(I)V" } : Jvm.MethodName)) ∈ lw_all := lw_g (lw_at lw_m3 100 rfl) rfl
theorem q669 : (Jvm.Cond.selects "ModeDesk$Row" ({ cls := "ModeDesk$Row", name := "adds", desc := "(I)V" } : Jvm.MethodName) ({ cls := "ModeDesk$Row", name := "adds", desc := "(I)V" } : Jvm.MethodName)) ∈ lw_all := lw_g (lw_at lw_m3 101 rfl) rfl
theorem q670 : (Jvm.Cond.code ({ cls := "ModeDesk$Row", name := "adds", desc := "(I)V" } : Jvm.MethodName) prog_15_method_4_code (2 : Nat) (Option.none : Option Jvm.ClassFile.FieldType)) ∈ lw_all := lw_g (lw_at lw_m3 102 rfl) rfl
theorem q691 : (Jvm.Cond.instanceMethod ({ cls := "ModeDesk$Row", name := "like", desc := "(LModeDesk$Row;)LModeDesk$Row;" } : Jvm.MethodName)) ∈ lw_all := lw_g (lw_at lw_m3 123 rfl) rfl
theorem q692 : (Jvm.Cond.selects "ModeDesk$Row" ({ cls := "ModeDesk$Row", name := "like", desc := "(LModeDesk$Row;)LModeDesk$Row;" } : Jvm.MethodName) ({ cls := "ModeDesk$Row", name := "like", desc := "(LModeDesk$Row;)LModeDesk$Row;" } : Jvm.MethodName)) ∈ lw_all := lw_g (lw_at lw_m3 124 rfl) rfl
theorem q693 : (Jvm.Cond.code ({ cls := "ModeDesk$Row", name := "like", desc := "(LModeDesk$Row;)LModeDesk$Row;" } : Jvm.MethodName) prog_15_method_2_code (2 : Nat) (Option.some (Jvm.ClassFile.FieldType.object "ModeDesk$Row"))) ∈ lw_all := lw_g (lw_at lw_m3 125 rfl) rfl
theorem q694 : (Jvm.Cond.methodLink "ModeDesk$Row" (18 : Nat) ({ cls := "java/lang/System", name := "arraycopy", desc := "(Ljava/lang/Object;ILjava/lang/Object;II)V" } : Jvm.MethodName)) ∈ lw_all := lw_g (lw_at lw_m3 126 rfl) rfl
theorem q816 : (Jvm.Cond.instanceMethod ({ cls := "ModeDesk$Row", name := "isLike", desc := "(LModeDesk$Row;)Z" } : Jvm.MethodName)) ∈ lw_all := lw_g (lw_at lw_m4 8 rfl) rfl
theorem q817 : (Jvm.Cond.selects "ModeDesk$Row" ({ cls := "ModeDesk$Row", name := "isLike", desc := "(LModeDesk$Row;)Z" } : Jvm.MethodName) ({ cls := "ModeDesk$Row", name := "isLike", desc := "(LModeDesk$Row;)Z" } : Jvm.MethodName)) ∈ lw_all := lw_g (lw_at lw_m4 9 rfl) rfl
theorem q818 : (Jvm.Cond.code ({ cls := "ModeDesk$Row", name := "isLike", desc := "(LModeDesk$Row;)Z" } : Jvm.MethodName) prog_15_method_3_code (3 : Nat) (Option.some Jvm.ClassFile.FieldType.boolean)) ∈ lw_all := lw_g (lw_at lw_m4 10 rfl) rfl
theorem q832 : (Jvm.Cond.instanceMethod ({ cls := "ModeDesk$Row", name := "unlike", desc := "(LModeDesk$Row;)I" } : Jvm.MethodName)) ∈ lw_all := lw_g (lw_at lw_m4 24 rfl) rfl
theorem q833 : (Jvm.Cond.selects "ModeDesk$Row" ({ cls := "ModeDesk$Row", name := "unlike", desc := "(LModeDesk$Row;)I" } : Jvm.MethodName) ({ cls := "ModeDesk$Row", name := "unlike", desc := "(LModeDesk$Row;)I" } : Jvm.MethodName)) ∈ lw_all := lw_g (lw_at lw_m4 25 rfl) rfl
theorem q834 : (Jvm.Cond.code ({ cls := "ModeDesk$Row", name := "unlike", desc := "(LModeDesk$Row;)I" } : Jvm.MethodName) prog_15_method_9_code (4 : Nat) (Option.some Jvm.ClassFile.FieldType.int)) ∈ lw_all := lw_g (lw_at lw_m4 26 rfl) rfl
theorem q845 : (Jvm.Cond.instanceMethod ({ cls := "ModeDesk$Row", name := "opens", desc := "(II)V" } : Jvm.MethodName)) ∈ lw_all := lw_g (lw_at lw_m4 37 rfl) rfl
theorem q846 : (Jvm.Cond.selects "ModeDesk$Row" ({ cls := "ModeDesk$Row", name := "opens", desc := "(II)V" } : Jvm.MethodName) ({ cls := "ModeDesk$Row", name := "opens", desc := "(II)V" } : Jvm.MethodName)) ∈ lw_all := lw_g (lw_at lw_m4 38 rfl) rfl
theorem q847 : (Jvm.Cond.code ({ cls := "ModeDesk$Row", name := "opens", desc := "(II)V" } : Jvm.MethodName) prog_15_method_5_code (4 : Nat) (Option.none : Option Jvm.ClassFile.FieldType)) ∈ lw_all := lw_g (lw_at lw_m4 39 rfl) rfl
theorem q848 : (Jvm.Cond.methodLink "ModeDesk$Row" (28 : Nat) ({ cls := "ModeDesk$Row", name := "copies", desc := "(II)V" } : Jvm.MethodName)) ∈ lw_all := lw_g (lw_at lw_m4 40 rfl) rfl
theorem q849 : (Jvm.Cond.instanceMethod ({ cls := "ModeDesk$Row", name := "copies", desc := "(II)V" } : Jvm.MethodName)) ∈ lw_all := lw_g (lw_at lw_m4 41 rfl) rfl
theorem q850 : (Jvm.Cond.selects "ModeDesk$Row" ({ cls := "ModeDesk$Row", name := "copies", desc := "(II)V" } : Jvm.MethodName) ({ cls := "ModeDesk$Row", name := "copies", desc := "(II)V" } : Jvm.MethodName)) ∈ lw_all := lw_g (lw_at lw_m4 42 rfl) rfl
theorem q851 : (Jvm.Cond.code ({ cls := "ModeDesk$Row", name := "copies", desc := "(II)V" } : Jvm.MethodName) prog_15_method_7_code (3 : Nat) (Option.none : Option Jvm.ClassFile.FieldType)) ∈ lw_all := lw_g (lw_at lw_m4 43 rfl) rfl
theorem q857 : (Jvm.Cond.instanceMethod ({ cls := "ModeDesk$Row", name := "closes", desc := "(I)V" } : Jvm.MethodName)) ∈ lw_all := lw_g (lw_at lw_m4 49 rfl) rfl
theorem q858 : (Jvm.Cond.selects "ModeDesk$Row" ({ cls := "ModeDesk$Row", name := "closes", desc := "(I)V" } : Jvm.MethodName) ({ cls := "ModeDesk$Row", name := "closes", desc := "(I)V" } : Jvm.MethodName)) ∈ lw_all := lw_g (lw_at lw_m4 50 rfl) rfl
theorem q859 : (Jvm.Cond.code ({ cls := "ModeDesk$Row", name := "closes", desc := "(I)V" } : Jvm.MethodName) prog_15_method_6_code (3 : Nat) (Option.none : Option Jvm.ClassFile.FieldType)) ∈ lw_all := lw_g (lw_at lw_m4 51 rfl) rfl
theorem q873 : (Jvm.Cond.instanceMethod ({ cls := "ModeDesk$Row", name := "swaps", desc := "(II)V" } : Jvm.MethodName)) ∈ lw_all := lw_g (lw_at lw_m4 65 rfl) rfl
theorem q874 : (Jvm.Cond.selects "ModeDesk$Row" ({ cls := "ModeDesk$Row", name := "swaps", desc := "(II)V" } : Jvm.MethodName) ({ cls := "ModeDesk$Row", name := "swaps", desc := "(II)V" } : Jvm.MethodName)) ∈ lw_all := lw_g (lw_at lw_m4 66 rfl) rfl
theorem q875 : (Jvm.Cond.code ({ cls := "ModeDesk$Row", name := "swaps", desc := "(II)V" } : Jvm.MethodName) prog_15_method_8_code (5 : Nat) (Option.none : Option Jvm.ClassFile.FieldType)) ∈ lw_all := lw_g (lw_at lw_m4 67 rfl) rfl
theorem q1984 : (Jvm.Cond.castable "ModeDesk$Row" "java/lang/Object") ∈ lw_tbl := lw_at lw_m8 216 rfl
theorem in_X2 : ∀ w ∈ wsX20, w ∈ lw_all := lw_in wsX20 [151, 153, 155] (by decide +kernel) (by decide +kernel)
/-! ModeDesk$1 -/
set_option maxRecDepth 100000
def RX3 : String := "ModeDesk$1"
def TX3 : u_T := fun k => match k with
  | _ => ("ModeDesk$1", "this$0", "LModeDesk;", true)
def tyX3 : Nat → FieldType := fun k => match k with
  | _ => .object "ModeDesk"
abbrev wsX30 : List Cond := u_ws RX3 TX3 1
theorem nmX3 : ∀ a, a < 1 → ∀ b, b < 1 → a ≠ b → (TX3 a).2.1 ≠ (TX3 b).2.1 := by decide +kernel
theorem tyX3_ok : ∀ k, k < 1 → parseFieldDescriptor (TX3 k).2.2.1 = some (tyX3 k) := by decide +kernel
abbrev cX3_init : ByteArray := prog_2_method_1_code
def yX3_init : MethodName := ⟨RX3, "<init>", "(LModeDesk;)V"⟩
def dkwX3_init_0 : List UInt8 := [42, 43, 181, 0, 1, 42, 183, 0, 7, 177]
abbrev dktX3_init_0 : List UInt8 := dkwX3_init_0 ++ []
theorem dksX3_init_0 : cX3_init.data.toList.drop 0 = dktX3_init_0 := by decide +kernel
theorem dX3_init_0 : decode cX3_init 0 = .ok (.aload_n 0, 1) := dk_42 (dk_at dksX3_init_0 0 rfl rfl)
theorem dX3_init_1 : decode cX3_init 1 = .ok (.aload_n 1, 1) := dk_43 (dk_at dksX3_init_0 1 rfl rfl)
theorem dX3_init_2 : decode cX3_init 2 = .ok (.putfield 1, 3) := dk_181 0 1 (dk_at dksX3_init_0 2 rfl rfl)
theorem dX3_init_5 : decode cX3_init 5 = .ok (.aload_n 0, 1) := dk_42 (dk_at dksX3_init_0 5 rfl rfl)
theorem dX3_init_6 : decode cX3_init 6 = .ok (.invokespecial 7, 3) := dk_183 0 7 (dk_at dksX3_init_0 6 rfl rfl)
theorem dX3_init_9 : decode cX3_init 9 = .ok (.return_, 1) := dk_177 (dk_at dksX3_init_0 9 rfl rfl)
abbrev cX3_is : ByteArray := prog_2_method_2_code
def yX3_is : MethodName := ⟨RX3, "is", "(IIII)Z"⟩
def dkwX3_is_1 : List UInt8 := [167, 0, 4, 3, 172]
abbrev dktX3_is_1 : List UInt8 := dkwX3_is_1 ++ []
def dkwX3_is_0 : List UInt8 := [42, 180, 0, 1, 27, 29, 182, 0, 13, 42, 180, 0, 1, 28, 29, 182, 0, 13, 162, 0, 7, 4]
abbrev dktX3_is_0 : List UInt8 := dkwX3_is_0 ++ dktX3_is_1
theorem dksX3_is_0 : cX3_is.data.toList.drop 0 = dktX3_is_0 := by decide +kernel
theorem dksX3_is_1 : cX3_is.data.toList.drop 22 = dktX3_is_1 := dk_seg dksX3_is_0 22 rfl rfl
theorem dX3_is_0 : decode cX3_is 0 = .ok (.aload_n 0, 1) := dk_42 (dk_at dksX3_is_0 0 rfl rfl)
theorem dX3_is_1 : decode cX3_is 1 = .ok (.getfield 1, 3) := dk_180 0 1 (dk_at dksX3_is_0 1 rfl rfl)
theorem dX3_is_4 : decode cX3_is 4 = .ok (.iload_n 1, 1) := dk_27 (dk_at dksX3_is_0 4 rfl rfl)
theorem dX3_is_5 : decode cX3_is 5 = .ok (.iload_n 3, 1) := dk_29 (dk_at dksX3_is_0 5 rfl rfl)
theorem dX3_is_6 : decode cX3_is 6 = .ok (.invokevirtual 13, 3) := dk_182 0 13 (dk_at dksX3_is_0 6 rfl rfl)
theorem dX3_is_9 : decode cX3_is 9 = .ok (.aload_n 0, 1) := dk_42 (dk_at dksX3_is_0 9 rfl rfl)
theorem dX3_is_10 : decode cX3_is 10 = .ok (.getfield 1, 3) := dk_180 0 1 (dk_at dksX3_is_0 10 rfl rfl)
theorem dX3_is_13 : decode cX3_is 13 = .ok (.iload_n 2, 1) := dk_28 (dk_at dksX3_is_0 13 rfl rfl)
theorem dX3_is_14 : decode cX3_is 14 = .ok (.iload_n 3, 1) := dk_29 (dk_at dksX3_is_0 14 rfl rfl)
theorem dX3_is_15 : decode cX3_is 15 = .ok (.invokevirtual 13, 3) := dk_182 0 13 (dk_at dksX3_is_0 15 rfl rfl)
theorem dX3_is_18 : decode cX3_is 18 = .ok (.if_icmp .ge 7, 3) := dk_162 0 7 (dk_at dksX3_is_0 18 rfl rfl)
theorem dX3_is_21 : decode cX3_is 21 = .ok (.iconst 1, 1) := dk_4 (dk_at dksX3_is_0 21 rfl rfl)
theorem dX3_is_22 : decode cX3_is 22 = .ok (.goto 4, 3) := dk_167 0 4 (dk_at dksX3_is_1 0 rfl rfl)
theorem dX3_is_25 : decode cX3_is 25 = .ok (.iconst 0, 1) := dk_3 (dk_at dksX3_is_1 3 rfl rfl)
theorem dX3_is_26 : decode cX3_is 26 = .ok (.ireturn, 1) := dk_172 (dk_at dksX3_is_1 4 rfl rfl)
theorem q91 : (Jvm.Cond.initialized "ModeDesk$1") ∈ lw_all := lw_g (lw_at lw_m1 3 rfl) rfl
theorem q165 : (Jvm.Cond.instantiable "ModeDesk$1" (1 : Nat)) ∈ lw_all := lw_g (lw_at lw_m1 77 rfl) rfl
theorem q167 : (Jvm.Cond.instanceMethod ({ cls := "ModeDesk$1", name := "<init>", desc := "(LModeDesk;)V" } : Jvm.MethodName)) ∈ lw_all := lw_g (lw_at lw_m1 79 rfl) rfl
theorem q168 : (Jvm.Cond.code ({ cls := "ModeDesk$1", name := "<init>", desc := "(LModeDesk;)V" } : Jvm.MethodName) prog_2_method_1_code (2 : Nat) (Option.none : Option Jvm.ClassFile.FieldType)) ∈ lw_all := lw_g (lw_at lw_m1 80 rfl) rfl
theorem q169 : (Jvm.Cond.methodLink "ModeDesk$1" (7 : Nat) ({ cls := "java/lang/Object", name := "<init>", desc := "()V" } : Jvm.MethodName)) ∈ lw_all := lw_g (lw_at lw_m1 81 rfl) rfl
theorem q170 : (Jvm.Cond.fieldLink "ModeDesk$1" (1 : Nat) "ModeDesk$1" "this$0" "LModeDesk;") ∈ lw_all := lw_g (lw_at lw_m1 82 rfl) rfl
theorem q171 : (Jvm.Cond.laysFinal "ModeDesk$1" "ModeDesk$1" "this$0" "LModeDesk;") ∈ lw_all := lw_g (lw_at lw_m1 83 rfl) rfl
theorem q172 : (Jvm.Cond.soleField "ModeDesk$1" "this$0") ∈ lw_all := lw_g (lw_at lw_m1 84 rfl) rfl
theorem q173 : (Jvm.Cond.superclass "ModeDesk$1" "java/lang/Object") ∈ lw_all := lw_g (lw_at lw_m1 85 rfl) rfl
theorem q754 : (Jvm.Cond.castable "ModeDesk$1" "ModeDesk$Ahead") ∈ lw_tbl := lw_at lw_m3 186 rfl
theorem q755 : (Jvm.Cond.selects "ModeDesk$1" ({ cls := "ModeDesk$Ahead", name := "is", desc := "(IIII)Z" } : Jvm.MethodName) ({ cls := "ModeDesk$1", name := "is", desc := "(IIII)Z" } : Jvm.MethodName)) ∈ lw_all := lw_g (lw_at lw_m3 187 rfl) rfl
theorem q756 : (Jvm.Cond.unhidden "ModeDesk$1" "is" "(IIII)Z") ∈ lw_tbl := lw_at lw_m3 188 rfl
theorem q757 : (Jvm.Cond.instanceMethod ({ cls := "ModeDesk$1", name := "is", desc := "(IIII)Z" } : Jvm.MethodName)) ∈ lw_all := lw_g (lw_at lw_m3 189 rfl) rfl
theorem q758 : (Jvm.Cond.publicMethod ({ cls := "ModeDesk$1", name := "is", desc := "(IIII)Z" } : Jvm.MethodName)) ∈ lw_tbl := lw_at lw_m3 190 rfl
theorem q759 : (Jvm.Cond.code ({ cls := "ModeDesk$1", name := "is", desc := "(IIII)Z" } : Jvm.MethodName) prog_2_method_2_code (5 : Nat) (Option.some Jvm.ClassFile.FieldType.boolean)) ∈ lw_all := lw_g (lw_at lw_m3 191 rfl) rfl
theorem q760 : (Jvm.Cond.methodLinkNest "ModeDesk$1" (13 : Nat) ({ cls := "ModeDesk", name := "firstOf", desc := "(II)I" } : Jvm.MethodName) "ModeDesk") ∈ lw_tbl := lw_at lw_m3 192 rfl
theorem q1985 : (Jvm.Cond.castable "ModeDesk$1" "java/lang/Object") ∈ lw_tbl := lw_at lw_m8 217 rfl
theorem in_X3 : ∀ w ∈ wsX30, w ∈ lw_all := lw_in wsX30 [171] (by decide +kernel) (by decide +kernel)
/-! ModeDesk$2 -/
set_option maxRecDepth 100000
def RX4 : String := "ModeDesk$2"
def TX4 : u_T := fun k => match k with
  | _ => ("ModeDesk$2", "this$0", "LModeDesk;", true)
def tyX4 : Nat → FieldType := fun k => match k with
  | _ => .object "ModeDesk"
abbrev wsX40 : List Cond := u_ws RX4 TX4 1
theorem nmX4 : ∀ a, a < 1 → ∀ b, b < 1 → a ≠ b → (TX4 a).2.1 ≠ (TX4 b).2.1 := by decide +kernel
theorem tyX4_ok : ∀ k, k < 1 → parseFieldDescriptor (TX4 k).2.2.1 = some (tyX4 k) := by decide +kernel
abbrev cX4_init : ByteArray := prog_4_method_1_code
def yX4_init : MethodName := ⟨RX4, "<init>", "(LModeDesk;)V"⟩
def dkwX4_init_0 : List UInt8 := [42, 43, 181, 0, 1, 42, 183, 0, 7, 177]
abbrev dktX4_init_0 : List UInt8 := dkwX4_init_0 ++ []
theorem dksX4_init_0 : cX4_init.data.toList.drop 0 = dktX4_init_0 := by decide +kernel
theorem dX4_init_0 : decode cX4_init 0 = .ok (.aload_n 0, 1) := dk_42 (dk_at dksX4_init_0 0 rfl rfl)
theorem dX4_init_1 : decode cX4_init 1 = .ok (.aload_n 1, 1) := dk_43 (dk_at dksX4_init_0 1 rfl rfl)
theorem dX4_init_2 : decode cX4_init 2 = .ok (.putfield 1, 3) := dk_181 0 1 (dk_at dksX4_init_0 2 rfl rfl)
theorem dX4_init_5 : decode cX4_init 5 = .ok (.aload_n 0, 1) := dk_42 (dk_at dksX4_init_0 5 rfl rfl)
theorem dX4_init_6 : decode cX4_init 6 = .ok (.invokespecial 7, 3) := dk_183 0 7 (dk_at dksX4_init_0 6 rfl rfl)
theorem dX4_init_9 : decode cX4_init 9 = .ok (.return_, 1) := dk_177 (dk_at dksX4_init_0 9 rfl rfl)
abbrev cX4_is : ByteArray := prog_4_method_2_code
def yX4_is : MethodName := ⟨RX4, "is", "(IIII)Z"⟩
def dkwX4_is_1 : List UInt8 := [167, 0, 4, 3, 172]
abbrev dktX4_is_1 : List UInt8 := dkwX4_is_1 ++ []
def dkwX4_is_0 : List UInt8 := [42, 180, 0, 1, 27, 21, 4, 182, 0, 13, 42, 180, 0, 1, 28, 21, 4, 182, 0, 13, 164, 0, 7, 4]
abbrev dktX4_is_0 : List UInt8 := dkwX4_is_0 ++ dktX4_is_1
theorem dksX4_is_0 : cX4_is.data.toList.drop 0 = dktX4_is_0 := by decide +kernel
theorem dksX4_is_1 : cX4_is.data.toList.drop 24 = dktX4_is_1 := dk_seg dksX4_is_0 24 rfl rfl
theorem dX4_is_0 : decode cX4_is 0 = .ok (.aload_n 0, 1) := dk_42 (dk_at dksX4_is_0 0 rfl rfl)
theorem dX4_is_1 : decode cX4_is 1 = .ok (.getfield 1, 3) := dk_180 0 1 (dk_at dksX4_is_0 1 rfl rfl)
theorem dX4_is_4 : decode cX4_is 4 = .ok (.iload_n 1, 1) := dk_27 (dk_at dksX4_is_0 4 rfl rfl)
theorem dX4_is_5 : decode cX4_is 5 = .ok (.iload 4, 2) := dk_21 4 (dk_at dksX4_is_0 5 rfl rfl)
theorem dX4_is_7 : decode cX4_is 7 = .ok (.invokevirtual 13, 3) := dk_182 0 13 (dk_at dksX4_is_0 7 rfl rfl)
theorem dX4_is_10 : decode cX4_is 10 = .ok (.aload_n 0, 1) := dk_42 (dk_at dksX4_is_0 10 rfl rfl)
theorem dX4_is_11 : decode cX4_is 11 = .ok (.getfield 1, 3) := dk_180 0 1 (dk_at dksX4_is_0 11 rfl rfl)
theorem dX4_is_14 : decode cX4_is 14 = .ok (.iload_n 2, 1) := dk_28 (dk_at dksX4_is_0 14 rfl rfl)
theorem dX4_is_15 : decode cX4_is 15 = .ok (.iload 4, 2) := dk_21 4 (dk_at dksX4_is_0 15 rfl rfl)
theorem dX4_is_17 : decode cX4_is 17 = .ok (.invokevirtual 13, 3) := dk_182 0 13 (dk_at dksX4_is_0 17 rfl rfl)
theorem dX4_is_20 : decode cX4_is 20 = .ok (.if_icmp .le 7, 3) := dk_164 0 7 (dk_at dksX4_is_0 20 rfl rfl)
theorem dX4_is_23 : decode cX4_is 23 = .ok (.iconst 1, 1) := dk_4 (dk_at dksX4_is_0 23 rfl rfl)
theorem dX4_is_24 : decode cX4_is 24 = .ok (.goto 4, 3) := dk_167 0 4 (dk_at dksX4_is_1 0 rfl rfl)
theorem dX4_is_27 : decode cX4_is 27 = .ok (.iconst 0, 1) := dk_3 (dk_at dksX4_is_1 3 rfl rfl)
theorem dX4_is_28 : decode cX4_is 28 = .ok (.ireturn, 1) := dk_172 (dk_at dksX4_is_1 4 rfl rfl)
theorem q92 : (Jvm.Cond.initialized "ModeDesk$2") ∈ lw_all := lw_g (lw_at lw_m1 4 rfl) rfl
theorem q175 : (Jvm.Cond.instantiable "ModeDesk$2" (1 : Nat)) ∈ lw_all := lw_g (lw_at lw_m1 87 rfl) rfl
theorem q177 : (Jvm.Cond.instanceMethod ({ cls := "ModeDesk$2", name := "<init>", desc := "(LModeDesk;)V" } : Jvm.MethodName)) ∈ lw_all := lw_g (lw_at lw_m1 89 rfl) rfl
theorem q178 : (Jvm.Cond.code ({ cls := "ModeDesk$2", name := "<init>", desc := "(LModeDesk;)V" } : Jvm.MethodName) prog_4_method_1_code (2 : Nat) (Option.none : Option Jvm.ClassFile.FieldType)) ∈ lw_all := lw_g (lw_at lw_m1 90 rfl) rfl
theorem q179 : (Jvm.Cond.methodLink "ModeDesk$2" (7 : Nat) ({ cls := "java/lang/Object", name := "<init>", desc := "()V" } : Jvm.MethodName)) ∈ lw_all := lw_g (lw_at lw_m1 91 rfl) rfl
theorem q180 : (Jvm.Cond.fieldLink "ModeDesk$2" (1 : Nat) "ModeDesk$2" "this$0" "LModeDesk;") ∈ lw_all := lw_g (lw_at lw_m1 92 rfl) rfl
theorem q181 : (Jvm.Cond.laysFinal "ModeDesk$2" "ModeDesk$2" "this$0" "LModeDesk;") ∈ lw_all := lw_g (lw_at lw_m1 93 rfl) rfl
theorem q182 : (Jvm.Cond.soleField "ModeDesk$2" "this$0") ∈ lw_all := lw_g (lw_at lw_m1 94 rfl) rfl
theorem q183 : (Jvm.Cond.superclass "ModeDesk$2" "java/lang/Object") ∈ lw_all := lw_g (lw_at lw_m1 95 rfl) rfl
theorem q765 : (Jvm.Cond.castable "ModeDesk$2" "ModeDesk$Ahead") ∈ lw_tbl := lw_at lw_m3 197 rfl
theorem q766 : (Jvm.Cond.selects "ModeDesk$2" ({ cls := "ModeDesk$Ahead", name := "is", desc := "(IIII)Z" } : Jvm.MethodName) ({ cls := "ModeDesk$2", name := "is", desc := "(IIII)Z" } : Jvm.MethodName)) ∈ lw_all := lw_g (lw_at lw_m3 198 rfl) rfl
theorem q767 : (Jvm.Cond.unhidden "ModeDesk$2" "is" "(IIII)Z") ∈ lw_tbl := lw_at lw_m3 199 rfl
theorem q768 : (Jvm.Cond.instanceMethod ({ cls := "ModeDesk$2", name := "is", desc := "(IIII)Z" } : Jvm.MethodName)) ∈ lw_all := lw_g (lw_at lw_m3 200 rfl) rfl
theorem q769 : (Jvm.Cond.publicMethod ({ cls := "ModeDesk$2", name := "is", desc := "(IIII)Z" } : Jvm.MethodName)) ∈ lw_tbl := lw_at lw_m3 201 rfl
theorem q770 : (Jvm.Cond.code ({ cls := "ModeDesk$2", name := "is", desc := "(IIII)Z" } : Jvm.MethodName) prog_4_method_2_code (5 : Nat) (Option.some Jvm.ClassFile.FieldType.boolean)) ∈ lw_all := lw_g (lw_at lw_m3 202 rfl) rfl
theorem q771 : (Jvm.Cond.methodLinkNest "ModeDesk$2" (13 : Nat) ({ cls := "ModeDesk", name := "lastOf", desc := "(II)I" } : Jvm.MethodName) "ModeDesk") ∈ lw_tbl := lw_at lw_m3 203 rfl
theorem q1986 : (Jvm.Cond.castable "ModeDesk$2" "java/lang/Object") ∈ lw_tbl := lw_at lw_m8 218 rfl
theorem in_X4 : ∀ w ∈ wsX40, w ∈ lw_all := lw_in wsX40 [181] (by decide +kernel) (by decide +kernel)
/-! ModeDesk$3 -/
set_option maxRecDepth 100000
def RX5 : String := "ModeDesk$3"
def TX5 : u_T := fun k => match k with
  | _ => ("ModeDesk$3", "this$0", "LModeDesk;", true)
def tyX5 : Nat → FieldType := fun k => match k with
  | _ => .object "ModeDesk"
abbrev wsX50 : List Cond := u_ws RX5 TX5 1
theorem nmX5 : ∀ a, a < 1 → ∀ b, b < 1 → a ≠ b → (TX5 a).2.1 ≠ (TX5 b).2.1 := by decide +kernel
theorem tyX5_ok : ∀ k, k < 1 → parseFieldDescriptor (TX5 k).2.2.1 = some (tyX5 k) := by decide +kernel
abbrev cX5_init : ByteArray := prog_5_method_1_code
def yX5_init : MethodName := ⟨RX5, "<init>", "(LModeDesk;)V"⟩
def dkwX5_init_0 : List UInt8 := [42, 43, 181, 0, 1, 42, 183, 0, 7, 177]
abbrev dktX5_init_0 : List UInt8 := dkwX5_init_0 ++ []
theorem dksX5_init_0 : cX5_init.data.toList.drop 0 = dktX5_init_0 := by decide +kernel
theorem dX5_init_0 : decode cX5_init 0 = .ok (.aload_n 0, 1) := dk_42 (dk_at dksX5_init_0 0 rfl rfl)
theorem dX5_init_1 : decode cX5_init 1 = .ok (.aload_n 1, 1) := dk_43 (dk_at dksX5_init_0 1 rfl rfl)
theorem dX5_init_2 : decode cX5_init 2 = .ok (.putfield 1, 3) := dk_181 0 1 (dk_at dksX5_init_0 2 rfl rfl)
theorem dX5_init_5 : decode cX5_init 5 = .ok (.aload_n 0, 1) := dk_42 (dk_at dksX5_init_0 5 rfl rfl)
theorem dX5_init_6 : decode cX5_init 6 = .ok (.invokespecial 7, 3) := dk_183 0 7 (dk_at dksX5_init_0 6 rfl rfl)
theorem dX5_init_9 : decode cX5_init 9 = .ok (.return_, 1) := dk_177 (dk_at dksX5_init_0 9 rfl rfl)
abbrev cX5_is : ByteArray := prog_5_method_2_code
def yX5_is : MethodName := ⟨RX5, "is", "(IIII)Z"⟩
def dkwX5_is_0 : List UInt8 := [27, 28, 162, 0, 7, 4, 167, 0, 4, 3, 172]
abbrev dktX5_is_0 : List UInt8 := dkwX5_is_0 ++ []
theorem dksX5_is_0 : cX5_is.data.toList.drop 0 = dktX5_is_0 := by decide +kernel
theorem dX5_is_0 : decode cX5_is 0 = .ok (.iload_n 1, 1) := dk_27 (dk_at dksX5_is_0 0 rfl rfl)
theorem dX5_is_1 : decode cX5_is 1 = .ok (.iload_n 2, 1) := dk_28 (dk_at dksX5_is_0 1 rfl rfl)
theorem dX5_is_2 : decode cX5_is 2 = .ok (.if_icmp .ge 7, 3) := dk_162 0 7 (dk_at dksX5_is_0 2 rfl rfl)
theorem dX5_is_5 : decode cX5_is 5 = .ok (.iconst 1, 1) := dk_4 (dk_at dksX5_is_0 5 rfl rfl)
theorem dX5_is_6 : decode cX5_is 6 = .ok (.goto 4, 3) := dk_167 0 4 (dk_at dksX5_is_0 6 rfl rfl)
theorem dX5_is_9 : decode cX5_is 9 = .ok (.iconst 0, 1) := dk_3 (dk_at dksX5_is_0 9 rfl rfl)
theorem dX5_is_10 : decode cX5_is 10 = .ok (.ireturn, 1) := dk_172 (dk_at dksX5_is_0 10 rfl rfl)
theorem q93 : (Jvm.Cond.initialized "ModeDesk$3") ∈ lw_all := lw_g (lw_at lw_m1 5 rfl) rfl
theorem q185 : (Jvm.Cond.instantiable "ModeDesk$3" (1 : Nat)) ∈ lw_all := lw_g (lw_at lw_m1 97 rfl) rfl
theorem q187 : (Jvm.Cond.instanceMethod ({ cls := "ModeDesk$3", name := "<init>", desc := "(LModeDesk;)V" } : Jvm.MethodName)) ∈ lw_all := lw_g (lw_at lw_m1 99 rfl) rfl
theorem q188 : (Jvm.Cond.code ({ cls := "ModeDesk$3", name := "<init>", desc := "(LModeDesk;)V" } : Jvm.MethodName) prog_5_method_1_code (2 : Nat) (Option.none : Option Jvm.ClassFile.FieldType)) ∈ lw_all := lw_g (lw_at lw_m1 100 rfl) rfl
theorem q189 : (Jvm.Cond.methodLink "ModeDesk$3" (7 : Nat) ({ cls := "java/lang/Object", name := "<init>", desc := "()V" } : Jvm.MethodName)) ∈ lw_all := lw_g (lw_at lw_m1 101 rfl) rfl
theorem q190 : (Jvm.Cond.fieldLink "ModeDesk$3" (1 : Nat) "ModeDesk$3" "this$0" "LModeDesk;") ∈ lw_all := lw_g (lw_at lw_m1 102 rfl) rfl
theorem q191 : (Jvm.Cond.laysFinal "ModeDesk$3" "ModeDesk$3" "this$0" "LModeDesk;") ∈ lw_all := lw_g (lw_at lw_m1 103 rfl) rfl
theorem q192 : (Jvm.Cond.soleField "ModeDesk$3" "this$0") ∈ lw_all := lw_g (lw_at lw_m1 104 rfl) rfl
theorem q193 : (Jvm.Cond.superclass "ModeDesk$3" "java/lang/Object") ∈ lw_all := lw_g (lw_at lw_m1 105 rfl) rfl
theorem q775 : (Jvm.Cond.castable "ModeDesk$3" "ModeDesk$Ahead") ∈ lw_tbl := lw_at lw_m3 207 rfl
theorem q776 : (Jvm.Cond.selects "ModeDesk$3" ({ cls := "ModeDesk$Ahead", name := "is", desc := "(IIII)Z" } : Jvm.MethodName) ({ cls := "ModeDesk$3", name := "is", desc := "(IIII)Z" } : Jvm.MethodName)) ∈ lw_all := lw_g (lw_at lw_m3 208 rfl) rfl
theorem q777 : (Jvm.Cond.unhidden "ModeDesk$3" "is" "(IIII)Z") ∈ lw_tbl := lw_at lw_m3 209 rfl
theorem q778 : (Jvm.Cond.instanceMethod ({ cls := "ModeDesk$3", name := "is", desc := "(IIII)Z" } : Jvm.MethodName)) ∈ lw_all := lw_g (lw_at lw_m3 210 rfl) rfl
theorem q779 : (Jvm.Cond.publicMethod ({ cls := "ModeDesk$3", name := "is", desc := "(IIII)Z" } : Jvm.MethodName)) ∈ lw_tbl := lw_at lw_m3 211 rfl
theorem q780 : (Jvm.Cond.code ({ cls := "ModeDesk$3", name := "is", desc := "(IIII)Z" } : Jvm.MethodName) prog_5_method_2_code (5 : Nat) (Option.some Jvm.ClassFile.FieldType.boolean)) ∈ lw_all := lw_g (lw_at lw_m3 212 rfl) rfl
theorem q1987 : (Jvm.Cond.castable "ModeDesk$3" "java/lang/Object") ∈ lw_tbl := lw_at lw_m8 219 rfl
theorem in_X5 : ∀ w ∈ wsX50, w ∈ lw_all := lw_in wsX50 [191] (by decide +kernel) (by decide +kernel)
/-! ModeDesk$4 -/
set_option maxRecDepth 100000
def RX6 : String := "ModeDesk$4"
def TX6 : u_T := fun k => match k with
  | _ => ("ModeDesk$4", "this$0", "LModeDesk;", true)
def tyX6 : Nat → FieldType := fun k => match k with
  | _ => .object "ModeDesk"
abbrev wsX60 : List Cond := u_ws RX6 TX6 1
theorem nmX6 : ∀ a, a < 1 → ∀ b, b < 1 → a ≠ b → (TX6 a).2.1 ≠ (TX6 b).2.1 := by decide +kernel
theorem tyX6_ok : ∀ k, k < 1 → parseFieldDescriptor (TX6 k).2.2.1 = some (tyX6 k) := by decide +kernel
abbrev cX6_init : ByteArray := prog_6_method_1_code
def yX6_init : MethodName := ⟨RX6, "<init>", "(LModeDesk;)V"⟩
def dkwX6_init_0 : List UInt8 := [42, 43, 181, 0, 1, 42, 183, 0, 7, 177]
abbrev dktX6_init_0 : List UInt8 := dkwX6_init_0 ++ []
theorem dksX6_init_0 : cX6_init.data.toList.drop 0 = dktX6_init_0 := by decide +kernel
theorem dX6_init_0 : decode cX6_init 0 = .ok (.aload_n 0, 1) := dk_42 (dk_at dksX6_init_0 0 rfl rfl)
theorem dX6_init_1 : decode cX6_init 1 = .ok (.aload_n 1, 1) := dk_43 (dk_at dksX6_init_0 1 rfl rfl)
theorem dX6_init_2 : decode cX6_init 2 = .ok (.putfield 1, 3) := dk_181 0 1 (dk_at dksX6_init_0 2 rfl rfl)
theorem dX6_init_5 : decode cX6_init 5 = .ok (.aload_n 0, 1) := dk_42 (dk_at dksX6_init_0 5 rfl rfl)
theorem dX6_init_6 : decode cX6_init 6 = .ok (.invokespecial 7, 3) := dk_183 0 7 (dk_at dksX6_init_0 6 rfl rfl)
theorem dX6_init_9 : decode cX6_init 9 = .ok (.return_, 1) := dk_177 (dk_at dksX6_init_0 9 rfl rfl)
abbrev cX6_is : ByteArray := prog_6_method_2_code
def yX6_is : MethodName := ⟨RX6, "is", "(IIII)Z"⟩
def dkwX6_is_0 : List UInt8 := [27, 28, 164, 0, 7, 4, 167, 0, 4, 3, 172]
abbrev dktX6_is_0 : List UInt8 := dkwX6_is_0 ++ []
theorem dksX6_is_0 : cX6_is.data.toList.drop 0 = dktX6_is_0 := by decide +kernel
theorem dX6_is_0 : decode cX6_is 0 = .ok (.iload_n 1, 1) := dk_27 (dk_at dksX6_is_0 0 rfl rfl)
theorem dX6_is_1 : decode cX6_is 1 = .ok (.iload_n 2, 1) := dk_28 (dk_at dksX6_is_0 1 rfl rfl)
theorem dX6_is_2 : decode cX6_is 2 = .ok (.if_icmp .le 7, 3) := dk_164 0 7 (dk_at dksX6_is_0 2 rfl rfl)
theorem dX6_is_5 : decode cX6_is 5 = .ok (.iconst 1, 1) := dk_4 (dk_at dksX6_is_0 5 rfl rfl)
theorem dX6_is_6 : decode cX6_is 6 = .ok (.goto 4, 3) := dk_167 0 4 (dk_at dksX6_is_0 6 rfl rfl)
theorem dX6_is_9 : decode cX6_is 9 = .ok (.iconst 0, 1) := dk_3 (dk_at dksX6_is_0 9 rfl rfl)
theorem dX6_is_10 : decode cX6_is 10 = .ok (.ireturn, 1) := dk_172 (dk_at dksX6_is_0 10 rfl rfl)
theorem q94 : (Jvm.Cond.initialized "ModeDesk$4") ∈ lw_all := lw_g (lw_at lw_m1 6 rfl) rfl
theorem q195 : (Jvm.Cond.instantiable "ModeDesk$4" (1 : Nat)) ∈ lw_all := lw_g (lw_at lw_m1 107 rfl) rfl
theorem q197 : (Jvm.Cond.instanceMethod ({ cls := "ModeDesk$4", name := "<init>", desc := "(LModeDesk;)V" } : Jvm.MethodName)) ∈ lw_all := lw_g (lw_at lw_m1 109 rfl) rfl
theorem q198 : (Jvm.Cond.code ({ cls := "ModeDesk$4", name := "<init>", desc := "(LModeDesk;)V" } : Jvm.MethodName) prog_6_method_1_code (2 : Nat) (Option.none : Option Jvm.ClassFile.FieldType)) ∈ lw_all := lw_g (lw_at lw_m1 110 rfl) rfl
theorem q199 : (Jvm.Cond.methodLink "ModeDesk$4" (7 : Nat) ({ cls := "java/lang/Object", name := "<init>", desc := "()V" } : Jvm.MethodName)) ∈ lw_all := lw_g (lw_at lw_m1 111 rfl) rfl
theorem q200 : (Jvm.Cond.fieldLink "ModeDesk$4" (1 : Nat) "ModeDesk$4" "this$0" "LModeDesk;") ∈ lw_all := lw_g (lw_at lw_m1 112 rfl) rfl
theorem q201 : (Jvm.Cond.laysFinal "ModeDesk$4" "ModeDesk$4" "this$0" "LModeDesk;") ∈ lw_all := lw_g (lw_at lw_m1 113 rfl) rfl
theorem q202 : (Jvm.Cond.soleField "ModeDesk$4" "this$0") ∈ lw_all := lw_g (lw_at lw_m1 114 rfl) rfl
theorem q203 : (Jvm.Cond.superclass "ModeDesk$4" "java/lang/Object") ∈ lw_all := lw_g (lw_at lw_m1 115 rfl) rfl
theorem q781 : (Jvm.Cond.castable "ModeDesk$4" "ModeDesk$Ahead") ∈ lw_tbl := lw_at lw_m3 213 rfl
theorem q782 : (Jvm.Cond.selects "ModeDesk$4" ({ cls := "ModeDesk$Ahead", name := "is", desc := "(IIII)Z" } : Jvm.MethodName) ({ cls := "ModeDesk$4", name := "is", desc := "(IIII)Z" } : Jvm.MethodName)) ∈ lw_all := lw_g (lw_at lw_m3 214 rfl) rfl
theorem q783 : (Jvm.Cond.unhidden "ModeDesk$4" "is" "(IIII)Z") ∈ lw_tbl := lw_at lw_m3 215 rfl
theorem q784 : (Jvm.Cond.instanceMethod ({ cls := "ModeDesk$4", name := "is", desc := "(IIII)Z" } : Jvm.MethodName)) ∈ lw_all := lw_g (lw_at lw_m3 216 rfl) rfl
theorem q785 : (Jvm.Cond.publicMethod ({ cls := "ModeDesk$4", name := "is", desc := "(IIII)Z" } : Jvm.MethodName)) ∈ lw_tbl := lw_at lw_m3 217 rfl
theorem q786 : (Jvm.Cond.code ({ cls := "ModeDesk$4", name := "is", desc := "(IIII)Z" } : Jvm.MethodName) prog_6_method_2_code (5 : Nat) (Option.some Jvm.ClassFile.FieldType.boolean)) ∈ lw_all := lw_g (lw_at lw_m3 218 rfl) rfl
theorem q1988 : (Jvm.Cond.castable "ModeDesk$4" "java/lang/Object") ∈ lw_tbl := lw_at lw_m8 220 rfl
theorem in_X6 : ∀ w ∈ wsX60, w ∈ lw_all := lw_in wsX60 [201] (by decide +kernel) (by decide +kernel)
/-! ModeDesk$Reader -/
set_option maxRecDepth 100000
def RX8 : String := "ModeDesk$Reader"
def TX8 : u_T := fun k => match k with
  | 0 => ("ModeDesk$Reader", "size", "I", true)
  | 1 => ("ModeDesk$Reader", "row", "LModeDesk$Row;", true)
  | 2 => ("ModeDesk$Reader", "at", "I", false)
  | 3 => ("ModeDesk$Reader", "kind", "I", false)
  | 4 => ("ModeDesk$Reader", "which", "I", false)
  | 5 => ("ModeDesk$Reader", "place", "I", false)
  | 6 => ("ModeDesk$Reader", "lines", "I", false)
  | 7 => ("ModeDesk$Reader", "block", "I", false)
  | 8 => ("ModeDesk$Reader", "tie", "I", false)
  | 9 => ("ModeDesk$Reader", "hasBlock", "Z", false)
  | 10 => ("ModeDesk$Reader", "hasTies", "Z", false)
  | 11 => ("ModeDesk$Reader", "word", "Ljava/lang/String;", false)
  | _ => ("ModeDesk$Reader", "this$0", "LModeDesk;", true)
def tyX8 : Nat → FieldType := fun k => match k with
  | 0 => .int
  | 1 => .object "ModeDesk$Row"
  | 2 => .int
  | 3 => .int
  | 4 => .int
  | 5 => .int
  | 6 => .int
  | 7 => .int
  | 8 => .int
  | 9 => .boolean
  | 10 => .boolean
  | 11 => .object "java/lang/String"
  | _ => .object "ModeDesk"
abbrev wsX80 : List Cond := u_ws RX8 TX8 13
set_option maxRecDepth 100000 in
theorem nmX8 : ∀ a, a < 13 → ∀ b, b < 13 → a ≠ b → (TX8 a).2.1 ≠ (TX8 b).2.1 := by decide +kernel
set_option maxRecDepth 100000 in
theorem tyX8_ok : ∀ k, k < 13 → parseFieldDescriptor (TX8 k).2.2.1 = some (tyX8 k) := by decide +kernel
abbrev cX8_init : ByteArray := prog_14_method_1_code
def yX8_init : MethodName := ⟨RX8, "<init>", "(LModeDesk;I)V"⟩
def dkwX8_init_1 : List UInt8 := [181, 0, 22, 42, 28, 181, 0, 26, 177]
abbrev dktX8_init_1 : List UInt8 := dkwX8_init_1 ++ []
def dkwX8_init_0 : List UInt8 := [42, 43, 181, 0, 3, 42, 183, 0, 9, 42, 187, 0, 15, 89, 183, 0, 17, 181, 0, 18, 42, 16, 8]
abbrev dktX8_init_0 : List UInt8 := dkwX8_init_0 ++ dktX8_init_1
theorem dksX8_init_0 : cX8_init.data.toList.drop 0 = dktX8_init_0 := by decide +kernel
theorem dksX8_init_1 : cX8_init.data.toList.drop 23 = dktX8_init_1 := dk_seg dksX8_init_0 23 rfl rfl
theorem dX8_init_0 : decode cX8_init 0 = .ok (.aload_n 0, 1) := dk_42 (dk_at dksX8_init_0 0 rfl rfl)
theorem dX8_init_1 : decode cX8_init 1 = .ok (.aload_n 1, 1) := dk_43 (dk_at dksX8_init_0 1 rfl rfl)
theorem dX8_init_2 : decode cX8_init 2 = .ok (.putfield 3, 3) := dk_181 0 3 (dk_at dksX8_init_0 2 rfl rfl)
theorem dX8_init_5 : decode cX8_init 5 = .ok (.aload_n 0, 1) := dk_42 (dk_at dksX8_init_0 5 rfl rfl)
theorem dX8_init_6 : decode cX8_init 6 = .ok (.invokespecial 9, 3) := dk_183 0 9 (dk_at dksX8_init_0 6 rfl rfl)
theorem dX8_init_9 : decode cX8_init 9 = .ok (.aload_n 0, 1) := dk_42 (dk_at dksX8_init_0 9 rfl rfl)
theorem dX8_init_10 : decode cX8_init 10 = .ok (.new 15, 3) := dk_187 0 15 (dk_at dksX8_init_0 10 rfl rfl)
theorem dX8_init_13 : decode cX8_init 13 = .ok (.dup, 1) := dk_89 (dk_at dksX8_init_0 13 rfl rfl)
theorem dX8_init_14 : decode cX8_init 14 = .ok (.invokespecial 17, 3) := dk_183 0 17 (dk_at dksX8_init_0 14 rfl rfl)
theorem dX8_init_17 : decode cX8_init 17 = .ok (.putfield 18, 3) := dk_181 0 18 (dk_at dksX8_init_0 17 rfl rfl)
theorem dX8_init_20 : decode cX8_init 20 = .ok (.aload_n 0, 1) := dk_42 (dk_at dksX8_init_0 20 rfl rfl)
theorem dX8_init_21 : decode cX8_init 21 = .ok (.bipush 8, 2) := dk_16 8 (dk_at dksX8_init_0 21 rfl rfl)
theorem dX8_init_23 : decode cX8_init 23 = .ok (.putfield 22, 3) := dk_181 0 22 (dk_at dksX8_init_1 0 rfl rfl)
theorem dX8_init_26 : decode cX8_init 26 = .ok (.aload_n 0, 1) := dk_42 (dk_at dksX8_init_1 3 rfl rfl)
theorem dX8_init_27 : decode cX8_init 27 = .ok (.iload_n 2, 1) := dk_28 (dk_at dksX8_init_1 4 rfl rfl)
theorem dX8_init_28 : decode cX8_init 28 = .ok (.putfield 26, 3) := dk_181 0 26 (dk_at dksX8_init_1 5 rfl rfl)
theorem dX8_init_31 : decode cX8_init 31 = .ok (.return_, 1) := dk_177 (dk_at dksX8_init_1 8 rfl rfl)
abbrev cX8_reads : ByteArray := prog_14_method_9_code
def yX8_reads : MethodName := ⟨RX8, "reads", "()V"⟩
def dkwX8_reads_4 : List UInt8 := [181, 0, 130, 167, 255, 165, 177]
abbrev dktX8_reads_4 : List UInt8 := dkwX8_reads_4 ++ []
def dkwX8_reads_3 : List UInt8 := [160, 0, 7, 4, 167, 0, 4, 3, 4, 182, 0, 105, 42, 182, 0, 109, 42, 89, 180, 0, 130, 4, 96]
abbrev dktX8_reads_3 : List UInt8 := dkwX8_reads_3 ++ dktX8_reads_4
def dkwX8_reads_2 : List UInt8 := [182, 0, 113, 153, 0, 10, 42, 182, 0, 125, 167, 0, 7, 42, 182, 0, 127, 42, 42, 180, 0, 55, 6]
abbrev dktX8_reads_2 : List UInt8 := dkwX8_reads_2 ++ dktX8_reads_3
def dkwX8_reads_1 : List UInt8 := [167, 0, 39, 42, 18, 120, 182, 0, 113, 153, 0, 10, 42, 182, 0, 122, 167, 0, 23, 42, 18, 124]
abbrev dktX8_reads_1 : List UInt8 := dkwX8_reads_1 ++ dktX8_reads_2
def dkwX8_reads_0 : List UInt8 := [42, 182, 0, 109, 42, 180, 0, 55, 153, 0, 90, 42, 18, 112, 182, 0, 113, 153, 0, 10, 42, 182, 0, 117]
abbrev dktX8_reads_0 : List UInt8 := dkwX8_reads_0 ++ dktX8_reads_1
theorem dksX8_reads_0 : cX8_reads.data.toList.drop 0 = dktX8_reads_0 := by decide +kernel
theorem dksX8_reads_1 : cX8_reads.data.toList.drop 24 = dktX8_reads_1 := dk_seg dksX8_reads_0 24 rfl rfl
theorem dksX8_reads_2 : cX8_reads.data.toList.drop 46 = dktX8_reads_2 := dk_seg dksX8_reads_1 22 rfl rfl
theorem dksX8_reads_3 : cX8_reads.data.toList.drop 69 = dktX8_reads_3 := dk_seg dksX8_reads_2 23 rfl rfl
theorem dksX8_reads_4 : cX8_reads.data.toList.drop 92 = dktX8_reads_4 := dk_seg dksX8_reads_3 23 rfl rfl
theorem dX8_reads_0 : decode cX8_reads 0 = .ok (.aload_n 0, 1) := dk_42 (dk_at dksX8_reads_0 0 rfl rfl)
theorem dX8_reads_1 : decode cX8_reads 1 = .ok (.invokevirtual 109, 3) := dk_182 0 109 (dk_at dksX8_reads_0 1 rfl rfl)
theorem dX8_reads_4 : decode cX8_reads 4 = .ok (.aload_n 0, 1) := dk_42 (dk_at dksX8_reads_0 4 rfl rfl)
theorem dX8_reads_5 : decode cX8_reads 5 = .ok (.getfield 55, 3) := dk_180 0 55 (dk_at dksX8_reads_0 5 rfl rfl)
theorem dX8_reads_8 : decode cX8_reads 8 = .ok (.ifCond .eq 90, 3) := dk_153 0 90 (dk_at dksX8_reads_0 8 rfl rfl)
theorem dX8_reads_11 : decode cX8_reads 11 = .ok (.aload_n 0, 1) := dk_42 (dk_at dksX8_reads_0 11 rfl rfl)
theorem dX8_reads_12 : decode cX8_reads 12 = .ok (.ldc 112, 2) := dk_18 112 (dk_at dksX8_reads_0 12 rfl rfl)
theorem dX8_reads_14 : decode cX8_reads 14 = .ok (.invokevirtual 113, 3) := dk_182 0 113 (dk_at dksX8_reads_0 14 rfl rfl)
theorem dX8_reads_17 : decode cX8_reads 17 = .ok (.ifCond .eq 10, 3) := dk_153 0 10 (dk_at dksX8_reads_0 17 rfl rfl)
theorem dX8_reads_20 : decode cX8_reads 20 = .ok (.aload_n 0, 1) := dk_42 (dk_at dksX8_reads_0 20 rfl rfl)
theorem dX8_reads_21 : decode cX8_reads 21 = .ok (.invokevirtual 117, 3) := dk_182 0 117 (dk_at dksX8_reads_0 21 rfl rfl)
theorem dX8_reads_24 : decode cX8_reads 24 = .ok (.goto 39, 3) := dk_167 0 39 (dk_at dksX8_reads_1 0 rfl rfl)
theorem dX8_reads_27 : decode cX8_reads 27 = .ok (.aload_n 0, 1) := dk_42 (dk_at dksX8_reads_1 3 rfl rfl)
theorem dX8_reads_28 : decode cX8_reads 28 = .ok (.ldc 120, 2) := dk_18 120 (dk_at dksX8_reads_1 4 rfl rfl)
theorem dX8_reads_30 : decode cX8_reads 30 = .ok (.invokevirtual 113, 3) := dk_182 0 113 (dk_at dksX8_reads_1 6 rfl rfl)
theorem dX8_reads_33 : decode cX8_reads 33 = .ok (.ifCond .eq 10, 3) := dk_153 0 10 (dk_at dksX8_reads_1 9 rfl rfl)
theorem dX8_reads_36 : decode cX8_reads 36 = .ok (.aload_n 0, 1) := dk_42 (dk_at dksX8_reads_1 12 rfl rfl)
theorem dX8_reads_37 : decode cX8_reads 37 = .ok (.invokevirtual 122, 3) := dk_182 0 122 (dk_at dksX8_reads_1 13 rfl rfl)
theorem dX8_reads_40 : decode cX8_reads 40 = .ok (.goto 23, 3) := dk_167 0 23 (dk_at dksX8_reads_1 16 rfl rfl)
theorem dX8_reads_43 : decode cX8_reads 43 = .ok (.aload_n 0, 1) := dk_42 (dk_at dksX8_reads_1 19 rfl rfl)
theorem dX8_reads_44 : decode cX8_reads 44 = .ok (.ldc 124, 2) := dk_18 124 (dk_at dksX8_reads_1 20 rfl rfl)
theorem dX8_reads_46 : decode cX8_reads 46 = .ok (.invokevirtual 113, 3) := dk_182 0 113 (dk_at dksX8_reads_2 0 rfl rfl)
theorem dX8_reads_49 : decode cX8_reads 49 = .ok (.ifCond .eq 10, 3) := dk_153 0 10 (dk_at dksX8_reads_2 3 rfl rfl)
theorem dX8_reads_52 : decode cX8_reads 52 = .ok (.aload_n 0, 1) := dk_42 (dk_at dksX8_reads_2 6 rfl rfl)
theorem dX8_reads_53 : decode cX8_reads 53 = .ok (.invokevirtual 125, 3) := dk_182 0 125 (dk_at dksX8_reads_2 7 rfl rfl)
theorem dX8_reads_56 : decode cX8_reads 56 = .ok (.goto 7, 3) := dk_167 0 7 (dk_at dksX8_reads_2 10 rfl rfl)
theorem dX8_reads_59 : decode cX8_reads 59 = .ok (.aload_n 0, 1) := dk_42 (dk_at dksX8_reads_2 13 rfl rfl)
theorem dX8_reads_60 : decode cX8_reads 60 = .ok (.invokevirtual 127, 3) := dk_182 0 127 (dk_at dksX8_reads_2 14 rfl rfl)
theorem dX8_reads_63 : decode cX8_reads 63 = .ok (.aload_n 0, 1) := dk_42 (dk_at dksX8_reads_2 17 rfl rfl)
theorem dX8_reads_64 : decode cX8_reads 64 = .ok (.aload_n 0, 1) := dk_42 (dk_at dksX8_reads_2 18 rfl rfl)
theorem dX8_reads_65 : decode cX8_reads 65 = .ok (.getfield 55, 3) := dk_180 0 55 (dk_at dksX8_reads_2 19 rfl rfl)
theorem dX8_reads_68 : decode cX8_reads 68 = .ok (.iconst 3, 1) := dk_6 (dk_at dksX8_reads_2 22 rfl rfl)
theorem dX8_reads_69 : decode cX8_reads 69 = .ok (.if_icmp .ne 7, 3) := dk_160 0 7 (dk_at dksX8_reads_3 0 rfl rfl)
theorem dX8_reads_72 : decode cX8_reads 72 = .ok (.iconst 1, 1) := dk_4 (dk_at dksX8_reads_3 3 rfl rfl)
theorem dX8_reads_73 : decode cX8_reads 73 = .ok (.goto 4, 3) := dk_167 0 4 (dk_at dksX8_reads_3 4 rfl rfl)
theorem dX8_reads_76 : decode cX8_reads 76 = .ok (.iconst 0, 1) := dk_3 (dk_at dksX8_reads_3 7 rfl rfl)
theorem dX8_reads_77 : decode cX8_reads 77 = .ok (.iconst 1, 1) := dk_4 (dk_at dksX8_reads_3 8 rfl rfl)
theorem dX8_reads_78 : decode cX8_reads 78 = .ok (.invokevirtual 105, 3) := dk_182 0 105 (dk_at dksX8_reads_3 9 rfl rfl)
theorem dX8_reads_81 : decode cX8_reads 81 = .ok (.aload_n 0, 1) := dk_42 (dk_at dksX8_reads_3 12 rfl rfl)
theorem dX8_reads_82 : decode cX8_reads 82 = .ok (.invokevirtual 109, 3) := dk_182 0 109 (dk_at dksX8_reads_3 13 rfl rfl)
theorem dX8_reads_85 : decode cX8_reads 85 = .ok (.aload_n 0, 1) := dk_42 (dk_at dksX8_reads_3 16 rfl rfl)
theorem dX8_reads_86 : decode cX8_reads 86 = .ok (.dup, 1) := dk_89 (dk_at dksX8_reads_3 17 rfl rfl)
theorem dX8_reads_87 : decode cX8_reads 87 = .ok (.getfield 130, 3) := dk_180 0 130 (dk_at dksX8_reads_3 18 rfl rfl)
theorem dX8_reads_90 : decode cX8_reads 90 = .ok (.iconst 1, 1) := dk_4 (dk_at dksX8_reads_3 21 rfl rfl)
theorem dX8_reads_91 : decode cX8_reads 91 = .ok (.iadd, 1) := dk_96 (dk_at dksX8_reads_3 22 rfl rfl)
theorem dX8_reads_92 : decode cX8_reads 92 = .ok (.putfield 130, 3) := dk_181 0 130 (dk_at dksX8_reads_4 0 rfl rfl)
theorem dX8_reads_95 : decode cX8_reads 95 = .ok (.goto (-91), 3) := dk_167 255 165 (dk_at dksX8_reads_4 3 rfl rfl)
theorem dX8_reads_98 : decode cX8_reads 98 = .ok (.return_, 1) := dk_177 (dk_at dksX8_reads_4 6 rfl rfl)
abbrev cX8_take : ByteArray := prog_14_method_5_code
def yX8_take : MethodName := ⟨RX8, "take", "()V"⟩
def dkwX8_take_10 : List UInt8 := [160, 0, 7, 6, 167, 0, 4, 7, 181, 0, 55, 42, 89, 180, 0, 49, 4, 96, 181, 0, 49, 177]
abbrev dktX8_take_10 : List UInt8 := dkwX8_take_10 ++ []
def dkwX8_take_9 : List UInt8 := [42, 89, 180, 0, 49, 4, 96, 181, 0, 49, 167, 255, 207, 42, 42, 42, 180, 0, 49, 182, 0, 33, 16, 59]
abbrev dktX8_take_9 : List UInt8 := dkwX8_take_9 ++ dktX8_take_10
def dkwX8_take_8 : List UInt8 := [180, 0, 84, 104, 42, 42, 180, 0, 49, 182, 0, 33, 96, 16, 48, 100, 18, 87, 184, 0, 88, 181, 0, 84]
abbrev dktX8_take_8 : List UInt8 := dkwX8_take_8 ++ dktX8_take_9
def dkwX8_take_7 : List UInt8 := [181, 0, 55, 42, 3, 181, 0, 84, 42, 42, 180, 0, 49, 182, 0, 81, 153, 0, 76, 42, 16, 10, 42]
abbrev dktX8_take_7 : List UInt8 := dkwX8_take_7 ++ dktX8_take_8
def dkwX8_take_6 : List UInt8 := [181, 0, 77, 42, 4, 181, 0, 55, 167, 0, 108, 42, 42, 180, 0, 49, 182, 0, 81, 153, 0, 65, 42, 5]
abbrev dktX8_take_6 : List UInt8 := dkwX8_take_6 ++ dktX8_take_7
def dkwX8_take_5 : List UInt8 := [182, 0, 69, 87, 42, 89, 180, 0, 49, 4, 96, 181, 0, 49, 167, 255, 212, 42, 43, 182, 0, 73]
abbrev dktX8_take_5 : List UInt8 := dkwX8_take_5 ++ dktX8_take_6
def dkwX8_take_4 : List UInt8 := [153, 0, 39, 43, 182, 0, 65, 16, 6, 163, 0, 17, 43, 42, 42, 180, 0, 49, 182, 0, 33, 146]
abbrev dktX8_take_4 : List UInt8 := dkwX8_take_4 ++ dktX8_take_5
def dkwX8_take_3 : List UInt8 := [182, 0, 58, 153, 0, 74, 187, 0, 62, 89, 183, 0, 64, 76, 42, 42, 180, 0, 49, 182, 0, 58]
abbrev dktX8_take_3 : List UInt8 := dkwX8_take_3 ++ dktX8_take_4
def dkwX8_take_2 : List UInt8 := [42, 180, 0, 49, 42, 180, 0, 26, 161, 0, 11, 42, 3, 181, 0, 55, 167, 0, 190, 42, 42, 180, 0, 49]
abbrev dktX8_take_2 : List UInt8 := dkwX8_take_2 ++ dktX8_take_3
def dkwX8_take_1 : List UInt8 := [160, 0, 16, 42, 89, 180, 0, 49, 4, 96, 181, 0, 49, 167, 255, 220, 42, 42, 180, 0, 49, 181, 0, 52]
abbrev dktX8_take_1 : List UInt8 := dkwX8_take_1 ++ dktX8_take_2
def dkwX8_take_0 : List UInt8 := [42, 42, 180, 0, 49, 182, 0, 33, 16, 10, 159, 0, 16, 42, 42, 180, 0, 49, 182, 0, 33, 16, 32]
abbrev dktX8_take_0 : List UInt8 := dkwX8_take_0 ++ dktX8_take_1
theorem dksX8_take_0 : cX8_take.data.toList.drop 0 = dktX8_take_0 := by decide +kernel
theorem dksX8_take_1 : cX8_take.data.toList.drop 23 = dktX8_take_1 := dk_seg dksX8_take_0 23 rfl rfl
theorem dksX8_take_2 : cX8_take.data.toList.drop 47 = dktX8_take_2 := dk_seg dksX8_take_1 24 rfl rfl
theorem dksX8_take_3 : cX8_take.data.toList.drop 71 = dktX8_take_3 := dk_seg dksX8_take_2 24 rfl rfl
theorem dksX8_take_4 : cX8_take.data.toList.drop 93 = dktX8_take_4 := dk_seg dksX8_take_3 22 rfl rfl
theorem dksX8_take_5 : cX8_take.data.toList.drop 115 = dktX8_take_5 := dk_seg dksX8_take_4 22 rfl rfl
theorem dksX8_take_6 : cX8_take.data.toList.drop 137 = dktX8_take_6 := dk_seg dksX8_take_5 22 rfl rfl
theorem dksX8_take_7 : cX8_take.data.toList.drop 161 = dktX8_take_7 := dk_seg dksX8_take_6 24 rfl rfl
theorem dksX8_take_8 : cX8_take.data.toList.drop 184 = dktX8_take_8 := dk_seg dksX8_take_7 23 rfl rfl
theorem dksX8_take_9 : cX8_take.data.toList.drop 208 = dktX8_take_9 := dk_seg dksX8_take_8 24 rfl rfl
theorem dksX8_take_10 : cX8_take.data.toList.drop 232 = dktX8_take_10 := dk_seg dksX8_take_9 24 rfl rfl
theorem dX8_take_0 : decode cX8_take 0 = .ok (.aload_n 0, 1) := dk_42 (dk_at dksX8_take_0 0 rfl rfl)
theorem dX8_take_1 : decode cX8_take 1 = .ok (.aload_n 0, 1) := dk_42 (dk_at dksX8_take_0 1 rfl rfl)
theorem dX8_take_2 : decode cX8_take 2 = .ok (.getfield 49, 3) := dk_180 0 49 (dk_at dksX8_take_0 2 rfl rfl)
theorem dX8_take_5 : decode cX8_take 5 = .ok (.invokevirtual 33, 3) := dk_182 0 33 (dk_at dksX8_take_0 5 rfl rfl)
theorem dX8_take_8 : decode cX8_take 8 = .ok (.bipush 10, 2) := dk_16 10 (dk_at dksX8_take_0 8 rfl rfl)
theorem dX8_take_10 : decode cX8_take 10 = .ok (.if_icmp .eq 16, 3) := dk_159 0 16 (dk_at dksX8_take_0 10 rfl rfl)
theorem dX8_take_13 : decode cX8_take 13 = .ok (.aload_n 0, 1) := dk_42 (dk_at dksX8_take_0 13 rfl rfl)
theorem dX8_take_14 : decode cX8_take 14 = .ok (.aload_n 0, 1) := dk_42 (dk_at dksX8_take_0 14 rfl rfl)
theorem dX8_take_15 : decode cX8_take 15 = .ok (.getfield 49, 3) := dk_180 0 49 (dk_at dksX8_take_0 15 rfl rfl)
theorem dX8_take_18 : decode cX8_take 18 = .ok (.invokevirtual 33, 3) := dk_182 0 33 (dk_at dksX8_take_0 18 rfl rfl)
theorem dX8_take_21 : decode cX8_take 21 = .ok (.bipush 32, 2) := dk_16 32 (dk_at dksX8_take_0 21 rfl rfl)
theorem dX8_take_23 : decode cX8_take 23 = .ok (.if_icmp .ne 16, 3) := dk_160 0 16 (dk_at dksX8_take_1 0 rfl rfl)
theorem dX8_take_26 : decode cX8_take 26 = .ok (.aload_n 0, 1) := dk_42 (dk_at dksX8_take_1 3 rfl rfl)
theorem dX8_take_27 : decode cX8_take 27 = .ok (.dup, 1) := dk_89 (dk_at dksX8_take_1 4 rfl rfl)
theorem dX8_take_28 : decode cX8_take 28 = .ok (.getfield 49, 3) := dk_180 0 49 (dk_at dksX8_take_1 5 rfl rfl)
theorem dX8_take_31 : decode cX8_take 31 = .ok (.iconst 1, 1) := dk_4 (dk_at dksX8_take_1 8 rfl rfl)
theorem dX8_take_32 : decode cX8_take 32 = .ok (.iadd, 1) := dk_96 (dk_at dksX8_take_1 9 rfl rfl)
theorem dX8_take_33 : decode cX8_take 33 = .ok (.putfield 49, 3) := dk_181 0 49 (dk_at dksX8_take_1 10 rfl rfl)
theorem dX8_take_36 : decode cX8_take 36 = .ok (.goto (-36), 3) := dk_167 255 220 (dk_at dksX8_take_1 13 rfl rfl)
theorem dX8_take_39 : decode cX8_take 39 = .ok (.aload_n 0, 1) := dk_42 (dk_at dksX8_take_1 16 rfl rfl)
theorem dX8_take_40 : decode cX8_take 40 = .ok (.aload_n 0, 1) := dk_42 (dk_at dksX8_take_1 17 rfl rfl)
theorem dX8_take_41 : decode cX8_take 41 = .ok (.getfield 49, 3) := dk_180 0 49 (dk_at dksX8_take_1 18 rfl rfl)
theorem dX8_take_44 : decode cX8_take 44 = .ok (.putfield 52, 3) := dk_181 0 52 (dk_at dksX8_take_1 21 rfl rfl)
theorem dX8_take_47 : decode cX8_take 47 = .ok (.aload_n 0, 1) := dk_42 (dk_at dksX8_take_2 0 rfl rfl)
theorem dX8_take_48 : decode cX8_take 48 = .ok (.getfield 49, 3) := dk_180 0 49 (dk_at dksX8_take_2 1 rfl rfl)
theorem dX8_take_51 : decode cX8_take 51 = .ok (.aload_n 0, 1) := dk_42 (dk_at dksX8_take_2 4 rfl rfl)
theorem dX8_take_52 : decode cX8_take 52 = .ok (.getfield 26, 3) := dk_180 0 26 (dk_at dksX8_take_2 5 rfl rfl)
theorem dX8_take_55 : decode cX8_take 55 = .ok (.if_icmp .lt 11, 3) := dk_161 0 11 (dk_at dksX8_take_2 8 rfl rfl)
theorem dX8_take_58 : decode cX8_take 58 = .ok (.aload_n 0, 1) := dk_42 (dk_at dksX8_take_2 11 rfl rfl)
theorem dX8_take_59 : decode cX8_take 59 = .ok (.iconst 0, 1) := dk_3 (dk_at dksX8_take_2 12 rfl rfl)
theorem dX8_take_60 : decode cX8_take 60 = .ok (.putfield 55, 3) := dk_181 0 55 (dk_at dksX8_take_2 13 rfl rfl)
theorem dX8_take_63 : decode cX8_take 63 = .ok (.goto 190, 3) := dk_167 0 190 (dk_at dksX8_take_2 16 rfl rfl)
theorem dX8_take_66 : decode cX8_take 66 = .ok (.aload_n 0, 1) := dk_42 (dk_at dksX8_take_2 19 rfl rfl)
theorem dX8_take_67 : decode cX8_take 67 = .ok (.aload_n 0, 1) := dk_42 (dk_at dksX8_take_2 20 rfl rfl)
theorem dX8_take_68 : decode cX8_take 68 = .ok (.getfield 49, 3) := dk_180 0 49 (dk_at dksX8_take_2 21 rfl rfl)
theorem dX8_take_71 : decode cX8_take 71 = .ok (.invokevirtual 58, 3) := dk_182 0 58 (dk_at dksX8_take_3 0 rfl rfl)
theorem dX8_take_74 : decode cX8_take 74 = .ok (.ifCond .eq 74, 3) := dk_153 0 74 (dk_at dksX8_take_3 3 rfl rfl)
theorem dX8_take_77 : decode cX8_take 77 = .ok (.new 62, 3) := dk_187 0 62 (dk_at dksX8_take_3 6 rfl rfl)
theorem dX8_take_80 : decode cX8_take 80 = .ok (.dup, 1) := dk_89 (dk_at dksX8_take_3 9 rfl rfl)
theorem dX8_take_81 : decode cX8_take 81 = .ok (.invokespecial 64, 3) := dk_183 0 64 (dk_at dksX8_take_3 10 rfl rfl)
theorem dX8_take_84 : decode cX8_take 84 = .ok (.astore_n 1, 1) := dk_76 (dk_at dksX8_take_3 13 rfl rfl)
theorem dX8_take_85 : decode cX8_take 85 = .ok (.aload_n 0, 1) := dk_42 (dk_at dksX8_take_3 14 rfl rfl)
theorem dX8_take_86 : decode cX8_take 86 = .ok (.aload_n 0, 1) := dk_42 (dk_at dksX8_take_3 15 rfl rfl)
theorem dX8_take_87 : decode cX8_take 87 = .ok (.getfield 49, 3) := dk_180 0 49 (dk_at dksX8_take_3 16 rfl rfl)
theorem dX8_take_90 : decode cX8_take 90 = .ok (.invokevirtual 58, 3) := dk_182 0 58 (dk_at dksX8_take_3 19 rfl rfl)
theorem dX8_take_93 : decode cX8_take 93 = .ok (.ifCond .eq 39, 3) := dk_153 0 39 (dk_at dksX8_take_4 0 rfl rfl)
theorem dX8_take_96 : decode cX8_take 96 = .ok (.aload_n 1, 1) := dk_43 (dk_at dksX8_take_4 3 rfl rfl)
theorem dX8_take_97 : decode cX8_take 97 = .ok (.invokevirtual 65, 3) := dk_182 0 65 (dk_at dksX8_take_4 4 rfl rfl)
theorem dX8_take_100 : decode cX8_take 100 = .ok (.bipush 6, 2) := dk_16 6 (dk_at dksX8_take_4 7 rfl rfl)
theorem dX8_take_102 : decode cX8_take 102 = .ok (.if_icmp .gt 17, 3) := dk_163 0 17 (dk_at dksX8_take_4 9 rfl rfl)
theorem dX8_take_105 : decode cX8_take 105 = .ok (.aload_n 1, 1) := dk_43 (dk_at dksX8_take_4 12 rfl rfl)
theorem dX8_take_106 : decode cX8_take 106 = .ok (.aload_n 0, 1) := dk_42 (dk_at dksX8_take_4 13 rfl rfl)
theorem dX8_take_107 : decode cX8_take 107 = .ok (.aload_n 0, 1) := dk_42 (dk_at dksX8_take_4 14 rfl rfl)
theorem dX8_take_108 : decode cX8_take 108 = .ok (.getfield 49, 3) := dk_180 0 49 (dk_at dksX8_take_4 15 rfl rfl)
theorem dX8_take_111 : decode cX8_take 111 = .ok (.invokevirtual 33, 3) := dk_182 0 33 (dk_at dksX8_take_4 18 rfl rfl)
theorem dX8_take_114 : decode cX8_take 114 = .ok (.i2c, 1) := dk_146 (dk_at dksX8_take_4 21 rfl rfl)
theorem dX8_take_115 : decode cX8_take 115 = .ok (.invokevirtual 69, 3) := dk_182 0 69 (dk_at dksX8_take_5 0 rfl rfl)
theorem dX8_take_118 : decode cX8_take 118 = .ok (.pop, 1) := dk_87 (dk_at dksX8_take_5 3 rfl rfl)
theorem dX8_take_119 : decode cX8_take 119 = .ok (.aload_n 0, 1) := dk_42 (dk_at dksX8_take_5 4 rfl rfl)
theorem dX8_take_120 : decode cX8_take 120 = .ok (.dup, 1) := dk_89 (dk_at dksX8_take_5 5 rfl rfl)
theorem dX8_take_121 : decode cX8_take 121 = .ok (.getfield 49, 3) := dk_180 0 49 (dk_at dksX8_take_5 6 rfl rfl)
theorem dX8_take_124 : decode cX8_take 124 = .ok (.iconst 1, 1) := dk_4 (dk_at dksX8_take_5 9 rfl rfl)
theorem dX8_take_125 : decode cX8_take 125 = .ok (.iadd, 1) := dk_96 (dk_at dksX8_take_5 10 rfl rfl)
theorem dX8_take_126 : decode cX8_take 126 = .ok (.putfield 49, 3) := dk_181 0 49 (dk_at dksX8_take_5 11 rfl rfl)
theorem dX8_take_129 : decode cX8_take 129 = .ok (.goto (-44), 3) := dk_167 255 212 (dk_at dksX8_take_5 14 rfl rfl)
theorem dX8_take_132 : decode cX8_take 132 = .ok (.aload_n 0, 1) := dk_42 (dk_at dksX8_take_5 17 rfl rfl)
theorem dX8_take_133 : decode cX8_take 133 = .ok (.aload_n 1, 1) := dk_43 (dk_at dksX8_take_5 18 rfl rfl)
theorem dX8_take_134 : decode cX8_take 134 = .ok (.invokevirtual 73, 3) := dk_182 0 73 (dk_at dksX8_take_5 19 rfl rfl)
theorem dX8_take_137 : decode cX8_take 137 = .ok (.putfield 77, 3) := dk_181 0 77 (dk_at dksX8_take_6 0 rfl rfl)
theorem dX8_take_140 : decode cX8_take 140 = .ok (.aload_n 0, 1) := dk_42 (dk_at dksX8_take_6 3 rfl rfl)
theorem dX8_take_141 : decode cX8_take 141 = .ok (.iconst 1, 1) := dk_4 (dk_at dksX8_take_6 4 rfl rfl)
theorem dX8_take_142 : decode cX8_take 142 = .ok (.putfield 55, 3) := dk_181 0 55 (dk_at dksX8_take_6 5 rfl rfl)
theorem dX8_take_145 : decode cX8_take 145 = .ok (.goto 108, 3) := dk_167 0 108 (dk_at dksX8_take_6 8 rfl rfl)
theorem dX8_take_148 : decode cX8_take 148 = .ok (.aload_n 0, 1) := dk_42 (dk_at dksX8_take_6 11 rfl rfl)
theorem dX8_take_149 : decode cX8_take 149 = .ok (.aload_n 0, 1) := dk_42 (dk_at dksX8_take_6 12 rfl rfl)
theorem dX8_take_150 : decode cX8_take 150 = .ok (.getfield 49, 3) := dk_180 0 49 (dk_at dksX8_take_6 13 rfl rfl)
theorem dX8_take_153 : decode cX8_take 153 = .ok (.invokevirtual 81, 3) := dk_182 0 81 (dk_at dksX8_take_6 16 rfl rfl)
theorem dX8_take_156 : decode cX8_take 156 = .ok (.ifCond .eq 65, 3) := dk_153 0 65 (dk_at dksX8_take_6 19 rfl rfl)
theorem dX8_take_159 : decode cX8_take 159 = .ok (.aload_n 0, 1) := dk_42 (dk_at dksX8_take_6 22 rfl rfl)
theorem dX8_take_160 : decode cX8_take 160 = .ok (.iconst 2, 1) := dk_5 (dk_at dksX8_take_6 23 rfl rfl)
theorem dX8_take_161 : decode cX8_take 161 = .ok (.putfield 55, 3) := dk_181 0 55 (dk_at dksX8_take_7 0 rfl rfl)
theorem dX8_take_164 : decode cX8_take 164 = .ok (.aload_n 0, 1) := dk_42 (dk_at dksX8_take_7 3 rfl rfl)
theorem dX8_take_165 : decode cX8_take 165 = .ok (.iconst 0, 1) := dk_3 (dk_at dksX8_take_7 4 rfl rfl)
theorem dX8_take_166 : decode cX8_take 166 = .ok (.putfield 84, 3) := dk_181 0 84 (dk_at dksX8_take_7 5 rfl rfl)
theorem dX8_take_169 : decode cX8_take 169 = .ok (.aload_n 0, 1) := dk_42 (dk_at dksX8_take_7 8 rfl rfl)
theorem dX8_take_170 : decode cX8_take 170 = .ok (.aload_n 0, 1) := dk_42 (dk_at dksX8_take_7 9 rfl rfl)
theorem dX8_take_171 : decode cX8_take 171 = .ok (.getfield 49, 3) := dk_180 0 49 (dk_at dksX8_take_7 10 rfl rfl)
theorem dX8_take_174 : decode cX8_take 174 = .ok (.invokevirtual 81, 3) := dk_182 0 81 (dk_at dksX8_take_7 13 rfl rfl)
theorem dX8_take_177 : decode cX8_take 177 = .ok (.ifCond .eq 76, 3) := dk_153 0 76 (dk_at dksX8_take_7 16 rfl rfl)
theorem dX8_take_180 : decode cX8_take 180 = .ok (.aload_n 0, 1) := dk_42 (dk_at dksX8_take_7 19 rfl rfl)
theorem dX8_take_181 : decode cX8_take 181 = .ok (.bipush 10, 2) := dk_16 10 (dk_at dksX8_take_7 20 rfl rfl)
theorem dX8_take_183 : decode cX8_take 183 = .ok (.aload_n 0, 1) := dk_42 (dk_at dksX8_take_7 22 rfl rfl)
theorem dX8_take_184 : decode cX8_take 184 = .ok (.getfield 84, 3) := dk_180 0 84 (dk_at dksX8_take_8 0 rfl rfl)
theorem dX8_take_187 : decode cX8_take 187 = .ok (.imul, 1) := dk_104 (dk_at dksX8_take_8 3 rfl rfl)
theorem dX8_take_188 : decode cX8_take 188 = .ok (.aload_n 0, 1) := dk_42 (dk_at dksX8_take_8 4 rfl rfl)
theorem dX8_take_189 : decode cX8_take 189 = .ok (.aload_n 0, 1) := dk_42 (dk_at dksX8_take_8 5 rfl rfl)
theorem dX8_take_190 : decode cX8_take 190 = .ok (.getfield 49, 3) := dk_180 0 49 (dk_at dksX8_take_8 6 rfl rfl)
theorem dX8_take_193 : decode cX8_take 193 = .ok (.invokevirtual 33, 3) := dk_182 0 33 (dk_at dksX8_take_8 9 rfl rfl)
theorem dX8_take_196 : decode cX8_take 196 = .ok (.iadd, 1) := dk_96 (dk_at dksX8_take_8 12 rfl rfl)
theorem dX8_take_197 : decode cX8_take 197 = .ok (.bipush 48, 2) := dk_16 48 (dk_at dksX8_take_8 13 rfl rfl)
theorem dX8_take_199 : decode cX8_take 199 = .ok (.isub, 1) := dk_100 (dk_at dksX8_take_8 15 rfl rfl)
theorem dX8_take_200 : decode cX8_take 200 = .ok (.ldc 87, 2) := dk_18 87 (dk_at dksX8_take_8 16 rfl rfl)
theorem dX8_take_202 : decode cX8_take 202 = .ok (.invokestatic 88, 3) := dk_184 0 88 (dk_at dksX8_take_8 18 rfl rfl)
theorem dX8_take_205 : decode cX8_take 205 = .ok (.putfield 84, 3) := dk_181 0 84 (dk_at dksX8_take_8 21 rfl rfl)
theorem dX8_take_208 : decode cX8_take 208 = .ok (.aload_n 0, 1) := dk_42 (dk_at dksX8_take_9 0 rfl rfl)
theorem dX8_take_209 : decode cX8_take 209 = .ok (.dup, 1) := dk_89 (dk_at dksX8_take_9 1 rfl rfl)
theorem dX8_take_210 : decode cX8_take 210 = .ok (.getfield 49, 3) := dk_180 0 49 (dk_at dksX8_take_9 2 rfl rfl)
theorem dX8_take_213 : decode cX8_take 213 = .ok (.iconst 1, 1) := dk_4 (dk_at dksX8_take_9 5 rfl rfl)
theorem dX8_take_214 : decode cX8_take 214 = .ok (.iadd, 1) := dk_96 (dk_at dksX8_take_9 6 rfl rfl)
theorem dX8_take_215 : decode cX8_take 215 = .ok (.putfield 49, 3) := dk_181 0 49 (dk_at dksX8_take_9 7 rfl rfl)
theorem dX8_take_218 : decode cX8_take 218 = .ok (.goto (-49), 3) := dk_167 255 207 (dk_at dksX8_take_9 10 rfl rfl)
theorem dX8_take_221 : decode cX8_take 221 = .ok (.aload_n 0, 1) := dk_42 (dk_at dksX8_take_9 13 rfl rfl)
theorem dX8_take_222 : decode cX8_take 222 = .ok (.aload_n 0, 1) := dk_42 (dk_at dksX8_take_9 14 rfl rfl)
theorem dX8_take_223 : decode cX8_take 223 = .ok (.aload_n 0, 1) := dk_42 (dk_at dksX8_take_9 15 rfl rfl)
theorem dX8_take_224 : decode cX8_take 224 = .ok (.getfield 49, 3) := dk_180 0 49 (dk_at dksX8_take_9 16 rfl rfl)
theorem dX8_take_227 : decode cX8_take 227 = .ok (.invokevirtual 33, 3) := dk_182 0 33 (dk_at dksX8_take_9 19 rfl rfl)
theorem dX8_take_230 : decode cX8_take 230 = .ok (.bipush 59, 2) := dk_16 59 (dk_at dksX8_take_9 22 rfl rfl)
theorem dX8_take_232 : decode cX8_take 232 = .ok (.if_icmp .ne 7, 3) := dk_160 0 7 (dk_at dksX8_take_10 0 rfl rfl)
theorem dX8_take_235 : decode cX8_take 235 = .ok (.iconst 3, 1) := dk_6 (dk_at dksX8_take_10 3 rfl rfl)
theorem dX8_take_236 : decode cX8_take 236 = .ok (.goto 4, 3) := dk_167 0 4 (dk_at dksX8_take_10 4 rfl rfl)
theorem dX8_take_239 : decode cX8_take 239 = .ok (.iconst 4, 1) := dk_7 (dk_at dksX8_take_10 7 rfl rfl)
theorem dX8_take_240 : decode cX8_take 240 = .ok (.putfield 55, 3) := dk_181 0 55 (dk_at dksX8_take_10 8 rfl rfl)
theorem dX8_take_243 : decode cX8_take 243 = .ok (.aload_n 0, 1) := dk_42 (dk_at dksX8_take_10 11 rfl rfl)
theorem dX8_take_244 : decode cX8_take 244 = .ok (.dup, 1) := dk_89 (dk_at dksX8_take_10 12 rfl rfl)
theorem dX8_take_245 : decode cX8_take 245 = .ok (.getfield 49, 3) := dk_180 0 49 (dk_at dksX8_take_10 13 rfl rfl)
theorem dX8_take_248 : decode cX8_take 248 = .ok (.iconst 1, 1) := dk_4 (dk_at dksX8_take_10 16 rfl rfl)
theorem dX8_take_249 : decode cX8_take 249 = .ok (.iadd, 1) := dk_96 (dk_at dksX8_take_10 17 rfl rfl)
theorem dX8_take_250 : decode cX8_take 250 = .ok (.putfield 49, 3) := dk_181 0 49 (dk_at dksX8_take_10 18 rfl rfl)
theorem dX8_take_253 : decode cX8_take 253 = .ok (.return_, 1) := dk_177 (dk_at dksX8_take_10 21 rfl rfl)
abbrev cX8_see : ByteArray := prog_14_method_2_code
def yX8_see : MethodName := ⟨RX8, "see", "(I)I"⟩
def dkwX8_see_1 : List UInt8 := [2, 172]
abbrev dktX8_see_1 : List UInt8 := dkwX8_see_1 ++ []
def dkwX8_see_0 : List UInt8 := [27, 42, 180, 0, 26, 162, 0, 19, 42, 180, 0, 3, 180, 0, 29, 27, 51, 17, 0, 255, 126, 167, 0, 4]
abbrev dktX8_see_0 : List UInt8 := dkwX8_see_0 ++ dktX8_see_1
theorem dksX8_see_0 : cX8_see.data.toList.drop 0 = dktX8_see_0 := by decide +kernel
theorem dksX8_see_1 : cX8_see.data.toList.drop 24 = dktX8_see_1 := dk_seg dksX8_see_0 24 rfl rfl
theorem dX8_see_0 : decode cX8_see 0 = .ok (.iload_n 1, 1) := dk_27 (dk_at dksX8_see_0 0 rfl rfl)
theorem dX8_see_1 : decode cX8_see 1 = .ok (.aload_n 0, 1) := dk_42 (dk_at dksX8_see_0 1 rfl rfl)
theorem dX8_see_2 : decode cX8_see 2 = .ok (.getfield 26, 3) := dk_180 0 26 (dk_at dksX8_see_0 2 rfl rfl)
theorem dX8_see_5 : decode cX8_see 5 = .ok (.if_icmp .ge 19, 3) := dk_162 0 19 (dk_at dksX8_see_0 5 rfl rfl)
theorem dX8_see_8 : decode cX8_see 8 = .ok (.aload_n 0, 1) := dk_42 (dk_at dksX8_see_0 8 rfl rfl)
theorem dX8_see_9 : decode cX8_see 9 = .ok (.getfield 3, 3) := dk_180 0 3 (dk_at dksX8_see_0 9 rfl rfl)
theorem dX8_see_12 : decode cX8_see 12 = .ok (.getfield 29, 3) := dk_180 0 29 (dk_at dksX8_see_0 12 rfl rfl)
theorem dX8_see_15 : decode cX8_see 15 = .ok (.iload_n 1, 1) := dk_27 (dk_at dksX8_see_0 15 rfl rfl)
theorem dX8_see_16 : decode cX8_see 16 = .ok (.baload, 1) := dk_51 (dk_at dksX8_see_0 16 rfl rfl)
theorem dX8_see_17 : decode cX8_see 17 = .ok (.sipush 255, 3) := dk_17 0 255 (dk_at dksX8_see_0 17 rfl rfl)
theorem dX8_see_20 : decode cX8_see 20 = .ok (.iand, 1) := dk_126 (dk_at dksX8_see_0 20 rfl rfl)
theorem dX8_see_21 : decode cX8_see 21 = .ok (.goto 4, 3) := dk_167 0 4 (dk_at dksX8_see_0 21 rfl rfl)
theorem dX8_see_24 : decode cX8_see 24 = .ok (.iconst (-1), 1) := dk_2 (dk_at dksX8_see_1 0 rfl rfl)
theorem dX8_see_25 : decode cX8_see 25 = .ok (.ireturn, 1) := dk_172 (dk_at dksX8_see_1 1 rfl rfl)
abbrev cX8_isSmall : ByteArray := prog_14_method_3_code
def yX8_isSmall : MethodName := ⟨RX8, "isSmall", "(I)Z"⟩
def dkwX8_isSmall_0 : List UInt8 := [42, 27, 182, 0, 33, 133, 20, 0, 37, 20, 0, 39, 184, 0, 41, 172]
abbrev dktX8_isSmall_0 : List UInt8 := dkwX8_isSmall_0 ++ []
theorem dksX8_isSmall_0 : cX8_isSmall.data.toList.drop 0 = dktX8_isSmall_0 := by decide +kernel
theorem dX8_isSmall_0 : decode cX8_isSmall 0 = .ok (.aload_n 0, 1) := dk_42 (dk_at dksX8_isSmall_0 0 rfl rfl)
theorem dX8_isSmall_1 : decode cX8_isSmall 1 = .ok (.iload_n 1, 1) := dk_27 (dk_at dksX8_isSmall_0 1 rfl rfl)
theorem dX8_isSmall_2 : decode cX8_isSmall 2 = .ok (.invokevirtual 33, 3) := dk_182 0 33 (dk_at dksX8_isSmall_0 2 rfl rfl)
theorem dX8_isSmall_5 : decode cX8_isSmall 5 = .ok (.i2l, 1) := dk_133 (dk_at dksX8_isSmall_0 5 rfl rfl)
theorem dX8_isSmall_6 : decode cX8_isSmall 6 = .ok (.ldc2_w 37, 3) := dk_20 0 37 (dk_at dksX8_isSmall_0 6 rfl rfl)
theorem dX8_isSmall_9 : decode cX8_isSmall 9 = .ok (.ldc2_w 39, 3) := dk_20 0 39 (dk_at dksX8_isSmall_0 9 rfl rfl)
theorem dX8_isSmall_12 : decode cX8_isSmall 12 = .ok (.invokestatic 41, 3) := dk_184 0 41 (dk_at dksX8_isSmall_0 12 rfl rfl)
theorem dX8_isSmall_15 : decode cX8_isSmall 15 = .ok (.ireturn, 1) := dk_172 (dk_at dksX8_isSmall_0 15 rfl rfl)
abbrev cX8_isDigit : ByteArray := prog_14_method_4_code
def yX8_isDigit : MethodName := ⟨RX8, "isDigit", "(I)Z"⟩
def dkwX8_isDigit_0 : List UInt8 := [42, 27, 182, 0, 33, 133, 20, 0, 45, 20, 0, 47, 184, 0, 41, 172]
abbrev dktX8_isDigit_0 : List UInt8 := dkwX8_isDigit_0 ++ []
theorem dksX8_isDigit_0 : cX8_isDigit.data.toList.drop 0 = dktX8_isDigit_0 := by decide +kernel
theorem dX8_isDigit_0 : decode cX8_isDigit 0 = .ok (.aload_n 0, 1) := dk_42 (dk_at dksX8_isDigit_0 0 rfl rfl)
theorem dX8_isDigit_1 : decode cX8_isDigit 1 = .ok (.iload_n 1, 1) := dk_27 (dk_at dksX8_isDigit_0 1 rfl rfl)
theorem dX8_isDigit_2 : decode cX8_isDigit 2 = .ok (.invokevirtual 33, 3) := dk_182 0 33 (dk_at dksX8_isDigit_0 2 rfl rfl)
theorem dX8_isDigit_5 : decode cX8_isDigit 5 = .ok (.i2l, 1) := dk_133 (dk_at dksX8_isDigit_0 5 rfl rfl)
theorem dX8_isDigit_6 : decode cX8_isDigit 6 = .ok (.ldc2_w 45, 3) := dk_20 0 45 (dk_at dksX8_isDigit_0 6 rfl rfl)
theorem dX8_isDigit_9 : decode cX8_isDigit 9 = .ok (.ldc2_w 47, 3) := dk_20 0 47 (dk_at dksX8_isDigit_0 9 rfl rfl)
theorem dX8_isDigit_12 : decode cX8_isDigit 12 = .ok (.invokestatic 41, 3) := dk_184 0 41 (dk_at dksX8_isDigit_0 12 rfl rfl)
theorem dX8_isDigit_15 : decode cX8_isDigit 15 = .ok (.ireturn, 1) := dk_172 (dk_at dksX8_isDigit_0 15 rfl rfl)
abbrev cX8_isWord : ByteArray := prog_14_method_7_code
def yX8_isWord : MethodName := ⟨RX8, "isWord", "(Ljava/lang/String;)Z"⟩
def dkwX8_isWord_1 : List UInt8 := [172]
abbrev dktX8_isWord_1 : List UInt8 := dkwX8_isWord_1 ++ []
def dkwX8_isWord_0 : List UInt8 := [42, 180, 0, 55, 4, 160, 0, 18, 42, 180, 0, 77, 43, 182, 0, 99, 153, 0, 7, 4, 167, 0, 4, 3]
abbrev dktX8_isWord_0 : List UInt8 := dkwX8_isWord_0 ++ dktX8_isWord_1
theorem dksX8_isWord_0 : cX8_isWord.data.toList.drop 0 = dktX8_isWord_0 := by decide +kernel
theorem dksX8_isWord_1 : cX8_isWord.data.toList.drop 24 = dktX8_isWord_1 := dk_seg dksX8_isWord_0 24 rfl rfl
theorem dX8_isWord_0 : decode cX8_isWord 0 = .ok (.aload_n 0, 1) := dk_42 (dk_at dksX8_isWord_0 0 rfl rfl)
theorem dX8_isWord_1 : decode cX8_isWord 1 = .ok (.getfield 55, 3) := dk_180 0 55 (dk_at dksX8_isWord_0 1 rfl rfl)
theorem dX8_isWord_4 : decode cX8_isWord 4 = .ok (.iconst 1, 1) := dk_4 (dk_at dksX8_isWord_0 4 rfl rfl)
theorem dX8_isWord_5 : decode cX8_isWord 5 = .ok (.if_icmp .ne 18, 3) := dk_160 0 18 (dk_at dksX8_isWord_0 5 rfl rfl)
theorem dX8_isWord_8 : decode cX8_isWord 8 = .ok (.aload_n 0, 1) := dk_42 (dk_at dksX8_isWord_0 8 rfl rfl)
theorem dX8_isWord_9 : decode cX8_isWord 9 = .ok (.getfield 77, 3) := dk_180 0 77 (dk_at dksX8_isWord_0 9 rfl rfl)
theorem dX8_isWord_12 : decode cX8_isWord 12 = .ok (.aload_n 1, 1) := dk_43 (dk_at dksX8_isWord_0 12 rfl rfl)
theorem dX8_isWord_13 : decode cX8_isWord 13 = .ok (.invokevirtual 99, 3) := dk_182 0 99 (dk_at dksX8_isWord_0 13 rfl rfl)
theorem dX8_isWord_16 : decode cX8_isWord 16 = .ok (.ifCond .eq 7, 3) := dk_153 0 7 (dk_at dksX8_isWord_0 16 rfl rfl)
theorem dX8_isWord_19 : decode cX8_isWord 19 = .ok (.iconst 1, 1) := dk_4 (dk_at dksX8_isWord_0 19 rfl rfl)
theorem dX8_isWord_20 : decode cX8_isWord 20 = .ok (.goto 4, 3) := dk_167 0 4 (dk_at dksX8_isWord_0 20 rfl rfl)
theorem dX8_isWord_23 : decode cX8_isWord 23 = .ok (.iconst 0, 1) := dk_3 (dk_at dksX8_isWord_0 23 rfl rfl)
theorem dX8_isWord_24 : decode cX8_isWord 24 = .ok (.ireturn, 1) := dk_172 (dk_at dksX8_isWord_1 0 rfl rfl)
abbrev cX8_values : ByteArray := prog_14_method_10_code
def yX8_values : MethodName := ⟨RX8, "values", "()V"⟩
def dkwX8_values_2 : List UInt8 := [42, 3, 17, 3, 231, 182, 0, 136, 182, 0, 139, 42, 180, 0, 55, 5, 159, 255, 196, 177]
abbrev dktX8_values_2 : List UInt8 := dkwX8_values_2 ++ []
def dkwX8_values_1 : List UInt8 := [180, 0, 18, 180, 0, 133, 16, 120, 162, 0, 7, 4, 167, 0, 4, 3, 5, 182, 0, 105, 42, 180, 0, 18]
abbrev dktX8_values_1 : List UInt8 := dkwX8_values_1 ++ dktX8_values_2
def dkwX8_values_0 : List UInt8 := [42, 182, 0, 109, 42, 42, 180, 0, 55, 5, 160, 0, 7, 4, 167, 0, 4, 3, 4, 182, 0, 105, 42, 42]
abbrev dktX8_values_0 : List UInt8 := dkwX8_values_0 ++ dktX8_values_1
theorem dksX8_values_0 : cX8_values.data.toList.drop 0 = dktX8_values_0 := by decide +kernel
theorem dksX8_values_1 : cX8_values.data.toList.drop 24 = dktX8_values_1 := dk_seg dksX8_values_0 24 rfl rfl
theorem dksX8_values_2 : cX8_values.data.toList.drop 48 = dktX8_values_2 := dk_seg dksX8_values_1 24 rfl rfl
theorem dX8_values_0 : decode cX8_values 0 = .ok (.aload_n 0, 1) := dk_42 (dk_at dksX8_values_0 0 rfl rfl)
theorem dX8_values_1 : decode cX8_values 1 = .ok (.invokevirtual 109, 3) := dk_182 0 109 (dk_at dksX8_values_0 1 rfl rfl)
theorem dX8_values_4 : decode cX8_values 4 = .ok (.aload_n 0, 1) := dk_42 (dk_at dksX8_values_0 4 rfl rfl)
theorem dX8_values_5 : decode cX8_values 5 = .ok (.aload_n 0, 1) := dk_42 (dk_at dksX8_values_0 5 rfl rfl)
theorem dX8_values_6 : decode cX8_values 6 = .ok (.getfield 55, 3) := dk_180 0 55 (dk_at dksX8_values_0 6 rfl rfl)
theorem dX8_values_9 : decode cX8_values 9 = .ok (.iconst 2, 1) := dk_5 (dk_at dksX8_values_0 9 rfl rfl)
theorem dX8_values_10 : decode cX8_values 10 = .ok (.if_icmp .ne 7, 3) := dk_160 0 7 (dk_at dksX8_values_0 10 rfl rfl)
theorem dX8_values_13 : decode cX8_values 13 = .ok (.iconst 1, 1) := dk_4 (dk_at dksX8_values_0 13 rfl rfl)
theorem dX8_values_14 : decode cX8_values 14 = .ok (.goto 4, 3) := dk_167 0 4 (dk_at dksX8_values_0 14 rfl rfl)
theorem dX8_values_17 : decode cX8_values 17 = .ok (.iconst 0, 1) := dk_3 (dk_at dksX8_values_0 17 rfl rfl)
theorem dX8_values_18 : decode cX8_values 18 = .ok (.iconst 1, 1) := dk_4 (dk_at dksX8_values_0 18 rfl rfl)
theorem dX8_values_19 : decode cX8_values 19 = .ok (.invokevirtual 105, 3) := dk_182 0 105 (dk_at dksX8_values_0 19 rfl rfl)
theorem dX8_values_22 : decode cX8_values 22 = .ok (.aload_n 0, 1) := dk_42 (dk_at dksX8_values_0 22 rfl rfl)
theorem dX8_values_23 : decode cX8_values 23 = .ok (.aload_n 0, 1) := dk_42 (dk_at dksX8_values_0 23 rfl rfl)
theorem dX8_values_24 : decode cX8_values 24 = .ok (.getfield 18, 3) := dk_180 0 18 (dk_at dksX8_values_1 0 rfl rfl)
theorem dX8_values_27 : decode cX8_values 27 = .ok (.getfield 133, 3) := dk_180 0 133 (dk_at dksX8_values_1 3 rfl rfl)
theorem dX8_values_30 : decode cX8_values 30 = .ok (.bipush 120, 2) := dk_16 120 (dk_at dksX8_values_1 6 rfl rfl)
theorem dX8_values_32 : decode cX8_values 32 = .ok (.if_icmp .ge 7, 3) := dk_162 0 7 (dk_at dksX8_values_1 8 rfl rfl)
theorem dX8_values_35 : decode cX8_values 35 = .ok (.iconst 1, 1) := dk_4 (dk_at dksX8_values_1 11 rfl rfl)
theorem dX8_values_36 : decode cX8_values 36 = .ok (.goto 4, 3) := dk_167 0 4 (dk_at dksX8_values_1 12 rfl rfl)
theorem dX8_values_39 : decode cX8_values 39 = .ok (.iconst 0, 1) := dk_3 (dk_at dksX8_values_1 15 rfl rfl)
theorem dX8_values_40 : decode cX8_values 40 = .ok (.iconst 2, 1) := dk_5 (dk_at dksX8_values_1 16 rfl rfl)
theorem dX8_values_41 : decode cX8_values 41 = .ok (.invokevirtual 105, 3) := dk_182 0 105 (dk_at dksX8_values_1 17 rfl rfl)
theorem dX8_values_44 : decode cX8_values 44 = .ok (.aload_n 0, 1) := dk_42 (dk_at dksX8_values_1 20 rfl rfl)
theorem dX8_values_45 : decode cX8_values 45 = .ok (.getfield 18, 3) := dk_180 0 18 (dk_at dksX8_values_1 21 rfl rfl)
theorem dX8_values_48 : decode cX8_values 48 = .ok (.aload_n 0, 1) := dk_42 (dk_at dksX8_values_2 0 rfl rfl)
theorem dX8_values_49 : decode cX8_values 49 = .ok (.iconst 0, 1) := dk_3 (dk_at dksX8_values_2 1 rfl rfl)
theorem dX8_values_50 : decode cX8_values 50 = .ok (.sipush 999, 3) := dk_17 3 231 (dk_at dksX8_values_2 2 rfl rfl)
theorem dX8_values_53 : decode cX8_values 53 = .ok (.invokevirtual 136, 3) := dk_182 0 136 (dk_at dksX8_values_2 5 rfl rfl)
theorem dX8_values_56 : decode cX8_values 56 = .ok (.invokevirtual 139, 3) := dk_182 0 139 (dk_at dksX8_values_2 8 rfl rfl)
theorem dX8_values_59 : decode cX8_values 59 = .ok (.aload_n 0, 1) := dk_42 (dk_at dksX8_values_2 11 rfl rfl)
theorem dX8_values_60 : decode cX8_values 60 = .ok (.getfield 55, 3) := dk_180 0 55 (dk_at dksX8_values_2 12 rfl rfl)
theorem dX8_values_63 : decode cX8_values 63 = .ok (.iconst 2, 1) := dk_5 (dk_at dksX8_values_2 15 rfl rfl)
theorem dX8_values_64 : decode cX8_values 64 = .ok (.if_icmp .eq (-60), 3) := dk_159 255 196 (dk_at dksX8_values_2 16 rfl rfl)
theorem dX8_values_67 : decode cX8_values 67 = .ok (.return_, 1) := dk_177 (dk_at dksX8_values_2 19 rfl rfl)
abbrev cX8_must : ByteArray := prog_14_method_6_code
def yX8_must : MethodName := ⟨RX8, "must", "(ZI)V"⟩
def dkwX8_must_0 : List UInt8 := [27, 154, 0, 16, 187, 0, 94, 89, 28, 42, 180, 0, 52, 183, 0, 96, 191, 177]
abbrev dktX8_must_0 : List UInt8 := dkwX8_must_0 ++ []
theorem dksX8_must_0 : cX8_must.data.toList.drop 0 = dktX8_must_0 := by decide +kernel
theorem dX8_must_0 : decode cX8_must 0 = .ok (.iload_n 1, 1) := dk_27 (dk_at dksX8_must_0 0 rfl rfl)
theorem dX8_must_1 : decode cX8_must 1 = .ok (.ifCond .ne 16, 3) := dk_154 0 16 (dk_at dksX8_must_0 1 rfl rfl)
theorem dX8_must_4 : decode cX8_must 4 = .ok (.new 94, 3) := dk_187 0 94 (dk_at dksX8_must_0 4 rfl rfl)
theorem dX8_must_7 : decode cX8_must 7 = .ok (.dup, 1) := dk_89 (dk_at dksX8_must_0 7 rfl rfl)
theorem dX8_must_8 : decode cX8_must 8 = .ok (.iload_n 2, 1) := dk_28 (dk_at dksX8_must_0 8 rfl rfl)
theorem dX8_must_9 : decode cX8_must 9 = .ok (.aload_n 0, 1) := dk_42 (dk_at dksX8_must_0 9 rfl rfl)
theorem dX8_must_10 : decode cX8_must 10 = .ok (.getfield 52, 3) := dk_180 0 52 (dk_at dksX8_must_0 10 rfl rfl)
theorem dX8_must_13 : decode cX8_must 13 = .ok (.invokespecial 96, 3) := dk_183 0 96 (dk_at dksX8_must_0 13 rfl rfl)
theorem dX8_must_16 : decode cX8_must 16 = .ok (.athrow, 1) := dk_191 (dk_at dksX8_must_0 16 rfl rfl)
theorem dX8_must_17 : decode cX8_must 17 = .ok (.return_, 1) := dk_177 (dk_at dksX8_must_0 17 rfl rfl)
abbrev cX8_number : ByteArray := prog_14_method_8_code
def yX8_number : MethodName := ⟨RX8, "number", "(II)I"⟩
def dkwX8_number_1 : List UInt8 := [27, 133, 28, 133, 184, 0, 41, 5, 182, 0, 105, 42, 180, 0, 84, 62, 42, 182, 0, 109, 29, 172]
abbrev dktX8_number_1 : List UInt8 := dkwX8_number_1 ++ []
def dkwX8_number_0 : List UInt8 := [42, 42, 180, 0, 55, 5, 160, 0, 7, 4, 167, 0, 4, 3, 4, 182, 0, 105, 42, 42, 180, 0, 84, 133]
abbrev dktX8_number_0 : List UInt8 := dkwX8_number_0 ++ dktX8_number_1
theorem dksX8_number_0 : cX8_number.data.toList.drop 0 = dktX8_number_0 := by decide +kernel
theorem dksX8_number_1 : cX8_number.data.toList.drop 24 = dktX8_number_1 := dk_seg dksX8_number_0 24 rfl rfl
theorem dX8_number_0 : decode cX8_number 0 = .ok (.aload_n 0, 1) := dk_42 (dk_at dksX8_number_0 0 rfl rfl)
theorem dX8_number_1 : decode cX8_number 1 = .ok (.aload_n 0, 1) := dk_42 (dk_at dksX8_number_0 1 rfl rfl)
theorem dX8_number_2 : decode cX8_number 2 = .ok (.getfield 55, 3) := dk_180 0 55 (dk_at dksX8_number_0 2 rfl rfl)
theorem dX8_number_5 : decode cX8_number 5 = .ok (.iconst 2, 1) := dk_5 (dk_at dksX8_number_0 5 rfl rfl)
theorem dX8_number_6 : decode cX8_number 6 = .ok (.if_icmp .ne 7, 3) := dk_160 0 7 (dk_at dksX8_number_0 6 rfl rfl)
theorem dX8_number_9 : decode cX8_number 9 = .ok (.iconst 1, 1) := dk_4 (dk_at dksX8_number_0 9 rfl rfl)
theorem dX8_number_10 : decode cX8_number 10 = .ok (.goto 4, 3) := dk_167 0 4 (dk_at dksX8_number_0 10 rfl rfl)
theorem dX8_number_13 : decode cX8_number 13 = .ok (.iconst 0, 1) := dk_3 (dk_at dksX8_number_0 13 rfl rfl)
theorem dX8_number_14 : decode cX8_number 14 = .ok (.iconst 1, 1) := dk_4 (dk_at dksX8_number_0 14 rfl rfl)
theorem dX8_number_15 : decode cX8_number 15 = .ok (.invokevirtual 105, 3) := dk_182 0 105 (dk_at dksX8_number_0 15 rfl rfl)
theorem dX8_number_18 : decode cX8_number 18 = .ok (.aload_n 0, 1) := dk_42 (dk_at dksX8_number_0 18 rfl rfl)
theorem dX8_number_19 : decode cX8_number 19 = .ok (.aload_n 0, 1) := dk_42 (dk_at dksX8_number_0 19 rfl rfl)
theorem dX8_number_20 : decode cX8_number 20 = .ok (.getfield 84, 3) := dk_180 0 84 (dk_at dksX8_number_0 20 rfl rfl)
theorem dX8_number_23 : decode cX8_number 23 = .ok (.i2l, 1) := dk_133 (dk_at dksX8_number_0 23 rfl rfl)
theorem dX8_number_24 : decode cX8_number 24 = .ok (.iload_n 1, 1) := dk_27 (dk_at dksX8_number_1 0 rfl rfl)
theorem dX8_number_25 : decode cX8_number 25 = .ok (.i2l, 1) := dk_133 (dk_at dksX8_number_1 1 rfl rfl)
theorem dX8_number_26 : decode cX8_number 26 = .ok (.iload_n 2, 1) := dk_28 (dk_at dksX8_number_1 2 rfl rfl)
theorem dX8_number_27 : decode cX8_number 27 = .ok (.i2l, 1) := dk_133 (dk_at dksX8_number_1 3 rfl rfl)
theorem dX8_number_28 : decode cX8_number 28 = .ok (.invokestatic 41, 3) := dk_184 0 41 (dk_at dksX8_number_1 4 rfl rfl)
theorem dX8_number_31 : decode cX8_number 31 = .ok (.iconst 2, 1) := dk_5 (dk_at dksX8_number_1 7 rfl rfl)
theorem dX8_number_32 : decode cX8_number 32 = .ok (.invokevirtual 105, 3) := dk_182 0 105 (dk_at dksX8_number_1 8 rfl rfl)
theorem dX8_number_35 : decode cX8_number 35 = .ok (.aload_n 0, 1) := dk_42 (dk_at dksX8_number_1 11 rfl rfl)
theorem dX8_number_36 : decode cX8_number 36 = .ok (.getfield 84, 3) := dk_180 0 84 (dk_at dksX8_number_1 12 rfl rfl)
theorem dX8_number_39 : decode cX8_number 39 = .ok (.istore_n 3, 1) := dk_62 (dk_at dksX8_number_1 15 rfl rfl)
theorem dX8_number_40 : decode cX8_number 40 = .ok (.aload_n 0, 1) := dk_42 (dk_at dksX8_number_1 16 rfl rfl)
theorem dX8_number_41 : decode cX8_number 41 = .ok (.invokevirtual 109, 3) := dk_182 0 109 (dk_at dksX8_number_1 17 rfl rfl)
theorem dX8_number_44 : decode cX8_number 44 = .ok (.iload_n 3, 1) := dk_29 (dk_at dksX8_number_1 20 rfl rfl)
theorem dX8_number_45 : decode cX8_number 45 = .ok (.ireturn, 1) := dk_172 (dk_at dksX8_number_1 21 rfl rfl)
abbrev cX8_weight : ByteArray := prog_14_method_11_code
def yX8_weight : MethodName := ⟨RX8, "weight", "()V"⟩
def dkwX8_weight_2 : List UInt8 := [180, 0, 18, 180, 0, 143, 27, 42, 4, 16, 9, 182, 0, 136, 79, 177]
abbrev dktX8_weight_2 : List UInt8 := dkwX8_weight_2 ++ []
def dkwX8_weight_1 : List UInt8 := [162, 0, 7, 4, 167, 0, 4, 3, 4, 182, 0, 105, 42, 180, 0, 84, 60, 42, 182, 0, 109, 42]
abbrev dktX8_weight_1 : List UInt8 := dkwX8_weight_1 ++ dktX8_weight_2
def dkwX8_weight_0 : List UInt8 := [42, 182, 0, 109, 42, 42, 180, 0, 55, 5, 160, 0, 21, 42, 180, 0, 84, 42, 180, 0, 18, 180, 0, 133]
abbrev dktX8_weight_0 : List UInt8 := dkwX8_weight_0 ++ dktX8_weight_1
theorem dksX8_weight_0 : cX8_weight.data.toList.drop 0 = dktX8_weight_0 := by decide +kernel
theorem dksX8_weight_1 : cX8_weight.data.toList.drop 24 = dktX8_weight_1 := dk_seg dksX8_weight_0 24 rfl rfl
theorem dksX8_weight_2 : cX8_weight.data.toList.drop 46 = dktX8_weight_2 := dk_seg dksX8_weight_1 22 rfl rfl
theorem dX8_weight_0 : decode cX8_weight 0 = .ok (.aload_n 0, 1) := dk_42 (dk_at dksX8_weight_0 0 rfl rfl)
theorem dX8_weight_1 : decode cX8_weight 1 = .ok (.invokevirtual 109, 3) := dk_182 0 109 (dk_at dksX8_weight_0 1 rfl rfl)
theorem dX8_weight_4 : decode cX8_weight 4 = .ok (.aload_n 0, 1) := dk_42 (dk_at dksX8_weight_0 4 rfl rfl)
theorem dX8_weight_5 : decode cX8_weight 5 = .ok (.aload_n 0, 1) := dk_42 (dk_at dksX8_weight_0 5 rfl rfl)
theorem dX8_weight_6 : decode cX8_weight 6 = .ok (.getfield 55, 3) := dk_180 0 55 (dk_at dksX8_weight_0 6 rfl rfl)
theorem dX8_weight_9 : decode cX8_weight 9 = .ok (.iconst 2, 1) := dk_5 (dk_at dksX8_weight_0 9 rfl rfl)
theorem dX8_weight_10 : decode cX8_weight 10 = .ok (.if_icmp .ne 21, 3) := dk_160 0 21 (dk_at dksX8_weight_0 10 rfl rfl)
theorem dX8_weight_13 : decode cX8_weight 13 = .ok (.aload_n 0, 1) := dk_42 (dk_at dksX8_weight_0 13 rfl rfl)
theorem dX8_weight_14 : decode cX8_weight 14 = .ok (.getfield 84, 3) := dk_180 0 84 (dk_at dksX8_weight_0 14 rfl rfl)
theorem dX8_weight_17 : decode cX8_weight 17 = .ok (.aload_n 0, 1) := dk_42 (dk_at dksX8_weight_0 17 rfl rfl)
theorem dX8_weight_18 : decode cX8_weight 18 = .ok (.getfield 18, 3) := dk_180 0 18 (dk_at dksX8_weight_0 18 rfl rfl)
theorem dX8_weight_21 : decode cX8_weight 21 = .ok (.getfield 133, 3) := dk_180 0 133 (dk_at dksX8_weight_0 21 rfl rfl)
theorem dX8_weight_24 : decode cX8_weight 24 = .ok (.if_icmp .ge 7, 3) := dk_162 0 7 (dk_at dksX8_weight_1 0 rfl rfl)
theorem dX8_weight_27 : decode cX8_weight 27 = .ok (.iconst 1, 1) := dk_4 (dk_at dksX8_weight_1 3 rfl rfl)
theorem dX8_weight_28 : decode cX8_weight 28 = .ok (.goto 4, 3) := dk_167 0 4 (dk_at dksX8_weight_1 4 rfl rfl)
theorem dX8_weight_31 : decode cX8_weight 31 = .ok (.iconst 0, 1) := dk_3 (dk_at dksX8_weight_1 7 rfl rfl)
theorem dX8_weight_32 : decode cX8_weight 32 = .ok (.iconst 1, 1) := dk_4 (dk_at dksX8_weight_1 8 rfl rfl)
theorem dX8_weight_33 : decode cX8_weight 33 = .ok (.invokevirtual 105, 3) := dk_182 0 105 (dk_at dksX8_weight_1 9 rfl rfl)
theorem dX8_weight_36 : decode cX8_weight 36 = .ok (.aload_n 0, 1) := dk_42 (dk_at dksX8_weight_1 12 rfl rfl)
theorem dX8_weight_37 : decode cX8_weight 37 = .ok (.getfield 84, 3) := dk_180 0 84 (dk_at dksX8_weight_1 13 rfl rfl)
theorem dX8_weight_40 : decode cX8_weight 40 = .ok (.istore_n 1, 1) := dk_60 (dk_at dksX8_weight_1 16 rfl rfl)
theorem dX8_weight_41 : decode cX8_weight 41 = .ok (.aload_n 0, 1) := dk_42 (dk_at dksX8_weight_1 17 rfl rfl)
theorem dX8_weight_42 : decode cX8_weight 42 = .ok (.invokevirtual 109, 3) := dk_182 0 109 (dk_at dksX8_weight_1 18 rfl rfl)
theorem dX8_weight_45 : decode cX8_weight 45 = .ok (.aload_n 0, 1) := dk_42 (dk_at dksX8_weight_1 21 rfl rfl)
theorem dX8_weight_46 : decode cX8_weight 46 = .ok (.getfield 18, 3) := dk_180 0 18 (dk_at dksX8_weight_2 0 rfl rfl)
theorem dX8_weight_49 : decode cX8_weight 49 = .ok (.getfield 143, 3) := dk_180 0 143 (dk_at dksX8_weight_2 3 rfl rfl)
theorem dX8_weight_52 : decode cX8_weight 52 = .ok (.iload_n 1, 1) := dk_27 (dk_at dksX8_weight_2 6 rfl rfl)
theorem dX8_weight_53 : decode cX8_weight 53 = .ok (.aload_n 0, 1) := dk_42 (dk_at dksX8_weight_2 7 rfl rfl)
theorem dX8_weight_54 : decode cX8_weight 54 = .ok (.iconst 1, 1) := dk_4 (dk_at dksX8_weight_2 8 rfl rfl)
theorem dX8_weight_55 : decode cX8_weight 55 = .ok (.bipush 9, 2) := dk_16 9 (dk_at dksX8_weight_2 9 rfl rfl)
theorem dX8_weight_57 : decode cX8_weight 57 = .ok (.invokevirtual 136, 3) := dk_182 0 136 (dk_at dksX8_weight_2 11 rfl rfl)
theorem dX8_weight_60 : decode cX8_weight 60 = .ok (.iastore, 1) := dk_79 (dk_at dksX8_weight_2 14 rfl rfl)
theorem dX8_weight_61 : decode cX8_weight 61 = .ok (.return_, 1) := dk_177 (dk_at dksX8_weight_2 15 rfl rfl)
abbrev cX8_block : ByteArray := prog_14_method_12_code
def yX8_block : MethodName := ⟨RX8, "block", "()V"⟩
def dkwX8_block_1 : List UInt8 := [182, 0, 109, 42, 42, 5, 16, 20, 182, 0, 136, 181, 0, 22, 177]
abbrev dktX8_block_1 : List UInt8 := dkwX8_block_1 ++ []
def dkwX8_block_0 : List UInt8 := [42, 42, 180, 0, 146, 154, 0, 7, 4, 167, 0, 4, 3, 6, 182, 0, 105, 42, 4, 181, 0, 146, 42]
abbrev dktX8_block_0 : List UInt8 := dkwX8_block_0 ++ dktX8_block_1
theorem dksX8_block_0 : cX8_block.data.toList.drop 0 = dktX8_block_0 := by decide +kernel
theorem dksX8_block_1 : cX8_block.data.toList.drop 23 = dktX8_block_1 := dk_seg dksX8_block_0 23 rfl rfl
theorem dX8_block_0 : decode cX8_block 0 = .ok (.aload_n 0, 1) := dk_42 (dk_at dksX8_block_0 0 rfl rfl)
theorem dX8_block_1 : decode cX8_block 1 = .ok (.aload_n 0, 1) := dk_42 (dk_at dksX8_block_0 1 rfl rfl)
theorem dX8_block_2 : decode cX8_block 2 = .ok (.getfield 146, 3) := dk_180 0 146 (dk_at dksX8_block_0 2 rfl rfl)
theorem dX8_block_5 : decode cX8_block 5 = .ok (.ifCond .ne 7, 3) := dk_154 0 7 (dk_at dksX8_block_0 5 rfl rfl)
theorem dX8_block_8 : decode cX8_block 8 = .ok (.iconst 1, 1) := dk_4 (dk_at dksX8_block_0 8 rfl rfl)
theorem dX8_block_9 : decode cX8_block 9 = .ok (.goto 4, 3) := dk_167 0 4 (dk_at dksX8_block_0 9 rfl rfl)
theorem dX8_block_12 : decode cX8_block 12 = .ok (.iconst 0, 1) := dk_3 (dk_at dksX8_block_0 12 rfl rfl)
theorem dX8_block_13 : decode cX8_block 13 = .ok (.iconst 3, 1) := dk_6 (dk_at dksX8_block_0 13 rfl rfl)
theorem dX8_block_14 : decode cX8_block 14 = .ok (.invokevirtual 105, 3) := dk_182 0 105 (dk_at dksX8_block_0 14 rfl rfl)
theorem dX8_block_17 : decode cX8_block 17 = .ok (.aload_n 0, 1) := dk_42 (dk_at dksX8_block_0 17 rfl rfl)
theorem dX8_block_18 : decode cX8_block 18 = .ok (.iconst 1, 1) := dk_4 (dk_at dksX8_block_0 18 rfl rfl)
theorem dX8_block_19 : decode cX8_block 19 = .ok (.putfield 146, 3) := dk_181 0 146 (dk_at dksX8_block_0 19 rfl rfl)
theorem dX8_block_22 : decode cX8_block 22 = .ok (.aload_n 0, 1) := dk_42 (dk_at dksX8_block_0 22 rfl rfl)
theorem dX8_block_23 : decode cX8_block 23 = .ok (.invokevirtual 109, 3) := dk_182 0 109 (dk_at dksX8_block_1 0 rfl rfl)
theorem dX8_block_26 : decode cX8_block 26 = .ok (.aload_n 0, 1) := dk_42 (dk_at dksX8_block_1 3 rfl rfl)
theorem dX8_block_27 : decode cX8_block 27 = .ok (.aload_n 0, 1) := dk_42 (dk_at dksX8_block_1 4 rfl rfl)
theorem dX8_block_28 : decode cX8_block 28 = .ok (.iconst 2, 1) := dk_5 (dk_at dksX8_block_1 5 rfl rfl)
theorem dX8_block_29 : decode cX8_block 29 = .ok (.bipush 20, 2) := dk_16 20 (dk_at dksX8_block_1 6 rfl rfl)
theorem dX8_block_31 : decode cX8_block 31 = .ok (.invokevirtual 136, 3) := dk_182 0 136 (dk_at dksX8_block_1 8 rfl rfl)
theorem dX8_block_34 : decode cX8_block 34 = .ok (.putfield 22, 3) := dk_181 0 22 (dk_at dksX8_block_1 11 rfl rfl)
theorem dX8_block_37 : decode cX8_block 37 = .ok (.return_, 1) := dk_177 (dk_at dksX8_block_1 14 rfl rfl)
abbrev cX8_ties : ByteArray := prog_14_method_13_code
def yX8_ties : MethodName := ⟨RX8, "ties", "()V"⟩
def dkwX8_ties_4 : List UInt8 := [42, 42, 180, 0, 162, 2, 159, 0, 7, 4, 167, 0, 4, 3, 4, 182, 0, 105, 42, 182, 0, 109, 177]
abbrev dktX8_ties_4 : List UInt8 := dkwX8_ties_4 ++ []
def dkwX8_ties_3 : List UInt8 := [153, 0, 7, 5, 167, 0, 17, 42, 18, 160, 182, 0, 113, 153, 0, 7, 6, 167, 0, 4, 2, 181, 0, 162]
abbrev dktX8_ties_3 : List UInt8 := dkwX8_ties_3 ++ dktX8_ties_4
def dkwX8_ties_2 : List UInt8 := [167, 0, 43, 42, 18, 156, 182, 0, 113, 153, 0, 7, 4, 167, 0, 30, 42, 18, 158, 182, 0, 113]
abbrev dktX8_ties_2 : List UInt8 := dkwX8_ties_2 ++ dktX8_ties_3
def dkwX8_ties_1 : List UInt8 := [6, 182, 0, 105, 42, 4, 181, 0, 151, 42, 182, 0, 109, 42, 42, 18, 154, 182, 0, 113, 153, 0, 7, 3]
abbrev dktX8_ties_1 : List UInt8 := dkwX8_ties_1 ++ dktX8_ties_2
def dkwX8_ties_0 : List UInt8 := [42, 42, 18, 150, 182, 0, 113, 4, 182, 0, 105, 42, 42, 180, 0, 151, 154, 0, 7, 4, 167, 0, 4, 3]
abbrev dktX8_ties_0 : List UInt8 := dkwX8_ties_0 ++ dktX8_ties_1
theorem dksX8_ties_0 : cX8_ties.data.toList.drop 0 = dktX8_ties_0 := by decide +kernel
theorem dksX8_ties_1 : cX8_ties.data.toList.drop 24 = dktX8_ties_1 := dk_seg dksX8_ties_0 24 rfl rfl
theorem dksX8_ties_2 : cX8_ties.data.toList.drop 48 = dktX8_ties_2 := dk_seg dksX8_ties_1 24 rfl rfl
theorem dksX8_ties_3 : cX8_ties.data.toList.drop 70 = dktX8_ties_3 := dk_seg dksX8_ties_2 22 rfl rfl
theorem dksX8_ties_4 : cX8_ties.data.toList.drop 94 = dktX8_ties_4 := dk_seg dksX8_ties_3 24 rfl rfl
theorem dX8_ties_0 : decode cX8_ties 0 = .ok (.aload_n 0, 1) := dk_42 (dk_at dksX8_ties_0 0 rfl rfl)
theorem dX8_ties_1 : decode cX8_ties 1 = .ok (.aload_n 0, 1) := dk_42 (dk_at dksX8_ties_0 1 rfl rfl)
theorem dX8_ties_2 : decode cX8_ties 2 = .ok (.ldc 150, 2) := dk_18 150 (dk_at dksX8_ties_0 2 rfl rfl)
theorem dX8_ties_4 : decode cX8_ties 4 = .ok (.invokevirtual 113, 3) := dk_182 0 113 (dk_at dksX8_ties_0 4 rfl rfl)
theorem dX8_ties_7 : decode cX8_ties 7 = .ok (.iconst 1, 1) := dk_4 (dk_at dksX8_ties_0 7 rfl rfl)
theorem dX8_ties_8 : decode cX8_ties 8 = .ok (.invokevirtual 105, 3) := dk_182 0 105 (dk_at dksX8_ties_0 8 rfl rfl)
theorem dX8_ties_11 : decode cX8_ties 11 = .ok (.aload_n 0, 1) := dk_42 (dk_at dksX8_ties_0 11 rfl rfl)
theorem dX8_ties_12 : decode cX8_ties 12 = .ok (.aload_n 0, 1) := dk_42 (dk_at dksX8_ties_0 12 rfl rfl)
theorem dX8_ties_13 : decode cX8_ties 13 = .ok (.getfield 151, 3) := dk_180 0 151 (dk_at dksX8_ties_0 13 rfl rfl)
theorem dX8_ties_16 : decode cX8_ties 16 = .ok (.ifCond .ne 7, 3) := dk_154 0 7 (dk_at dksX8_ties_0 16 rfl rfl)
theorem dX8_ties_19 : decode cX8_ties 19 = .ok (.iconst 1, 1) := dk_4 (dk_at dksX8_ties_0 19 rfl rfl)
theorem dX8_ties_20 : decode cX8_ties 20 = .ok (.goto 4, 3) := dk_167 0 4 (dk_at dksX8_ties_0 20 rfl rfl)
theorem dX8_ties_23 : decode cX8_ties 23 = .ok (.iconst 0, 1) := dk_3 (dk_at dksX8_ties_0 23 rfl rfl)
theorem dX8_ties_24 : decode cX8_ties 24 = .ok (.iconst 3, 1) := dk_6 (dk_at dksX8_ties_1 0 rfl rfl)
theorem dX8_ties_25 : decode cX8_ties 25 = .ok (.invokevirtual 105, 3) := dk_182 0 105 (dk_at dksX8_ties_1 1 rfl rfl)
theorem dX8_ties_28 : decode cX8_ties 28 = .ok (.aload_n 0, 1) := dk_42 (dk_at dksX8_ties_1 4 rfl rfl)
theorem dX8_ties_29 : decode cX8_ties 29 = .ok (.iconst 1, 1) := dk_4 (dk_at dksX8_ties_1 5 rfl rfl)
theorem dX8_ties_30 : decode cX8_ties 30 = .ok (.putfield 151, 3) := dk_181 0 151 (dk_at dksX8_ties_1 6 rfl rfl)
theorem dX8_ties_33 : decode cX8_ties 33 = .ok (.aload_n 0, 1) := dk_42 (dk_at dksX8_ties_1 9 rfl rfl)
theorem dX8_ties_34 : decode cX8_ties 34 = .ok (.invokevirtual 109, 3) := dk_182 0 109 (dk_at dksX8_ties_1 10 rfl rfl)
theorem dX8_ties_37 : decode cX8_ties 37 = .ok (.aload_n 0, 1) := dk_42 (dk_at dksX8_ties_1 13 rfl rfl)
theorem dX8_ties_38 : decode cX8_ties 38 = .ok (.aload_n 0, 1) := dk_42 (dk_at dksX8_ties_1 14 rfl rfl)
theorem dX8_ties_39 : decode cX8_ties 39 = .ok (.ldc 154, 2) := dk_18 154 (dk_at dksX8_ties_1 15 rfl rfl)
theorem dX8_ties_41 : decode cX8_ties 41 = .ok (.invokevirtual 113, 3) := dk_182 0 113 (dk_at dksX8_ties_1 17 rfl rfl)
theorem dX8_ties_44 : decode cX8_ties 44 = .ok (.ifCond .eq 7, 3) := dk_153 0 7 (dk_at dksX8_ties_1 20 rfl rfl)
theorem dX8_ties_47 : decode cX8_ties 47 = .ok (.iconst 0, 1) := dk_3 (dk_at dksX8_ties_1 23 rfl rfl)
theorem dX8_ties_48 : decode cX8_ties 48 = .ok (.goto 43, 3) := dk_167 0 43 (dk_at dksX8_ties_2 0 rfl rfl)
theorem dX8_ties_51 : decode cX8_ties 51 = .ok (.aload_n 0, 1) := dk_42 (dk_at dksX8_ties_2 3 rfl rfl)
theorem dX8_ties_52 : decode cX8_ties 52 = .ok (.ldc 156, 2) := dk_18 156 (dk_at dksX8_ties_2 4 rfl rfl)
theorem dX8_ties_54 : decode cX8_ties 54 = .ok (.invokevirtual 113, 3) := dk_182 0 113 (dk_at dksX8_ties_2 6 rfl rfl)
theorem dX8_ties_57 : decode cX8_ties 57 = .ok (.ifCond .eq 7, 3) := dk_153 0 7 (dk_at dksX8_ties_2 9 rfl rfl)
theorem dX8_ties_60 : decode cX8_ties 60 = .ok (.iconst 1, 1) := dk_4 (dk_at dksX8_ties_2 12 rfl rfl)
theorem dX8_ties_61 : decode cX8_ties 61 = .ok (.goto 30, 3) := dk_167 0 30 (dk_at dksX8_ties_2 13 rfl rfl)
theorem dX8_ties_64 : decode cX8_ties 64 = .ok (.aload_n 0, 1) := dk_42 (dk_at dksX8_ties_2 16 rfl rfl)
theorem dX8_ties_65 : decode cX8_ties 65 = .ok (.ldc 158, 2) := dk_18 158 (dk_at dksX8_ties_2 17 rfl rfl)
theorem dX8_ties_67 : decode cX8_ties 67 = .ok (.invokevirtual 113, 3) := dk_182 0 113 (dk_at dksX8_ties_2 19 rfl rfl)
theorem dX8_ties_70 : decode cX8_ties 70 = .ok (.ifCond .eq 7, 3) := dk_153 0 7 (dk_at dksX8_ties_3 0 rfl rfl)
theorem dX8_ties_73 : decode cX8_ties 73 = .ok (.iconst 2, 1) := dk_5 (dk_at dksX8_ties_3 3 rfl rfl)
theorem dX8_ties_74 : decode cX8_ties 74 = .ok (.goto 17, 3) := dk_167 0 17 (dk_at dksX8_ties_3 4 rfl rfl)
theorem dX8_ties_77 : decode cX8_ties 77 = .ok (.aload_n 0, 1) := dk_42 (dk_at dksX8_ties_3 7 rfl rfl)
theorem dX8_ties_78 : decode cX8_ties 78 = .ok (.ldc 160, 2) := dk_18 160 (dk_at dksX8_ties_3 8 rfl rfl)
theorem dX8_ties_80 : decode cX8_ties 80 = .ok (.invokevirtual 113, 3) := dk_182 0 113 (dk_at dksX8_ties_3 10 rfl rfl)
theorem dX8_ties_83 : decode cX8_ties 83 = .ok (.ifCond .eq 7, 3) := dk_153 0 7 (dk_at dksX8_ties_3 13 rfl rfl)
theorem dX8_ties_86 : decode cX8_ties 86 = .ok (.iconst 3, 1) := dk_6 (dk_at dksX8_ties_3 16 rfl rfl)
theorem dX8_ties_87 : decode cX8_ties 87 = .ok (.goto 4, 3) := dk_167 0 4 (dk_at dksX8_ties_3 17 rfl rfl)
theorem dX8_ties_90 : decode cX8_ties 90 = .ok (.iconst (-1), 1) := dk_2 (dk_at dksX8_ties_3 20 rfl rfl)
theorem dX8_ties_91 : decode cX8_ties 91 = .ok (.putfield 162, 3) := dk_181 0 162 (dk_at dksX8_ties_3 21 rfl rfl)
theorem dX8_ties_94 : decode cX8_ties 94 = .ok (.aload_n 0, 1) := dk_42 (dk_at dksX8_ties_4 0 rfl rfl)
theorem dX8_ties_95 : decode cX8_ties 95 = .ok (.aload_n 0, 1) := dk_42 (dk_at dksX8_ties_4 1 rfl rfl)
theorem dX8_ties_96 : decode cX8_ties 96 = .ok (.getfield 162, 3) := dk_180 0 162 (dk_at dksX8_ties_4 2 rfl rfl)
theorem dX8_ties_99 : decode cX8_ties 99 = .ok (.iconst (-1), 1) := dk_2 (dk_at dksX8_ties_4 5 rfl rfl)
theorem dX8_ties_100 : decode cX8_ties 100 = .ok (.if_icmp .eq 7, 3) := dk_159 0 7 (dk_at dksX8_ties_4 6 rfl rfl)
theorem dX8_ties_103 : decode cX8_ties 103 = .ok (.iconst 1, 1) := dk_4 (dk_at dksX8_ties_4 9 rfl rfl)
theorem dX8_ties_104 : decode cX8_ties 104 = .ok (.goto 4, 3) := dk_167 0 4 (dk_at dksX8_ties_4 10 rfl rfl)
theorem dX8_ties_107 : decode cX8_ties 107 = .ok (.iconst 0, 1) := dk_3 (dk_at dksX8_ties_4 13 rfl rfl)
theorem dX8_ties_108 : decode cX8_ties 108 = .ok (.iconst 1, 1) := dk_4 (dk_at dksX8_ties_4 14 rfl rfl)
theorem dX8_ties_109 : decode cX8_ties 109 = .ok (.invokevirtual 105, 3) := dk_182 0 105 (dk_at dksX8_ties_4 15 rfl rfl)
theorem dX8_ties_112 : decode cX8_ties 112 = .ok (.aload_n 0, 1) := dk_42 (dk_at dksX8_ties_4 18 rfl rfl)
theorem dX8_ties_113 : decode cX8_ties 113 = .ok (.invokevirtual 109, 3) := dk_182 0 109 (dk_at dksX8_ties_4 19 rfl rfl)
theorem dX8_ties_116 : decode cX8_ties 116 = .ok (.return_, 1) := dk_177 (dk_at dksX8_ties_4 22 rfl rfl)
theorem q96 : (Jvm.Cond.initialized "ModeDesk$Reader") ∈ lw_all := lw_g (lw_at lw_m1 8 rfl) rfl
theorem q144 : (Jvm.Cond.fieldLinkNest "ModeDesk$Reader" (143 : Nat) "ModeDesk$Row" "weight" "[I" "ModeDesk") ∈ lw_tbl := lw_at lw_m1 56 rfl
theorem q150 : (Jvm.Cond.fieldLinkNest "ModeDesk$Reader" (133 : Nat) "ModeDesk$Row" "many" "I" "ModeDesk") ∈ lw_tbl := lw_at lw_m1 62 rfl
theorem q206 : (Jvm.Cond.fieldLinkNest "ModeDesk$Reader" (29 : Nat) "ModeDesk" "tape" "[B" "ModeDesk") ∈ lw_tbl := lw_at lw_m1 118 rfl
theorem q307 : (Jvm.Cond.instantiable "ModeDesk$Reader" (13 : Nat)) ∈ lw_all := lw_g (lw_at lw_m1 219 rfl) rfl
theorem q309 : (Jvm.Cond.instanceMethod ({ cls := "ModeDesk$Reader", name := "<init>", desc := "(LModeDesk;I)V" } : Jvm.MethodName)) ∈ lw_all := lw_g (lw_at lw_m1 221 rfl) rfl
theorem q310 : (Jvm.Cond.code ({ cls := "ModeDesk$Reader", name := "<init>", desc := "(LModeDesk;I)V" } : Jvm.MethodName) prog_14_method_1_code (3 : Nat) (Option.none : Option Jvm.ClassFile.FieldType)) ∈ lw_all := lw_g (lw_at lw_m1 222 rfl) rfl
theorem q311 : (Jvm.Cond.methodLink "ModeDesk$Reader" (9 : Nat) ({ cls := "java/lang/Object", name := "<init>", desc := "()V" } : Jvm.MethodName)) ∈ lw_all := lw_g (lw_at lw_m1 223 rfl) rfl
theorem q312 : (Jvm.Cond.classLink "ModeDesk$Reader" (15 : Nat) "ModeDesk$Row") ∈ lw_all := lw_g (lw_at lw_m1 224 rfl) rfl
theorem q313 : (Jvm.Cond.methodLinkNest "ModeDesk$Reader" (17 : Nat) ({ cls := "ModeDesk$Row", name := "<init>", desc := "()V" } : Jvm.MethodName) "ModeDesk") ∈ lw_tbl := lw_at lw_m1 225 rfl
theorem q314 : (Jvm.Cond.fieldLink "ModeDesk$Reader" (26 : Nat) "ModeDesk$Reader" "size" "I") ∈ lw_all := lw_g (lw_at lw_m1 226 rfl) rfl
theorem q315 : (Jvm.Cond.fieldLink "ModeDesk$Reader" (18 : Nat) "ModeDesk$Reader" "row" "LModeDesk$Row;") ∈ lw_all := lw_g (lw_at lw_m1 227 rfl) rfl
theorem q317 : (Jvm.Cond.fieldLink "ModeDesk$Reader" (49 : Nat) "ModeDesk$Reader" "at" "I") ∈ lw_all := lw_g (lw_at lw_m1 229 rfl) rfl
theorem q318 : (Jvm.Cond.fieldLink "ModeDesk$Reader" (55 : Nat) "ModeDesk$Reader" "kind" "I") ∈ lw_all := lw_g (lw_at lw_m1 230 rfl) rfl
theorem q319 : (Jvm.Cond.fieldLink "ModeDesk$Reader" (84 : Nat) "ModeDesk$Reader" "which" "I") ∈ lw_all := lw_g (lw_at lw_m1 231 rfl) rfl
theorem q320 : (Jvm.Cond.fieldLink "ModeDesk$Reader" (52 : Nat) "ModeDesk$Reader" "place" "I") ∈ lw_all := lw_g (lw_at lw_m1 232 rfl) rfl
theorem q322 : (Jvm.Cond.fieldLink "ModeDesk$Reader" (130 : Nat) "ModeDesk$Reader" "lines" "I") ∈ lw_all := lw_g (lw_at lw_m1 234 rfl) rfl
theorem q323 : (Jvm.Cond.fieldLink "ModeDesk$Reader" (22 : Nat) "ModeDesk$Reader" "block" "I") ∈ lw_all := lw_g (lw_at lw_m1 235 rfl) rfl
theorem q326 : (Jvm.Cond.fieldLink "ModeDesk$Reader" (162 : Nat) "ModeDesk$Reader" "tie" "I") ∈ lw_all := lw_g (lw_at lw_m1 238 rfl) rfl
theorem q327 : (Jvm.Cond.fieldLink "ModeDesk$Reader" (146 : Nat) "ModeDesk$Reader" "hasBlock" "Z") ∈ lw_all := lw_g (lw_at lw_m1 239 rfl) rfl
theorem q328 : (Jvm.Cond.fieldLink "ModeDesk$Reader" (151 : Nat) "ModeDesk$Reader" "hasTies" "Z") ∈ lw_all := lw_g (lw_at lw_m2 0 rfl) rfl
theorem q329 : (Jvm.Cond.fieldLink "ModeDesk$Reader" (77 : Nat) "ModeDesk$Reader" "word" "Ljava/lang/String;") ∈ lw_all := lw_g (lw_at lw_m2 1 rfl) rfl
theorem q330 : (Jvm.Cond.fieldLink "ModeDesk$Reader" (3 : Nat) "ModeDesk$Reader" "this$0" "LModeDesk;") ∈ lw_all := lw_g (lw_at lw_m2 2 rfl) rfl
theorem q331 : (Jvm.Cond.laysFinal "ModeDesk$Reader" "ModeDesk$Reader" "size" "I") ∈ lw_all := lw_g (lw_at lw_m2 3 rfl) rfl
theorem q332 : (Jvm.Cond.soleField "ModeDesk$Reader" "size") ∈ lw_all := lw_g (lw_at lw_m2 4 rfl) rfl
theorem q333 : (Jvm.Cond.laysFinal "ModeDesk$Reader" "ModeDesk$Reader" "row" "LModeDesk$Row;") ∈ lw_all := lw_g (lw_at lw_m2 5 rfl) rfl
theorem q334 : (Jvm.Cond.soleField "ModeDesk$Reader" "row") ∈ lw_all := lw_g (lw_at lw_m2 6 rfl) rfl
theorem q335 : (Jvm.Cond.lays "ModeDesk$Reader" "ModeDesk$Reader" "at" "I") ∈ lw_all := lw_g (lw_at lw_m2 7 rfl) rfl
theorem q336 : (Jvm.Cond.soleField "ModeDesk$Reader" "at") ∈ lw_all := lw_g (lw_at lw_m2 8 rfl) rfl
theorem q337 : (Jvm.Cond.lays "ModeDesk$Reader" "ModeDesk$Reader" "kind" "I") ∈ lw_all := lw_g (lw_at lw_m2 9 rfl) rfl
theorem q338 : (Jvm.Cond.soleField "ModeDesk$Reader" "kind") ∈ lw_all := lw_g (lw_at lw_m2 10 rfl) rfl
theorem q339 : (Jvm.Cond.lays "ModeDesk$Reader" "ModeDesk$Reader" "which" "I") ∈ lw_all := lw_g (lw_at lw_m2 11 rfl) rfl
theorem q340 : (Jvm.Cond.soleField "ModeDesk$Reader" "which") ∈ lw_all := lw_g (lw_at lw_m2 12 rfl) rfl
theorem q341 : (Jvm.Cond.lays "ModeDesk$Reader" "ModeDesk$Reader" "place" "I") ∈ lw_all := lw_g (lw_at lw_m2 13 rfl) rfl
theorem q342 : (Jvm.Cond.soleField "ModeDesk$Reader" "place") ∈ lw_all := lw_g (lw_at lw_m2 14 rfl) rfl
theorem q343 : (Jvm.Cond.lays "ModeDesk$Reader" "ModeDesk$Reader" "lines" "I") ∈ lw_all := lw_g (lw_at lw_m2 15 rfl) rfl
theorem q344 : (Jvm.Cond.soleField "ModeDesk$Reader" "lines") ∈ lw_all := lw_g (lw_at lw_m2 16 rfl) rfl
theorem q345 : (Jvm.Cond.lays "ModeDesk$Reader" "ModeDesk$Reader" "block" "I") ∈ lw_all := lw_g (lw_at lw_m2 17 rfl) rfl
theorem q346 : (Jvm.Cond.soleField "ModeDesk$Reader" "block") ∈ lw_all := lw_g (lw_at lw_m2 18 rfl) rfl
theorem q347 : (Jvm.Cond.lays "ModeDesk$Reader" "ModeDesk$Reader" "tie" "I") ∈ lw_all := lw_g (lw_at lw_m2 19 rfl) rfl
theorem q348 : (Jvm.Cond.soleField "ModeDesk$Reader" "tie") ∈ lw_all := lw_g (lw_at lw_m2 20 rfl) rfl
theorem q349 : (Jvm.Cond.lays "ModeDesk$Reader" "ModeDesk$Reader" "hasBlock" "Z") ∈ lw_all := lw_g (lw_at lw_m2 21 rfl) rfl
theorem q350 : (Jvm.Cond.soleField "ModeDesk$Reader" "hasBlock") ∈ lw_all := lw_g (lw_at lw_m2 22 rfl) rfl
theorem q351 : (Jvm.Cond.lays "ModeDesk$Reader" "ModeDesk$Reader" "hasTies" "Z") ∈ lw_all := lw_g (lw_at lw_m2 23 rfl) rfl
theorem q352 : (Jvm.Cond.soleField "ModeDesk$Reader" "hasTies") ∈ lw_all := lw_g (lw_at lw_m2 24 rfl) rfl
theorem q353 : (Jvm.Cond.lays "ModeDesk$Reader" "ModeDesk$Reader" "word" "Ljava/lang/String;") ∈ lw_all := lw_g (lw_at lw_m2 25 rfl) rfl
theorem q354 : (Jvm.Cond.soleField "ModeDesk$Reader" "word") ∈ lw_all := lw_g (lw_at lw_m2 26 rfl) rfl
theorem q355 : (Jvm.Cond.laysFinal "ModeDesk$Reader" "ModeDesk$Reader" "this$0" "LModeDesk;") ∈ lw_all := lw_g (lw_at lw_m2 27 rfl) rfl
theorem q356 : (Jvm.Cond.soleField "ModeDesk$Reader" "this$0") ∈ lw_all := lw_g (lw_at lw_m2 28 rfl) rfl
theorem q357 : (Jvm.Cond.superclass "ModeDesk$Reader" "java/lang/Object") ∈ lw_all := lw_g (lw_at lw_m2 29 rfl) rfl
theorem q359 : (Jvm.Cond.instanceMethod ({ cls := "ModeDesk$Reader", name := "reads", desc := "()V" } : Jvm.MethodName)) ∈ lw_all := lw_g (lw_at lw_m2 31 rfl) rfl
theorem q360 : (Jvm.Cond.selects "ModeDesk$Reader" ({ cls := "ModeDesk$Reader", name := "reads", desc := "()V" } : Jvm.MethodName) ({ cls := "ModeDesk$Reader", name := "reads", desc := "()V" } : Jvm.MethodName)) ∈ lw_all := lw_g (lw_at lw_m2 32 rfl) rfl
theorem q361 : (Jvm.Cond.code ({ cls := "ModeDesk$Reader", name := "reads", desc := "()V" } : Jvm.MethodName) prog_14_method_9_code (1 : Nat) (Option.none : Option Jvm.ClassFile.FieldType)) ∈ lw_all := lw_g (lw_at lw_m2 33 rfl) rfl
theorem q362 : (Jvm.Cond.methodLink "ModeDesk$Reader" (109 : Nat) ({ cls := "ModeDesk$Reader", name := "take", desc := "()V" } : Jvm.MethodName)) ∈ lw_all := lw_g (lw_at lw_m2 34 rfl) rfl
theorem q363 : (Jvm.Cond.privateMethod ({ cls := "ModeDesk$Reader", name := "take", desc := "()V" } : Jvm.MethodName)) ∈ lw_tbl := lw_at lw_m2 35 rfl
theorem q364 : (Jvm.Cond.instanceMethod ({ cls := "ModeDesk$Reader", name := "take", desc := "()V" } : Jvm.MethodName)) ∈ lw_all := lw_g (lw_at lw_m2 36 rfl) rfl
theorem q365 : (Jvm.Cond.code ({ cls := "ModeDesk$Reader", name := "take", desc := "()V" } : Jvm.MethodName) prog_14_method_5_code (2 : Nat) (Option.none : Option Jvm.ClassFile.FieldType)) ∈ lw_all := lw_g (lw_at lw_m2 37 rfl) rfl
theorem q366 : (Jvm.Cond.methodLink "ModeDesk$Reader" (33 : Nat) ({ cls := "ModeDesk$Reader", name := "see", desc := "(I)I" } : Jvm.MethodName)) ∈ lw_all := lw_g (lw_at lw_m2 38 rfl) rfl
theorem q367 : (Jvm.Cond.privateMethod ({ cls := "ModeDesk$Reader", name := "see", desc := "(I)I" } : Jvm.MethodName)) ∈ lw_tbl := lw_at lw_m2 39 rfl
theorem q368 : (Jvm.Cond.instanceMethod ({ cls := "ModeDesk$Reader", name := "see", desc := "(I)I" } : Jvm.MethodName)) ∈ lw_all := lw_g (lw_at lw_m2 40 rfl) rfl
theorem q369 : (Jvm.Cond.code ({ cls := "ModeDesk$Reader", name := "see", desc := "(I)I" } : Jvm.MethodName) prog_14_method_2_code (2 : Nat) (Option.some Jvm.ClassFile.FieldType.int)) ∈ lw_all := lw_g (lw_at lw_m2 41 rfl) rfl
theorem q370 : (Jvm.Cond.methodLink "ModeDesk$Reader" (58 : Nat) ({ cls := "ModeDesk$Reader", name := "isSmall", desc := "(I)Z" } : Jvm.MethodName)) ∈ lw_all := lw_g (lw_at lw_m2 42 rfl) rfl
theorem q371 : (Jvm.Cond.privateMethod ({ cls := "ModeDesk$Reader", name := "isSmall", desc := "(I)Z" } : Jvm.MethodName)) ∈ lw_tbl := lw_at lw_m2 43 rfl
theorem q372 : (Jvm.Cond.instanceMethod ({ cls := "ModeDesk$Reader", name := "isSmall", desc := "(I)Z" } : Jvm.MethodName)) ∈ lw_all := lw_g (lw_at lw_m2 44 rfl) rfl
theorem q373 : (Jvm.Cond.code ({ cls := "ModeDesk$Reader", name := "isSmall", desc := "(I)Z" } : Jvm.MethodName) prog_14_method_3_code (2 : Nat) (Option.some Jvm.ClassFile.FieldType.boolean)) ∈ lw_all := lw_g (lw_at lw_m2 45 rfl) rfl
theorem q374 : (Jvm.Cond.constantLong "ModeDesk$Reader" (37 : Nat) (97 : Int64)) ∈ lw_all := lw_g (lw_at lw_m2 46 rfl) rfl
theorem q375 : (Jvm.Cond.constantLong "ModeDesk$Reader" (39 : Nat) (122 : Int64)) ∈ lw_all := lw_g (lw_at lw_m2 47 rfl) rfl
theorem q376 : (Jvm.Cond.methodLinkNest "ModeDesk$Reader" (41 : Nat) ({ cls := "ModeDesk", name := "isIn", desc := "(JJJ)Z" } : Jvm.MethodName) "ModeDesk") ∈ lw_tbl := lw_at lw_m2 48 rfl
theorem q377 : (Jvm.Cond.classLink "ModeDesk$Reader" (62 : Nat) "java/lang/StringBuilder") ∈ lw_all := lw_g (lw_at lw_m2 49 rfl) rfl
theorem q379 : (Jvm.Cond.methodLink "ModeDesk$Reader" (64 : Nat) ({ cls := "java/lang/StringBuilder", name := "<init>", desc := "()V" } : Jvm.MethodName)) ∈ lw_all := lw_g (lw_at lw_m2 51 rfl) rfl
theorem q408 : (Jvm.Cond.methodLink "ModeDesk$Reader" (65 : Nat) ({ cls := "java/lang/StringBuilder", name := "length", desc := "()I" } : Jvm.MethodName)) ∈ lw_all := lw_g (lw_at lw_m2 80 rfl) rfl
theorem q415 : (Jvm.Cond.methodLink "ModeDesk$Reader" (69 : Nat) ({ cls := "java/lang/StringBuilder", name := "append", desc := "(C)Ljava/lang/StringBuilder;" } : Jvm.MethodName)) ∈ lw_all := lw_g (lw_at lw_m2 87 rfl) rfl
theorem q510 : (Jvm.Cond.methodLink "ModeDesk$Reader" (73 : Nat) ({ cls := "java/lang/StringBuilder", name := "toString", desc := "()Ljava/lang/String;" } : Jvm.MethodName)) ∈ lw_all := lw_g (lw_at lw_m2 182 rfl) rfl
theorem q564 : (Jvm.Cond.methodLink "ModeDesk$Reader" (81 : Nat) ({ cls := "ModeDesk$Reader", name := "isDigit", desc := "(I)Z" } : Jvm.MethodName)) ∈ lw_all := lw_g (lw_at lw_m2 236 rfl) rfl
theorem q565 : (Jvm.Cond.privateMethod ({ cls := "ModeDesk$Reader", name := "isDigit", desc := "(I)Z" } : Jvm.MethodName)) ∈ lw_tbl := lw_at lw_m2 237 rfl
theorem q566 : (Jvm.Cond.instanceMethod ({ cls := "ModeDesk$Reader", name := "isDigit", desc := "(I)Z" } : Jvm.MethodName)) ∈ lw_all := lw_g (lw_at lw_m2 238 rfl) rfl
theorem q567 : (Jvm.Cond.code ({ cls := "ModeDesk$Reader", name := "isDigit", desc := "(I)Z" } : Jvm.MethodName) prog_14_method_4_code (2 : Nat) (Option.some Jvm.ClassFile.FieldType.boolean)) ∈ lw_all := lw_g (lw_at lw_m2 239 rfl) rfl
theorem q568 : (Jvm.Cond.constantLong "ModeDesk$Reader" (45 : Nat) (48 : Int64)) ∈ lw_all := lw_g (lw_at lw_m3 0 rfl) rfl
theorem q569 : (Jvm.Cond.constantLong "ModeDesk$Reader" (47 : Nat) (57 : Int64)) ∈ lw_all := lw_g (lw_at lw_m3 1 rfl) rfl
theorem q570 : (Jvm.Cond.constant "ModeDesk$Reader" (87 : Nat) (100000 : Int32)) ∈ lw_all := lw_g (lw_at lw_m3 2 rfl) rfl
theorem q571 : (Jvm.Cond.methodLink "ModeDesk$Reader" (88 : Nat) ({ cls := "java/lang/Math", name := "min", desc := "(II)I" } : Jvm.MethodName)) ∈ lw_all := lw_g (lw_at lw_m3 3 rfl) rfl
theorem q572 : (Jvm.Cond.stringRef "ModeDesk$Reader" (112 : Nat) "row") ∈ lw_tbl := lw_at lw_m3 4 rfl
theorem q573 : (Jvm.Cond.methodLink "ModeDesk$Reader" (113 : Nat) ({ cls := "ModeDesk$Reader", name := "isWord", desc := "(Ljava/lang/String;)Z" } : Jvm.MethodName)) ∈ lw_all := lw_g (lw_at lw_m3 5 rfl) rfl
theorem q574 : (Jvm.Cond.privateMethod ({ cls := "ModeDesk$Reader", name := "isWord", desc := "(Ljava/lang/String;)Z" } : Jvm.MethodName)) ∈ lw_tbl := lw_at lw_m3 6 rfl
theorem q575 : (Jvm.Cond.instanceMethod ({ cls := "ModeDesk$Reader", name := "isWord", desc := "(Ljava/lang/String;)Z" } : Jvm.MethodName)) ∈ lw_all := lw_g (lw_at lw_m3 7 rfl) rfl
theorem q576 : (Jvm.Cond.code ({ cls := "ModeDesk$Reader", name := "isWord", desc := "(Ljava/lang/String;)Z" } : Jvm.MethodName) prog_14_method_7_code (2 : Nat) (Option.some Jvm.ClassFile.FieldType.boolean)) ∈ lw_all := lw_g (lw_at lw_m3 8 rfl) rfl
theorem q577 : (Jvm.Cond.methodLink "ModeDesk$Reader" (99 : Nat) ({ cls := "java/lang/String", name := "equals", desc := "(Ljava/lang/Object;)Z" } : Jvm.MethodName)) ∈ lw_all := lw_g (lw_at lw_m3 9 rfl) rfl
theorem q585 : (Jvm.Cond.methodLink "ModeDesk$Reader" (117 : Nat) ({ cls := "ModeDesk$Reader", name := "values", desc := "()V" } : Jvm.MethodName)) ∈ lw_all := lw_g (lw_at lw_m3 17 rfl) rfl
theorem q586 : (Jvm.Cond.privateMethod ({ cls := "ModeDesk$Reader", name := "values", desc := "()V" } : Jvm.MethodName)) ∈ lw_tbl := lw_at lw_m3 18 rfl
theorem q587 : (Jvm.Cond.instanceMethod ({ cls := "ModeDesk$Reader", name := "values", desc := "()V" } : Jvm.MethodName)) ∈ lw_all := lw_g (lw_at lw_m3 19 rfl) rfl
theorem q588 : (Jvm.Cond.code ({ cls := "ModeDesk$Reader", name := "values", desc := "()V" } : Jvm.MethodName) prog_14_method_10_code (1 : Nat) (Option.none : Option Jvm.ClassFile.FieldType)) ∈ lw_all := lw_g (lw_at lw_m3 20 rfl) rfl
theorem q589 : (Jvm.Cond.methodLink "ModeDesk$Reader" (105 : Nat) ({ cls := "ModeDesk$Reader", name := "must", desc := "(ZI)V" } : Jvm.MethodName)) ∈ lw_all := lw_g (lw_at lw_m3 21 rfl) rfl
theorem q590 : (Jvm.Cond.privateMethod ({ cls := "ModeDesk$Reader", name := "must", desc := "(ZI)V" } : Jvm.MethodName)) ∈ lw_tbl := lw_at lw_m3 22 rfl
theorem q591 : (Jvm.Cond.instanceMethod ({ cls := "ModeDesk$Reader", name := "must", desc := "(ZI)V" } : Jvm.MethodName)) ∈ lw_all := lw_g (lw_at lw_m3 23 rfl) rfl
theorem q592 : (Jvm.Cond.code ({ cls := "ModeDesk$Reader", name := "must", desc := "(ZI)V" } : Jvm.MethodName) prog_14_method_6_code (3 : Nat) (Option.none : Option Jvm.ClassFile.FieldType)) ∈ lw_all := lw_g (lw_at lw_m3 24 rfl) rfl
theorem q593 : (Jvm.Cond.classLink "ModeDesk$Reader" (94 : Nat) "ModeDesk$Fault") ∈ lw_all := lw_g (lw_at lw_m3 25 rfl) rfl
theorem q633 : (Jvm.Cond.methodLink "ModeDesk$Reader" (96 : Nat) ({ cls := "ModeDesk$Fault", name := "<init>", desc := "(II)V" } : Jvm.MethodName)) ∈ lw_all := lw_g (lw_at lw_m3 65 rfl) rfl
theorem q663 : (Jvm.Cond.methodLink "ModeDesk$Reader" (136 : Nat) ({ cls := "ModeDesk$Reader", name := "number", desc := "(II)I" } : Jvm.MethodName)) ∈ lw_all := lw_g (lw_at lw_m3 95 rfl) rfl
theorem q664 : (Jvm.Cond.privateMethod ({ cls := "ModeDesk$Reader", name := "number", desc := "(II)I" } : Jvm.MethodName)) ∈ lw_tbl := lw_at lw_m3 96 rfl
theorem q665 : (Jvm.Cond.instanceMethod ({ cls := "ModeDesk$Reader", name := "number", desc := "(II)I" } : Jvm.MethodName)) ∈ lw_all := lw_g (lw_at lw_m3 97 rfl) rfl
theorem q666 : (Jvm.Cond.code ({ cls := "ModeDesk$Reader", name := "number", desc := "(II)I" } : Jvm.MethodName) prog_14_method_8_code (4 : Nat) (Option.some Jvm.ClassFile.FieldType.int)) ∈ lw_all := lw_g (lw_at lw_m3 98 rfl) rfl
theorem q667 : (Jvm.Cond.methodLink "ModeDesk$Reader" (139 : Nat) ({ cls := "ModeDesk$Row", name := "adds", desc := "(I)V" } : Jvm.MethodName)) ∈ lw_all := lw_g (lw_at lw_m3 99 rfl) rfl
theorem q671 : (Jvm.Cond.stringRef "ModeDesk$Reader" (120 : Nat) "weight") ∈ lw_tbl := lw_at lw_m3 103 rfl
theorem q672 : (Jvm.Cond.methodLink "ModeDesk$Reader" (122 : Nat) ({ cls := "ModeDesk$Reader", name := "weight", desc := "()V" } : Jvm.MethodName)) ∈ lw_all := lw_g (lw_at lw_m3 104 rfl) rfl
theorem q673 : (Jvm.Cond.privateMethod ({ cls := "ModeDesk$Reader", name := "weight", desc := "()V" } : Jvm.MethodName)) ∈ lw_tbl := lw_at lw_m3 105 rfl
theorem q674 : (Jvm.Cond.instanceMethod ({ cls := "ModeDesk$Reader", name := "weight", desc := "()V" } : Jvm.MethodName)) ∈ lw_all := lw_g (lw_at lw_m3 106 rfl) rfl
theorem q675 : (Jvm.Cond.code ({ cls := "ModeDesk$Reader", name := "weight", desc := "()V" } : Jvm.MethodName) prog_14_method_11_code (2 : Nat) (Option.none : Option Jvm.ClassFile.FieldType)) ∈ lw_all := lw_g (lw_at lw_m3 107 rfl) rfl
theorem q676 : (Jvm.Cond.stringRef "ModeDesk$Reader" (124 : Nat) "block") ∈ lw_tbl := lw_at lw_m3 108 rfl
theorem q677 : (Jvm.Cond.methodLink "ModeDesk$Reader" (125 : Nat) ({ cls := "ModeDesk$Reader", name := "block", desc := "()V" } : Jvm.MethodName)) ∈ lw_all := lw_g (lw_at lw_m3 109 rfl) rfl
theorem q678 : (Jvm.Cond.privateMethod ({ cls := "ModeDesk$Reader", name := "block", desc := "()V" } : Jvm.MethodName)) ∈ lw_tbl := lw_at lw_m3 110 rfl
theorem q679 : (Jvm.Cond.instanceMethod ({ cls := "ModeDesk$Reader", name := "block", desc := "()V" } : Jvm.MethodName)) ∈ lw_all := lw_g (lw_at lw_m3 111 rfl) rfl
theorem q680 : (Jvm.Cond.code ({ cls := "ModeDesk$Reader", name := "block", desc := "()V" } : Jvm.MethodName) prog_14_method_12_code (1 : Nat) (Option.none : Option Jvm.ClassFile.FieldType)) ∈ lw_all := lw_g (lw_at lw_m3 112 rfl) rfl
theorem q681 : (Jvm.Cond.methodLink "ModeDesk$Reader" (127 : Nat) ({ cls := "ModeDesk$Reader", name := "ties", desc := "()V" } : Jvm.MethodName)) ∈ lw_all := lw_g (lw_at lw_m3 113 rfl) rfl
theorem q682 : (Jvm.Cond.privateMethod ({ cls := "ModeDesk$Reader", name := "ties", desc := "()V" } : Jvm.MethodName)) ∈ lw_tbl := lw_at lw_m3 114 rfl
theorem q683 : (Jvm.Cond.instanceMethod ({ cls := "ModeDesk$Reader", name := "ties", desc := "()V" } : Jvm.MethodName)) ∈ lw_all := lw_g (lw_at lw_m3 115 rfl) rfl
theorem q684 : (Jvm.Cond.code ({ cls := "ModeDesk$Reader", name := "ties", desc := "()V" } : Jvm.MethodName) prog_14_method_13_code (1 : Nat) (Option.none : Option Jvm.ClassFile.FieldType)) ∈ lw_all := lw_g (lw_at lw_m3 116 rfl) rfl
theorem q685 : (Jvm.Cond.stringRef "ModeDesk$Reader" (150 : Nat) "ties") ∈ lw_tbl := lw_at lw_m3 117 rfl
theorem q686 : (Jvm.Cond.stringRef "ModeDesk$Reader" (154 : Nat) "first") ∈ lw_tbl := lw_at lw_m3 118 rfl
theorem q687 : (Jvm.Cond.stringRef "ModeDesk$Reader" (156 : Nat) "last") ∈ lw_tbl := lw_at lw_m3 119 rfl
theorem q688 : (Jvm.Cond.stringRef "ModeDesk$Reader" (158 : Nat) "least") ∈ lw_tbl := lw_at lw_m3 120 rfl
theorem q689 : (Jvm.Cond.stringRef "ModeDesk$Reader" (160 : Nat) "most") ∈ lw_tbl := lw_at lw_m3 121 rfl
theorem q1990 : (Jvm.Cond.castable "ModeDesk$Reader" "java/lang/Object") ∈ lw_tbl := lw_at lw_m8 222 rfl
theorem in_X8 : ∀ w ∈ wsX80, w ∈ lw_all := lw_in wsX80 [331, 333, 335, 337, 339, 341, 343, 345, 347, 349, 351, 353, 355] (by decide +kernel) (by decide +kernel)
/-! ModeDesk$Fault -/
set_option maxRecDepth 100000
def RX9 : String := "ModeDesk$Fault"
def TX9 : u_T := fun k => match k with
  | 0 => ("java/lang/Throwable", "cause", "Ljava/lang/Throwable;", false)
  | 1 => ("java/lang/Throwable", "stackTrace", "[Ljava/lang/StackTraceElement;", false)
  | 2 => ("java/lang/Throwable", "suppressedExceptions", "Ljava/util/List;", false)
  | 3 => ("java/lang/Throwable", "detailMessage", "Ljava/lang/String;", false)
  | 4 => ("java/lang/Throwable", "backtrace", "Ljava/lang/Object;", false)
  | 5 => ("java/lang/Throwable", "depth", "I", false)
  | 6 => ("ModeDesk$Fault", "sort", "I", true)
  | _ => ("ModeDesk$Fault", "place", "I", true)
def tyX9 : Nat → FieldType := fun k => match k with
  | 0 => .object "java/lang/Throwable"
  | 1 => .array (.object "java/lang/StackTraceElement")
  | 2 => .object "java/util/List"
  | 3 => .object "java/lang/String"
  | 4 => .object "java/lang/Object"
  | 5 => .int
  | 6 => .int
  | _ => .int
abbrev wsX90 : List Cond := u_ws RX9 TX9 8
theorem nmX9 : ∀ a, a < 8 → ∀ b, b < 8 → a ≠ b → (TX9 a).2.1 ≠ (TX9 b).2.1 := by decide +kernel
theorem tyX9_ok : ∀ k, k < 8 → parseFieldDescriptor (TX9 k).2.2.1 = some (tyX9 k) := by decide +kernel
abbrev cX9_init : ByteArray := prog_11_method_1_code
def yX9_init : MethodName := ⟨RX9, "<init>", "(II)V"⟩
def dkwX9_init_0 : List UInt8 := [42, 1, 1, 3, 3, 183, 0, 1, 42, 27, 181, 0, 7, 42, 28, 181, 0, 13, 177]
abbrev dktX9_init_0 : List UInt8 := dkwX9_init_0 ++ []
theorem dksX9_init_0 : cX9_init.data.toList.drop 0 = dktX9_init_0 := by decide +kernel
theorem dX9_init_0 : decode cX9_init 0 = .ok (.aload_n 0, 1) := dk_42 (dk_at dksX9_init_0 0 rfl rfl)
theorem dX9_init_1 : decode cX9_init 1 = .ok (.aconst_null, 1) := dk_1 (dk_at dksX9_init_0 1 rfl rfl)
theorem dX9_init_2 : decode cX9_init 2 = .ok (.aconst_null, 1) := dk_1 (dk_at dksX9_init_0 2 rfl rfl)
theorem dX9_init_3 : decode cX9_init 3 = .ok (.iconst 0, 1) := dk_3 (dk_at dksX9_init_0 3 rfl rfl)
theorem dX9_init_4 : decode cX9_init 4 = .ok (.iconst 0, 1) := dk_3 (dk_at dksX9_init_0 4 rfl rfl)
theorem dX9_init_5 : decode cX9_init 5 = .ok (.invokespecial 1, 3) := dk_183 0 1 (dk_at dksX9_init_0 5 rfl rfl)
theorem dX9_init_8 : decode cX9_init 8 = .ok (.aload_n 0, 1) := dk_42 (dk_at dksX9_init_0 8 rfl rfl)
theorem dX9_init_9 : decode cX9_init 9 = .ok (.iload_n 1, 1) := dk_27 (dk_at dksX9_init_0 9 rfl rfl)
theorem dX9_init_10 : decode cX9_init 10 = .ok (.putfield 7, 3) := dk_181 0 7 (dk_at dksX9_init_0 10 rfl rfl)
theorem dX9_init_13 : decode cX9_init 13 = .ok (.aload_n 0, 1) := dk_42 (dk_at dksX9_init_0 13 rfl rfl)
theorem dX9_init_14 : decode cX9_init 14 = .ok (.iload_n 2, 1) := dk_28 (dk_at dksX9_init_0 14 rfl rfl)
theorem dX9_init_15 : decode cX9_init 15 = .ok (.putfield 13, 3) := dk_181 0 13 (dk_at dksX9_init_0 15 rfl rfl)
theorem dX9_init_18 : decode cX9_init 18 = .ok (.return_, 1) := dk_177 (dk_at dksX9_init_0 18 rfl rfl)
theorem q109 : (Jvm.Cond.initialized "ModeDesk$Fault") ∈ lw_all := lw_g (lw_at lw_m1 21 rfl) rfl
theorem q594 : (Jvm.Cond.instantiable "ModeDesk$Fault" (8 : Nat)) ∈ lw_all := lw_g (lw_at lw_m3 26 rfl) rfl
theorem q595 : (Jvm.Cond.castable "ModeDesk$Fault" "ModeDesk$Fault") ∈ lw_tbl := lw_at lw_m3 27 rfl
theorem q600 : (Jvm.Cond.selects "ModeDesk$Fault" ({ cls := "java/lang/Throwable", name := "fillInStackTrace", desc := "(I)Ljava/lang/Throwable;" } : Jvm.MethodName) ({ cls := "java/lang/Throwable", name := "fillInStackTrace", desc := "(I)Ljava/lang/Throwable;" } : Jvm.MethodName)) ∈ lw_all := lw_g (lw_at lw_m3 32 rfl) rfl
theorem q601 : (Jvm.Cond.selects "ModeDesk$Fault" ({ cls := "java/lang/Throwable", name := "fillInStackTrace", desc := "()Ljava/lang/Throwable;" } : Jvm.MethodName) ({ cls := "java/lang/Throwable", name := "fillInStackTrace", desc := "()Ljava/lang/Throwable;" } : Jvm.MethodName)) ∈ lw_all := lw_g (lw_at lw_m3 33 rfl) rfl
theorem q602 : (Jvm.Cond.lays "ModeDesk$Fault" "java/lang/Throwable" "cause" "Ljava/lang/Throwable;") ∈ lw_all := lw_g (lw_at lw_m3 34 rfl) rfl
theorem q604 : (Jvm.Cond.lays "ModeDesk$Fault" "java/lang/Throwable" "stackTrace" "[Ljava/lang/StackTraceElement;") ∈ lw_all := lw_g (lw_at lw_m3 36 rfl) rfl
theorem q606 : (Jvm.Cond.lays "ModeDesk$Fault" "java/lang/Throwable" "suppressedExceptions" "Ljava/util/List;") ∈ lw_all := lw_g (lw_at lw_m3 38 rfl) rfl
theorem q608 : (Jvm.Cond.lays "ModeDesk$Fault" "java/lang/Throwable" "detailMessage" "Ljava/lang/String;") ∈ lw_all := lw_g (lw_at lw_m3 40 rfl) rfl
theorem q610 : (Jvm.Cond.lays "ModeDesk$Fault" "java/lang/Throwable" "backtrace" "Ljava/lang/Object;") ∈ lw_all := lw_g (lw_at lw_m3 42 rfl) rfl
theorem q634 : (Jvm.Cond.instanceMethod ({ cls := "ModeDesk$Fault", name := "<init>", desc := "(II)V" } : Jvm.MethodName)) ∈ lw_all := lw_g (lw_at lw_m3 66 rfl) rfl
theorem q635 : (Jvm.Cond.code ({ cls := "ModeDesk$Fault", name := "<init>", desc := "(II)V" } : Jvm.MethodName) prog_11_method_1_code (3 : Nat) (Option.none : Option Jvm.ClassFile.FieldType)) ∈ lw_all := lw_g (lw_at lw_m3 67 rfl) rfl
theorem q636 : (Jvm.Cond.methodLink "ModeDesk$Fault" (1 : Nat) ({ cls := "java/lang/Exception", name := "<init>", desc := "(Ljava/lang/String;Ljava/lang/Throwable;ZZ)V" } : Jvm.MethodName)) ∈ lw_all := lw_g (lw_at lw_m3 68 rfl) rfl
theorem q642 : (Jvm.Cond.fieldLink "ModeDesk$Fault" (7 : Nat) "ModeDesk$Fault" "sort" "I") ∈ lw_all := lw_g (lw_at lw_m3 74 rfl) rfl
theorem q644 : (Jvm.Cond.fieldLink "ModeDesk$Fault" (13 : Nat) "ModeDesk$Fault" "place" "I") ∈ lw_all := lw_g (lw_at lw_m3 76 rfl) rfl
theorem q651 : (Jvm.Cond.laysFinal "ModeDesk$Fault" "ModeDesk$Fault" "sort" "I") ∈ lw_all := lw_g (lw_at lw_m3 83 rfl) rfl
theorem q652 : (Jvm.Cond.soleField "ModeDesk$Fault" "sort") ∈ lw_all := lw_g (lw_at lw_m3 84 rfl) rfl
theorem q653 : (Jvm.Cond.laysFinal "ModeDesk$Fault" "ModeDesk$Fault" "place" "I") ∈ lw_all := lw_g (lw_at lw_m3 85 rfl) rfl
theorem q654 : (Jvm.Cond.soleField "ModeDesk$Fault" "place") ∈ lw_all := lw_g (lw_at lw_m3 86 rfl) rfl
theorem q659 : (Jvm.Cond.lays "ModeDesk$Fault" "java/lang/Throwable" "depth" "I") ∈ lw_all := lw_g (lw_at lw_m3 91 rfl) rfl
theorem q662 : (Jvm.Cond.superclass "ModeDesk$Fault" "java/lang/Exception") ∈ lw_all := lw_g (lw_at lw_m3 94 rfl) rfl
theorem q1993 : (Jvm.Cond.castable "ModeDesk$Fault" "java/lang/Object") ∈ lw_tbl := lw_at lw_m8 225 rfl
theorem in_X9 : ∀ w ∈ wsX90, w ∈ lw_all := lw_in wsX90 [602, 604, 606, 608, 610, 659, 651, 653] (by decide +kernel) (by decide +kernel)
theorem q752 : (Jvm.Cond.interfaceMethod "ModeDesk$Ahead" "ModeDesk$Ahead" "is" "(IIII)Z") ∈ lw_tbl := lw_at lw_m3 184 rfl
set_option maxRecDepth 100000
theorem q753 : (Jvm.Cond.declares ({ cls := "ModeDesk$Ahead", name := "is", desc := "(IIII)Z" } : Jvm.MethodName)) ∈ lw_tbl := lw_at lw_m3 185 rfl
theorem q445 : (Jvm.Cond.sameMethod "[B" "java/lang/Object" "clone" "()Ljava/lang/Object;") ∈ lw_all := lw_g (lw_at lw_m2 117 rfl) rfl
set_option maxRecDepth 100000
theorem q448 : (Jvm.Cond.selects "[B" ({ cls := "[B", name := "clone", desc := "()Ljava/lang/Object;" } : Jvm.MethodName) ({ cls := "java/lang/Object", name := "clone", desc := "()Ljava/lang/Object;" } : Jvm.MethodName)) ∈ lw_all := lw_g (lw_at lw_m2 120 rfl) rfl
theorem q449 : (Jvm.Cond.castable "[B" "java/lang/Cloneable") ∈ lw_tbl := lw_at lw_m2 121 rfl
theorem q118 : (Jvm.Cond.initialized "java/lang/Integer$IntegerCache") ∈ lw_all := lw_g (lw_at lw_m1 30 rfl) rfl
set_option maxRecDepth 100000
theorem q961 : (Jvm.Cond.laysStatic "java/lang/Integer$IntegerCache" "high" "I") ∈ lw_tbl := lw_at lw_m4 153 rfl
theorem q963 : (Jvm.Cond.laysStatic "java/lang/Integer$IntegerCache" "cache" "[Ljava/lang/Integer;") ∈ lw_tbl := lw_at lw_m4 155 rfl
theorem q104 : (Jvm.Cond.initialized "java/lang/System") ∈ lw_all := lw_g (lw_at lw_m1 16 rfl) rfl
set_option maxRecDepth 100000
theorem q455 : (Jvm.Cond.static ({ cls := "java/lang/System", name := "arraycopy", desc := "(Ljava/lang/Object;ILjava/lang/Object;II)V" } : Jvm.MethodName)) ∈ lw_all := lw_g (lw_at lw_m2 127 rfl) rfl
theorem q456 : (Jvm.Cond.native ({ cls := "java/lang/System", name := "arraycopy", desc := "(Ljava/lang/Object;ILjava/lang/Object;II)V" } : Jvm.MethodName)) ∈ lw_all := lw_g (lw_at lw_m2 128 rfl) rfl
theorem q907 : (Jvm.Cond.interfaceMethod "java/util/Iterator" "java/util/Iterator" "hasNext" "()Z") ∈ lw_tbl := lw_at lw_m4 99 rfl
set_option maxRecDepth 100000
theorem q908 : (Jvm.Cond.declares ({ cls := "java/util/Iterator", name := "hasNext", desc := "()Z" } : Jvm.MethodName)) ∈ lw_tbl := lw_at lw_m4 100 rfl
theorem q923 : (Jvm.Cond.interfaceMethod "java/util/Iterator" "java/util/Iterator" "next" "()Ljava/lang/Object;") ∈ lw_tbl := lw_at lw_m4 115 rfl
theorem q924 : (Jvm.Cond.declares ({ cls := "java/util/Iterator", name := "next", desc := "()Ljava/lang/Object;" } : Jvm.MethodName)) ∈ lw_tbl := lw_at lw_m4 116 rfl
theorem q158 : (Jvm.Cond.arrayClass Jvm.ClassFile.FieldType.byte) ∈ lw_all := lw_g (lw_at lw_m1 70 rfl) rfl
set_option maxRecDepth 100000
theorem q159 : (Jvm.Cond.arrayClass Jvm.ClassFile.FieldType.int) ∈ lw_all := lw_g (lw_at lw_m1 71 rfl) rfl
theorem q161 : (Jvm.Cond.arrayOver (Jvm.ClassFile.FieldType.object "ModeDesk$Places")) ∈ lw_tbl := lw_at lw_m1 73 rfl
theorem q163 : (Jvm.Cond.arrayOver (Jvm.ClassFile.FieldType.object "ModeDesk$Ahead")) ∈ lw_tbl := lw_at lw_m1 75 rfl
theorem q204 : (Jvm.Cond.arrayOver (Jvm.ClassFile.FieldType.object "ModeDesk$Row")) ∈ lw_tbl := lw_at lw_m1 116 rfl
theorem q293 : (Jvm.Cond.arrayClass Jvm.ClassFile.FieldType.boolean) ∈ lw_all := lw_g (lw_at lw_m1 205 rfl) rfl
theorem q1972 : (Jvm.Cond.arrayClass Jvm.ClassFile.FieldType.long) ∈ lw_all := lw_g (lw_at lw_m8 204 rfl) rfl
