/-! ModeDesk -/
set_option maxRecDepth 100000
def RX1 : String := "ModeDesk"
def TX1 : u_T := fun k => match k with
  | 0 => ("ModeDesk", "tape", "[B", true)
  | 1 => ("ModeDesk", "taped", "I", false)
  | 2 => ("ModeDesk", "fault", "I", false)
  | 3 => ("ModeDesk", "faultPlace", "I", false)
  | 4 => ("ModeDesk", "row", "LModeDesk$Row;", true)
  | 5 => ("ModeDesk", "before", "LModeDesk$Row;", true)
  | 6 => ("ModeDesk", "lines", "I", false)
  | 7 => ("ModeDesk", "block", "I", false)
  | 8 => ("ModeDesk", "tie", "I", false)
  | 9 => ("ModeDesk", "refreshed", "I", false)
  | 10 => ("ModeDesk", "places", "[LModeDesk$Places;", true)
  | 11 => ("ModeDesk", "rules", "[LModeDesk$Ahead;", true)
  | 12 => ("ModeDesk", "modes", "[I", true)
  | 13 => ("ModeDesk", "kept", "[LModeDesk$Row;", true)
  | 14 => ("ModeDesk", "undos", "I", false)
  | 15 => ("ModeDesk", "looked", "[I", true)
  | 16 => ("ModeDesk", "isLooked", "[Z", true)
  | 17 => ("ModeDesk", "lookedMany", "I", false)
  | 18 => ("ModeDesk", "sorted", "[I", true)
  | 19 => ("ModeDesk", "tally", "[I", true)
  | 20 => ("ModeDesk", "found", "I", false)
  | 21 => ("ModeDesk", "foundL", "I", false)
  | 22 => ("ModeDesk", "foundR", "I", false)
  | 23 => ("ModeDesk", "tried", "LModeDesk$Row;", true)
  | _ => ("ModeDesk", "fewest", "[I", true)
def tyX1 : Nat → FieldType := fun k => match k with
  | 0 => .array .byte
  | 1 => .int
  | 2 => .int
  | 3 => .int
  | 4 => .object "ModeDesk$Row"
  | 5 => .object "ModeDesk$Row"
  | 6 => .int
  | 7 => .int
  | 8 => .int
  | 9 => .int
  | 10 => .array (.object "ModeDesk$Places")
  | 11 => .array (.object "ModeDesk$Ahead")
  | 12 => .array .int
  | 13 => .array (.object "ModeDesk$Row")
  | 14 => .int
  | 15 => .array .int
  | 16 => .array .boolean
  | 17 => .int
  | 18 => .array .int
  | 19 => .array .int
  | 20 => .int
  | 21 => .int
  | 22 => .int
  | 23 => .object "ModeDesk$Row"
  | _ => .array .int
abbrev wsX10 : List Cond := u_ws RX1 TX1 25
set_option maxRecDepth 100000 in
theorem nmX1 : ∀ a, a < 25 → ∀ b, b < 25 → a ≠ b → (TX1 a).2.1 ≠ (TX1 b).2.1 := by decide +kernel
set_option maxRecDepth 100000 in
theorem tyX1_ok : ∀ k, k < 25 → parseFieldDescriptor (TX1 k).2.2.1 = some (tyX1 k) := by decide +kernel
abbrev cX1_init : ByteArray := prog_1_method_1_code
def yX1_init : MethodName := ⟨RX1, "<init>", "()V"⟩
def dkwX1_init_13 : List UInt8 := [183, 0, 19, 181, 0, 80, 42, 16, 121, 188, 10, 181, 0, 83, 177]
abbrev dktX1_init_13 : List UInt8 := dkwX1_init_13 ++ []
def dkwX1_init_12 : List UInt8 := [42, 16, 120, 188, 10, 181, 0, 74, 42, 17, 3, 232, 188, 10, 181, 0, 77, 42, 187, 0, 17, 89]
abbrev dktX1_init_12 : List UInt8 := dkwX1_init_12 ++ dktX1_init_13
def dkwX1_init_11 : List UInt8 := [183, 0, 19, 83, 181, 0, 63, 42, 16, 120, 188, 10, 181, 0, 67, 42, 17, 3, 232, 188, 4, 181, 0, 70]
abbrev dktX1_init_11 : List UInt8 := dkwX1_init_11 ++ dktX1_init_12
def dkwX1_init_10 : List UInt8 := [183, 0, 19, 83, 89, 16, 10, 187, 0, 17, 89, 183, 0, 19, 83, 89, 16, 11, 187, 0, 17, 89]
abbrev dktX1_init_10 : List UInt8 := dkwX1_init_10 ++ dktX1_init_11
def dkwX1_init_9 : List UInt8 := [183, 0, 19, 83, 89, 16, 8, 187, 0, 17, 89, 183, 0, 19, 83, 89, 16, 9, 187, 0, 17, 89]
abbrev dktX1_init_9 : List UInt8 := dkwX1_init_9 ++ dktX1_init_10
def dkwX1_init_8 : List UInt8 := [183, 0, 19, 83, 89, 16, 6, 187, 0, 17, 89, 183, 0, 19, 83, 89, 16, 7, 187, 0, 17, 89]
abbrev dktX1_init_8 : List UInt8 := dkwX1_init_8 ++ dktX1_init_9
def dkwX1_init_7 : List UInt8 := [187, 0, 17, 89, 183, 0, 19, 83, 89, 7, 187, 0, 17, 89, 183, 0, 19, 83, 89, 8, 187, 0, 17, 89]
abbrev dktX1_init_7 : List UInt8 := dkwX1_init_7 ++ dktX1_init_8
def dkwX1_init_6 : List UInt8 := [89, 4, 187, 0, 17, 89, 183, 0, 19, 83, 89, 5, 187, 0, 17, 89, 183, 0, 19, 83, 89, 6]
abbrev dktX1_init_6 : List UInt8 := dkwX1_init_6 ++ dktX1_init_7
def dkwX1_init_5 : List UInt8 := [17, 14, 16, 188, 10, 181, 0, 59, 42, 16, 12, 189, 0, 17, 89, 3, 187, 0, 17, 89, 183, 0, 19, 83]
abbrev dktX1_init_5 : List UInt8 := dkwX1_init_5 ++ dktX1_init_6
def dkwX1_init_4 : List UInt8 := [187, 0, 49, 89, 42, 183, 0, 51, 83, 89, 6, 187, 0, 52, 89, 42, 183, 0, 54, 83, 181, 0, 55, 42]
abbrev dktX1_init_4 : List UInt8 := dkwX1_init_4 ++ dktX1_init_5
def dkwX1_init_3 : List UInt8 := [187, 0, 41, 89, 42, 183, 0, 43, 83, 89, 4, 187, 0, 46, 89, 42, 183, 0, 48, 83, 89, 5]
abbrev dktX1_init_3 : List UInt8 := dkwX1_init_3 ++ dktX1_init_4
def dkwX1_init_2 : List UInt8 := [16, 254, 181, 0, 30, 42, 17, 3, 232, 189, 0, 33, 181, 0, 35, 42, 7, 189, 0, 39, 89, 3]
abbrev dktX1_init_2 : List UInt8 := dkwX1_init_2 ++ dktX1_init_3
def dkwX1_init_1 : List UInt8 := [183, 0, 19, 181, 0, 20, 42, 187, 0, 17, 89, 183, 0, 19, 181, 0, 24, 42, 16, 8, 181, 0, 27, 42]
abbrev dktX1_init_1 : List UInt8 := dkwX1_init_1 ++ dktX1_init_2
def dkwX1_init_0 : List UInt8 := [42, 183, 0, 1, 42, 17, 3, 132, 188, 8, 181, 0, 9, 42, 2, 181, 0, 13, 42, 187, 0, 17, 89]
abbrev dktX1_init_0 : List UInt8 := dkwX1_init_0 ++ dktX1_init_1
theorem dksX1_init_0 : cX1_init.data.toList.drop 0 = dktX1_init_0 := by decide +kernel
theorem dksX1_init_1 : cX1_init.data.toList.drop 23 = dktX1_init_1 := dk_seg dksX1_init_0 23 rfl rfl
theorem dksX1_init_2 : cX1_init.data.toList.drop 47 = dktX1_init_2 := dk_seg dksX1_init_1 24 rfl rfl
theorem dksX1_init_3 : cX1_init.data.toList.drop 69 = dktX1_init_3 := dk_seg dksX1_init_2 22 rfl rfl
theorem dksX1_init_4 : cX1_init.data.toList.drop 91 = dktX1_init_4 := dk_seg dksX1_init_3 22 rfl rfl
theorem dksX1_init_5 : cX1_init.data.toList.drop 115 = dktX1_init_5 := dk_seg dksX1_init_4 24 rfl rfl
theorem dksX1_init_6 : cX1_init.data.toList.drop 139 = dktX1_init_6 := dk_seg dksX1_init_5 24 rfl rfl
theorem dksX1_init_7 : cX1_init.data.toList.drop 161 = dktX1_init_7 := dk_seg dksX1_init_6 22 rfl rfl
theorem dksX1_init_8 : cX1_init.data.toList.drop 185 = dktX1_init_8 := dk_seg dksX1_init_7 24 rfl rfl
theorem dksX1_init_9 : cX1_init.data.toList.drop 207 = dktX1_init_9 := dk_seg dksX1_init_8 22 rfl rfl
theorem dksX1_init_10 : cX1_init.data.toList.drop 229 = dktX1_init_10 := dk_seg dksX1_init_9 22 rfl rfl
theorem dksX1_init_11 : cX1_init.data.toList.drop 251 = dktX1_init_11 := dk_seg dksX1_init_10 22 rfl rfl
theorem dksX1_init_12 : cX1_init.data.toList.drop 275 = dktX1_init_12 := dk_seg dksX1_init_11 24 rfl rfl
theorem dksX1_init_13 : cX1_init.data.toList.drop 297 = dktX1_init_13 := dk_seg dksX1_init_12 22 rfl rfl
theorem dX1_init_0 : decode cX1_init 0 = .ok (.aload_n 0, 1) := dk_42 (dk_at dksX1_init_0 0 rfl rfl)
theorem dX1_init_1 : decode cX1_init 1 = .ok (.invokespecial 1, 3) := dk_183 0 1 (dk_at dksX1_init_0 1 rfl rfl)
theorem dX1_init_4 : decode cX1_init 4 = .ok (.aload_n 0, 1) := dk_42 (dk_at dksX1_init_0 4 rfl rfl)
theorem dX1_init_5 : decode cX1_init 5 = .ok (.sipush 900, 3) := dk_17 3 132 (dk_at dksX1_init_0 5 rfl rfl)
theorem dX1_init_8 : decode cX1_init 8 = .ok (.newarray .byte, 2) := dk_188_8 (dk_at dksX1_init_0 8 rfl rfl)
theorem dX1_init_10 : decode cX1_init 10 = .ok (.putfield 9, 3) := dk_181 0 9 (dk_at dksX1_init_0 10 rfl rfl)
theorem dX1_init_13 : decode cX1_init 13 = .ok (.aload_n 0, 1) := dk_42 (dk_at dksX1_init_0 13 rfl rfl)
theorem dX1_init_14 : decode cX1_init 14 = .ok (.iconst (-1), 1) := dk_2 (dk_at dksX1_init_0 14 rfl rfl)
theorem dX1_init_15 : decode cX1_init 15 = .ok (.putfield 13, 3) := dk_181 0 13 (dk_at dksX1_init_0 15 rfl rfl)
theorem dX1_init_18 : decode cX1_init 18 = .ok (.aload_n 0, 1) := dk_42 (dk_at dksX1_init_0 18 rfl rfl)
theorem dX1_init_19 : decode cX1_init 19 = .ok (.new 17, 3) := dk_187 0 17 (dk_at dksX1_init_0 19 rfl rfl)
theorem dX1_init_22 : decode cX1_init 22 = .ok (.dup, 1) := dk_89 (dk_at dksX1_init_0 22 rfl rfl)
theorem dX1_init_23 : decode cX1_init 23 = .ok (.invokespecial 19, 3) := dk_183 0 19 (dk_at dksX1_init_1 0 rfl rfl)
theorem dX1_init_26 : decode cX1_init 26 = .ok (.putfield 20, 3) := dk_181 0 20 (dk_at dksX1_init_1 3 rfl rfl)
theorem dX1_init_29 : decode cX1_init 29 = .ok (.aload_n 0, 1) := dk_42 (dk_at dksX1_init_1 6 rfl rfl)
theorem dX1_init_30 : decode cX1_init 30 = .ok (.new 17, 3) := dk_187 0 17 (dk_at dksX1_init_1 7 rfl rfl)
theorem dX1_init_33 : decode cX1_init 33 = .ok (.dup, 1) := dk_89 (dk_at dksX1_init_1 10 rfl rfl)
theorem dX1_init_34 : decode cX1_init 34 = .ok (.invokespecial 19, 3) := dk_183 0 19 (dk_at dksX1_init_1 11 rfl rfl)
theorem dX1_init_37 : decode cX1_init 37 = .ok (.putfield 24, 3) := dk_181 0 24 (dk_at dksX1_init_1 14 rfl rfl)
theorem dX1_init_40 : decode cX1_init 40 = .ok (.aload_n 0, 1) := dk_42 (dk_at dksX1_init_1 17 rfl rfl)
theorem dX1_init_41 : decode cX1_init 41 = .ok (.bipush 8, 2) := dk_16 8 (dk_at dksX1_init_1 18 rfl rfl)
theorem dX1_init_43 : decode cX1_init 43 = .ok (.putfield 27, 3) := dk_181 0 27 (dk_at dksX1_init_1 20 rfl rfl)
theorem dX1_init_46 : decode cX1_init 46 = .ok (.aload_n 0, 1) := dk_42 (dk_at dksX1_init_1 23 rfl rfl)
theorem dX1_init_47 : decode cX1_init 47 = .ok (.bipush (-2), 2) := dk_16 254 (dk_at dksX1_init_2 0 rfl rfl)
theorem dX1_init_49 : decode cX1_init 49 = .ok (.putfield 30, 3) := dk_181 0 30 (dk_at dksX1_init_2 2 rfl rfl)
theorem dX1_init_52 : decode cX1_init 52 = .ok (.aload_n 0, 1) := dk_42 (dk_at dksX1_init_2 5 rfl rfl)
theorem dX1_init_53 : decode cX1_init 53 = .ok (.sipush 1000, 3) := dk_17 3 232 (dk_at dksX1_init_2 6 rfl rfl)
theorem dX1_init_56 : decode cX1_init 56 = .ok (.anewarray 33, 3) := dk_189 0 33 (dk_at dksX1_init_2 9 rfl rfl)
theorem dX1_init_59 : decode cX1_init 59 = .ok (.putfield 35, 3) := dk_181 0 35 (dk_at dksX1_init_2 12 rfl rfl)
theorem dX1_init_62 : decode cX1_init 62 = .ok (.aload_n 0, 1) := dk_42 (dk_at dksX1_init_2 15 rfl rfl)
theorem dX1_init_63 : decode cX1_init 63 = .ok (.iconst 4, 1) := dk_7 (dk_at dksX1_init_2 16 rfl rfl)
theorem dX1_init_64 : decode cX1_init 64 = .ok (.anewarray 39, 3) := dk_189 0 39 (dk_at dksX1_init_2 17 rfl rfl)
theorem dX1_init_67 : decode cX1_init 67 = .ok (.dup, 1) := dk_89 (dk_at dksX1_init_2 20 rfl rfl)
theorem dX1_init_68 : decode cX1_init 68 = .ok (.iconst 0, 1) := dk_3 (dk_at dksX1_init_2 21 rfl rfl)
theorem dX1_init_69 : decode cX1_init 69 = .ok (.new 41, 3) := dk_187 0 41 (dk_at dksX1_init_3 0 rfl rfl)
theorem dX1_init_72 : decode cX1_init 72 = .ok (.dup, 1) := dk_89 (dk_at dksX1_init_3 3 rfl rfl)
theorem dX1_init_73 : decode cX1_init 73 = .ok (.aload_n 0, 1) := dk_42 (dk_at dksX1_init_3 4 rfl rfl)
theorem dX1_init_74 : decode cX1_init 74 = .ok (.invokespecial 43, 3) := dk_183 0 43 (dk_at dksX1_init_3 5 rfl rfl)
theorem dX1_init_77 : decode cX1_init 77 = .ok (.aastore, 1) := dk_83 (dk_at dksX1_init_3 8 rfl rfl)
theorem dX1_init_78 : decode cX1_init 78 = .ok (.dup, 1) := dk_89 (dk_at dksX1_init_3 9 rfl rfl)
theorem dX1_init_79 : decode cX1_init 79 = .ok (.iconst 1, 1) := dk_4 (dk_at dksX1_init_3 10 rfl rfl)
theorem dX1_init_80 : decode cX1_init 80 = .ok (.new 46, 3) := dk_187 0 46 (dk_at dksX1_init_3 11 rfl rfl)
theorem dX1_init_83 : decode cX1_init 83 = .ok (.dup, 1) := dk_89 (dk_at dksX1_init_3 14 rfl rfl)
theorem dX1_init_84 : decode cX1_init 84 = .ok (.aload_n 0, 1) := dk_42 (dk_at dksX1_init_3 15 rfl rfl)
theorem dX1_init_85 : decode cX1_init 85 = .ok (.invokespecial 48, 3) := dk_183 0 48 (dk_at dksX1_init_3 16 rfl rfl)
theorem dX1_init_88 : decode cX1_init 88 = .ok (.aastore, 1) := dk_83 (dk_at dksX1_init_3 19 rfl rfl)
theorem dX1_init_89 : decode cX1_init 89 = .ok (.dup, 1) := dk_89 (dk_at dksX1_init_3 20 rfl rfl)
theorem dX1_init_90 : decode cX1_init 90 = .ok (.iconst 2, 1) := dk_5 (dk_at dksX1_init_3 21 rfl rfl)
theorem dX1_init_91 : decode cX1_init 91 = .ok (.new 49, 3) := dk_187 0 49 (dk_at dksX1_init_4 0 rfl rfl)
theorem dX1_init_94 : decode cX1_init 94 = .ok (.dup, 1) := dk_89 (dk_at dksX1_init_4 3 rfl rfl)
theorem dX1_init_95 : decode cX1_init 95 = .ok (.aload_n 0, 1) := dk_42 (dk_at dksX1_init_4 4 rfl rfl)
theorem dX1_init_96 : decode cX1_init 96 = .ok (.invokespecial 51, 3) := dk_183 0 51 (dk_at dksX1_init_4 5 rfl rfl)
theorem dX1_init_99 : decode cX1_init 99 = .ok (.aastore, 1) := dk_83 (dk_at dksX1_init_4 8 rfl rfl)
theorem dX1_init_100 : decode cX1_init 100 = .ok (.dup, 1) := dk_89 (dk_at dksX1_init_4 9 rfl rfl)
theorem dX1_init_101 : decode cX1_init 101 = .ok (.iconst 3, 1) := dk_6 (dk_at dksX1_init_4 10 rfl rfl)
theorem dX1_init_102 : decode cX1_init 102 = .ok (.new 52, 3) := dk_187 0 52 (dk_at dksX1_init_4 11 rfl rfl)
theorem dX1_init_105 : decode cX1_init 105 = .ok (.dup, 1) := dk_89 (dk_at dksX1_init_4 14 rfl rfl)
theorem dX1_init_106 : decode cX1_init 106 = .ok (.aload_n 0, 1) := dk_42 (dk_at dksX1_init_4 15 rfl rfl)
theorem dX1_init_107 : decode cX1_init 107 = .ok (.invokespecial 54, 3) := dk_183 0 54 (dk_at dksX1_init_4 16 rfl rfl)
theorem dX1_init_110 : decode cX1_init 110 = .ok (.aastore, 1) := dk_83 (dk_at dksX1_init_4 19 rfl rfl)
theorem dX1_init_111 : decode cX1_init 111 = .ok (.putfield 55, 3) := dk_181 0 55 (dk_at dksX1_init_4 20 rfl rfl)
theorem dX1_init_114 : decode cX1_init 114 = .ok (.aload_n 0, 1) := dk_42 (dk_at dksX1_init_4 23 rfl rfl)
theorem dX1_init_115 : decode cX1_init 115 = .ok (.sipush 3600, 3) := dk_17 14 16 (dk_at dksX1_init_5 0 rfl rfl)
theorem dX1_init_118 : decode cX1_init 118 = .ok (.newarray .int, 2) := dk_188_10 (dk_at dksX1_init_5 3 rfl rfl)
theorem dX1_init_120 : decode cX1_init 120 = .ok (.putfield 59, 3) := dk_181 0 59 (dk_at dksX1_init_5 5 rfl rfl)
theorem dX1_init_123 : decode cX1_init 123 = .ok (.aload_n 0, 1) := dk_42 (dk_at dksX1_init_5 8 rfl rfl)
theorem dX1_init_124 : decode cX1_init 124 = .ok (.bipush 12, 2) := dk_16 12 (dk_at dksX1_init_5 9 rfl rfl)
theorem dX1_init_126 : decode cX1_init 126 = .ok (.anewarray 17, 3) := dk_189 0 17 (dk_at dksX1_init_5 11 rfl rfl)
theorem dX1_init_129 : decode cX1_init 129 = .ok (.dup, 1) := dk_89 (dk_at dksX1_init_5 14 rfl rfl)
theorem dX1_init_130 : decode cX1_init 130 = .ok (.iconst 0, 1) := dk_3 (dk_at dksX1_init_5 15 rfl rfl)
theorem dX1_init_131 : decode cX1_init 131 = .ok (.new 17, 3) := dk_187 0 17 (dk_at dksX1_init_5 16 rfl rfl)
theorem dX1_init_134 : decode cX1_init 134 = .ok (.dup, 1) := dk_89 (dk_at dksX1_init_5 19 rfl rfl)
theorem dX1_init_135 : decode cX1_init 135 = .ok (.invokespecial 19, 3) := dk_183 0 19 (dk_at dksX1_init_5 20 rfl rfl)
theorem dX1_init_138 : decode cX1_init 138 = .ok (.aastore, 1) := dk_83 (dk_at dksX1_init_5 23 rfl rfl)
theorem dX1_init_139 : decode cX1_init 139 = .ok (.dup, 1) := dk_89 (dk_at dksX1_init_6 0 rfl rfl)
theorem dX1_init_140 : decode cX1_init 140 = .ok (.iconst 1, 1) := dk_4 (dk_at dksX1_init_6 1 rfl rfl)
theorem dX1_init_141 : decode cX1_init 141 = .ok (.new 17, 3) := dk_187 0 17 (dk_at dksX1_init_6 2 rfl rfl)
theorem dX1_init_144 : decode cX1_init 144 = .ok (.dup, 1) := dk_89 (dk_at dksX1_init_6 5 rfl rfl)
theorem dX1_init_145 : decode cX1_init 145 = .ok (.invokespecial 19, 3) := dk_183 0 19 (dk_at dksX1_init_6 6 rfl rfl)
theorem dX1_init_148 : decode cX1_init 148 = .ok (.aastore, 1) := dk_83 (dk_at dksX1_init_6 9 rfl rfl)
theorem dX1_init_149 : decode cX1_init 149 = .ok (.dup, 1) := dk_89 (dk_at dksX1_init_6 10 rfl rfl)
theorem dX1_init_150 : decode cX1_init 150 = .ok (.iconst 2, 1) := dk_5 (dk_at dksX1_init_6 11 rfl rfl)
theorem dX1_init_151 : decode cX1_init 151 = .ok (.new 17, 3) := dk_187 0 17 (dk_at dksX1_init_6 12 rfl rfl)
theorem dX1_init_154 : decode cX1_init 154 = .ok (.dup, 1) := dk_89 (dk_at dksX1_init_6 15 rfl rfl)
theorem dX1_init_155 : decode cX1_init 155 = .ok (.invokespecial 19, 3) := dk_183 0 19 (dk_at dksX1_init_6 16 rfl rfl)
theorem dX1_init_158 : decode cX1_init 158 = .ok (.aastore, 1) := dk_83 (dk_at dksX1_init_6 19 rfl rfl)
theorem dX1_init_159 : decode cX1_init 159 = .ok (.dup, 1) := dk_89 (dk_at dksX1_init_6 20 rfl rfl)
theorem dX1_init_160 : decode cX1_init 160 = .ok (.iconst 3, 1) := dk_6 (dk_at dksX1_init_6 21 rfl rfl)
theorem dX1_init_161 : decode cX1_init 161 = .ok (.new 17, 3) := dk_187 0 17 (dk_at dksX1_init_7 0 rfl rfl)
theorem dX1_init_164 : decode cX1_init 164 = .ok (.dup, 1) := dk_89 (dk_at dksX1_init_7 3 rfl rfl)
theorem dX1_init_165 : decode cX1_init 165 = .ok (.invokespecial 19, 3) := dk_183 0 19 (dk_at dksX1_init_7 4 rfl rfl)
theorem dX1_init_168 : decode cX1_init 168 = .ok (.aastore, 1) := dk_83 (dk_at dksX1_init_7 7 rfl rfl)
theorem dX1_init_169 : decode cX1_init 169 = .ok (.dup, 1) := dk_89 (dk_at dksX1_init_7 8 rfl rfl)
theorem dX1_init_170 : decode cX1_init 170 = .ok (.iconst 4, 1) := dk_7 (dk_at dksX1_init_7 9 rfl rfl)
theorem dX1_init_171 : decode cX1_init 171 = .ok (.new 17, 3) := dk_187 0 17 (dk_at dksX1_init_7 10 rfl rfl)
theorem dX1_init_174 : decode cX1_init 174 = .ok (.dup, 1) := dk_89 (dk_at dksX1_init_7 13 rfl rfl)
theorem dX1_init_175 : decode cX1_init 175 = .ok (.invokespecial 19, 3) := dk_183 0 19 (dk_at dksX1_init_7 14 rfl rfl)
theorem dX1_init_178 : decode cX1_init 178 = .ok (.aastore, 1) := dk_83 (dk_at dksX1_init_7 17 rfl rfl)
theorem dX1_init_179 : decode cX1_init 179 = .ok (.dup, 1) := dk_89 (dk_at dksX1_init_7 18 rfl rfl)
theorem dX1_init_180 : decode cX1_init 180 = .ok (.iconst 5, 1) := dk_8 (dk_at dksX1_init_7 19 rfl rfl)
theorem dX1_init_181 : decode cX1_init 181 = .ok (.new 17, 3) := dk_187 0 17 (dk_at dksX1_init_7 20 rfl rfl)
theorem dX1_init_184 : decode cX1_init 184 = .ok (.dup, 1) := dk_89 (dk_at dksX1_init_7 23 rfl rfl)
theorem dX1_init_185 : decode cX1_init 185 = .ok (.invokespecial 19, 3) := dk_183 0 19 (dk_at dksX1_init_8 0 rfl rfl)
theorem dX1_init_188 : decode cX1_init 188 = .ok (.aastore, 1) := dk_83 (dk_at dksX1_init_8 3 rfl rfl)
theorem dX1_init_189 : decode cX1_init 189 = .ok (.dup, 1) := dk_89 (dk_at dksX1_init_8 4 rfl rfl)
theorem dX1_init_190 : decode cX1_init 190 = .ok (.bipush 6, 2) := dk_16 6 (dk_at dksX1_init_8 5 rfl rfl)
theorem dX1_init_192 : decode cX1_init 192 = .ok (.new 17, 3) := dk_187 0 17 (dk_at dksX1_init_8 7 rfl rfl)
theorem dX1_init_195 : decode cX1_init 195 = .ok (.dup, 1) := dk_89 (dk_at dksX1_init_8 10 rfl rfl)
theorem dX1_init_196 : decode cX1_init 196 = .ok (.invokespecial 19, 3) := dk_183 0 19 (dk_at dksX1_init_8 11 rfl rfl)
theorem dX1_init_199 : decode cX1_init 199 = .ok (.aastore, 1) := dk_83 (dk_at dksX1_init_8 14 rfl rfl)
theorem dX1_init_200 : decode cX1_init 200 = .ok (.dup, 1) := dk_89 (dk_at dksX1_init_8 15 rfl rfl)
theorem dX1_init_201 : decode cX1_init 201 = .ok (.bipush 7, 2) := dk_16 7 (dk_at dksX1_init_8 16 rfl rfl)
theorem dX1_init_203 : decode cX1_init 203 = .ok (.new 17, 3) := dk_187 0 17 (dk_at dksX1_init_8 18 rfl rfl)
theorem dX1_init_206 : decode cX1_init 206 = .ok (.dup, 1) := dk_89 (dk_at dksX1_init_8 21 rfl rfl)
theorem dX1_init_207 : decode cX1_init 207 = .ok (.invokespecial 19, 3) := dk_183 0 19 (dk_at dksX1_init_9 0 rfl rfl)
theorem dX1_init_210 : decode cX1_init 210 = .ok (.aastore, 1) := dk_83 (dk_at dksX1_init_9 3 rfl rfl)
theorem dX1_init_211 : decode cX1_init 211 = .ok (.dup, 1) := dk_89 (dk_at dksX1_init_9 4 rfl rfl)
theorem dX1_init_212 : decode cX1_init 212 = .ok (.bipush 8, 2) := dk_16 8 (dk_at dksX1_init_9 5 rfl rfl)
theorem dX1_init_214 : decode cX1_init 214 = .ok (.new 17, 3) := dk_187 0 17 (dk_at dksX1_init_9 7 rfl rfl)
theorem dX1_init_217 : decode cX1_init 217 = .ok (.dup, 1) := dk_89 (dk_at dksX1_init_9 10 rfl rfl)
theorem dX1_init_218 : decode cX1_init 218 = .ok (.invokespecial 19, 3) := dk_183 0 19 (dk_at dksX1_init_9 11 rfl rfl)
theorem dX1_init_221 : decode cX1_init 221 = .ok (.aastore, 1) := dk_83 (dk_at dksX1_init_9 14 rfl rfl)
theorem dX1_init_222 : decode cX1_init 222 = .ok (.dup, 1) := dk_89 (dk_at dksX1_init_9 15 rfl rfl)
theorem dX1_init_223 : decode cX1_init 223 = .ok (.bipush 9, 2) := dk_16 9 (dk_at dksX1_init_9 16 rfl rfl)
theorem dX1_init_225 : decode cX1_init 225 = .ok (.new 17, 3) := dk_187 0 17 (dk_at dksX1_init_9 18 rfl rfl)
theorem dX1_init_228 : decode cX1_init 228 = .ok (.dup, 1) := dk_89 (dk_at dksX1_init_9 21 rfl rfl)
theorem dX1_init_229 : decode cX1_init 229 = .ok (.invokespecial 19, 3) := dk_183 0 19 (dk_at dksX1_init_10 0 rfl rfl)
theorem dX1_init_232 : decode cX1_init 232 = .ok (.aastore, 1) := dk_83 (dk_at dksX1_init_10 3 rfl rfl)
theorem dX1_init_233 : decode cX1_init 233 = .ok (.dup, 1) := dk_89 (dk_at dksX1_init_10 4 rfl rfl)
theorem dX1_init_234 : decode cX1_init 234 = .ok (.bipush 10, 2) := dk_16 10 (dk_at dksX1_init_10 5 rfl rfl)
theorem dX1_init_236 : decode cX1_init 236 = .ok (.new 17, 3) := dk_187 0 17 (dk_at dksX1_init_10 7 rfl rfl)
theorem dX1_init_239 : decode cX1_init 239 = .ok (.dup, 1) := dk_89 (dk_at dksX1_init_10 10 rfl rfl)
theorem dX1_init_240 : decode cX1_init 240 = .ok (.invokespecial 19, 3) := dk_183 0 19 (dk_at dksX1_init_10 11 rfl rfl)
theorem dX1_init_243 : decode cX1_init 243 = .ok (.aastore, 1) := dk_83 (dk_at dksX1_init_10 14 rfl rfl)
theorem dX1_init_244 : decode cX1_init 244 = .ok (.dup, 1) := dk_89 (dk_at dksX1_init_10 15 rfl rfl)
theorem dX1_init_245 : decode cX1_init 245 = .ok (.bipush 11, 2) := dk_16 11 (dk_at dksX1_init_10 16 rfl rfl)
theorem dX1_init_247 : decode cX1_init 247 = .ok (.new 17, 3) := dk_187 0 17 (dk_at dksX1_init_10 18 rfl rfl)
theorem dX1_init_250 : decode cX1_init 250 = .ok (.dup, 1) := dk_89 (dk_at dksX1_init_10 21 rfl rfl)
theorem dX1_init_251 : decode cX1_init 251 = .ok (.invokespecial 19, 3) := dk_183 0 19 (dk_at dksX1_init_11 0 rfl rfl)
theorem dX1_init_254 : decode cX1_init 254 = .ok (.aastore, 1) := dk_83 (dk_at dksX1_init_11 3 rfl rfl)
theorem dX1_init_255 : decode cX1_init 255 = .ok (.putfield 63, 3) := dk_181 0 63 (dk_at dksX1_init_11 4 rfl rfl)
theorem dX1_init_258 : decode cX1_init 258 = .ok (.aload_n 0, 1) := dk_42 (dk_at dksX1_init_11 7 rfl rfl)
theorem dX1_init_259 : decode cX1_init 259 = .ok (.bipush 120, 2) := dk_16 120 (dk_at dksX1_init_11 8 rfl rfl)
theorem dX1_init_261 : decode cX1_init 261 = .ok (.newarray .int, 2) := dk_188_10 (dk_at dksX1_init_11 10 rfl rfl)
theorem dX1_init_263 : decode cX1_init 263 = .ok (.putfield 67, 3) := dk_181 0 67 (dk_at dksX1_init_11 12 rfl rfl)
theorem dX1_init_266 : decode cX1_init 266 = .ok (.aload_n 0, 1) := dk_42 (dk_at dksX1_init_11 15 rfl rfl)
theorem dX1_init_267 : decode cX1_init 267 = .ok (.sipush 1000, 3) := dk_17 3 232 (dk_at dksX1_init_11 16 rfl rfl)
theorem dX1_init_270 : decode cX1_init 270 = .ok (.newarray .boolean, 2) := dk_188_4 (dk_at dksX1_init_11 19 rfl rfl)
theorem dX1_init_272 : decode cX1_init 272 = .ok (.putfield 70, 3) := dk_181 0 70 (dk_at dksX1_init_11 21 rfl rfl)
theorem dX1_init_275 : decode cX1_init 275 = .ok (.aload_n 0, 1) := dk_42 (dk_at dksX1_init_12 0 rfl rfl)
theorem dX1_init_276 : decode cX1_init 276 = .ok (.bipush 120, 2) := dk_16 120 (dk_at dksX1_init_12 1 rfl rfl)
theorem dX1_init_278 : decode cX1_init 278 = .ok (.newarray .int, 2) := dk_188_10 (dk_at dksX1_init_12 3 rfl rfl)
theorem dX1_init_280 : decode cX1_init 280 = .ok (.putfield 74, 3) := dk_181 0 74 (dk_at dksX1_init_12 5 rfl rfl)
theorem dX1_init_283 : decode cX1_init 283 = .ok (.aload_n 0, 1) := dk_42 (dk_at dksX1_init_12 8 rfl rfl)
theorem dX1_init_284 : decode cX1_init 284 = .ok (.sipush 1000, 3) := dk_17 3 232 (dk_at dksX1_init_12 9 rfl rfl)
theorem dX1_init_287 : decode cX1_init 287 = .ok (.newarray .int, 2) := dk_188_10 (dk_at dksX1_init_12 12 rfl rfl)
theorem dX1_init_289 : decode cX1_init 289 = .ok (.putfield 77, 3) := dk_181 0 77 (dk_at dksX1_init_12 14 rfl rfl)
theorem dX1_init_292 : decode cX1_init 292 = .ok (.aload_n 0, 1) := dk_42 (dk_at dksX1_init_12 17 rfl rfl)
theorem dX1_init_293 : decode cX1_init 293 = .ok (.new 17, 3) := dk_187 0 17 (dk_at dksX1_init_12 18 rfl rfl)
theorem dX1_init_296 : decode cX1_init 296 = .ok (.dup, 1) := dk_89 (dk_at dksX1_init_12 21 rfl rfl)
theorem dX1_init_297 : decode cX1_init 297 = .ok (.invokespecial 19, 3) := dk_183 0 19 (dk_at dksX1_init_13 0 rfl rfl)
theorem dX1_init_300 : decode cX1_init 300 = .ok (.putfield 80, 3) := dk_181 0 80 (dk_at dksX1_init_13 3 rfl rfl)
theorem dX1_init_303 : decode cX1_init 303 = .ok (.aload_n 0, 1) := dk_42 (dk_at dksX1_init_13 6 rfl rfl)
theorem dX1_init_304 : decode cX1_init 304 = .ok (.bipush 121, 2) := dk_16 121 (dk_at dksX1_init_13 7 rfl rfl)
theorem dX1_init_306 : decode cX1_init 306 = .ok (.newarray .int, 2) := dk_188_10 (dk_at dksX1_init_13 9 rfl rfl)
theorem dX1_init_308 : decode cX1_init 308 = .ok (.putfield 83, 3) := dk_181 0 83 (dk_at dksX1_init_13 11 rfl rfl)
theorem dX1_init_311 : decode cX1_init 311 = .ok (.return_, 1) := dk_177 (dk_at dksX1_init_13 14 rfl rfl)
abbrev cX1_feed : ByteArray := prog_1_method_3_code
def yX1_feed : MethodName := ⟨RX1, "feed", "(IIIII)I"⟩
def dkwX1_feed_5 : List UInt8 := [180, 0, 86, 172]
abbrev dktX1_feed_5 : List UInt8 := dkwX1_feed_5 ++ []
def dkwX1_feed_4 : List UInt8 := [112, 104, 100, 122, 145, 84, 132, 6, 1, 167, 255, 172, 42, 89, 180, 0, 86, 16, 20, 96, 181, 0, 86, 42]
abbrev dktX1_feed_4 : List UInt8 := dkwX1_feed_4 ++ dktX1_feed_5
def dkwX1_feed_3 : List UInt8 := [21, 5, 54, 7, 42, 180, 0, 9, 42, 180, 0, 86, 21, 6, 96, 21, 7, 16, 24, 16, 8, 21, 6, 7]
abbrev dktX1_feed_3 : List UInt8 := dkwX1_feed_3 ++ dktX1_feed_4
def dkwX1_feed_2 : List UInt8 := [21, 6, 16, 12, 162, 0, 7, 29, 167, 0, 17, 21, 6, 16, 16, 162, 0, 8, 21, 4, 167, 0, 5]
abbrev dktX1_feed_2 : List UInt8 := dkwX1_feed_2 ++ dktX1_feed_3
def dkwX1_feed_1 : List UInt8 := [162, 0, 83, 21, 6, 7, 162, 0, 7, 27, 167, 0, 39, 21, 6, 16, 8, 162, 0, 7, 28, 167, 0, 28]
abbrev dktX1_feed_1 : List UInt8 := dkwX1_feed_1 ++ dktX1_feed_2
def dkwX1_feed_0 : List UInt8 := [42, 180, 0, 86, 16, 20, 96, 17, 3, 132, 164, 0, 5, 2, 172, 3, 54, 6, 21, 6, 16, 20]
abbrev dktX1_feed_0 : List UInt8 := dkwX1_feed_0 ++ dktX1_feed_1
theorem dksX1_feed_0 : cX1_feed.data.toList.drop 0 = dktX1_feed_0 := by decide +kernel
theorem dksX1_feed_1 : cX1_feed.data.toList.drop 22 = dktX1_feed_1 := dk_seg dksX1_feed_0 22 rfl rfl
theorem dksX1_feed_2 : cX1_feed.data.toList.drop 46 = dktX1_feed_2 := dk_seg dksX1_feed_1 24 rfl rfl
theorem dksX1_feed_3 : cX1_feed.data.toList.drop 69 = dktX1_feed_3 := dk_seg dksX1_feed_2 23 rfl rfl
theorem dksX1_feed_4 : cX1_feed.data.toList.drop 93 = dktX1_feed_4 := dk_seg dksX1_feed_3 24 rfl rfl
theorem dksX1_feed_5 : cX1_feed.data.toList.drop 117 = dktX1_feed_5 := dk_seg dksX1_feed_4 24 rfl rfl
theorem dX1_feed_0 : decode cX1_feed 0 = .ok (.aload_n 0, 1) := dk_42 (dk_at dksX1_feed_0 0 rfl rfl)
theorem dX1_feed_1 : decode cX1_feed 1 = .ok (.getfield 86, 3) := dk_180 0 86 (dk_at dksX1_feed_0 1 rfl rfl)
theorem dX1_feed_4 : decode cX1_feed 4 = .ok (.bipush 20, 2) := dk_16 20 (dk_at dksX1_feed_0 4 rfl rfl)
theorem dX1_feed_6 : decode cX1_feed 6 = .ok (.iadd, 1) := dk_96 (dk_at dksX1_feed_0 6 rfl rfl)
theorem dX1_feed_7 : decode cX1_feed 7 = .ok (.sipush 900, 3) := dk_17 3 132 (dk_at dksX1_feed_0 7 rfl rfl)
theorem dX1_feed_10 : decode cX1_feed 10 = .ok (.if_icmp .le 5, 3) := dk_164 0 5 (dk_at dksX1_feed_0 10 rfl rfl)
theorem dX1_feed_13 : decode cX1_feed 13 = .ok (.iconst (-1), 1) := dk_2 (dk_at dksX1_feed_0 13 rfl rfl)
theorem dX1_feed_14 : decode cX1_feed 14 = .ok (.ireturn, 1) := dk_172 (dk_at dksX1_feed_0 14 rfl rfl)
theorem dX1_feed_15 : decode cX1_feed 15 = .ok (.iconst 0, 1) := dk_3 (dk_at dksX1_feed_0 15 rfl rfl)
theorem dX1_feed_16 : decode cX1_feed 16 = .ok (.istore 6, 2) := dk_54 6 (dk_at dksX1_feed_0 16 rfl rfl)
theorem dX1_feed_18 : decode cX1_feed 18 = .ok (.iload 6, 2) := dk_21 6 (dk_at dksX1_feed_0 18 rfl rfl)
theorem dX1_feed_20 : decode cX1_feed 20 = .ok (.bipush 20, 2) := dk_16 20 (dk_at dksX1_feed_0 20 rfl rfl)
theorem dX1_feed_22 : decode cX1_feed 22 = .ok (.if_icmp .ge 83, 3) := dk_162 0 83 (dk_at dksX1_feed_1 0 rfl rfl)
theorem dX1_feed_25 : decode cX1_feed 25 = .ok (.iload 6, 2) := dk_21 6 (dk_at dksX1_feed_1 3 rfl rfl)
theorem dX1_feed_27 : decode cX1_feed 27 = .ok (.iconst 4, 1) := dk_7 (dk_at dksX1_feed_1 5 rfl rfl)
theorem dX1_feed_28 : decode cX1_feed 28 = .ok (.if_icmp .ge 7, 3) := dk_162 0 7 (dk_at dksX1_feed_1 6 rfl rfl)
theorem dX1_feed_31 : decode cX1_feed 31 = .ok (.iload_n 1, 1) := dk_27 (dk_at dksX1_feed_1 9 rfl rfl)
theorem dX1_feed_32 : decode cX1_feed 32 = .ok (.goto 39, 3) := dk_167 0 39 (dk_at dksX1_feed_1 10 rfl rfl)
theorem dX1_feed_35 : decode cX1_feed 35 = .ok (.iload 6, 2) := dk_21 6 (dk_at dksX1_feed_1 13 rfl rfl)
theorem dX1_feed_37 : decode cX1_feed 37 = .ok (.bipush 8, 2) := dk_16 8 (dk_at dksX1_feed_1 15 rfl rfl)
theorem dX1_feed_39 : decode cX1_feed 39 = .ok (.if_icmp .ge 7, 3) := dk_162 0 7 (dk_at dksX1_feed_1 17 rfl rfl)
theorem dX1_feed_42 : decode cX1_feed 42 = .ok (.iload_n 2, 1) := dk_28 (dk_at dksX1_feed_1 20 rfl rfl)
theorem dX1_feed_43 : decode cX1_feed 43 = .ok (.goto 28, 3) := dk_167 0 28 (dk_at dksX1_feed_1 21 rfl rfl)
theorem dX1_feed_46 : decode cX1_feed 46 = .ok (.iload 6, 2) := dk_21 6 (dk_at dksX1_feed_2 0 rfl rfl)
theorem dX1_feed_48 : decode cX1_feed 48 = .ok (.bipush 12, 2) := dk_16 12 (dk_at dksX1_feed_2 2 rfl rfl)
theorem dX1_feed_50 : decode cX1_feed 50 = .ok (.if_icmp .ge 7, 3) := dk_162 0 7 (dk_at dksX1_feed_2 4 rfl rfl)
theorem dX1_feed_53 : decode cX1_feed 53 = .ok (.iload_n 3, 1) := dk_29 (dk_at dksX1_feed_2 7 rfl rfl)
theorem dX1_feed_54 : decode cX1_feed 54 = .ok (.goto 17, 3) := dk_167 0 17 (dk_at dksX1_feed_2 8 rfl rfl)
theorem dX1_feed_57 : decode cX1_feed 57 = .ok (.iload 6, 2) := dk_21 6 (dk_at dksX1_feed_2 11 rfl rfl)
theorem dX1_feed_59 : decode cX1_feed 59 = .ok (.bipush 16, 2) := dk_16 16 (dk_at dksX1_feed_2 13 rfl rfl)
theorem dX1_feed_61 : decode cX1_feed 61 = .ok (.if_icmp .ge 8, 3) := dk_162 0 8 (dk_at dksX1_feed_2 15 rfl rfl)
theorem dX1_feed_64 : decode cX1_feed 64 = .ok (.iload 4, 2) := dk_21 4 (dk_at dksX1_feed_2 18 rfl rfl)
theorem dX1_feed_66 : decode cX1_feed 66 = .ok (.goto 5, 3) := dk_167 0 5 (dk_at dksX1_feed_2 20 rfl rfl)
theorem dX1_feed_69 : decode cX1_feed 69 = .ok (.iload 5, 2) := dk_21 5 (dk_at dksX1_feed_3 0 rfl rfl)
theorem dX1_feed_71 : decode cX1_feed 71 = .ok (.istore 7, 2) := dk_54 7 (dk_at dksX1_feed_3 2 rfl rfl)
theorem dX1_feed_73 : decode cX1_feed 73 = .ok (.aload_n 0, 1) := dk_42 (dk_at dksX1_feed_3 4 rfl rfl)
theorem dX1_feed_74 : decode cX1_feed 74 = .ok (.getfield 9, 3) := dk_180 0 9 (dk_at dksX1_feed_3 5 rfl rfl)
theorem dX1_feed_77 : decode cX1_feed 77 = .ok (.aload_n 0, 1) := dk_42 (dk_at dksX1_feed_3 8 rfl rfl)
theorem dX1_feed_78 : decode cX1_feed 78 = .ok (.getfield 86, 3) := dk_180 0 86 (dk_at dksX1_feed_3 9 rfl rfl)
theorem dX1_feed_81 : decode cX1_feed 81 = .ok (.iload 6, 2) := dk_21 6 (dk_at dksX1_feed_3 12 rfl rfl)
theorem dX1_feed_83 : decode cX1_feed 83 = .ok (.iadd, 1) := dk_96 (dk_at dksX1_feed_3 14 rfl rfl)
theorem dX1_feed_84 : decode cX1_feed 84 = .ok (.iload 7, 2) := dk_21 7 (dk_at dksX1_feed_3 15 rfl rfl)
theorem dX1_feed_86 : decode cX1_feed 86 = .ok (.bipush 24, 2) := dk_16 24 (dk_at dksX1_feed_3 17 rfl rfl)
theorem dX1_feed_88 : decode cX1_feed 88 = .ok (.bipush 8, 2) := dk_16 8 (dk_at dksX1_feed_3 19 rfl rfl)
theorem dX1_feed_90 : decode cX1_feed 90 = .ok (.iload 6, 2) := dk_21 6 (dk_at dksX1_feed_3 21 rfl rfl)
theorem dX1_feed_92 : decode cX1_feed 92 = .ok (.iconst 4, 1) := dk_7 (dk_at dksX1_feed_3 23 rfl rfl)
theorem dX1_feed_93 : decode cX1_feed 93 = .ok (.irem, 1) := dk_112 (dk_at dksX1_feed_4 0 rfl rfl)
theorem dX1_feed_94 : decode cX1_feed 94 = .ok (.imul, 1) := dk_104 (dk_at dksX1_feed_4 1 rfl rfl)
theorem dX1_feed_95 : decode cX1_feed 95 = .ok (.isub, 1) := dk_100 (dk_at dksX1_feed_4 2 rfl rfl)
theorem dX1_feed_96 : decode cX1_feed 96 = .ok (.ishr, 1) := dk_122 (dk_at dksX1_feed_4 3 rfl rfl)
theorem dX1_feed_97 : decode cX1_feed 97 = .ok (.i2b, 1) := dk_145 (dk_at dksX1_feed_4 4 rfl rfl)
theorem dX1_feed_98 : decode cX1_feed 98 = .ok (.bastore, 1) := dk_84 (dk_at dksX1_feed_4 5 rfl rfl)
theorem dX1_feed_99 : decode cX1_feed 99 = .ok (.iinc 6 1, 3) := dk_132 6 1 (dk_at dksX1_feed_4 6 rfl rfl)
theorem dX1_feed_102 : decode cX1_feed 102 = .ok (.goto (-84), 3) := dk_167 255 172 (dk_at dksX1_feed_4 9 rfl rfl)
theorem dX1_feed_105 : decode cX1_feed 105 = .ok (.aload_n 0, 1) := dk_42 (dk_at dksX1_feed_4 12 rfl rfl)
theorem dX1_feed_106 : decode cX1_feed 106 = .ok (.dup, 1) := dk_89 (dk_at dksX1_feed_4 13 rfl rfl)
theorem dX1_feed_107 : decode cX1_feed 107 = .ok (.getfield 86, 3) := dk_180 0 86 (dk_at dksX1_feed_4 14 rfl rfl)
theorem dX1_feed_110 : decode cX1_feed 110 = .ok (.bipush 20, 2) := dk_16 20 (dk_at dksX1_feed_4 17 rfl rfl)
theorem dX1_feed_112 : decode cX1_feed 112 = .ok (.iadd, 1) := dk_96 (dk_at dksX1_feed_4 19 rfl rfl)
theorem dX1_feed_113 : decode cX1_feed 113 = .ok (.putfield 86, 3) := dk_181 0 86 (dk_at dksX1_feed_4 20 rfl rfl)
theorem dX1_feed_116 : decode cX1_feed 116 = .ok (.aload_n 0, 1) := dk_42 (dk_at dksX1_feed_4 23 rfl rfl)
theorem dX1_feed_117 : decode cX1_feed 117 = .ok (.getfield 86, 3) := dk_180 0 86 (dk_at dksX1_feed_5 0 rfl rfl)
theorem dX1_feed_120 : decode cX1_feed 120 = .ok (.ireturn, 1) := dk_172 (dk_at dksX1_feed_5 3 rfl rfl)
abbrev cX1_text : ByteArray := prog_1_method_4_code
def yX1_text : MethodName := ⟨RX1, "text", "(I)I"⟩
def dkwX1_text_6 : List UInt8 := [167, 255, 239, 42, 180, 0, 120, 172]
abbrev dktX1_text_6 : List UInt8 := dkwX1_text_6 ++ []
def dkwX1_text_5 : List UInt8 := [182, 0, 129, 3, 62, 29, 42, 182, 0, 132, 162, 0, 15, 42, 29, 29, 182, 0, 136, 132, 3, 1]
abbrev dktX1_text_5 : List UInt8 := dkwX1_text_5 ++ dktX1_text_6
def dkwX1_text_4 : List UInt8 := [181, 0, 27, 42, 44, 180, 0, 122, 181, 0, 125, 42, 3, 181, 0, 126, 42, 16, 254, 181, 0, 30, 42]
abbrev dktX1_text_4 : List UInt8 := dkwX1_text_4 ++ dktX1_text_5
def dkwX1_text_3 : List UInt8 := [180, 0, 20, 44, 180, 0, 112, 182, 0, 113, 87, 42, 44, 180, 0, 117, 181, 0, 120, 42, 44, 180, 0, 121]
abbrev dktX1_text_3 : List UInt8 := dkwX1_text_3 ++ dktX1_text_4
def dkwX1_text_2 : List UInt8 := [167, 0, 22, 78, 42, 45, 180, 0, 106, 181, 0, 93, 42, 45, 180, 0, 109, 181, 0, 13, 2, 172, 42]
abbrev dktX1_text_2 : List UInt8 := dkwX1_text_2 ++ dktX1_text_3
def dkwX1_text_1 : List UInt8 := [181, 0, 93, 42, 2, 181, 0, 13, 187, 0, 96, 89, 42, 27, 183, 0, 98, 77, 44, 182, 0, 101]
abbrev dktX1_text_1 : List UInt8 := dkwX1_text_1 ++ dktX1_text_2
def dkwX1_text_0 : List UInt8 := [27, 133, 9, 42, 180, 0, 86, 133, 184, 0, 89, 154, 0, 6, 16, 254, 172, 42, 3, 181, 0, 86, 42, 3]
abbrev dktX1_text_0 : List UInt8 := dkwX1_text_0 ++ dktX1_text_1
theorem dksX1_text_0 : cX1_text.data.toList.drop 0 = dktX1_text_0 := by decide +kernel
theorem dksX1_text_1 : cX1_text.data.toList.drop 24 = dktX1_text_1 := dk_seg dksX1_text_0 24 rfl rfl
theorem dksX1_text_2 : cX1_text.data.toList.drop 46 = dktX1_text_2 := dk_seg dksX1_text_1 22 rfl rfl
theorem dksX1_text_3 : cX1_text.data.toList.drop 69 = dktX1_text_3 := dk_seg dksX1_text_2 23 rfl rfl
theorem dksX1_text_4 : cX1_text.data.toList.drop 93 = dktX1_text_4 := dk_seg dksX1_text_3 24 rfl rfl
theorem dksX1_text_5 : cX1_text.data.toList.drop 116 = dktX1_text_5 := dk_seg dksX1_text_4 23 rfl rfl
theorem dksX1_text_6 : cX1_text.data.toList.drop 138 = dktX1_text_6 := dk_seg dksX1_text_5 22 rfl rfl
theorem dX1_text_0 : decode cX1_text 0 = .ok (.iload_n 1, 1) := dk_27 (dk_at dksX1_text_0 0 rfl rfl)
theorem dX1_text_1 : decode cX1_text 1 = .ok (.i2l, 1) := dk_133 (dk_at dksX1_text_0 1 rfl rfl)
theorem dX1_text_2 : decode cX1_text 2 = .ok (.lconst 0, 1) := dk_9 (dk_at dksX1_text_0 2 rfl rfl)
theorem dX1_text_3 : decode cX1_text 3 = .ok (.aload_n 0, 1) := dk_42 (dk_at dksX1_text_0 3 rfl rfl)
theorem dX1_text_4 : decode cX1_text 4 = .ok (.getfield 86, 3) := dk_180 0 86 (dk_at dksX1_text_0 4 rfl rfl)
theorem dX1_text_7 : decode cX1_text 7 = .ok (.i2l, 1) := dk_133 (dk_at dksX1_text_0 7 rfl rfl)
theorem dX1_text_8 : decode cX1_text 8 = .ok (.invokestatic 89, 3) := dk_184 0 89 (dk_at dksX1_text_0 8 rfl rfl)
theorem dX1_text_11 : decode cX1_text 11 = .ok (.ifCond .ne 6, 3) := dk_154 0 6 (dk_at dksX1_text_0 11 rfl rfl)
theorem dX1_text_14 : decode cX1_text 14 = .ok (.bipush (-2), 2) := dk_16 254 (dk_at dksX1_text_0 14 rfl rfl)
theorem dX1_text_16 : decode cX1_text 16 = .ok (.ireturn, 1) := dk_172 (dk_at dksX1_text_0 16 rfl rfl)
theorem dX1_text_17 : decode cX1_text 17 = .ok (.aload_n 0, 1) := dk_42 (dk_at dksX1_text_0 17 rfl rfl)
theorem dX1_text_18 : decode cX1_text 18 = .ok (.iconst 0, 1) := dk_3 (dk_at dksX1_text_0 18 rfl rfl)
theorem dX1_text_19 : decode cX1_text 19 = .ok (.putfield 86, 3) := dk_181 0 86 (dk_at dksX1_text_0 19 rfl rfl)
theorem dX1_text_22 : decode cX1_text 22 = .ok (.aload_n 0, 1) := dk_42 (dk_at dksX1_text_0 22 rfl rfl)
theorem dX1_text_23 : decode cX1_text 23 = .ok (.iconst 0, 1) := dk_3 (dk_at dksX1_text_0 23 rfl rfl)
theorem dX1_text_24 : decode cX1_text 24 = .ok (.putfield 93, 3) := dk_181 0 93 (dk_at dksX1_text_1 0 rfl rfl)
theorem dX1_text_27 : decode cX1_text 27 = .ok (.aload_n 0, 1) := dk_42 (dk_at dksX1_text_1 3 rfl rfl)
theorem dX1_text_28 : decode cX1_text 28 = .ok (.iconst (-1), 1) := dk_2 (dk_at dksX1_text_1 4 rfl rfl)
theorem dX1_text_29 : decode cX1_text 29 = .ok (.putfield 13, 3) := dk_181 0 13 (dk_at dksX1_text_1 5 rfl rfl)
theorem dX1_text_32 : decode cX1_text 32 = .ok (.new 96, 3) := dk_187 0 96 (dk_at dksX1_text_1 8 rfl rfl)
theorem dX1_text_35 : decode cX1_text 35 = .ok (.dup, 1) := dk_89 (dk_at dksX1_text_1 11 rfl rfl)
theorem dX1_text_36 : decode cX1_text 36 = .ok (.aload_n 0, 1) := dk_42 (dk_at dksX1_text_1 12 rfl rfl)
theorem dX1_text_37 : decode cX1_text 37 = .ok (.iload_n 1, 1) := dk_27 (dk_at dksX1_text_1 13 rfl rfl)
theorem dX1_text_38 : decode cX1_text 38 = .ok (.invokespecial 98, 3) := dk_183 0 98 (dk_at dksX1_text_1 14 rfl rfl)
theorem dX1_text_41 : decode cX1_text 41 = .ok (.astore_n 2, 1) := dk_77 (dk_at dksX1_text_1 17 rfl rfl)
theorem dX1_text_42 : decode cX1_text 42 = .ok (.aload_n 2, 1) := dk_44 (dk_at dksX1_text_1 18 rfl rfl)
theorem dX1_text_43 : decode cX1_text 43 = .ok (.invokevirtual 101, 3) := dk_182 0 101 (dk_at dksX1_text_1 19 rfl rfl)
theorem dX1_text_46 : decode cX1_text 46 = .ok (.goto 22, 3) := dk_167 0 22 (dk_at dksX1_text_2 0 rfl rfl)
theorem dX1_text_49 : decode cX1_text 49 = .ok (.astore_n 3, 1) := dk_78 (dk_at dksX1_text_2 3 rfl rfl)
theorem dX1_text_50 : decode cX1_text 50 = .ok (.aload_n 0, 1) := dk_42 (dk_at dksX1_text_2 4 rfl rfl)
theorem dX1_text_51 : decode cX1_text 51 = .ok (.aload_n 3, 1) := dk_45 (dk_at dksX1_text_2 5 rfl rfl)
theorem dX1_text_52 : decode cX1_text 52 = .ok (.getfield 106, 3) := dk_180 0 106 (dk_at dksX1_text_2 6 rfl rfl)
theorem dX1_text_55 : decode cX1_text 55 = .ok (.putfield 93, 3) := dk_181 0 93 (dk_at dksX1_text_2 9 rfl rfl)
theorem dX1_text_58 : decode cX1_text 58 = .ok (.aload_n 0, 1) := dk_42 (dk_at dksX1_text_2 12 rfl rfl)
theorem dX1_text_59 : decode cX1_text 59 = .ok (.aload_n 3, 1) := dk_45 (dk_at dksX1_text_2 13 rfl rfl)
theorem dX1_text_60 : decode cX1_text 60 = .ok (.getfield 109, 3) := dk_180 0 109 (dk_at dksX1_text_2 14 rfl rfl)
theorem dX1_text_63 : decode cX1_text 63 = .ok (.putfield 13, 3) := dk_181 0 13 (dk_at dksX1_text_2 17 rfl rfl)
theorem dX1_text_66 : decode cX1_text 66 = .ok (.iconst (-1), 1) := dk_2 (dk_at dksX1_text_2 20 rfl rfl)
theorem dX1_text_67 : decode cX1_text 67 = .ok (.ireturn, 1) := dk_172 (dk_at dksX1_text_2 21 rfl rfl)
theorem dX1_text_68 : decode cX1_text 68 = .ok (.aload_n 0, 1) := dk_42 (dk_at dksX1_text_2 22 rfl rfl)
theorem dX1_text_69 : decode cX1_text 69 = .ok (.getfield 20, 3) := dk_180 0 20 (dk_at dksX1_text_3 0 rfl rfl)
theorem dX1_text_72 : decode cX1_text 72 = .ok (.aload_n 2, 1) := dk_44 (dk_at dksX1_text_3 3 rfl rfl)
theorem dX1_text_73 : decode cX1_text 73 = .ok (.getfield 112, 3) := dk_180 0 112 (dk_at dksX1_text_3 4 rfl rfl)
theorem dX1_text_76 : decode cX1_text 76 = .ok (.invokevirtual 113, 3) := dk_182 0 113 (dk_at dksX1_text_3 7 rfl rfl)
theorem dX1_text_79 : decode cX1_text 79 = .ok (.pop, 1) := dk_87 (dk_at dksX1_text_3 10 rfl rfl)
theorem dX1_text_80 : decode cX1_text 80 = .ok (.aload_n 0, 1) := dk_42 (dk_at dksX1_text_3 11 rfl rfl)
theorem dX1_text_81 : decode cX1_text 81 = .ok (.aload_n 2, 1) := dk_44 (dk_at dksX1_text_3 12 rfl rfl)
theorem dX1_text_82 : decode cX1_text 82 = .ok (.getfield 117, 3) := dk_180 0 117 (dk_at dksX1_text_3 13 rfl rfl)
theorem dX1_text_85 : decode cX1_text 85 = .ok (.putfield 120, 3) := dk_181 0 120 (dk_at dksX1_text_3 16 rfl rfl)
theorem dX1_text_88 : decode cX1_text 88 = .ok (.aload_n 0, 1) := dk_42 (dk_at dksX1_text_3 19 rfl rfl)
theorem dX1_text_89 : decode cX1_text 89 = .ok (.aload_n 2, 1) := dk_44 (dk_at dksX1_text_3 20 rfl rfl)
theorem dX1_text_90 : decode cX1_text 90 = .ok (.getfield 121, 3) := dk_180 0 121 (dk_at dksX1_text_3 21 rfl rfl)
theorem dX1_text_93 : decode cX1_text 93 = .ok (.putfield 27, 3) := dk_181 0 27 (dk_at dksX1_text_4 0 rfl rfl)
theorem dX1_text_96 : decode cX1_text 96 = .ok (.aload_n 0, 1) := dk_42 (dk_at dksX1_text_4 3 rfl rfl)
theorem dX1_text_97 : decode cX1_text 97 = .ok (.aload_n 2, 1) := dk_44 (dk_at dksX1_text_4 4 rfl rfl)
theorem dX1_text_98 : decode cX1_text 98 = .ok (.getfield 122, 3) := dk_180 0 122 (dk_at dksX1_text_4 5 rfl rfl)
theorem dX1_text_101 : decode cX1_text 101 = .ok (.putfield 125, 3) := dk_181 0 125 (dk_at dksX1_text_4 8 rfl rfl)
theorem dX1_text_104 : decode cX1_text 104 = .ok (.aload_n 0, 1) := dk_42 (dk_at dksX1_text_4 11 rfl rfl)
theorem dX1_text_105 : decode cX1_text 105 = .ok (.iconst 0, 1) := dk_3 (dk_at dksX1_text_4 12 rfl rfl)
theorem dX1_text_106 : decode cX1_text 106 = .ok (.putfield 126, 3) := dk_181 0 126 (dk_at dksX1_text_4 13 rfl rfl)
theorem dX1_text_109 : decode cX1_text 109 = .ok (.aload_n 0, 1) := dk_42 (dk_at dksX1_text_4 16 rfl rfl)
theorem dX1_text_110 : decode cX1_text 110 = .ok (.bipush (-2), 2) := dk_16 254 (dk_at dksX1_text_4 17 rfl rfl)
theorem dX1_text_112 : decode cX1_text 112 = .ok (.putfield 30, 3) := dk_181 0 30 (dk_at dksX1_text_4 19 rfl rfl)
theorem dX1_text_115 : decode cX1_text 115 = .ok (.aload_n 0, 1) := dk_42 (dk_at dksX1_text_4 22 rfl rfl)
theorem dX1_text_116 : decode cX1_text 116 = .ok (.invokevirtual 129, 3) := dk_182 0 129 (dk_at dksX1_text_5 0 rfl rfl)
theorem dX1_text_119 : decode cX1_text 119 = .ok (.iconst 0, 1) := dk_3 (dk_at dksX1_text_5 3 rfl rfl)
theorem dX1_text_120 : decode cX1_text 120 = .ok (.istore_n 3, 1) := dk_62 (dk_at dksX1_text_5 4 rfl rfl)
theorem dX1_text_121 : decode cX1_text 121 = .ok (.iload_n 3, 1) := dk_29 (dk_at dksX1_text_5 5 rfl rfl)
theorem dX1_text_122 : decode cX1_text 122 = .ok (.aload_n 0, 1) := dk_42 (dk_at dksX1_text_5 6 rfl rfl)
theorem dX1_text_123 : decode cX1_text 123 = .ok (.invokevirtual 132, 3) := dk_182 0 132 (dk_at dksX1_text_5 7 rfl rfl)
theorem dX1_text_126 : decode cX1_text 126 = .ok (.if_icmp .ge 15, 3) := dk_162 0 15 (dk_at dksX1_text_5 10 rfl rfl)
theorem dX1_text_129 : decode cX1_text 129 = .ok (.aload_n 0, 1) := dk_42 (dk_at dksX1_text_5 13 rfl rfl)
theorem dX1_text_130 : decode cX1_text 130 = .ok (.iload_n 3, 1) := dk_29 (dk_at dksX1_text_5 14 rfl rfl)
theorem dX1_text_131 : decode cX1_text 131 = .ok (.iload_n 3, 1) := dk_29 (dk_at dksX1_text_5 15 rfl rfl)
theorem dX1_text_132 : decode cX1_text 132 = .ok (.invokevirtual 136, 3) := dk_182 0 136 (dk_at dksX1_text_5 16 rfl rfl)
theorem dX1_text_135 : decode cX1_text 135 = .ok (.iinc 3 1, 3) := dk_132 3 1 (dk_at dksX1_text_5 19 rfl rfl)
theorem dX1_text_138 : decode cX1_text 138 = .ok (.goto (-17), 3) := dk_167 255 239 (dk_at dksX1_text_6 0 rfl rfl)
theorem dX1_text_141 : decode cX1_text 141 = .ok (.aload_n 0, 1) := dk_42 (dk_at dksX1_text_6 3 rfl rfl)
theorem dX1_text_142 : decode cX1_text 142 = .ok (.getfield 120, 3) := dk_180 0 120 (dk_at dksX1_text_6 4 rfl rfl)
theorem dX1_text_145 : decode cX1_text 145 = .ok (.ireturn, 1) := dk_172 (dk_at dksX1_text_6 7 rfl rfl)
abbrev cX1_isIn : ByteArray := prog_1_method_2_code
def yX1_isIn : MethodName := ⟨RX1, "isIn", "(JJJ)Z"⟩
def dkwX1_isIn_0 : List UInt8 := [30, 32, 148, 155, 0, 14, 30, 22, 4, 148, 157, 0, 7, 4, 167, 0, 4, 3, 172]
abbrev dktX1_isIn_0 : List UInt8 := dkwX1_isIn_0 ++ []
theorem dksX1_isIn_0 : cX1_isIn.data.toList.drop 0 = dktX1_isIn_0 := by decide +kernel
theorem dX1_isIn_0 : decode cX1_isIn 0 = .ok (.lload_n 0, 1) := dk_30 (dk_at dksX1_isIn_0 0 rfl rfl)
theorem dX1_isIn_1 : decode cX1_isIn 1 = .ok (.lload_n 2, 1) := dk_32 (dk_at dksX1_isIn_0 1 rfl rfl)
theorem dX1_isIn_2 : decode cX1_isIn 2 = .ok (.lcmp, 1) := dk_148 (dk_at dksX1_isIn_0 2 rfl rfl)
theorem dX1_isIn_3 : decode cX1_isIn 3 = .ok (.ifCond .lt 14, 3) := dk_155 0 14 (dk_at dksX1_isIn_0 3 rfl rfl)
theorem dX1_isIn_6 : decode cX1_isIn 6 = .ok (.lload_n 0, 1) := dk_30 (dk_at dksX1_isIn_0 6 rfl rfl)
theorem dX1_isIn_7 : decode cX1_isIn 7 = .ok (.lload 4, 2) := dk_22 4 (dk_at dksX1_isIn_0 7 rfl rfl)
theorem dX1_isIn_9 : decode cX1_isIn 9 = .ok (.lcmp, 1) := dk_148 (dk_at dksX1_isIn_0 9 rfl rfl)
theorem dX1_isIn_10 : decode cX1_isIn 10 = .ok (.ifCond .gt 7, 3) := dk_157 0 7 (dk_at dksX1_isIn_0 10 rfl rfl)
theorem dX1_isIn_13 : decode cX1_isIn 13 = .ok (.iconst 1, 1) := dk_4 (dk_at dksX1_isIn_0 13 rfl rfl)
theorem dX1_isIn_14 : decode cX1_isIn 14 = .ok (.goto 4, 3) := dk_167 0 4 (dk_at dksX1_isIn_0 14 rfl rfl)
theorem dX1_isIn_17 : decode cX1_isIn 17 = .ok (.iconst 0, 1) := dk_3 (dk_at dksX1_isIn_0 17 rfl rfl)
theorem dX1_isIn_18 : decode cX1_isIn 18 = .ok (.ireturn, 1) := dk_172 (dk_at dksX1_isIn_0 18 rfl rfl)
abbrev cX1_laysPlaces : ByteArray := prog_1_method_7_code
def yX1_laysPlaces : MethodName := ⟨RX1, "laysPlaces", "()V"⟩
def dkwX1_laysPlaces_4 : List UInt8 := [182, 0, 152, 132, 1, 1, 167, 255, 200, 177]
abbrev dktX1_laysPlaces_4 : List UInt8 := dkwX1_laysPlaces_4 ++ []
def dkwX1_laysPlaces_3 : List UInt8 := [199, 0, 16, 42, 180, 0, 35, 28, 187, 0, 33, 89, 183, 0, 151, 83, 42, 180, 0, 35, 28, 50, 27]
abbrev dktX1_laysPlaces_3 : List UInt8 := dkwX1_laysPlaces_3 ++ dktX1_laysPlaces_4
def dkwX1_laysPlaces_2 : List UInt8 := [180, 0, 147, 162, 0, 51, 42, 180, 0, 20, 180, 0, 148, 27, 46, 61, 42, 180, 0, 35, 28, 50]
abbrev dktX1_laysPlaces_2 : List UInt8 := dkwX1_laysPlaces_2 ++ dktX1_laysPlaces_3
def dkwX1_laysPlaces_1 : List UInt8 := [198, 0, 9, 25, 4, 3, 181, 0, 144, 132, 3, 1, 167, 255, 232, 3, 60, 27, 42, 180, 0, 20]
abbrev dktX1_laysPlaces_1 : List UInt8 := dkwX1_laysPlaces_1 ++ dktX1_laysPlaces_2
def dkwX1_laysPlaces_0 : List UInt8 := [42, 180, 0, 35, 76, 43, 190, 61, 3, 62, 29, 28, 162, 0, 25, 43, 29, 50, 58, 4, 25, 4]
abbrev dktX1_laysPlaces_0 : List UInt8 := dkwX1_laysPlaces_0 ++ dktX1_laysPlaces_1
theorem dksX1_laysPlaces_0 : cX1_laysPlaces.data.toList.drop 0 = dktX1_laysPlaces_0 := by decide +kernel
theorem dksX1_laysPlaces_1 : cX1_laysPlaces.data.toList.drop 22 = dktX1_laysPlaces_1 := dk_seg dksX1_laysPlaces_0 22 rfl rfl
theorem dksX1_laysPlaces_2 : cX1_laysPlaces.data.toList.drop 44 = dktX1_laysPlaces_2 := dk_seg dksX1_laysPlaces_1 22 rfl rfl
theorem dksX1_laysPlaces_3 : cX1_laysPlaces.data.toList.drop 66 = dktX1_laysPlaces_3 := dk_seg dksX1_laysPlaces_2 22 rfl rfl
theorem dksX1_laysPlaces_4 : cX1_laysPlaces.data.toList.drop 89 = dktX1_laysPlaces_4 := dk_seg dksX1_laysPlaces_3 23 rfl rfl
theorem dX1_laysPlaces_0 : decode cX1_laysPlaces 0 = .ok (.aload_n 0, 1) := dk_42 (dk_at dksX1_laysPlaces_0 0 rfl rfl)
theorem dX1_laysPlaces_1 : decode cX1_laysPlaces 1 = .ok (.getfield 35, 3) := dk_180 0 35 (dk_at dksX1_laysPlaces_0 1 rfl rfl)
theorem dX1_laysPlaces_4 : decode cX1_laysPlaces 4 = .ok (.astore_n 1, 1) := dk_76 (dk_at dksX1_laysPlaces_0 4 rfl rfl)
theorem dX1_laysPlaces_5 : decode cX1_laysPlaces 5 = .ok (.aload_n 1, 1) := dk_43 (dk_at dksX1_laysPlaces_0 5 rfl rfl)
theorem dX1_laysPlaces_6 : decode cX1_laysPlaces 6 = .ok (.arraylength, 1) := dk_190 (dk_at dksX1_laysPlaces_0 6 rfl rfl)
theorem dX1_laysPlaces_7 : decode cX1_laysPlaces 7 = .ok (.istore_n 2, 1) := dk_61 (dk_at dksX1_laysPlaces_0 7 rfl rfl)
theorem dX1_laysPlaces_8 : decode cX1_laysPlaces 8 = .ok (.iconst 0, 1) := dk_3 (dk_at dksX1_laysPlaces_0 8 rfl rfl)
theorem dX1_laysPlaces_9 : decode cX1_laysPlaces 9 = .ok (.istore_n 3, 1) := dk_62 (dk_at dksX1_laysPlaces_0 9 rfl rfl)
theorem dX1_laysPlaces_10 : decode cX1_laysPlaces 10 = .ok (.iload_n 3, 1) := dk_29 (dk_at dksX1_laysPlaces_0 10 rfl rfl)
theorem dX1_laysPlaces_11 : decode cX1_laysPlaces 11 = .ok (.iload_n 2, 1) := dk_28 (dk_at dksX1_laysPlaces_0 11 rfl rfl)
theorem dX1_laysPlaces_12 : decode cX1_laysPlaces 12 = .ok (.if_icmp .ge 25, 3) := dk_162 0 25 (dk_at dksX1_laysPlaces_0 12 rfl rfl)
theorem dX1_laysPlaces_15 : decode cX1_laysPlaces 15 = .ok (.aload_n 1, 1) := dk_43 (dk_at dksX1_laysPlaces_0 15 rfl rfl)
theorem dX1_laysPlaces_16 : decode cX1_laysPlaces 16 = .ok (.iload_n 3, 1) := dk_29 (dk_at dksX1_laysPlaces_0 16 rfl rfl)
theorem dX1_laysPlaces_17 : decode cX1_laysPlaces 17 = .ok (.aaload, 1) := dk_50 (dk_at dksX1_laysPlaces_0 17 rfl rfl)
theorem dX1_laysPlaces_18 : decode cX1_laysPlaces 18 = .ok (.astore 4, 2) := dk_58 4 (dk_at dksX1_laysPlaces_0 18 rfl rfl)
theorem dX1_laysPlaces_20 : decode cX1_laysPlaces 20 = .ok (.aload 4, 2) := dk_25 4 (dk_at dksX1_laysPlaces_0 20 rfl rfl)
theorem dX1_laysPlaces_22 : decode cX1_laysPlaces 22 = .ok (.ifnull 9, 3) := dk_198 0 9 (dk_at dksX1_laysPlaces_1 0 rfl rfl)
theorem dX1_laysPlaces_25 : decode cX1_laysPlaces 25 = .ok (.aload 4, 2) := dk_25 4 (dk_at dksX1_laysPlaces_1 3 rfl rfl)
theorem dX1_laysPlaces_27 : decode cX1_laysPlaces 27 = .ok (.iconst 0, 1) := dk_3 (dk_at dksX1_laysPlaces_1 5 rfl rfl)
theorem dX1_laysPlaces_28 : decode cX1_laysPlaces 28 = .ok (.putfield 144, 3) := dk_181 0 144 (dk_at dksX1_laysPlaces_1 6 rfl rfl)
theorem dX1_laysPlaces_31 : decode cX1_laysPlaces 31 = .ok (.iinc 3 1, 3) := dk_132 3 1 (dk_at dksX1_laysPlaces_1 9 rfl rfl)
theorem dX1_laysPlaces_34 : decode cX1_laysPlaces 34 = .ok (.goto (-24), 3) := dk_167 255 232 (dk_at dksX1_laysPlaces_1 12 rfl rfl)
theorem dX1_laysPlaces_37 : decode cX1_laysPlaces 37 = .ok (.iconst 0, 1) := dk_3 (dk_at dksX1_laysPlaces_1 15 rfl rfl)
theorem dX1_laysPlaces_38 : decode cX1_laysPlaces 38 = .ok (.istore_n 1, 1) := dk_60 (dk_at dksX1_laysPlaces_1 16 rfl rfl)
theorem dX1_laysPlaces_39 : decode cX1_laysPlaces 39 = .ok (.iload_n 1, 1) := dk_27 (dk_at dksX1_laysPlaces_1 17 rfl rfl)
theorem dX1_laysPlaces_40 : decode cX1_laysPlaces 40 = .ok (.aload_n 0, 1) := dk_42 (dk_at dksX1_laysPlaces_1 18 rfl rfl)
theorem dX1_laysPlaces_41 : decode cX1_laysPlaces 41 = .ok (.getfield 20, 3) := dk_180 0 20 (dk_at dksX1_laysPlaces_1 19 rfl rfl)
theorem dX1_laysPlaces_44 : decode cX1_laysPlaces 44 = .ok (.getfield 147, 3) := dk_180 0 147 (dk_at dksX1_laysPlaces_2 0 rfl rfl)
theorem dX1_laysPlaces_47 : decode cX1_laysPlaces 47 = .ok (.if_icmp .ge 51, 3) := dk_162 0 51 (dk_at dksX1_laysPlaces_2 3 rfl rfl)
theorem dX1_laysPlaces_50 : decode cX1_laysPlaces 50 = .ok (.aload_n 0, 1) := dk_42 (dk_at dksX1_laysPlaces_2 6 rfl rfl)
theorem dX1_laysPlaces_51 : decode cX1_laysPlaces 51 = .ok (.getfield 20, 3) := dk_180 0 20 (dk_at dksX1_laysPlaces_2 7 rfl rfl)
theorem dX1_laysPlaces_54 : decode cX1_laysPlaces 54 = .ok (.getfield 148, 3) := dk_180 0 148 (dk_at dksX1_laysPlaces_2 10 rfl rfl)
theorem dX1_laysPlaces_57 : decode cX1_laysPlaces 57 = .ok (.iload_n 1, 1) := dk_27 (dk_at dksX1_laysPlaces_2 13 rfl rfl)
theorem dX1_laysPlaces_58 : decode cX1_laysPlaces 58 = .ok (.iaload, 1) := dk_46 (dk_at dksX1_laysPlaces_2 14 rfl rfl)
theorem dX1_laysPlaces_59 : decode cX1_laysPlaces 59 = .ok (.istore_n 2, 1) := dk_61 (dk_at dksX1_laysPlaces_2 15 rfl rfl)
theorem dX1_laysPlaces_60 : decode cX1_laysPlaces 60 = .ok (.aload_n 0, 1) := dk_42 (dk_at dksX1_laysPlaces_2 16 rfl rfl)
theorem dX1_laysPlaces_61 : decode cX1_laysPlaces 61 = .ok (.getfield 35, 3) := dk_180 0 35 (dk_at dksX1_laysPlaces_2 17 rfl rfl)
theorem dX1_laysPlaces_64 : decode cX1_laysPlaces 64 = .ok (.iload_n 2, 1) := dk_28 (dk_at dksX1_laysPlaces_2 20 rfl rfl)
theorem dX1_laysPlaces_65 : decode cX1_laysPlaces 65 = .ok (.aaload, 1) := dk_50 (dk_at dksX1_laysPlaces_2 21 rfl rfl)
theorem dX1_laysPlaces_66 : decode cX1_laysPlaces 66 = .ok (.ifnonnull 16, 3) := dk_199 0 16 (dk_at dksX1_laysPlaces_3 0 rfl rfl)
theorem dX1_laysPlaces_69 : decode cX1_laysPlaces 69 = .ok (.aload_n 0, 1) := dk_42 (dk_at dksX1_laysPlaces_3 3 rfl rfl)
theorem dX1_laysPlaces_70 : decode cX1_laysPlaces 70 = .ok (.getfield 35, 3) := dk_180 0 35 (dk_at dksX1_laysPlaces_3 4 rfl rfl)
theorem dX1_laysPlaces_73 : decode cX1_laysPlaces 73 = .ok (.iload_n 2, 1) := dk_28 (dk_at dksX1_laysPlaces_3 7 rfl rfl)
theorem dX1_laysPlaces_74 : decode cX1_laysPlaces 74 = .ok (.new 33, 3) := dk_187 0 33 (dk_at dksX1_laysPlaces_3 8 rfl rfl)
theorem dX1_laysPlaces_77 : decode cX1_laysPlaces 77 = .ok (.dup, 1) := dk_89 (dk_at dksX1_laysPlaces_3 11 rfl rfl)
theorem dX1_laysPlaces_78 : decode cX1_laysPlaces 78 = .ok (.invokespecial 151, 3) := dk_183 0 151 (dk_at dksX1_laysPlaces_3 12 rfl rfl)
theorem dX1_laysPlaces_81 : decode cX1_laysPlaces 81 = .ok (.aastore, 1) := dk_83 (dk_at dksX1_laysPlaces_3 15 rfl rfl)
theorem dX1_laysPlaces_82 : decode cX1_laysPlaces 82 = .ok (.aload_n 0, 1) := dk_42 (dk_at dksX1_laysPlaces_3 16 rfl rfl)
theorem dX1_laysPlaces_83 : decode cX1_laysPlaces 83 = .ok (.getfield 35, 3) := dk_180 0 35 (dk_at dksX1_laysPlaces_3 17 rfl rfl)
theorem dX1_laysPlaces_86 : decode cX1_laysPlaces 86 = .ok (.iload_n 2, 1) := dk_28 (dk_at dksX1_laysPlaces_3 20 rfl rfl)
theorem dX1_laysPlaces_87 : decode cX1_laysPlaces 87 = .ok (.aaload, 1) := dk_50 (dk_at dksX1_laysPlaces_3 21 rfl rfl)
theorem dX1_laysPlaces_88 : decode cX1_laysPlaces 88 = .ok (.iload_n 1, 1) := dk_27 (dk_at dksX1_laysPlaces_3 22 rfl rfl)
theorem dX1_laysPlaces_89 : decode cX1_laysPlaces 89 = .ok (.invokevirtual 152, 3) := dk_182 0 152 (dk_at dksX1_laysPlaces_4 0 rfl rfl)
theorem dX1_laysPlaces_92 : decode cX1_laysPlaces 92 = .ok (.iinc 1 1, 3) := dk_132 1 1 (dk_at dksX1_laysPlaces_4 3 rfl rfl)
theorem dX1_laysPlaces_95 : decode cX1_laysPlaces 95 = .ok (.goto (-56), 3) := dk_167 255 200 (dk_at dksX1_laysPlaces_4 6 rfl rfl)
theorem dX1_laysPlaces_98 : decode cX1_laysPlaces 98 = .ok (.return_, 1) := dk_177 (dk_at dksX1_laysPlaces_4 9 rfl rfl)
abbrev cX1_blocks : ByteArray := prog_1_method_15_code
def yX1_blocks : MethodName := ⟨RX1, "blocks", "()I"⟩
def dkwX1_blocks_0 : List UInt8 := [42, 180, 0, 20, 180, 0, 147, 42, 180, 0, 27, 96, 4, 100, 42, 180, 0, 27, 108, 172]
abbrev dktX1_blocks_0 : List UInt8 := dkwX1_blocks_0 ++ []
theorem dksX1_blocks_0 : cX1_blocks.data.toList.drop 0 = dktX1_blocks_0 := by decide +kernel
theorem dX1_blocks_0 : decode cX1_blocks 0 = .ok (.aload_n 0, 1) := dk_42 (dk_at dksX1_blocks_0 0 rfl rfl)
theorem dX1_blocks_1 : decode cX1_blocks 1 = .ok (.getfield 20, 3) := dk_180 0 20 (dk_at dksX1_blocks_0 1 rfl rfl)
theorem dX1_blocks_4 : decode cX1_blocks 4 = .ok (.getfield 147, 3) := dk_180 0 147 (dk_at dksX1_blocks_0 4 rfl rfl)
theorem dX1_blocks_7 : decode cX1_blocks 7 = .ok (.aload_n 0, 1) := dk_42 (dk_at dksX1_blocks_0 7 rfl rfl)
theorem dX1_blocks_8 : decode cX1_blocks 8 = .ok (.getfield 27, 3) := dk_180 0 27 (dk_at dksX1_blocks_0 8 rfl rfl)
theorem dX1_blocks_11 : decode cX1_blocks 11 = .ok (.iadd, 1) := dk_96 (dk_at dksX1_blocks_0 11 rfl rfl)
theorem dX1_blocks_12 : decode cX1_blocks 12 = .ok (.iconst 1, 1) := dk_4 (dk_at dksX1_blocks_0 12 rfl rfl)
theorem dX1_blocks_13 : decode cX1_blocks 13 = .ok (.isub, 1) := dk_100 (dk_at dksX1_blocks_0 13 rfl rfl)
theorem dX1_blocks_14 : decode cX1_blocks 14 = .ok (.aload_n 0, 1) := dk_42 (dk_at dksX1_blocks_0 14 rfl rfl)
theorem dX1_blocks_15 : decode cX1_blocks 15 = .ok (.getfield 27, 3) := dk_180 0 27 (dk_at dksX1_blocks_0 15 rfl rfl)
theorem dX1_blocks_18 : decode cX1_blocks 18 = .ok (.idiv, 1) := dk_108 (dk_at dksX1_blocks_0 18 rfl rfl)
theorem dX1_blocks_19 : decode cX1_blocks 19 = .ok (.ireturn, 1) := dk_172 (dk_at dksX1_blocks_0 19 rfl rfl)
abbrev cX1_laysPairs : ByteArray := prog_1_method_17_code
def yX1_laysPairs : MethodName := ⟨RX1, "laysPairs", "(II)V"⟩
def dkwX1_laysPairs_4 : List UInt8 := [27, 104, 21, 4, 96, 29, 79, 132, 4, 1, 167, 255, 157, 177]
abbrev dktX1_laysPairs_4 : List UInt8 := dkwX1_laysPairs_4 ++ []
def dkwX1_laysPairs_3 : List UInt8 := [153, 0, 6, 21, 6, 62, 132, 5, 1, 167, 255, 200, 21, 4, 28, 161, 0, 16, 42, 180, 0, 59, 16, 60]
abbrev dktX1_laysPairs_3 : List UInt8 := dkwX1_laysPairs_3 ++ dktX1_laysPairs_4
def dkwX1_laysPairs_2 : List UInt8 := [2, 159, 0, 25, 42, 21, 6, 29, 42, 180, 0, 27, 27, 104, 21, 5, 42, 180, 0, 125, 182, 0, 198]
abbrev dktX1_laysPairs_2 : List UInt8 := dkwX1_laysPairs_2 ++ dktX1_laysPairs_3
def dkwX1_laysPairs_1 : List UInt8 := [21, 5, 42, 21, 4, 182, 0, 195, 163, 0, 51, 42, 180, 0, 20, 180, 0, 148, 21, 5, 46, 54, 6, 29]
abbrev dktX1_laysPairs_1 : List UInt8 := dkwX1_laysPairs_1 ++ dktX1_laysPairs_2
def dkwX1_laysPairs_0 : List UInt8 := [2, 62, 27, 54, 4, 21, 4, 42, 182, 0, 132, 162, 0, 96, 42, 180, 0, 27, 21, 4, 104, 54, 5]
abbrev dktX1_laysPairs_0 : List UInt8 := dkwX1_laysPairs_0 ++ dktX1_laysPairs_1
theorem dksX1_laysPairs_0 : cX1_laysPairs.data.toList.drop 0 = dktX1_laysPairs_0 := by decide +kernel
theorem dksX1_laysPairs_1 : cX1_laysPairs.data.toList.drop 23 = dktX1_laysPairs_1 := dk_seg dksX1_laysPairs_0 23 rfl rfl
theorem dksX1_laysPairs_2 : cX1_laysPairs.data.toList.drop 47 = dktX1_laysPairs_2 := dk_seg dksX1_laysPairs_1 24 rfl rfl
theorem dksX1_laysPairs_3 : cX1_laysPairs.data.toList.drop 70 = dktX1_laysPairs_3 := dk_seg dksX1_laysPairs_2 23 rfl rfl
theorem dksX1_laysPairs_4 : cX1_laysPairs.data.toList.drop 94 = dktX1_laysPairs_4 := dk_seg dksX1_laysPairs_3 24 rfl rfl
theorem dX1_laysPairs_0 : decode cX1_laysPairs 0 = .ok (.iconst (-1), 1) := dk_2 (dk_at dksX1_laysPairs_0 0 rfl rfl)
theorem dX1_laysPairs_1 : decode cX1_laysPairs 1 = .ok (.istore_n 3, 1) := dk_62 (dk_at dksX1_laysPairs_0 1 rfl rfl)
theorem dX1_laysPairs_2 : decode cX1_laysPairs 2 = .ok (.iload_n 1, 1) := dk_27 (dk_at dksX1_laysPairs_0 2 rfl rfl)
theorem dX1_laysPairs_3 : decode cX1_laysPairs 3 = .ok (.istore 4, 2) := dk_54 4 (dk_at dksX1_laysPairs_0 3 rfl rfl)
theorem dX1_laysPairs_5 : decode cX1_laysPairs 5 = .ok (.iload 4, 2) := dk_21 4 (dk_at dksX1_laysPairs_0 5 rfl rfl)
theorem dX1_laysPairs_7 : decode cX1_laysPairs 7 = .ok (.aload_n 0, 1) := dk_42 (dk_at dksX1_laysPairs_0 7 rfl rfl)
theorem dX1_laysPairs_8 : decode cX1_laysPairs 8 = .ok (.invokevirtual 132, 3) := dk_182 0 132 (dk_at dksX1_laysPairs_0 8 rfl rfl)
theorem dX1_laysPairs_11 : decode cX1_laysPairs 11 = .ok (.if_icmp .ge 96, 3) := dk_162 0 96 (dk_at dksX1_laysPairs_0 11 rfl rfl)
theorem dX1_laysPairs_14 : decode cX1_laysPairs 14 = .ok (.aload_n 0, 1) := dk_42 (dk_at dksX1_laysPairs_0 14 rfl rfl)
theorem dX1_laysPairs_15 : decode cX1_laysPairs 15 = .ok (.getfield 27, 3) := dk_180 0 27 (dk_at dksX1_laysPairs_0 15 rfl rfl)
theorem dX1_laysPairs_18 : decode cX1_laysPairs 18 = .ok (.iload 4, 2) := dk_21 4 (dk_at dksX1_laysPairs_0 18 rfl rfl)
theorem dX1_laysPairs_20 : decode cX1_laysPairs 20 = .ok (.imul, 1) := dk_104 (dk_at dksX1_laysPairs_0 20 rfl rfl)
theorem dX1_laysPairs_21 : decode cX1_laysPairs 21 = .ok (.istore 5, 2) := dk_54 5 (dk_at dksX1_laysPairs_0 21 rfl rfl)
theorem dX1_laysPairs_23 : decode cX1_laysPairs 23 = .ok (.iload 5, 2) := dk_21 5 (dk_at dksX1_laysPairs_1 0 rfl rfl)
theorem dX1_laysPairs_25 : decode cX1_laysPairs 25 = .ok (.aload_n 0, 1) := dk_42 (dk_at dksX1_laysPairs_1 2 rfl rfl)
theorem dX1_laysPairs_26 : decode cX1_laysPairs 26 = .ok (.iload 4, 2) := dk_21 4 (dk_at dksX1_laysPairs_1 3 rfl rfl)
theorem dX1_laysPairs_28 : decode cX1_laysPairs 28 = .ok (.invokevirtual 195, 3) := dk_182 0 195 (dk_at dksX1_laysPairs_1 5 rfl rfl)
theorem dX1_laysPairs_31 : decode cX1_laysPairs 31 = .ok (.if_icmp .gt 51, 3) := dk_163 0 51 (dk_at dksX1_laysPairs_1 8 rfl rfl)
theorem dX1_laysPairs_34 : decode cX1_laysPairs 34 = .ok (.aload_n 0, 1) := dk_42 (dk_at dksX1_laysPairs_1 11 rfl rfl)
theorem dX1_laysPairs_35 : decode cX1_laysPairs 35 = .ok (.getfield 20, 3) := dk_180 0 20 (dk_at dksX1_laysPairs_1 12 rfl rfl)
theorem dX1_laysPairs_38 : decode cX1_laysPairs 38 = .ok (.getfield 148, 3) := dk_180 0 148 (dk_at dksX1_laysPairs_1 15 rfl rfl)
theorem dX1_laysPairs_41 : decode cX1_laysPairs 41 = .ok (.iload 5, 2) := dk_21 5 (dk_at dksX1_laysPairs_1 18 rfl rfl)
theorem dX1_laysPairs_43 : decode cX1_laysPairs 43 = .ok (.iaload, 1) := dk_46 (dk_at dksX1_laysPairs_1 20 rfl rfl)
theorem dX1_laysPairs_44 : decode cX1_laysPairs 44 = .ok (.istore 6, 2) := dk_54 6 (dk_at dksX1_laysPairs_1 21 rfl rfl)
theorem dX1_laysPairs_46 : decode cX1_laysPairs 46 = .ok (.iload_n 3, 1) := dk_29 (dk_at dksX1_laysPairs_1 23 rfl rfl)
theorem dX1_laysPairs_47 : decode cX1_laysPairs 47 = .ok (.iconst (-1), 1) := dk_2 (dk_at dksX1_laysPairs_2 0 rfl rfl)
theorem dX1_laysPairs_48 : decode cX1_laysPairs 48 = .ok (.if_icmp .eq 25, 3) := dk_159 0 25 (dk_at dksX1_laysPairs_2 1 rfl rfl)
theorem dX1_laysPairs_51 : decode cX1_laysPairs 51 = .ok (.aload_n 0, 1) := dk_42 (dk_at dksX1_laysPairs_2 4 rfl rfl)
theorem dX1_laysPairs_52 : decode cX1_laysPairs 52 = .ok (.iload 6, 2) := dk_21 6 (dk_at dksX1_laysPairs_2 5 rfl rfl)
theorem dX1_laysPairs_54 : decode cX1_laysPairs 54 = .ok (.iload_n 3, 1) := dk_29 (dk_at dksX1_laysPairs_2 7 rfl rfl)
theorem dX1_laysPairs_55 : decode cX1_laysPairs 55 = .ok (.aload_n 0, 1) := dk_42 (dk_at dksX1_laysPairs_2 8 rfl rfl)
theorem dX1_laysPairs_56 : decode cX1_laysPairs 56 = .ok (.getfield 27, 3) := dk_180 0 27 (dk_at dksX1_laysPairs_2 9 rfl rfl)
theorem dX1_laysPairs_59 : decode cX1_laysPairs 59 = .ok (.iload_n 1, 1) := dk_27 (dk_at dksX1_laysPairs_2 12 rfl rfl)
theorem dX1_laysPairs_60 : decode cX1_laysPairs 60 = .ok (.imul, 1) := dk_104 (dk_at dksX1_laysPairs_2 13 rfl rfl)
theorem dX1_laysPairs_61 : decode cX1_laysPairs 61 = .ok (.iload 5, 2) := dk_21 5 (dk_at dksX1_laysPairs_2 14 rfl rfl)
theorem dX1_laysPairs_63 : decode cX1_laysPairs 63 = .ok (.aload_n 0, 1) := dk_42 (dk_at dksX1_laysPairs_2 16 rfl rfl)
theorem dX1_laysPairs_64 : decode cX1_laysPairs 64 = .ok (.getfield 125, 3) := dk_180 0 125 (dk_at dksX1_laysPairs_2 17 rfl rfl)
theorem dX1_laysPairs_67 : decode cX1_laysPairs 67 = .ok (.invokevirtual 198, 3) := dk_182 0 198 (dk_at dksX1_laysPairs_2 20 rfl rfl)
theorem dX1_laysPairs_70 : decode cX1_laysPairs 70 = .ok (.ifCond .eq 6, 3) := dk_153 0 6 (dk_at dksX1_laysPairs_3 0 rfl rfl)
theorem dX1_laysPairs_73 : decode cX1_laysPairs 73 = .ok (.iload 6, 2) := dk_21 6 (dk_at dksX1_laysPairs_3 3 rfl rfl)
theorem dX1_laysPairs_75 : decode cX1_laysPairs 75 = .ok (.istore_n 3, 1) := dk_62 (dk_at dksX1_laysPairs_3 5 rfl rfl)
theorem dX1_laysPairs_76 : decode cX1_laysPairs 76 = .ok (.iinc 5 1, 3) := dk_132 5 1 (dk_at dksX1_laysPairs_3 6 rfl rfl)
theorem dX1_laysPairs_79 : decode cX1_laysPairs 79 = .ok (.goto (-56), 3) := dk_167 255 200 (dk_at dksX1_laysPairs_3 9 rfl rfl)
theorem dX1_laysPairs_82 : decode cX1_laysPairs 82 = .ok (.iload 4, 2) := dk_21 4 (dk_at dksX1_laysPairs_3 12 rfl rfl)
theorem dX1_laysPairs_84 : decode cX1_laysPairs 84 = .ok (.iload_n 2, 1) := dk_28 (dk_at dksX1_laysPairs_3 14 rfl rfl)
theorem dX1_laysPairs_85 : decode cX1_laysPairs 85 = .ok (.if_icmp .lt 16, 3) := dk_161 0 16 (dk_at dksX1_laysPairs_3 15 rfl rfl)
theorem dX1_laysPairs_88 : decode cX1_laysPairs 88 = .ok (.aload_n 0, 1) := dk_42 (dk_at dksX1_laysPairs_3 18 rfl rfl)
theorem dX1_laysPairs_89 : decode cX1_laysPairs 89 = .ok (.getfield 59, 3) := dk_180 0 59 (dk_at dksX1_laysPairs_3 19 rfl rfl)
theorem dX1_laysPairs_92 : decode cX1_laysPairs 92 = .ok (.bipush 60, 2) := dk_16 60 (dk_at dksX1_laysPairs_3 22 rfl rfl)
theorem dX1_laysPairs_94 : decode cX1_laysPairs 94 = .ok (.iload_n 1, 1) := dk_27 (dk_at dksX1_laysPairs_4 0 rfl rfl)
theorem dX1_laysPairs_95 : decode cX1_laysPairs 95 = .ok (.imul, 1) := dk_104 (dk_at dksX1_laysPairs_4 1 rfl rfl)
theorem dX1_laysPairs_96 : decode cX1_laysPairs 96 = .ok (.iload 4, 2) := dk_21 4 (dk_at dksX1_laysPairs_4 2 rfl rfl)
theorem dX1_laysPairs_98 : decode cX1_laysPairs 98 = .ok (.iadd, 1) := dk_96 (dk_at dksX1_laysPairs_4 4 rfl rfl)
theorem dX1_laysPairs_99 : decode cX1_laysPairs 99 = .ok (.iload_n 3, 1) := dk_29 (dk_at dksX1_laysPairs_4 5 rfl rfl)
theorem dX1_laysPairs_100 : decode cX1_laysPairs 100 = .ok (.iastore, 1) := dk_79 (dk_at dksX1_laysPairs_4 6 rfl rfl)
theorem dX1_laysPairs_101 : decode cX1_laysPairs 101 = .ok (.iinc 4 1, 3) := dk_132 4 1 (dk_at dksX1_laysPairs_4 7 rfl rfl)
theorem dX1_laysPairs_104 : decode cX1_laysPairs 104 = .ok (.goto (-99), 3) := dk_167 255 157 (dk_at dksX1_laysPairs_4 10 rfl rfl)
theorem dX1_laysPairs_107 : decode cX1_laysPairs 107 = .ok (.return_, 1) := dk_177 (dk_at dksX1_laysPairs_4 13 rfl rfl)
abbrev cX1_endOf : ByteArray := prog_1_method_16_code
def yX1_endOf : MethodName := ⟨RX1, "endOf", "(I)I"⟩
def dkwX1_endOf_0 : List UInt8 := [42, 180, 0, 20, 180, 0, 147, 42, 180, 0, 27, 27, 4, 96, 104, 184, 0, 190, 4, 100, 172]
abbrev dktX1_endOf_0 : List UInt8 := dkwX1_endOf_0 ++ []
theorem dksX1_endOf_0 : cX1_endOf.data.toList.drop 0 = dktX1_endOf_0 := by decide +kernel
theorem dX1_endOf_0 : decode cX1_endOf 0 = .ok (.aload_n 0, 1) := dk_42 (dk_at dksX1_endOf_0 0 rfl rfl)
theorem dX1_endOf_1 : decode cX1_endOf 1 = .ok (.getfield 20, 3) := dk_180 0 20 (dk_at dksX1_endOf_0 1 rfl rfl)
theorem dX1_endOf_4 : decode cX1_endOf 4 = .ok (.getfield 147, 3) := dk_180 0 147 (dk_at dksX1_endOf_0 4 rfl rfl)
theorem dX1_endOf_7 : decode cX1_endOf 7 = .ok (.aload_n 0, 1) := dk_42 (dk_at dksX1_endOf_0 7 rfl rfl)
theorem dX1_endOf_8 : decode cX1_endOf 8 = .ok (.getfield 27, 3) := dk_180 0 27 (dk_at dksX1_endOf_0 8 rfl rfl)
theorem dX1_endOf_11 : decode cX1_endOf 11 = .ok (.iload_n 1, 1) := dk_27 (dk_at dksX1_endOf_0 11 rfl rfl)
theorem dX1_endOf_12 : decode cX1_endOf 12 = .ok (.iconst 1, 1) := dk_4 (dk_at dksX1_endOf_0 12 rfl rfl)
theorem dX1_endOf_13 : decode cX1_endOf 13 = .ok (.iadd, 1) := dk_96 (dk_at dksX1_endOf_0 13 rfl rfl)
theorem dX1_endOf_14 : decode cX1_endOf 14 = .ok (.imul, 1) := dk_104 (dk_at dksX1_endOf_0 14 rfl rfl)
theorem dX1_endOf_15 : decode cX1_endOf 15 = .ok (.invokestatic 190, 3) := dk_184 0 190 (dk_at dksX1_endOf_0 15 rfl rfl)
theorem dX1_endOf_18 : decode cX1_endOf 18 = .ok (.iconst 1, 1) := dk_4 (dk_at dksX1_endOf_0 18 rfl rfl)
theorem dX1_endOf_19 : decode cX1_endOf 19 = .ok (.isub, 1) := dk_100 (dk_at dksX1_endOf_0 19 rfl rfl)
theorem dX1_endOf_20 : decode cX1_endOf 20 = .ok (.ireturn, 1) := dk_172 (dk_at dksX1_endOf_0 20 rfl rfl)
abbrev cX1_isAhead : ByteArray := prog_1_method_14_code
def yX1_isAhead : MethodName := ⟨RX1, "isAhead", "(IIIII)Z"⟩
def dkwX1_isAhead_3 : List UInt8 := [167, 0, 4, 3, 172]
abbrev dktX1_isAhead_3 : List UInt8 := dkwX1_isAhead_3 ++ []
def dkwX1_isAhead_2 : List UInt8 := [159, 0, 27, 42, 180, 0, 55, 21, 5, 50, 27, 28, 29, 21, 4, 185, 0, 186, 5, 0, 153, 0, 7, 4]
abbrev dktX1_isAhead_2 : List UInt8 := dkwX1_isAhead_2 ++ dktX1_isAhead_3
def dkwX1_isAhead_1 : List UInt8 := [54, 6, 21, 6, 153, 0, 16, 21, 6, 158, 0, 7, 4, 167, 0, 37, 3, 167, 0, 33, 27, 28]
abbrev dktX1_isAhead_1 : List UInt8 := dkwX1_isAhead_1 ++ dktX1_isAhead_2
def dkwX1_isAhead_0 : List UInt8 := [42, 27, 182, 0, 165, 29, 21, 4, 182, 0, 182, 42, 28, 182, 0, 165, 29, 21, 4, 182, 0, 182, 100]
abbrev dktX1_isAhead_0 : List UInt8 := dkwX1_isAhead_0 ++ dktX1_isAhead_1
theorem dksX1_isAhead_0 : cX1_isAhead.data.toList.drop 0 = dktX1_isAhead_0 := by decide +kernel
theorem dksX1_isAhead_1 : cX1_isAhead.data.toList.drop 23 = dktX1_isAhead_1 := dk_seg dksX1_isAhead_0 23 rfl rfl
theorem dksX1_isAhead_2 : cX1_isAhead.data.toList.drop 45 = dktX1_isAhead_2 := dk_seg dksX1_isAhead_1 22 rfl rfl
theorem dksX1_isAhead_3 : cX1_isAhead.data.toList.drop 69 = dktX1_isAhead_3 := dk_seg dksX1_isAhead_2 24 rfl rfl
theorem dX1_isAhead_0 : decode cX1_isAhead 0 = .ok (.aload_n 0, 1) := dk_42 (dk_at dksX1_isAhead_0 0 rfl rfl)
theorem dX1_isAhead_1 : decode cX1_isAhead 1 = .ok (.iload_n 1, 1) := dk_27 (dk_at dksX1_isAhead_0 1 rfl rfl)
theorem dX1_isAhead_2 : decode cX1_isAhead 2 = .ok (.invokevirtual 165, 3) := dk_182 0 165 (dk_at dksX1_isAhead_0 2 rfl rfl)
theorem dX1_isAhead_5 : decode cX1_isAhead 5 = .ok (.iload_n 3, 1) := dk_29 (dk_at dksX1_isAhead_0 5 rfl rfl)
theorem dX1_isAhead_6 : decode cX1_isAhead 6 = .ok (.iload 4, 2) := dk_21 4 (dk_at dksX1_isAhead_0 6 rfl rfl)
theorem dX1_isAhead_8 : decode cX1_isAhead 8 = .ok (.invokevirtual 182, 3) := dk_182 0 182 (dk_at dksX1_isAhead_0 8 rfl rfl)
theorem dX1_isAhead_11 : decode cX1_isAhead 11 = .ok (.aload_n 0, 1) := dk_42 (dk_at dksX1_isAhead_0 11 rfl rfl)
theorem dX1_isAhead_12 : decode cX1_isAhead 12 = .ok (.iload_n 2, 1) := dk_28 (dk_at dksX1_isAhead_0 12 rfl rfl)
theorem dX1_isAhead_13 : decode cX1_isAhead 13 = .ok (.invokevirtual 165, 3) := dk_182 0 165 (dk_at dksX1_isAhead_0 13 rfl rfl)
theorem dX1_isAhead_16 : decode cX1_isAhead 16 = .ok (.iload_n 3, 1) := dk_29 (dk_at dksX1_isAhead_0 16 rfl rfl)
theorem dX1_isAhead_17 : decode cX1_isAhead 17 = .ok (.iload 4, 2) := dk_21 4 (dk_at dksX1_isAhead_0 17 rfl rfl)
theorem dX1_isAhead_19 : decode cX1_isAhead 19 = .ok (.invokevirtual 182, 3) := dk_182 0 182 (dk_at dksX1_isAhead_0 19 rfl rfl)
theorem dX1_isAhead_22 : decode cX1_isAhead 22 = .ok (.isub, 1) := dk_100 (dk_at dksX1_isAhead_0 22 rfl rfl)
theorem dX1_isAhead_23 : decode cX1_isAhead 23 = .ok (.istore 6, 2) := dk_54 6 (dk_at dksX1_isAhead_1 0 rfl rfl)
theorem dX1_isAhead_25 : decode cX1_isAhead 25 = .ok (.iload 6, 2) := dk_21 6 (dk_at dksX1_isAhead_1 2 rfl rfl)
theorem dX1_isAhead_27 : decode cX1_isAhead 27 = .ok (.ifCond .eq 16, 3) := dk_153 0 16 (dk_at dksX1_isAhead_1 4 rfl rfl)
theorem dX1_isAhead_30 : decode cX1_isAhead 30 = .ok (.iload 6, 2) := dk_21 6 (dk_at dksX1_isAhead_1 7 rfl rfl)
theorem dX1_isAhead_32 : decode cX1_isAhead 32 = .ok (.ifCond .le 7, 3) := dk_158 0 7 (dk_at dksX1_isAhead_1 9 rfl rfl)
theorem dX1_isAhead_35 : decode cX1_isAhead 35 = .ok (.iconst 1, 1) := dk_4 (dk_at dksX1_isAhead_1 12 rfl rfl)
theorem dX1_isAhead_36 : decode cX1_isAhead 36 = .ok (.goto 37, 3) := dk_167 0 37 (dk_at dksX1_isAhead_1 13 rfl rfl)
theorem dX1_isAhead_39 : decode cX1_isAhead 39 = .ok (.iconst 0, 1) := dk_3 (dk_at dksX1_isAhead_1 16 rfl rfl)
theorem dX1_isAhead_40 : decode cX1_isAhead 40 = .ok (.goto 33, 3) := dk_167 0 33 (dk_at dksX1_isAhead_1 17 rfl rfl)
theorem dX1_isAhead_43 : decode cX1_isAhead 43 = .ok (.iload_n 1, 1) := dk_27 (dk_at dksX1_isAhead_1 20 rfl rfl)
theorem dX1_isAhead_44 : decode cX1_isAhead 44 = .ok (.iload_n 2, 1) := dk_28 (dk_at dksX1_isAhead_1 21 rfl rfl)
theorem dX1_isAhead_45 : decode cX1_isAhead 45 = .ok (.if_icmp .eq 27, 3) := dk_159 0 27 (dk_at dksX1_isAhead_2 0 rfl rfl)
theorem dX1_isAhead_48 : decode cX1_isAhead 48 = .ok (.aload_n 0, 1) := dk_42 (dk_at dksX1_isAhead_2 3 rfl rfl)
theorem dX1_isAhead_49 : decode cX1_isAhead 49 = .ok (.getfield 55, 3) := dk_180 0 55 (dk_at dksX1_isAhead_2 4 rfl rfl)
theorem dX1_isAhead_52 : decode cX1_isAhead 52 = .ok (.iload 5, 2) := dk_21 5 (dk_at dksX1_isAhead_2 7 rfl rfl)
theorem dX1_isAhead_54 : decode cX1_isAhead 54 = .ok (.aaload, 1) := dk_50 (dk_at dksX1_isAhead_2 9 rfl rfl)
theorem dX1_isAhead_55 : decode cX1_isAhead 55 = .ok (.iload_n 1, 1) := dk_27 (dk_at dksX1_isAhead_2 10 rfl rfl)
theorem dX1_isAhead_56 : decode cX1_isAhead 56 = .ok (.iload_n 2, 1) := dk_28 (dk_at dksX1_isAhead_2 11 rfl rfl)
theorem dX1_isAhead_57 : decode cX1_isAhead 57 = .ok (.iload_n 3, 1) := dk_29 (dk_at dksX1_isAhead_2 12 rfl rfl)
theorem dX1_isAhead_58 : decode cX1_isAhead 58 = .ok (.iload 4, 2) := dk_21 4 (dk_at dksX1_isAhead_2 13 rfl rfl)
theorem dX1_isAhead_60 : decode cX1_isAhead 60 = .ok (.invokeinterface 186 5, 5) := by decide +kernel
theorem dX1_isAhead_65 : decode cX1_isAhead 65 = .ok (.ifCond .eq 7, 3) := dk_153 0 7 (dk_at dksX1_isAhead_2 20 rfl rfl)
theorem dX1_isAhead_68 : decode cX1_isAhead 68 = .ok (.iconst 1, 1) := dk_4 (dk_at dksX1_isAhead_2 23 rfl rfl)
theorem dX1_isAhead_69 : decode cX1_isAhead 69 = .ok (.goto 4, 3) := dk_167 0 4 (dk_at dksX1_isAhead_3 0 rfl rfl)
theorem dX1_isAhead_72 : decode cX1_isAhead 72 = .ok (.iconst 0, 1) := dk_3 (dk_at dksX1_isAhead_3 3 rfl rfl)
theorem dX1_isAhead_73 : decode cX1_isAhead 73 = .ok (.ireturn, 1) := dk_172 (dk_at dksX1_isAhead_3 4 rfl rfl)
abbrev cX1_of : ByteArray := prog_1_method_6_code
def yX1_of : MethodName := ⟨RX1, "of", "(I)LModeDesk$Places;"⟩
def dkwX1_of_0 : List UInt8 := [42, 180, 0, 35, 27, 50, 199, 0, 9, 178, 0, 140, 167, 0, 9, 42, 180, 0, 35, 27, 50, 176]
abbrev dktX1_of_0 : List UInt8 := dkwX1_of_0 ++ []
theorem dksX1_of_0 : cX1_of.data.toList.drop 0 = dktX1_of_0 := by decide +kernel
theorem dX1_of_0 : decode cX1_of 0 = .ok (.aload_n 0, 1) := dk_42 (dk_at dksX1_of_0 0 rfl rfl)
theorem dX1_of_1 : decode cX1_of 1 = .ok (.getfield 35, 3) := dk_180 0 35 (dk_at dksX1_of_0 1 rfl rfl)
theorem dX1_of_4 : decode cX1_of 4 = .ok (.iload_n 1, 1) := dk_27 (dk_at dksX1_of_0 4 rfl rfl)
theorem dX1_of_5 : decode cX1_of 5 = .ok (.aaload, 1) := dk_50 (dk_at dksX1_of_0 5 rfl rfl)
theorem dX1_of_6 : decode cX1_of 6 = .ok (.ifnonnull 9, 3) := dk_199 0 9 (dk_at dksX1_of_0 6 rfl rfl)
theorem dX1_of_9 : decode cX1_of 9 = .ok (.getstatic 140, 3) := dk_178 0 140 (dk_at dksX1_of_0 9 rfl rfl)
theorem dX1_of_12 : decode cX1_of 12 = .ok (.goto 9, 3) := dk_167 0 9 (dk_at dksX1_of_0 12 rfl rfl)
theorem dX1_of_15 : decode cX1_of 15 = .ok (.aload_n 0, 1) := dk_42 (dk_at dksX1_of_0 15 rfl rfl)
theorem dX1_of_16 : decode cX1_of 16 = .ok (.getfield 35, 3) := dk_180 0 35 (dk_at dksX1_of_0 16 rfl rfl)
theorem dX1_of_19 : decode cX1_of 19 = .ok (.iload_n 1, 1) := dk_27 (dk_at dksX1_of_0 19 rfl rfl)
theorem dX1_of_20 : decode cX1_of 20 = .ok (.aaload, 1) := dk_50 (dk_at dksX1_of_0 20 rfl rfl)
theorem dX1_of_21 : decode cX1_of 21 = .ok (.areturn, 1) := dk_176 (dk_at dksX1_of_0 21 rfl rfl)
abbrev cX1_firstOf : ByteArray := prog_1_method_12_code
def yX1_firstOf : MethodName := ⟨RX1, "firstOf", "(II)I"⟩
def dkwX1_firstOf_0 : List UInt8 := [42, 27, 182, 0, 165, 180, 0, 176, 42, 27, 182, 0, 165, 28, 182, 0, 169, 46, 172]
abbrev dktX1_firstOf_0 : List UInt8 := dkwX1_firstOf_0 ++ []
theorem dksX1_firstOf_0 : cX1_firstOf.data.toList.drop 0 = dktX1_firstOf_0 := by decide +kernel
theorem dX1_firstOf_0 : decode cX1_firstOf 0 = .ok (.aload_n 0, 1) := dk_42 (dk_at dksX1_firstOf_0 0 rfl rfl)
theorem dX1_firstOf_1 : decode cX1_firstOf 1 = .ok (.iload_n 1, 1) := dk_27 (dk_at dksX1_firstOf_0 1 rfl rfl)
theorem dX1_firstOf_2 : decode cX1_firstOf 2 = .ok (.invokevirtual 165, 3) := dk_182 0 165 (dk_at dksX1_firstOf_0 2 rfl rfl)
theorem dX1_firstOf_5 : decode cX1_firstOf 5 = .ok (.getfield 176, 3) := dk_180 0 176 (dk_at dksX1_firstOf_0 5 rfl rfl)
theorem dX1_firstOf_8 : decode cX1_firstOf 8 = .ok (.aload_n 0, 1) := dk_42 (dk_at dksX1_firstOf_0 8 rfl rfl)
theorem dX1_firstOf_9 : decode cX1_firstOf 9 = .ok (.iload_n 1, 1) := dk_27 (dk_at dksX1_firstOf_0 9 rfl rfl)
theorem dX1_firstOf_10 : decode cX1_firstOf 10 = .ok (.invokevirtual 165, 3) := dk_182 0 165 (dk_at dksX1_firstOf_0 10 rfl rfl)
theorem dX1_firstOf_13 : decode cX1_firstOf 13 = .ok (.iload_n 2, 1) := dk_28 (dk_at dksX1_firstOf_0 13 rfl rfl)
theorem dX1_firstOf_14 : decode cX1_firstOf 14 = .ok (.invokevirtual 169, 3) := dk_182 0 169 (dk_at dksX1_firstOf_0 14 rfl rfl)
theorem dX1_firstOf_17 : decode cX1_firstOf 17 = .ok (.iaload, 1) := dk_46 (dk_at dksX1_firstOf_0 17 rfl rfl)
theorem dX1_firstOf_18 : decode cX1_firstOf 18 = .ok (.ireturn, 1) := dk_172 (dk_at dksX1_firstOf_0 18 rfl rfl)
abbrev cX1_lastOf : ByteArray := prog_1_method_13_code
def yX1_lastOf : MethodName := ⟨RX1, "lastOf", "(II)I"⟩
def dkwX1_lastOf_0 : List UInt8 := [42, 27, 182, 0, 165, 180, 0, 176, 42, 27, 182, 0, 165, 28, 4, 96, 182, 0, 169, 4, 100, 46, 172]
abbrev dktX1_lastOf_0 : List UInt8 := dkwX1_lastOf_0 ++ []
theorem dksX1_lastOf_0 : cX1_lastOf.data.toList.drop 0 = dktX1_lastOf_0 := by decide +kernel
theorem dX1_lastOf_0 : decode cX1_lastOf 0 = .ok (.aload_n 0, 1) := dk_42 (dk_at dksX1_lastOf_0 0 rfl rfl)
theorem dX1_lastOf_1 : decode cX1_lastOf 1 = .ok (.iload_n 1, 1) := dk_27 (dk_at dksX1_lastOf_0 1 rfl rfl)
theorem dX1_lastOf_2 : decode cX1_lastOf 2 = .ok (.invokevirtual 165, 3) := dk_182 0 165 (dk_at dksX1_lastOf_0 2 rfl rfl)
theorem dX1_lastOf_5 : decode cX1_lastOf 5 = .ok (.getfield 176, 3) := dk_180 0 176 (dk_at dksX1_lastOf_0 5 rfl rfl)
theorem dX1_lastOf_8 : decode cX1_lastOf 8 = .ok (.aload_n 0, 1) := dk_42 (dk_at dksX1_lastOf_0 8 rfl rfl)
theorem dX1_lastOf_9 : decode cX1_lastOf 9 = .ok (.iload_n 1, 1) := dk_27 (dk_at dksX1_lastOf_0 9 rfl rfl)
theorem dX1_lastOf_10 : decode cX1_lastOf 10 = .ok (.invokevirtual 165, 3) := dk_182 0 165 (dk_at dksX1_lastOf_0 10 rfl rfl)
theorem dX1_lastOf_13 : decode cX1_lastOf 13 = .ok (.iload_n 2, 1) := dk_28 (dk_at dksX1_lastOf_0 13 rfl rfl)
theorem dX1_lastOf_14 : decode cX1_lastOf 14 = .ok (.iconst 1, 1) := dk_4 (dk_at dksX1_lastOf_0 14 rfl rfl)
theorem dX1_lastOf_15 : decode cX1_lastOf 15 = .ok (.iadd, 1) := dk_96 (dk_at dksX1_lastOf_0 15 rfl rfl)
theorem dX1_lastOf_16 : decode cX1_lastOf 16 = .ok (.invokevirtual 169, 3) := dk_182 0 169 (dk_at dksX1_lastOf_0 16 rfl rfl)
theorem dX1_lastOf_19 : decode cX1_lastOf 19 = .ok (.iconst 1, 1) := dk_4 (dk_at dksX1_lastOf_0 19 rfl rfl)
theorem dX1_lastOf_20 : decode cX1_lastOf 20 = .ok (.isub, 1) := dk_100 (dk_at dksX1_lastOf_0 20 rfl rfl)
theorem dX1_lastOf_21 : decode cX1_lastOf 21 = .ok (.iaload, 1) := dk_46 (dk_at dksX1_lastOf_0 21 rfl rfl)
theorem dX1_lastOf_22 : decode cX1_lastOf 22 = .ok (.ireturn, 1) := dk_172 (dk_at dksX1_lastOf_0 22 rfl rfl)
abbrev cX1_fault : ByteArray := prog_1_method_5_code
def yX1_fault : MethodName := ⟨RX1, "fault", "(I)I"⟩
def dkwX1_fault_1 : List UInt8 := [172]
abbrev dktX1_fault_1 : List UInt8 := dkwX1_fault_1 ++ []
def dkwX1_fault_0 : List UInt8 := [27, 154, 0, 10, 42, 180, 0, 93, 167, 0, 16, 27, 4, 160, 0, 10, 42, 180, 0, 13, 167, 0, 4, 2]
abbrev dktX1_fault_0 : List UInt8 := dkwX1_fault_0 ++ dktX1_fault_1
theorem dksX1_fault_0 : cX1_fault.data.toList.drop 0 = dktX1_fault_0 := by decide +kernel
theorem dksX1_fault_1 : cX1_fault.data.toList.drop 24 = dktX1_fault_1 := dk_seg dksX1_fault_0 24 rfl rfl
theorem dX1_fault_0 : decode cX1_fault 0 = .ok (.iload_n 1, 1) := dk_27 (dk_at dksX1_fault_0 0 rfl rfl)
theorem dX1_fault_1 : decode cX1_fault 1 = .ok (.ifCond .ne 10, 3) := dk_154 0 10 (dk_at dksX1_fault_0 1 rfl rfl)
theorem dX1_fault_4 : decode cX1_fault 4 = .ok (.aload_n 0, 1) := dk_42 (dk_at dksX1_fault_0 4 rfl rfl)
theorem dX1_fault_5 : decode cX1_fault 5 = .ok (.getfield 93, 3) := dk_180 0 93 (dk_at dksX1_fault_0 5 rfl rfl)
theorem dX1_fault_8 : decode cX1_fault 8 = .ok (.goto 16, 3) := dk_167 0 16 (dk_at dksX1_fault_0 8 rfl rfl)
theorem dX1_fault_11 : decode cX1_fault 11 = .ok (.iload_n 1, 1) := dk_27 (dk_at dksX1_fault_0 11 rfl rfl)
theorem dX1_fault_12 : decode cX1_fault 12 = .ok (.iconst 1, 1) := dk_4 (dk_at dksX1_fault_0 12 rfl rfl)
theorem dX1_fault_13 : decode cX1_fault 13 = .ok (.if_icmp .ne 10, 3) := dk_160 0 10 (dk_at dksX1_fault_0 13 rfl rfl)
theorem dX1_fault_16 : decode cX1_fault 16 = .ok (.aload_n 0, 1) := dk_42 (dk_at dksX1_fault_0 16 rfl rfl)
theorem dX1_fault_17 : decode cX1_fault 17 = .ok (.getfield 13, 3) := dk_180 0 13 (dk_at dksX1_fault_0 17 rfl rfl)
theorem dX1_fault_20 : decode cX1_fault 20 = .ok (.goto 4, 3) := dk_167 0 4 (dk_at dksX1_fault_0 20 rfl rfl)
theorem dX1_fault_23 : decode cX1_fault 23 = .ok (.iconst (-1), 1) := dk_2 (dk_at dksX1_fault_0 23 rfl rfl)
theorem dX1_fault_24 : decode cX1_fault 24 = .ok (.ireturn, 1) := dk_172 (dk_at dksX1_fault_1 0 rfl rfl)
abbrev cX1_refreshed : ByteArray := prog_1_method_23_code
def yX1_refreshed : MethodName := ⟨RX1, "refreshed", "()I"⟩
theorem dX1_refreshed_0 : decode cX1_refreshed 0 = .ok (.aload_n 0, 1) := by decide +kernel
theorem dX1_refreshed_1 : decode cX1_refreshed 1 = .ok (.getfield 30, 3) := by decide +kernel
theorem dX1_refreshed_4 : decode cX1_refreshed 4 = .ok (.ireturn, 1) := by decide +kernel
abbrev cX1_set : ByteArray := prog_1_method_24_code
def yX1_set : MethodName := ⟨RX1, "set", "(II)I"⟩
def dkwX1_set_1 : List UInt8 := [180, 0, 20, 180, 0, 148, 27, 28, 79, 42, 182, 0, 225, 62, 42, 180, 0, 24, 180, 0, 148, 27, 46, 172]
abbrev dktX1_set_1 : List UInt8 := dkwX1_set_1 ++ []
def dkwX1_set_0 : List UInt8 := [42, 27, 182, 0, 158, 153, 0, 10, 28, 184, 0, 219, 154, 0, 5, 2, 172, 42, 182, 0, 222, 42]
abbrev dktX1_set_0 : List UInt8 := dkwX1_set_0 ++ dktX1_set_1
theorem dksX1_set_0 : cX1_set.data.toList.drop 0 = dktX1_set_0 := by decide +kernel
theorem dksX1_set_1 : cX1_set.data.toList.drop 22 = dktX1_set_1 := dk_seg dksX1_set_0 22 rfl rfl
theorem dX1_set_0 : decode cX1_set 0 = .ok (.aload_n 0, 1) := dk_42 (dk_at dksX1_set_0 0 rfl rfl)
theorem dX1_set_1 : decode cX1_set 1 = .ok (.iload_n 1, 1) := dk_27 (dk_at dksX1_set_0 1 rfl rfl)
theorem dX1_set_2 : decode cX1_set 2 = .ok (.invokevirtual 158, 3) := dk_182 0 158 (dk_at dksX1_set_0 2 rfl rfl)
theorem dX1_set_5 : decode cX1_set 5 = .ok (.ifCond .eq 10, 3) := dk_153 0 10 (dk_at dksX1_set_0 5 rfl rfl)
theorem dX1_set_8 : decode cX1_set 8 = .ok (.iload_n 2, 1) := dk_28 (dk_at dksX1_set_0 8 rfl rfl)
theorem dX1_set_9 : decode cX1_set 9 = .ok (.invokestatic 219, 3) := dk_184 0 219 (dk_at dksX1_set_0 9 rfl rfl)
theorem dX1_set_12 : decode cX1_set 12 = .ok (.ifCond .ne 5, 3) := dk_154 0 5 (dk_at dksX1_set_0 12 rfl rfl)
theorem dX1_set_15 : decode cX1_set 15 = .ok (.iconst (-1), 1) := dk_2 (dk_at dksX1_set_0 15 rfl rfl)
theorem dX1_set_16 : decode cX1_set 16 = .ok (.ireturn, 1) := dk_172 (dk_at dksX1_set_0 16 rfl rfl)
theorem dX1_set_17 : decode cX1_set 17 = .ok (.aload_n 0, 1) := dk_42 (dk_at dksX1_set_0 17 rfl rfl)
theorem dX1_set_18 : decode cX1_set 18 = .ok (.invokevirtual 222, 3) := dk_182 0 222 (dk_at dksX1_set_0 18 rfl rfl)
theorem dX1_set_21 : decode cX1_set 21 = .ok (.aload_n 0, 1) := dk_42 (dk_at dksX1_set_0 21 rfl rfl)
theorem dX1_set_22 : decode cX1_set 22 = .ok (.getfield 20, 3) := dk_180 0 20 (dk_at dksX1_set_1 0 rfl rfl)
theorem dX1_set_25 : decode cX1_set 25 = .ok (.getfield 148, 3) := dk_180 0 148 (dk_at dksX1_set_1 3 rfl rfl)
theorem dX1_set_28 : decode cX1_set 28 = .ok (.iload_n 1, 1) := dk_27 (dk_at dksX1_set_1 6 rfl rfl)
theorem dX1_set_29 : decode cX1_set 29 = .ok (.iload_n 2, 1) := dk_28 (dk_at dksX1_set_1 7 rfl rfl)
theorem dX1_set_30 : decode cX1_set 30 = .ok (.iastore, 1) := dk_79 (dk_at dksX1_set_1 8 rfl rfl)
theorem dX1_set_31 : decode cX1_set 31 = .ok (.aload_n 0, 1) := dk_42 (dk_at dksX1_set_1 9 rfl rfl)
theorem dX1_set_32 : decode cX1_set 32 = .ok (.invokevirtual 225, 3) := dk_182 0 225 (dk_at dksX1_set_1 10 rfl rfl)
theorem dX1_set_35 : decode cX1_set 35 = .ok (.istore_n 3, 1) := dk_62 (dk_at dksX1_set_1 13 rfl rfl)
theorem dX1_set_36 : decode cX1_set 36 = .ok (.aload_n 0, 1) := dk_42 (dk_at dksX1_set_1 14 rfl rfl)
theorem dX1_set_37 : decode cX1_set 37 = .ok (.getfield 24, 3) := dk_180 0 24 (dk_at dksX1_set_1 15 rfl rfl)
theorem dX1_set_40 : decode cX1_set 40 = .ok (.getfield 148, 3) := dk_180 0 148 (dk_at dksX1_set_1 18 rfl rfl)
theorem dX1_set_43 : decode cX1_set 43 = .ok (.iload_n 1, 1) := dk_27 (dk_at dksX1_set_1 21 rfl rfl)
theorem dX1_set_44 : decode cX1_set 44 = .ok (.iaload, 1) := dk_46 (dk_at dksX1_set_1 22 rfl rfl)
theorem dX1_set_45 : decode cX1_set 45 = .ok (.ireturn, 1) := dk_172 (dk_at dksX1_set_1 23 rfl rfl)
abbrev cX1_isPlace : ByteArray := prog_1_method_8_code
def yX1_isPlace : MethodName := ⟨RX1, "isPlace", "(I)Z"⟩
def dkwX1_isPlace_0 : List UInt8 := [27, 133, 9, 42, 180, 0, 20, 180, 0, 147, 4, 100, 133, 184, 0, 89, 172]
abbrev dktX1_isPlace_0 : List UInt8 := dkwX1_isPlace_0 ++ []
theorem dksX1_isPlace_0 : cX1_isPlace.data.toList.drop 0 = dktX1_isPlace_0 := by decide +kernel
theorem dX1_isPlace_0 : decode cX1_isPlace 0 = .ok (.iload_n 1, 1) := dk_27 (dk_at dksX1_isPlace_0 0 rfl rfl)
theorem dX1_isPlace_1 : decode cX1_isPlace 1 = .ok (.i2l, 1) := dk_133 (dk_at dksX1_isPlace_0 1 rfl rfl)
theorem dX1_isPlace_2 : decode cX1_isPlace 2 = .ok (.lconst 0, 1) := dk_9 (dk_at dksX1_isPlace_0 2 rfl rfl)
theorem dX1_isPlace_3 : decode cX1_isPlace 3 = .ok (.aload_n 0, 1) := dk_42 (dk_at dksX1_isPlace_0 3 rfl rfl)
theorem dX1_isPlace_4 : decode cX1_isPlace 4 = .ok (.getfield 20, 3) := dk_180 0 20 (dk_at dksX1_isPlace_0 4 rfl rfl)
theorem dX1_isPlace_7 : decode cX1_isPlace 7 = .ok (.getfield 147, 3) := dk_180 0 147 (dk_at dksX1_isPlace_0 7 rfl rfl)
theorem dX1_isPlace_10 : decode cX1_isPlace 10 = .ok (.iconst 1, 1) := dk_4 (dk_at dksX1_isPlace_0 10 rfl rfl)
theorem dX1_isPlace_11 : decode cX1_isPlace 11 = .ok (.isub, 1) := dk_100 (dk_at dksX1_isPlace_0 11 rfl rfl)
theorem dX1_isPlace_12 : decode cX1_isPlace 12 = .ok (.i2l, 1) := dk_133 (dk_at dksX1_isPlace_0 12 rfl rfl)
theorem dX1_isPlace_13 : decode cX1_isPlace 13 = .ok (.invokestatic 89, 3) := dk_184 0 89 (dk_at dksX1_isPlace_0 13 rfl rfl)
theorem dX1_isPlace_16 : decode cX1_isPlace 16 = .ok (.ireturn, 1) := dk_172 (dk_at dksX1_isPlace_0 16 rfl rfl)
abbrev cX1_isValue : ByteArray := prog_1_method_9_code
def yX1_isValue : MethodName := ⟨RX1, "isValue", "(I)Z"⟩
def dkwX1_isValue_0 : List UInt8 := [26, 133, 9, 20, 0, 156, 184, 0, 89, 172]
abbrev dktX1_isValue_0 : List UInt8 := dkwX1_isValue_0 ++ []
theorem dksX1_isValue_0 : cX1_isValue.data.toList.drop 0 = dktX1_isValue_0 := by decide +kernel
theorem dX1_isValue_0 : decode cX1_isValue 0 = .ok (.iload_n 0, 1) := dk_26 (dk_at dksX1_isValue_0 0 rfl rfl)
theorem dX1_isValue_1 : decode cX1_isValue 1 = .ok (.i2l, 1) := dk_133 (dk_at dksX1_isValue_0 1 rfl rfl)
theorem dX1_isValue_2 : decode cX1_isValue 2 = .ok (.lconst 0, 1) := dk_9 (dk_at dksX1_isValue_0 2 rfl rfl)
theorem dX1_isValue_3 : decode cX1_isValue 3 = .ok (.ldc2_w 156, 3) := dk_20 0 156 (dk_at dksX1_isValue_0 3 rfl rfl)
theorem dX1_isValue_6 : decode cX1_isValue 6 = .ok (.invokestatic 89, 3) := dk_184 0 89 (dk_at dksX1_isValue_0 6 rfl rfl)
theorem dX1_isValue_9 : decode cX1_isValue 9 = .ok (.ireturn, 1) := dk_172 (dk_at dksX1_isValue_0 9 rfl rfl)
abbrev cX1_begins : ByteArray := prog_1_method_18_code
def yX1_begins : MethodName := ⟨RX1, "begins", "()V"⟩
def dkwX1_begins_0 : List UInt8 := [42, 180, 0, 24, 42, 180, 0, 20, 182, 0, 113, 87, 177]
abbrev dktX1_begins_0 : List UInt8 := dkwX1_begins_0 ++ []
theorem dksX1_begins_0 : cX1_begins.data.toList.drop 0 = dktX1_begins_0 := by decide +kernel
theorem dX1_begins_0 : decode cX1_begins 0 = .ok (.aload_n 0, 1) := dk_42 (dk_at dksX1_begins_0 0 rfl rfl)
theorem dX1_begins_1 : decode cX1_begins 1 = .ok (.getfield 24, 3) := dk_180 0 24 (dk_at dksX1_begins_0 1 rfl rfl)
theorem dX1_begins_4 : decode cX1_begins 4 = .ok (.aload_n 0, 1) := dk_42 (dk_at dksX1_begins_0 4 rfl rfl)
theorem dX1_begins_5 : decode cX1_begins 5 = .ok (.getfield 20, 3) := dk_180 0 20 (dk_at dksX1_begins_0 5 rfl rfl)
theorem dX1_begins_8 : decode cX1_begins 8 = .ok (.invokevirtual 113, 3) := dk_182 0 113 (dk_at dksX1_begins_0 8 rfl rfl)
theorem dX1_begins_11 : decode cX1_begins 11 = .ok (.pop, 1) := dk_87 (dk_at dksX1_begins_0 11 rfl rfl)
theorem dX1_begins_12 : decode cX1_begins 12 = .ok (.return_, 1) := dk_177 (dk_at dksX1_begins_0 12 rfl rfl)
abbrev cX1_ends : ByteArray := prog_1_method_20_code
def yX1_ends : MethodName := ⟨RX1, "ends", "()I"⟩
def dkwX1_ends_1 : List UInt8 := [42, 180, 0, 20, 42, 180, 0, 24, 182, 0, 212, 172]
abbrev dktX1_ends_1 : List UInt8 := dkwX1_ends_1 ++ []
def dkwX1_ends_0 : List UInt8 := [42, 180, 0, 20, 42, 180, 0, 24, 182, 0, 202, 153, 0, 5, 3, 172, 42, 182, 0, 206, 42, 182, 0, 209]
abbrev dktX1_ends_0 : List UInt8 := dkwX1_ends_0 ++ dktX1_ends_1
theorem dksX1_ends_0 : cX1_ends.data.toList.drop 0 = dktX1_ends_0 := by decide +kernel
theorem dksX1_ends_1 : cX1_ends.data.toList.drop 24 = dktX1_ends_1 := dk_seg dksX1_ends_0 24 rfl rfl
theorem dX1_ends_0 : decode cX1_ends 0 = .ok (.aload_n 0, 1) := dk_42 (dk_at dksX1_ends_0 0 rfl rfl)
theorem dX1_ends_1 : decode cX1_ends 1 = .ok (.getfield 20, 3) := dk_180 0 20 (dk_at dksX1_ends_0 1 rfl rfl)
theorem dX1_ends_4 : decode cX1_ends 4 = .ok (.aload_n 0, 1) := dk_42 (dk_at dksX1_ends_0 4 rfl rfl)
theorem dX1_ends_5 : decode cX1_ends 5 = .ok (.getfield 24, 3) := dk_180 0 24 (dk_at dksX1_ends_0 5 rfl rfl)
theorem dX1_ends_8 : decode cX1_ends 8 = .ok (.invokevirtual 202, 3) := dk_182 0 202 (dk_at dksX1_ends_0 8 rfl rfl)
theorem dX1_ends_11 : decode cX1_ends 11 = .ok (.ifCond .eq 5, 3) := dk_153 0 5 (dk_at dksX1_ends_0 11 rfl rfl)
theorem dX1_ends_14 : decode cX1_ends 14 = .ok (.iconst 0, 1) := dk_3 (dk_at dksX1_ends_0 14 rfl rfl)
theorem dX1_ends_15 : decode cX1_ends 15 = .ok (.ireturn, 1) := dk_172 (dk_at dksX1_ends_0 15 rfl rfl)
theorem dX1_ends_16 : decode cX1_ends 16 = .ok (.aload_n 0, 1) := dk_42 (dk_at dksX1_ends_0 16 rfl rfl)
theorem dX1_ends_17 : decode cX1_ends 17 = .ok (.invokevirtual 206, 3) := dk_182 0 206 (dk_at dksX1_ends_0 17 rfl rfl)
theorem dX1_ends_20 : decode cX1_ends 20 = .ok (.aload_n 0, 1) := dk_42 (dk_at dksX1_ends_0 20 rfl rfl)
theorem dX1_ends_21 : decode cX1_ends 21 = .ok (.invokevirtual 209, 3) := dk_182 0 209 (dk_at dksX1_ends_0 21 rfl rfl)
theorem dX1_ends_24 : decode cX1_ends 24 = .ok (.aload_n 0, 1) := dk_42 (dk_at dksX1_ends_1 0 rfl rfl)
theorem dX1_ends_25 : decode cX1_ends 25 = .ok (.getfield 20, 3) := dk_180 0 20 (dk_at dksX1_ends_1 1 rfl rfl)
theorem dX1_ends_28 : decode cX1_ends 28 = .ok (.aload_n 0, 1) := dk_42 (dk_at dksX1_ends_1 4 rfl rfl)
theorem dX1_ends_29 : decode cX1_ends 29 = .ok (.getfield 24, 3) := dk_180 0 24 (dk_at dksX1_ends_1 5 rfl rfl)
theorem dX1_ends_32 : decode cX1_ends 32 = .ok (.invokevirtual 212, 3) := dk_182 0 212 (dk_at dksX1_ends_1 8 rfl rfl)
theorem dX1_ends_35 : decode cX1_ends 35 = .ok (.ireturn, 1) := dk_172 (dk_at dksX1_ends_1 11 rfl rfl)
abbrev cX1_keeps : ByteArray := prog_1_method_19_code
def yX1_keeps : MethodName := ⟨RX1, "keeps", "()V"⟩
def dkwX1_keeps_3 : List UInt8 := [180, 0, 24, 182, 0, 113, 87, 42, 89, 180, 0, 126, 4, 96, 181, 0, 126, 177]
abbrev dktX1_keeps_3 : List UInt8 := dkwX1_keeps_3 ++ []
def dkwX1_keeps_2 : List UInt8 := [16, 11, 43, 83, 42, 89, 180, 0, 126, 4, 100, 181, 0, 126, 42, 180, 0, 63, 42, 180, 0, 126, 50, 42]
abbrev dktX1_keeps_2 : List UInt8 := dkwX1_keeps_2 ++ dktX1_keeps_3
def dkwX1_keeps_1 : List UInt8 := [42, 180, 0, 63, 28, 4, 100, 42, 180, 0, 63, 28, 50, 83, 132, 2, 1, 167, 255, 233, 42, 180, 0, 63]
abbrev dktX1_keeps_1 : List UInt8 := dkwX1_keeps_1 ++ dktX1_keeps_2
def dkwX1_keeps_0 : List UInt8 := [42, 180, 0, 126, 16, 12, 160, 0, 56, 42, 180, 0, 63, 3, 50, 76, 4, 61, 28, 16, 12, 162, 0, 23]
abbrev dktX1_keeps_0 : List UInt8 := dkwX1_keeps_0 ++ dktX1_keeps_1
theorem dksX1_keeps_0 : cX1_keeps.data.toList.drop 0 = dktX1_keeps_0 := by decide +kernel
theorem dksX1_keeps_1 : cX1_keeps.data.toList.drop 24 = dktX1_keeps_1 := dk_seg dksX1_keeps_0 24 rfl rfl
theorem dksX1_keeps_2 : cX1_keeps.data.toList.drop 48 = dktX1_keeps_2 := dk_seg dksX1_keeps_1 24 rfl rfl
theorem dksX1_keeps_3 : cX1_keeps.data.toList.drop 72 = dktX1_keeps_3 := dk_seg dksX1_keeps_2 24 rfl rfl
theorem dX1_keeps_0 : decode cX1_keeps 0 = .ok (.aload_n 0, 1) := dk_42 (dk_at dksX1_keeps_0 0 rfl rfl)
theorem dX1_keeps_1 : decode cX1_keeps 1 = .ok (.getfield 126, 3) := dk_180 0 126 (dk_at dksX1_keeps_0 1 rfl rfl)
theorem dX1_keeps_4 : decode cX1_keeps 4 = .ok (.bipush 12, 2) := dk_16 12 (dk_at dksX1_keeps_0 4 rfl rfl)
theorem dX1_keeps_6 : decode cX1_keeps 6 = .ok (.if_icmp .ne 56, 3) := dk_160 0 56 (dk_at dksX1_keeps_0 6 rfl rfl)
theorem dX1_keeps_9 : decode cX1_keeps 9 = .ok (.aload_n 0, 1) := dk_42 (dk_at dksX1_keeps_0 9 rfl rfl)
theorem dX1_keeps_10 : decode cX1_keeps 10 = .ok (.getfield 63, 3) := dk_180 0 63 (dk_at dksX1_keeps_0 10 rfl rfl)
theorem dX1_keeps_13 : decode cX1_keeps 13 = .ok (.iconst 0, 1) := dk_3 (dk_at dksX1_keeps_0 13 rfl rfl)
theorem dX1_keeps_14 : decode cX1_keeps 14 = .ok (.aaload, 1) := dk_50 (dk_at dksX1_keeps_0 14 rfl rfl)
theorem dX1_keeps_15 : decode cX1_keeps 15 = .ok (.astore_n 1, 1) := dk_76 (dk_at dksX1_keeps_0 15 rfl rfl)
theorem dX1_keeps_16 : decode cX1_keeps 16 = .ok (.iconst 1, 1) := dk_4 (dk_at dksX1_keeps_0 16 rfl rfl)
theorem dX1_keeps_17 : decode cX1_keeps 17 = .ok (.istore_n 2, 1) := dk_61 (dk_at dksX1_keeps_0 17 rfl rfl)
theorem dX1_keeps_18 : decode cX1_keeps 18 = .ok (.iload_n 2, 1) := dk_28 (dk_at dksX1_keeps_0 18 rfl rfl)
theorem dX1_keeps_19 : decode cX1_keeps 19 = .ok (.bipush 12, 2) := dk_16 12 (dk_at dksX1_keeps_0 19 rfl rfl)
theorem dX1_keeps_21 : decode cX1_keeps 21 = .ok (.if_icmp .ge 23, 3) := dk_162 0 23 (dk_at dksX1_keeps_0 21 rfl rfl)
theorem dX1_keeps_24 : decode cX1_keeps 24 = .ok (.aload_n 0, 1) := dk_42 (dk_at dksX1_keeps_1 0 rfl rfl)
theorem dX1_keeps_25 : decode cX1_keeps 25 = .ok (.getfield 63, 3) := dk_180 0 63 (dk_at dksX1_keeps_1 1 rfl rfl)
theorem dX1_keeps_28 : decode cX1_keeps 28 = .ok (.iload_n 2, 1) := dk_28 (dk_at dksX1_keeps_1 4 rfl rfl)
theorem dX1_keeps_29 : decode cX1_keeps 29 = .ok (.iconst 1, 1) := dk_4 (dk_at dksX1_keeps_1 5 rfl rfl)
theorem dX1_keeps_30 : decode cX1_keeps 30 = .ok (.isub, 1) := dk_100 (dk_at dksX1_keeps_1 6 rfl rfl)
theorem dX1_keeps_31 : decode cX1_keeps 31 = .ok (.aload_n 0, 1) := dk_42 (dk_at dksX1_keeps_1 7 rfl rfl)
theorem dX1_keeps_32 : decode cX1_keeps 32 = .ok (.getfield 63, 3) := dk_180 0 63 (dk_at dksX1_keeps_1 8 rfl rfl)
theorem dX1_keeps_35 : decode cX1_keeps 35 = .ok (.iload_n 2, 1) := dk_28 (dk_at dksX1_keeps_1 11 rfl rfl)
theorem dX1_keeps_36 : decode cX1_keeps 36 = .ok (.aaload, 1) := dk_50 (dk_at dksX1_keeps_1 12 rfl rfl)
theorem dX1_keeps_37 : decode cX1_keeps 37 = .ok (.aastore, 1) := dk_83 (dk_at dksX1_keeps_1 13 rfl rfl)
theorem dX1_keeps_38 : decode cX1_keeps 38 = .ok (.iinc 2 1, 3) := dk_132 2 1 (dk_at dksX1_keeps_1 14 rfl rfl)
theorem dX1_keeps_41 : decode cX1_keeps 41 = .ok (.goto (-23), 3) := dk_167 255 233 (dk_at dksX1_keeps_1 17 rfl rfl)
theorem dX1_keeps_44 : decode cX1_keeps 44 = .ok (.aload_n 0, 1) := dk_42 (dk_at dksX1_keeps_1 20 rfl rfl)
theorem dX1_keeps_45 : decode cX1_keeps 45 = .ok (.getfield 63, 3) := dk_180 0 63 (dk_at dksX1_keeps_1 21 rfl rfl)
theorem dX1_keeps_48 : decode cX1_keeps 48 = .ok (.bipush 11, 2) := dk_16 11 (dk_at dksX1_keeps_2 0 rfl rfl)
theorem dX1_keeps_50 : decode cX1_keeps 50 = .ok (.aload_n 1, 1) := dk_43 (dk_at dksX1_keeps_2 2 rfl rfl)
theorem dX1_keeps_51 : decode cX1_keeps 51 = .ok (.aastore, 1) := dk_83 (dk_at dksX1_keeps_2 3 rfl rfl)
theorem dX1_keeps_52 : decode cX1_keeps 52 = .ok (.aload_n 0, 1) := dk_42 (dk_at dksX1_keeps_2 4 rfl rfl)
theorem dX1_keeps_53 : decode cX1_keeps 53 = .ok (.dup, 1) := dk_89 (dk_at dksX1_keeps_2 5 rfl rfl)
theorem dX1_keeps_54 : decode cX1_keeps 54 = .ok (.getfield 126, 3) := dk_180 0 126 (dk_at dksX1_keeps_2 6 rfl rfl)
theorem dX1_keeps_57 : decode cX1_keeps 57 = .ok (.iconst 1, 1) := dk_4 (dk_at dksX1_keeps_2 9 rfl rfl)
theorem dX1_keeps_58 : decode cX1_keeps 58 = .ok (.isub, 1) := dk_100 (dk_at dksX1_keeps_2 10 rfl rfl)
theorem dX1_keeps_59 : decode cX1_keeps 59 = .ok (.putfield 126, 3) := dk_181 0 126 (dk_at dksX1_keeps_2 11 rfl rfl)
theorem dX1_keeps_62 : decode cX1_keeps 62 = .ok (.aload_n 0, 1) := dk_42 (dk_at dksX1_keeps_2 14 rfl rfl)
theorem dX1_keeps_63 : decode cX1_keeps 63 = .ok (.getfield 63, 3) := dk_180 0 63 (dk_at dksX1_keeps_2 15 rfl rfl)
theorem dX1_keeps_66 : decode cX1_keeps 66 = .ok (.aload_n 0, 1) := dk_42 (dk_at dksX1_keeps_2 18 rfl rfl)
theorem dX1_keeps_67 : decode cX1_keeps 67 = .ok (.getfield 126, 3) := dk_180 0 126 (dk_at dksX1_keeps_2 19 rfl rfl)
theorem dX1_keeps_70 : decode cX1_keeps 70 = .ok (.aaload, 1) := dk_50 (dk_at dksX1_keeps_2 22 rfl rfl)
theorem dX1_keeps_71 : decode cX1_keeps 71 = .ok (.aload_n 0, 1) := dk_42 (dk_at dksX1_keeps_2 23 rfl rfl)
theorem dX1_keeps_72 : decode cX1_keeps 72 = .ok (.getfield 24, 3) := dk_180 0 24 (dk_at dksX1_keeps_3 0 rfl rfl)
theorem dX1_keeps_75 : decode cX1_keeps 75 = .ok (.invokevirtual 113, 3) := dk_182 0 113 (dk_at dksX1_keeps_3 3 rfl rfl)
theorem dX1_keeps_78 : decode cX1_keeps 78 = .ok (.pop, 1) := dk_87 (dk_at dksX1_keeps_3 6 rfl rfl)
theorem dX1_keeps_79 : decode cX1_keeps 79 = .ok (.aload_n 0, 1) := dk_42 (dk_at dksX1_keeps_3 7 rfl rfl)
theorem dX1_keeps_80 : decode cX1_keeps 80 = .ok (.dup, 1) := dk_89 (dk_at dksX1_keeps_3 8 rfl rfl)
theorem dX1_keeps_81 : decode cX1_keeps 81 = .ok (.getfield 126, 3) := dk_180 0 126 (dk_at dksX1_keeps_3 9 rfl rfl)
theorem dX1_keeps_84 : decode cX1_keeps 84 = .ok (.iconst 1, 1) := dk_4 (dk_at dksX1_keeps_3 12 rfl rfl)
theorem dX1_keeps_85 : decode cX1_keeps 85 = .ok (.iadd, 1) := dk_96 (dk_at dksX1_keeps_3 13 rfl rfl)
theorem dX1_keeps_86 : decode cX1_keeps 86 = .ok (.putfield 126, 3) := dk_181 0 126 (dk_at dksX1_keeps_3 14 rfl rfl)
theorem dX1_keeps_89 : decode cX1_keeps 89 = .ok (.return_, 1) := dk_177 (dk_at dksX1_keeps_3 17 rfl rfl)
abbrev cX1_refreshes : ByteArray := prog_1_method_22_code
def yX1_refreshes : MethodName := ⟨RX1, "refreshes", "()V"⟩
def dkwX1_refreshes_3 : List UInt8 := [177]
abbrev dktX1_refreshes_3 : List UInt8 := dkwX1_refreshes_3 ++ []
def dkwX1_refreshes_2 : List UInt8 := [96, 181, 0, 30, 27, 42, 182, 0, 132, 162, 0, 9, 42, 28, 27, 182, 0, 136, 132, 2, 255, 167, 255, 210]
abbrev dktX1_refreshes_2 : List UInt8 := dkwX1_refreshes_2 ++ dktX1_refreshes_3
def dkwX1_refreshes_1 : List UInt8 := [155, 0, 48, 42, 28, 182, 0, 216, 153, 0, 5, 28, 60, 42, 89, 180, 0, 30, 42, 182, 0, 132, 27, 100]
abbrev dktX1_refreshes_1 : List UInt8 := dkwX1_refreshes_1 ++ dktX1_refreshes_2
def dkwX1_refreshes_0 : List UInt8 := [42, 182, 0, 129, 42, 3, 181, 0, 30, 42, 182, 0, 132, 60, 42, 182, 0, 132, 4, 100, 61, 28]
abbrev dktX1_refreshes_0 : List UInt8 := dkwX1_refreshes_0 ++ dktX1_refreshes_1
theorem dksX1_refreshes_0 : cX1_refreshes.data.toList.drop 0 = dktX1_refreshes_0 := by decide +kernel
theorem dksX1_refreshes_1 : cX1_refreshes.data.toList.drop 22 = dktX1_refreshes_1 := dk_seg dksX1_refreshes_0 22 rfl rfl
theorem dksX1_refreshes_2 : cX1_refreshes.data.toList.drop 46 = dktX1_refreshes_2 := dk_seg dksX1_refreshes_1 24 rfl rfl
theorem dksX1_refreshes_3 : cX1_refreshes.data.toList.drop 70 = dktX1_refreshes_3 := dk_seg dksX1_refreshes_2 24 rfl rfl
theorem dX1_refreshes_0 : decode cX1_refreshes 0 = .ok (.aload_n 0, 1) := dk_42 (dk_at dksX1_refreshes_0 0 rfl rfl)
theorem dX1_refreshes_1 : decode cX1_refreshes 1 = .ok (.invokevirtual 129, 3) := dk_182 0 129 (dk_at dksX1_refreshes_0 1 rfl rfl)
theorem dX1_refreshes_4 : decode cX1_refreshes 4 = .ok (.aload_n 0, 1) := dk_42 (dk_at dksX1_refreshes_0 4 rfl rfl)
theorem dX1_refreshes_5 : decode cX1_refreshes 5 = .ok (.iconst 0, 1) := dk_3 (dk_at dksX1_refreshes_0 5 rfl rfl)
theorem dX1_refreshes_6 : decode cX1_refreshes 6 = .ok (.putfield 30, 3) := dk_181 0 30 (dk_at dksX1_refreshes_0 6 rfl rfl)
theorem dX1_refreshes_9 : decode cX1_refreshes 9 = .ok (.aload_n 0, 1) := dk_42 (dk_at dksX1_refreshes_0 9 rfl rfl)
theorem dX1_refreshes_10 : decode cX1_refreshes 10 = .ok (.invokevirtual 132, 3) := dk_182 0 132 (dk_at dksX1_refreshes_0 10 rfl rfl)
theorem dX1_refreshes_13 : decode cX1_refreshes 13 = .ok (.istore_n 1, 1) := dk_60 (dk_at dksX1_refreshes_0 13 rfl rfl)
theorem dX1_refreshes_14 : decode cX1_refreshes 14 = .ok (.aload_n 0, 1) := dk_42 (dk_at dksX1_refreshes_0 14 rfl rfl)
theorem dX1_refreshes_15 : decode cX1_refreshes 15 = .ok (.invokevirtual 132, 3) := dk_182 0 132 (dk_at dksX1_refreshes_0 15 rfl rfl)
theorem dX1_refreshes_18 : decode cX1_refreshes 18 = .ok (.iconst 1, 1) := dk_4 (dk_at dksX1_refreshes_0 18 rfl rfl)
theorem dX1_refreshes_19 : decode cX1_refreshes 19 = .ok (.isub, 1) := dk_100 (dk_at dksX1_refreshes_0 19 rfl rfl)
theorem dX1_refreshes_20 : decode cX1_refreshes 20 = .ok (.istore_n 2, 1) := dk_61 (dk_at dksX1_refreshes_0 20 rfl rfl)
theorem dX1_refreshes_21 : decode cX1_refreshes 21 = .ok (.iload_n 2, 1) := dk_28 (dk_at dksX1_refreshes_0 21 rfl rfl)
theorem dX1_refreshes_22 : decode cX1_refreshes 22 = .ok (.ifCond .lt 48, 3) := dk_155 0 48 (dk_at dksX1_refreshes_1 0 rfl rfl)
theorem dX1_refreshes_25 : decode cX1_refreshes 25 = .ok (.aload_n 0, 1) := dk_42 (dk_at dksX1_refreshes_1 3 rfl rfl)
theorem dX1_refreshes_26 : decode cX1_refreshes 26 = .ok (.iload_n 2, 1) := dk_28 (dk_at dksX1_refreshes_1 4 rfl rfl)
theorem dX1_refreshes_27 : decode cX1_refreshes 27 = .ok (.invokevirtual 216, 3) := dk_182 0 216 (dk_at dksX1_refreshes_1 5 rfl rfl)
theorem dX1_refreshes_30 : decode cX1_refreshes 30 = .ok (.ifCond .eq 5, 3) := dk_153 0 5 (dk_at dksX1_refreshes_1 8 rfl rfl)
theorem dX1_refreshes_33 : decode cX1_refreshes 33 = .ok (.iload_n 2, 1) := dk_28 (dk_at dksX1_refreshes_1 11 rfl rfl)
theorem dX1_refreshes_34 : decode cX1_refreshes 34 = .ok (.istore_n 1, 1) := dk_60 (dk_at dksX1_refreshes_1 12 rfl rfl)
theorem dX1_refreshes_35 : decode cX1_refreshes 35 = .ok (.aload_n 0, 1) := dk_42 (dk_at dksX1_refreshes_1 13 rfl rfl)
theorem dX1_refreshes_36 : decode cX1_refreshes 36 = .ok (.dup, 1) := dk_89 (dk_at dksX1_refreshes_1 14 rfl rfl)
theorem dX1_refreshes_37 : decode cX1_refreshes 37 = .ok (.getfield 30, 3) := dk_180 0 30 (dk_at dksX1_refreshes_1 15 rfl rfl)
theorem dX1_refreshes_40 : decode cX1_refreshes 40 = .ok (.aload_n 0, 1) := dk_42 (dk_at dksX1_refreshes_1 18 rfl rfl)
theorem dX1_refreshes_41 : decode cX1_refreshes 41 = .ok (.invokevirtual 132, 3) := dk_182 0 132 (dk_at dksX1_refreshes_1 19 rfl rfl)
theorem dX1_refreshes_44 : decode cX1_refreshes 44 = .ok (.iload_n 1, 1) := dk_27 (dk_at dksX1_refreshes_1 22 rfl rfl)
theorem dX1_refreshes_45 : decode cX1_refreshes 45 = .ok (.isub, 1) := dk_100 (dk_at dksX1_refreshes_1 23 rfl rfl)
theorem dX1_refreshes_46 : decode cX1_refreshes 46 = .ok (.iadd, 1) := dk_96 (dk_at dksX1_refreshes_2 0 rfl rfl)
theorem dX1_refreshes_47 : decode cX1_refreshes 47 = .ok (.putfield 30, 3) := dk_181 0 30 (dk_at dksX1_refreshes_2 1 rfl rfl)
theorem dX1_refreshes_50 : decode cX1_refreshes 50 = .ok (.iload_n 1, 1) := dk_27 (dk_at dksX1_refreshes_2 4 rfl rfl)
theorem dX1_refreshes_51 : decode cX1_refreshes 51 = .ok (.aload_n 0, 1) := dk_42 (dk_at dksX1_refreshes_2 5 rfl rfl)
theorem dX1_refreshes_52 : decode cX1_refreshes 52 = .ok (.invokevirtual 132, 3) := dk_182 0 132 (dk_at dksX1_refreshes_2 6 rfl rfl)
theorem dX1_refreshes_55 : decode cX1_refreshes 55 = .ok (.if_icmp .ge 9, 3) := dk_162 0 9 (dk_at dksX1_refreshes_2 9 rfl rfl)
theorem dX1_refreshes_58 : decode cX1_refreshes 58 = .ok (.aload_n 0, 1) := dk_42 (dk_at dksX1_refreshes_2 12 rfl rfl)
theorem dX1_refreshes_59 : decode cX1_refreshes 59 = .ok (.iload_n 2, 1) := dk_28 (dk_at dksX1_refreshes_2 13 rfl rfl)
theorem dX1_refreshes_60 : decode cX1_refreshes 60 = .ok (.iload_n 1, 1) := dk_27 (dk_at dksX1_refreshes_2 14 rfl rfl)
theorem dX1_refreshes_61 : decode cX1_refreshes 61 = .ok (.invokevirtual 136, 3) := dk_182 0 136 (dk_at dksX1_refreshes_2 15 rfl rfl)
theorem dX1_refreshes_64 : decode cX1_refreshes 64 = .ok (.iinc 2 (-1), 3) := dk_132 2 255 (dk_at dksX1_refreshes_2 18 rfl rfl)
theorem dX1_refreshes_67 : decode cX1_refreshes 67 = .ok (.goto (-46), 3) := dk_167 255 210 (dk_at dksX1_refreshes_2 21 rfl rfl)
theorem dX1_refreshes_70 : decode cX1_refreshes 70 = .ok (.return_, 1) := dk_177 (dk_at dksX1_refreshes_3 0 rfl rfl)
abbrev cX1_isFresh : ByteArray := prog_1_method_21_code
def yX1_isFresh : MethodName := ⟨RX1, "isFresh", "(I)Z"⟩
def dkwX1_isFresh_3 : List UInt8 := [184, 0, 190, 4, 100, 42, 27, 182, 0, 195, 164, 0, 7, 4, 167, 0, 4, 3, 172]
abbrev dktX1_isFresh_3 : List UInt8 := dkwX1_isFresh_3 ++ []
def dkwX1_isFresh_2 : List UInt8 := [4, 172, 132, 2, 1, 167, 255, 210, 42, 180, 0, 24, 180, 0, 147, 42, 180, 0, 27, 27, 4, 96, 104]
abbrev dktX1_isFresh_2 : List UInt8 := dkwX1_isFresh_2 ++ dktX1_isFresh_3
def dkwX1_isFresh_1 : List UInt8 := [162, 0, 24, 42, 180, 0, 20, 180, 0, 148, 28, 46, 42, 180, 0, 24, 180, 0, 148, 28, 46, 159, 0, 5]
abbrev dktX1_isFresh_1 : List UInt8 := dkwX1_isFresh_1 ++ dktX1_isFresh_2
def dkwX1_isFresh_0 : List UInt8 := [42, 180, 0, 27, 27, 104, 61, 28, 42, 27, 182, 0, 195, 163, 0, 43, 28, 42, 180, 0, 24, 180, 0, 147]
abbrev dktX1_isFresh_0 : List UInt8 := dkwX1_isFresh_0 ++ dktX1_isFresh_1
theorem dksX1_isFresh_0 : cX1_isFresh.data.toList.drop 0 = dktX1_isFresh_0 := by decide +kernel
theorem dksX1_isFresh_1 : cX1_isFresh.data.toList.drop 24 = dktX1_isFresh_1 := dk_seg dksX1_isFresh_0 24 rfl rfl
theorem dksX1_isFresh_2 : cX1_isFresh.data.toList.drop 48 = dktX1_isFresh_2 := dk_seg dksX1_isFresh_1 24 rfl rfl
theorem dksX1_isFresh_3 : cX1_isFresh.data.toList.drop 71 = dktX1_isFresh_3 := dk_seg dksX1_isFresh_2 23 rfl rfl
theorem dX1_isFresh_0 : decode cX1_isFresh 0 = .ok (.aload_n 0, 1) := dk_42 (dk_at dksX1_isFresh_0 0 rfl rfl)
theorem dX1_isFresh_1 : decode cX1_isFresh 1 = .ok (.getfield 27, 3) := dk_180 0 27 (dk_at dksX1_isFresh_0 1 rfl rfl)
theorem dX1_isFresh_4 : decode cX1_isFresh 4 = .ok (.iload_n 1, 1) := dk_27 (dk_at dksX1_isFresh_0 4 rfl rfl)
theorem dX1_isFresh_5 : decode cX1_isFresh 5 = .ok (.imul, 1) := dk_104 (dk_at dksX1_isFresh_0 5 rfl rfl)
theorem dX1_isFresh_6 : decode cX1_isFresh 6 = .ok (.istore_n 2, 1) := dk_61 (dk_at dksX1_isFresh_0 6 rfl rfl)
theorem dX1_isFresh_7 : decode cX1_isFresh 7 = .ok (.iload_n 2, 1) := dk_28 (dk_at dksX1_isFresh_0 7 rfl rfl)
theorem dX1_isFresh_8 : decode cX1_isFresh 8 = .ok (.aload_n 0, 1) := dk_42 (dk_at dksX1_isFresh_0 8 rfl rfl)
theorem dX1_isFresh_9 : decode cX1_isFresh 9 = .ok (.iload_n 1, 1) := dk_27 (dk_at dksX1_isFresh_0 9 rfl rfl)
theorem dX1_isFresh_10 : decode cX1_isFresh 10 = .ok (.invokevirtual 195, 3) := dk_182 0 195 (dk_at dksX1_isFresh_0 10 rfl rfl)
theorem dX1_isFresh_13 : decode cX1_isFresh 13 = .ok (.if_icmp .gt 43, 3) := dk_163 0 43 (dk_at dksX1_isFresh_0 13 rfl rfl)
theorem dX1_isFresh_16 : decode cX1_isFresh 16 = .ok (.iload_n 2, 1) := dk_28 (dk_at dksX1_isFresh_0 16 rfl rfl)
theorem dX1_isFresh_17 : decode cX1_isFresh 17 = .ok (.aload_n 0, 1) := dk_42 (dk_at dksX1_isFresh_0 17 rfl rfl)
theorem dX1_isFresh_18 : decode cX1_isFresh 18 = .ok (.getfield 24, 3) := dk_180 0 24 (dk_at dksX1_isFresh_0 18 rfl rfl)
theorem dX1_isFresh_21 : decode cX1_isFresh 21 = .ok (.getfield 147, 3) := dk_180 0 147 (dk_at dksX1_isFresh_0 21 rfl rfl)
theorem dX1_isFresh_24 : decode cX1_isFresh 24 = .ok (.if_icmp .ge 24, 3) := dk_162 0 24 (dk_at dksX1_isFresh_1 0 rfl rfl)
theorem dX1_isFresh_27 : decode cX1_isFresh 27 = .ok (.aload_n 0, 1) := dk_42 (dk_at dksX1_isFresh_1 3 rfl rfl)
theorem dX1_isFresh_28 : decode cX1_isFresh 28 = .ok (.getfield 20, 3) := dk_180 0 20 (dk_at dksX1_isFresh_1 4 rfl rfl)
theorem dX1_isFresh_31 : decode cX1_isFresh 31 = .ok (.getfield 148, 3) := dk_180 0 148 (dk_at dksX1_isFresh_1 7 rfl rfl)
theorem dX1_isFresh_34 : decode cX1_isFresh 34 = .ok (.iload_n 2, 1) := dk_28 (dk_at dksX1_isFresh_1 10 rfl rfl)
theorem dX1_isFresh_35 : decode cX1_isFresh 35 = .ok (.iaload, 1) := dk_46 (dk_at dksX1_isFresh_1 11 rfl rfl)
theorem dX1_isFresh_36 : decode cX1_isFresh 36 = .ok (.aload_n 0, 1) := dk_42 (dk_at dksX1_isFresh_1 12 rfl rfl)
theorem dX1_isFresh_37 : decode cX1_isFresh 37 = .ok (.getfield 24, 3) := dk_180 0 24 (dk_at dksX1_isFresh_1 13 rfl rfl)
theorem dX1_isFresh_40 : decode cX1_isFresh 40 = .ok (.getfield 148, 3) := dk_180 0 148 (dk_at dksX1_isFresh_1 16 rfl rfl)
theorem dX1_isFresh_43 : decode cX1_isFresh 43 = .ok (.iload_n 2, 1) := dk_28 (dk_at dksX1_isFresh_1 19 rfl rfl)
theorem dX1_isFresh_44 : decode cX1_isFresh 44 = .ok (.iaload, 1) := dk_46 (dk_at dksX1_isFresh_1 20 rfl rfl)
theorem dX1_isFresh_45 : decode cX1_isFresh 45 = .ok (.if_icmp .eq 5, 3) := dk_159 0 5 (dk_at dksX1_isFresh_1 21 rfl rfl)
theorem dX1_isFresh_48 : decode cX1_isFresh 48 = .ok (.iconst 1, 1) := dk_4 (dk_at dksX1_isFresh_2 0 rfl rfl)
theorem dX1_isFresh_49 : decode cX1_isFresh 49 = .ok (.ireturn, 1) := dk_172 (dk_at dksX1_isFresh_2 1 rfl rfl)
theorem dX1_isFresh_50 : decode cX1_isFresh 50 = .ok (.iinc 2 1, 3) := dk_132 2 1 (dk_at dksX1_isFresh_2 2 rfl rfl)
theorem dX1_isFresh_53 : decode cX1_isFresh 53 = .ok (.goto (-46), 3) := dk_167 255 210 (dk_at dksX1_isFresh_2 5 rfl rfl)
theorem dX1_isFresh_56 : decode cX1_isFresh 56 = .ok (.aload_n 0, 1) := dk_42 (dk_at dksX1_isFresh_2 8 rfl rfl)
theorem dX1_isFresh_57 : decode cX1_isFresh 57 = .ok (.getfield 24, 3) := dk_180 0 24 (dk_at dksX1_isFresh_2 9 rfl rfl)
theorem dX1_isFresh_60 : decode cX1_isFresh 60 = .ok (.getfield 147, 3) := dk_180 0 147 (dk_at dksX1_isFresh_2 12 rfl rfl)
theorem dX1_isFresh_63 : decode cX1_isFresh 63 = .ok (.aload_n 0, 1) := dk_42 (dk_at dksX1_isFresh_2 15 rfl rfl)
theorem dX1_isFresh_64 : decode cX1_isFresh 64 = .ok (.getfield 27, 3) := dk_180 0 27 (dk_at dksX1_isFresh_2 16 rfl rfl)
theorem dX1_isFresh_67 : decode cX1_isFresh 67 = .ok (.iload_n 1, 1) := dk_27 (dk_at dksX1_isFresh_2 19 rfl rfl)
theorem dX1_isFresh_68 : decode cX1_isFresh 68 = .ok (.iconst 1, 1) := dk_4 (dk_at dksX1_isFresh_2 20 rfl rfl)
theorem dX1_isFresh_69 : decode cX1_isFresh 69 = .ok (.iadd, 1) := dk_96 (dk_at dksX1_isFresh_2 21 rfl rfl)
theorem dX1_isFresh_70 : decode cX1_isFresh 70 = .ok (.imul, 1) := dk_104 (dk_at dksX1_isFresh_2 22 rfl rfl)
theorem dX1_isFresh_71 : decode cX1_isFresh 71 = .ok (.invokestatic 190, 3) := dk_184 0 190 (dk_at dksX1_isFresh_3 0 rfl rfl)
theorem dX1_isFresh_74 : decode cX1_isFresh 74 = .ok (.iconst 1, 1) := dk_4 (dk_at dksX1_isFresh_3 3 rfl rfl)
theorem dX1_isFresh_75 : decode cX1_isFresh 75 = .ok (.isub, 1) := dk_100 (dk_at dksX1_isFresh_3 4 rfl rfl)
theorem dX1_isFresh_76 : decode cX1_isFresh 76 = .ok (.aload_n 0, 1) := dk_42 (dk_at dksX1_isFresh_3 5 rfl rfl)
theorem dX1_isFresh_77 : decode cX1_isFresh 77 = .ok (.iload_n 1, 1) := dk_27 (dk_at dksX1_isFresh_3 6 rfl rfl)
theorem dX1_isFresh_78 : decode cX1_isFresh 78 = .ok (.invokevirtual 195, 3) := dk_182 0 195 (dk_at dksX1_isFresh_3 7 rfl rfl)
theorem dX1_isFresh_81 : decode cX1_isFresh 81 = .ok (.if_icmp .le 7, 3) := dk_164 0 7 (dk_at dksX1_isFresh_3 10 rfl rfl)
theorem dX1_isFresh_84 : decode cX1_isFresh 84 = .ok (.iconst 1, 1) := dk_4 (dk_at dksX1_isFresh_3 13 rfl rfl)
theorem dX1_isFresh_85 : decode cX1_isFresh 85 = .ok (.goto 4, 3) := dk_167 0 4 (dk_at dksX1_isFresh_3 14 rfl rfl)
theorem dX1_isFresh_88 : decode cX1_isFresh 88 = .ok (.iconst 0, 1) := dk_3 (dk_at dksX1_isFresh_3 17 rfl rfl)
theorem dX1_isFresh_89 : decode cX1_isFresh 89 = .ok (.ireturn, 1) := dk_172 (dk_at dksX1_isFresh_3 18 rfl rfl)
abbrev cX1_weigh : ByteArray := prog_1_method_25_code
def yX1_weigh : MethodName := ⟨RX1, "weigh", "(II)I"⟩
def dkwX1_weigh_2 : List UInt8 := [180, 0, 173, 27, 46, 172]
abbrev dktX1_weigh_2 : List UInt8 := dkwX1_weigh_2 ++ []
def dkwX1_weigh_1 : List UInt8 := [182, 0, 222, 42, 180, 0, 20, 180, 0, 173, 27, 28, 79, 42, 182, 0, 225, 62, 42, 180, 0, 24]
abbrev dktX1_weigh_1 : List UInt8 := dkwX1_weigh_1 ++ dktX1_weigh_2
def dkwX1_weigh_0 : List UInt8 := [42, 27, 182, 0, 158, 153, 0, 15, 28, 133, 10, 20, 0, 228, 184, 0, 89, 154, 0, 5, 2, 172, 42]
abbrev dktX1_weigh_0 : List UInt8 := dkwX1_weigh_0 ++ dktX1_weigh_1
theorem dksX1_weigh_0 : cX1_weigh.data.toList.drop 0 = dktX1_weigh_0 := by decide +kernel
theorem dksX1_weigh_1 : cX1_weigh.data.toList.drop 23 = dktX1_weigh_1 := dk_seg dksX1_weigh_0 23 rfl rfl
theorem dksX1_weigh_2 : cX1_weigh.data.toList.drop 45 = dktX1_weigh_2 := dk_seg dksX1_weigh_1 22 rfl rfl
theorem dX1_weigh_0 : decode cX1_weigh 0 = .ok (.aload_n 0, 1) := dk_42 (dk_at dksX1_weigh_0 0 rfl rfl)
theorem dX1_weigh_1 : decode cX1_weigh 1 = .ok (.iload_n 1, 1) := dk_27 (dk_at dksX1_weigh_0 1 rfl rfl)
theorem dX1_weigh_2 : decode cX1_weigh 2 = .ok (.invokevirtual 158, 3) := dk_182 0 158 (dk_at dksX1_weigh_0 2 rfl rfl)
theorem dX1_weigh_5 : decode cX1_weigh 5 = .ok (.ifCond .eq 15, 3) := dk_153 0 15 (dk_at dksX1_weigh_0 5 rfl rfl)
theorem dX1_weigh_8 : decode cX1_weigh 8 = .ok (.iload_n 2, 1) := dk_28 (dk_at dksX1_weigh_0 8 rfl rfl)
theorem dX1_weigh_9 : decode cX1_weigh 9 = .ok (.i2l, 1) := dk_133 (dk_at dksX1_weigh_0 9 rfl rfl)
theorem dX1_weigh_10 : decode cX1_weigh 10 = .ok (.lconst 1, 1) := dk_10 (dk_at dksX1_weigh_0 10 rfl rfl)
theorem dX1_weigh_11 : decode cX1_weigh 11 = .ok (.ldc2_w 228, 3) := dk_20 0 228 (dk_at dksX1_weigh_0 11 rfl rfl)
theorem dX1_weigh_14 : decode cX1_weigh 14 = .ok (.invokestatic 89, 3) := dk_184 0 89 (dk_at dksX1_weigh_0 14 rfl rfl)
theorem dX1_weigh_17 : decode cX1_weigh 17 = .ok (.ifCond .ne 5, 3) := dk_154 0 5 (dk_at dksX1_weigh_0 17 rfl rfl)
theorem dX1_weigh_20 : decode cX1_weigh 20 = .ok (.iconst (-1), 1) := dk_2 (dk_at dksX1_weigh_0 20 rfl rfl)
theorem dX1_weigh_21 : decode cX1_weigh 21 = .ok (.ireturn, 1) := dk_172 (dk_at dksX1_weigh_0 21 rfl rfl)
theorem dX1_weigh_22 : decode cX1_weigh 22 = .ok (.aload_n 0, 1) := dk_42 (dk_at dksX1_weigh_0 22 rfl rfl)
theorem dX1_weigh_23 : decode cX1_weigh 23 = .ok (.invokevirtual 222, 3) := dk_182 0 222 (dk_at dksX1_weigh_1 0 rfl rfl)
theorem dX1_weigh_26 : decode cX1_weigh 26 = .ok (.aload_n 0, 1) := dk_42 (dk_at dksX1_weigh_1 3 rfl rfl)
theorem dX1_weigh_27 : decode cX1_weigh 27 = .ok (.getfield 20, 3) := dk_180 0 20 (dk_at dksX1_weigh_1 4 rfl rfl)
theorem dX1_weigh_30 : decode cX1_weigh 30 = .ok (.getfield 173, 3) := dk_180 0 173 (dk_at dksX1_weigh_1 7 rfl rfl)
theorem dX1_weigh_33 : decode cX1_weigh 33 = .ok (.iload_n 1, 1) := dk_27 (dk_at dksX1_weigh_1 10 rfl rfl)
theorem dX1_weigh_34 : decode cX1_weigh 34 = .ok (.iload_n 2, 1) := dk_28 (dk_at dksX1_weigh_1 11 rfl rfl)
theorem dX1_weigh_35 : decode cX1_weigh 35 = .ok (.iastore, 1) := dk_79 (dk_at dksX1_weigh_1 12 rfl rfl)
theorem dX1_weigh_36 : decode cX1_weigh 36 = .ok (.aload_n 0, 1) := dk_42 (dk_at dksX1_weigh_1 13 rfl rfl)
theorem dX1_weigh_37 : decode cX1_weigh 37 = .ok (.invokevirtual 225, 3) := dk_182 0 225 (dk_at dksX1_weigh_1 14 rfl rfl)
theorem dX1_weigh_40 : decode cX1_weigh 40 = .ok (.istore_n 3, 1) := dk_62 (dk_at dksX1_weigh_1 17 rfl rfl)
theorem dX1_weigh_41 : decode cX1_weigh 41 = .ok (.aload_n 0, 1) := dk_42 (dk_at dksX1_weigh_1 18 rfl rfl)
theorem dX1_weigh_42 : decode cX1_weigh 42 = .ok (.getfield 24, 3) := dk_180 0 24 (dk_at dksX1_weigh_1 19 rfl rfl)
theorem dX1_weigh_45 : decode cX1_weigh 45 = .ok (.getfield 173, 3) := dk_180 0 173 (dk_at dksX1_weigh_2 0 rfl rfl)
theorem dX1_weigh_48 : decode cX1_weigh 48 = .ok (.iload_n 1, 1) := dk_27 (dk_at dksX1_weigh_2 3 rfl rfl)
theorem dX1_weigh_49 : decode cX1_weigh 49 = .ok (.iaload, 1) := dk_46 (dk_at dksX1_weigh_2 4 rfl rfl)
theorem dX1_weigh_50 : decode cX1_weigh 50 = .ok (.ireturn, 1) := dk_172 (dk_at dksX1_weigh_2 5 rfl rfl)
abbrev cX1_insert : ByteArray := prog_1_method_26_code
def yX1_insert : MethodName := ⟨RX1, "insert", "(II)I"⟩
def dkwX1_insert_2 : List UInt8 := [182, 0, 230, 42, 182, 0, 225, 62, 42, 180, 0, 20, 180, 0, 147, 172]
abbrev dktX1_insert_2 : List UInt8 := dkwX1_insert_2 ++ []
def dkwX1_insert_1 : List UInt8 := [42, 180, 0, 20, 180, 0, 147, 16, 120, 160, 0, 5, 2, 172, 42, 182, 0, 222, 42, 180, 0, 20, 27, 28]
abbrev dktX1_insert_1 : List UInt8 := dkwX1_insert_1 ++ dktX1_insert_2
def dkwX1_insert_0 : List UInt8 := [27, 133, 9, 42, 180, 0, 20, 180, 0, 147, 133, 184, 0, 89, 153, 0, 22, 28, 184, 0, 219, 153, 0, 15]
abbrev dktX1_insert_0 : List UInt8 := dkwX1_insert_0 ++ dktX1_insert_1
theorem dksX1_insert_0 : cX1_insert.data.toList.drop 0 = dktX1_insert_0 := by decide +kernel
theorem dksX1_insert_1 : cX1_insert.data.toList.drop 24 = dktX1_insert_1 := dk_seg dksX1_insert_0 24 rfl rfl
theorem dksX1_insert_2 : cX1_insert.data.toList.drop 48 = dktX1_insert_2 := dk_seg dksX1_insert_1 24 rfl rfl
theorem dX1_insert_0 : decode cX1_insert 0 = .ok (.iload_n 1, 1) := dk_27 (dk_at dksX1_insert_0 0 rfl rfl)
theorem dX1_insert_1 : decode cX1_insert 1 = .ok (.i2l, 1) := dk_133 (dk_at dksX1_insert_0 1 rfl rfl)
theorem dX1_insert_2 : decode cX1_insert 2 = .ok (.lconst 0, 1) := dk_9 (dk_at dksX1_insert_0 2 rfl rfl)
theorem dX1_insert_3 : decode cX1_insert 3 = .ok (.aload_n 0, 1) := dk_42 (dk_at dksX1_insert_0 3 rfl rfl)
theorem dX1_insert_4 : decode cX1_insert 4 = .ok (.getfield 20, 3) := dk_180 0 20 (dk_at dksX1_insert_0 4 rfl rfl)
theorem dX1_insert_7 : decode cX1_insert 7 = .ok (.getfield 147, 3) := dk_180 0 147 (dk_at dksX1_insert_0 7 rfl rfl)
theorem dX1_insert_10 : decode cX1_insert 10 = .ok (.i2l, 1) := dk_133 (dk_at dksX1_insert_0 10 rfl rfl)
theorem dX1_insert_11 : decode cX1_insert 11 = .ok (.invokestatic 89, 3) := dk_184 0 89 (dk_at dksX1_insert_0 11 rfl rfl)
theorem dX1_insert_14 : decode cX1_insert 14 = .ok (.ifCond .eq 22, 3) := dk_153 0 22 (dk_at dksX1_insert_0 14 rfl rfl)
theorem dX1_insert_17 : decode cX1_insert 17 = .ok (.iload_n 2, 1) := dk_28 (dk_at dksX1_insert_0 17 rfl rfl)
theorem dX1_insert_18 : decode cX1_insert 18 = .ok (.invokestatic 219, 3) := dk_184 0 219 (dk_at dksX1_insert_0 18 rfl rfl)
theorem dX1_insert_21 : decode cX1_insert 21 = .ok (.ifCond .eq 15, 3) := dk_153 0 15 (dk_at dksX1_insert_0 21 rfl rfl)
theorem dX1_insert_24 : decode cX1_insert 24 = .ok (.aload_n 0, 1) := dk_42 (dk_at dksX1_insert_1 0 rfl rfl)
theorem dX1_insert_25 : decode cX1_insert 25 = .ok (.getfield 20, 3) := dk_180 0 20 (dk_at dksX1_insert_1 1 rfl rfl)
theorem dX1_insert_28 : decode cX1_insert 28 = .ok (.getfield 147, 3) := dk_180 0 147 (dk_at dksX1_insert_1 4 rfl rfl)
theorem dX1_insert_31 : decode cX1_insert 31 = .ok (.bipush 120, 2) := dk_16 120 (dk_at dksX1_insert_1 7 rfl rfl)
theorem dX1_insert_33 : decode cX1_insert 33 = .ok (.if_icmp .ne 5, 3) := dk_160 0 5 (dk_at dksX1_insert_1 9 rfl rfl)
theorem dX1_insert_36 : decode cX1_insert 36 = .ok (.iconst (-1), 1) := dk_2 (dk_at dksX1_insert_1 12 rfl rfl)
theorem dX1_insert_37 : decode cX1_insert 37 = .ok (.ireturn, 1) := dk_172 (dk_at dksX1_insert_1 13 rfl rfl)
theorem dX1_insert_38 : decode cX1_insert 38 = .ok (.aload_n 0, 1) := dk_42 (dk_at dksX1_insert_1 14 rfl rfl)
theorem dX1_insert_39 : decode cX1_insert 39 = .ok (.invokevirtual 222, 3) := dk_182 0 222 (dk_at dksX1_insert_1 15 rfl rfl)
theorem dX1_insert_42 : decode cX1_insert 42 = .ok (.aload_n 0, 1) := dk_42 (dk_at dksX1_insert_1 18 rfl rfl)
theorem dX1_insert_43 : decode cX1_insert 43 = .ok (.getfield 20, 3) := dk_180 0 20 (dk_at dksX1_insert_1 19 rfl rfl)
theorem dX1_insert_46 : decode cX1_insert 46 = .ok (.iload_n 1, 1) := dk_27 (dk_at dksX1_insert_1 22 rfl rfl)
theorem dX1_insert_47 : decode cX1_insert 47 = .ok (.iload_n 2, 1) := dk_28 (dk_at dksX1_insert_1 23 rfl rfl)
theorem dX1_insert_48 : decode cX1_insert 48 = .ok (.invokevirtual 230, 3) := dk_182 0 230 (dk_at dksX1_insert_2 0 rfl rfl)
theorem dX1_insert_51 : decode cX1_insert 51 = .ok (.aload_n 0, 1) := dk_42 (dk_at dksX1_insert_2 3 rfl rfl)
theorem dX1_insert_52 : decode cX1_insert 52 = .ok (.invokevirtual 225, 3) := dk_182 0 225 (dk_at dksX1_insert_2 4 rfl rfl)
theorem dX1_insert_55 : decode cX1_insert 55 = .ok (.istore_n 3, 1) := dk_62 (dk_at dksX1_insert_2 7 rfl rfl)
theorem dX1_insert_56 : decode cX1_insert 56 = .ok (.aload_n 0, 1) := dk_42 (dk_at dksX1_insert_2 8 rfl rfl)
theorem dX1_insert_57 : decode cX1_insert 57 = .ok (.getfield 20, 3) := dk_180 0 20 (dk_at dksX1_insert_2 9 rfl rfl)
theorem dX1_insert_60 : decode cX1_insert 60 = .ok (.getfield 147, 3) := dk_180 0 147 (dk_at dksX1_insert_2 12 rfl rfl)
theorem dX1_insert_63 : decode cX1_insert 63 = .ok (.ireturn, 1) := dk_172 (dk_at dksX1_insert_2 15 rfl rfl)
abbrev cX1_remove : ByteArray := prog_1_method_27_code
def yX1_remove : MethodName := ⟨RX1, "remove", "(I)I"⟩
def dkwX1_remove_1 : List UInt8 := [182, 0, 225, 61, 42, 180, 0, 24, 180, 0, 148, 27, 46, 172]
abbrev dktX1_remove_1 : List UInt8 := dkwX1_remove_1 ++ []
def dkwX1_remove_0 : List UInt8 := [42, 27, 182, 0, 158, 154, 0, 5, 2, 172, 42, 182, 0, 222, 42, 180, 0, 20, 27, 182, 0, 233, 42]
abbrev dktX1_remove_0 : List UInt8 := dkwX1_remove_0 ++ dktX1_remove_1
theorem dksX1_remove_0 : cX1_remove.data.toList.drop 0 = dktX1_remove_0 := by decide +kernel
theorem dksX1_remove_1 : cX1_remove.data.toList.drop 23 = dktX1_remove_1 := dk_seg dksX1_remove_0 23 rfl rfl
theorem dX1_remove_0 : decode cX1_remove 0 = .ok (.aload_n 0, 1) := dk_42 (dk_at dksX1_remove_0 0 rfl rfl)
theorem dX1_remove_1 : decode cX1_remove 1 = .ok (.iload_n 1, 1) := dk_27 (dk_at dksX1_remove_0 1 rfl rfl)
theorem dX1_remove_2 : decode cX1_remove 2 = .ok (.invokevirtual 158, 3) := dk_182 0 158 (dk_at dksX1_remove_0 2 rfl rfl)
theorem dX1_remove_5 : decode cX1_remove 5 = .ok (.ifCond .ne 5, 3) := dk_154 0 5 (dk_at dksX1_remove_0 5 rfl rfl)
theorem dX1_remove_8 : decode cX1_remove 8 = .ok (.iconst (-1), 1) := dk_2 (dk_at dksX1_remove_0 8 rfl rfl)
theorem dX1_remove_9 : decode cX1_remove 9 = .ok (.ireturn, 1) := dk_172 (dk_at dksX1_remove_0 9 rfl rfl)
theorem dX1_remove_10 : decode cX1_remove 10 = .ok (.aload_n 0, 1) := dk_42 (dk_at dksX1_remove_0 10 rfl rfl)
theorem dX1_remove_11 : decode cX1_remove 11 = .ok (.invokevirtual 222, 3) := dk_182 0 222 (dk_at dksX1_remove_0 11 rfl rfl)
theorem dX1_remove_14 : decode cX1_remove 14 = .ok (.aload_n 0, 1) := dk_42 (dk_at dksX1_remove_0 14 rfl rfl)
theorem dX1_remove_15 : decode cX1_remove 15 = .ok (.getfield 20, 3) := dk_180 0 20 (dk_at dksX1_remove_0 15 rfl rfl)
theorem dX1_remove_18 : decode cX1_remove 18 = .ok (.iload_n 1, 1) := dk_27 (dk_at dksX1_remove_0 18 rfl rfl)
theorem dX1_remove_19 : decode cX1_remove 19 = .ok (.invokevirtual 233, 3) := dk_182 0 233 (dk_at dksX1_remove_0 19 rfl rfl)
theorem dX1_remove_22 : decode cX1_remove 22 = .ok (.aload_n 0, 1) := dk_42 (dk_at dksX1_remove_0 22 rfl rfl)
theorem dX1_remove_23 : decode cX1_remove 23 = .ok (.invokevirtual 225, 3) := dk_182 0 225 (dk_at dksX1_remove_1 0 rfl rfl)
theorem dX1_remove_26 : decode cX1_remove 26 = .ok (.istore_n 2, 1) := dk_61 (dk_at dksX1_remove_1 3 rfl rfl)
theorem dX1_remove_27 : decode cX1_remove 27 = .ok (.aload_n 0, 1) := dk_42 (dk_at dksX1_remove_1 4 rfl rfl)
theorem dX1_remove_28 : decode cX1_remove 28 = .ok (.getfield 24, 3) := dk_180 0 24 (dk_at dksX1_remove_1 5 rfl rfl)
theorem dX1_remove_31 : decode cX1_remove 31 = .ok (.getfield 148, 3) := dk_180 0 148 (dk_at dksX1_remove_1 8 rfl rfl)
theorem dX1_remove_34 : decode cX1_remove 34 = .ok (.iload_n 1, 1) := dk_27 (dk_at dksX1_remove_1 11 rfl rfl)
theorem dX1_remove_35 : decode cX1_remove 35 = .ok (.iaload, 1) := dk_46 (dk_at dksX1_remove_1 12 rfl rfl)
theorem dX1_remove_36 : decode cX1_remove 36 = .ok (.ireturn, 1) := dk_172 (dk_at dksX1_remove_1 13 rfl rfl)
abbrev cX1_fill : ByteArray := prog_1_method_28_code
def yX1_fill : MethodName := ⟨RX1, "fill", "(III)I"⟩
def dkwX1_fill_2 : List UInt8 := [167, 255, 236, 42, 182, 0, 225, 172]
abbrev dktX1_fill_2 : List UInt8 := dkwX1_fill_2 ++ []
def dkwX1_fill_1 : List UInt8 := [54, 4, 21, 4, 28, 163, 0, 20, 42, 180, 0, 20, 180, 0, 148, 21, 4, 29, 79, 132, 4, 1]
abbrev dktX1_fill_1 : List UInt8 := dkwX1_fill_1 ++ dktX1_fill_2
def dkwX1_fill_0 : List UInt8 := [42, 27, 28, 182, 0, 236, 153, 0, 10, 29, 184, 0, 219, 154, 0, 5, 2, 172, 42, 182, 0, 222, 27]
abbrev dktX1_fill_0 : List UInt8 := dkwX1_fill_0 ++ dktX1_fill_1
theorem dksX1_fill_0 : cX1_fill.data.toList.drop 0 = dktX1_fill_0 := by decide +kernel
theorem dksX1_fill_1 : cX1_fill.data.toList.drop 23 = dktX1_fill_1 := dk_seg dksX1_fill_0 23 rfl rfl
theorem dksX1_fill_2 : cX1_fill.data.toList.drop 45 = dktX1_fill_2 := dk_seg dksX1_fill_1 22 rfl rfl
theorem dX1_fill_0 : decode cX1_fill 0 = .ok (.aload_n 0, 1) := dk_42 (dk_at dksX1_fill_0 0 rfl rfl)
theorem dX1_fill_1 : decode cX1_fill 1 = .ok (.iload_n 1, 1) := dk_27 (dk_at dksX1_fill_0 1 rfl rfl)
theorem dX1_fill_2 : decode cX1_fill 2 = .ok (.iload_n 2, 1) := dk_28 (dk_at dksX1_fill_0 2 rfl rfl)
theorem dX1_fill_3 : decode cX1_fill 3 = .ok (.invokevirtual 236, 3) := dk_182 0 236 (dk_at dksX1_fill_0 3 rfl rfl)
theorem dX1_fill_6 : decode cX1_fill 6 = .ok (.ifCond .eq 10, 3) := dk_153 0 10 (dk_at dksX1_fill_0 6 rfl rfl)
theorem dX1_fill_9 : decode cX1_fill 9 = .ok (.iload_n 3, 1) := dk_29 (dk_at dksX1_fill_0 9 rfl rfl)
theorem dX1_fill_10 : decode cX1_fill 10 = .ok (.invokestatic 219, 3) := dk_184 0 219 (dk_at dksX1_fill_0 10 rfl rfl)
theorem dX1_fill_13 : decode cX1_fill 13 = .ok (.ifCond .ne 5, 3) := dk_154 0 5 (dk_at dksX1_fill_0 13 rfl rfl)
theorem dX1_fill_16 : decode cX1_fill 16 = .ok (.iconst (-1), 1) := dk_2 (dk_at dksX1_fill_0 16 rfl rfl)
theorem dX1_fill_17 : decode cX1_fill 17 = .ok (.ireturn, 1) := dk_172 (dk_at dksX1_fill_0 17 rfl rfl)
theorem dX1_fill_18 : decode cX1_fill 18 = .ok (.aload_n 0, 1) := dk_42 (dk_at dksX1_fill_0 18 rfl rfl)
theorem dX1_fill_19 : decode cX1_fill 19 = .ok (.invokevirtual 222, 3) := dk_182 0 222 (dk_at dksX1_fill_0 19 rfl rfl)
theorem dX1_fill_22 : decode cX1_fill 22 = .ok (.iload_n 1, 1) := dk_27 (dk_at dksX1_fill_0 22 rfl rfl)
theorem dX1_fill_23 : decode cX1_fill 23 = .ok (.istore 4, 2) := dk_54 4 (dk_at dksX1_fill_1 0 rfl rfl)
theorem dX1_fill_25 : decode cX1_fill 25 = .ok (.iload 4, 2) := dk_21 4 (dk_at dksX1_fill_1 2 rfl rfl)
theorem dX1_fill_27 : decode cX1_fill 27 = .ok (.iload_n 2, 1) := dk_28 (dk_at dksX1_fill_1 4 rfl rfl)
theorem dX1_fill_28 : decode cX1_fill 28 = .ok (.if_icmp .gt 20, 3) := dk_163 0 20 (dk_at dksX1_fill_1 5 rfl rfl)
theorem dX1_fill_31 : decode cX1_fill 31 = .ok (.aload_n 0, 1) := dk_42 (dk_at dksX1_fill_1 8 rfl rfl)
theorem dX1_fill_32 : decode cX1_fill 32 = .ok (.getfield 20, 3) := dk_180 0 20 (dk_at dksX1_fill_1 9 rfl rfl)
theorem dX1_fill_35 : decode cX1_fill 35 = .ok (.getfield 148, 3) := dk_180 0 148 (dk_at dksX1_fill_1 12 rfl rfl)
theorem dX1_fill_38 : decode cX1_fill 38 = .ok (.iload 4, 2) := dk_21 4 (dk_at dksX1_fill_1 15 rfl rfl)
theorem dX1_fill_40 : decode cX1_fill 40 = .ok (.iload_n 3, 1) := dk_29 (dk_at dksX1_fill_1 17 rfl rfl)
theorem dX1_fill_41 : decode cX1_fill 41 = .ok (.iastore, 1) := dk_79 (dk_at dksX1_fill_1 18 rfl rfl)
theorem dX1_fill_42 : decode cX1_fill 42 = .ok (.iinc 4 1, 3) := dk_132 4 1 (dk_at dksX1_fill_1 19 rfl rfl)
theorem dX1_fill_45 : decode cX1_fill 45 = .ok (.goto (-20), 3) := dk_167 255 236 (dk_at dksX1_fill_2 0 rfl rfl)
theorem dX1_fill_48 : decode cX1_fill 48 = .ok (.aload_n 0, 1) := dk_42 (dk_at dksX1_fill_2 3 rfl rfl)
theorem dX1_fill_49 : decode cX1_fill 49 = .ok (.invokevirtual 225, 3) := dk_182 0 225 (dk_at dksX1_fill_2 4 rfl rfl)
theorem dX1_fill_52 : decode cX1_fill 52 = .ok (.ireturn, 1) := dk_172 (dk_at dksX1_fill_2 7 rfl rfl)
abbrev cX1_isSpan : ByteArray := prog_1_method_10_code
def yX1_isSpan : MethodName := ⟨RX1, "isSpan", "(II)Z"⟩
def dkwX1_isSpan_1 : List UInt8 := [3, 172]
abbrev dktX1_isSpan_1 : List UInt8 := dkwX1_isSpan_1 ++ []
def dkwX1_isSpan_0 : List UInt8 := [27, 155, 0, 23, 27, 28, 163, 0, 18, 28, 42, 180, 0, 20, 180, 0, 147, 162, 0, 7, 4, 167, 0, 4]
abbrev dktX1_isSpan_0 : List UInt8 := dkwX1_isSpan_0 ++ dktX1_isSpan_1
theorem dksX1_isSpan_0 : cX1_isSpan.data.toList.drop 0 = dktX1_isSpan_0 := by decide +kernel
theorem dksX1_isSpan_1 : cX1_isSpan.data.toList.drop 24 = dktX1_isSpan_1 := dk_seg dksX1_isSpan_0 24 rfl rfl
theorem dX1_isSpan_0 : decode cX1_isSpan 0 = .ok (.iload_n 1, 1) := dk_27 (dk_at dksX1_isSpan_0 0 rfl rfl)
theorem dX1_isSpan_1 : decode cX1_isSpan 1 = .ok (.ifCond .lt 23, 3) := dk_155 0 23 (dk_at dksX1_isSpan_0 1 rfl rfl)
theorem dX1_isSpan_4 : decode cX1_isSpan 4 = .ok (.iload_n 1, 1) := dk_27 (dk_at dksX1_isSpan_0 4 rfl rfl)
theorem dX1_isSpan_5 : decode cX1_isSpan 5 = .ok (.iload_n 2, 1) := dk_28 (dk_at dksX1_isSpan_0 5 rfl rfl)
theorem dX1_isSpan_6 : decode cX1_isSpan 6 = .ok (.if_icmp .gt 18, 3) := dk_163 0 18 (dk_at dksX1_isSpan_0 6 rfl rfl)
theorem dX1_isSpan_9 : decode cX1_isSpan 9 = .ok (.iload_n 2, 1) := dk_28 (dk_at dksX1_isSpan_0 9 rfl rfl)
theorem dX1_isSpan_10 : decode cX1_isSpan 10 = .ok (.aload_n 0, 1) := dk_42 (dk_at dksX1_isSpan_0 10 rfl rfl)
theorem dX1_isSpan_11 : decode cX1_isSpan 11 = .ok (.getfield 20, 3) := dk_180 0 20 (dk_at dksX1_isSpan_0 11 rfl rfl)
theorem dX1_isSpan_14 : decode cX1_isSpan 14 = .ok (.getfield 147, 3) := dk_180 0 147 (dk_at dksX1_isSpan_0 14 rfl rfl)
theorem dX1_isSpan_17 : decode cX1_isSpan 17 = .ok (.if_icmp .ge 7, 3) := dk_162 0 7 (dk_at dksX1_isSpan_0 17 rfl rfl)
theorem dX1_isSpan_20 : decode cX1_isSpan 20 = .ok (.iconst 1, 1) := dk_4 (dk_at dksX1_isSpan_0 20 rfl rfl)
theorem dX1_isSpan_21 : decode cX1_isSpan 21 = .ok (.goto 4, 3) := dk_167 0 4 (dk_at dksX1_isSpan_0 21 rfl rfl)
theorem dX1_isSpan_24 : decode cX1_isSpan 24 = .ok (.iconst 0, 1) := dk_3 (dk_at dksX1_isSpan_1 0 rfl rfl)
theorem dX1_isSpan_25 : decode cX1_isSpan 25 = .ok (.ireturn, 1) := dk_172 (dk_at dksX1_isSpan_1 1 rfl rfl)
abbrev cX1_swap : ByteArray := prog_1_method_29_code
def yX1_swap : MethodName := ⟨RX1, "swap", "(II)Z"⟩
def dkwX1_swap_1 : List UInt8 := [182, 0, 222, 42, 180, 0, 20, 27, 28, 182, 0, 240, 42, 182, 0, 225, 62, 4, 172]
abbrev dktX1_swap_1 : List UInt8 := dkwX1_swap_1 ++ []
def dkwX1_swap_0 : List UInt8 := [42, 27, 182, 0, 158, 153, 0, 16, 42, 28, 182, 0, 158, 153, 0, 8, 27, 28, 160, 0, 5, 3, 172, 42]
abbrev dktX1_swap_0 : List UInt8 := dkwX1_swap_0 ++ dktX1_swap_1
theorem dksX1_swap_0 : cX1_swap.data.toList.drop 0 = dktX1_swap_0 := by decide +kernel
theorem dksX1_swap_1 : cX1_swap.data.toList.drop 24 = dktX1_swap_1 := dk_seg dksX1_swap_0 24 rfl rfl
theorem dX1_swap_0 : decode cX1_swap 0 = .ok (.aload_n 0, 1) := dk_42 (dk_at dksX1_swap_0 0 rfl rfl)
theorem dX1_swap_1 : decode cX1_swap 1 = .ok (.iload_n 1, 1) := dk_27 (dk_at dksX1_swap_0 1 rfl rfl)
theorem dX1_swap_2 : decode cX1_swap 2 = .ok (.invokevirtual 158, 3) := dk_182 0 158 (dk_at dksX1_swap_0 2 rfl rfl)
theorem dX1_swap_5 : decode cX1_swap 5 = .ok (.ifCond .eq 16, 3) := dk_153 0 16 (dk_at dksX1_swap_0 5 rfl rfl)
theorem dX1_swap_8 : decode cX1_swap 8 = .ok (.aload_n 0, 1) := dk_42 (dk_at dksX1_swap_0 8 rfl rfl)
theorem dX1_swap_9 : decode cX1_swap 9 = .ok (.iload_n 2, 1) := dk_28 (dk_at dksX1_swap_0 9 rfl rfl)
theorem dX1_swap_10 : decode cX1_swap 10 = .ok (.invokevirtual 158, 3) := dk_182 0 158 (dk_at dksX1_swap_0 10 rfl rfl)
theorem dX1_swap_13 : decode cX1_swap 13 = .ok (.ifCond .eq 8, 3) := dk_153 0 8 (dk_at dksX1_swap_0 13 rfl rfl)
theorem dX1_swap_16 : decode cX1_swap 16 = .ok (.iload_n 1, 1) := dk_27 (dk_at dksX1_swap_0 16 rfl rfl)
theorem dX1_swap_17 : decode cX1_swap 17 = .ok (.iload_n 2, 1) := dk_28 (dk_at dksX1_swap_0 17 rfl rfl)
theorem dX1_swap_18 : decode cX1_swap 18 = .ok (.if_icmp .ne 5, 3) := dk_160 0 5 (dk_at dksX1_swap_0 18 rfl rfl)
theorem dX1_swap_21 : decode cX1_swap 21 = .ok (.iconst 0, 1) := dk_3 (dk_at dksX1_swap_0 21 rfl rfl)
theorem dX1_swap_22 : decode cX1_swap 22 = .ok (.ireturn, 1) := dk_172 (dk_at dksX1_swap_0 22 rfl rfl)
theorem dX1_swap_23 : decode cX1_swap 23 = .ok (.aload_n 0, 1) := dk_42 (dk_at dksX1_swap_0 23 rfl rfl)
theorem dX1_swap_24 : decode cX1_swap 24 = .ok (.invokevirtual 222, 3) := dk_182 0 222 (dk_at dksX1_swap_1 0 rfl rfl)
theorem dX1_swap_27 : decode cX1_swap 27 = .ok (.aload_n 0, 1) := dk_42 (dk_at dksX1_swap_1 3 rfl rfl)
theorem dX1_swap_28 : decode cX1_swap 28 = .ok (.getfield 20, 3) := dk_180 0 20 (dk_at dksX1_swap_1 4 rfl rfl)
theorem dX1_swap_31 : decode cX1_swap 31 = .ok (.iload_n 1, 1) := dk_27 (dk_at dksX1_swap_1 7 rfl rfl)
theorem dX1_swap_32 : decode cX1_swap 32 = .ok (.iload_n 2, 1) := dk_28 (dk_at dksX1_swap_1 8 rfl rfl)
theorem dX1_swap_33 : decode cX1_swap 33 = .ok (.invokevirtual 240, 3) := dk_182 0 240 (dk_at dksX1_swap_1 9 rfl rfl)
theorem dX1_swap_36 : decode cX1_swap 36 = .ok (.aload_n 0, 1) := dk_42 (dk_at dksX1_swap_1 12 rfl rfl)
theorem dX1_swap_37 : decode cX1_swap 37 = .ok (.invokevirtual 225, 3) := dk_182 0 225 (dk_at dksX1_swap_1 13 rfl rfl)
theorem dX1_swap_40 : decode cX1_swap 40 = .ok (.istore_n 3, 1) := dk_62 (dk_at dksX1_swap_1 16 rfl rfl)
theorem dX1_swap_41 : decode cX1_swap 41 = .ok (.iconst 1, 1) := dk_4 (dk_at dksX1_swap_1 17 rfl rfl)
theorem dX1_swap_42 : decode cX1_swap 42 = .ok (.ireturn, 1) := dk_172 (dk_at dksX1_swap_1 18 rfl rfl)
abbrev cX1_flip : ByteArray := prog_1_method_30_code
def yX1_flip : MethodName := ⟨RX1, "flip", "(II)I"⟩
def dkwX1_flip_2 : List UInt8 := [182, 0, 225, 172]
abbrev dktX1_flip_2 : List UInt8 := dkwX1_flip_2 ++ []
def dkwX1_flip_1 : List UInt8 := [162, 0, 22, 42, 180, 0, 20, 27, 29, 96, 28, 29, 100, 182, 0, 240, 132, 3, 1, 167, 255, 231, 42]
abbrev dktX1_flip_1 : List UInt8 := dkwX1_flip_1 ++ dktX1_flip_2
def dkwX1_flip_0 : List UInt8 := [42, 27, 28, 182, 0, 236, 154, 0, 5, 2, 172, 42, 182, 0, 222, 3, 62, 27, 29, 96, 28, 29, 100]
abbrev dktX1_flip_0 : List UInt8 := dkwX1_flip_0 ++ dktX1_flip_1
theorem dksX1_flip_0 : cX1_flip.data.toList.drop 0 = dktX1_flip_0 := by decide +kernel
theorem dksX1_flip_1 : cX1_flip.data.toList.drop 23 = dktX1_flip_1 := dk_seg dksX1_flip_0 23 rfl rfl
theorem dksX1_flip_2 : cX1_flip.data.toList.drop 46 = dktX1_flip_2 := dk_seg dksX1_flip_1 23 rfl rfl
theorem dX1_flip_0 : decode cX1_flip 0 = .ok (.aload_n 0, 1) := dk_42 (dk_at dksX1_flip_0 0 rfl rfl)
theorem dX1_flip_1 : decode cX1_flip 1 = .ok (.iload_n 1, 1) := dk_27 (dk_at dksX1_flip_0 1 rfl rfl)
theorem dX1_flip_2 : decode cX1_flip 2 = .ok (.iload_n 2, 1) := dk_28 (dk_at dksX1_flip_0 2 rfl rfl)
theorem dX1_flip_3 : decode cX1_flip 3 = .ok (.invokevirtual 236, 3) := dk_182 0 236 (dk_at dksX1_flip_0 3 rfl rfl)
theorem dX1_flip_6 : decode cX1_flip 6 = .ok (.ifCond .ne 5, 3) := dk_154 0 5 (dk_at dksX1_flip_0 6 rfl rfl)
theorem dX1_flip_9 : decode cX1_flip 9 = .ok (.iconst (-1), 1) := dk_2 (dk_at dksX1_flip_0 9 rfl rfl)
theorem dX1_flip_10 : decode cX1_flip 10 = .ok (.ireturn, 1) := dk_172 (dk_at dksX1_flip_0 10 rfl rfl)
theorem dX1_flip_11 : decode cX1_flip 11 = .ok (.aload_n 0, 1) := dk_42 (dk_at dksX1_flip_0 11 rfl rfl)
theorem dX1_flip_12 : decode cX1_flip 12 = .ok (.invokevirtual 222, 3) := dk_182 0 222 (dk_at dksX1_flip_0 12 rfl rfl)
theorem dX1_flip_15 : decode cX1_flip 15 = .ok (.iconst 0, 1) := dk_3 (dk_at dksX1_flip_0 15 rfl rfl)
theorem dX1_flip_16 : decode cX1_flip 16 = .ok (.istore_n 3, 1) := dk_62 (dk_at dksX1_flip_0 16 rfl rfl)
theorem dX1_flip_17 : decode cX1_flip 17 = .ok (.iload_n 1, 1) := dk_27 (dk_at dksX1_flip_0 17 rfl rfl)
theorem dX1_flip_18 : decode cX1_flip 18 = .ok (.iload_n 3, 1) := dk_29 (dk_at dksX1_flip_0 18 rfl rfl)
theorem dX1_flip_19 : decode cX1_flip 19 = .ok (.iadd, 1) := dk_96 (dk_at dksX1_flip_0 19 rfl rfl)
theorem dX1_flip_20 : decode cX1_flip 20 = .ok (.iload_n 2, 1) := dk_28 (dk_at dksX1_flip_0 20 rfl rfl)
theorem dX1_flip_21 : decode cX1_flip 21 = .ok (.iload_n 3, 1) := dk_29 (dk_at dksX1_flip_0 21 rfl rfl)
theorem dX1_flip_22 : decode cX1_flip 22 = .ok (.isub, 1) := dk_100 (dk_at dksX1_flip_0 22 rfl rfl)
theorem dX1_flip_23 : decode cX1_flip 23 = .ok (.if_icmp .ge 22, 3) := dk_162 0 22 (dk_at dksX1_flip_1 0 rfl rfl)
theorem dX1_flip_26 : decode cX1_flip 26 = .ok (.aload_n 0, 1) := dk_42 (dk_at dksX1_flip_1 3 rfl rfl)
theorem dX1_flip_27 : decode cX1_flip 27 = .ok (.getfield 20, 3) := dk_180 0 20 (dk_at dksX1_flip_1 4 rfl rfl)
theorem dX1_flip_30 : decode cX1_flip 30 = .ok (.iload_n 1, 1) := dk_27 (dk_at dksX1_flip_1 7 rfl rfl)
theorem dX1_flip_31 : decode cX1_flip 31 = .ok (.iload_n 3, 1) := dk_29 (dk_at dksX1_flip_1 8 rfl rfl)
theorem dX1_flip_32 : decode cX1_flip 32 = .ok (.iadd, 1) := dk_96 (dk_at dksX1_flip_1 9 rfl rfl)
theorem dX1_flip_33 : decode cX1_flip 33 = .ok (.iload_n 2, 1) := dk_28 (dk_at dksX1_flip_1 10 rfl rfl)
theorem dX1_flip_34 : decode cX1_flip 34 = .ok (.iload_n 3, 1) := dk_29 (dk_at dksX1_flip_1 11 rfl rfl)
theorem dX1_flip_35 : decode cX1_flip 35 = .ok (.isub, 1) := dk_100 (dk_at dksX1_flip_1 12 rfl rfl)
theorem dX1_flip_36 : decode cX1_flip 36 = .ok (.invokevirtual 240, 3) := dk_182 0 240 (dk_at dksX1_flip_1 13 rfl rfl)
theorem dX1_flip_39 : decode cX1_flip 39 = .ok (.iinc 3 1, 3) := dk_132 3 1 (dk_at dksX1_flip_1 16 rfl rfl)
theorem dX1_flip_42 : decode cX1_flip 42 = .ok (.goto (-25), 3) := dk_167 255 231 (dk_at dksX1_flip_1 19 rfl rfl)
theorem dX1_flip_45 : decode cX1_flip 45 = .ok (.aload_n 0, 1) := dk_42 (dk_at dksX1_flip_1 22 rfl rfl)
theorem dX1_flip_46 : decode cX1_flip 46 = .ok (.invokevirtual 225, 3) := dk_182 0 225 (dk_at dksX1_flip_2 0 rfl rfl)
theorem dX1_flip_49 : decode cX1_flip 49 = .ok (.ireturn, 1) := dk_172 (dk_at dksX1_flip_2 3 rfl rfl)
abbrev cX1_shift : ByteArray := prog_1_method_31_code
def yX1_shift : MethodName := ⟨RX1, "shift", "(III)I"⟩
def dkwX1_shift_4 : List UInt8 := [180, 0, 24, 180, 0, 173, 27, 21, 5, 96, 46, 79, 132, 5, 1, 167, 255, 188, 42, 182, 0, 225, 172]
abbrev dktX1_shift_4 : List UInt8 := dkwX1_shift_4 ++ []
def dkwX1_shift_3 : List UInt8 := [21, 5, 96, 46, 79, 42, 180, 0, 20, 180, 0, 173, 27, 21, 5, 29, 96, 21, 4, 112, 96, 42]
abbrev dktX1_shift_3 : List UInt8 := dkwX1_shift_3 ++ dktX1_shift_4
def dkwX1_shift_2 : List UInt8 := [180, 0, 20, 180, 0, 148, 27, 21, 5, 29, 96, 21, 4, 112, 96, 42, 180, 0, 24, 180, 0, 148, 27]
abbrev dktX1_shift_2 : List UInt8 := dkwX1_shift_2 ++ dktX1_shift_3
def dkwX1_shift_1 : List UInt8 := [2, 172, 42, 182, 0, 222, 28, 27, 100, 4, 96, 54, 4, 3, 54, 5, 21, 5, 21, 4, 162, 0, 67, 42]
abbrev dktX1_shift_1 : List UInt8 := dkwX1_shift_1 ++ dktX1_shift_2
def dkwX1_shift_0 : List UInt8 := [42, 27, 28, 182, 0, 236, 153, 0, 18, 29, 133, 9, 28, 27, 100, 4, 96, 133, 184, 0, 89, 154, 0, 5]
abbrev dktX1_shift_0 : List UInt8 := dkwX1_shift_0 ++ dktX1_shift_1
theorem dksX1_shift_0 : cX1_shift.data.toList.drop 0 = dktX1_shift_0 := by decide +kernel
theorem dksX1_shift_1 : cX1_shift.data.toList.drop 24 = dktX1_shift_1 := dk_seg dksX1_shift_0 24 rfl rfl
theorem dksX1_shift_2 : cX1_shift.data.toList.drop 48 = dktX1_shift_2 := dk_seg dksX1_shift_1 24 rfl rfl
theorem dksX1_shift_3 : cX1_shift.data.toList.drop 71 = dktX1_shift_3 := dk_seg dksX1_shift_2 23 rfl rfl
theorem dksX1_shift_4 : cX1_shift.data.toList.drop 93 = dktX1_shift_4 := dk_seg dksX1_shift_3 22 rfl rfl
theorem dX1_shift_0 : decode cX1_shift 0 = .ok (.aload_n 0, 1) := dk_42 (dk_at dksX1_shift_0 0 rfl rfl)
theorem dX1_shift_1 : decode cX1_shift 1 = .ok (.iload_n 1, 1) := dk_27 (dk_at dksX1_shift_0 1 rfl rfl)
theorem dX1_shift_2 : decode cX1_shift 2 = .ok (.iload_n 2, 1) := dk_28 (dk_at dksX1_shift_0 2 rfl rfl)
theorem dX1_shift_3 : decode cX1_shift 3 = .ok (.invokevirtual 236, 3) := dk_182 0 236 (dk_at dksX1_shift_0 3 rfl rfl)
theorem dX1_shift_6 : decode cX1_shift 6 = .ok (.ifCond .eq 18, 3) := dk_153 0 18 (dk_at dksX1_shift_0 6 rfl rfl)
theorem dX1_shift_9 : decode cX1_shift 9 = .ok (.iload_n 3, 1) := dk_29 (dk_at dksX1_shift_0 9 rfl rfl)
theorem dX1_shift_10 : decode cX1_shift 10 = .ok (.i2l, 1) := dk_133 (dk_at dksX1_shift_0 10 rfl rfl)
theorem dX1_shift_11 : decode cX1_shift 11 = .ok (.lconst 0, 1) := dk_9 (dk_at dksX1_shift_0 11 rfl rfl)
theorem dX1_shift_12 : decode cX1_shift 12 = .ok (.iload_n 2, 1) := dk_28 (dk_at dksX1_shift_0 12 rfl rfl)
theorem dX1_shift_13 : decode cX1_shift 13 = .ok (.iload_n 1, 1) := dk_27 (dk_at dksX1_shift_0 13 rfl rfl)
theorem dX1_shift_14 : decode cX1_shift 14 = .ok (.isub, 1) := dk_100 (dk_at dksX1_shift_0 14 rfl rfl)
theorem dX1_shift_15 : decode cX1_shift 15 = .ok (.iconst 1, 1) := dk_4 (dk_at dksX1_shift_0 15 rfl rfl)
theorem dX1_shift_16 : decode cX1_shift 16 = .ok (.iadd, 1) := dk_96 (dk_at dksX1_shift_0 16 rfl rfl)
theorem dX1_shift_17 : decode cX1_shift 17 = .ok (.i2l, 1) := dk_133 (dk_at dksX1_shift_0 17 rfl rfl)
theorem dX1_shift_18 : decode cX1_shift 18 = .ok (.invokestatic 89, 3) := dk_184 0 89 (dk_at dksX1_shift_0 18 rfl rfl)
theorem dX1_shift_21 : decode cX1_shift 21 = .ok (.ifCond .ne 5, 3) := dk_154 0 5 (dk_at dksX1_shift_0 21 rfl rfl)
theorem dX1_shift_24 : decode cX1_shift 24 = .ok (.iconst (-1), 1) := dk_2 (dk_at dksX1_shift_1 0 rfl rfl)
theorem dX1_shift_25 : decode cX1_shift 25 = .ok (.ireturn, 1) := dk_172 (dk_at dksX1_shift_1 1 rfl rfl)
theorem dX1_shift_26 : decode cX1_shift 26 = .ok (.aload_n 0, 1) := dk_42 (dk_at dksX1_shift_1 2 rfl rfl)
theorem dX1_shift_27 : decode cX1_shift 27 = .ok (.invokevirtual 222, 3) := dk_182 0 222 (dk_at dksX1_shift_1 3 rfl rfl)
theorem dX1_shift_30 : decode cX1_shift 30 = .ok (.iload_n 2, 1) := dk_28 (dk_at dksX1_shift_1 6 rfl rfl)
theorem dX1_shift_31 : decode cX1_shift 31 = .ok (.iload_n 1, 1) := dk_27 (dk_at dksX1_shift_1 7 rfl rfl)
theorem dX1_shift_32 : decode cX1_shift 32 = .ok (.isub, 1) := dk_100 (dk_at dksX1_shift_1 8 rfl rfl)
theorem dX1_shift_33 : decode cX1_shift 33 = .ok (.iconst 1, 1) := dk_4 (dk_at dksX1_shift_1 9 rfl rfl)
theorem dX1_shift_34 : decode cX1_shift 34 = .ok (.iadd, 1) := dk_96 (dk_at dksX1_shift_1 10 rfl rfl)
theorem dX1_shift_35 : decode cX1_shift 35 = .ok (.istore 4, 2) := dk_54 4 (dk_at dksX1_shift_1 11 rfl rfl)
theorem dX1_shift_37 : decode cX1_shift 37 = .ok (.iconst 0, 1) := dk_3 (dk_at dksX1_shift_1 13 rfl rfl)
theorem dX1_shift_38 : decode cX1_shift 38 = .ok (.istore 5, 2) := dk_54 5 (dk_at dksX1_shift_1 14 rfl rfl)
theorem dX1_shift_40 : decode cX1_shift 40 = .ok (.iload 5, 2) := dk_21 5 (dk_at dksX1_shift_1 16 rfl rfl)
theorem dX1_shift_42 : decode cX1_shift 42 = .ok (.iload 4, 2) := dk_21 4 (dk_at dksX1_shift_1 18 rfl rfl)
theorem dX1_shift_44 : decode cX1_shift 44 = .ok (.if_icmp .ge 67, 3) := dk_162 0 67 (dk_at dksX1_shift_1 20 rfl rfl)
theorem dX1_shift_47 : decode cX1_shift 47 = .ok (.aload_n 0, 1) := dk_42 (dk_at dksX1_shift_1 23 rfl rfl)
theorem dX1_shift_48 : decode cX1_shift 48 = .ok (.getfield 20, 3) := dk_180 0 20 (dk_at dksX1_shift_2 0 rfl rfl)
theorem dX1_shift_51 : decode cX1_shift 51 = .ok (.getfield 148, 3) := dk_180 0 148 (dk_at dksX1_shift_2 3 rfl rfl)
theorem dX1_shift_54 : decode cX1_shift 54 = .ok (.iload_n 1, 1) := dk_27 (dk_at dksX1_shift_2 6 rfl rfl)
theorem dX1_shift_55 : decode cX1_shift 55 = .ok (.iload 5, 2) := dk_21 5 (dk_at dksX1_shift_2 7 rfl rfl)
theorem dX1_shift_57 : decode cX1_shift 57 = .ok (.iload_n 3, 1) := dk_29 (dk_at dksX1_shift_2 9 rfl rfl)
theorem dX1_shift_58 : decode cX1_shift 58 = .ok (.iadd, 1) := dk_96 (dk_at dksX1_shift_2 10 rfl rfl)
theorem dX1_shift_59 : decode cX1_shift 59 = .ok (.iload 4, 2) := dk_21 4 (dk_at dksX1_shift_2 11 rfl rfl)
theorem dX1_shift_61 : decode cX1_shift 61 = .ok (.irem, 1) := dk_112 (dk_at dksX1_shift_2 13 rfl rfl)
theorem dX1_shift_62 : decode cX1_shift 62 = .ok (.iadd, 1) := dk_96 (dk_at dksX1_shift_2 14 rfl rfl)
theorem dX1_shift_63 : decode cX1_shift 63 = .ok (.aload_n 0, 1) := dk_42 (dk_at dksX1_shift_2 15 rfl rfl)
theorem dX1_shift_64 : decode cX1_shift 64 = .ok (.getfield 24, 3) := dk_180 0 24 (dk_at dksX1_shift_2 16 rfl rfl)
theorem dX1_shift_67 : decode cX1_shift 67 = .ok (.getfield 148, 3) := dk_180 0 148 (dk_at dksX1_shift_2 19 rfl rfl)
theorem dX1_shift_70 : decode cX1_shift 70 = .ok (.iload_n 1, 1) := dk_27 (dk_at dksX1_shift_2 22 rfl rfl)
theorem dX1_shift_71 : decode cX1_shift 71 = .ok (.iload 5, 2) := dk_21 5 (dk_at dksX1_shift_3 0 rfl rfl)
theorem dX1_shift_73 : decode cX1_shift 73 = .ok (.iadd, 1) := dk_96 (dk_at dksX1_shift_3 2 rfl rfl)
theorem dX1_shift_74 : decode cX1_shift 74 = .ok (.iaload, 1) := dk_46 (dk_at dksX1_shift_3 3 rfl rfl)
theorem dX1_shift_75 : decode cX1_shift 75 = .ok (.iastore, 1) := dk_79 (dk_at dksX1_shift_3 4 rfl rfl)
theorem dX1_shift_76 : decode cX1_shift 76 = .ok (.aload_n 0, 1) := dk_42 (dk_at dksX1_shift_3 5 rfl rfl)
theorem dX1_shift_77 : decode cX1_shift 77 = .ok (.getfield 20, 3) := dk_180 0 20 (dk_at dksX1_shift_3 6 rfl rfl)
theorem dX1_shift_80 : decode cX1_shift 80 = .ok (.getfield 173, 3) := dk_180 0 173 (dk_at dksX1_shift_3 9 rfl rfl)
theorem dX1_shift_83 : decode cX1_shift 83 = .ok (.iload_n 1, 1) := dk_27 (dk_at dksX1_shift_3 12 rfl rfl)
theorem dX1_shift_84 : decode cX1_shift 84 = .ok (.iload 5, 2) := dk_21 5 (dk_at dksX1_shift_3 13 rfl rfl)
theorem dX1_shift_86 : decode cX1_shift 86 = .ok (.iload_n 3, 1) := dk_29 (dk_at dksX1_shift_3 15 rfl rfl)
theorem dX1_shift_87 : decode cX1_shift 87 = .ok (.iadd, 1) := dk_96 (dk_at dksX1_shift_3 16 rfl rfl)
theorem dX1_shift_88 : decode cX1_shift 88 = .ok (.iload 4, 2) := dk_21 4 (dk_at dksX1_shift_3 17 rfl rfl)
theorem dX1_shift_90 : decode cX1_shift 90 = .ok (.irem, 1) := dk_112 (dk_at dksX1_shift_3 19 rfl rfl)
theorem dX1_shift_91 : decode cX1_shift 91 = .ok (.iadd, 1) := dk_96 (dk_at dksX1_shift_3 20 rfl rfl)
theorem dX1_shift_92 : decode cX1_shift 92 = .ok (.aload_n 0, 1) := dk_42 (dk_at dksX1_shift_3 21 rfl rfl)
theorem dX1_shift_93 : decode cX1_shift 93 = .ok (.getfield 24, 3) := dk_180 0 24 (dk_at dksX1_shift_4 0 rfl rfl)
theorem dX1_shift_96 : decode cX1_shift 96 = .ok (.getfield 173, 3) := dk_180 0 173 (dk_at dksX1_shift_4 3 rfl rfl)
theorem dX1_shift_99 : decode cX1_shift 99 = .ok (.iload_n 1, 1) := dk_27 (dk_at dksX1_shift_4 6 rfl rfl)
theorem dX1_shift_100 : decode cX1_shift 100 = .ok (.iload 5, 2) := dk_21 5 (dk_at dksX1_shift_4 7 rfl rfl)
theorem dX1_shift_102 : decode cX1_shift 102 = .ok (.iadd, 1) := dk_96 (dk_at dksX1_shift_4 9 rfl rfl)
theorem dX1_shift_103 : decode cX1_shift 103 = .ok (.iaload, 1) := dk_46 (dk_at dksX1_shift_4 10 rfl rfl)
theorem dX1_shift_104 : decode cX1_shift 104 = .ok (.iastore, 1) := dk_79 (dk_at dksX1_shift_4 11 rfl rfl)
theorem dX1_shift_105 : decode cX1_shift 105 = .ok (.iinc 5 1, 3) := dk_132 5 1 (dk_at dksX1_shift_4 12 rfl rfl)
theorem dX1_shift_108 : decode cX1_shift 108 = .ok (.goto (-68), 3) := dk_167 255 188 (dk_at dksX1_shift_4 15 rfl rfl)
theorem dX1_shift_111 : decode cX1_shift 111 = .ok (.aload_n 0, 1) := dk_42 (dk_at dksX1_shift_4 18 rfl rfl)
theorem dX1_shift_112 : decode cX1_shift 112 = .ok (.invokevirtual 225, 3) := dk_182 0 225 (dk_at dksX1_shift_4 19 rfl rfl)
theorem dX1_shift_115 : decode cX1_shift 115 = .ok (.ireturn, 1) := dk_172 (dk_at dksX1_shift_4 22 rfl rfl)
abbrev cX1_replace : ByteArray := prog_1_method_32_code
def yX1_replace : MethodName := ⟨RX1, "replace", "(II)I"⟩
def dkwX1_replace_3 : List UInt8 := [182, 0, 225, 172]
abbrev dktX1_replace_3 : List UInt8 := dkwX1_replace_3 ++ []
def dkwX1_replace_2 : List UInt8 := [192, 1, 1, 182, 1, 3, 54, 4, 42, 180, 0, 20, 180, 0, 148, 21, 4, 28, 79, 167, 255, 222, 42]
abbrev dktX1_replace_2 : List UInt8 := dkwX1_replace_2 ++ dktX1_replace_3
def dkwX1_replace_1 : List UInt8 := [182, 0, 165, 182, 0, 243, 78, 45, 185, 0, 247, 1, 0, 153, 0, 31, 45, 185, 0, 253, 1, 0]
abbrev dktX1_replace_1 : List UInt8 := dkwX1_replace_1 ++ dktX1_replace_2
def dkwX1_replace_0 : List UInt8 := [27, 184, 0, 219, 153, 0, 10, 28, 184, 0, 219, 154, 0, 5, 2, 172, 42, 182, 0, 222, 42, 27]
abbrev dktX1_replace_0 : List UInt8 := dkwX1_replace_0 ++ dktX1_replace_1
theorem dksX1_replace_0 : cX1_replace.data.toList.drop 0 = dktX1_replace_0 := by decide +kernel
theorem dksX1_replace_1 : cX1_replace.data.toList.drop 22 = dktX1_replace_1 := dk_seg dksX1_replace_0 22 rfl rfl
theorem dksX1_replace_2 : cX1_replace.data.toList.drop 44 = dktX1_replace_2 := dk_seg dksX1_replace_1 22 rfl rfl
theorem dksX1_replace_3 : cX1_replace.data.toList.drop 67 = dktX1_replace_3 := dk_seg dksX1_replace_2 23 rfl rfl
theorem dX1_replace_0 : decode cX1_replace 0 = .ok (.iload_n 1, 1) := dk_27 (dk_at dksX1_replace_0 0 rfl rfl)
theorem dX1_replace_1 : decode cX1_replace 1 = .ok (.invokestatic 219, 3) := dk_184 0 219 (dk_at dksX1_replace_0 1 rfl rfl)
theorem dX1_replace_4 : decode cX1_replace 4 = .ok (.ifCond .eq 10, 3) := dk_153 0 10 (dk_at dksX1_replace_0 4 rfl rfl)
theorem dX1_replace_7 : decode cX1_replace 7 = .ok (.iload_n 2, 1) := dk_28 (dk_at dksX1_replace_0 7 rfl rfl)
theorem dX1_replace_8 : decode cX1_replace 8 = .ok (.invokestatic 219, 3) := dk_184 0 219 (dk_at dksX1_replace_0 8 rfl rfl)
theorem dX1_replace_11 : decode cX1_replace 11 = .ok (.ifCond .ne 5, 3) := dk_154 0 5 (dk_at dksX1_replace_0 11 rfl rfl)
theorem dX1_replace_14 : decode cX1_replace 14 = .ok (.iconst (-1), 1) := dk_2 (dk_at dksX1_replace_0 14 rfl rfl)
theorem dX1_replace_15 : decode cX1_replace 15 = .ok (.ireturn, 1) := dk_172 (dk_at dksX1_replace_0 15 rfl rfl)
theorem dX1_replace_16 : decode cX1_replace 16 = .ok (.aload_n 0, 1) := dk_42 (dk_at dksX1_replace_0 16 rfl rfl)
theorem dX1_replace_17 : decode cX1_replace 17 = .ok (.invokevirtual 222, 3) := dk_182 0 222 (dk_at dksX1_replace_0 17 rfl rfl)
theorem dX1_replace_20 : decode cX1_replace 20 = .ok (.aload_n 0, 1) := dk_42 (dk_at dksX1_replace_0 20 rfl rfl)
theorem dX1_replace_21 : decode cX1_replace 21 = .ok (.iload_n 1, 1) := dk_27 (dk_at dksX1_replace_0 21 rfl rfl)
theorem dX1_replace_22 : decode cX1_replace 22 = .ok (.invokevirtual 165, 3) := dk_182 0 165 (dk_at dksX1_replace_1 0 rfl rfl)
theorem dX1_replace_25 : decode cX1_replace 25 = .ok (.invokevirtual 243, 3) := dk_182 0 243 (dk_at dksX1_replace_1 3 rfl rfl)
theorem dX1_replace_28 : decode cX1_replace 28 = .ok (.astore_n 3, 1) := dk_78 (dk_at dksX1_replace_1 6 rfl rfl)
theorem dX1_replace_29 : decode cX1_replace 29 = .ok (.aload_n 3, 1) := dk_45 (dk_at dksX1_replace_1 7 rfl rfl)
theorem dX1_replace_30 : decode cX1_replace 30 = .ok (.invokeinterface 247 1, 5) := by decide +kernel
theorem dX1_replace_35 : decode cX1_replace 35 = .ok (.ifCond .eq 31, 3) := dk_153 0 31 (dk_at dksX1_replace_1 13 rfl rfl)
theorem dX1_replace_38 : decode cX1_replace 38 = .ok (.aload_n 3, 1) := dk_45 (dk_at dksX1_replace_1 16 rfl rfl)
theorem dX1_replace_39 : decode cX1_replace 39 = .ok (.invokeinterface 253 1, 5) := by decide +kernel
theorem dX1_replace_44 : decode cX1_replace 44 = .ok (.checkcast 257, 3) := dk_192 1 1 (dk_at dksX1_replace_2 0 rfl rfl)
theorem dX1_replace_47 : decode cX1_replace 47 = .ok (.invokevirtual 259, 3) := dk_182 1 3 (dk_at dksX1_replace_2 3 rfl rfl)
theorem dX1_replace_50 : decode cX1_replace 50 = .ok (.istore 4, 2) := dk_54 4 (dk_at dksX1_replace_2 6 rfl rfl)
theorem dX1_replace_52 : decode cX1_replace 52 = .ok (.aload_n 0, 1) := dk_42 (dk_at dksX1_replace_2 8 rfl rfl)
theorem dX1_replace_53 : decode cX1_replace 53 = .ok (.getfield 20, 3) := dk_180 0 20 (dk_at dksX1_replace_2 9 rfl rfl)
theorem dX1_replace_56 : decode cX1_replace 56 = .ok (.getfield 148, 3) := dk_180 0 148 (dk_at dksX1_replace_2 12 rfl rfl)
theorem dX1_replace_59 : decode cX1_replace 59 = .ok (.iload 4, 2) := dk_21 4 (dk_at dksX1_replace_2 15 rfl rfl)
theorem dX1_replace_61 : decode cX1_replace 61 = .ok (.iload_n 2, 1) := dk_28 (dk_at dksX1_replace_2 17 rfl rfl)
theorem dX1_replace_62 : decode cX1_replace 62 = .ok (.iastore, 1) := dk_79 (dk_at dksX1_replace_2 18 rfl rfl)
theorem dX1_replace_63 : decode cX1_replace 63 = .ok (.goto (-34), 3) := dk_167 255 222 (dk_at dksX1_replace_2 19 rfl rfl)
theorem dX1_replace_66 : decode cX1_replace 66 = .ok (.aload_n 0, 1) := dk_42 (dk_at dksX1_replace_2 22 rfl rfl)
theorem dX1_replace_67 : decode cX1_replace 67 = .ok (.invokevirtual 225, 3) := dk_182 0 225 (dk_at dksX1_replace_3 0 rfl rfl)
theorem dX1_replace_70 : decode cX1_replace 70 = .ok (.ireturn, 1) := dk_172 (dk_at dksX1_replace_3 3 rfl rfl)
abbrev cX1_modeOf : ByteArray := prog_1_method_42_code
def yX1_modeOf : MethodName := ⟨RX1, "modeOf", "(II)I"⟩
def dkwX1_modeOf_0 : List UInt8 := [42, 27, 28, 182, 1, 21, 42, 27, 28, 42, 180, 0, 125, 182, 1, 24, 172]
abbrev dktX1_modeOf_0 : List UInt8 := dkwX1_modeOf_0 ++ []
theorem dksX1_modeOf_0 : cX1_modeOf.data.toList.drop 0 = dktX1_modeOf_0 := by decide +kernel
theorem dX1_modeOf_0 : decode cX1_modeOf 0 = .ok (.aload_n 0, 1) := dk_42 (dk_at dksX1_modeOf_0 0 rfl rfl)
theorem dX1_modeOf_1 : decode cX1_modeOf 1 = .ok (.iload_n 1, 1) := dk_27 (dk_at dksX1_modeOf_0 1 rfl rfl)
theorem dX1_modeOf_2 : decode cX1_modeOf 2 = .ok (.iload_n 2, 1) := dk_28 (dk_at dksX1_modeOf_0 2 rfl rfl)
theorem dX1_modeOf_3 : decode cX1_modeOf 3 = .ok (.invokevirtual 277, 3) := dk_182 1 21 (dk_at dksX1_modeOf_0 3 rfl rfl)
theorem dX1_modeOf_6 : decode cX1_modeOf 6 = .ok (.aload_n 0, 1) := dk_42 (dk_at dksX1_modeOf_0 6 rfl rfl)
theorem dX1_modeOf_7 : decode cX1_modeOf 7 = .ok (.iload_n 1, 1) := dk_27 (dk_at dksX1_modeOf_0 7 rfl rfl)
theorem dX1_modeOf_8 : decode cX1_modeOf 8 = .ok (.iload_n 2, 1) := dk_28 (dk_at dksX1_modeOf_0 8 rfl rfl)
theorem dX1_modeOf_9 : decode cX1_modeOf 9 = .ok (.aload_n 0, 1) := dk_42 (dk_at dksX1_modeOf_0 9 rfl rfl)
theorem dX1_modeOf_10 : decode cX1_modeOf 10 = .ok (.getfield 125, 3) := dk_180 0 125 (dk_at dksX1_modeOf_0 10 rfl rfl)
theorem dX1_modeOf_13 : decode cX1_modeOf 13 = .ok (.invokevirtual 280, 3) := dk_182 1 24 (dk_at dksX1_modeOf_0 13 rfl rfl)
theorem dX1_modeOf_16 : decode cX1_modeOf 16 = .ok (.ireturn, 1) := dk_172 (dk_at dksX1_modeOf_0 16 rfl rfl)
abbrev cX1_laysCandidates : ByteArray := prog_1_method_40_code
def yX1_laysCandidates : MethodName := ⟨RX1, "laysCandidates", "(II)V"⟩
def dkwX1_laysCandidates_4 : List UInt8 := [21, 6, 46, 182, 1, 15, 132, 6, 1, 167, 255, 206, 42, 182, 1, 18, 177]
abbrev dktX1_laysCandidates_4 : List UInt8 := dkwX1_laysCandidates_4 ++ []
def dkwX1_laysCandidates_3 : List UInt8 := [29, 104, 160, 0, 14, 42, 21, 4, 182, 0, 195, 54, 6, 167, 0, 17, 42, 42, 180, 0, 20, 180, 0, 148]
abbrev dktX1_laysCandidates_3 : List UInt8 := dkwX1_laysCandidates_3 ++ dktX1_laysCandidates_4
def dkwX1_laysCandidates_2 : List UInt8 := [46, 182, 1, 15, 27, 54, 6, 21, 6, 28, 163, 0, 50, 21, 5, 153, 0, 25, 21, 6, 42, 180, 0, 27]
abbrev dktX1_laysCandidates_2 : List UInt8 := dkwX1_laysCandidates_2 ++ dktX1_laysCandidates_3
def dkwX1_laysCandidates_1 : List UInt8 := [4, 167, 0, 4, 3, 54, 5, 21, 5, 153, 0, 19, 42, 42, 180, 0, 59, 16, 60, 29, 104, 21, 4, 96]
abbrev dktX1_laysCandidates_1 : List UInt8 := dkwX1_laysCandidates_1 ++ dktX1_laysCandidates_2
def dkwX1_laysCandidates_0 : List UInt8 := [42, 3, 181, 1, 6, 42, 27, 182, 1, 9, 62, 42, 28, 182, 1, 12, 54, 4, 29, 21, 4, 163, 0, 7]
abbrev dktX1_laysCandidates_0 : List UInt8 := dkwX1_laysCandidates_0 ++ dktX1_laysCandidates_1
theorem dksX1_laysCandidates_0 : cX1_laysCandidates.data.toList.drop 0 = dktX1_laysCandidates_0 := by decide +kernel
theorem dksX1_laysCandidates_1 : cX1_laysCandidates.data.toList.drop 24 = dktX1_laysCandidates_1 := dk_seg dksX1_laysCandidates_0 24 rfl rfl
theorem dksX1_laysCandidates_2 : cX1_laysCandidates.data.toList.drop 48 = dktX1_laysCandidates_2 := dk_seg dksX1_laysCandidates_1 24 rfl rfl
theorem dksX1_laysCandidates_3 : cX1_laysCandidates.data.toList.drop 72 = dktX1_laysCandidates_3 := dk_seg dksX1_laysCandidates_2 24 rfl rfl
theorem dksX1_laysCandidates_4 : cX1_laysCandidates.data.toList.drop 96 = dktX1_laysCandidates_4 := dk_seg dksX1_laysCandidates_3 24 rfl rfl
theorem dX1_laysCandidates_0 : decode cX1_laysCandidates 0 = .ok (.aload_n 0, 1) := dk_42 (dk_at dksX1_laysCandidates_0 0 rfl rfl)
theorem dX1_laysCandidates_1 : decode cX1_laysCandidates 1 = .ok (.iconst 0, 1) := dk_3 (dk_at dksX1_laysCandidates_0 1 rfl rfl)
theorem dX1_laysCandidates_2 : decode cX1_laysCandidates 2 = .ok (.putfield 262, 3) := dk_181 1 6 (dk_at dksX1_laysCandidates_0 2 rfl rfl)
theorem dX1_laysCandidates_5 : decode cX1_laysCandidates 5 = .ok (.aload_n 0, 1) := dk_42 (dk_at dksX1_laysCandidates_0 5 rfl rfl)
theorem dX1_laysCandidates_6 : decode cX1_laysCandidates 6 = .ok (.iload_n 1, 1) := dk_27 (dk_at dksX1_laysCandidates_0 6 rfl rfl)
theorem dX1_laysCandidates_7 : decode cX1_laysCandidates 7 = .ok (.invokevirtual 265, 3) := dk_182 1 9 (dk_at dksX1_laysCandidates_0 7 rfl rfl)
theorem dX1_laysCandidates_10 : decode cX1_laysCandidates 10 = .ok (.istore_n 3, 1) := dk_62 (dk_at dksX1_laysCandidates_0 10 rfl rfl)
theorem dX1_laysCandidates_11 : decode cX1_laysCandidates 11 = .ok (.aload_n 0, 1) := dk_42 (dk_at dksX1_laysCandidates_0 11 rfl rfl)
theorem dX1_laysCandidates_12 : decode cX1_laysCandidates 12 = .ok (.iload_n 2, 1) := dk_28 (dk_at dksX1_laysCandidates_0 12 rfl rfl)
theorem dX1_laysCandidates_13 : decode cX1_laysCandidates 13 = .ok (.invokevirtual 268, 3) := dk_182 1 12 (dk_at dksX1_laysCandidates_0 13 rfl rfl)
theorem dX1_laysCandidates_16 : decode cX1_laysCandidates 16 = .ok (.istore 4, 2) := dk_54 4 (dk_at dksX1_laysCandidates_0 16 rfl rfl)
theorem dX1_laysCandidates_18 : decode cX1_laysCandidates 18 = .ok (.iload_n 3, 1) := dk_29 (dk_at dksX1_laysCandidates_0 18 rfl rfl)
theorem dX1_laysCandidates_19 : decode cX1_laysCandidates 19 = .ok (.iload 4, 2) := dk_21 4 (dk_at dksX1_laysCandidates_0 19 rfl rfl)
theorem dX1_laysCandidates_21 : decode cX1_laysCandidates 21 = .ok (.if_icmp .gt 7, 3) := dk_163 0 7 (dk_at dksX1_laysCandidates_0 21 rfl rfl)
theorem dX1_laysCandidates_24 : decode cX1_laysCandidates 24 = .ok (.iconst 1, 1) := dk_4 (dk_at dksX1_laysCandidates_1 0 rfl rfl)
theorem dX1_laysCandidates_25 : decode cX1_laysCandidates 25 = .ok (.goto 4, 3) := dk_167 0 4 (dk_at dksX1_laysCandidates_1 1 rfl rfl)
theorem dX1_laysCandidates_28 : decode cX1_laysCandidates 28 = .ok (.iconst 0, 1) := dk_3 (dk_at dksX1_laysCandidates_1 4 rfl rfl)
theorem dX1_laysCandidates_29 : decode cX1_laysCandidates 29 = .ok (.istore 5, 2) := dk_54 5 (dk_at dksX1_laysCandidates_1 5 rfl rfl)
theorem dX1_laysCandidates_31 : decode cX1_laysCandidates 31 = .ok (.iload 5, 2) := dk_21 5 (dk_at dksX1_laysCandidates_1 7 rfl rfl)
theorem dX1_laysCandidates_33 : decode cX1_laysCandidates 33 = .ok (.ifCond .eq 19, 3) := dk_153 0 19 (dk_at dksX1_laysCandidates_1 9 rfl rfl)
theorem dX1_laysCandidates_36 : decode cX1_laysCandidates 36 = .ok (.aload_n 0, 1) := dk_42 (dk_at dksX1_laysCandidates_1 12 rfl rfl)
theorem dX1_laysCandidates_37 : decode cX1_laysCandidates 37 = .ok (.aload_n 0, 1) := dk_42 (dk_at dksX1_laysCandidates_1 13 rfl rfl)
theorem dX1_laysCandidates_38 : decode cX1_laysCandidates 38 = .ok (.getfield 59, 3) := dk_180 0 59 (dk_at dksX1_laysCandidates_1 14 rfl rfl)
theorem dX1_laysCandidates_41 : decode cX1_laysCandidates 41 = .ok (.bipush 60, 2) := dk_16 60 (dk_at dksX1_laysCandidates_1 17 rfl rfl)
theorem dX1_laysCandidates_43 : decode cX1_laysCandidates 43 = .ok (.iload_n 3, 1) := dk_29 (dk_at dksX1_laysCandidates_1 19 rfl rfl)
theorem dX1_laysCandidates_44 : decode cX1_laysCandidates 44 = .ok (.imul, 1) := dk_104 (dk_at dksX1_laysCandidates_1 20 rfl rfl)
theorem dX1_laysCandidates_45 : decode cX1_laysCandidates 45 = .ok (.iload 4, 2) := dk_21 4 (dk_at dksX1_laysCandidates_1 21 rfl rfl)
theorem dX1_laysCandidates_47 : decode cX1_laysCandidates 47 = .ok (.iadd, 1) := dk_96 (dk_at dksX1_laysCandidates_1 23 rfl rfl)
theorem dX1_laysCandidates_48 : decode cX1_laysCandidates 48 = .ok (.iaload, 1) := dk_46 (dk_at dksX1_laysCandidates_2 0 rfl rfl)
theorem dX1_laysCandidates_49 : decode cX1_laysCandidates 49 = .ok (.invokevirtual 271, 3) := dk_182 1 15 (dk_at dksX1_laysCandidates_2 1 rfl rfl)
theorem dX1_laysCandidates_52 : decode cX1_laysCandidates 52 = .ok (.iload_n 1, 1) := dk_27 (dk_at dksX1_laysCandidates_2 4 rfl rfl)
theorem dX1_laysCandidates_53 : decode cX1_laysCandidates 53 = .ok (.istore 6, 2) := dk_54 6 (dk_at dksX1_laysCandidates_2 5 rfl rfl)
theorem dX1_laysCandidates_55 : decode cX1_laysCandidates 55 = .ok (.iload 6, 2) := dk_21 6 (dk_at dksX1_laysCandidates_2 7 rfl rfl)
theorem dX1_laysCandidates_57 : decode cX1_laysCandidates 57 = .ok (.iload_n 2, 1) := dk_28 (dk_at dksX1_laysCandidates_2 9 rfl rfl)
theorem dX1_laysCandidates_58 : decode cX1_laysCandidates 58 = .ok (.if_icmp .gt 50, 3) := dk_163 0 50 (dk_at dksX1_laysCandidates_2 10 rfl rfl)
theorem dX1_laysCandidates_61 : decode cX1_laysCandidates 61 = .ok (.iload 5, 2) := dk_21 5 (dk_at dksX1_laysCandidates_2 13 rfl rfl)
theorem dX1_laysCandidates_63 : decode cX1_laysCandidates 63 = .ok (.ifCond .eq 25, 3) := dk_153 0 25 (dk_at dksX1_laysCandidates_2 15 rfl rfl)
theorem dX1_laysCandidates_66 : decode cX1_laysCandidates 66 = .ok (.iload 6, 2) := dk_21 6 (dk_at dksX1_laysCandidates_2 18 rfl rfl)
theorem dX1_laysCandidates_68 : decode cX1_laysCandidates 68 = .ok (.aload_n 0, 1) := dk_42 (dk_at dksX1_laysCandidates_2 20 rfl rfl)
theorem dX1_laysCandidates_69 : decode cX1_laysCandidates 69 = .ok (.getfield 27, 3) := dk_180 0 27 (dk_at dksX1_laysCandidates_2 21 rfl rfl)
theorem dX1_laysCandidates_72 : decode cX1_laysCandidates 72 = .ok (.iload_n 3, 1) := dk_29 (dk_at dksX1_laysCandidates_3 0 rfl rfl)
theorem dX1_laysCandidates_73 : decode cX1_laysCandidates 73 = .ok (.imul, 1) := dk_104 (dk_at dksX1_laysCandidates_3 1 rfl rfl)
theorem dX1_laysCandidates_74 : decode cX1_laysCandidates 74 = .ok (.if_icmp .ne 14, 3) := dk_160 0 14 (dk_at dksX1_laysCandidates_3 2 rfl rfl)
theorem dX1_laysCandidates_77 : decode cX1_laysCandidates 77 = .ok (.aload_n 0, 1) := dk_42 (dk_at dksX1_laysCandidates_3 5 rfl rfl)
theorem dX1_laysCandidates_78 : decode cX1_laysCandidates 78 = .ok (.iload 4, 2) := dk_21 4 (dk_at dksX1_laysCandidates_3 6 rfl rfl)
theorem dX1_laysCandidates_80 : decode cX1_laysCandidates 80 = .ok (.invokevirtual 195, 3) := dk_182 0 195 (dk_at dksX1_laysCandidates_3 8 rfl rfl)
theorem dX1_laysCandidates_83 : decode cX1_laysCandidates 83 = .ok (.istore 6, 2) := dk_54 6 (dk_at dksX1_laysCandidates_3 11 rfl rfl)
theorem dX1_laysCandidates_85 : decode cX1_laysCandidates 85 = .ok (.goto 17, 3) := dk_167 0 17 (dk_at dksX1_laysCandidates_3 13 rfl rfl)
theorem dX1_laysCandidates_88 : decode cX1_laysCandidates 88 = .ok (.aload_n 0, 1) := dk_42 (dk_at dksX1_laysCandidates_3 16 rfl rfl)
theorem dX1_laysCandidates_89 : decode cX1_laysCandidates 89 = .ok (.aload_n 0, 1) := dk_42 (dk_at dksX1_laysCandidates_3 17 rfl rfl)
theorem dX1_laysCandidates_90 : decode cX1_laysCandidates 90 = .ok (.getfield 20, 3) := dk_180 0 20 (dk_at dksX1_laysCandidates_3 18 rfl rfl)
theorem dX1_laysCandidates_93 : decode cX1_laysCandidates 93 = .ok (.getfield 148, 3) := dk_180 0 148 (dk_at dksX1_laysCandidates_3 21 rfl rfl)
theorem dX1_laysCandidates_96 : decode cX1_laysCandidates 96 = .ok (.iload 6, 2) := dk_21 6 (dk_at dksX1_laysCandidates_4 0 rfl rfl)
theorem dX1_laysCandidates_98 : decode cX1_laysCandidates 98 = .ok (.iaload, 1) := dk_46 (dk_at dksX1_laysCandidates_4 2 rfl rfl)
theorem dX1_laysCandidates_99 : decode cX1_laysCandidates 99 = .ok (.invokevirtual 271, 3) := dk_182 1 15 (dk_at dksX1_laysCandidates_4 3 rfl rfl)
theorem dX1_laysCandidates_102 : decode cX1_laysCandidates 102 = .ok (.iinc 6 1, 3) := dk_132 6 1 (dk_at dksX1_laysCandidates_4 6 rfl rfl)
theorem dX1_laysCandidates_105 : decode cX1_laysCandidates 105 = .ok (.goto (-50), 3) := dk_167 255 206 (dk_at dksX1_laysCandidates_4 9 rfl rfl)
theorem dX1_laysCandidates_108 : decode cX1_laysCandidates 108 = .ok (.aload_n 0, 1) := dk_42 (dk_at dksX1_laysCandidates_4 12 rfl rfl)
theorem dX1_laysCandidates_109 : decode cX1_laysCandidates 109 = .ok (.invokevirtual 274, 3) := dk_182 1 18 (dk_at dksX1_laysCandidates_4 13 rfl rfl)
theorem dX1_laysCandidates_112 : decode cX1_laysCandidates 112 = .ok (.return_, 1) := dk_177 (dk_at dksX1_laysCandidates_4 16 rfl rfl)
abbrev cX1_firstBlock : ByteArray := prog_1_method_36_code
def yX1_firstBlock : MethodName := ⟨RX1, "firstBlock", "(I)I"⟩
def dkwX1_firstBlock_0 : List UInt8 := [27, 42, 180, 0, 27, 96, 4, 100, 42, 180, 0, 27, 108, 172]
abbrev dktX1_firstBlock_0 : List UInt8 := dkwX1_firstBlock_0 ++ []
theorem dksX1_firstBlock_0 : cX1_firstBlock.data.toList.drop 0 = dktX1_firstBlock_0 := by decide +kernel
theorem dX1_firstBlock_0 : decode cX1_firstBlock 0 = .ok (.iload_n 1, 1) := dk_27 (dk_at dksX1_firstBlock_0 0 rfl rfl)
theorem dX1_firstBlock_1 : decode cX1_firstBlock 1 = .ok (.aload_n 0, 1) := dk_42 (dk_at dksX1_firstBlock_0 1 rfl rfl)
theorem dX1_firstBlock_2 : decode cX1_firstBlock 2 = .ok (.getfield 27, 3) := dk_180 0 27 (dk_at dksX1_firstBlock_0 2 rfl rfl)
theorem dX1_firstBlock_5 : decode cX1_firstBlock 5 = .ok (.iadd, 1) := dk_96 (dk_at dksX1_firstBlock_0 5 rfl rfl)
theorem dX1_firstBlock_6 : decode cX1_firstBlock 6 = .ok (.iconst 1, 1) := dk_4 (dk_at dksX1_firstBlock_0 6 rfl rfl)
theorem dX1_firstBlock_7 : decode cX1_firstBlock 7 = .ok (.isub, 1) := dk_100 (dk_at dksX1_firstBlock_0 7 rfl rfl)
theorem dX1_firstBlock_8 : decode cX1_firstBlock 8 = .ok (.aload_n 0, 1) := dk_42 (dk_at dksX1_firstBlock_0 8 rfl rfl)
theorem dX1_firstBlock_9 : decode cX1_firstBlock 9 = .ok (.getfield 27, 3) := dk_180 0 27 (dk_at dksX1_firstBlock_0 9 rfl rfl)
theorem dX1_firstBlock_12 : decode cX1_firstBlock 12 = .ok (.idiv, 1) := dk_108 (dk_at dksX1_firstBlock_0 12 rfl rfl)
theorem dX1_firstBlock_13 : decode cX1_firstBlock 13 = .ok (.ireturn, 1) := dk_172 (dk_at dksX1_firstBlock_0 13 rfl rfl)
abbrev cX1_lastBlock : ByteArray := prog_1_method_37_code
def yX1_lastBlock : MethodName := ⟨RX1, "lastBlock", "(I)I"⟩
def dkwX1_lastBlock_1 : List UInt8 := [96, 42, 180, 0, 27, 108, 4, 100, 172]
abbrev dktX1_lastBlock_1 : List UInt8 := dkwX1_lastBlock_1 ++ []
def dkwX1_lastBlock_0 : List UInt8 := [27, 42, 180, 0, 20, 180, 0, 147, 4, 100, 160, 0, 12, 42, 182, 0, 132, 4, 100, 167, 0, 13, 27, 4]
abbrev dktX1_lastBlock_0 : List UInt8 := dkwX1_lastBlock_0 ++ dktX1_lastBlock_1
theorem dksX1_lastBlock_0 : cX1_lastBlock.data.toList.drop 0 = dktX1_lastBlock_0 := by decide +kernel
theorem dksX1_lastBlock_1 : cX1_lastBlock.data.toList.drop 24 = dktX1_lastBlock_1 := dk_seg dksX1_lastBlock_0 24 rfl rfl
theorem dX1_lastBlock_0 : decode cX1_lastBlock 0 = .ok (.iload_n 1, 1) := dk_27 (dk_at dksX1_lastBlock_0 0 rfl rfl)
theorem dX1_lastBlock_1 : decode cX1_lastBlock 1 = .ok (.aload_n 0, 1) := dk_42 (dk_at dksX1_lastBlock_0 1 rfl rfl)
theorem dX1_lastBlock_2 : decode cX1_lastBlock 2 = .ok (.getfield 20, 3) := dk_180 0 20 (dk_at dksX1_lastBlock_0 2 rfl rfl)
theorem dX1_lastBlock_5 : decode cX1_lastBlock 5 = .ok (.getfield 147, 3) := dk_180 0 147 (dk_at dksX1_lastBlock_0 5 rfl rfl)
theorem dX1_lastBlock_8 : decode cX1_lastBlock 8 = .ok (.iconst 1, 1) := dk_4 (dk_at dksX1_lastBlock_0 8 rfl rfl)
theorem dX1_lastBlock_9 : decode cX1_lastBlock 9 = .ok (.isub, 1) := dk_100 (dk_at dksX1_lastBlock_0 9 rfl rfl)
theorem dX1_lastBlock_10 : decode cX1_lastBlock 10 = .ok (.if_icmp .ne 12, 3) := dk_160 0 12 (dk_at dksX1_lastBlock_0 10 rfl rfl)
theorem dX1_lastBlock_13 : decode cX1_lastBlock 13 = .ok (.aload_n 0, 1) := dk_42 (dk_at dksX1_lastBlock_0 13 rfl rfl)
theorem dX1_lastBlock_14 : decode cX1_lastBlock 14 = .ok (.invokevirtual 132, 3) := dk_182 0 132 (dk_at dksX1_lastBlock_0 14 rfl rfl)
theorem dX1_lastBlock_17 : decode cX1_lastBlock 17 = .ok (.iconst 1, 1) := dk_4 (dk_at dksX1_lastBlock_0 17 rfl rfl)
theorem dX1_lastBlock_18 : decode cX1_lastBlock 18 = .ok (.isub, 1) := dk_100 (dk_at dksX1_lastBlock_0 18 rfl rfl)
theorem dX1_lastBlock_19 : decode cX1_lastBlock 19 = .ok (.goto 13, 3) := dk_167 0 13 (dk_at dksX1_lastBlock_0 19 rfl rfl)
theorem dX1_lastBlock_22 : decode cX1_lastBlock 22 = .ok (.iload_n 1, 1) := dk_27 (dk_at dksX1_lastBlock_0 22 rfl rfl)
theorem dX1_lastBlock_23 : decode cX1_lastBlock 23 = .ok (.iconst 1, 1) := dk_4 (dk_at dksX1_lastBlock_0 23 rfl rfl)
theorem dX1_lastBlock_24 : decode cX1_lastBlock 24 = .ok (.iadd, 1) := dk_96 (dk_at dksX1_lastBlock_1 0 rfl rfl)
theorem dX1_lastBlock_25 : decode cX1_lastBlock 25 = .ok (.aload_n 0, 1) := dk_42 (dk_at dksX1_lastBlock_1 1 rfl rfl)
theorem dX1_lastBlock_26 : decode cX1_lastBlock 26 = .ok (.getfield 27, 3) := dk_180 0 27 (dk_at dksX1_lastBlock_1 2 rfl rfl)
theorem dX1_lastBlock_29 : decode cX1_lastBlock 29 = .ok (.idiv, 1) := dk_108 (dk_at dksX1_lastBlock_1 5 rfl rfl)
theorem dX1_lastBlock_30 : decode cX1_lastBlock 30 = .ok (.iconst 1, 1) := dk_4 (dk_at dksX1_lastBlock_1 6 rfl rfl)
theorem dX1_lastBlock_31 : decode cX1_lastBlock 31 = .ok (.isub, 1) := dk_100 (dk_at dksX1_lastBlock_1 7 rfl rfl)
theorem dX1_lastBlock_32 : decode cX1_lastBlock 32 = .ok (.ireturn, 1) := dk_172 (dk_at dksX1_lastBlock_1 8 rfl rfl)
abbrev cX1_looks : ByteArray := prog_1_method_38_code
def yX1_looks : MethodName := ⟨RX1, "looks", "(I)V"⟩
def dkwX1_looks_1 : List UInt8 := [180, 1, 6, 27, 79, 42, 89, 180, 1, 6, 4, 96, 181, 1, 6, 177]
abbrev dktX1_looks_1 : List UInt8 := dkwX1_looks_1 ++ []
def dkwX1_looks_0 : List UInt8 := [42, 180, 0, 70, 27, 51, 153, 0, 4, 177, 42, 180, 0, 70, 27, 4, 84, 42, 180, 0, 67, 42]
abbrev dktX1_looks_0 : List UInt8 := dkwX1_looks_0 ++ dktX1_looks_1
theorem dksX1_looks_0 : cX1_looks.data.toList.drop 0 = dktX1_looks_0 := by decide +kernel
theorem dksX1_looks_1 : cX1_looks.data.toList.drop 22 = dktX1_looks_1 := dk_seg dksX1_looks_0 22 rfl rfl
theorem dX1_looks_0 : decode cX1_looks 0 = .ok (.aload_n 0, 1) := dk_42 (dk_at dksX1_looks_0 0 rfl rfl)
theorem dX1_looks_1 : decode cX1_looks 1 = .ok (.getfield 70, 3) := dk_180 0 70 (dk_at dksX1_looks_0 1 rfl rfl)
theorem dX1_looks_4 : decode cX1_looks 4 = .ok (.iload_n 1, 1) := dk_27 (dk_at dksX1_looks_0 4 rfl rfl)
theorem dX1_looks_5 : decode cX1_looks 5 = .ok (.baload, 1) := dk_51 (dk_at dksX1_looks_0 5 rfl rfl)
theorem dX1_looks_6 : decode cX1_looks 6 = .ok (.ifCond .eq 4, 3) := dk_153 0 4 (dk_at dksX1_looks_0 6 rfl rfl)
theorem dX1_looks_9 : decode cX1_looks 9 = .ok (.return_, 1) := dk_177 (dk_at dksX1_looks_0 9 rfl rfl)
theorem dX1_looks_10 : decode cX1_looks 10 = .ok (.aload_n 0, 1) := dk_42 (dk_at dksX1_looks_0 10 rfl rfl)
theorem dX1_looks_11 : decode cX1_looks 11 = .ok (.getfield 70, 3) := dk_180 0 70 (dk_at dksX1_looks_0 11 rfl rfl)
theorem dX1_looks_14 : decode cX1_looks 14 = .ok (.iload_n 1, 1) := dk_27 (dk_at dksX1_looks_0 14 rfl rfl)
theorem dX1_looks_15 : decode cX1_looks 15 = .ok (.iconst 1, 1) := dk_4 (dk_at dksX1_looks_0 15 rfl rfl)
theorem dX1_looks_16 : decode cX1_looks 16 = .ok (.bastore, 1) := dk_84 (dk_at dksX1_looks_0 16 rfl rfl)
theorem dX1_looks_17 : decode cX1_looks 17 = .ok (.aload_n 0, 1) := dk_42 (dk_at dksX1_looks_0 17 rfl rfl)
theorem dX1_looks_18 : decode cX1_looks 18 = .ok (.getfield 67, 3) := dk_180 0 67 (dk_at dksX1_looks_0 18 rfl rfl)
theorem dX1_looks_21 : decode cX1_looks 21 = .ok (.aload_n 0, 1) := dk_42 (dk_at dksX1_looks_0 21 rfl rfl)
theorem dX1_looks_22 : decode cX1_looks 22 = .ok (.getfield 262, 3) := dk_180 1 6 (dk_at dksX1_looks_1 0 rfl rfl)
theorem dX1_looks_25 : decode cX1_looks 25 = .ok (.iload_n 1, 1) := dk_27 (dk_at dksX1_looks_1 3 rfl rfl)
theorem dX1_looks_26 : decode cX1_looks 26 = .ok (.iastore, 1) := dk_79 (dk_at dksX1_looks_1 4 rfl rfl)
theorem dX1_looks_27 : decode cX1_looks 27 = .ok (.aload_n 0, 1) := dk_42 (dk_at dksX1_looks_1 5 rfl rfl)
theorem dX1_looks_28 : decode cX1_looks 28 = .ok (.dup, 1) := dk_89 (dk_at dksX1_looks_1 6 rfl rfl)
theorem dX1_looks_29 : decode cX1_looks 29 = .ok (.getfield 262, 3) := dk_180 1 6 (dk_at dksX1_looks_1 7 rfl rfl)
theorem dX1_looks_32 : decode cX1_looks 32 = .ok (.iconst 1, 1) := dk_4 (dk_at dksX1_looks_1 10 rfl rfl)
theorem dX1_looks_33 : decode cX1_looks 33 = .ok (.iadd, 1) := dk_96 (dk_at dksX1_looks_1 11 rfl rfl)
theorem dX1_looks_34 : decode cX1_looks 34 = .ok (.putfield 262, 3) := dk_181 1 6 (dk_at dksX1_looks_1 12 rfl rfl)
theorem dX1_looks_37 : decode cX1_looks 37 = .ok (.return_, 1) := dk_177 (dk_at dksX1_looks_1 15 rfl rfl)
abbrev cX1_looksNoMore : ByteArray := prog_1_method_39_code
def yX1_looksNoMore : MethodName := ⟨RX1, "looksNoMore", "()V"⟩
def dkwX1_looksNoMore_1 : List UInt8 := [132, 1, 1, 167, 255, 233, 177]
abbrev dktX1_looksNoMore_1 : List UInt8 := dkwX1_looksNoMore_1 ++ []
def dkwX1_looksNoMore_0 : List UInt8 := [3, 60, 27, 42, 180, 1, 6, 162, 0, 21, 42, 180, 0, 70, 42, 180, 0, 67, 27, 46, 3, 84]
abbrev dktX1_looksNoMore_0 : List UInt8 := dkwX1_looksNoMore_0 ++ dktX1_looksNoMore_1
theorem dksX1_looksNoMore_0 : cX1_looksNoMore.data.toList.drop 0 = dktX1_looksNoMore_0 := by decide +kernel
theorem dksX1_looksNoMore_1 : cX1_looksNoMore.data.toList.drop 22 = dktX1_looksNoMore_1 := dk_seg dksX1_looksNoMore_0 22 rfl rfl
theorem dX1_looksNoMore_0 : decode cX1_looksNoMore 0 = .ok (.iconst 0, 1) := dk_3 (dk_at dksX1_looksNoMore_0 0 rfl rfl)
theorem dX1_looksNoMore_1 : decode cX1_looksNoMore 1 = .ok (.istore_n 1, 1) := dk_60 (dk_at dksX1_looksNoMore_0 1 rfl rfl)
theorem dX1_looksNoMore_2 : decode cX1_looksNoMore 2 = .ok (.iload_n 1, 1) := dk_27 (dk_at dksX1_looksNoMore_0 2 rfl rfl)
theorem dX1_looksNoMore_3 : decode cX1_looksNoMore 3 = .ok (.aload_n 0, 1) := dk_42 (dk_at dksX1_looksNoMore_0 3 rfl rfl)
theorem dX1_looksNoMore_4 : decode cX1_looksNoMore 4 = .ok (.getfield 262, 3) := dk_180 1 6 (dk_at dksX1_looksNoMore_0 4 rfl rfl)
theorem dX1_looksNoMore_7 : decode cX1_looksNoMore 7 = .ok (.if_icmp .ge 21, 3) := dk_162 0 21 (dk_at dksX1_looksNoMore_0 7 rfl rfl)
theorem dX1_looksNoMore_10 : decode cX1_looksNoMore 10 = .ok (.aload_n 0, 1) := dk_42 (dk_at dksX1_looksNoMore_0 10 rfl rfl)
theorem dX1_looksNoMore_11 : decode cX1_looksNoMore 11 = .ok (.getfield 70, 3) := dk_180 0 70 (dk_at dksX1_looksNoMore_0 11 rfl rfl)
theorem dX1_looksNoMore_14 : decode cX1_looksNoMore 14 = .ok (.aload_n 0, 1) := dk_42 (dk_at dksX1_looksNoMore_0 14 rfl rfl)
theorem dX1_looksNoMore_15 : decode cX1_looksNoMore 15 = .ok (.getfield 67, 3) := dk_180 0 67 (dk_at dksX1_looksNoMore_0 15 rfl rfl)
theorem dX1_looksNoMore_18 : decode cX1_looksNoMore 18 = .ok (.iload_n 1, 1) := dk_27 (dk_at dksX1_looksNoMore_0 18 rfl rfl)
theorem dX1_looksNoMore_19 : decode cX1_looksNoMore 19 = .ok (.iaload, 1) := dk_46 (dk_at dksX1_looksNoMore_0 19 rfl rfl)
theorem dX1_looksNoMore_20 : decode cX1_looksNoMore 20 = .ok (.iconst 0, 1) := dk_3 (dk_at dksX1_looksNoMore_0 20 rfl rfl)
theorem dX1_looksNoMore_21 : decode cX1_looksNoMore 21 = .ok (.bastore, 1) := dk_84 (dk_at dksX1_looksNoMore_0 21 rfl rfl)
theorem dX1_looksNoMore_22 : decode cX1_looksNoMore 22 = .ok (.iinc 1 1, 3) := dk_132 1 1 (dk_at dksX1_looksNoMore_1 0 rfl rfl)
theorem dX1_looksNoMore_25 : decode cX1_looksNoMore 25 = .ok (.goto (-23), 3) := dk_167 255 233 (dk_at dksX1_looksNoMore_1 3 rfl rfl)
theorem dX1_looksNoMore_28 : decode cX1_looksNoMore 28 = .ok (.return_, 1) := dk_177 (dk_at dksX1_looksNoMore_1 6 rfl rfl)
abbrev cX1_bestOf : ByteArray := prog_1_method_41_code
def yX1_bestOf : MethodName := ⟨RX1, "bestOf", "(III)I"⟩
def dkwX1_bestOf_2 : List UInt8 := [54, 4, 132, 5, 1, 167, 255, 216, 21, 4, 172]
abbrev dktX1_bestOf_2 : List UInt8 := dkwX1_bestOf_2 ++ []
def dkwX1_bestOf_1 : List UInt8 := [180, 0, 67, 21, 5, 46, 21, 4, 27, 28, 29, 182, 0, 198, 153, 0, 12, 42, 180, 0, 67, 21, 5, 46]
abbrev dktX1_bestOf_1 : List UInt8 := dkwX1_bestOf_1 ++ dktX1_bestOf_2
def dkwX1_bestOf_0 : List UInt8 := [42, 180, 0, 67, 3, 46, 54, 4, 4, 54, 5, 21, 5, 42, 180, 1, 6, 162, 0, 37, 42, 42]
abbrev dktX1_bestOf_0 : List UInt8 := dkwX1_bestOf_0 ++ dktX1_bestOf_1
theorem dksX1_bestOf_0 : cX1_bestOf.data.toList.drop 0 = dktX1_bestOf_0 := by decide +kernel
theorem dksX1_bestOf_1 : cX1_bestOf.data.toList.drop 22 = dktX1_bestOf_1 := dk_seg dksX1_bestOf_0 22 rfl rfl
theorem dksX1_bestOf_2 : cX1_bestOf.data.toList.drop 46 = dktX1_bestOf_2 := dk_seg dksX1_bestOf_1 24 rfl rfl
theorem dX1_bestOf_0 : decode cX1_bestOf 0 = .ok (.aload_n 0, 1) := dk_42 (dk_at dksX1_bestOf_0 0 rfl rfl)
theorem dX1_bestOf_1 : decode cX1_bestOf 1 = .ok (.getfield 67, 3) := dk_180 0 67 (dk_at dksX1_bestOf_0 1 rfl rfl)
theorem dX1_bestOf_4 : decode cX1_bestOf 4 = .ok (.iconst 0, 1) := dk_3 (dk_at dksX1_bestOf_0 4 rfl rfl)
theorem dX1_bestOf_5 : decode cX1_bestOf 5 = .ok (.iaload, 1) := dk_46 (dk_at dksX1_bestOf_0 5 rfl rfl)
theorem dX1_bestOf_6 : decode cX1_bestOf 6 = .ok (.istore 4, 2) := dk_54 4 (dk_at dksX1_bestOf_0 6 rfl rfl)
theorem dX1_bestOf_8 : decode cX1_bestOf 8 = .ok (.iconst 1, 1) := dk_4 (dk_at dksX1_bestOf_0 8 rfl rfl)
theorem dX1_bestOf_9 : decode cX1_bestOf 9 = .ok (.istore 5, 2) := dk_54 5 (dk_at dksX1_bestOf_0 9 rfl rfl)
theorem dX1_bestOf_11 : decode cX1_bestOf 11 = .ok (.iload 5, 2) := dk_21 5 (dk_at dksX1_bestOf_0 11 rfl rfl)
theorem dX1_bestOf_13 : decode cX1_bestOf 13 = .ok (.aload_n 0, 1) := dk_42 (dk_at dksX1_bestOf_0 13 rfl rfl)
theorem dX1_bestOf_14 : decode cX1_bestOf 14 = .ok (.getfield 262, 3) := dk_180 1 6 (dk_at dksX1_bestOf_0 14 rfl rfl)
theorem dX1_bestOf_17 : decode cX1_bestOf 17 = .ok (.if_icmp .ge 37, 3) := dk_162 0 37 (dk_at dksX1_bestOf_0 17 rfl rfl)
theorem dX1_bestOf_20 : decode cX1_bestOf 20 = .ok (.aload_n 0, 1) := dk_42 (dk_at dksX1_bestOf_0 20 rfl rfl)
theorem dX1_bestOf_21 : decode cX1_bestOf 21 = .ok (.aload_n 0, 1) := dk_42 (dk_at dksX1_bestOf_0 21 rfl rfl)
theorem dX1_bestOf_22 : decode cX1_bestOf 22 = .ok (.getfield 67, 3) := dk_180 0 67 (dk_at dksX1_bestOf_1 0 rfl rfl)
theorem dX1_bestOf_25 : decode cX1_bestOf 25 = .ok (.iload 5, 2) := dk_21 5 (dk_at dksX1_bestOf_1 3 rfl rfl)
theorem dX1_bestOf_27 : decode cX1_bestOf 27 = .ok (.iaload, 1) := dk_46 (dk_at dksX1_bestOf_1 5 rfl rfl)
theorem dX1_bestOf_28 : decode cX1_bestOf 28 = .ok (.iload 4, 2) := dk_21 4 (dk_at dksX1_bestOf_1 6 rfl rfl)
theorem dX1_bestOf_30 : decode cX1_bestOf 30 = .ok (.iload_n 1, 1) := dk_27 (dk_at dksX1_bestOf_1 8 rfl rfl)
theorem dX1_bestOf_31 : decode cX1_bestOf 31 = .ok (.iload_n 2, 1) := dk_28 (dk_at dksX1_bestOf_1 9 rfl rfl)
theorem dX1_bestOf_32 : decode cX1_bestOf 32 = .ok (.iload_n 3, 1) := dk_29 (dk_at dksX1_bestOf_1 10 rfl rfl)
theorem dX1_bestOf_33 : decode cX1_bestOf 33 = .ok (.invokevirtual 198, 3) := dk_182 0 198 (dk_at dksX1_bestOf_1 11 rfl rfl)
theorem dX1_bestOf_36 : decode cX1_bestOf 36 = .ok (.ifCond .eq 12, 3) := dk_153 0 12 (dk_at dksX1_bestOf_1 14 rfl rfl)
theorem dX1_bestOf_39 : decode cX1_bestOf 39 = .ok (.aload_n 0, 1) := dk_42 (dk_at dksX1_bestOf_1 17 rfl rfl)
theorem dX1_bestOf_40 : decode cX1_bestOf 40 = .ok (.getfield 67, 3) := dk_180 0 67 (dk_at dksX1_bestOf_1 18 rfl rfl)
theorem dX1_bestOf_43 : decode cX1_bestOf 43 = .ok (.iload 5, 2) := dk_21 5 (dk_at dksX1_bestOf_1 21 rfl rfl)
theorem dX1_bestOf_45 : decode cX1_bestOf 45 = .ok (.iaload, 1) := dk_46 (dk_at dksX1_bestOf_1 23 rfl rfl)
theorem dX1_bestOf_46 : decode cX1_bestOf 46 = .ok (.istore 4, 2) := dk_54 4 (dk_at dksX1_bestOf_2 0 rfl rfl)
theorem dX1_bestOf_48 : decode cX1_bestOf 48 = .ok (.iinc 5 1, 3) := dk_132 5 1 (dk_at dksX1_bestOf_2 2 rfl rfl)
theorem dX1_bestOf_51 : decode cX1_bestOf 51 = .ok (.goto (-40), 3) := dk_167 255 216 (dk_at dksX1_bestOf_2 5 rfl rfl)
theorem dX1_bestOf_54 : decode cX1_bestOf 54 = .ok (.iload 4, 2) := dk_21 4 (dk_at dksX1_bestOf_2 8 rfl rfl)
theorem dX1_bestOf_56 : decode cX1_bestOf 56 = .ok (.ireturn, 1) := dk_172 (dk_at dksX1_bestOf_2 10 rfl rfl)
abbrev cX1_sort : ByteArray := prog_1_method_33_code
def yX1_sort : MethodName := ⟨RX1, "sort", "(IIZ)I"⟩
def dkwX1_sort_5 : List UInt8 := [167, 255, 161, 42, 182, 0, 225, 172]
abbrev dktX1_sort_5 : List UInt8 := dkwX1_sort_5 ++ []
def dkwX1_sort_4 : List UInt8 := [42, 180, 0, 20, 21, 5, 4, 100, 21, 5, 182, 0, 240, 132, 5, 255, 167, 255, 177, 132, 4, 1]
abbrev dktX1_sort_4 : List UInt8 := dkwX1_sort_4 ++ dktX1_sort_5
def dkwX1_sort_3 : List UInt8 := [180, 0, 20, 180, 0, 148, 21, 5, 4, 100, 46, 42, 180, 0, 20, 180, 0, 148, 21, 5, 46, 162, 0, 22]
abbrev dktX1_sort_3 : List UInt8 := dkwX1_sort_3 ++ dktX1_sort_4
def dkwX1_sort_2 : List UInt8 := [21, 5, 4, 100, 46, 42, 180, 0, 20, 180, 0, 148, 21, 5, 46, 164, 0, 50, 167, 0, 28, 42]
abbrev dktX1_sort_2 : List UInt8 := dkwX1_sort_2 ++ dktX1_sort_3
def dkwX1_sort_1 : List UInt8 := [163, 0, 95, 21, 4, 54, 5, 21, 5, 27, 164, 0, 79, 29, 153, 0, 31, 42, 180, 0, 20, 180, 0, 148]
abbrev dktX1_sort_1 : List UInt8 := dkwX1_sort_1 ++ dktX1_sort_2
def dkwX1_sort_0 : List UInt8 := [42, 27, 28, 182, 0, 236, 154, 0, 5, 2, 172, 42, 182, 0, 222, 27, 4, 96, 54, 4, 21, 4, 28]
abbrev dktX1_sort_0 : List UInt8 := dkwX1_sort_0 ++ dktX1_sort_1
theorem dksX1_sort_0 : cX1_sort.data.toList.drop 0 = dktX1_sort_0 := by decide +kernel
theorem dksX1_sort_1 : cX1_sort.data.toList.drop 23 = dktX1_sort_1 := dk_seg dksX1_sort_0 23 rfl rfl
theorem dksX1_sort_2 : cX1_sort.data.toList.drop 47 = dktX1_sort_2 := dk_seg dksX1_sort_1 24 rfl rfl
theorem dksX1_sort_3 : cX1_sort.data.toList.drop 69 = dktX1_sort_3 := dk_seg dksX1_sort_2 22 rfl rfl
theorem dksX1_sort_4 : cX1_sort.data.toList.drop 93 = dktX1_sort_4 := dk_seg dksX1_sort_3 24 rfl rfl
theorem dksX1_sort_5 : cX1_sort.data.toList.drop 115 = dktX1_sort_5 := dk_seg dksX1_sort_4 22 rfl rfl
theorem dX1_sort_0 : decode cX1_sort 0 = .ok (.aload_n 0, 1) := dk_42 (dk_at dksX1_sort_0 0 rfl rfl)
theorem dX1_sort_1 : decode cX1_sort 1 = .ok (.iload_n 1, 1) := dk_27 (dk_at dksX1_sort_0 1 rfl rfl)
theorem dX1_sort_2 : decode cX1_sort 2 = .ok (.iload_n 2, 1) := dk_28 (dk_at dksX1_sort_0 2 rfl rfl)
theorem dX1_sort_3 : decode cX1_sort 3 = .ok (.invokevirtual 236, 3) := dk_182 0 236 (dk_at dksX1_sort_0 3 rfl rfl)
theorem dX1_sort_6 : decode cX1_sort 6 = .ok (.ifCond .ne 5, 3) := dk_154 0 5 (dk_at dksX1_sort_0 6 rfl rfl)
theorem dX1_sort_9 : decode cX1_sort 9 = .ok (.iconst (-1), 1) := dk_2 (dk_at dksX1_sort_0 9 rfl rfl)
theorem dX1_sort_10 : decode cX1_sort 10 = .ok (.ireturn, 1) := dk_172 (dk_at dksX1_sort_0 10 rfl rfl)
theorem dX1_sort_11 : decode cX1_sort 11 = .ok (.aload_n 0, 1) := dk_42 (dk_at dksX1_sort_0 11 rfl rfl)
theorem dX1_sort_12 : decode cX1_sort 12 = .ok (.invokevirtual 222, 3) := dk_182 0 222 (dk_at dksX1_sort_0 12 rfl rfl)
theorem dX1_sort_15 : decode cX1_sort 15 = .ok (.iload_n 1, 1) := dk_27 (dk_at dksX1_sort_0 15 rfl rfl)
theorem dX1_sort_16 : decode cX1_sort 16 = .ok (.iconst 1, 1) := dk_4 (dk_at dksX1_sort_0 16 rfl rfl)
theorem dX1_sort_17 : decode cX1_sort 17 = .ok (.iadd, 1) := dk_96 (dk_at dksX1_sort_0 17 rfl rfl)
theorem dX1_sort_18 : decode cX1_sort 18 = .ok (.istore 4, 2) := dk_54 4 (dk_at dksX1_sort_0 18 rfl rfl)
theorem dX1_sort_20 : decode cX1_sort 20 = .ok (.iload 4, 2) := dk_21 4 (dk_at dksX1_sort_0 20 rfl rfl)
theorem dX1_sort_22 : decode cX1_sort 22 = .ok (.iload_n 2, 1) := dk_28 (dk_at dksX1_sort_0 22 rfl rfl)
theorem dX1_sort_23 : decode cX1_sort 23 = .ok (.if_icmp .gt 95, 3) := dk_163 0 95 (dk_at dksX1_sort_1 0 rfl rfl)
theorem dX1_sort_26 : decode cX1_sort 26 = .ok (.iload 4, 2) := dk_21 4 (dk_at dksX1_sort_1 3 rfl rfl)
theorem dX1_sort_28 : decode cX1_sort 28 = .ok (.istore 5, 2) := dk_54 5 (dk_at dksX1_sort_1 5 rfl rfl)
theorem dX1_sort_30 : decode cX1_sort 30 = .ok (.iload 5, 2) := dk_21 5 (dk_at dksX1_sort_1 7 rfl rfl)
theorem dX1_sort_32 : decode cX1_sort 32 = .ok (.iload_n 1, 1) := dk_27 (dk_at dksX1_sort_1 9 rfl rfl)
theorem dX1_sort_33 : decode cX1_sort 33 = .ok (.if_icmp .le 79, 3) := dk_164 0 79 (dk_at dksX1_sort_1 10 rfl rfl)
theorem dX1_sort_36 : decode cX1_sort 36 = .ok (.iload_n 3, 1) := dk_29 (dk_at dksX1_sort_1 13 rfl rfl)
theorem dX1_sort_37 : decode cX1_sort 37 = .ok (.ifCond .eq 31, 3) := dk_153 0 31 (dk_at dksX1_sort_1 14 rfl rfl)
theorem dX1_sort_40 : decode cX1_sort 40 = .ok (.aload_n 0, 1) := dk_42 (dk_at dksX1_sort_1 17 rfl rfl)
theorem dX1_sort_41 : decode cX1_sort 41 = .ok (.getfield 20, 3) := dk_180 0 20 (dk_at dksX1_sort_1 18 rfl rfl)
theorem dX1_sort_44 : decode cX1_sort 44 = .ok (.getfield 148, 3) := dk_180 0 148 (dk_at dksX1_sort_1 21 rfl rfl)
theorem dX1_sort_47 : decode cX1_sort 47 = .ok (.iload 5, 2) := dk_21 5 (dk_at dksX1_sort_2 0 rfl rfl)
theorem dX1_sort_49 : decode cX1_sort 49 = .ok (.iconst 1, 1) := dk_4 (dk_at dksX1_sort_2 2 rfl rfl)
theorem dX1_sort_50 : decode cX1_sort 50 = .ok (.isub, 1) := dk_100 (dk_at dksX1_sort_2 3 rfl rfl)
theorem dX1_sort_51 : decode cX1_sort 51 = .ok (.iaload, 1) := dk_46 (dk_at dksX1_sort_2 4 rfl rfl)
theorem dX1_sort_52 : decode cX1_sort 52 = .ok (.aload_n 0, 1) := dk_42 (dk_at dksX1_sort_2 5 rfl rfl)
theorem dX1_sort_53 : decode cX1_sort 53 = .ok (.getfield 20, 3) := dk_180 0 20 (dk_at dksX1_sort_2 6 rfl rfl)
theorem dX1_sort_56 : decode cX1_sort 56 = .ok (.getfield 148, 3) := dk_180 0 148 (dk_at dksX1_sort_2 9 rfl rfl)
theorem dX1_sort_59 : decode cX1_sort 59 = .ok (.iload 5, 2) := dk_21 5 (dk_at dksX1_sort_2 12 rfl rfl)
theorem dX1_sort_61 : decode cX1_sort 61 = .ok (.iaload, 1) := dk_46 (dk_at dksX1_sort_2 14 rfl rfl)
theorem dX1_sort_62 : decode cX1_sort 62 = .ok (.if_icmp .le 50, 3) := dk_164 0 50 (dk_at dksX1_sort_2 15 rfl rfl)
theorem dX1_sort_65 : decode cX1_sort 65 = .ok (.goto 28, 3) := dk_167 0 28 (dk_at dksX1_sort_2 18 rfl rfl)
theorem dX1_sort_68 : decode cX1_sort 68 = .ok (.aload_n 0, 1) := dk_42 (dk_at dksX1_sort_2 21 rfl rfl)
theorem dX1_sort_69 : decode cX1_sort 69 = .ok (.getfield 20, 3) := dk_180 0 20 (dk_at dksX1_sort_3 0 rfl rfl)
theorem dX1_sort_72 : decode cX1_sort 72 = .ok (.getfield 148, 3) := dk_180 0 148 (dk_at dksX1_sort_3 3 rfl rfl)
theorem dX1_sort_75 : decode cX1_sort 75 = .ok (.iload 5, 2) := dk_21 5 (dk_at dksX1_sort_3 6 rfl rfl)
theorem dX1_sort_77 : decode cX1_sort 77 = .ok (.iconst 1, 1) := dk_4 (dk_at dksX1_sort_3 8 rfl rfl)
theorem dX1_sort_78 : decode cX1_sort 78 = .ok (.isub, 1) := dk_100 (dk_at dksX1_sort_3 9 rfl rfl)
theorem dX1_sort_79 : decode cX1_sort 79 = .ok (.iaload, 1) := dk_46 (dk_at dksX1_sort_3 10 rfl rfl)
theorem dX1_sort_80 : decode cX1_sort 80 = .ok (.aload_n 0, 1) := dk_42 (dk_at dksX1_sort_3 11 rfl rfl)
theorem dX1_sort_81 : decode cX1_sort 81 = .ok (.getfield 20, 3) := dk_180 0 20 (dk_at dksX1_sort_3 12 rfl rfl)
theorem dX1_sort_84 : decode cX1_sort 84 = .ok (.getfield 148, 3) := dk_180 0 148 (dk_at dksX1_sort_3 15 rfl rfl)
theorem dX1_sort_87 : decode cX1_sort 87 = .ok (.iload 5, 2) := dk_21 5 (dk_at dksX1_sort_3 18 rfl rfl)
theorem dX1_sort_89 : decode cX1_sort 89 = .ok (.iaload, 1) := dk_46 (dk_at dksX1_sort_3 20 rfl rfl)
theorem dX1_sort_90 : decode cX1_sort 90 = .ok (.if_icmp .ge 22, 3) := dk_162 0 22 (dk_at dksX1_sort_3 21 rfl rfl)
theorem dX1_sort_93 : decode cX1_sort 93 = .ok (.aload_n 0, 1) := dk_42 (dk_at dksX1_sort_4 0 rfl rfl)
theorem dX1_sort_94 : decode cX1_sort 94 = .ok (.getfield 20, 3) := dk_180 0 20 (dk_at dksX1_sort_4 1 rfl rfl)
theorem dX1_sort_97 : decode cX1_sort 97 = .ok (.iload 5, 2) := dk_21 5 (dk_at dksX1_sort_4 4 rfl rfl)
theorem dX1_sort_99 : decode cX1_sort 99 = .ok (.iconst 1, 1) := dk_4 (dk_at dksX1_sort_4 6 rfl rfl)
theorem dX1_sort_100 : decode cX1_sort 100 = .ok (.isub, 1) := dk_100 (dk_at dksX1_sort_4 7 rfl rfl)
theorem dX1_sort_101 : decode cX1_sort 101 = .ok (.iload 5, 2) := dk_21 5 (dk_at dksX1_sort_4 8 rfl rfl)
theorem dX1_sort_103 : decode cX1_sort 103 = .ok (.invokevirtual 240, 3) := dk_182 0 240 (dk_at dksX1_sort_4 10 rfl rfl)
theorem dX1_sort_106 : decode cX1_sort 106 = .ok (.iinc 5 (-1), 3) := dk_132 5 255 (dk_at dksX1_sort_4 13 rfl rfl)
theorem dX1_sort_109 : decode cX1_sort 109 = .ok (.goto (-79), 3) := dk_167 255 177 (dk_at dksX1_sort_4 16 rfl rfl)
theorem dX1_sort_112 : decode cX1_sort 112 = .ok (.iinc 4 1, 3) := dk_132 4 1 (dk_at dksX1_sort_4 19 rfl rfl)
theorem dX1_sort_115 : decode cX1_sort 115 = .ok (.goto (-95), 3) := dk_167 255 161 (dk_at dksX1_sort_5 0 rfl rfl)
theorem dX1_sort_118 : decode cX1_sort 118 = .ok (.aload_n 0, 1) := dk_42 (dk_at dksX1_sort_5 3 rfl rfl)
theorem dX1_sort_119 : decode cX1_sort 119 = .ok (.invokevirtual 225, 3) := dk_182 0 225 (dk_at dksX1_sort_5 4 rfl rfl)
theorem dX1_sort_122 : decode cX1_sort 122 = .ok (.ireturn, 1) := dk_172 (dk_at dksX1_sort_5 7 rfl rfl)
abbrev cX1_undo : ByteArray := prog_1_method_34_code
def yX1_undo : MethodName := ⟨RX1, "undo", "()I"⟩
def dkwX1_undo_2 : List UInt8 := [172]
abbrev dktX1_undo_2 : List UInt8 := dkwX1_undo_2 ++ []
def dkwX1_undo_1 : List UInt8 := [180, 0, 20, 42, 180, 0, 63, 42, 180, 0, 126, 50, 182, 0, 113, 87, 42, 182, 0, 209, 42, 180, 0, 126]
abbrev dktX1_undo_1 : List UInt8 := dkwX1_undo_1 ++ dktX1_undo_2
def dkwX1_undo_0 : List UInt8 := [42, 180, 0, 126, 154, 0, 5, 2, 172, 42, 89, 180, 0, 126, 4, 100, 181, 0, 126, 42, 182, 0, 222, 42]
abbrev dktX1_undo_0 : List UInt8 := dkwX1_undo_0 ++ dktX1_undo_1
theorem dksX1_undo_0 : cX1_undo.data.toList.drop 0 = dktX1_undo_0 := by decide +kernel
theorem dksX1_undo_1 : cX1_undo.data.toList.drop 24 = dktX1_undo_1 := dk_seg dksX1_undo_0 24 rfl rfl
theorem dksX1_undo_2 : cX1_undo.data.toList.drop 48 = dktX1_undo_2 := dk_seg dksX1_undo_1 24 rfl rfl
theorem dX1_undo_0 : decode cX1_undo 0 = .ok (.aload_n 0, 1) := dk_42 (dk_at dksX1_undo_0 0 rfl rfl)
theorem dX1_undo_1 : decode cX1_undo 1 = .ok (.getfield 126, 3) := dk_180 0 126 (dk_at dksX1_undo_0 1 rfl rfl)
theorem dX1_undo_4 : decode cX1_undo 4 = .ok (.ifCond .ne 5, 3) := dk_154 0 5 (dk_at dksX1_undo_0 4 rfl rfl)
theorem dX1_undo_7 : decode cX1_undo 7 = .ok (.iconst (-1), 1) := dk_2 (dk_at dksX1_undo_0 7 rfl rfl)
theorem dX1_undo_8 : decode cX1_undo 8 = .ok (.ireturn, 1) := dk_172 (dk_at dksX1_undo_0 8 rfl rfl)
theorem dX1_undo_9 : decode cX1_undo 9 = .ok (.aload_n 0, 1) := dk_42 (dk_at dksX1_undo_0 9 rfl rfl)
theorem dX1_undo_10 : decode cX1_undo 10 = .ok (.dup, 1) := dk_89 (dk_at dksX1_undo_0 10 rfl rfl)
theorem dX1_undo_11 : decode cX1_undo 11 = .ok (.getfield 126, 3) := dk_180 0 126 (dk_at dksX1_undo_0 11 rfl rfl)
theorem dX1_undo_14 : decode cX1_undo 14 = .ok (.iconst 1, 1) := dk_4 (dk_at dksX1_undo_0 14 rfl rfl)
theorem dX1_undo_15 : decode cX1_undo 15 = .ok (.isub, 1) := dk_100 (dk_at dksX1_undo_0 15 rfl rfl)
theorem dX1_undo_16 : decode cX1_undo 16 = .ok (.putfield 126, 3) := dk_181 0 126 (dk_at dksX1_undo_0 16 rfl rfl)
theorem dX1_undo_19 : decode cX1_undo 19 = .ok (.aload_n 0, 1) := dk_42 (dk_at dksX1_undo_0 19 rfl rfl)
theorem dX1_undo_20 : decode cX1_undo 20 = .ok (.invokevirtual 222, 3) := dk_182 0 222 (dk_at dksX1_undo_0 20 rfl rfl)
theorem dX1_undo_23 : decode cX1_undo 23 = .ok (.aload_n 0, 1) := dk_42 (dk_at dksX1_undo_0 23 rfl rfl)
theorem dX1_undo_24 : decode cX1_undo 24 = .ok (.getfield 20, 3) := dk_180 0 20 (dk_at dksX1_undo_1 0 rfl rfl)
theorem dX1_undo_27 : decode cX1_undo 27 = .ok (.aload_n 0, 1) := dk_42 (dk_at dksX1_undo_1 3 rfl rfl)
theorem dX1_undo_28 : decode cX1_undo 28 = .ok (.getfield 63, 3) := dk_180 0 63 (dk_at dksX1_undo_1 4 rfl rfl)
theorem dX1_undo_31 : decode cX1_undo 31 = .ok (.aload_n 0, 1) := dk_42 (dk_at dksX1_undo_1 7 rfl rfl)
theorem dX1_undo_32 : decode cX1_undo 32 = .ok (.getfield 126, 3) := dk_180 0 126 (dk_at dksX1_undo_1 8 rfl rfl)
theorem dX1_undo_35 : decode cX1_undo 35 = .ok (.aaload, 1) := dk_50 (dk_at dksX1_undo_1 11 rfl rfl)
theorem dX1_undo_36 : decode cX1_undo 36 = .ok (.invokevirtual 113, 3) := dk_182 0 113 (dk_at dksX1_undo_1 12 rfl rfl)
theorem dX1_undo_39 : decode cX1_undo 39 = .ok (.pop, 1) := dk_87 (dk_at dksX1_undo_1 15 rfl rfl)
theorem dX1_undo_40 : decode cX1_undo 40 = .ok (.aload_n 0, 1) := dk_42 (dk_at dksX1_undo_1 16 rfl rfl)
theorem dX1_undo_41 : decode cX1_undo 41 = .ok (.invokevirtual 209, 3) := dk_182 0 209 (dk_at dksX1_undo_1 17 rfl rfl)
theorem dX1_undo_44 : decode cX1_undo 44 = .ok (.aload_n 0, 1) := dk_42 (dk_at dksX1_undo_1 20 rfl rfl)
theorem dX1_undo_45 : decode cX1_undo 45 = .ok (.getfield 126, 3) := dk_180 0 126 (dk_at dksX1_undo_1 21 rfl rfl)
theorem dX1_undo_48 : decode cX1_undo 48 = .ok (.ireturn, 1) := dk_172 (dk_at dksX1_undo_2 0 rfl rfl)
abbrev cX1_was : ByteArray := prog_1_method_35_code
def yX1_was : MethodName := ⟨RX1, "was", "(II)I"⟩
def dkwX1_was_2 : List UInt8 := [162, 0, 12, 45, 180, 0, 148, 28, 46, 167, 0, 5, 16, 254, 172]
abbrev dktX1_was_2 : List UInt8 := dkwX1_was_2 ++ []
def dkwX1_was_1 : List UInt8 := [42, 180, 0, 20, 167, 0, 14, 42, 180, 0, 63, 42, 180, 0, 126, 27, 100, 50, 78, 28, 45, 180, 0, 147]
abbrev dktX1_was_1 : List UInt8 := dkwX1_was_1 ++ dktX1_was_2
def dkwX1_was_0 : List UInt8 := [27, 133, 9, 42, 180, 0, 126, 133, 184, 0, 89, 153, 0, 7, 28, 156, 0, 5, 2, 172, 27, 154, 0, 10]
abbrev dktX1_was_0 : List UInt8 := dkwX1_was_0 ++ dktX1_was_1
theorem dksX1_was_0 : cX1_was.data.toList.drop 0 = dktX1_was_0 := by decide +kernel
theorem dksX1_was_1 : cX1_was.data.toList.drop 24 = dktX1_was_1 := dk_seg dksX1_was_0 24 rfl rfl
theorem dksX1_was_2 : cX1_was.data.toList.drop 48 = dktX1_was_2 := dk_seg dksX1_was_1 24 rfl rfl
theorem dX1_was_0 : decode cX1_was 0 = .ok (.iload_n 1, 1) := dk_27 (dk_at dksX1_was_0 0 rfl rfl)
theorem dX1_was_1 : decode cX1_was 1 = .ok (.i2l, 1) := dk_133 (dk_at dksX1_was_0 1 rfl rfl)
theorem dX1_was_2 : decode cX1_was 2 = .ok (.lconst 0, 1) := dk_9 (dk_at dksX1_was_0 2 rfl rfl)
theorem dX1_was_3 : decode cX1_was 3 = .ok (.aload_n 0, 1) := dk_42 (dk_at dksX1_was_0 3 rfl rfl)
theorem dX1_was_4 : decode cX1_was 4 = .ok (.getfield 126, 3) := dk_180 0 126 (dk_at dksX1_was_0 4 rfl rfl)
theorem dX1_was_7 : decode cX1_was 7 = .ok (.i2l, 1) := dk_133 (dk_at dksX1_was_0 7 rfl rfl)
theorem dX1_was_8 : decode cX1_was 8 = .ok (.invokestatic 89, 3) := dk_184 0 89 (dk_at dksX1_was_0 8 rfl rfl)
theorem dX1_was_11 : decode cX1_was 11 = .ok (.ifCond .eq 7, 3) := dk_153 0 7 (dk_at dksX1_was_0 11 rfl rfl)
theorem dX1_was_14 : decode cX1_was 14 = .ok (.iload_n 2, 1) := dk_28 (dk_at dksX1_was_0 14 rfl rfl)
theorem dX1_was_15 : decode cX1_was 15 = .ok (.ifCond .ge 5, 3) := dk_156 0 5 (dk_at dksX1_was_0 15 rfl rfl)
theorem dX1_was_18 : decode cX1_was 18 = .ok (.iconst (-1), 1) := dk_2 (dk_at dksX1_was_0 18 rfl rfl)
theorem dX1_was_19 : decode cX1_was 19 = .ok (.ireturn, 1) := dk_172 (dk_at dksX1_was_0 19 rfl rfl)
theorem dX1_was_20 : decode cX1_was 20 = .ok (.iload_n 1, 1) := dk_27 (dk_at dksX1_was_0 20 rfl rfl)
theorem dX1_was_21 : decode cX1_was 21 = .ok (.ifCond .ne 10, 3) := dk_154 0 10 (dk_at dksX1_was_0 21 rfl rfl)
theorem dX1_was_24 : decode cX1_was 24 = .ok (.aload_n 0, 1) := dk_42 (dk_at dksX1_was_1 0 rfl rfl)
theorem dX1_was_25 : decode cX1_was 25 = .ok (.getfield 20, 3) := dk_180 0 20 (dk_at dksX1_was_1 1 rfl rfl)
theorem dX1_was_28 : decode cX1_was 28 = .ok (.goto 14, 3) := dk_167 0 14 (dk_at dksX1_was_1 4 rfl rfl)
theorem dX1_was_31 : decode cX1_was 31 = .ok (.aload_n 0, 1) := dk_42 (dk_at dksX1_was_1 7 rfl rfl)
theorem dX1_was_32 : decode cX1_was 32 = .ok (.getfield 63, 3) := dk_180 0 63 (dk_at dksX1_was_1 8 rfl rfl)
theorem dX1_was_35 : decode cX1_was 35 = .ok (.aload_n 0, 1) := dk_42 (dk_at dksX1_was_1 11 rfl rfl)
theorem dX1_was_36 : decode cX1_was 36 = .ok (.getfield 126, 3) := dk_180 0 126 (dk_at dksX1_was_1 12 rfl rfl)
theorem dX1_was_39 : decode cX1_was 39 = .ok (.iload_n 1, 1) := dk_27 (dk_at dksX1_was_1 15 rfl rfl)
theorem dX1_was_40 : decode cX1_was 40 = .ok (.isub, 1) := dk_100 (dk_at dksX1_was_1 16 rfl rfl)
theorem dX1_was_41 : decode cX1_was 41 = .ok (.aaload, 1) := dk_50 (dk_at dksX1_was_1 17 rfl rfl)
theorem dX1_was_42 : decode cX1_was 42 = .ok (.astore_n 3, 1) := dk_78 (dk_at dksX1_was_1 18 rfl rfl)
theorem dX1_was_43 : decode cX1_was 43 = .ok (.iload_n 2, 1) := dk_28 (dk_at dksX1_was_1 19 rfl rfl)
theorem dX1_was_44 : decode cX1_was 44 = .ok (.aload_n 3, 1) := dk_45 (dk_at dksX1_was_1 20 rfl rfl)
theorem dX1_was_45 : decode cX1_was 45 = .ok (.getfield 147, 3) := dk_180 0 147 (dk_at dksX1_was_1 21 rfl rfl)
theorem dX1_was_48 : decode cX1_was 48 = .ok (.if_icmp .ge 12, 3) := dk_162 0 12 (dk_at dksX1_was_2 0 rfl rfl)
theorem dX1_was_51 : decode cX1_was 51 = .ok (.aload_n 3, 1) := dk_45 (dk_at dksX1_was_2 3 rfl rfl)
theorem dX1_was_52 : decode cX1_was 52 = .ok (.getfield 148, 3) := dk_180 0 148 (dk_at dksX1_was_2 4 rfl rfl)
theorem dX1_was_55 : decode cX1_was 55 = .ok (.iload_n 2, 1) := dk_28 (dk_at dksX1_was_2 7 rfl rfl)
theorem dX1_was_56 : decode cX1_was 56 = .ok (.iaload, 1) := dk_46 (dk_at dksX1_was_2 8 rfl rfl)
theorem dX1_was_57 : decode cX1_was 57 = .ok (.goto 5, 3) := dk_167 0 5 (dk_at dksX1_was_2 9 rfl rfl)
theorem dX1_was_60 : decode cX1_was 60 = .ok (.bipush (-2), 2) := dk_16 254 (dk_at dksX1_was_2 12 rfl rfl)
theorem dX1_was_62 : decode cX1_was 62 = .ok (.ireturn, 1) := dk_172 (dk_at dksX1_was_2 14 rfl rfl)
abbrev cX1_mode : ByteArray := prog_1_method_46_code
def yX1_mode : MethodName := ⟨RX1, "mode", "(III)I"⟩
def dkwX1_mode_1 : List UInt8 := [28, 182, 1, 36, 27, 28, 29, 182, 1, 39, 167, 0, 4, 2, 172]
abbrev dktX1_mode_1 : List UInt8 := dkwX1_mode_1 ++ []
def dkwX1_mode_0 : List UInt8 := [42, 27, 28, 182, 0, 236, 153, 0, 31, 29, 133, 9, 20, 1, 34, 184, 0, 89, 153, 0, 19, 42, 42, 27]
abbrev dktX1_mode_0 : List UInt8 := dkwX1_mode_0 ++ dktX1_mode_1
theorem dksX1_mode_0 : cX1_mode.data.toList.drop 0 = dktX1_mode_0 := by decide +kernel
theorem dksX1_mode_1 : cX1_mode.data.toList.drop 24 = dktX1_mode_1 := dk_seg dksX1_mode_0 24 rfl rfl
theorem dX1_mode_0 : decode cX1_mode 0 = .ok (.aload_n 0, 1) := dk_42 (dk_at dksX1_mode_0 0 rfl rfl)
theorem dX1_mode_1 : decode cX1_mode 1 = .ok (.iload_n 1, 1) := dk_27 (dk_at dksX1_mode_0 1 rfl rfl)
theorem dX1_mode_2 : decode cX1_mode 2 = .ok (.iload_n 2, 1) := dk_28 (dk_at dksX1_mode_0 2 rfl rfl)
theorem dX1_mode_3 : decode cX1_mode 3 = .ok (.invokevirtual 236, 3) := dk_182 0 236 (dk_at dksX1_mode_0 3 rfl rfl)
theorem dX1_mode_6 : decode cX1_mode 6 = .ok (.ifCond .eq 31, 3) := dk_153 0 31 (dk_at dksX1_mode_0 6 rfl rfl)
theorem dX1_mode_9 : decode cX1_mode 9 = .ok (.iload_n 3, 1) := dk_29 (dk_at dksX1_mode_0 9 rfl rfl)
theorem dX1_mode_10 : decode cX1_mode 10 = .ok (.i2l, 1) := dk_133 (dk_at dksX1_mode_0 10 rfl rfl)
theorem dX1_mode_11 : decode cX1_mode 11 = .ok (.lconst 0, 1) := dk_9 (dk_at dksX1_mode_0 11 rfl rfl)
theorem dX1_mode_12 : decode cX1_mode 12 = .ok (.ldc2_w 290, 3) := dk_20 1 34 (dk_at dksX1_mode_0 12 rfl rfl)
theorem dX1_mode_15 : decode cX1_mode 15 = .ok (.invokestatic 89, 3) := dk_184 0 89 (dk_at dksX1_mode_0 15 rfl rfl)
theorem dX1_mode_18 : decode cX1_mode 18 = .ok (.ifCond .eq 19, 3) := dk_153 0 19 (dk_at dksX1_mode_0 18 rfl rfl)
theorem dX1_mode_21 : decode cX1_mode 21 = .ok (.aload_n 0, 1) := dk_42 (dk_at dksX1_mode_0 21 rfl rfl)
theorem dX1_mode_22 : decode cX1_mode 22 = .ok (.aload_n 0, 1) := dk_42 (dk_at dksX1_mode_0 22 rfl rfl)
theorem dX1_mode_23 : decode cX1_mode 23 = .ok (.iload_n 1, 1) := dk_27 (dk_at dksX1_mode_0 23 rfl rfl)
theorem dX1_mode_24 : decode cX1_mode 24 = .ok (.iload_n 2, 1) := dk_28 (dk_at dksX1_mode_1 0 rfl rfl)
theorem dX1_mode_25 : decode cX1_mode 25 = .ok (.invokevirtual 292, 3) := dk_182 1 36 (dk_at dksX1_mode_1 1 rfl rfl)
theorem dX1_mode_28 : decode cX1_mode 28 = .ok (.iload_n 1, 1) := dk_27 (dk_at dksX1_mode_1 4 rfl rfl)
theorem dX1_mode_29 : decode cX1_mode 29 = .ok (.iload_n 2, 1) := dk_28 (dk_at dksX1_mode_1 5 rfl rfl)
theorem dX1_mode_30 : decode cX1_mode 30 = .ok (.iload_n 3, 1) := dk_29 (dk_at dksX1_mode_1 6 rfl rfl)
theorem dX1_mode_31 : decode cX1_mode 31 = .ok (.invokevirtual 295, 3) := dk_182 1 39 (dk_at dksX1_mode_1 7 rfl rfl)
theorem dX1_mode_34 : decode cX1_mode 34 = .ok (.goto 4, 3) := dk_167 0 4 (dk_at dksX1_mode_1 10 rfl rfl)
theorem dX1_mode_37 : decode cX1_mode 37 = .ok (.iconst (-1), 1) := dk_2 (dk_at dksX1_mode_1 13 rfl rfl)
theorem dX1_mode_38 : decode cX1_mode 38 = .ok (.ireturn, 1) := dk_172 (dk_at dksX1_mode_1 14 rfl rfl)
abbrev cX1_told : ByteArray := prog_1_method_45_code
def yX1_told : MethodName := ⟨RX1, "told", "(IIII)I"⟩
def dkwX1_told_2 : List UInt8 := [182, 1, 31, 172]
abbrev dktX1_told_2 : List UInt8 := dkwX1_told_2 ++ []
def dkwX1_told_1 : List UInt8 := [182, 0, 182, 167, 0, 24, 21, 4, 5, 160, 0, 12, 42, 27, 28, 182, 1, 28, 167, 0, 9, 42, 27, 29]
abbrev dktX1_told_1 : List UInt8 := dkwX1_told_1 ++ dktX1_told_2
def dkwX1_told_0 : List UInt8 := [21, 4, 154, 0, 7, 27, 167, 0, 43, 21, 4, 4, 160, 0, 16, 42, 27, 182, 0, 165, 28, 29]
abbrev dktX1_told_0 : List UInt8 := dkwX1_told_0 ++ dktX1_told_1
theorem dksX1_told_0 : cX1_told.data.toList.drop 0 = dktX1_told_0 := by decide +kernel
theorem dksX1_told_1 : cX1_told.data.toList.drop 22 = dktX1_told_1 := dk_seg dksX1_told_0 22 rfl rfl
theorem dksX1_told_2 : cX1_told.data.toList.drop 46 = dktX1_told_2 := dk_seg dksX1_told_1 24 rfl rfl
theorem dX1_told_0 : decode cX1_told 0 = .ok (.iload 4, 2) := dk_21 4 (dk_at dksX1_told_0 0 rfl rfl)
theorem dX1_told_2 : decode cX1_told 2 = .ok (.ifCond .ne 7, 3) := dk_154 0 7 (dk_at dksX1_told_0 2 rfl rfl)
theorem dX1_told_5 : decode cX1_told 5 = .ok (.iload_n 1, 1) := dk_27 (dk_at dksX1_told_0 5 rfl rfl)
theorem dX1_told_6 : decode cX1_told 6 = .ok (.goto 43, 3) := dk_167 0 43 (dk_at dksX1_told_0 6 rfl rfl)
theorem dX1_told_9 : decode cX1_told 9 = .ok (.iload 4, 2) := dk_21 4 (dk_at dksX1_told_0 9 rfl rfl)
theorem dX1_told_11 : decode cX1_told 11 = .ok (.iconst 1, 1) := dk_4 (dk_at dksX1_told_0 11 rfl rfl)
theorem dX1_told_12 : decode cX1_told 12 = .ok (.if_icmp .ne 16, 3) := dk_160 0 16 (dk_at dksX1_told_0 12 rfl rfl)
theorem dX1_told_15 : decode cX1_told 15 = .ok (.aload_n 0, 1) := dk_42 (dk_at dksX1_told_0 15 rfl rfl)
theorem dX1_told_16 : decode cX1_told 16 = .ok (.iload_n 1, 1) := dk_27 (dk_at dksX1_told_0 16 rfl rfl)
theorem dX1_told_17 : decode cX1_told 17 = .ok (.invokevirtual 165, 3) := dk_182 0 165 (dk_at dksX1_told_0 17 rfl rfl)
theorem dX1_told_20 : decode cX1_told 20 = .ok (.iload_n 2, 1) := dk_28 (dk_at dksX1_told_0 20 rfl rfl)
theorem dX1_told_21 : decode cX1_told 21 = .ok (.iload_n 3, 1) := dk_29 (dk_at dksX1_told_0 21 rfl rfl)
theorem dX1_told_22 : decode cX1_told 22 = .ok (.invokevirtual 182, 3) := dk_182 0 182 (dk_at dksX1_told_1 0 rfl rfl)
theorem dX1_told_25 : decode cX1_told 25 = .ok (.goto 24, 3) := dk_167 0 24 (dk_at dksX1_told_1 3 rfl rfl)
theorem dX1_told_28 : decode cX1_told 28 = .ok (.iload 4, 2) := dk_21 4 (dk_at dksX1_told_1 6 rfl rfl)
theorem dX1_told_30 : decode cX1_told 30 = .ok (.iconst 2, 1) := dk_5 (dk_at dksX1_told_1 8 rfl rfl)
theorem dX1_told_31 : decode cX1_told 31 = .ok (.if_icmp .ne 12, 3) := dk_160 0 12 (dk_at dksX1_told_1 9 rfl rfl)
theorem dX1_told_34 : decode cX1_told 34 = .ok (.aload_n 0, 1) := dk_42 (dk_at dksX1_told_1 12 rfl rfl)
theorem dX1_told_35 : decode cX1_told 35 = .ok (.iload_n 1, 1) := dk_27 (dk_at dksX1_told_1 13 rfl rfl)
theorem dX1_told_36 : decode cX1_told 36 = .ok (.iload_n 2, 1) := dk_28 (dk_at dksX1_told_1 14 rfl rfl)
theorem dX1_told_37 : decode cX1_told 37 = .ok (.invokevirtual 284, 3) := dk_182 1 28 (dk_at dksX1_told_1 15 rfl rfl)
theorem dX1_told_40 : decode cX1_told 40 = .ok (.goto 9, 3) := dk_167 0 9 (dk_at dksX1_told_1 18 rfl rfl)
theorem dX1_told_43 : decode cX1_told 43 = .ok (.aload_n 0, 1) := dk_42 (dk_at dksX1_told_1 21 rfl rfl)
theorem dX1_told_44 : decode cX1_told 44 = .ok (.iload_n 1, 1) := dk_27 (dk_at dksX1_told_1 22 rfl rfl)
theorem dX1_told_45 : decode cX1_told 45 = .ok (.iload_n 3, 1) := dk_29 (dk_at dksX1_told_1 23 rfl rfl)
theorem dX1_told_46 : decode cX1_told 46 = .ok (.invokevirtual 287, 3) := dk_182 1 31 (dk_at dksX1_told_2 0 rfl rfl)
theorem dX1_told_49 : decode cX1_told 49 = .ok (.ireturn, 1) := dk_172 (dk_at dksX1_told_2 3 rfl rfl)
abbrev cX1_ranked : ByteArray := prog_1_method_47_code
def yX1_ranked : MethodName := ⟨RX1, "ranked", "(IIII)I"⟩
def dkwX1_ranked_2 : List UInt8 := [162, 0, 20, 42, 42, 180, 0, 67, 29, 46, 27, 28, 21, 4, 182, 1, 39, 167, 0, 5, 16, 254, 172]
abbrev dktX1_ranked_2 : List UInt8 := dkwX1_ranked_2 ++ []
def dkwX1_ranked_1 : List UInt8 := [154, 0, 5, 2, 172, 42, 27, 28, 182, 1, 43, 42, 27, 28, 182, 1, 46, 29, 42, 180, 1, 6]
abbrev dktX1_ranked_1 : List UInt8 := dkwX1_ranked_1 ++ dktX1_ranked_2
def dkwX1_ranked_0 : List UInt8 := [42, 27, 28, 182, 0, 236, 153, 0, 20, 29, 155, 0, 16, 21, 4, 133, 9, 20, 1, 34, 184, 0, 89]
abbrev dktX1_ranked_0 : List UInt8 := dkwX1_ranked_0 ++ dktX1_ranked_1
theorem dksX1_ranked_0 : cX1_ranked.data.toList.drop 0 = dktX1_ranked_0 := by decide +kernel
theorem dksX1_ranked_1 : cX1_ranked.data.toList.drop 23 = dktX1_ranked_1 := dk_seg dksX1_ranked_0 23 rfl rfl
theorem dksX1_ranked_2 : cX1_ranked.data.toList.drop 45 = dktX1_ranked_2 := dk_seg dksX1_ranked_1 22 rfl rfl
theorem dX1_ranked_0 : decode cX1_ranked 0 = .ok (.aload_n 0, 1) := dk_42 (dk_at dksX1_ranked_0 0 rfl rfl)
theorem dX1_ranked_1 : decode cX1_ranked 1 = .ok (.iload_n 1, 1) := dk_27 (dk_at dksX1_ranked_0 1 rfl rfl)
theorem dX1_ranked_2 : decode cX1_ranked 2 = .ok (.iload_n 2, 1) := dk_28 (dk_at dksX1_ranked_0 2 rfl rfl)
theorem dX1_ranked_3 : decode cX1_ranked 3 = .ok (.invokevirtual 236, 3) := dk_182 0 236 (dk_at dksX1_ranked_0 3 rfl rfl)
theorem dX1_ranked_6 : decode cX1_ranked 6 = .ok (.ifCond .eq 20, 3) := dk_153 0 20 (dk_at dksX1_ranked_0 6 rfl rfl)
theorem dX1_ranked_9 : decode cX1_ranked 9 = .ok (.iload_n 3, 1) := dk_29 (dk_at dksX1_ranked_0 9 rfl rfl)
theorem dX1_ranked_10 : decode cX1_ranked 10 = .ok (.ifCond .lt 16, 3) := dk_155 0 16 (dk_at dksX1_ranked_0 10 rfl rfl)
theorem dX1_ranked_13 : decode cX1_ranked 13 = .ok (.iload 4, 2) := dk_21 4 (dk_at dksX1_ranked_0 13 rfl rfl)
theorem dX1_ranked_15 : decode cX1_ranked 15 = .ok (.i2l, 1) := dk_133 (dk_at dksX1_ranked_0 15 rfl rfl)
theorem dX1_ranked_16 : decode cX1_ranked 16 = .ok (.lconst 0, 1) := dk_9 (dk_at dksX1_ranked_0 16 rfl rfl)
theorem dX1_ranked_17 : decode cX1_ranked 17 = .ok (.ldc2_w 290, 3) := dk_20 1 34 (dk_at dksX1_ranked_0 17 rfl rfl)
theorem dX1_ranked_20 : decode cX1_ranked 20 = .ok (.invokestatic 89, 3) := dk_184 0 89 (dk_at dksX1_ranked_0 20 rfl rfl)
theorem dX1_ranked_23 : decode cX1_ranked 23 = .ok (.ifCond .ne 5, 3) := dk_154 0 5 (dk_at dksX1_ranked_1 0 rfl rfl)
theorem dX1_ranked_26 : decode cX1_ranked 26 = .ok (.iconst (-1), 1) := dk_2 (dk_at dksX1_ranked_1 3 rfl rfl)
theorem dX1_ranked_27 : decode cX1_ranked 27 = .ok (.ireturn, 1) := dk_172 (dk_at dksX1_ranked_1 4 rfl rfl)
theorem dX1_ranked_28 : decode cX1_ranked 28 = .ok (.aload_n 0, 1) := dk_42 (dk_at dksX1_ranked_1 5 rfl rfl)
theorem dX1_ranked_29 : decode cX1_ranked 29 = .ok (.iload_n 1, 1) := dk_27 (dk_at dksX1_ranked_1 6 rfl rfl)
theorem dX1_ranked_30 : decode cX1_ranked 30 = .ok (.iload_n 2, 1) := dk_28 (dk_at dksX1_ranked_1 7 rfl rfl)
theorem dX1_ranked_31 : decode cX1_ranked 31 = .ok (.invokevirtual 299, 3) := dk_182 1 43 (dk_at dksX1_ranked_1 8 rfl rfl)
theorem dX1_ranked_34 : decode cX1_ranked 34 = .ok (.aload_n 0, 1) := dk_42 (dk_at dksX1_ranked_1 11 rfl rfl)
theorem dX1_ranked_35 : decode cX1_ranked 35 = .ok (.iload_n 1, 1) := dk_27 (dk_at dksX1_ranked_1 12 rfl rfl)
theorem dX1_ranked_36 : decode cX1_ranked 36 = .ok (.iload_n 2, 1) := dk_28 (dk_at dksX1_ranked_1 13 rfl rfl)
theorem dX1_ranked_37 : decode cX1_ranked 37 = .ok (.invokevirtual 302, 3) := dk_182 1 46 (dk_at dksX1_ranked_1 14 rfl rfl)
theorem dX1_ranked_40 : decode cX1_ranked 40 = .ok (.iload_n 3, 1) := dk_29 (dk_at dksX1_ranked_1 17 rfl rfl)
theorem dX1_ranked_41 : decode cX1_ranked 41 = .ok (.aload_n 0, 1) := dk_42 (dk_at dksX1_ranked_1 18 rfl rfl)
theorem dX1_ranked_42 : decode cX1_ranked 42 = .ok (.getfield 262, 3) := dk_180 1 6 (dk_at dksX1_ranked_1 19 rfl rfl)
theorem dX1_ranked_45 : decode cX1_ranked 45 = .ok (.if_icmp .ge 20, 3) := dk_162 0 20 (dk_at dksX1_ranked_2 0 rfl rfl)
theorem dX1_ranked_48 : decode cX1_ranked 48 = .ok (.aload_n 0, 1) := dk_42 (dk_at dksX1_ranked_2 3 rfl rfl)
theorem dX1_ranked_49 : decode cX1_ranked 49 = .ok (.aload_n 0, 1) := dk_42 (dk_at dksX1_ranked_2 4 rfl rfl)
theorem dX1_ranked_50 : decode cX1_ranked 50 = .ok (.getfield 67, 3) := dk_180 0 67 (dk_at dksX1_ranked_2 5 rfl rfl)
theorem dX1_ranked_53 : decode cX1_ranked 53 = .ok (.iload_n 3, 1) := dk_29 (dk_at dksX1_ranked_2 8 rfl rfl)
theorem dX1_ranked_54 : decode cX1_ranked 54 = .ok (.iaload, 1) := dk_46 (dk_at dksX1_ranked_2 9 rfl rfl)
theorem dX1_ranked_55 : decode cX1_ranked 55 = .ok (.iload_n 1, 1) := dk_27 (dk_at dksX1_ranked_2 10 rfl rfl)
theorem dX1_ranked_56 : decode cX1_ranked 56 = .ok (.iload_n 2, 1) := dk_28 (dk_at dksX1_ranked_2 11 rfl rfl)
theorem dX1_ranked_57 : decode cX1_ranked 57 = .ok (.iload 4, 2) := dk_21 4 (dk_at dksX1_ranked_2 12 rfl rfl)
theorem dX1_ranked_59 : decode cX1_ranked 59 = .ok (.invokevirtual 295, 3) := dk_182 1 39 (dk_at dksX1_ranked_2 14 rfl rfl)
theorem dX1_ranked_62 : decode cX1_ranked 62 = .ok (.goto 5, 3) := dk_167 0 5 (dk_at dksX1_ranked_2 17 rfl rfl)
theorem dX1_ranked_65 : decode cX1_ranked 65 = .ok (.bipush (-2), 2) := dk_16 254 (dk_at dksX1_ranked_2 20 rfl rfl)
theorem dX1_ranked_67 : decode cX1_ranked 67 = .ok (.ireturn, 1) := dk_172 (dk_at dksX1_ranked_2 22 rfl rfl)
abbrev cX1_laysAll : ByteArray := prog_1_method_43_code
def yX1_laysAll : MethodName := ⟨RX1, "laysAll", "(II)V"⟩
def dkwX1_laysAll_1 : List UInt8 := [182, 1, 15, 132, 3, 1, 167, 255, 235, 42, 182, 1, 18, 177]
abbrev dktX1_laysAll_1 : List UInt8 := dkwX1_laysAll_1 ++ []
def dkwX1_laysAll_0 : List UInt8 := [42, 3, 181, 1, 6, 27, 62, 29, 28, 163, 0, 22, 42, 42, 180, 0, 20, 180, 0, 148, 29, 46]
abbrev dktX1_laysAll_0 : List UInt8 := dkwX1_laysAll_0 ++ dktX1_laysAll_1
theorem dksX1_laysAll_0 : cX1_laysAll.data.toList.drop 0 = dktX1_laysAll_0 := by decide +kernel
theorem dksX1_laysAll_1 : cX1_laysAll.data.toList.drop 22 = dktX1_laysAll_1 := dk_seg dksX1_laysAll_0 22 rfl rfl
theorem dX1_laysAll_0 : decode cX1_laysAll 0 = .ok (.aload_n 0, 1) := dk_42 (dk_at dksX1_laysAll_0 0 rfl rfl)
theorem dX1_laysAll_1 : decode cX1_laysAll 1 = .ok (.iconst 0, 1) := dk_3 (dk_at dksX1_laysAll_0 1 rfl rfl)
theorem dX1_laysAll_2 : decode cX1_laysAll 2 = .ok (.putfield 262, 3) := dk_181 1 6 (dk_at dksX1_laysAll_0 2 rfl rfl)
theorem dX1_laysAll_5 : decode cX1_laysAll 5 = .ok (.iload_n 1, 1) := dk_27 (dk_at dksX1_laysAll_0 5 rfl rfl)
theorem dX1_laysAll_6 : decode cX1_laysAll 6 = .ok (.istore_n 3, 1) := dk_62 (dk_at dksX1_laysAll_0 6 rfl rfl)
theorem dX1_laysAll_7 : decode cX1_laysAll 7 = .ok (.iload_n 3, 1) := dk_29 (dk_at dksX1_laysAll_0 7 rfl rfl)
theorem dX1_laysAll_8 : decode cX1_laysAll 8 = .ok (.iload_n 2, 1) := dk_28 (dk_at dksX1_laysAll_0 8 rfl rfl)
theorem dX1_laysAll_9 : decode cX1_laysAll 9 = .ok (.if_icmp .gt 22, 3) := dk_163 0 22 (dk_at dksX1_laysAll_0 9 rfl rfl)
theorem dX1_laysAll_12 : decode cX1_laysAll 12 = .ok (.aload_n 0, 1) := dk_42 (dk_at dksX1_laysAll_0 12 rfl rfl)
theorem dX1_laysAll_13 : decode cX1_laysAll 13 = .ok (.aload_n 0, 1) := dk_42 (dk_at dksX1_laysAll_0 13 rfl rfl)
theorem dX1_laysAll_14 : decode cX1_laysAll 14 = .ok (.getfield 20, 3) := dk_180 0 20 (dk_at dksX1_laysAll_0 14 rfl rfl)
theorem dX1_laysAll_17 : decode cX1_laysAll 17 = .ok (.getfield 148, 3) := dk_180 0 148 (dk_at dksX1_laysAll_0 17 rfl rfl)
theorem dX1_laysAll_20 : decode cX1_laysAll 20 = .ok (.iload_n 3, 1) := dk_29 (dk_at dksX1_laysAll_0 20 rfl rfl)
theorem dX1_laysAll_21 : decode cX1_laysAll 21 = .ok (.iaload, 1) := dk_46 (dk_at dksX1_laysAll_0 21 rfl rfl)
theorem dX1_laysAll_22 : decode cX1_laysAll 22 = .ok (.invokevirtual 271, 3) := dk_182 1 15 (dk_at dksX1_laysAll_1 0 rfl rfl)
theorem dX1_laysAll_25 : decode cX1_laysAll 25 = .ok (.iinc 3 1, 3) := dk_132 3 1 (dk_at dksX1_laysAll_1 3 rfl rfl)
theorem dX1_laysAll_28 : decode cX1_laysAll 28 = .ok (.goto (-21), 3) := dk_167 255 235 (dk_at dksX1_laysAll_1 6 rfl rfl)
theorem dX1_laysAll_31 : decode cX1_laysAll 31 = .ok (.aload_n 0, 1) := dk_42 (dk_at dksX1_laysAll_1 9 rfl rfl)
theorem dX1_laysAll_32 : decode cX1_laysAll 32 = .ok (.invokevirtual 274, 3) := dk_182 1 18 (dk_at dksX1_laysAll_1 10 rfl rfl)
theorem dX1_laysAll_35 : decode cX1_laysAll 35 = .ok (.return_, 1) := dk_177 (dk_at dksX1_laysAll_1 13 rfl rfl)
abbrev cX1_ranks : ByteArray := prog_1_method_44_code
def yX1_ranks : MethodName := ⟨RX1, "ranks", "(II)V"⟩
def dkwX1_ranks_3 : List UInt8 := [167, 255, 208, 42, 180, 0, 67, 21, 5, 21, 4, 79, 132, 3, 1, 167, 255, 174, 177]
abbrev dktX1_ranks_3 : List UInt8 := dkwX1_ranks_3 ++ []
def dkwX1_ranks_2 : List UInt8 := [153, 0, 25, 42, 180, 0, 67, 21, 5, 42, 180, 0, 67, 21, 5, 4, 100, 46, 79, 132, 5, 255]
abbrev dktX1_ranks_2 : List UInt8 := dkwX1_ranks_2 ++ dktX1_ranks_3
def dkwX1_ranks_1 : List UInt8 := [158, 0, 49, 42, 21, 4, 42, 180, 0, 67, 21, 5, 4, 100, 46, 27, 28, 42, 180, 0, 125, 182, 0, 198]
abbrev dktX1_ranks_1 : List UInt8 := dkwX1_ranks_1 ++ dktX1_ranks_2
def dkwX1_ranks_0 : List UInt8 := [4, 62, 29, 42, 180, 1, 6, 162, 0, 80, 42, 180, 0, 67, 29, 46, 54, 4, 29, 54, 5, 21, 5]
abbrev dktX1_ranks_0 : List UInt8 := dkwX1_ranks_0 ++ dktX1_ranks_1
theorem dksX1_ranks_0 : cX1_ranks.data.toList.drop 0 = dktX1_ranks_0 := by decide +kernel
theorem dksX1_ranks_1 : cX1_ranks.data.toList.drop 23 = dktX1_ranks_1 := dk_seg dksX1_ranks_0 23 rfl rfl
theorem dksX1_ranks_2 : cX1_ranks.data.toList.drop 47 = dktX1_ranks_2 := dk_seg dksX1_ranks_1 24 rfl rfl
theorem dksX1_ranks_3 : cX1_ranks.data.toList.drop 69 = dktX1_ranks_3 := dk_seg dksX1_ranks_2 22 rfl rfl
theorem dX1_ranks_0 : decode cX1_ranks 0 = .ok (.iconst 1, 1) := dk_4 (dk_at dksX1_ranks_0 0 rfl rfl)
theorem dX1_ranks_1 : decode cX1_ranks 1 = .ok (.istore_n 3, 1) := dk_62 (dk_at dksX1_ranks_0 1 rfl rfl)
theorem dX1_ranks_2 : decode cX1_ranks 2 = .ok (.iload_n 3, 1) := dk_29 (dk_at dksX1_ranks_0 2 rfl rfl)
theorem dX1_ranks_3 : decode cX1_ranks 3 = .ok (.aload_n 0, 1) := dk_42 (dk_at dksX1_ranks_0 3 rfl rfl)
theorem dX1_ranks_4 : decode cX1_ranks 4 = .ok (.getfield 262, 3) := dk_180 1 6 (dk_at dksX1_ranks_0 4 rfl rfl)
theorem dX1_ranks_7 : decode cX1_ranks 7 = .ok (.if_icmp .ge 80, 3) := dk_162 0 80 (dk_at dksX1_ranks_0 7 rfl rfl)
theorem dX1_ranks_10 : decode cX1_ranks 10 = .ok (.aload_n 0, 1) := dk_42 (dk_at dksX1_ranks_0 10 rfl rfl)
theorem dX1_ranks_11 : decode cX1_ranks 11 = .ok (.getfield 67, 3) := dk_180 0 67 (dk_at dksX1_ranks_0 11 rfl rfl)
theorem dX1_ranks_14 : decode cX1_ranks 14 = .ok (.iload_n 3, 1) := dk_29 (dk_at dksX1_ranks_0 14 rfl rfl)
theorem dX1_ranks_15 : decode cX1_ranks 15 = .ok (.iaload, 1) := dk_46 (dk_at dksX1_ranks_0 15 rfl rfl)
theorem dX1_ranks_16 : decode cX1_ranks 16 = .ok (.istore 4, 2) := dk_54 4 (dk_at dksX1_ranks_0 16 rfl rfl)
theorem dX1_ranks_18 : decode cX1_ranks 18 = .ok (.iload_n 3, 1) := dk_29 (dk_at dksX1_ranks_0 18 rfl rfl)
theorem dX1_ranks_19 : decode cX1_ranks 19 = .ok (.istore 5, 2) := dk_54 5 (dk_at dksX1_ranks_0 19 rfl rfl)
theorem dX1_ranks_21 : decode cX1_ranks 21 = .ok (.iload 5, 2) := dk_21 5 (dk_at dksX1_ranks_0 21 rfl rfl)
theorem dX1_ranks_23 : decode cX1_ranks 23 = .ok (.ifCond .le 49, 3) := dk_158 0 49 (dk_at dksX1_ranks_1 0 rfl rfl)
theorem dX1_ranks_26 : decode cX1_ranks 26 = .ok (.aload_n 0, 1) := dk_42 (dk_at dksX1_ranks_1 3 rfl rfl)
theorem dX1_ranks_27 : decode cX1_ranks 27 = .ok (.iload 4, 2) := dk_21 4 (dk_at dksX1_ranks_1 4 rfl rfl)
theorem dX1_ranks_29 : decode cX1_ranks 29 = .ok (.aload_n 0, 1) := dk_42 (dk_at dksX1_ranks_1 6 rfl rfl)
theorem dX1_ranks_30 : decode cX1_ranks 30 = .ok (.getfield 67, 3) := dk_180 0 67 (dk_at dksX1_ranks_1 7 rfl rfl)
theorem dX1_ranks_33 : decode cX1_ranks 33 = .ok (.iload 5, 2) := dk_21 5 (dk_at dksX1_ranks_1 10 rfl rfl)
theorem dX1_ranks_35 : decode cX1_ranks 35 = .ok (.iconst 1, 1) := dk_4 (dk_at dksX1_ranks_1 12 rfl rfl)
theorem dX1_ranks_36 : decode cX1_ranks 36 = .ok (.isub, 1) := dk_100 (dk_at dksX1_ranks_1 13 rfl rfl)
theorem dX1_ranks_37 : decode cX1_ranks 37 = .ok (.iaload, 1) := dk_46 (dk_at dksX1_ranks_1 14 rfl rfl)
theorem dX1_ranks_38 : decode cX1_ranks 38 = .ok (.iload_n 1, 1) := dk_27 (dk_at dksX1_ranks_1 15 rfl rfl)
theorem dX1_ranks_39 : decode cX1_ranks 39 = .ok (.iload_n 2, 1) := dk_28 (dk_at dksX1_ranks_1 16 rfl rfl)
theorem dX1_ranks_40 : decode cX1_ranks 40 = .ok (.aload_n 0, 1) := dk_42 (dk_at dksX1_ranks_1 17 rfl rfl)
theorem dX1_ranks_41 : decode cX1_ranks 41 = .ok (.getfield 125, 3) := dk_180 0 125 (dk_at dksX1_ranks_1 18 rfl rfl)
theorem dX1_ranks_44 : decode cX1_ranks 44 = .ok (.invokevirtual 198, 3) := dk_182 0 198 (dk_at dksX1_ranks_1 21 rfl rfl)
theorem dX1_ranks_47 : decode cX1_ranks 47 = .ok (.ifCond .eq 25, 3) := dk_153 0 25 (dk_at dksX1_ranks_2 0 rfl rfl)
theorem dX1_ranks_50 : decode cX1_ranks 50 = .ok (.aload_n 0, 1) := dk_42 (dk_at dksX1_ranks_2 3 rfl rfl)
theorem dX1_ranks_51 : decode cX1_ranks 51 = .ok (.getfield 67, 3) := dk_180 0 67 (dk_at dksX1_ranks_2 4 rfl rfl)
theorem dX1_ranks_54 : decode cX1_ranks 54 = .ok (.iload 5, 2) := dk_21 5 (dk_at dksX1_ranks_2 7 rfl rfl)
theorem dX1_ranks_56 : decode cX1_ranks 56 = .ok (.aload_n 0, 1) := dk_42 (dk_at dksX1_ranks_2 9 rfl rfl)
theorem dX1_ranks_57 : decode cX1_ranks 57 = .ok (.getfield 67, 3) := dk_180 0 67 (dk_at dksX1_ranks_2 10 rfl rfl)
theorem dX1_ranks_60 : decode cX1_ranks 60 = .ok (.iload 5, 2) := dk_21 5 (dk_at dksX1_ranks_2 13 rfl rfl)
theorem dX1_ranks_62 : decode cX1_ranks 62 = .ok (.iconst 1, 1) := dk_4 (dk_at dksX1_ranks_2 15 rfl rfl)
theorem dX1_ranks_63 : decode cX1_ranks 63 = .ok (.isub, 1) := dk_100 (dk_at dksX1_ranks_2 16 rfl rfl)
theorem dX1_ranks_64 : decode cX1_ranks 64 = .ok (.iaload, 1) := dk_46 (dk_at dksX1_ranks_2 17 rfl rfl)
theorem dX1_ranks_65 : decode cX1_ranks 65 = .ok (.iastore, 1) := dk_79 (dk_at dksX1_ranks_2 18 rfl rfl)
theorem dX1_ranks_66 : decode cX1_ranks 66 = .ok (.iinc 5 (-1), 3) := dk_132 5 255 (dk_at dksX1_ranks_2 19 rfl rfl)
theorem dX1_ranks_69 : decode cX1_ranks 69 = .ok (.goto (-48), 3) := dk_167 255 208 (dk_at dksX1_ranks_3 0 rfl rfl)
theorem dX1_ranks_72 : decode cX1_ranks 72 = .ok (.aload_n 0, 1) := dk_42 (dk_at dksX1_ranks_3 3 rfl rfl)
theorem dX1_ranks_73 : decode cX1_ranks 73 = .ok (.getfield 67, 3) := dk_180 0 67 (dk_at dksX1_ranks_3 4 rfl rfl)
theorem dX1_ranks_76 : decode cX1_ranks 76 = .ok (.iload 5, 2) := dk_21 5 (dk_at dksX1_ranks_3 7 rfl rfl)
theorem dX1_ranks_78 : decode cX1_ranks 78 = .ok (.iload 4, 2) := dk_21 4 (dk_at dksX1_ranks_3 9 rfl rfl)
theorem dX1_ranks_80 : decode cX1_ranks 80 = .ok (.iastore, 1) := dk_79 (dk_at dksX1_ranks_3 11 rfl rfl)
theorem dX1_ranks_81 : decode cX1_ranks 81 = .ok (.iinc 3 1, 3) := dk_132 3 1 (dk_at dksX1_ranks_3 12 rfl rfl)
theorem dX1_ranks_84 : decode cX1_ranks 84 = .ok (.goto (-82), 3) := dk_167 255 174 (dk_at dksX1_ranks_3 15 rfl rfl)
theorem dX1_ranks_87 : decode cX1_ranks 87 = .ok (.return_, 1) := dk_177 (dk_at dksX1_ranks_3 18 rfl rfl)
abbrev cX1_rank : ByteArray := prog_1_method_48_code
def yX1_rank : MethodName := ⟨RX1, "rank", "(III)I"⟩
def dkwX1_rank_3 : List UInt8 := [182, 0, 198, 153, 0, 7, 4, 167, 0, 4, 3, 96, 54, 4, 132, 5, 1, 167, 255, 213, 21, 4, 172]
abbrev dktX1_rank_3 : List UInt8 := dkwX1_rank_3 ++ []
def dkwX1_rank_2 : List UInt8 := [42, 180, 1, 6, 162, 0, 40, 21, 4, 42, 42, 180, 0, 67, 21, 5, 46, 29, 27, 28, 42, 180, 0, 125]
abbrev dktX1_rank_2 : List UInt8 := dkwX1_rank_2 ++ dktX1_rank_3
def dkwX1_rank_1 : List UInt8 := [28, 182, 0, 182, 154, 0, 6, 16, 254, 172, 42, 27, 28, 182, 1, 43, 3, 54, 4, 3, 54, 5, 21, 5]
abbrev dktX1_rank_1 : List UInt8 := dkwX1_rank_1 ++ dktX1_rank_2
def dkwX1_rank_0 : List UInt8 := [42, 27, 28, 182, 0, 236, 153, 0, 10, 29, 184, 0, 219, 154, 0, 5, 2, 172, 42, 29, 182, 0, 165, 27]
abbrev dktX1_rank_0 : List UInt8 := dkwX1_rank_0 ++ dktX1_rank_1
theorem dksX1_rank_0 : cX1_rank.data.toList.drop 0 = dktX1_rank_0 := by decide +kernel
theorem dksX1_rank_1 : cX1_rank.data.toList.drop 24 = dktX1_rank_1 := dk_seg dksX1_rank_0 24 rfl rfl
theorem dksX1_rank_2 : cX1_rank.data.toList.drop 48 = dktX1_rank_2 := dk_seg dksX1_rank_1 24 rfl rfl
theorem dksX1_rank_3 : cX1_rank.data.toList.drop 72 = dktX1_rank_3 := dk_seg dksX1_rank_2 24 rfl rfl
theorem dX1_rank_0 : decode cX1_rank 0 = .ok (.aload_n 0, 1) := dk_42 (dk_at dksX1_rank_0 0 rfl rfl)
theorem dX1_rank_1 : decode cX1_rank 1 = .ok (.iload_n 1, 1) := dk_27 (dk_at dksX1_rank_0 1 rfl rfl)
theorem dX1_rank_2 : decode cX1_rank 2 = .ok (.iload_n 2, 1) := dk_28 (dk_at dksX1_rank_0 2 rfl rfl)
theorem dX1_rank_3 : decode cX1_rank 3 = .ok (.invokevirtual 236, 3) := dk_182 0 236 (dk_at dksX1_rank_0 3 rfl rfl)
theorem dX1_rank_6 : decode cX1_rank 6 = .ok (.ifCond .eq 10, 3) := dk_153 0 10 (dk_at dksX1_rank_0 6 rfl rfl)
theorem dX1_rank_9 : decode cX1_rank 9 = .ok (.iload_n 3, 1) := dk_29 (dk_at dksX1_rank_0 9 rfl rfl)
theorem dX1_rank_10 : decode cX1_rank 10 = .ok (.invokestatic 219, 3) := dk_184 0 219 (dk_at dksX1_rank_0 10 rfl rfl)
theorem dX1_rank_13 : decode cX1_rank 13 = .ok (.ifCond .ne 5, 3) := dk_154 0 5 (dk_at dksX1_rank_0 13 rfl rfl)
theorem dX1_rank_16 : decode cX1_rank 16 = .ok (.iconst (-1), 1) := dk_2 (dk_at dksX1_rank_0 16 rfl rfl)
theorem dX1_rank_17 : decode cX1_rank 17 = .ok (.ireturn, 1) := dk_172 (dk_at dksX1_rank_0 17 rfl rfl)
theorem dX1_rank_18 : decode cX1_rank 18 = .ok (.aload_n 0, 1) := dk_42 (dk_at dksX1_rank_0 18 rfl rfl)
theorem dX1_rank_19 : decode cX1_rank 19 = .ok (.iload_n 3, 1) := dk_29 (dk_at dksX1_rank_0 19 rfl rfl)
theorem dX1_rank_20 : decode cX1_rank 20 = .ok (.invokevirtual 165, 3) := dk_182 0 165 (dk_at dksX1_rank_0 20 rfl rfl)
theorem dX1_rank_23 : decode cX1_rank 23 = .ok (.iload_n 1, 1) := dk_27 (dk_at dksX1_rank_0 23 rfl rfl)
theorem dX1_rank_24 : decode cX1_rank 24 = .ok (.iload_n 2, 1) := dk_28 (dk_at dksX1_rank_1 0 rfl rfl)
theorem dX1_rank_25 : decode cX1_rank 25 = .ok (.invokevirtual 182, 3) := dk_182 0 182 (dk_at dksX1_rank_1 1 rfl rfl)
theorem dX1_rank_28 : decode cX1_rank 28 = .ok (.ifCond .ne 6, 3) := dk_154 0 6 (dk_at dksX1_rank_1 4 rfl rfl)
theorem dX1_rank_31 : decode cX1_rank 31 = .ok (.bipush (-2), 2) := dk_16 254 (dk_at dksX1_rank_1 7 rfl rfl)
theorem dX1_rank_33 : decode cX1_rank 33 = .ok (.ireturn, 1) := dk_172 (dk_at dksX1_rank_1 9 rfl rfl)
theorem dX1_rank_34 : decode cX1_rank 34 = .ok (.aload_n 0, 1) := dk_42 (dk_at dksX1_rank_1 10 rfl rfl)
theorem dX1_rank_35 : decode cX1_rank 35 = .ok (.iload_n 1, 1) := dk_27 (dk_at dksX1_rank_1 11 rfl rfl)
theorem dX1_rank_36 : decode cX1_rank 36 = .ok (.iload_n 2, 1) := dk_28 (dk_at dksX1_rank_1 12 rfl rfl)
theorem dX1_rank_37 : decode cX1_rank 37 = .ok (.invokevirtual 299, 3) := dk_182 1 43 (dk_at dksX1_rank_1 13 rfl rfl)
theorem dX1_rank_40 : decode cX1_rank 40 = .ok (.iconst 0, 1) := dk_3 (dk_at dksX1_rank_1 16 rfl rfl)
theorem dX1_rank_41 : decode cX1_rank 41 = .ok (.istore 4, 2) := dk_54 4 (dk_at dksX1_rank_1 17 rfl rfl)
theorem dX1_rank_43 : decode cX1_rank 43 = .ok (.iconst 0, 1) := dk_3 (dk_at dksX1_rank_1 19 rfl rfl)
theorem dX1_rank_44 : decode cX1_rank 44 = .ok (.istore 5, 2) := dk_54 5 (dk_at dksX1_rank_1 20 rfl rfl)
theorem dX1_rank_46 : decode cX1_rank 46 = .ok (.iload 5, 2) := dk_21 5 (dk_at dksX1_rank_1 22 rfl rfl)
theorem dX1_rank_48 : decode cX1_rank 48 = .ok (.aload_n 0, 1) := dk_42 (dk_at dksX1_rank_2 0 rfl rfl)
theorem dX1_rank_49 : decode cX1_rank 49 = .ok (.getfield 262, 3) := dk_180 1 6 (dk_at dksX1_rank_2 1 rfl rfl)
theorem dX1_rank_52 : decode cX1_rank 52 = .ok (.if_icmp .ge 40, 3) := dk_162 0 40 (dk_at dksX1_rank_2 4 rfl rfl)
theorem dX1_rank_55 : decode cX1_rank 55 = .ok (.iload 4, 2) := dk_21 4 (dk_at dksX1_rank_2 7 rfl rfl)
theorem dX1_rank_57 : decode cX1_rank 57 = .ok (.aload_n 0, 1) := dk_42 (dk_at dksX1_rank_2 9 rfl rfl)
theorem dX1_rank_58 : decode cX1_rank 58 = .ok (.aload_n 0, 1) := dk_42 (dk_at dksX1_rank_2 10 rfl rfl)
theorem dX1_rank_59 : decode cX1_rank 59 = .ok (.getfield 67, 3) := dk_180 0 67 (dk_at dksX1_rank_2 11 rfl rfl)
theorem dX1_rank_62 : decode cX1_rank 62 = .ok (.iload 5, 2) := dk_21 5 (dk_at dksX1_rank_2 14 rfl rfl)
theorem dX1_rank_64 : decode cX1_rank 64 = .ok (.iaload, 1) := dk_46 (dk_at dksX1_rank_2 16 rfl rfl)
theorem dX1_rank_65 : decode cX1_rank 65 = .ok (.iload_n 3, 1) := dk_29 (dk_at dksX1_rank_2 17 rfl rfl)
theorem dX1_rank_66 : decode cX1_rank 66 = .ok (.iload_n 1, 1) := dk_27 (dk_at dksX1_rank_2 18 rfl rfl)
theorem dX1_rank_67 : decode cX1_rank 67 = .ok (.iload_n 2, 1) := dk_28 (dk_at dksX1_rank_2 19 rfl rfl)
theorem dX1_rank_68 : decode cX1_rank 68 = .ok (.aload_n 0, 1) := dk_42 (dk_at dksX1_rank_2 20 rfl rfl)
theorem dX1_rank_69 : decode cX1_rank 69 = .ok (.getfield 125, 3) := dk_180 0 125 (dk_at dksX1_rank_2 21 rfl rfl)
theorem dX1_rank_72 : decode cX1_rank 72 = .ok (.invokevirtual 198, 3) := dk_182 0 198 (dk_at dksX1_rank_3 0 rfl rfl)
theorem dX1_rank_75 : decode cX1_rank 75 = .ok (.ifCond .eq 7, 3) := dk_153 0 7 (dk_at dksX1_rank_3 3 rfl rfl)
theorem dX1_rank_78 : decode cX1_rank 78 = .ok (.iconst 1, 1) := dk_4 (dk_at dksX1_rank_3 6 rfl rfl)
theorem dX1_rank_79 : decode cX1_rank 79 = .ok (.goto 4, 3) := dk_167 0 4 (dk_at dksX1_rank_3 7 rfl rfl)
theorem dX1_rank_82 : decode cX1_rank 82 = .ok (.iconst 0, 1) := dk_3 (dk_at dksX1_rank_3 10 rfl rfl)
theorem dX1_rank_83 : decode cX1_rank 83 = .ok (.iadd, 1) := dk_96 (dk_at dksX1_rank_3 11 rfl rfl)
theorem dX1_rank_84 : decode cX1_rank 84 = .ok (.istore 4, 2) := dk_54 4 (dk_at dksX1_rank_3 12 rfl rfl)
theorem dX1_rank_86 : decode cX1_rank 86 = .ok (.iinc 5 1, 3) := dk_132 5 1 (dk_at dksX1_rank_3 14 rfl rfl)
theorem dX1_rank_89 : decode cX1_rank 89 = .ok (.goto (-43), 3) := dk_167 255 213 (dk_at dksX1_rank_3 17 rfl rfl)
theorem dX1_rank_92 : decode cX1_rank 92 = .ok (.iload 4, 2) := dk_21 4 (dk_at dksX1_rank_3 20 rfl rfl)
theorem dX1_rank_94 : decode cX1_rank 94 = .ok (.ireturn, 1) := dk_172 (dk_at dksX1_rank_3 22 rfl rfl)
abbrev cX1_often : ByteArray := prog_1_method_49_code
def yX1_often : MethodName := ⟨RX1, "often", "(III)I"⟩
def dkwX1_often_1 : List UInt8 := [182, 0, 182, 167, 0, 4, 2, 172]
abbrev dktX1_often_1 : List UInt8 := dkwX1_often_1 ++ []
def dkwX1_often_0 : List UInt8 := [42, 27, 28, 182, 0, 236, 153, 0, 23, 29, 184, 0, 219, 153, 0, 16, 42, 29, 182, 0, 165, 27, 28]
abbrev dktX1_often_0 : List UInt8 := dkwX1_often_0 ++ dktX1_often_1
theorem dksX1_often_0 : cX1_often.data.toList.drop 0 = dktX1_often_0 := by decide +kernel
theorem dksX1_often_1 : cX1_often.data.toList.drop 23 = dktX1_often_1 := dk_seg dksX1_often_0 23 rfl rfl
theorem dX1_often_0 : decode cX1_often 0 = .ok (.aload_n 0, 1) := dk_42 (dk_at dksX1_often_0 0 rfl rfl)
theorem dX1_often_1 : decode cX1_often 1 = .ok (.iload_n 1, 1) := dk_27 (dk_at dksX1_often_0 1 rfl rfl)
theorem dX1_often_2 : decode cX1_often 2 = .ok (.iload_n 2, 1) := dk_28 (dk_at dksX1_often_0 2 rfl rfl)
theorem dX1_often_3 : decode cX1_often 3 = .ok (.invokevirtual 236, 3) := dk_182 0 236 (dk_at dksX1_often_0 3 rfl rfl)
theorem dX1_often_6 : decode cX1_often 6 = .ok (.ifCond .eq 23, 3) := dk_153 0 23 (dk_at dksX1_often_0 6 rfl rfl)
theorem dX1_often_9 : decode cX1_often 9 = .ok (.iload_n 3, 1) := dk_29 (dk_at dksX1_often_0 9 rfl rfl)
theorem dX1_often_10 : decode cX1_often 10 = .ok (.invokestatic 219, 3) := dk_184 0 219 (dk_at dksX1_often_0 10 rfl rfl)
theorem dX1_often_13 : decode cX1_often 13 = .ok (.ifCond .eq 16, 3) := dk_153 0 16 (dk_at dksX1_often_0 13 rfl rfl)
theorem dX1_often_16 : decode cX1_often 16 = .ok (.aload_n 0, 1) := dk_42 (dk_at dksX1_often_0 16 rfl rfl)
theorem dX1_often_17 : decode cX1_often 17 = .ok (.iload_n 3, 1) := dk_29 (dk_at dksX1_often_0 17 rfl rfl)
theorem dX1_often_18 : decode cX1_often 18 = .ok (.invokevirtual 165, 3) := dk_182 0 165 (dk_at dksX1_often_0 18 rfl rfl)
theorem dX1_often_21 : decode cX1_often 21 = .ok (.iload_n 1, 1) := dk_27 (dk_at dksX1_often_0 21 rfl rfl)
theorem dX1_often_22 : decode cX1_often 22 = .ok (.iload_n 2, 1) := dk_28 (dk_at dksX1_often_0 22 rfl rfl)
theorem dX1_often_23 : decode cX1_often 23 = .ok (.invokevirtual 182, 3) := dk_182 0 182 (dk_at dksX1_often_1 0 rfl rfl)
theorem dX1_often_26 : decode cX1_often 26 = .ok (.goto 4, 3) := dk_167 0 4 (dk_at dksX1_often_1 3 rfl rfl)
theorem dX1_often_29 : decode cX1_often 29 = .ok (.iconst (-1), 1) := dk_2 (dk_at dksX1_often_1 6 rfl rfl)
theorem dX1_often_30 : decode cX1_often 30 = .ok (.ireturn, 1) := dk_172 (dk_at dksX1_often_1 7 rfl rfl)
abbrev cX1_at : ByteArray := prog_1_method_50_code
def yX1_at : MethodName := ⟨RX1, "at", "(II)I"⟩
def dkwX1_at_2 : List UInt8 := [182, 1, 3, 54, 5, 29, 154, 0, 6, 21, 5, 172, 132, 3, 255, 167, 255, 221, 16, 254, 172]
abbrev dktX1_at_2 : List UInt8 := dkwX1_at_2 ++ []
def dkwX1_at_1 : List UInt8 := [58, 4, 25, 4, 185, 0, 247, 1, 0, 153, 0, 31, 25, 4, 185, 0, 253, 1, 0, 192, 1, 1]
abbrev dktX1_at_1 : List UInt8 := dkwX1_at_1 ++ dktX1_at_2
def dkwX1_at_0 : List UInt8 := [27, 184, 0, 219, 153, 0, 7, 28, 156, 0, 5, 2, 172, 28, 62, 42, 27, 182, 0, 165, 182, 0, 243]
abbrev dktX1_at_0 : List UInt8 := dkwX1_at_0 ++ dktX1_at_1
theorem dksX1_at_0 : cX1_at.data.toList.drop 0 = dktX1_at_0 := by decide +kernel
theorem dksX1_at_1 : cX1_at.data.toList.drop 23 = dktX1_at_1 := dk_seg dksX1_at_0 23 rfl rfl
theorem dksX1_at_2 : cX1_at.data.toList.drop 45 = dktX1_at_2 := dk_seg dksX1_at_1 22 rfl rfl
theorem dX1_at_0 : decode cX1_at 0 = .ok (.iload_n 1, 1) := dk_27 (dk_at dksX1_at_0 0 rfl rfl)
theorem dX1_at_1 : decode cX1_at 1 = .ok (.invokestatic 219, 3) := dk_184 0 219 (dk_at dksX1_at_0 1 rfl rfl)
theorem dX1_at_4 : decode cX1_at 4 = .ok (.ifCond .eq 7, 3) := dk_153 0 7 (dk_at dksX1_at_0 4 rfl rfl)
theorem dX1_at_7 : decode cX1_at 7 = .ok (.iload_n 2, 1) := dk_28 (dk_at dksX1_at_0 7 rfl rfl)
theorem dX1_at_8 : decode cX1_at 8 = .ok (.ifCond .ge 5, 3) := dk_156 0 5 (dk_at dksX1_at_0 8 rfl rfl)
theorem dX1_at_11 : decode cX1_at 11 = .ok (.iconst (-1), 1) := dk_2 (dk_at dksX1_at_0 11 rfl rfl)
theorem dX1_at_12 : decode cX1_at 12 = .ok (.ireturn, 1) := dk_172 (dk_at dksX1_at_0 12 rfl rfl)
theorem dX1_at_13 : decode cX1_at 13 = .ok (.iload_n 2, 1) := dk_28 (dk_at dksX1_at_0 13 rfl rfl)
theorem dX1_at_14 : decode cX1_at 14 = .ok (.istore_n 3, 1) := dk_62 (dk_at dksX1_at_0 14 rfl rfl)
theorem dX1_at_15 : decode cX1_at 15 = .ok (.aload_n 0, 1) := dk_42 (dk_at dksX1_at_0 15 rfl rfl)
theorem dX1_at_16 : decode cX1_at 16 = .ok (.iload_n 1, 1) := dk_27 (dk_at dksX1_at_0 16 rfl rfl)
theorem dX1_at_17 : decode cX1_at 17 = .ok (.invokevirtual 165, 3) := dk_182 0 165 (dk_at dksX1_at_0 17 rfl rfl)
theorem dX1_at_20 : decode cX1_at 20 = .ok (.invokevirtual 243, 3) := dk_182 0 243 (dk_at dksX1_at_0 20 rfl rfl)
theorem dX1_at_23 : decode cX1_at 23 = .ok (.astore 4, 2) := dk_58 4 (dk_at dksX1_at_1 0 rfl rfl)
theorem dX1_at_25 : decode cX1_at 25 = .ok (.aload 4, 2) := dk_25 4 (dk_at dksX1_at_1 2 rfl rfl)
theorem dX1_at_27 : decode cX1_at 27 = .ok (.invokeinterface 247 1, 5) := by decide +kernel
theorem dX1_at_32 : decode cX1_at 32 = .ok (.ifCond .eq 31, 3) := dk_153 0 31 (dk_at dksX1_at_1 9 rfl rfl)
theorem dX1_at_35 : decode cX1_at 35 = .ok (.aload 4, 2) := dk_25 4 (dk_at dksX1_at_1 12 rfl rfl)
theorem dX1_at_37 : decode cX1_at 37 = .ok (.invokeinterface 253 1, 5) := by decide +kernel
theorem dX1_at_42 : decode cX1_at 42 = .ok (.checkcast 257, 3) := dk_192 1 1 (dk_at dksX1_at_1 19 rfl rfl)
theorem dX1_at_45 : decode cX1_at 45 = .ok (.invokevirtual 259, 3) := dk_182 1 3 (dk_at dksX1_at_2 0 rfl rfl)
theorem dX1_at_48 : decode cX1_at 48 = .ok (.istore 5, 2) := dk_54 5 (dk_at dksX1_at_2 3 rfl rfl)
theorem dX1_at_50 : decode cX1_at 50 = .ok (.iload_n 3, 1) := dk_29 (dk_at dksX1_at_2 5 rfl rfl)
theorem dX1_at_51 : decode cX1_at 51 = .ok (.ifCond .ne 6, 3) := dk_154 0 6 (dk_at dksX1_at_2 6 rfl rfl)
theorem dX1_at_54 : decode cX1_at 54 = .ok (.iload 5, 2) := dk_21 5 (dk_at dksX1_at_2 9 rfl rfl)
theorem dX1_at_56 : decode cX1_at 56 = .ok (.ireturn, 1) := dk_172 (dk_at dksX1_at_2 11 rfl rfl)
theorem dX1_at_57 : decode cX1_at 57 = .ok (.iinc 3 (-1), 3) := dk_132 3 255 (dk_at dksX1_at_2 12 rfl rfl)
theorem dX1_at_60 : decode cX1_at 60 = .ok (.goto (-35), 3) := dk_167 255 221 (dk_at dksX1_at_2 15 rfl rfl)
theorem dX1_at_63 : decode cX1_at 63 = .ok (.bipush (-2), 2) := dk_16 254 (dk_at dksX1_at_2 18 rfl rfl)
theorem dX1_at_65 : decode cX1_at 65 = .ok (.ireturn, 1) := dk_172 (dk_at dksX1_at_2 20 rfl rfl)
abbrev cX1_unlike : ByteArray := prog_1_method_51_code
def yX1_unlike : MethodName := ⟨RX1, "unlike", "(II)I"⟩
def dkwX1_unlike_0 : List UInt8 := [42, 27, 28, 182, 0, 236, 154, 0, 5, 2, 172, 42, 27, 28, 182, 1, 43, 42, 180, 1, 6, 172]
abbrev dktX1_unlike_0 : List UInt8 := dkwX1_unlike_0 ++ []
theorem dksX1_unlike_0 : cX1_unlike.data.toList.drop 0 = dktX1_unlike_0 := by decide +kernel
theorem dX1_unlike_0 : decode cX1_unlike 0 = .ok (.aload_n 0, 1) := dk_42 (dk_at dksX1_unlike_0 0 rfl rfl)
theorem dX1_unlike_1 : decode cX1_unlike 1 = .ok (.iload_n 1, 1) := dk_27 (dk_at dksX1_unlike_0 1 rfl rfl)
theorem dX1_unlike_2 : decode cX1_unlike 2 = .ok (.iload_n 2, 1) := dk_28 (dk_at dksX1_unlike_0 2 rfl rfl)
theorem dX1_unlike_3 : decode cX1_unlike 3 = .ok (.invokevirtual 236, 3) := dk_182 0 236 (dk_at dksX1_unlike_0 3 rfl rfl)
theorem dX1_unlike_6 : decode cX1_unlike 6 = .ok (.ifCond .ne 5, 3) := dk_154 0 5 (dk_at dksX1_unlike_0 6 rfl rfl)
theorem dX1_unlike_9 : decode cX1_unlike 9 = .ok (.iconst (-1), 1) := dk_2 (dk_at dksX1_unlike_0 9 rfl rfl)
theorem dX1_unlike_10 : decode cX1_unlike 10 = .ok (.ireturn, 1) := dk_172 (dk_at dksX1_unlike_0 10 rfl rfl)
theorem dX1_unlike_11 : decode cX1_unlike 11 = .ok (.aload_n 0, 1) := dk_42 (dk_at dksX1_unlike_0 11 rfl rfl)
theorem dX1_unlike_12 : decode cX1_unlike 12 = .ok (.iload_n 1, 1) := dk_27 (dk_at dksX1_unlike_0 12 rfl rfl)
theorem dX1_unlike_13 : decode cX1_unlike 13 = .ok (.iload_n 2, 1) := dk_28 (dk_at dksX1_unlike_0 13 rfl rfl)
theorem dX1_unlike_14 : decode cX1_unlike 14 = .ok (.invokevirtual 299, 3) := dk_182 1 43 (dk_at dksX1_unlike_0 14 rfl rfl)
theorem dX1_unlike_17 : decode cX1_unlike 17 = .ok (.aload_n 0, 1) := dk_42 (dk_at dksX1_unlike_0 17 rfl rfl)
theorem dX1_unlike_18 : decode cX1_unlike 18 = .ok (.getfield 262, 3) := dk_180 1 6 (dk_at dksX1_unlike_0 18 rfl rfl)
theorem dX1_unlike_21 : decode cX1_unlike 21 = .ok (.ireturn, 1) := dk_172 (dk_at dksX1_unlike_0 21 rfl rfl)
abbrev cX1_times : ByteArray := prog_1_method_52_code
def yX1_times : MethodName := ⟨RX1, "times", "(III)I"⟩
def dkwX1_times_3 : List UInt8 := [167, 255, 214, 21, 4, 172]
abbrev dktX1_times_3 : List UInt8 := dkwX1_times_3 ++ []
def dkwX1_times_2 : List UInt8 := [182, 0, 165, 27, 28, 182, 0, 182, 29, 160, 0, 7, 4, 167, 0, 4, 3, 96, 54, 4, 132, 5, 1]
abbrev dktX1_times_2 : List UInt8 := dkwX1_times_2 ++ dktX1_times_3
def dkwX1_times_1 : List UInt8 := [54, 4, 3, 54, 5, 21, 5, 42, 180, 1, 6, 162, 0, 39, 21, 4, 42, 42, 180, 0, 67, 21, 5, 46]
abbrev dktX1_times_1 : List UInt8 := dkwX1_times_1 ++ dktX1_times_2
def dkwX1_times_0 : List UInt8 := [42, 27, 28, 182, 0, 236, 153, 0, 8, 29, 4, 162, 0, 5, 2, 172, 42, 27, 28, 182, 1, 43, 3]
abbrev dktX1_times_0 : List UInt8 := dkwX1_times_0 ++ dktX1_times_1
theorem dksX1_times_0 : cX1_times.data.toList.drop 0 = dktX1_times_0 := by decide +kernel
theorem dksX1_times_1 : cX1_times.data.toList.drop 23 = dktX1_times_1 := dk_seg dksX1_times_0 23 rfl rfl
theorem dksX1_times_2 : cX1_times.data.toList.drop 47 = dktX1_times_2 := dk_seg dksX1_times_1 24 rfl rfl
theorem dksX1_times_3 : cX1_times.data.toList.drop 70 = dktX1_times_3 := dk_seg dksX1_times_2 23 rfl rfl
theorem dX1_times_0 : decode cX1_times 0 = .ok (.aload_n 0, 1) := dk_42 (dk_at dksX1_times_0 0 rfl rfl)
theorem dX1_times_1 : decode cX1_times 1 = .ok (.iload_n 1, 1) := dk_27 (dk_at dksX1_times_0 1 rfl rfl)
theorem dX1_times_2 : decode cX1_times 2 = .ok (.iload_n 2, 1) := dk_28 (dk_at dksX1_times_0 2 rfl rfl)
theorem dX1_times_3 : decode cX1_times 3 = .ok (.invokevirtual 236, 3) := dk_182 0 236 (dk_at dksX1_times_0 3 rfl rfl)
theorem dX1_times_6 : decode cX1_times 6 = .ok (.ifCond .eq 8, 3) := dk_153 0 8 (dk_at dksX1_times_0 6 rfl rfl)
theorem dX1_times_9 : decode cX1_times 9 = .ok (.iload_n 3, 1) := dk_29 (dk_at dksX1_times_0 9 rfl rfl)
theorem dX1_times_10 : decode cX1_times 10 = .ok (.iconst 1, 1) := dk_4 (dk_at dksX1_times_0 10 rfl rfl)
theorem dX1_times_11 : decode cX1_times 11 = .ok (.if_icmp .ge 5, 3) := dk_162 0 5 (dk_at dksX1_times_0 11 rfl rfl)
theorem dX1_times_14 : decode cX1_times 14 = .ok (.iconst (-1), 1) := dk_2 (dk_at dksX1_times_0 14 rfl rfl)
theorem dX1_times_15 : decode cX1_times 15 = .ok (.ireturn, 1) := dk_172 (dk_at dksX1_times_0 15 rfl rfl)
theorem dX1_times_16 : decode cX1_times 16 = .ok (.aload_n 0, 1) := dk_42 (dk_at dksX1_times_0 16 rfl rfl)
theorem dX1_times_17 : decode cX1_times 17 = .ok (.iload_n 1, 1) := dk_27 (dk_at dksX1_times_0 17 rfl rfl)
theorem dX1_times_18 : decode cX1_times 18 = .ok (.iload_n 2, 1) := dk_28 (dk_at dksX1_times_0 18 rfl rfl)
theorem dX1_times_19 : decode cX1_times 19 = .ok (.invokevirtual 299, 3) := dk_182 1 43 (dk_at dksX1_times_0 19 rfl rfl)
theorem dX1_times_22 : decode cX1_times 22 = .ok (.iconst 0, 1) := dk_3 (dk_at dksX1_times_0 22 rfl rfl)
theorem dX1_times_23 : decode cX1_times 23 = .ok (.istore 4, 2) := dk_54 4 (dk_at dksX1_times_1 0 rfl rfl)
theorem dX1_times_25 : decode cX1_times 25 = .ok (.iconst 0, 1) := dk_3 (dk_at dksX1_times_1 2 rfl rfl)
theorem dX1_times_26 : decode cX1_times 26 = .ok (.istore 5, 2) := dk_54 5 (dk_at dksX1_times_1 3 rfl rfl)
theorem dX1_times_28 : decode cX1_times 28 = .ok (.iload 5, 2) := dk_21 5 (dk_at dksX1_times_1 5 rfl rfl)
theorem dX1_times_30 : decode cX1_times 30 = .ok (.aload_n 0, 1) := dk_42 (dk_at dksX1_times_1 7 rfl rfl)
theorem dX1_times_31 : decode cX1_times 31 = .ok (.getfield 262, 3) := dk_180 1 6 (dk_at dksX1_times_1 8 rfl rfl)
theorem dX1_times_34 : decode cX1_times 34 = .ok (.if_icmp .ge 39, 3) := dk_162 0 39 (dk_at dksX1_times_1 11 rfl rfl)
theorem dX1_times_37 : decode cX1_times 37 = .ok (.iload 4, 2) := dk_21 4 (dk_at dksX1_times_1 14 rfl rfl)
theorem dX1_times_39 : decode cX1_times 39 = .ok (.aload_n 0, 1) := dk_42 (dk_at dksX1_times_1 16 rfl rfl)
theorem dX1_times_40 : decode cX1_times 40 = .ok (.aload_n 0, 1) := dk_42 (dk_at dksX1_times_1 17 rfl rfl)
theorem dX1_times_41 : decode cX1_times 41 = .ok (.getfield 67, 3) := dk_180 0 67 (dk_at dksX1_times_1 18 rfl rfl)
theorem dX1_times_44 : decode cX1_times 44 = .ok (.iload 5, 2) := dk_21 5 (dk_at dksX1_times_1 21 rfl rfl)
theorem dX1_times_46 : decode cX1_times 46 = .ok (.iaload, 1) := dk_46 (dk_at dksX1_times_1 23 rfl rfl)
theorem dX1_times_47 : decode cX1_times 47 = .ok (.invokevirtual 165, 3) := dk_182 0 165 (dk_at dksX1_times_2 0 rfl rfl)
theorem dX1_times_50 : decode cX1_times 50 = .ok (.iload_n 1, 1) := dk_27 (dk_at dksX1_times_2 3 rfl rfl)
theorem dX1_times_51 : decode cX1_times 51 = .ok (.iload_n 2, 1) := dk_28 (dk_at dksX1_times_2 4 rfl rfl)
theorem dX1_times_52 : decode cX1_times 52 = .ok (.invokevirtual 182, 3) := dk_182 0 182 (dk_at dksX1_times_2 5 rfl rfl)
theorem dX1_times_55 : decode cX1_times 55 = .ok (.iload_n 3, 1) := dk_29 (dk_at dksX1_times_2 8 rfl rfl)
theorem dX1_times_56 : decode cX1_times 56 = .ok (.if_icmp .ne 7, 3) := dk_160 0 7 (dk_at dksX1_times_2 9 rfl rfl)
theorem dX1_times_59 : decode cX1_times 59 = .ok (.iconst 1, 1) := dk_4 (dk_at dksX1_times_2 12 rfl rfl)
theorem dX1_times_60 : decode cX1_times 60 = .ok (.goto 4, 3) := dk_167 0 4 (dk_at dksX1_times_2 13 rfl rfl)
theorem dX1_times_63 : decode cX1_times 63 = .ok (.iconst 0, 1) := dk_3 (dk_at dksX1_times_2 16 rfl rfl)
theorem dX1_times_64 : decode cX1_times 64 = .ok (.iadd, 1) := dk_96 (dk_at dksX1_times_2 17 rfl rfl)
theorem dX1_times_65 : decode cX1_times 65 = .ok (.istore 4, 2) := dk_54 4 (dk_at dksX1_times_2 18 rfl rfl)
theorem dX1_times_67 : decode cX1_times 67 = .ok (.iinc 5 1, 3) := dk_132 5 1 (dk_at dksX1_times_2 20 rfl rfl)
theorem dX1_times_70 : decode cX1_times 70 = .ok (.goto (-42), 3) := dk_167 255 214 (dk_at dksX1_times_3 0 rfl rfl)
theorem dX1_times_73 : decode cX1_times 73 = .ok (.iload 4, 2) := dk_21 4 (dk_at dksX1_times_3 3 rfl rfl)
theorem dX1_times_75 : decode cX1_times 75 = .ok (.ireturn, 1) := dk_172 (dk_at dksX1_times_3 5 rfl rfl)
abbrev cX1_majority : ByteArray := prog_1_method_54_code
def yX1_majority : MethodName := ⟨RX1, "majority", "(II)I"⟩
def dkwX1_majority_0 : List UInt8 := [42, 27, 28, 182, 0, 236, 153, 0, 12, 42, 27, 28, 182, 1, 49, 167, 0, 4, 2, 172]
abbrev dktX1_majority_0 : List UInt8 := dkwX1_majority_0 ++ []
theorem dksX1_majority_0 : cX1_majority.data.toList.drop 0 = dktX1_majority_0 := by decide +kernel
theorem dX1_majority_0 : decode cX1_majority 0 = .ok (.aload_n 0, 1) := dk_42 (dk_at dksX1_majority_0 0 rfl rfl)
theorem dX1_majority_1 : decode cX1_majority 1 = .ok (.iload_n 1, 1) := dk_27 (dk_at dksX1_majority_0 1 rfl rfl)
theorem dX1_majority_2 : decode cX1_majority 2 = .ok (.iload_n 2, 1) := dk_28 (dk_at dksX1_majority_0 2 rfl rfl)
theorem dX1_majority_3 : decode cX1_majority 3 = .ok (.invokevirtual 236, 3) := dk_182 0 236 (dk_at dksX1_majority_0 3 rfl rfl)
theorem dX1_majority_6 : decode cX1_majority 6 = .ok (.ifCond .eq 12, 3) := dk_153 0 12 (dk_at dksX1_majority_0 6 rfl rfl)
theorem dX1_majority_9 : decode cX1_majority 9 = .ok (.aload_n 0, 1) := dk_42 (dk_at dksX1_majority_0 9 rfl rfl)
theorem dX1_majority_10 : decode cX1_majority 10 = .ok (.iload_n 1, 1) := dk_27 (dk_at dksX1_majority_0 10 rfl rfl)
theorem dX1_majority_11 : decode cX1_majority 11 = .ok (.iload_n 2, 1) := dk_28 (dk_at dksX1_majority_0 11 rfl rfl)
theorem dX1_majority_12 : decode cX1_majority 12 = .ok (.invokevirtual 305, 3) := dk_182 1 49 (dk_at dksX1_majority_0 12 rfl rfl)
theorem dX1_majority_15 : decode cX1_majority 15 = .ok (.goto 4, 3) := dk_167 0 4 (dk_at dksX1_majority_0 15 rfl rfl)
theorem dX1_majority_18 : decode cX1_majority 18 = .ok (.iconst (-1), 1) := dk_2 (dk_at dksX1_majority_0 18 rfl rfl)
theorem dX1_majority_19 : decode cX1_majority 19 = .ok (.ireturn, 1) := dk_172 (dk_at dksX1_majority_0 19 rfl rfl)
abbrev cX1_majorityOf : ByteArray := prog_1_method_53_code
def yX1_majorityOf : MethodName := ⟨RX1, "majorityOf", "(II)I"⟩
def dkwX1_majorityOf_1 : List UInt8 := [164, 0, 7, 29, 167, 0, 5, 16, 254, 172]
abbrev dktX1_majorityOf_1 : List UInt8 := dkwX1_majorityOf_1 ++ []
def dkwX1_majorityOf_0 : List UInt8 := [42, 27, 28, 182, 1, 36, 62, 5, 42, 29, 182, 0, 165, 27, 28, 182, 0, 182, 104, 28, 27, 100, 4, 96]
abbrev dktX1_majorityOf_0 : List UInt8 := dkwX1_majorityOf_0 ++ dktX1_majorityOf_1
theorem dksX1_majorityOf_0 : cX1_majorityOf.data.toList.drop 0 = dktX1_majorityOf_0 := by decide +kernel
theorem dksX1_majorityOf_1 : cX1_majorityOf.data.toList.drop 24 = dktX1_majorityOf_1 := dk_seg dksX1_majorityOf_0 24 rfl rfl
theorem dX1_majorityOf_0 : decode cX1_majorityOf 0 = .ok (.aload_n 0, 1) := dk_42 (dk_at dksX1_majorityOf_0 0 rfl rfl)
theorem dX1_majorityOf_1 : decode cX1_majorityOf 1 = .ok (.iload_n 1, 1) := dk_27 (dk_at dksX1_majorityOf_0 1 rfl rfl)
theorem dX1_majorityOf_2 : decode cX1_majorityOf 2 = .ok (.iload_n 2, 1) := dk_28 (dk_at dksX1_majorityOf_0 2 rfl rfl)
theorem dX1_majorityOf_3 : decode cX1_majorityOf 3 = .ok (.invokevirtual 292, 3) := dk_182 1 36 (dk_at dksX1_majorityOf_0 3 rfl rfl)
theorem dX1_majorityOf_6 : decode cX1_majorityOf 6 = .ok (.istore_n 3, 1) := dk_62 (dk_at dksX1_majorityOf_0 6 rfl rfl)
theorem dX1_majorityOf_7 : decode cX1_majorityOf 7 = .ok (.iconst 2, 1) := dk_5 (dk_at dksX1_majorityOf_0 7 rfl rfl)
theorem dX1_majorityOf_8 : decode cX1_majorityOf 8 = .ok (.aload_n 0, 1) := dk_42 (dk_at dksX1_majorityOf_0 8 rfl rfl)
theorem dX1_majorityOf_9 : decode cX1_majorityOf 9 = .ok (.iload_n 3, 1) := dk_29 (dk_at dksX1_majorityOf_0 9 rfl rfl)
theorem dX1_majorityOf_10 : decode cX1_majorityOf 10 = .ok (.invokevirtual 165, 3) := dk_182 0 165 (dk_at dksX1_majorityOf_0 10 rfl rfl)
theorem dX1_majorityOf_13 : decode cX1_majorityOf 13 = .ok (.iload_n 1, 1) := dk_27 (dk_at dksX1_majorityOf_0 13 rfl rfl)
theorem dX1_majorityOf_14 : decode cX1_majorityOf 14 = .ok (.iload_n 2, 1) := dk_28 (dk_at dksX1_majorityOf_0 14 rfl rfl)
theorem dX1_majorityOf_15 : decode cX1_majorityOf 15 = .ok (.invokevirtual 182, 3) := dk_182 0 182 (dk_at dksX1_majorityOf_0 15 rfl rfl)
theorem dX1_majorityOf_18 : decode cX1_majorityOf 18 = .ok (.imul, 1) := dk_104 (dk_at dksX1_majorityOf_0 18 rfl rfl)
theorem dX1_majorityOf_19 : decode cX1_majorityOf 19 = .ok (.iload_n 2, 1) := dk_28 (dk_at dksX1_majorityOf_0 19 rfl rfl)
theorem dX1_majorityOf_20 : decode cX1_majorityOf 20 = .ok (.iload_n 1, 1) := dk_27 (dk_at dksX1_majorityOf_0 20 rfl rfl)
theorem dX1_majorityOf_21 : decode cX1_majorityOf 21 = .ok (.isub, 1) := dk_100 (dk_at dksX1_majorityOf_0 21 rfl rfl)
theorem dX1_majorityOf_22 : decode cX1_majorityOf 22 = .ok (.iconst 1, 1) := dk_4 (dk_at dksX1_majorityOf_0 22 rfl rfl)
theorem dX1_majorityOf_23 : decode cX1_majorityOf 23 = .ok (.iadd, 1) := dk_96 (dk_at dksX1_majorityOf_0 23 rfl rfl)
theorem dX1_majorityOf_24 : decode cX1_majorityOf 24 = .ok (.if_icmp .le 7, 3) := dk_164 0 7 (dk_at dksX1_majorityOf_1 0 rfl rfl)
theorem dX1_majorityOf_27 : decode cX1_majorityOf 27 = .ok (.iload_n 3, 1) := dk_29 (dk_at dksX1_majorityOf_1 3 rfl rfl)
theorem dX1_majorityOf_28 : decode cX1_majorityOf 28 = .ok (.goto 5, 3) := dk_167 0 5 (dk_at dksX1_majorityOf_1 4 rfl rfl)
theorem dX1_majorityOf_31 : decode cX1_majorityOf 31 = .ok (.bipush (-2), 2) := dk_16 254 (dk_at dksX1_majorityOf_1 7 rfl rfl)
theorem dX1_majorityOf_33 : decode cX1_majorityOf 33 = .ok (.ireturn, 1) := dk_172 (dk_at dksX1_majorityOf_1 9 rfl rfl)
abbrev cX1_heaviest : ByteArray := prog_1_method_55_code
def yX1_heaviest : MethodName := ⟨RX1, "heaviest", "(III)I"⟩
def dkwX1_heaviest_5 : List UInt8 := [182, 1, 57, 172]
abbrev dktX1_heaviest_5 : List UInt8 := dkwX1_heaviest_5 ++ []
def dkwX1_heaviest_4 : List UInt8 := [21, 6, 46, 54, 5, 132, 6, 1, 167, 255, 213, 29, 154, 0, 8, 21, 5, 167, 0, 10, 25, 4, 21, 5]
abbrev dktX1_heaviest_4 : List UInt8 := dkwX1_heaviest_4 ++ dktX1_heaviest_5
def dkwX1_heaviest_3 : List UInt8 := [180, 0, 67, 21, 6, 46, 182, 1, 57, 25, 4, 21, 5, 182, 1, 57, 164, 0, 12, 42, 180, 0, 67]
abbrev dktX1_heaviest_3 : List UInt8 := dkwX1_heaviest_3 ++ dktX1_heaviest_4
def dkwX1_heaviest_2 : List UInt8 := [180, 0, 67, 3, 46, 54, 5, 4, 54, 6, 21, 6, 42, 180, 1, 6, 162, 0, 40, 25, 4, 42]
abbrev dktX1_heaviest_2 : List UInt8 := dkwX1_heaviest_2 ++ dktX1_heaviest_3
def dkwX1_heaviest_1 : List UInt8 := [89, 42, 27, 28, 183, 1, 54, 58, 4, 42, 27, 28, 182, 1, 43, 42, 27, 28, 182, 1, 46, 42]
abbrev dktX1_heaviest_1 : List UInt8 := dkwX1_heaviest_1 ++ dktX1_heaviest_2
def dkwX1_heaviest_0 : List UInt8 := [42, 27, 28, 182, 0, 236, 153, 0, 13, 29, 133, 9, 10, 184, 0, 89, 154, 0, 5, 2, 172, 187, 1, 52]
abbrev dktX1_heaviest_0 : List UInt8 := dkwX1_heaviest_0 ++ dktX1_heaviest_1
theorem dksX1_heaviest_0 : cX1_heaviest.data.toList.drop 0 = dktX1_heaviest_0 := by decide +kernel
theorem dksX1_heaviest_1 : cX1_heaviest.data.toList.drop 24 = dktX1_heaviest_1 := dk_seg dksX1_heaviest_0 24 rfl rfl
theorem dksX1_heaviest_2 : cX1_heaviest.data.toList.drop 46 = dktX1_heaviest_2 := dk_seg dksX1_heaviest_1 22 rfl rfl
theorem dksX1_heaviest_3 : cX1_heaviest.data.toList.drop 68 = dktX1_heaviest_3 := dk_seg dksX1_heaviest_2 22 rfl rfl
theorem dksX1_heaviest_4 : cX1_heaviest.data.toList.drop 91 = dktX1_heaviest_4 := dk_seg dksX1_heaviest_3 23 rfl rfl
theorem dksX1_heaviest_5 : cX1_heaviest.data.toList.drop 115 = dktX1_heaviest_5 := dk_seg dksX1_heaviest_4 24 rfl rfl
theorem dX1_heaviest_0 : decode cX1_heaviest 0 = .ok (.aload_n 0, 1) := dk_42 (dk_at dksX1_heaviest_0 0 rfl rfl)
theorem dX1_heaviest_1 : decode cX1_heaviest 1 = .ok (.iload_n 1, 1) := dk_27 (dk_at dksX1_heaviest_0 1 rfl rfl)
theorem dX1_heaviest_2 : decode cX1_heaviest 2 = .ok (.iload_n 2, 1) := dk_28 (dk_at dksX1_heaviest_0 2 rfl rfl)
theorem dX1_heaviest_3 : decode cX1_heaviest 3 = .ok (.invokevirtual 236, 3) := dk_182 0 236 (dk_at dksX1_heaviest_0 3 rfl rfl)
theorem dX1_heaviest_6 : decode cX1_heaviest 6 = .ok (.ifCond .eq 13, 3) := dk_153 0 13 (dk_at dksX1_heaviest_0 6 rfl rfl)
theorem dX1_heaviest_9 : decode cX1_heaviest 9 = .ok (.iload_n 3, 1) := dk_29 (dk_at dksX1_heaviest_0 9 rfl rfl)
theorem dX1_heaviest_10 : decode cX1_heaviest 10 = .ok (.i2l, 1) := dk_133 (dk_at dksX1_heaviest_0 10 rfl rfl)
theorem dX1_heaviest_11 : decode cX1_heaviest 11 = .ok (.lconst 0, 1) := dk_9 (dk_at dksX1_heaviest_0 11 rfl rfl)
theorem dX1_heaviest_12 : decode cX1_heaviest 12 = .ok (.lconst 1, 1) := dk_10 (dk_at dksX1_heaviest_0 12 rfl rfl)
theorem dX1_heaviest_13 : decode cX1_heaviest 13 = .ok (.invokestatic 89, 3) := dk_184 0 89 (dk_at dksX1_heaviest_0 13 rfl rfl)
theorem dX1_heaviest_16 : decode cX1_heaviest 16 = .ok (.ifCond .ne 5, 3) := dk_154 0 5 (dk_at dksX1_heaviest_0 16 rfl rfl)
theorem dX1_heaviest_19 : decode cX1_heaviest 19 = .ok (.iconst (-1), 1) := dk_2 (dk_at dksX1_heaviest_0 19 rfl rfl)
theorem dX1_heaviest_20 : decode cX1_heaviest 20 = .ok (.ireturn, 1) := dk_172 (dk_at dksX1_heaviest_0 20 rfl rfl)
theorem dX1_heaviest_21 : decode cX1_heaviest 21 = .ok (.new 308, 3) := dk_187 1 52 (dk_at dksX1_heaviest_0 21 rfl rfl)
theorem dX1_heaviest_24 : decode cX1_heaviest 24 = .ok (.dup, 1) := dk_89 (dk_at dksX1_heaviest_1 0 rfl rfl)
theorem dX1_heaviest_25 : decode cX1_heaviest 25 = .ok (.aload_n 0, 1) := dk_42 (dk_at dksX1_heaviest_1 1 rfl rfl)
theorem dX1_heaviest_26 : decode cX1_heaviest 26 = .ok (.iload_n 1, 1) := dk_27 (dk_at dksX1_heaviest_1 2 rfl rfl)
theorem dX1_heaviest_27 : decode cX1_heaviest 27 = .ok (.iload_n 2, 1) := dk_28 (dk_at dksX1_heaviest_1 3 rfl rfl)
theorem dX1_heaviest_28 : decode cX1_heaviest 28 = .ok (.invokespecial 310, 3) := dk_183 1 54 (dk_at dksX1_heaviest_1 4 rfl rfl)
theorem dX1_heaviest_31 : decode cX1_heaviest 31 = .ok (.astore 4, 2) := dk_58 4 (dk_at dksX1_heaviest_1 7 rfl rfl)
theorem dX1_heaviest_33 : decode cX1_heaviest 33 = .ok (.aload_n 0, 1) := dk_42 (dk_at dksX1_heaviest_1 9 rfl rfl)
theorem dX1_heaviest_34 : decode cX1_heaviest 34 = .ok (.iload_n 1, 1) := dk_27 (dk_at dksX1_heaviest_1 10 rfl rfl)
theorem dX1_heaviest_35 : decode cX1_heaviest 35 = .ok (.iload_n 2, 1) := dk_28 (dk_at dksX1_heaviest_1 11 rfl rfl)
theorem dX1_heaviest_36 : decode cX1_heaviest 36 = .ok (.invokevirtual 299, 3) := dk_182 1 43 (dk_at dksX1_heaviest_1 12 rfl rfl)
theorem dX1_heaviest_39 : decode cX1_heaviest 39 = .ok (.aload_n 0, 1) := dk_42 (dk_at dksX1_heaviest_1 15 rfl rfl)
theorem dX1_heaviest_40 : decode cX1_heaviest 40 = .ok (.iload_n 1, 1) := dk_27 (dk_at dksX1_heaviest_1 16 rfl rfl)
theorem dX1_heaviest_41 : decode cX1_heaviest 41 = .ok (.iload_n 2, 1) := dk_28 (dk_at dksX1_heaviest_1 17 rfl rfl)
theorem dX1_heaviest_42 : decode cX1_heaviest 42 = .ok (.invokevirtual 302, 3) := dk_182 1 46 (dk_at dksX1_heaviest_1 18 rfl rfl)
theorem dX1_heaviest_45 : decode cX1_heaviest 45 = .ok (.aload_n 0, 1) := dk_42 (dk_at dksX1_heaviest_1 21 rfl rfl)
theorem dX1_heaviest_46 : decode cX1_heaviest 46 = .ok (.getfield 67, 3) := dk_180 0 67 (dk_at dksX1_heaviest_2 0 rfl rfl)
theorem dX1_heaviest_49 : decode cX1_heaviest 49 = .ok (.iconst 0, 1) := dk_3 (dk_at dksX1_heaviest_2 3 rfl rfl)
theorem dX1_heaviest_50 : decode cX1_heaviest 50 = .ok (.iaload, 1) := dk_46 (dk_at dksX1_heaviest_2 4 rfl rfl)
theorem dX1_heaviest_51 : decode cX1_heaviest 51 = .ok (.istore 5, 2) := dk_54 5 (dk_at dksX1_heaviest_2 5 rfl rfl)
theorem dX1_heaviest_53 : decode cX1_heaviest 53 = .ok (.iconst 1, 1) := dk_4 (dk_at dksX1_heaviest_2 7 rfl rfl)
theorem dX1_heaviest_54 : decode cX1_heaviest 54 = .ok (.istore 6, 2) := dk_54 6 (dk_at dksX1_heaviest_2 8 rfl rfl)
theorem dX1_heaviest_56 : decode cX1_heaviest 56 = .ok (.iload 6, 2) := dk_21 6 (dk_at dksX1_heaviest_2 10 rfl rfl)
theorem dX1_heaviest_58 : decode cX1_heaviest 58 = .ok (.aload_n 0, 1) := dk_42 (dk_at dksX1_heaviest_2 12 rfl rfl)
theorem dX1_heaviest_59 : decode cX1_heaviest 59 = .ok (.getfield 262, 3) := dk_180 1 6 (dk_at dksX1_heaviest_2 13 rfl rfl)
theorem dX1_heaviest_62 : decode cX1_heaviest 62 = .ok (.if_icmp .ge 40, 3) := dk_162 0 40 (dk_at dksX1_heaviest_2 16 rfl rfl)
theorem dX1_heaviest_65 : decode cX1_heaviest 65 = .ok (.aload 4, 2) := dk_25 4 (dk_at dksX1_heaviest_2 19 rfl rfl)
theorem dX1_heaviest_67 : decode cX1_heaviest 67 = .ok (.aload_n 0, 1) := dk_42 (dk_at dksX1_heaviest_2 21 rfl rfl)
theorem dX1_heaviest_68 : decode cX1_heaviest 68 = .ok (.getfield 67, 3) := dk_180 0 67 (dk_at dksX1_heaviest_3 0 rfl rfl)
theorem dX1_heaviest_71 : decode cX1_heaviest 71 = .ok (.iload 6, 2) := dk_21 6 (dk_at dksX1_heaviest_3 3 rfl rfl)
theorem dX1_heaviest_73 : decode cX1_heaviest 73 = .ok (.iaload, 1) := dk_46 (dk_at dksX1_heaviest_3 5 rfl rfl)
theorem dX1_heaviest_74 : decode cX1_heaviest 74 = .ok (.invokevirtual 313, 3) := dk_182 1 57 (dk_at dksX1_heaviest_3 6 rfl rfl)
theorem dX1_heaviest_77 : decode cX1_heaviest 77 = .ok (.aload 4, 2) := dk_25 4 (dk_at dksX1_heaviest_3 9 rfl rfl)
theorem dX1_heaviest_79 : decode cX1_heaviest 79 = .ok (.iload 5, 2) := dk_21 5 (dk_at dksX1_heaviest_3 11 rfl rfl)
theorem dX1_heaviest_81 : decode cX1_heaviest 81 = .ok (.invokevirtual 313, 3) := dk_182 1 57 (dk_at dksX1_heaviest_3 13 rfl rfl)
theorem dX1_heaviest_84 : decode cX1_heaviest 84 = .ok (.if_icmp .le 12, 3) := dk_164 0 12 (dk_at dksX1_heaviest_3 16 rfl rfl)
theorem dX1_heaviest_87 : decode cX1_heaviest 87 = .ok (.aload_n 0, 1) := dk_42 (dk_at dksX1_heaviest_3 19 rfl rfl)
theorem dX1_heaviest_88 : decode cX1_heaviest 88 = .ok (.getfield 67, 3) := dk_180 0 67 (dk_at dksX1_heaviest_3 20 rfl rfl)
theorem dX1_heaviest_91 : decode cX1_heaviest 91 = .ok (.iload 6, 2) := dk_21 6 (dk_at dksX1_heaviest_4 0 rfl rfl)
theorem dX1_heaviest_93 : decode cX1_heaviest 93 = .ok (.iaload, 1) := dk_46 (dk_at dksX1_heaviest_4 2 rfl rfl)
theorem dX1_heaviest_94 : decode cX1_heaviest 94 = .ok (.istore 5, 2) := dk_54 5 (dk_at dksX1_heaviest_4 3 rfl rfl)
theorem dX1_heaviest_96 : decode cX1_heaviest 96 = .ok (.iinc 6 1, 3) := dk_132 6 1 (dk_at dksX1_heaviest_4 5 rfl rfl)
theorem dX1_heaviest_99 : decode cX1_heaviest 99 = .ok (.goto (-43), 3) := dk_167 255 213 (dk_at dksX1_heaviest_4 8 rfl rfl)
theorem dX1_heaviest_102 : decode cX1_heaviest 102 = .ok (.iload_n 3, 1) := dk_29 (dk_at dksX1_heaviest_4 11 rfl rfl)
theorem dX1_heaviest_103 : decode cX1_heaviest 103 = .ok (.ifCond .ne 8, 3) := dk_154 0 8 (dk_at dksX1_heaviest_4 12 rfl rfl)
theorem dX1_heaviest_106 : decode cX1_heaviest 106 = .ok (.iload 5, 2) := dk_21 5 (dk_at dksX1_heaviest_4 15 rfl rfl)
theorem dX1_heaviest_108 : decode cX1_heaviest 108 = .ok (.goto 10, 3) := dk_167 0 10 (dk_at dksX1_heaviest_4 17 rfl rfl)
theorem dX1_heaviest_111 : decode cX1_heaviest 111 = .ok (.aload 4, 2) := dk_25 4 (dk_at dksX1_heaviest_4 20 rfl rfl)
theorem dX1_heaviest_113 : decode cX1_heaviest 113 = .ok (.iload 5, 2) := dk_21 5 (dk_at dksX1_heaviest_4 22 rfl rfl)
theorem dX1_heaviest_115 : decode cX1_heaviest 115 = .ok (.invokevirtual 313, 3) := dk_182 1 57 (dk_at dksX1_heaviest_5 0 rfl rfl)
theorem dX1_heaviest_118 : decode cX1_heaviest 118 = .ok (.ireturn, 1) := dk_172 (dk_at dksX1_heaviest_5 3 rfl rfl)
abbrev cX1_pair : ByteArray := prog_1_method_56_code
def yX1_pair : MethodName := ⟨RX1, "pair", "(III)I"⟩
def dkwX1_pair_3 : List UInt8 := [104, 42, 28, 182, 0, 195, 182, 0, 182, 172]
abbrev dktX1_pair_3 : List UInt8 := dkwX1_pair_3 ++ []
def dkwX1_pair_2 : List UInt8 := [96, 46, 54, 4, 29, 154, 0, 8, 21, 4, 167, 0, 23, 42, 21, 4, 182, 0, 165, 42, 180, 0, 27, 27]
abbrev dktX1_pair_2 : List UInt8 := dkwX1_pair_2 ++ dktX1_pair_3
def dkwX1_pair_1 : List UInt8 := [153, 0, 13, 29, 133, 9, 10, 184, 0, 89, 154, 0, 5, 2, 172, 42, 180, 0, 59, 16, 60, 27, 104, 28]
abbrev dktX1_pair_1 : List UInt8 := dkwX1_pair_1 ++ dktX1_pair_2
def dkwX1_pair_0 : List UInt8 := [27, 133, 9, 28, 133, 184, 0, 89, 153, 0, 29, 28, 133, 9, 42, 182, 0, 132, 4, 100, 133, 184, 0, 89]
abbrev dktX1_pair_0 : List UInt8 := dkwX1_pair_0 ++ dktX1_pair_1
theorem dksX1_pair_0 : cX1_pair.data.toList.drop 0 = dktX1_pair_0 := by decide +kernel
theorem dksX1_pair_1 : cX1_pair.data.toList.drop 24 = dktX1_pair_1 := dk_seg dksX1_pair_0 24 rfl rfl
theorem dksX1_pair_2 : cX1_pair.data.toList.drop 48 = dktX1_pair_2 := dk_seg dksX1_pair_1 24 rfl rfl
theorem dksX1_pair_3 : cX1_pair.data.toList.drop 72 = dktX1_pair_3 := dk_seg dksX1_pair_2 24 rfl rfl
theorem dX1_pair_0 : decode cX1_pair 0 = .ok (.iload_n 1, 1) := dk_27 (dk_at dksX1_pair_0 0 rfl rfl)
theorem dX1_pair_1 : decode cX1_pair 1 = .ok (.i2l, 1) := dk_133 (dk_at dksX1_pair_0 1 rfl rfl)
theorem dX1_pair_2 : decode cX1_pair 2 = .ok (.lconst 0, 1) := dk_9 (dk_at dksX1_pair_0 2 rfl rfl)
theorem dX1_pair_3 : decode cX1_pair 3 = .ok (.iload_n 2, 1) := dk_28 (dk_at dksX1_pair_0 3 rfl rfl)
theorem dX1_pair_4 : decode cX1_pair 4 = .ok (.i2l, 1) := dk_133 (dk_at dksX1_pair_0 4 rfl rfl)
theorem dX1_pair_5 : decode cX1_pair 5 = .ok (.invokestatic 89, 3) := dk_184 0 89 (dk_at dksX1_pair_0 5 rfl rfl)
theorem dX1_pair_8 : decode cX1_pair 8 = .ok (.ifCond .eq 29, 3) := dk_153 0 29 (dk_at dksX1_pair_0 8 rfl rfl)
theorem dX1_pair_11 : decode cX1_pair 11 = .ok (.iload_n 2, 1) := dk_28 (dk_at dksX1_pair_0 11 rfl rfl)
theorem dX1_pair_12 : decode cX1_pair 12 = .ok (.i2l, 1) := dk_133 (dk_at dksX1_pair_0 12 rfl rfl)
theorem dX1_pair_13 : decode cX1_pair 13 = .ok (.lconst 0, 1) := dk_9 (dk_at dksX1_pair_0 13 rfl rfl)
theorem dX1_pair_14 : decode cX1_pair 14 = .ok (.aload_n 0, 1) := dk_42 (dk_at dksX1_pair_0 14 rfl rfl)
theorem dX1_pair_15 : decode cX1_pair 15 = .ok (.invokevirtual 132, 3) := dk_182 0 132 (dk_at dksX1_pair_0 15 rfl rfl)
theorem dX1_pair_18 : decode cX1_pair 18 = .ok (.iconst 1, 1) := dk_4 (dk_at dksX1_pair_0 18 rfl rfl)
theorem dX1_pair_19 : decode cX1_pair 19 = .ok (.isub, 1) := dk_100 (dk_at dksX1_pair_0 19 rfl rfl)
theorem dX1_pair_20 : decode cX1_pair 20 = .ok (.i2l, 1) := dk_133 (dk_at dksX1_pair_0 20 rfl rfl)
theorem dX1_pair_21 : decode cX1_pair 21 = .ok (.invokestatic 89, 3) := dk_184 0 89 (dk_at dksX1_pair_0 21 rfl rfl)
theorem dX1_pair_24 : decode cX1_pair 24 = .ok (.ifCond .eq 13, 3) := dk_153 0 13 (dk_at dksX1_pair_1 0 rfl rfl)
theorem dX1_pair_27 : decode cX1_pair 27 = .ok (.iload_n 3, 1) := dk_29 (dk_at dksX1_pair_1 3 rfl rfl)
theorem dX1_pair_28 : decode cX1_pair 28 = .ok (.i2l, 1) := dk_133 (dk_at dksX1_pair_1 4 rfl rfl)
theorem dX1_pair_29 : decode cX1_pair 29 = .ok (.lconst 0, 1) := dk_9 (dk_at dksX1_pair_1 5 rfl rfl)
theorem dX1_pair_30 : decode cX1_pair 30 = .ok (.lconst 1, 1) := dk_10 (dk_at dksX1_pair_1 6 rfl rfl)
theorem dX1_pair_31 : decode cX1_pair 31 = .ok (.invokestatic 89, 3) := dk_184 0 89 (dk_at dksX1_pair_1 7 rfl rfl)
theorem dX1_pair_34 : decode cX1_pair 34 = .ok (.ifCond .ne 5, 3) := dk_154 0 5 (dk_at dksX1_pair_1 10 rfl rfl)
theorem dX1_pair_37 : decode cX1_pair 37 = .ok (.iconst (-1), 1) := dk_2 (dk_at dksX1_pair_1 13 rfl rfl)
theorem dX1_pair_38 : decode cX1_pair 38 = .ok (.ireturn, 1) := dk_172 (dk_at dksX1_pair_1 14 rfl rfl)
theorem dX1_pair_39 : decode cX1_pair 39 = .ok (.aload_n 0, 1) := dk_42 (dk_at dksX1_pair_1 15 rfl rfl)
theorem dX1_pair_40 : decode cX1_pair 40 = .ok (.getfield 59, 3) := dk_180 0 59 (dk_at dksX1_pair_1 16 rfl rfl)
theorem dX1_pair_43 : decode cX1_pair 43 = .ok (.bipush 60, 2) := dk_16 60 (dk_at dksX1_pair_1 19 rfl rfl)
theorem dX1_pair_45 : decode cX1_pair 45 = .ok (.iload_n 1, 1) := dk_27 (dk_at dksX1_pair_1 21 rfl rfl)
theorem dX1_pair_46 : decode cX1_pair 46 = .ok (.imul, 1) := dk_104 (dk_at dksX1_pair_1 22 rfl rfl)
theorem dX1_pair_47 : decode cX1_pair 47 = .ok (.iload_n 2, 1) := dk_28 (dk_at dksX1_pair_1 23 rfl rfl)
theorem dX1_pair_48 : decode cX1_pair 48 = .ok (.iadd, 1) := dk_96 (dk_at dksX1_pair_2 0 rfl rfl)
theorem dX1_pair_49 : decode cX1_pair 49 = .ok (.iaload, 1) := dk_46 (dk_at dksX1_pair_2 1 rfl rfl)
theorem dX1_pair_50 : decode cX1_pair 50 = .ok (.istore 4, 2) := dk_54 4 (dk_at dksX1_pair_2 2 rfl rfl)
theorem dX1_pair_52 : decode cX1_pair 52 = .ok (.iload_n 3, 1) := dk_29 (dk_at dksX1_pair_2 4 rfl rfl)
theorem dX1_pair_53 : decode cX1_pair 53 = .ok (.ifCond .ne 8, 3) := dk_154 0 8 (dk_at dksX1_pair_2 5 rfl rfl)
theorem dX1_pair_56 : decode cX1_pair 56 = .ok (.iload 4, 2) := dk_21 4 (dk_at dksX1_pair_2 8 rfl rfl)
theorem dX1_pair_58 : decode cX1_pair 58 = .ok (.goto 23, 3) := dk_167 0 23 (dk_at dksX1_pair_2 10 rfl rfl)
theorem dX1_pair_61 : decode cX1_pair 61 = .ok (.aload_n 0, 1) := dk_42 (dk_at dksX1_pair_2 13 rfl rfl)
theorem dX1_pair_62 : decode cX1_pair 62 = .ok (.iload 4, 2) := dk_21 4 (dk_at dksX1_pair_2 14 rfl rfl)
theorem dX1_pair_64 : decode cX1_pair 64 = .ok (.invokevirtual 165, 3) := dk_182 0 165 (dk_at dksX1_pair_2 16 rfl rfl)
theorem dX1_pair_67 : decode cX1_pair 67 = .ok (.aload_n 0, 1) := dk_42 (dk_at dksX1_pair_2 19 rfl rfl)
theorem dX1_pair_68 : decode cX1_pair 68 = .ok (.getfield 27, 3) := dk_180 0 27 (dk_at dksX1_pair_2 20 rfl rfl)
theorem dX1_pair_71 : decode cX1_pair 71 = .ok (.iload_n 1, 1) := dk_27 (dk_at dksX1_pair_2 23 rfl rfl)
theorem dX1_pair_72 : decode cX1_pair 72 = .ok (.imul, 1) := dk_104 (dk_at dksX1_pair_3 0 rfl rfl)
theorem dX1_pair_73 : decode cX1_pair 73 = .ok (.aload_n 0, 1) := dk_42 (dk_at dksX1_pair_3 1 rfl rfl)
theorem dX1_pair_74 : decode cX1_pair 74 = .ok (.iload_n 2, 1) := dk_28 (dk_at dksX1_pair_3 2 rfl rfl)
theorem dX1_pair_75 : decode cX1_pair 75 = .ok (.invokevirtual 195, 3) := dk_182 0 195 (dk_at dksX1_pair_3 3 rfl rfl)
theorem dX1_pair_78 : decode cX1_pair 78 = .ok (.invokevirtual 182, 3) := dk_182 0 182 (dk_at dksX1_pair_3 6 rfl rfl)
theorem dX1_pair_81 : decode cX1_pair 81 = .ok (.ireturn, 1) := dk_172 (dk_at dksX1_pair_3 9 rfl rfl)
abbrev cX1_candidate : ByteArray := prog_1_method_57_code
def yX1_candidate : MethodName := ⟨RX1, "candidate", "(III)I"⟩
def dkwX1_candidate_2 : List UInt8 := [180, 0, 67, 29, 46, 167, 0, 5, 16, 254, 172]
abbrev dktX1_candidate_2 : List UInt8 := dkwX1_candidate_2 ++ []
def dkwX1_candidate_1 : List UInt8 := [160, 0, 8, 42, 180, 1, 6, 172, 42, 27, 28, 182, 1, 46, 29, 42, 180, 1, 6, 162, 0, 12, 42]
abbrev dktX1_candidate_1 : List UInt8 := dkwX1_candidate_1 ++ dktX1_candidate_2
def dkwX1_candidate_0 : List UInt8 := [42, 27, 28, 182, 0, 236, 153, 0, 8, 29, 2, 162, 0, 5, 2, 172, 42, 27, 28, 182, 1, 21, 29, 2]
abbrev dktX1_candidate_0 : List UInt8 := dkwX1_candidate_0 ++ dktX1_candidate_1
theorem dksX1_candidate_0 : cX1_candidate.data.toList.drop 0 = dktX1_candidate_0 := by decide +kernel
theorem dksX1_candidate_1 : cX1_candidate.data.toList.drop 24 = dktX1_candidate_1 := dk_seg dksX1_candidate_0 24 rfl rfl
theorem dksX1_candidate_2 : cX1_candidate.data.toList.drop 47 = dktX1_candidate_2 := dk_seg dksX1_candidate_1 23 rfl rfl
theorem dX1_candidate_0 : decode cX1_candidate 0 = .ok (.aload_n 0, 1) := dk_42 (dk_at dksX1_candidate_0 0 rfl rfl)
theorem dX1_candidate_1 : decode cX1_candidate 1 = .ok (.iload_n 1, 1) := dk_27 (dk_at dksX1_candidate_0 1 rfl rfl)
theorem dX1_candidate_2 : decode cX1_candidate 2 = .ok (.iload_n 2, 1) := dk_28 (dk_at dksX1_candidate_0 2 rfl rfl)
theorem dX1_candidate_3 : decode cX1_candidate 3 = .ok (.invokevirtual 236, 3) := dk_182 0 236 (dk_at dksX1_candidate_0 3 rfl rfl)
theorem dX1_candidate_6 : decode cX1_candidate 6 = .ok (.ifCond .eq 8, 3) := dk_153 0 8 (dk_at dksX1_candidate_0 6 rfl rfl)
theorem dX1_candidate_9 : decode cX1_candidate 9 = .ok (.iload_n 3, 1) := dk_29 (dk_at dksX1_candidate_0 9 rfl rfl)
theorem dX1_candidate_10 : decode cX1_candidate 10 = .ok (.iconst (-1), 1) := dk_2 (dk_at dksX1_candidate_0 10 rfl rfl)
theorem dX1_candidate_11 : decode cX1_candidate 11 = .ok (.if_icmp .ge 5, 3) := dk_162 0 5 (dk_at dksX1_candidate_0 11 rfl rfl)
theorem dX1_candidate_14 : decode cX1_candidate 14 = .ok (.iconst (-1), 1) := dk_2 (dk_at dksX1_candidate_0 14 rfl rfl)
theorem dX1_candidate_15 : decode cX1_candidate 15 = .ok (.ireturn, 1) := dk_172 (dk_at dksX1_candidate_0 15 rfl rfl)
theorem dX1_candidate_16 : decode cX1_candidate 16 = .ok (.aload_n 0, 1) := dk_42 (dk_at dksX1_candidate_0 16 rfl rfl)
theorem dX1_candidate_17 : decode cX1_candidate 17 = .ok (.iload_n 1, 1) := dk_27 (dk_at dksX1_candidate_0 17 rfl rfl)
theorem dX1_candidate_18 : decode cX1_candidate 18 = .ok (.iload_n 2, 1) := dk_28 (dk_at dksX1_candidate_0 18 rfl rfl)
theorem dX1_candidate_19 : decode cX1_candidate 19 = .ok (.invokevirtual 277, 3) := dk_182 1 21 (dk_at dksX1_candidate_0 19 rfl rfl)
theorem dX1_candidate_22 : decode cX1_candidate 22 = .ok (.iload_n 3, 1) := dk_29 (dk_at dksX1_candidate_0 22 rfl rfl)
theorem dX1_candidate_23 : decode cX1_candidate 23 = .ok (.iconst (-1), 1) := dk_2 (dk_at dksX1_candidate_0 23 rfl rfl)
theorem dX1_candidate_24 : decode cX1_candidate 24 = .ok (.if_icmp .ne 8, 3) := dk_160 0 8 (dk_at dksX1_candidate_1 0 rfl rfl)
theorem dX1_candidate_27 : decode cX1_candidate 27 = .ok (.aload_n 0, 1) := dk_42 (dk_at dksX1_candidate_1 3 rfl rfl)
theorem dX1_candidate_28 : decode cX1_candidate 28 = .ok (.getfield 262, 3) := dk_180 1 6 (dk_at dksX1_candidate_1 4 rfl rfl)
theorem dX1_candidate_31 : decode cX1_candidate 31 = .ok (.ireturn, 1) := dk_172 (dk_at dksX1_candidate_1 7 rfl rfl)
theorem dX1_candidate_32 : decode cX1_candidate 32 = .ok (.aload_n 0, 1) := dk_42 (dk_at dksX1_candidate_1 8 rfl rfl)
theorem dX1_candidate_33 : decode cX1_candidate 33 = .ok (.iload_n 1, 1) := dk_27 (dk_at dksX1_candidate_1 9 rfl rfl)
theorem dX1_candidate_34 : decode cX1_candidate 34 = .ok (.iload_n 2, 1) := dk_28 (dk_at dksX1_candidate_1 10 rfl rfl)
theorem dX1_candidate_35 : decode cX1_candidate 35 = .ok (.invokevirtual 302, 3) := dk_182 1 46 (dk_at dksX1_candidate_1 11 rfl rfl)
theorem dX1_candidate_38 : decode cX1_candidate 38 = .ok (.iload_n 3, 1) := dk_29 (dk_at dksX1_candidate_1 14 rfl rfl)
theorem dX1_candidate_39 : decode cX1_candidate 39 = .ok (.aload_n 0, 1) := dk_42 (dk_at dksX1_candidate_1 15 rfl rfl)
theorem dX1_candidate_40 : decode cX1_candidate 40 = .ok (.getfield 262, 3) := dk_180 1 6 (dk_at dksX1_candidate_1 16 rfl rfl)
theorem dX1_candidate_43 : decode cX1_candidate 43 = .ok (.if_icmp .ge 12, 3) := dk_162 0 12 (dk_at dksX1_candidate_1 19 rfl rfl)
theorem dX1_candidate_46 : decode cX1_candidate 46 = .ok (.aload_n 0, 1) := dk_42 (dk_at dksX1_candidate_1 22 rfl rfl)
theorem dX1_candidate_47 : decode cX1_candidate 47 = .ok (.getfield 67, 3) := dk_180 0 67 (dk_at dksX1_candidate_2 0 rfl rfl)
theorem dX1_candidate_50 : decode cX1_candidate 50 = .ok (.iload_n 3, 1) := dk_29 (dk_at dksX1_candidate_2 3 rfl rfl)
theorem dX1_candidate_51 : decode cX1_candidate 51 = .ok (.iaload, 1) := dk_46 (dk_at dksX1_candidate_2 4 rfl rfl)
theorem dX1_candidate_52 : decode cX1_candidate 52 = .ok (.goto 5, 3) := dk_167 0 5 (dk_at dksX1_candidate_2 5 rfl rfl)
theorem dX1_candidate_55 : decode cX1_candidate 55 = .ok (.bipush (-2), 2) := dk_16 254 (dk_at dksX1_candidate_2 8 rfl rfl)
theorem dX1_candidate_57 : decode cX1_candidate 57 = .ok (.ireturn, 1) := dk_172 (dk_at dksX1_candidate_2 10 rfl rfl)
abbrev cX1_median : ByteArray := prog_1_method_59_code
def yX1_median : MethodName := ⟨RX1, "median", "(II)I"⟩
def dkwX1_median_1 : List UInt8 := [5, 108, 46, 172]
abbrev dktX1_median_1 : List UInt8 := dkwX1_median_1 ++ []
def dkwX1_median_0 : List UInt8 := [42, 27, 28, 182, 0, 236, 154, 0, 5, 2, 172, 42, 27, 28, 182, 1, 59, 42, 180, 0, 74, 28, 27, 100]
abbrev dktX1_median_0 : List UInt8 := dkwX1_median_0 ++ dktX1_median_1
theorem dksX1_median_0 : cX1_median.data.toList.drop 0 = dktX1_median_0 := by decide +kernel
theorem dksX1_median_1 : cX1_median.data.toList.drop 24 = dktX1_median_1 := dk_seg dksX1_median_0 24 rfl rfl
theorem dX1_median_0 : decode cX1_median 0 = .ok (.aload_n 0, 1) := dk_42 (dk_at dksX1_median_0 0 rfl rfl)
theorem dX1_median_1 : decode cX1_median 1 = .ok (.iload_n 1, 1) := dk_27 (dk_at dksX1_median_0 1 rfl rfl)
theorem dX1_median_2 : decode cX1_median 2 = .ok (.iload_n 2, 1) := dk_28 (dk_at dksX1_median_0 2 rfl rfl)
theorem dX1_median_3 : decode cX1_median 3 = .ok (.invokevirtual 236, 3) := dk_182 0 236 (dk_at dksX1_median_0 3 rfl rfl)
theorem dX1_median_6 : decode cX1_median 6 = .ok (.ifCond .ne 5, 3) := dk_154 0 5 (dk_at dksX1_median_0 6 rfl rfl)
theorem dX1_median_9 : decode cX1_median 9 = .ok (.iconst (-1), 1) := dk_2 (dk_at dksX1_median_0 9 rfl rfl)
theorem dX1_median_10 : decode cX1_median 10 = .ok (.ireturn, 1) := dk_172 (dk_at dksX1_median_0 10 rfl rfl)
theorem dX1_median_11 : decode cX1_median 11 = .ok (.aload_n 0, 1) := dk_42 (dk_at dksX1_median_0 11 rfl rfl)
theorem dX1_median_12 : decode cX1_median 12 = .ok (.iload_n 1, 1) := dk_27 (dk_at dksX1_median_0 12 rfl rfl)
theorem dX1_median_13 : decode cX1_median 13 = .ok (.iload_n 2, 1) := dk_28 (dk_at dksX1_median_0 13 rfl rfl)
theorem dX1_median_14 : decode cX1_median 14 = .ok (.invokevirtual 315, 3) := dk_182 1 59 (dk_at dksX1_median_0 14 rfl rfl)
theorem dX1_median_17 : decode cX1_median 17 = .ok (.aload_n 0, 1) := dk_42 (dk_at dksX1_median_0 17 rfl rfl)
theorem dX1_median_18 : decode cX1_median 18 = .ok (.getfield 74, 3) := dk_180 0 74 (dk_at dksX1_median_0 18 rfl rfl)
theorem dX1_median_21 : decode cX1_median 21 = .ok (.iload_n 2, 1) := dk_28 (dk_at dksX1_median_0 21 rfl rfl)
theorem dX1_median_22 : decode cX1_median 22 = .ok (.iload_n 1, 1) := dk_27 (dk_at dksX1_median_0 22 rfl rfl)
theorem dX1_median_23 : decode cX1_median 23 = .ok (.isub, 1) := dk_100 (dk_at dksX1_median_0 23 rfl rfl)
theorem dX1_median_24 : decode cX1_median 24 = .ok (.iconst 2, 1) := dk_5 (dk_at dksX1_median_1 0 rfl rfl)
theorem dX1_median_25 : decode cX1_median 25 = .ok (.idiv, 1) := dk_108 (dk_at dksX1_median_1 1 rfl rfl)
theorem dX1_median_26 : decode cX1_median 26 = .ok (.iaload, 1) := dk_46 (dk_at dksX1_median_1 2 rfl rfl)
theorem dX1_median_27 : decode cX1_median 27 = .ok (.ireturn, 1) := dk_172 (dk_at dksX1_median_1 3 rfl rfl)
abbrev cX1_sorts : ByteArray := prog_1_method_58_code
def yX1_sorts : MethodName := ⟨RX1, "sorts", "(II)V"⟩
def dkwX1_sorts_3 : List UInt8 := [180, 0, 148, 29, 46, 79, 132, 3, 1, 167, 255, 179, 177]
abbrev dktX1_sorts_3 : List UInt8 := dkwX1_sorts_3 ++ []
def dkwX1_sorts_2 : List UInt8 := [21, 4, 4, 100, 46, 79, 132, 4, 255, 167, 255, 211, 42, 180, 0, 74, 21, 4, 42, 180, 0, 20]
abbrev dktX1_sorts_2 : List UInt8 := dkwX1_sorts_2 ++ dktX1_sorts_3
def dkwX1_sorts_1 : List UInt8 := [100, 46, 42, 180, 0, 20, 180, 0, 148, 29, 46, 164, 0, 25, 42, 180, 0, 74, 21, 4, 42, 180, 0, 74]
abbrev dktX1_sorts_1 : List UInt8 := dkwX1_sorts_1 ++ dktX1_sorts_2
def dkwX1_sorts_0 : List UInt8 := [27, 62, 29, 28, 163, 0, 78, 29, 27, 100, 54, 4, 21, 4, 158, 0, 46, 42, 180, 0, 74, 21, 4, 4]
abbrev dktX1_sorts_0 : List UInt8 := dkwX1_sorts_0 ++ dktX1_sorts_1
theorem dksX1_sorts_0 : cX1_sorts.data.toList.drop 0 = dktX1_sorts_0 := by decide +kernel
theorem dksX1_sorts_1 : cX1_sorts.data.toList.drop 24 = dktX1_sorts_1 := dk_seg dksX1_sorts_0 24 rfl rfl
theorem dksX1_sorts_2 : cX1_sorts.data.toList.drop 48 = dktX1_sorts_2 := dk_seg dksX1_sorts_1 24 rfl rfl
theorem dksX1_sorts_3 : cX1_sorts.data.toList.drop 70 = dktX1_sorts_3 := dk_seg dksX1_sorts_2 22 rfl rfl
theorem dX1_sorts_0 : decode cX1_sorts 0 = .ok (.iload_n 1, 1) := dk_27 (dk_at dksX1_sorts_0 0 rfl rfl)
theorem dX1_sorts_1 : decode cX1_sorts 1 = .ok (.istore_n 3, 1) := dk_62 (dk_at dksX1_sorts_0 1 rfl rfl)
theorem dX1_sorts_2 : decode cX1_sorts 2 = .ok (.iload_n 3, 1) := dk_29 (dk_at dksX1_sorts_0 2 rfl rfl)
theorem dX1_sorts_3 : decode cX1_sorts 3 = .ok (.iload_n 2, 1) := dk_28 (dk_at dksX1_sorts_0 3 rfl rfl)
theorem dX1_sorts_4 : decode cX1_sorts 4 = .ok (.if_icmp .gt 78, 3) := dk_163 0 78 (dk_at dksX1_sorts_0 4 rfl rfl)
theorem dX1_sorts_7 : decode cX1_sorts 7 = .ok (.iload_n 3, 1) := dk_29 (dk_at dksX1_sorts_0 7 rfl rfl)
theorem dX1_sorts_8 : decode cX1_sorts 8 = .ok (.iload_n 1, 1) := dk_27 (dk_at dksX1_sorts_0 8 rfl rfl)
theorem dX1_sorts_9 : decode cX1_sorts 9 = .ok (.isub, 1) := dk_100 (dk_at dksX1_sorts_0 9 rfl rfl)
theorem dX1_sorts_10 : decode cX1_sorts 10 = .ok (.istore 4, 2) := dk_54 4 (dk_at dksX1_sorts_0 10 rfl rfl)
theorem dX1_sorts_12 : decode cX1_sorts 12 = .ok (.iload 4, 2) := dk_21 4 (dk_at dksX1_sorts_0 12 rfl rfl)
theorem dX1_sorts_14 : decode cX1_sorts 14 = .ok (.ifCond .le 46, 3) := dk_158 0 46 (dk_at dksX1_sorts_0 14 rfl rfl)
theorem dX1_sorts_17 : decode cX1_sorts 17 = .ok (.aload_n 0, 1) := dk_42 (dk_at dksX1_sorts_0 17 rfl rfl)
theorem dX1_sorts_18 : decode cX1_sorts 18 = .ok (.getfield 74, 3) := dk_180 0 74 (dk_at dksX1_sorts_0 18 rfl rfl)
theorem dX1_sorts_21 : decode cX1_sorts 21 = .ok (.iload 4, 2) := dk_21 4 (dk_at dksX1_sorts_0 21 rfl rfl)
theorem dX1_sorts_23 : decode cX1_sorts 23 = .ok (.iconst 1, 1) := dk_4 (dk_at dksX1_sorts_0 23 rfl rfl)
theorem dX1_sorts_24 : decode cX1_sorts 24 = .ok (.isub, 1) := dk_100 (dk_at dksX1_sorts_1 0 rfl rfl)
theorem dX1_sorts_25 : decode cX1_sorts 25 = .ok (.iaload, 1) := dk_46 (dk_at dksX1_sorts_1 1 rfl rfl)
theorem dX1_sorts_26 : decode cX1_sorts 26 = .ok (.aload_n 0, 1) := dk_42 (dk_at dksX1_sorts_1 2 rfl rfl)
theorem dX1_sorts_27 : decode cX1_sorts 27 = .ok (.getfield 20, 3) := dk_180 0 20 (dk_at dksX1_sorts_1 3 rfl rfl)
theorem dX1_sorts_30 : decode cX1_sorts 30 = .ok (.getfield 148, 3) := dk_180 0 148 (dk_at dksX1_sorts_1 6 rfl rfl)
theorem dX1_sorts_33 : decode cX1_sorts 33 = .ok (.iload_n 3, 1) := dk_29 (dk_at dksX1_sorts_1 9 rfl rfl)
theorem dX1_sorts_34 : decode cX1_sorts 34 = .ok (.iaload, 1) := dk_46 (dk_at dksX1_sorts_1 10 rfl rfl)
theorem dX1_sorts_35 : decode cX1_sorts 35 = .ok (.if_icmp .le 25, 3) := dk_164 0 25 (dk_at dksX1_sorts_1 11 rfl rfl)
theorem dX1_sorts_38 : decode cX1_sorts 38 = .ok (.aload_n 0, 1) := dk_42 (dk_at dksX1_sorts_1 14 rfl rfl)
theorem dX1_sorts_39 : decode cX1_sorts 39 = .ok (.getfield 74, 3) := dk_180 0 74 (dk_at dksX1_sorts_1 15 rfl rfl)
theorem dX1_sorts_42 : decode cX1_sorts 42 = .ok (.iload 4, 2) := dk_21 4 (dk_at dksX1_sorts_1 18 rfl rfl)
theorem dX1_sorts_44 : decode cX1_sorts 44 = .ok (.aload_n 0, 1) := dk_42 (dk_at dksX1_sorts_1 20 rfl rfl)
theorem dX1_sorts_45 : decode cX1_sorts 45 = .ok (.getfield 74, 3) := dk_180 0 74 (dk_at dksX1_sorts_1 21 rfl rfl)
theorem dX1_sorts_48 : decode cX1_sorts 48 = .ok (.iload 4, 2) := dk_21 4 (dk_at dksX1_sorts_2 0 rfl rfl)
theorem dX1_sorts_50 : decode cX1_sorts 50 = .ok (.iconst 1, 1) := dk_4 (dk_at dksX1_sorts_2 2 rfl rfl)
theorem dX1_sorts_51 : decode cX1_sorts 51 = .ok (.isub, 1) := dk_100 (dk_at dksX1_sorts_2 3 rfl rfl)
theorem dX1_sorts_52 : decode cX1_sorts 52 = .ok (.iaload, 1) := dk_46 (dk_at dksX1_sorts_2 4 rfl rfl)
theorem dX1_sorts_53 : decode cX1_sorts 53 = .ok (.iastore, 1) := dk_79 (dk_at dksX1_sorts_2 5 rfl rfl)
theorem dX1_sorts_54 : decode cX1_sorts 54 = .ok (.iinc 4 (-1), 3) := dk_132 4 255 (dk_at dksX1_sorts_2 6 rfl rfl)
theorem dX1_sorts_57 : decode cX1_sorts 57 = .ok (.goto (-45), 3) := dk_167 255 211 (dk_at dksX1_sorts_2 9 rfl rfl)
theorem dX1_sorts_60 : decode cX1_sorts 60 = .ok (.aload_n 0, 1) := dk_42 (dk_at dksX1_sorts_2 12 rfl rfl)
theorem dX1_sorts_61 : decode cX1_sorts 61 = .ok (.getfield 74, 3) := dk_180 0 74 (dk_at dksX1_sorts_2 13 rfl rfl)
theorem dX1_sorts_64 : decode cX1_sorts 64 = .ok (.iload 4, 2) := dk_21 4 (dk_at dksX1_sorts_2 16 rfl rfl)
theorem dX1_sorts_66 : decode cX1_sorts 66 = .ok (.aload_n 0, 1) := dk_42 (dk_at dksX1_sorts_2 18 rfl rfl)
theorem dX1_sorts_67 : decode cX1_sorts 67 = .ok (.getfield 20, 3) := dk_180 0 20 (dk_at dksX1_sorts_2 19 rfl rfl)
theorem dX1_sorts_70 : decode cX1_sorts 70 = .ok (.getfield 148, 3) := dk_180 0 148 (dk_at dksX1_sorts_3 0 rfl rfl)
theorem dX1_sorts_73 : decode cX1_sorts 73 = .ok (.iload_n 3, 1) := dk_29 (dk_at dksX1_sorts_3 3 rfl rfl)
theorem dX1_sorts_74 : decode cX1_sorts 74 = .ok (.iaload, 1) := dk_46 (dk_at dksX1_sorts_3 4 rfl rfl)
theorem dX1_sorts_75 : decode cX1_sorts 75 = .ok (.iastore, 1) := dk_79 (dk_at dksX1_sorts_3 5 rfl rfl)
theorem dX1_sorts_76 : decode cX1_sorts 76 = .ok (.iinc 3 1, 3) := dk_132 3 1 (dk_at dksX1_sorts_3 6 rfl rfl)
theorem dX1_sorts_79 : decode cX1_sorts 79 = .ok (.goto (-77), 3) := dk_167 255 179 (dk_at dksX1_sorts_3 9 rfl rfl)
theorem dX1_sorts_82 : decode cX1_sorts 82 = .ok (.return_, 1) := dk_177 (dk_at dksX1_sorts_3 12 rfl rfl)
abbrev cX1_twisted : ByteArray := prog_1_method_60_code
def yX1_twisted : MethodName := ⟨RX1, "twisted", "(II)I"⟩
def dkwX1_twisted_3 : List UInt8 := [167, 255, 216, 132, 4, 1, 167, 255, 198, 29, 172]
abbrev dktX1_twisted_3 : List UInt8 := dkwX1_twisted_3 ++ []
def dkwX1_twisted_2 : List UInt8 := [180, 0, 20, 180, 0, 148, 21, 5, 46, 164, 0, 7, 4, 167, 0, 4, 3, 96, 62, 132, 5, 1]
abbrev dktX1_twisted_2 : List UInt8 := dkwX1_twisted_2 ++ dktX1_twisted_3
def dkwX1_twisted_1 : List UInt8 := [4, 96, 54, 5, 21, 5, 28, 163, 0, 40, 29, 42, 180, 0, 20, 180, 0, 148, 21, 4, 46, 42]
abbrev dktX1_twisted_1 : List UInt8 := dkwX1_twisted_1 ++ dktX1_twisted_2
def dkwX1_twisted_0 : List UInt8 := [42, 27, 28, 182, 0, 236, 154, 0, 5, 2, 172, 3, 62, 27, 54, 4, 21, 4, 28, 163, 0, 58, 21, 4]
abbrev dktX1_twisted_0 : List UInt8 := dkwX1_twisted_0 ++ dktX1_twisted_1
theorem dksX1_twisted_0 : cX1_twisted.data.toList.drop 0 = dktX1_twisted_0 := by decide +kernel
theorem dksX1_twisted_1 : cX1_twisted.data.toList.drop 24 = dktX1_twisted_1 := dk_seg dksX1_twisted_0 24 rfl rfl
theorem dksX1_twisted_2 : cX1_twisted.data.toList.drop 46 = dktX1_twisted_2 := dk_seg dksX1_twisted_1 22 rfl rfl
theorem dksX1_twisted_3 : cX1_twisted.data.toList.drop 68 = dktX1_twisted_3 := dk_seg dksX1_twisted_2 22 rfl rfl
theorem dX1_twisted_0 : decode cX1_twisted 0 = .ok (.aload_n 0, 1) := dk_42 (dk_at dksX1_twisted_0 0 rfl rfl)
theorem dX1_twisted_1 : decode cX1_twisted 1 = .ok (.iload_n 1, 1) := dk_27 (dk_at dksX1_twisted_0 1 rfl rfl)
theorem dX1_twisted_2 : decode cX1_twisted 2 = .ok (.iload_n 2, 1) := dk_28 (dk_at dksX1_twisted_0 2 rfl rfl)
theorem dX1_twisted_3 : decode cX1_twisted 3 = .ok (.invokevirtual 236, 3) := dk_182 0 236 (dk_at dksX1_twisted_0 3 rfl rfl)
theorem dX1_twisted_6 : decode cX1_twisted 6 = .ok (.ifCond .ne 5, 3) := dk_154 0 5 (dk_at dksX1_twisted_0 6 rfl rfl)
theorem dX1_twisted_9 : decode cX1_twisted 9 = .ok (.iconst (-1), 1) := dk_2 (dk_at dksX1_twisted_0 9 rfl rfl)
theorem dX1_twisted_10 : decode cX1_twisted 10 = .ok (.ireturn, 1) := dk_172 (dk_at dksX1_twisted_0 10 rfl rfl)
theorem dX1_twisted_11 : decode cX1_twisted 11 = .ok (.iconst 0, 1) := dk_3 (dk_at dksX1_twisted_0 11 rfl rfl)
theorem dX1_twisted_12 : decode cX1_twisted 12 = .ok (.istore_n 3, 1) := dk_62 (dk_at dksX1_twisted_0 12 rfl rfl)
theorem dX1_twisted_13 : decode cX1_twisted 13 = .ok (.iload_n 1, 1) := dk_27 (dk_at dksX1_twisted_0 13 rfl rfl)
theorem dX1_twisted_14 : decode cX1_twisted 14 = .ok (.istore 4, 2) := dk_54 4 (dk_at dksX1_twisted_0 14 rfl rfl)
theorem dX1_twisted_16 : decode cX1_twisted 16 = .ok (.iload 4, 2) := dk_21 4 (dk_at dksX1_twisted_0 16 rfl rfl)
theorem dX1_twisted_18 : decode cX1_twisted 18 = .ok (.iload_n 2, 1) := dk_28 (dk_at dksX1_twisted_0 18 rfl rfl)
theorem dX1_twisted_19 : decode cX1_twisted 19 = .ok (.if_icmp .gt 58, 3) := dk_163 0 58 (dk_at dksX1_twisted_0 19 rfl rfl)
theorem dX1_twisted_22 : decode cX1_twisted 22 = .ok (.iload 4, 2) := dk_21 4 (dk_at dksX1_twisted_0 22 rfl rfl)
theorem dX1_twisted_24 : decode cX1_twisted 24 = .ok (.iconst 1, 1) := dk_4 (dk_at dksX1_twisted_1 0 rfl rfl)
theorem dX1_twisted_25 : decode cX1_twisted 25 = .ok (.iadd, 1) := dk_96 (dk_at dksX1_twisted_1 1 rfl rfl)
theorem dX1_twisted_26 : decode cX1_twisted 26 = .ok (.istore 5, 2) := dk_54 5 (dk_at dksX1_twisted_1 2 rfl rfl)
theorem dX1_twisted_28 : decode cX1_twisted 28 = .ok (.iload 5, 2) := dk_21 5 (dk_at dksX1_twisted_1 4 rfl rfl)
theorem dX1_twisted_30 : decode cX1_twisted 30 = .ok (.iload_n 2, 1) := dk_28 (dk_at dksX1_twisted_1 6 rfl rfl)
theorem dX1_twisted_31 : decode cX1_twisted 31 = .ok (.if_icmp .gt 40, 3) := dk_163 0 40 (dk_at dksX1_twisted_1 7 rfl rfl)
theorem dX1_twisted_34 : decode cX1_twisted 34 = .ok (.iload_n 3, 1) := dk_29 (dk_at dksX1_twisted_1 10 rfl rfl)
theorem dX1_twisted_35 : decode cX1_twisted 35 = .ok (.aload_n 0, 1) := dk_42 (dk_at dksX1_twisted_1 11 rfl rfl)
theorem dX1_twisted_36 : decode cX1_twisted 36 = .ok (.getfield 20, 3) := dk_180 0 20 (dk_at dksX1_twisted_1 12 rfl rfl)
theorem dX1_twisted_39 : decode cX1_twisted 39 = .ok (.getfield 148, 3) := dk_180 0 148 (dk_at dksX1_twisted_1 15 rfl rfl)
theorem dX1_twisted_42 : decode cX1_twisted 42 = .ok (.iload 4, 2) := dk_21 4 (dk_at dksX1_twisted_1 18 rfl rfl)
theorem dX1_twisted_44 : decode cX1_twisted 44 = .ok (.iaload, 1) := dk_46 (dk_at dksX1_twisted_1 20 rfl rfl)
theorem dX1_twisted_45 : decode cX1_twisted 45 = .ok (.aload_n 0, 1) := dk_42 (dk_at dksX1_twisted_1 21 rfl rfl)
theorem dX1_twisted_46 : decode cX1_twisted 46 = .ok (.getfield 20, 3) := dk_180 0 20 (dk_at dksX1_twisted_2 0 rfl rfl)
theorem dX1_twisted_49 : decode cX1_twisted 49 = .ok (.getfield 148, 3) := dk_180 0 148 (dk_at dksX1_twisted_2 3 rfl rfl)
theorem dX1_twisted_52 : decode cX1_twisted 52 = .ok (.iload 5, 2) := dk_21 5 (dk_at dksX1_twisted_2 6 rfl rfl)
theorem dX1_twisted_54 : decode cX1_twisted 54 = .ok (.iaload, 1) := dk_46 (dk_at dksX1_twisted_2 8 rfl rfl)
theorem dX1_twisted_55 : decode cX1_twisted 55 = .ok (.if_icmp .le 7, 3) := dk_164 0 7 (dk_at dksX1_twisted_2 9 rfl rfl)
theorem dX1_twisted_58 : decode cX1_twisted 58 = .ok (.iconst 1, 1) := dk_4 (dk_at dksX1_twisted_2 12 rfl rfl)
theorem dX1_twisted_59 : decode cX1_twisted 59 = .ok (.goto 4, 3) := dk_167 0 4 (dk_at dksX1_twisted_2 13 rfl rfl)
theorem dX1_twisted_62 : decode cX1_twisted 62 = .ok (.iconst 0, 1) := dk_3 (dk_at dksX1_twisted_2 16 rfl rfl)
theorem dX1_twisted_63 : decode cX1_twisted 63 = .ok (.iadd, 1) := dk_96 (dk_at dksX1_twisted_2 17 rfl rfl)
theorem dX1_twisted_64 : decode cX1_twisted 64 = .ok (.istore_n 3, 1) := dk_62 (dk_at dksX1_twisted_2 18 rfl rfl)
theorem dX1_twisted_65 : decode cX1_twisted 65 = .ok (.iinc 5 1, 3) := dk_132 5 1 (dk_at dksX1_twisted_2 19 rfl rfl)
theorem dX1_twisted_68 : decode cX1_twisted 68 = .ok (.goto (-40), 3) := dk_167 255 216 (dk_at dksX1_twisted_3 0 rfl rfl)
theorem dX1_twisted_71 : decode cX1_twisted 71 = .ok (.iinc 4 1, 3) := dk_132 4 1 (dk_at dksX1_twisted_3 3 rfl rfl)
theorem dX1_twisted_74 : decode cX1_twisted 74 = .ok (.goto (-58), 3) := dk_167 255 198 (dk_at dksX1_twisted_3 6 rfl rfl)
theorem dX1_twisted_77 : decode cX1_twisted 77 = .ok (.iload_n 3, 1) := dk_29 (dk_at dksX1_twisted_3 9 rfl rfl)
theorem dX1_twisted_78 : decode cX1_twisted 78 = .ok (.ireturn, 1) := dk_172 (dk_at dksX1_twisted_3 10 rfl rfl)
abbrev cX1_run : ByteArray := prog_1_method_61_code
def yX1_run : MethodName := ⟨RX1, "run", "(III)I"⟩
def dkwX1_run_5 : List UInt8 := [96, 4, 100, 167, 0, 13, 42, 180, 0, 20, 180, 0, 148, 21, 5, 46, 172]
abbrev dktX1_run_5 : List UInt8 := dkwX1_run_5 ++ []
def dkwX1_run_4 : List UInt8 := [132, 7, 1, 167, 255, 192, 29, 154, 0, 8, 21, 5, 167, 0, 28, 29, 4, 160, 0, 13, 21, 5, 21, 6]
abbrev dktX1_run_4 : List UInt8 := dkwX1_run_4 ++ dktX1_run_5
def dkwX1_run_3 : List UInt8 := [100, 4, 96, 21, 6, 163, 0, 6, 167, 0, 16, 21, 4, 54, 5, 21, 7, 21, 4, 100, 4, 96, 54, 6]
abbrev dktX1_run_3 : List UInt8 := dkwX1_run_3 ++ dktX1_run_4
def dkwX1_run_2 : List UInt8 := [21, 7, 46, 42, 180, 0, 20, 180, 0, 148, 21, 4, 46, 159, 0, 7, 21, 7, 54, 4, 21, 7, 21, 4]
abbrev dktX1_run_2 : List UInt8 := dkwX1_run_2 ++ dktX1_run_3
def dkwX1_run_1 : List UInt8 := [54, 4, 27, 54, 5, 3, 54, 6, 27, 54, 7, 21, 7, 28, 163, 0, 64, 42, 180, 0, 20, 180, 0, 148]
abbrev dktX1_run_1 : List UInt8 := dkwX1_run_1 ++ dktX1_run_2
def dkwX1_run_0 : List UInt8 := [42, 27, 28, 182, 0, 236, 153, 0, 15, 29, 133, 9, 20, 1, 62, 184, 0, 89, 154, 0, 5, 2, 172, 27]
abbrev dktX1_run_0 : List UInt8 := dkwX1_run_0 ++ dktX1_run_1
theorem dksX1_run_0 : cX1_run.data.toList.drop 0 = dktX1_run_0 := by decide +kernel
theorem dksX1_run_1 : cX1_run.data.toList.drop 24 = dktX1_run_1 := dk_seg dksX1_run_0 24 rfl rfl
theorem dksX1_run_2 : cX1_run.data.toList.drop 48 = dktX1_run_2 := dk_seg dksX1_run_1 24 rfl rfl
theorem dksX1_run_3 : cX1_run.data.toList.drop 72 = dktX1_run_3 := dk_seg dksX1_run_2 24 rfl rfl
theorem dksX1_run_4 : cX1_run.data.toList.drop 96 = dktX1_run_4 := dk_seg dksX1_run_3 24 rfl rfl
theorem dksX1_run_5 : cX1_run.data.toList.drop 120 = dktX1_run_5 := dk_seg dksX1_run_4 24 rfl rfl
theorem dX1_run_0 : decode cX1_run 0 = .ok (.aload_n 0, 1) := dk_42 (dk_at dksX1_run_0 0 rfl rfl)
theorem dX1_run_1 : decode cX1_run 1 = .ok (.iload_n 1, 1) := dk_27 (dk_at dksX1_run_0 1 rfl rfl)
theorem dX1_run_2 : decode cX1_run 2 = .ok (.iload_n 2, 1) := dk_28 (dk_at dksX1_run_0 2 rfl rfl)
theorem dX1_run_3 : decode cX1_run 3 = .ok (.invokevirtual 236, 3) := dk_182 0 236 (dk_at dksX1_run_0 3 rfl rfl)
theorem dX1_run_6 : decode cX1_run 6 = .ok (.ifCond .eq 15, 3) := dk_153 0 15 (dk_at dksX1_run_0 6 rfl rfl)
theorem dX1_run_9 : decode cX1_run 9 = .ok (.iload_n 3, 1) := dk_29 (dk_at dksX1_run_0 9 rfl rfl)
theorem dX1_run_10 : decode cX1_run 10 = .ok (.i2l, 1) := dk_133 (dk_at dksX1_run_0 10 rfl rfl)
theorem dX1_run_11 : decode cX1_run 11 = .ok (.lconst 0, 1) := dk_9 (dk_at dksX1_run_0 11 rfl rfl)
theorem dX1_run_12 : decode cX1_run 12 = .ok (.ldc2_w 318, 3) := dk_20 1 62 (dk_at dksX1_run_0 12 rfl rfl)
theorem dX1_run_15 : decode cX1_run 15 = .ok (.invokestatic 89, 3) := dk_184 0 89 (dk_at dksX1_run_0 15 rfl rfl)
theorem dX1_run_18 : decode cX1_run 18 = .ok (.ifCond .ne 5, 3) := dk_154 0 5 (dk_at dksX1_run_0 18 rfl rfl)
theorem dX1_run_21 : decode cX1_run 21 = .ok (.iconst (-1), 1) := dk_2 (dk_at dksX1_run_0 21 rfl rfl)
theorem dX1_run_22 : decode cX1_run 22 = .ok (.ireturn, 1) := dk_172 (dk_at dksX1_run_0 22 rfl rfl)
theorem dX1_run_23 : decode cX1_run 23 = .ok (.iload_n 1, 1) := dk_27 (dk_at dksX1_run_0 23 rfl rfl)
theorem dX1_run_24 : decode cX1_run 24 = .ok (.istore 4, 2) := dk_54 4 (dk_at dksX1_run_1 0 rfl rfl)
theorem dX1_run_26 : decode cX1_run 26 = .ok (.iload_n 1, 1) := dk_27 (dk_at dksX1_run_1 2 rfl rfl)
theorem dX1_run_27 : decode cX1_run 27 = .ok (.istore 5, 2) := dk_54 5 (dk_at dksX1_run_1 3 rfl rfl)
theorem dX1_run_29 : decode cX1_run 29 = .ok (.iconst 0, 1) := dk_3 (dk_at dksX1_run_1 5 rfl rfl)
theorem dX1_run_30 : decode cX1_run 30 = .ok (.istore 6, 2) := dk_54 6 (dk_at dksX1_run_1 6 rfl rfl)
theorem dX1_run_32 : decode cX1_run 32 = .ok (.iload_n 1, 1) := dk_27 (dk_at dksX1_run_1 8 rfl rfl)
theorem dX1_run_33 : decode cX1_run 33 = .ok (.istore 7, 2) := dk_54 7 (dk_at dksX1_run_1 9 rfl rfl)
theorem dX1_run_35 : decode cX1_run 35 = .ok (.iload 7, 2) := dk_21 7 (dk_at dksX1_run_1 11 rfl rfl)
theorem dX1_run_37 : decode cX1_run 37 = .ok (.iload_n 2, 1) := dk_28 (dk_at dksX1_run_1 13 rfl rfl)
theorem dX1_run_38 : decode cX1_run 38 = .ok (.if_icmp .gt 64, 3) := dk_163 0 64 (dk_at dksX1_run_1 14 rfl rfl)
theorem dX1_run_41 : decode cX1_run 41 = .ok (.aload_n 0, 1) := dk_42 (dk_at dksX1_run_1 17 rfl rfl)
theorem dX1_run_42 : decode cX1_run 42 = .ok (.getfield 20, 3) := dk_180 0 20 (dk_at dksX1_run_1 18 rfl rfl)
theorem dX1_run_45 : decode cX1_run 45 = .ok (.getfield 148, 3) := dk_180 0 148 (dk_at dksX1_run_1 21 rfl rfl)
theorem dX1_run_48 : decode cX1_run 48 = .ok (.iload 7, 2) := dk_21 7 (dk_at dksX1_run_2 0 rfl rfl)
theorem dX1_run_50 : decode cX1_run 50 = .ok (.iaload, 1) := dk_46 (dk_at dksX1_run_2 2 rfl rfl)
theorem dX1_run_51 : decode cX1_run 51 = .ok (.aload_n 0, 1) := dk_42 (dk_at dksX1_run_2 3 rfl rfl)
theorem dX1_run_52 : decode cX1_run 52 = .ok (.getfield 20, 3) := dk_180 0 20 (dk_at dksX1_run_2 4 rfl rfl)
theorem dX1_run_55 : decode cX1_run 55 = .ok (.getfield 148, 3) := dk_180 0 148 (dk_at dksX1_run_2 7 rfl rfl)
theorem dX1_run_58 : decode cX1_run 58 = .ok (.iload 4, 2) := dk_21 4 (dk_at dksX1_run_2 10 rfl rfl)
theorem dX1_run_60 : decode cX1_run 60 = .ok (.iaload, 1) := dk_46 (dk_at dksX1_run_2 12 rfl rfl)
theorem dX1_run_61 : decode cX1_run 61 = .ok (.if_icmp .eq 7, 3) := dk_159 0 7 (dk_at dksX1_run_2 13 rfl rfl)
theorem dX1_run_64 : decode cX1_run 64 = .ok (.iload 7, 2) := dk_21 7 (dk_at dksX1_run_2 16 rfl rfl)
theorem dX1_run_66 : decode cX1_run 66 = .ok (.istore 4, 2) := dk_54 4 (dk_at dksX1_run_2 18 rfl rfl)
theorem dX1_run_68 : decode cX1_run 68 = .ok (.iload 7, 2) := dk_21 7 (dk_at dksX1_run_2 20 rfl rfl)
theorem dX1_run_70 : decode cX1_run 70 = .ok (.iload 4, 2) := dk_21 4 (dk_at dksX1_run_2 22 rfl rfl)
theorem dX1_run_72 : decode cX1_run 72 = .ok (.isub, 1) := dk_100 (dk_at dksX1_run_3 0 rfl rfl)
theorem dX1_run_73 : decode cX1_run 73 = .ok (.iconst 1, 1) := dk_4 (dk_at dksX1_run_3 1 rfl rfl)
theorem dX1_run_74 : decode cX1_run 74 = .ok (.iadd, 1) := dk_96 (dk_at dksX1_run_3 2 rfl rfl)
theorem dX1_run_75 : decode cX1_run 75 = .ok (.iload 6, 2) := dk_21 6 (dk_at dksX1_run_3 3 rfl rfl)
theorem dX1_run_77 : decode cX1_run 77 = .ok (.if_icmp .gt 6, 3) := dk_163 0 6 (dk_at dksX1_run_3 5 rfl rfl)
theorem dX1_run_80 : decode cX1_run 80 = .ok (.goto 16, 3) := dk_167 0 16 (dk_at dksX1_run_3 8 rfl rfl)
theorem dX1_run_83 : decode cX1_run 83 = .ok (.iload 4, 2) := dk_21 4 (dk_at dksX1_run_3 11 rfl rfl)
theorem dX1_run_85 : decode cX1_run 85 = .ok (.istore 5, 2) := dk_54 5 (dk_at dksX1_run_3 13 rfl rfl)
theorem dX1_run_87 : decode cX1_run 87 = .ok (.iload 7, 2) := dk_21 7 (dk_at dksX1_run_3 15 rfl rfl)
theorem dX1_run_89 : decode cX1_run 89 = .ok (.iload 4, 2) := dk_21 4 (dk_at dksX1_run_3 17 rfl rfl)
theorem dX1_run_91 : decode cX1_run 91 = .ok (.isub, 1) := dk_100 (dk_at dksX1_run_3 19 rfl rfl)
theorem dX1_run_92 : decode cX1_run 92 = .ok (.iconst 1, 1) := dk_4 (dk_at dksX1_run_3 20 rfl rfl)
theorem dX1_run_93 : decode cX1_run 93 = .ok (.iadd, 1) := dk_96 (dk_at dksX1_run_3 21 rfl rfl)
theorem dX1_run_94 : decode cX1_run 94 = .ok (.istore 6, 2) := dk_54 6 (dk_at dksX1_run_3 22 rfl rfl)
theorem dX1_run_96 : decode cX1_run 96 = .ok (.iinc 7 1, 3) := dk_132 7 1 (dk_at dksX1_run_4 0 rfl rfl)
theorem dX1_run_99 : decode cX1_run 99 = .ok (.goto (-64), 3) := dk_167 255 192 (dk_at dksX1_run_4 3 rfl rfl)
theorem dX1_run_102 : decode cX1_run 102 = .ok (.iload_n 3, 1) := dk_29 (dk_at dksX1_run_4 6 rfl rfl)
theorem dX1_run_103 : decode cX1_run 103 = .ok (.ifCond .ne 8, 3) := dk_154 0 8 (dk_at dksX1_run_4 7 rfl rfl)
theorem dX1_run_106 : decode cX1_run 106 = .ok (.iload 5, 2) := dk_21 5 (dk_at dksX1_run_4 10 rfl rfl)
theorem dX1_run_108 : decode cX1_run 108 = .ok (.goto 28, 3) := dk_167 0 28 (dk_at dksX1_run_4 12 rfl rfl)
theorem dX1_run_111 : decode cX1_run 111 = .ok (.iload_n 3, 1) := dk_29 (dk_at dksX1_run_4 15 rfl rfl)
theorem dX1_run_112 : decode cX1_run 112 = .ok (.iconst 1, 1) := dk_4 (dk_at dksX1_run_4 16 rfl rfl)
theorem dX1_run_113 : decode cX1_run 113 = .ok (.if_icmp .ne 13, 3) := dk_160 0 13 (dk_at dksX1_run_4 17 rfl rfl)
theorem dX1_run_116 : decode cX1_run 116 = .ok (.iload 5, 2) := dk_21 5 (dk_at dksX1_run_4 20 rfl rfl)
theorem dX1_run_118 : decode cX1_run 118 = .ok (.iload 6, 2) := dk_21 6 (dk_at dksX1_run_4 22 rfl rfl)
theorem dX1_run_120 : decode cX1_run 120 = .ok (.iadd, 1) := dk_96 (dk_at dksX1_run_5 0 rfl rfl)
theorem dX1_run_121 : decode cX1_run 121 = .ok (.iconst 1, 1) := dk_4 (dk_at dksX1_run_5 1 rfl rfl)
theorem dX1_run_122 : decode cX1_run 122 = .ok (.isub, 1) := dk_100 (dk_at dksX1_run_5 2 rfl rfl)
theorem dX1_run_123 : decode cX1_run 123 = .ok (.goto 13, 3) := dk_167 0 13 (dk_at dksX1_run_5 3 rfl rfl)
theorem dX1_run_126 : decode cX1_run 126 = .ok (.aload_n 0, 1) := dk_42 (dk_at dksX1_run_5 6 rfl rfl)
theorem dX1_run_127 : decode cX1_run 127 = .ok (.getfield 20, 3) := dk_180 0 20 (dk_at dksX1_run_5 7 rfl rfl)
theorem dX1_run_130 : decode cX1_run 130 = .ok (.getfield 148, 3) := dk_180 0 148 (dk_at dksX1_run_5 10 rfl rfl)
theorem dX1_run_133 : decode cX1_run 133 = .ok (.iload 5, 2) := dk_21 5 (dk_at dksX1_run_5 13 rfl rfl)
theorem dX1_run_135 : decode cX1_run 135 = .ok (.iaload, 1) := dk_46 (dk_at dksX1_run_5 15 rfl rfl)
theorem dX1_run_136 : decode cX1_run 136 = .ok (.ireturn, 1) := dk_172 (dk_at dksX1_run_5 16 rfl rfl)
abbrev cX1_common : ByteArray := prog_1_method_62_code
def yX1_common : MethodName := ⟨RX1, "common", "(III)I"⟩
def dkwX1_common_4 : List UInt8 := [184, 0, 190, 96, 54, 4, 132, 5, 1, 167, 255, 200, 21, 4, 172]
abbrev dktX1_common_4 : List UInt8 := dkwX1_common_4 ++ []
def dkwX1_common_3 : List UInt8 := [182, 0, 182, 42, 42, 180, 0, 67, 21, 5, 46, 182, 0, 165, 29, 29, 28, 96, 27, 100, 182, 0, 182]
abbrev dktX1_common_3 : List UInt8 := dkwX1_common_3 ++ dktX1_common_4
def dkwX1_common_2 : List UInt8 := [42, 180, 1, 6, 162, 0, 53, 21, 4, 42, 42, 180, 0, 67, 21, 5, 46, 182, 0, 165, 27, 28]
abbrev dktX1_common_2 : List UInt8 := dkwX1_common_2 ++ dktX1_common_3
def dkwX1_common_1 : List UInt8 := [100, 133, 184, 0, 89, 154, 0, 5, 2, 172, 42, 27, 28, 182, 1, 43, 3, 54, 4, 3, 54, 5, 21, 5]
abbrev dktX1_common_1 : List UInt8 := dkwX1_common_1 ++ dktX1_common_2
def dkwX1_common_0 : List UInt8 := [42, 27, 28, 182, 0, 236, 153, 0, 26, 29, 133, 9, 42, 180, 0, 20, 180, 0, 147, 4, 100, 28, 27, 100]
abbrev dktX1_common_0 : List UInt8 := dkwX1_common_0 ++ dktX1_common_1
theorem dksX1_common_0 : cX1_common.data.toList.drop 0 = dktX1_common_0 := by decide +kernel
theorem dksX1_common_1 : cX1_common.data.toList.drop 24 = dktX1_common_1 := dk_seg dksX1_common_0 24 rfl rfl
theorem dksX1_common_2 : cX1_common.data.toList.drop 48 = dktX1_common_2 := dk_seg dksX1_common_1 24 rfl rfl
theorem dksX1_common_3 : cX1_common.data.toList.drop 70 = dktX1_common_3 := dk_seg dksX1_common_2 22 rfl rfl
theorem dksX1_common_4 : cX1_common.data.toList.drop 93 = dktX1_common_4 := dk_seg dksX1_common_3 23 rfl rfl
theorem dX1_common_0 : decode cX1_common 0 = .ok (.aload_n 0, 1) := dk_42 (dk_at dksX1_common_0 0 rfl rfl)
theorem dX1_common_1 : decode cX1_common 1 = .ok (.iload_n 1, 1) := dk_27 (dk_at dksX1_common_0 1 rfl rfl)
theorem dX1_common_2 : decode cX1_common 2 = .ok (.iload_n 2, 1) := dk_28 (dk_at dksX1_common_0 2 rfl rfl)
theorem dX1_common_3 : decode cX1_common 3 = .ok (.invokevirtual 236, 3) := dk_182 0 236 (dk_at dksX1_common_0 3 rfl rfl)
theorem dX1_common_6 : decode cX1_common 6 = .ok (.ifCond .eq 26, 3) := dk_153 0 26 (dk_at dksX1_common_0 6 rfl rfl)
theorem dX1_common_9 : decode cX1_common 9 = .ok (.iload_n 3, 1) := dk_29 (dk_at dksX1_common_0 9 rfl rfl)
theorem dX1_common_10 : decode cX1_common 10 = .ok (.i2l, 1) := dk_133 (dk_at dksX1_common_0 10 rfl rfl)
theorem dX1_common_11 : decode cX1_common 11 = .ok (.lconst 0, 1) := dk_9 (dk_at dksX1_common_0 11 rfl rfl)
theorem dX1_common_12 : decode cX1_common 12 = .ok (.aload_n 0, 1) := dk_42 (dk_at dksX1_common_0 12 rfl rfl)
theorem dX1_common_13 : decode cX1_common 13 = .ok (.getfield 20, 3) := dk_180 0 20 (dk_at dksX1_common_0 13 rfl rfl)
theorem dX1_common_16 : decode cX1_common 16 = .ok (.getfield 147, 3) := dk_180 0 147 (dk_at dksX1_common_0 16 rfl rfl)
theorem dX1_common_19 : decode cX1_common 19 = .ok (.iconst 1, 1) := dk_4 (dk_at dksX1_common_0 19 rfl rfl)
theorem dX1_common_20 : decode cX1_common 20 = .ok (.isub, 1) := dk_100 (dk_at dksX1_common_0 20 rfl rfl)
theorem dX1_common_21 : decode cX1_common 21 = .ok (.iload_n 2, 1) := dk_28 (dk_at dksX1_common_0 21 rfl rfl)
theorem dX1_common_22 : decode cX1_common 22 = .ok (.iload_n 1, 1) := dk_27 (dk_at dksX1_common_0 22 rfl rfl)
theorem dX1_common_23 : decode cX1_common 23 = .ok (.isub, 1) := dk_100 (dk_at dksX1_common_0 23 rfl rfl)
theorem dX1_common_24 : decode cX1_common 24 = .ok (.isub, 1) := dk_100 (dk_at dksX1_common_1 0 rfl rfl)
theorem dX1_common_25 : decode cX1_common 25 = .ok (.i2l, 1) := dk_133 (dk_at dksX1_common_1 1 rfl rfl)
theorem dX1_common_26 : decode cX1_common 26 = .ok (.invokestatic 89, 3) := dk_184 0 89 (dk_at dksX1_common_1 2 rfl rfl)
theorem dX1_common_29 : decode cX1_common 29 = .ok (.ifCond .ne 5, 3) := dk_154 0 5 (dk_at dksX1_common_1 5 rfl rfl)
theorem dX1_common_32 : decode cX1_common 32 = .ok (.iconst (-1), 1) := dk_2 (dk_at dksX1_common_1 8 rfl rfl)
theorem dX1_common_33 : decode cX1_common 33 = .ok (.ireturn, 1) := dk_172 (dk_at dksX1_common_1 9 rfl rfl)
theorem dX1_common_34 : decode cX1_common 34 = .ok (.aload_n 0, 1) := dk_42 (dk_at dksX1_common_1 10 rfl rfl)
theorem dX1_common_35 : decode cX1_common 35 = .ok (.iload_n 1, 1) := dk_27 (dk_at dksX1_common_1 11 rfl rfl)
theorem dX1_common_36 : decode cX1_common 36 = .ok (.iload_n 2, 1) := dk_28 (dk_at dksX1_common_1 12 rfl rfl)
theorem dX1_common_37 : decode cX1_common 37 = .ok (.invokevirtual 299, 3) := dk_182 1 43 (dk_at dksX1_common_1 13 rfl rfl)
theorem dX1_common_40 : decode cX1_common 40 = .ok (.iconst 0, 1) := dk_3 (dk_at dksX1_common_1 16 rfl rfl)
theorem dX1_common_41 : decode cX1_common 41 = .ok (.istore 4, 2) := dk_54 4 (dk_at dksX1_common_1 17 rfl rfl)
theorem dX1_common_43 : decode cX1_common 43 = .ok (.iconst 0, 1) := dk_3 (dk_at dksX1_common_1 19 rfl rfl)
theorem dX1_common_44 : decode cX1_common 44 = .ok (.istore 5, 2) := dk_54 5 (dk_at dksX1_common_1 20 rfl rfl)
theorem dX1_common_46 : decode cX1_common 46 = .ok (.iload 5, 2) := dk_21 5 (dk_at dksX1_common_1 22 rfl rfl)
theorem dX1_common_48 : decode cX1_common 48 = .ok (.aload_n 0, 1) := dk_42 (dk_at dksX1_common_2 0 rfl rfl)
theorem dX1_common_49 : decode cX1_common 49 = .ok (.getfield 262, 3) := dk_180 1 6 (dk_at dksX1_common_2 1 rfl rfl)
theorem dX1_common_52 : decode cX1_common 52 = .ok (.if_icmp .ge 53, 3) := dk_162 0 53 (dk_at dksX1_common_2 4 rfl rfl)
theorem dX1_common_55 : decode cX1_common 55 = .ok (.iload 4, 2) := dk_21 4 (dk_at dksX1_common_2 7 rfl rfl)
theorem dX1_common_57 : decode cX1_common 57 = .ok (.aload_n 0, 1) := dk_42 (dk_at dksX1_common_2 9 rfl rfl)
theorem dX1_common_58 : decode cX1_common 58 = .ok (.aload_n 0, 1) := dk_42 (dk_at dksX1_common_2 10 rfl rfl)
theorem dX1_common_59 : decode cX1_common 59 = .ok (.getfield 67, 3) := dk_180 0 67 (dk_at dksX1_common_2 11 rfl rfl)
theorem dX1_common_62 : decode cX1_common 62 = .ok (.iload 5, 2) := dk_21 5 (dk_at dksX1_common_2 14 rfl rfl)
theorem dX1_common_64 : decode cX1_common 64 = .ok (.iaload, 1) := dk_46 (dk_at dksX1_common_2 16 rfl rfl)
theorem dX1_common_65 : decode cX1_common 65 = .ok (.invokevirtual 165, 3) := dk_182 0 165 (dk_at dksX1_common_2 17 rfl rfl)
theorem dX1_common_68 : decode cX1_common 68 = .ok (.iload_n 1, 1) := dk_27 (dk_at dksX1_common_2 20 rfl rfl)
theorem dX1_common_69 : decode cX1_common 69 = .ok (.iload_n 2, 1) := dk_28 (dk_at dksX1_common_2 21 rfl rfl)
theorem dX1_common_70 : decode cX1_common 70 = .ok (.invokevirtual 182, 3) := dk_182 0 182 (dk_at dksX1_common_3 0 rfl rfl)
theorem dX1_common_73 : decode cX1_common 73 = .ok (.aload_n 0, 1) := dk_42 (dk_at dksX1_common_3 3 rfl rfl)
theorem dX1_common_74 : decode cX1_common 74 = .ok (.aload_n 0, 1) := dk_42 (dk_at dksX1_common_3 4 rfl rfl)
theorem dX1_common_75 : decode cX1_common 75 = .ok (.getfield 67, 3) := dk_180 0 67 (dk_at dksX1_common_3 5 rfl rfl)
theorem dX1_common_78 : decode cX1_common 78 = .ok (.iload 5, 2) := dk_21 5 (dk_at dksX1_common_3 8 rfl rfl)
theorem dX1_common_80 : decode cX1_common 80 = .ok (.iaload, 1) := dk_46 (dk_at dksX1_common_3 10 rfl rfl)
theorem dX1_common_81 : decode cX1_common 81 = .ok (.invokevirtual 165, 3) := dk_182 0 165 (dk_at dksX1_common_3 11 rfl rfl)
theorem dX1_common_84 : decode cX1_common 84 = .ok (.iload_n 3, 1) := dk_29 (dk_at dksX1_common_3 14 rfl rfl)
theorem dX1_common_85 : decode cX1_common 85 = .ok (.iload_n 3, 1) := dk_29 (dk_at dksX1_common_3 15 rfl rfl)
theorem dX1_common_86 : decode cX1_common 86 = .ok (.iload_n 2, 1) := dk_28 (dk_at dksX1_common_3 16 rfl rfl)
theorem dX1_common_87 : decode cX1_common 87 = .ok (.iadd, 1) := dk_96 (dk_at dksX1_common_3 17 rfl rfl)
theorem dX1_common_88 : decode cX1_common 88 = .ok (.iload_n 1, 1) := dk_27 (dk_at dksX1_common_3 18 rfl rfl)
theorem dX1_common_89 : decode cX1_common 89 = .ok (.isub, 1) := dk_100 (dk_at dksX1_common_3 19 rfl rfl)
theorem dX1_common_90 : decode cX1_common 90 = .ok (.invokevirtual 182, 3) := dk_182 0 182 (dk_at dksX1_common_3 20 rfl rfl)
theorem dX1_common_93 : decode cX1_common 93 = .ok (.invokestatic 190, 3) := dk_184 0 190 (dk_at dksX1_common_4 0 rfl rfl)
theorem dX1_common_96 : decode cX1_common 96 = .ok (.iadd, 1) := dk_96 (dk_at dksX1_common_4 3 rfl rfl)
theorem dX1_common_97 : decode cX1_common 97 = .ok (.istore 4, 2) := dk_54 4 (dk_at dksX1_common_4 4 rfl rfl)
theorem dX1_common_99 : decode cX1_common 99 = .ok (.iinc 5 1, 3) := dk_132 5 1 (dk_at dksX1_common_4 6 rfl rfl)
theorem dX1_common_102 : decode cX1_common 102 = .ok (.goto (-56), 3) := dk_167 255 200 (dk_at dksX1_common_4 9 rfl rfl)
theorem dX1_common_105 : decode cX1_common 105 = .ok (.iload 4, 2) := dk_21 4 (dk_at dksX1_common_4 12 rfl rfl)
theorem dX1_common_107 : decode cX1_common 107 = .ok (.ireturn, 1) := dk_172 (dk_at dksX1_common_4 14 rfl rfl)
abbrev cX1_window : ByteArray := prog_1_method_63_code
def yX1_window : MethodName := ⟨RX1, "window", "(II)I"⟩
def dkwX1_window_2 : List UInt8 := [182, 1, 36, 172]
abbrev dktX1_window_2 : List UInt8 := dkwX1_window_2 ++ []
def dkwX1_window_1 : List UInt8 := [42, 180, 0, 20, 180, 0, 147, 27, 100, 164, 0, 8, 16, 254, 167, 0, 13, 42, 28, 28, 27, 96, 4, 100]
abbrev dktX1_window_1 : List UInt8 := dkwX1_window_1 ++ dktX1_window_2
def dkwX1_window_0 : List UInt8 := [27, 133, 10, 42, 180, 0, 20, 180, 0, 147, 133, 184, 0, 89, 153, 0, 7, 28, 156, 0, 5, 2, 172, 28]
abbrev dktX1_window_0 : List UInt8 := dkwX1_window_0 ++ dktX1_window_1
theorem dksX1_window_0 : cX1_window.data.toList.drop 0 = dktX1_window_0 := by decide +kernel
theorem dksX1_window_1 : cX1_window.data.toList.drop 24 = dktX1_window_1 := dk_seg dksX1_window_0 24 rfl rfl
theorem dksX1_window_2 : cX1_window.data.toList.drop 48 = dktX1_window_2 := dk_seg dksX1_window_1 24 rfl rfl
theorem dX1_window_0 : decode cX1_window 0 = .ok (.iload_n 1, 1) := dk_27 (dk_at dksX1_window_0 0 rfl rfl)
theorem dX1_window_1 : decode cX1_window 1 = .ok (.i2l, 1) := dk_133 (dk_at dksX1_window_0 1 rfl rfl)
theorem dX1_window_2 : decode cX1_window 2 = .ok (.lconst 1, 1) := dk_10 (dk_at dksX1_window_0 2 rfl rfl)
theorem dX1_window_3 : decode cX1_window 3 = .ok (.aload_n 0, 1) := dk_42 (dk_at dksX1_window_0 3 rfl rfl)
theorem dX1_window_4 : decode cX1_window 4 = .ok (.getfield 20, 3) := dk_180 0 20 (dk_at dksX1_window_0 4 rfl rfl)
theorem dX1_window_7 : decode cX1_window 7 = .ok (.getfield 147, 3) := dk_180 0 147 (dk_at dksX1_window_0 7 rfl rfl)
theorem dX1_window_10 : decode cX1_window 10 = .ok (.i2l, 1) := dk_133 (dk_at dksX1_window_0 10 rfl rfl)
theorem dX1_window_11 : decode cX1_window 11 = .ok (.invokestatic 89, 3) := dk_184 0 89 (dk_at dksX1_window_0 11 rfl rfl)
theorem dX1_window_14 : decode cX1_window 14 = .ok (.ifCond .eq 7, 3) := dk_153 0 7 (dk_at dksX1_window_0 14 rfl rfl)
theorem dX1_window_17 : decode cX1_window 17 = .ok (.iload_n 2, 1) := dk_28 (dk_at dksX1_window_0 17 rfl rfl)
theorem dX1_window_18 : decode cX1_window 18 = .ok (.ifCond .ge 5, 3) := dk_156 0 5 (dk_at dksX1_window_0 18 rfl rfl)
theorem dX1_window_21 : decode cX1_window 21 = .ok (.iconst (-1), 1) := dk_2 (dk_at dksX1_window_0 21 rfl rfl)
theorem dX1_window_22 : decode cX1_window 22 = .ok (.ireturn, 1) := dk_172 (dk_at dksX1_window_0 22 rfl rfl)
theorem dX1_window_23 : decode cX1_window 23 = .ok (.iload_n 2, 1) := dk_28 (dk_at dksX1_window_0 23 rfl rfl)
theorem dX1_window_24 : decode cX1_window 24 = .ok (.aload_n 0, 1) := dk_42 (dk_at dksX1_window_1 0 rfl rfl)
theorem dX1_window_25 : decode cX1_window 25 = .ok (.getfield 20, 3) := dk_180 0 20 (dk_at dksX1_window_1 1 rfl rfl)
theorem dX1_window_28 : decode cX1_window 28 = .ok (.getfield 147, 3) := dk_180 0 147 (dk_at dksX1_window_1 4 rfl rfl)
theorem dX1_window_31 : decode cX1_window 31 = .ok (.iload_n 1, 1) := dk_27 (dk_at dksX1_window_1 7 rfl rfl)
theorem dX1_window_32 : decode cX1_window 32 = .ok (.isub, 1) := dk_100 (dk_at dksX1_window_1 8 rfl rfl)
theorem dX1_window_33 : decode cX1_window 33 = .ok (.if_icmp .le 8, 3) := dk_164 0 8 (dk_at dksX1_window_1 9 rfl rfl)
theorem dX1_window_36 : decode cX1_window 36 = .ok (.bipush (-2), 2) := dk_16 254 (dk_at dksX1_window_1 12 rfl rfl)
theorem dX1_window_38 : decode cX1_window 38 = .ok (.goto 13, 3) := dk_167 0 13 (dk_at dksX1_window_1 14 rfl rfl)
theorem dX1_window_41 : decode cX1_window 41 = .ok (.aload_n 0, 1) := dk_42 (dk_at dksX1_window_1 17 rfl rfl)
theorem dX1_window_42 : decode cX1_window 42 = .ok (.iload_n 2, 1) := dk_28 (dk_at dksX1_window_1 18 rfl rfl)
theorem dX1_window_43 : decode cX1_window 43 = .ok (.iload_n 2, 1) := dk_28 (dk_at dksX1_window_1 19 rfl rfl)
theorem dX1_window_44 : decode cX1_window 44 = .ok (.iload_n 1, 1) := dk_27 (dk_at dksX1_window_1 20 rfl rfl)
theorem dX1_window_45 : decode cX1_window 45 = .ok (.iadd, 1) := dk_96 (dk_at dksX1_window_1 21 rfl rfl)
theorem dX1_window_46 : decode cX1_window 46 = .ok (.iconst 1, 1) := dk_4 (dk_at dksX1_window_1 22 rfl rfl)
theorem dX1_window_47 : decode cX1_window 47 = .ok (.isub, 1) := dk_100 (dk_at dksX1_window_1 23 rfl rfl)
theorem dX1_window_48 : decode cX1_window 48 = .ok (.invokevirtual 292, 3) := dk_182 1 36 (dk_at dksX1_window_2 0 rfl rfl)
theorem dX1_window_51 : decode cX1_window 51 = .ok (.ireturn, 1) := dk_172 (dk_at dksX1_window_2 3 rfl rfl)
abbrev cX1_windows : ByteArray := prog_1_method_64_code
def yX1_windows : MethodName := ⟨RX1, "windows", "(II)I"⟩
def dkwX1_windows_9 : List UInt8 := [160, 0, 8, 21, 4, 167, 0, 5, 21, 6, 172]
abbrev dktX1_windows_9 : List UInt8 := dkwX1_windows_9 ++ []
def dkwX1_windows_8 : List UInt8 := [164, 0, 7, 21, 7, 54, 6, 132, 7, 1, 167, 255, 224, 28, 154, 0, 7, 29, 167, 0, 15, 28, 4]
abbrev dktX1_windows_8 : List UInt8 := dkwX1_windows_8 ++ dktX1_windows_9
def dkwX1_windows_7 : List UInt8 := [21, 7, 17, 3, 232, 162, 0, 30, 42, 180, 0, 77, 21, 7, 46, 42, 180, 0, 77, 21, 6, 46]
abbrev dktX1_windows_7 : List UInt8 := dkwX1_windows_7 ++ dktX1_windows_8
def dkwX1_windows_6 : List UInt8 := [180, 0, 77, 21, 7, 92, 46, 4, 96, 79, 21, 7, 54, 5, 167, 255, 175, 3, 54, 6, 4, 54, 7]
abbrev dktX1_windows_6 : List UInt8 := dkwX1_windows_6 ++ dktX1_windows_7
def dkwX1_windows_5 : List UInt8 := [96, 62, 21, 4, 42, 180, 0, 77, 21, 7, 46, 154, 0, 7, 4, 167, 0, 4, 3, 96, 54, 4, 42]
abbrev dktX1_windows_5 : List UInt8 := dkwX1_windows_5 ++ dktX1_windows_6
def dkwX1_windows_4 : List UInt8 := [182, 1, 3, 54, 7, 29, 21, 5, 2, 159, 0, 14, 21, 5, 21, 7, 159, 0, 7, 4, 167, 0, 4, 3]
abbrev dktX1_windows_4 : List UInt8 := dkwX1_windows_4 ++ dktX1_windows_5
def dkwX1_windows_3 : List UInt8 := [58, 6, 25, 6, 185, 0, 247, 1, 0, 153, 0, 77, 25, 6, 185, 0, 253, 1, 0, 192, 1, 1]
abbrev dktX1_windows_3 : List UInt8 := dkwX1_windows_3 ++ dktX1_windows_4
def dkwX1_windows_2 : List UInt8 := [132, 3, 1, 167, 255, 239, 3, 62, 3, 54, 4, 2, 54, 5, 187, 1, 64, 89, 42, 27, 183, 1, 66]
abbrev dktX1_windows_2 : List UInt8 := dkwX1_windows_2 ++ dktX1_windows_3
def dkwX1_windows_1 : List UInt8 := [184, 0, 89, 154, 0, 5, 2, 172, 3, 62, 29, 17, 3, 232, 162, 0, 16, 42, 180, 0, 77, 29, 3, 79]
abbrev dktX1_windows_1 : List UInt8 := dkwX1_windows_1 ++ dktX1_windows_2
def dkwX1_windows_0 : List UInt8 := [27, 133, 10, 42, 180, 0, 20, 180, 0, 147, 133, 184, 0, 89, 153, 0, 15, 28, 133, 9, 20, 1, 62]
abbrev dktX1_windows_0 : List UInt8 := dkwX1_windows_0 ++ dktX1_windows_1
theorem dksX1_windows_0 : cX1_windows.data.toList.drop 0 = dktX1_windows_0 := by decide +kernel
theorem dksX1_windows_1 : cX1_windows.data.toList.drop 23 = dktX1_windows_1 := dk_seg dksX1_windows_0 23 rfl rfl
theorem dksX1_windows_2 : cX1_windows.data.toList.drop 47 = dktX1_windows_2 := dk_seg dksX1_windows_1 24 rfl rfl
theorem dksX1_windows_3 : cX1_windows.data.toList.drop 70 = dktX1_windows_3 := dk_seg dksX1_windows_2 23 rfl rfl
theorem dksX1_windows_4 : cX1_windows.data.toList.drop 92 = dktX1_windows_4 := dk_seg dksX1_windows_3 22 rfl rfl
theorem dksX1_windows_5 : cX1_windows.data.toList.drop 116 = dktX1_windows_5 := dk_seg dksX1_windows_4 24 rfl rfl
theorem dksX1_windows_6 : cX1_windows.data.toList.drop 139 = dktX1_windows_6 := dk_seg dksX1_windows_5 23 rfl rfl
theorem dksX1_windows_7 : cX1_windows.data.toList.drop 162 = dktX1_windows_7 := dk_seg dksX1_windows_6 23 rfl rfl
theorem dksX1_windows_8 : cX1_windows.data.toList.drop 184 = dktX1_windows_8 := dk_seg dksX1_windows_7 22 rfl rfl
theorem dksX1_windows_9 : cX1_windows.data.toList.drop 207 = dktX1_windows_9 := dk_seg dksX1_windows_8 23 rfl rfl
theorem dX1_windows_0 : decode cX1_windows 0 = .ok (.iload_n 1, 1) := dk_27 (dk_at dksX1_windows_0 0 rfl rfl)
theorem dX1_windows_1 : decode cX1_windows 1 = .ok (.i2l, 1) := dk_133 (dk_at dksX1_windows_0 1 rfl rfl)
theorem dX1_windows_2 : decode cX1_windows 2 = .ok (.lconst 1, 1) := dk_10 (dk_at dksX1_windows_0 2 rfl rfl)
theorem dX1_windows_3 : decode cX1_windows 3 = .ok (.aload_n 0, 1) := dk_42 (dk_at dksX1_windows_0 3 rfl rfl)
theorem dX1_windows_4 : decode cX1_windows 4 = .ok (.getfield 20, 3) := dk_180 0 20 (dk_at dksX1_windows_0 4 rfl rfl)
theorem dX1_windows_7 : decode cX1_windows 7 = .ok (.getfield 147, 3) := dk_180 0 147 (dk_at dksX1_windows_0 7 rfl rfl)
theorem dX1_windows_10 : decode cX1_windows 10 = .ok (.i2l, 1) := dk_133 (dk_at dksX1_windows_0 10 rfl rfl)
theorem dX1_windows_11 : decode cX1_windows 11 = .ok (.invokestatic 89, 3) := dk_184 0 89 (dk_at dksX1_windows_0 11 rfl rfl)
theorem dX1_windows_14 : decode cX1_windows 14 = .ok (.ifCond .eq 15, 3) := dk_153 0 15 (dk_at dksX1_windows_0 14 rfl rfl)
theorem dX1_windows_17 : decode cX1_windows 17 = .ok (.iload_n 2, 1) := dk_28 (dk_at dksX1_windows_0 17 rfl rfl)
theorem dX1_windows_18 : decode cX1_windows 18 = .ok (.i2l, 1) := dk_133 (dk_at dksX1_windows_0 18 rfl rfl)
theorem dX1_windows_19 : decode cX1_windows 19 = .ok (.lconst 0, 1) := dk_9 (dk_at dksX1_windows_0 19 rfl rfl)
theorem dX1_windows_20 : decode cX1_windows 20 = .ok (.ldc2_w 318, 3) := dk_20 1 62 (dk_at dksX1_windows_0 20 rfl rfl)
theorem dX1_windows_23 : decode cX1_windows 23 = .ok (.invokestatic 89, 3) := dk_184 0 89 (dk_at dksX1_windows_1 0 rfl rfl)
theorem dX1_windows_26 : decode cX1_windows 26 = .ok (.ifCond .ne 5, 3) := dk_154 0 5 (dk_at dksX1_windows_1 3 rfl rfl)
theorem dX1_windows_29 : decode cX1_windows 29 = .ok (.iconst (-1), 1) := dk_2 (dk_at dksX1_windows_1 6 rfl rfl)
theorem dX1_windows_30 : decode cX1_windows 30 = .ok (.ireturn, 1) := dk_172 (dk_at dksX1_windows_1 7 rfl rfl)
theorem dX1_windows_31 : decode cX1_windows 31 = .ok (.iconst 0, 1) := dk_3 (dk_at dksX1_windows_1 8 rfl rfl)
theorem dX1_windows_32 : decode cX1_windows 32 = .ok (.istore_n 3, 1) := dk_62 (dk_at dksX1_windows_1 9 rfl rfl)
theorem dX1_windows_33 : decode cX1_windows 33 = .ok (.iload_n 3, 1) := dk_29 (dk_at dksX1_windows_1 10 rfl rfl)
theorem dX1_windows_34 : decode cX1_windows 34 = .ok (.sipush 1000, 3) := dk_17 3 232 (dk_at dksX1_windows_1 11 rfl rfl)
theorem dX1_windows_37 : decode cX1_windows 37 = .ok (.if_icmp .ge 16, 3) := dk_162 0 16 (dk_at dksX1_windows_1 14 rfl rfl)
theorem dX1_windows_40 : decode cX1_windows 40 = .ok (.aload_n 0, 1) := dk_42 (dk_at dksX1_windows_1 17 rfl rfl)
theorem dX1_windows_41 : decode cX1_windows 41 = .ok (.getfield 77, 3) := dk_180 0 77 (dk_at dksX1_windows_1 18 rfl rfl)
theorem dX1_windows_44 : decode cX1_windows 44 = .ok (.iload_n 3, 1) := dk_29 (dk_at dksX1_windows_1 21 rfl rfl)
theorem dX1_windows_45 : decode cX1_windows 45 = .ok (.iconst 0, 1) := dk_3 (dk_at dksX1_windows_1 22 rfl rfl)
theorem dX1_windows_46 : decode cX1_windows 46 = .ok (.iastore, 1) := dk_79 (dk_at dksX1_windows_1 23 rfl rfl)
theorem dX1_windows_47 : decode cX1_windows 47 = .ok (.iinc 3 1, 3) := dk_132 3 1 (dk_at dksX1_windows_2 0 rfl rfl)
theorem dX1_windows_50 : decode cX1_windows 50 = .ok (.goto (-17), 3) := dk_167 255 239 (dk_at dksX1_windows_2 3 rfl rfl)
theorem dX1_windows_53 : decode cX1_windows 53 = .ok (.iconst 0, 1) := dk_3 (dk_at dksX1_windows_2 6 rfl rfl)
theorem dX1_windows_54 : decode cX1_windows 54 = .ok (.istore_n 3, 1) := dk_62 (dk_at dksX1_windows_2 7 rfl rfl)
theorem dX1_windows_55 : decode cX1_windows 55 = .ok (.iconst 0, 1) := dk_3 (dk_at dksX1_windows_2 8 rfl rfl)
theorem dX1_windows_56 : decode cX1_windows 56 = .ok (.istore 4, 2) := dk_54 4 (dk_at dksX1_windows_2 9 rfl rfl)
theorem dX1_windows_58 : decode cX1_windows 58 = .ok (.iconst (-1), 1) := dk_2 (dk_at dksX1_windows_2 11 rfl rfl)
theorem dX1_windows_59 : decode cX1_windows 59 = .ok (.istore 5, 2) := dk_54 5 (dk_at dksX1_windows_2 12 rfl rfl)
theorem dX1_windows_61 : decode cX1_windows 61 = .ok (.new 320, 3) := dk_187 1 64 (dk_at dksX1_windows_2 14 rfl rfl)
theorem dX1_windows_64 : decode cX1_windows 64 = .ok (.dup, 1) := dk_89 (dk_at dksX1_windows_2 17 rfl rfl)
theorem dX1_windows_65 : decode cX1_windows 65 = .ok (.aload_n 0, 1) := dk_42 (dk_at dksX1_windows_2 18 rfl rfl)
theorem dX1_windows_66 : decode cX1_windows 66 = .ok (.iload_n 1, 1) := dk_27 (dk_at dksX1_windows_2 19 rfl rfl)
theorem dX1_windows_67 : decode cX1_windows 67 = .ok (.invokespecial 322, 3) := dk_183 1 66 (dk_at dksX1_windows_2 20 rfl rfl)
theorem dX1_windows_70 : decode cX1_windows 70 = .ok (.astore 6, 2) := dk_58 6 (dk_at dksX1_windows_3 0 rfl rfl)
theorem dX1_windows_72 : decode cX1_windows 72 = .ok (.aload 6, 2) := dk_25 6 (dk_at dksX1_windows_3 2 rfl rfl)
theorem dX1_windows_74 : decode cX1_windows 74 = .ok (.invokeinterface 247 1, 5) := by decide +kernel
theorem dX1_windows_79 : decode cX1_windows 79 = .ok (.ifCond .eq 77, 3) := dk_153 0 77 (dk_at dksX1_windows_3 9 rfl rfl)
theorem dX1_windows_82 : decode cX1_windows 82 = .ok (.aload 6, 2) := dk_25 6 (dk_at dksX1_windows_3 12 rfl rfl)
theorem dX1_windows_84 : decode cX1_windows 84 = .ok (.invokeinterface 253 1, 5) := by decide +kernel
theorem dX1_windows_89 : decode cX1_windows 89 = .ok (.checkcast 257, 3) := dk_192 1 1 (dk_at dksX1_windows_3 19 rfl rfl)
theorem dX1_windows_92 : decode cX1_windows 92 = .ok (.invokevirtual 259, 3) := dk_182 1 3 (dk_at dksX1_windows_4 0 rfl rfl)
theorem dX1_windows_95 : decode cX1_windows 95 = .ok (.istore 7, 2) := dk_54 7 (dk_at dksX1_windows_4 3 rfl rfl)
theorem dX1_windows_97 : decode cX1_windows 97 = .ok (.iload_n 3, 1) := dk_29 (dk_at dksX1_windows_4 5 rfl rfl)
theorem dX1_windows_98 : decode cX1_windows 98 = .ok (.iload 5, 2) := dk_21 5 (dk_at dksX1_windows_4 6 rfl rfl)
theorem dX1_windows_100 : decode cX1_windows 100 = .ok (.iconst (-1), 1) := dk_2 (dk_at dksX1_windows_4 8 rfl rfl)
theorem dX1_windows_101 : decode cX1_windows 101 = .ok (.if_icmp .eq 14, 3) := dk_159 0 14 (dk_at dksX1_windows_4 9 rfl rfl)
theorem dX1_windows_104 : decode cX1_windows 104 = .ok (.iload 5, 2) := dk_21 5 (dk_at dksX1_windows_4 12 rfl rfl)
theorem dX1_windows_106 : decode cX1_windows 106 = .ok (.iload 7, 2) := dk_21 7 (dk_at dksX1_windows_4 14 rfl rfl)
theorem dX1_windows_108 : decode cX1_windows 108 = .ok (.if_icmp .eq 7, 3) := dk_159 0 7 (dk_at dksX1_windows_4 16 rfl rfl)
theorem dX1_windows_111 : decode cX1_windows 111 = .ok (.iconst 1, 1) := dk_4 (dk_at dksX1_windows_4 19 rfl rfl)
theorem dX1_windows_112 : decode cX1_windows 112 = .ok (.goto 4, 3) := dk_167 0 4 (dk_at dksX1_windows_4 20 rfl rfl)
theorem dX1_windows_115 : decode cX1_windows 115 = .ok (.iconst 0, 1) := dk_3 (dk_at dksX1_windows_4 23 rfl rfl)
theorem dX1_windows_116 : decode cX1_windows 116 = .ok (.iadd, 1) := dk_96 (dk_at dksX1_windows_5 0 rfl rfl)
theorem dX1_windows_117 : decode cX1_windows 117 = .ok (.istore_n 3, 1) := dk_62 (dk_at dksX1_windows_5 1 rfl rfl)
theorem dX1_windows_118 : decode cX1_windows 118 = .ok (.iload 4, 2) := dk_21 4 (dk_at dksX1_windows_5 2 rfl rfl)
theorem dX1_windows_120 : decode cX1_windows 120 = .ok (.aload_n 0, 1) := dk_42 (dk_at dksX1_windows_5 4 rfl rfl)
theorem dX1_windows_121 : decode cX1_windows 121 = .ok (.getfield 77, 3) := dk_180 0 77 (dk_at dksX1_windows_5 5 rfl rfl)
theorem dX1_windows_124 : decode cX1_windows 124 = .ok (.iload 7, 2) := dk_21 7 (dk_at dksX1_windows_5 8 rfl rfl)
theorem dX1_windows_126 : decode cX1_windows 126 = .ok (.iaload, 1) := dk_46 (dk_at dksX1_windows_5 10 rfl rfl)
theorem dX1_windows_127 : decode cX1_windows 127 = .ok (.ifCond .ne 7, 3) := dk_154 0 7 (dk_at dksX1_windows_5 11 rfl rfl)
theorem dX1_windows_130 : decode cX1_windows 130 = .ok (.iconst 1, 1) := dk_4 (dk_at dksX1_windows_5 14 rfl rfl)
theorem dX1_windows_131 : decode cX1_windows 131 = .ok (.goto 4, 3) := dk_167 0 4 (dk_at dksX1_windows_5 15 rfl rfl)
theorem dX1_windows_134 : decode cX1_windows 134 = .ok (.iconst 0, 1) := dk_3 (dk_at dksX1_windows_5 18 rfl rfl)
theorem dX1_windows_135 : decode cX1_windows 135 = .ok (.iadd, 1) := dk_96 (dk_at dksX1_windows_5 19 rfl rfl)
theorem dX1_windows_136 : decode cX1_windows 136 = .ok (.istore 4, 2) := dk_54 4 (dk_at dksX1_windows_5 20 rfl rfl)
theorem dX1_windows_138 : decode cX1_windows 138 = .ok (.aload_n 0, 1) := dk_42 (dk_at dksX1_windows_5 22 rfl rfl)
theorem dX1_windows_139 : decode cX1_windows 139 = .ok (.getfield 77, 3) := dk_180 0 77 (dk_at dksX1_windows_6 0 rfl rfl)
theorem dX1_windows_142 : decode cX1_windows 142 = .ok (.iload 7, 2) := dk_21 7 (dk_at dksX1_windows_6 3 rfl rfl)
theorem dX1_windows_144 : decode cX1_windows 144 = .ok (.dup2, 1) := dk_92 (dk_at dksX1_windows_6 5 rfl rfl)
theorem dX1_windows_145 : decode cX1_windows 145 = .ok (.iaload, 1) := dk_46 (dk_at dksX1_windows_6 6 rfl rfl)
theorem dX1_windows_146 : decode cX1_windows 146 = .ok (.iconst 1, 1) := dk_4 (dk_at dksX1_windows_6 7 rfl rfl)
theorem dX1_windows_147 : decode cX1_windows 147 = .ok (.iadd, 1) := dk_96 (dk_at dksX1_windows_6 8 rfl rfl)
theorem dX1_windows_148 : decode cX1_windows 148 = .ok (.iastore, 1) := dk_79 (dk_at dksX1_windows_6 9 rfl rfl)
theorem dX1_windows_149 : decode cX1_windows 149 = .ok (.iload 7, 2) := dk_21 7 (dk_at dksX1_windows_6 10 rfl rfl)
theorem dX1_windows_151 : decode cX1_windows 151 = .ok (.istore 5, 2) := dk_54 5 (dk_at dksX1_windows_6 12 rfl rfl)
theorem dX1_windows_153 : decode cX1_windows 153 = .ok (.goto (-81), 3) := dk_167 255 175 (dk_at dksX1_windows_6 14 rfl rfl)
theorem dX1_windows_156 : decode cX1_windows 156 = .ok (.iconst 0, 1) := dk_3 (dk_at dksX1_windows_6 17 rfl rfl)
theorem dX1_windows_157 : decode cX1_windows 157 = .ok (.istore 6, 2) := dk_54 6 (dk_at dksX1_windows_6 18 rfl rfl)
theorem dX1_windows_159 : decode cX1_windows 159 = .ok (.iconst 1, 1) := dk_4 (dk_at dksX1_windows_6 20 rfl rfl)
theorem dX1_windows_160 : decode cX1_windows 160 = .ok (.istore 7, 2) := dk_54 7 (dk_at dksX1_windows_6 21 rfl rfl)
theorem dX1_windows_162 : decode cX1_windows 162 = .ok (.iload 7, 2) := dk_21 7 (dk_at dksX1_windows_7 0 rfl rfl)
theorem dX1_windows_164 : decode cX1_windows 164 = .ok (.sipush 1000, 3) := dk_17 3 232 (dk_at dksX1_windows_7 2 rfl rfl)
theorem dX1_windows_167 : decode cX1_windows 167 = .ok (.if_icmp .ge 30, 3) := dk_162 0 30 (dk_at dksX1_windows_7 5 rfl rfl)
theorem dX1_windows_170 : decode cX1_windows 170 = .ok (.aload_n 0, 1) := dk_42 (dk_at dksX1_windows_7 8 rfl rfl)
theorem dX1_windows_171 : decode cX1_windows 171 = .ok (.getfield 77, 3) := dk_180 0 77 (dk_at dksX1_windows_7 9 rfl rfl)
theorem dX1_windows_174 : decode cX1_windows 174 = .ok (.iload 7, 2) := dk_21 7 (dk_at dksX1_windows_7 12 rfl rfl)
theorem dX1_windows_176 : decode cX1_windows 176 = .ok (.iaload, 1) := dk_46 (dk_at dksX1_windows_7 14 rfl rfl)
theorem dX1_windows_177 : decode cX1_windows 177 = .ok (.aload_n 0, 1) := dk_42 (dk_at dksX1_windows_7 15 rfl rfl)
theorem dX1_windows_178 : decode cX1_windows 178 = .ok (.getfield 77, 3) := dk_180 0 77 (dk_at dksX1_windows_7 16 rfl rfl)
theorem dX1_windows_181 : decode cX1_windows 181 = .ok (.iload 6, 2) := dk_21 6 (dk_at dksX1_windows_7 19 rfl rfl)
theorem dX1_windows_183 : decode cX1_windows 183 = .ok (.iaload, 1) := dk_46 (dk_at dksX1_windows_7 21 rfl rfl)
theorem dX1_windows_184 : decode cX1_windows 184 = .ok (.if_icmp .le 7, 3) := dk_164 0 7 (dk_at dksX1_windows_8 0 rfl rfl)
theorem dX1_windows_187 : decode cX1_windows 187 = .ok (.iload 7, 2) := dk_21 7 (dk_at dksX1_windows_8 3 rfl rfl)
theorem dX1_windows_189 : decode cX1_windows 189 = .ok (.istore 6, 2) := dk_54 6 (dk_at dksX1_windows_8 5 rfl rfl)
theorem dX1_windows_191 : decode cX1_windows 191 = .ok (.iinc 7 1, 3) := dk_132 7 1 (dk_at dksX1_windows_8 7 rfl rfl)
theorem dX1_windows_194 : decode cX1_windows 194 = .ok (.goto (-32), 3) := dk_167 255 224 (dk_at dksX1_windows_8 10 rfl rfl)
theorem dX1_windows_197 : decode cX1_windows 197 = .ok (.iload_n 2, 1) := dk_28 (dk_at dksX1_windows_8 13 rfl rfl)
theorem dX1_windows_198 : decode cX1_windows 198 = .ok (.ifCond .ne 7, 3) := dk_154 0 7 (dk_at dksX1_windows_8 14 rfl rfl)
theorem dX1_windows_201 : decode cX1_windows 201 = .ok (.iload_n 3, 1) := dk_29 (dk_at dksX1_windows_8 17 rfl rfl)
theorem dX1_windows_202 : decode cX1_windows 202 = .ok (.goto 15, 3) := dk_167 0 15 (dk_at dksX1_windows_8 18 rfl rfl)
theorem dX1_windows_205 : decode cX1_windows 205 = .ok (.iload_n 2, 1) := dk_28 (dk_at dksX1_windows_8 21 rfl rfl)
theorem dX1_windows_206 : decode cX1_windows 206 = .ok (.iconst 1, 1) := dk_4 (dk_at dksX1_windows_8 22 rfl rfl)
theorem dX1_windows_207 : decode cX1_windows 207 = .ok (.if_icmp .ne 8, 3) := dk_160 0 8 (dk_at dksX1_windows_9 0 rfl rfl)
theorem dX1_windows_210 : decode cX1_windows 210 = .ok (.iload 4, 2) := dk_21 4 (dk_at dksX1_windows_9 3 rfl rfl)
theorem dX1_windows_212 : decode cX1_windows 212 = .ok (.goto 5, 3) := dk_167 0 5 (dk_at dksX1_windows_9 5 rfl rfl)
theorem dX1_windows_215 : decode cX1_windows 215 = .ok (.iload 6, 2) := dk_21 6 (dk_at dksX1_windows_9 8 rfl rfl)
theorem dX1_windows_217 : decode cX1_windows 217 = .ok (.ireturn, 1) := dk_172 (dk_at dksX1_windows_9 10 rfl rfl)
abbrev cX1_spans : ByteArray := prog_1_method_65_code
def yX1_spans : MethodName := ⟨RX1, "spans", "(I)I"⟩
def dkwX1_spans_1 : List UInt8 := [182, 1, 73, 77, 42, 180, 1, 67, 172]
abbrev dktX1_spans_1 : List UInt8 := dkwX1_spans_1 ++ []
def dkwX1_spans_0 : List UInt8 := [27, 184, 0, 219, 154, 0, 5, 2, 172, 42, 3, 181, 1, 67, 187, 1, 70, 89, 42, 27, 183, 1, 72]
abbrev dktX1_spans_0 : List UInt8 := dkwX1_spans_0 ++ dktX1_spans_1
theorem dksX1_spans_0 : cX1_spans.data.toList.drop 0 = dktX1_spans_0 := by decide +kernel
theorem dksX1_spans_1 : cX1_spans.data.toList.drop 23 = dktX1_spans_1 := dk_seg dksX1_spans_0 23 rfl rfl
theorem dX1_spans_0 : decode cX1_spans 0 = .ok (.iload_n 1, 1) := dk_27 (dk_at dksX1_spans_0 0 rfl rfl)
theorem dX1_spans_1 : decode cX1_spans 1 = .ok (.invokestatic 219, 3) := dk_184 0 219 (dk_at dksX1_spans_0 1 rfl rfl)
theorem dX1_spans_4 : decode cX1_spans 4 = .ok (.ifCond .ne 5, 3) := dk_154 0 5 (dk_at dksX1_spans_0 4 rfl rfl)
theorem dX1_spans_7 : decode cX1_spans 7 = .ok (.iconst (-1), 1) := dk_2 (dk_at dksX1_spans_0 7 rfl rfl)
theorem dX1_spans_8 : decode cX1_spans 8 = .ok (.ireturn, 1) := dk_172 (dk_at dksX1_spans_0 8 rfl rfl)
theorem dX1_spans_9 : decode cX1_spans 9 = .ok (.aload_n 0, 1) := dk_42 (dk_at dksX1_spans_0 9 rfl rfl)
theorem dX1_spans_10 : decode cX1_spans 10 = .ok (.iconst 0, 1) := dk_3 (dk_at dksX1_spans_0 10 rfl rfl)
theorem dX1_spans_11 : decode cX1_spans 11 = .ok (.putfield 323, 3) := dk_181 1 67 (dk_at dksX1_spans_0 11 rfl rfl)
theorem dX1_spans_14 : decode cX1_spans 14 = .ok (.new 326, 3) := dk_187 1 70 (dk_at dksX1_spans_0 14 rfl rfl)
theorem dX1_spans_17 : decode cX1_spans 17 = .ok (.dup, 1) := dk_89 (dk_at dksX1_spans_0 17 rfl rfl)
theorem dX1_spans_18 : decode cX1_spans 18 = .ok (.aload_n 0, 1) := dk_42 (dk_at dksX1_spans_0 18 rfl rfl)
theorem dX1_spans_19 : decode cX1_spans 19 = .ok (.iload_n 1, 1) := dk_27 (dk_at dksX1_spans_0 19 rfl rfl)
theorem dX1_spans_20 : decode cX1_spans 20 = .ok (.invokespecial 328, 3) := dk_183 1 72 (dk_at dksX1_spans_0 20 rfl rfl)
theorem dX1_spans_23 : decode cX1_spans 23 = .ok (.invokevirtual 329, 3) := dk_182 1 73 (dk_at dksX1_spans_1 0 rfl rfl)
theorem dX1_spans_26 : decode cX1_spans 26 = .ok (.astore_n 2, 1) := dk_77 (dk_at dksX1_spans_1 3 rfl rfl)
theorem dX1_spans_27 : decode cX1_spans 27 = .ok (.aload_n 0, 1) := dk_42 (dk_at dksX1_spans_1 4 rfl rfl)
theorem dX1_spans_28 : decode cX1_spans 28 = .ok (.getfield 323, 3) := dk_180 1 67 (dk_at dksX1_spans_1 5 rfl rfl)
theorem dX1_spans_31 : decode cX1_spans 31 = .ok (.ireturn, 1) := dk_172 (dk_at dksX1_spans_1 8 rfl rfl)
abbrev cX1_longest : ByteArray := prog_1_method_66_code
def yX1_longest : MethodName := ⟨RX1, "longest", "(II)I"⟩
def dkwX1_longest_2 : List UInt8 := [167, 0, 18, 28, 154, 0, 10, 42, 180, 1, 81, 167, 0, 7, 42, 180, 1, 84, 172]
abbrev dktX1_longest_2 : List UInt8 := dkwX1_longest_2 ++ []
def dkwX1_longest_1 : List UInt8 := [187, 1, 77, 89, 42, 27, 183, 1, 79, 182, 1, 80, 78, 42, 180, 1, 67, 154, 0, 8, 16, 254]
abbrev dktX1_longest_1 : List UInt8 := dkwX1_longest_1 ++ dktX1_longest_2
def dkwX1_longest_0 : List UInt8 := [27, 184, 0, 219, 153, 0, 13, 28, 133, 9, 10, 184, 0, 89, 154, 0, 5, 2, 172, 42, 3, 181, 1, 67]
abbrev dktX1_longest_0 : List UInt8 := dkwX1_longest_0 ++ dktX1_longest_1
theorem dksX1_longest_0 : cX1_longest.data.toList.drop 0 = dktX1_longest_0 := by decide +kernel
theorem dksX1_longest_1 : cX1_longest.data.toList.drop 24 = dktX1_longest_1 := dk_seg dksX1_longest_0 24 rfl rfl
theorem dksX1_longest_2 : cX1_longest.data.toList.drop 46 = dktX1_longest_2 := dk_seg dksX1_longest_1 22 rfl rfl
theorem dX1_longest_0 : decode cX1_longest 0 = .ok (.iload_n 1, 1) := dk_27 (dk_at dksX1_longest_0 0 rfl rfl)
theorem dX1_longest_1 : decode cX1_longest 1 = .ok (.invokestatic 219, 3) := dk_184 0 219 (dk_at dksX1_longest_0 1 rfl rfl)
theorem dX1_longest_4 : decode cX1_longest 4 = .ok (.ifCond .eq 13, 3) := dk_153 0 13 (dk_at dksX1_longest_0 4 rfl rfl)
theorem dX1_longest_7 : decode cX1_longest 7 = .ok (.iload_n 2, 1) := dk_28 (dk_at dksX1_longest_0 7 rfl rfl)
theorem dX1_longest_8 : decode cX1_longest 8 = .ok (.i2l, 1) := dk_133 (dk_at dksX1_longest_0 8 rfl rfl)
theorem dX1_longest_9 : decode cX1_longest 9 = .ok (.lconst 0, 1) := dk_9 (dk_at dksX1_longest_0 9 rfl rfl)
theorem dX1_longest_10 : decode cX1_longest 10 = .ok (.lconst 1, 1) := dk_10 (dk_at dksX1_longest_0 10 rfl rfl)
theorem dX1_longest_11 : decode cX1_longest 11 = .ok (.invokestatic 89, 3) := dk_184 0 89 (dk_at dksX1_longest_0 11 rfl rfl)
theorem dX1_longest_14 : decode cX1_longest 14 = .ok (.ifCond .ne 5, 3) := dk_154 0 5 (dk_at dksX1_longest_0 14 rfl rfl)
theorem dX1_longest_17 : decode cX1_longest 17 = .ok (.iconst (-1), 1) := dk_2 (dk_at dksX1_longest_0 17 rfl rfl)
theorem dX1_longest_18 : decode cX1_longest 18 = .ok (.ireturn, 1) := dk_172 (dk_at dksX1_longest_0 18 rfl rfl)
theorem dX1_longest_19 : decode cX1_longest 19 = .ok (.aload_n 0, 1) := dk_42 (dk_at dksX1_longest_0 19 rfl rfl)
theorem dX1_longest_20 : decode cX1_longest 20 = .ok (.iconst 0, 1) := dk_3 (dk_at dksX1_longest_0 20 rfl rfl)
theorem dX1_longest_21 : decode cX1_longest 21 = .ok (.putfield 323, 3) := dk_181 1 67 (dk_at dksX1_longest_0 21 rfl rfl)
theorem dX1_longest_24 : decode cX1_longest 24 = .ok (.new 333, 3) := dk_187 1 77 (dk_at dksX1_longest_1 0 rfl rfl)
theorem dX1_longest_27 : decode cX1_longest 27 = .ok (.dup, 1) := dk_89 (dk_at dksX1_longest_1 3 rfl rfl)
theorem dX1_longest_28 : decode cX1_longest 28 = .ok (.aload_n 0, 1) := dk_42 (dk_at dksX1_longest_1 4 rfl rfl)
theorem dX1_longest_29 : decode cX1_longest 29 = .ok (.iload_n 1, 1) := dk_27 (dk_at dksX1_longest_1 5 rfl rfl)
theorem dX1_longest_30 : decode cX1_longest 30 = .ok (.invokespecial 335, 3) := dk_183 1 79 (dk_at dksX1_longest_1 6 rfl rfl)
theorem dX1_longest_33 : decode cX1_longest 33 = .ok (.invokevirtual 336, 3) := dk_182 1 80 (dk_at dksX1_longest_1 9 rfl rfl)
theorem dX1_longest_36 : decode cX1_longest 36 = .ok (.astore_n 3, 1) := dk_78 (dk_at dksX1_longest_1 12 rfl rfl)
theorem dX1_longest_37 : decode cX1_longest 37 = .ok (.aload_n 0, 1) := dk_42 (dk_at dksX1_longest_1 13 rfl rfl)
theorem dX1_longest_38 : decode cX1_longest 38 = .ok (.getfield 323, 3) := dk_180 1 67 (dk_at dksX1_longest_1 14 rfl rfl)
theorem dX1_longest_41 : decode cX1_longest 41 = .ok (.ifCond .ne 8, 3) := dk_154 0 8 (dk_at dksX1_longest_1 17 rfl rfl)
theorem dX1_longest_44 : decode cX1_longest 44 = .ok (.bipush (-2), 2) := dk_16 254 (dk_at dksX1_longest_1 20 rfl rfl)
theorem dX1_longest_46 : decode cX1_longest 46 = .ok (.goto 18, 3) := dk_167 0 18 (dk_at dksX1_longest_2 0 rfl rfl)
theorem dX1_longest_49 : decode cX1_longest 49 = .ok (.iload_n 2, 1) := dk_28 (dk_at dksX1_longest_2 3 rfl rfl)
theorem dX1_longest_50 : decode cX1_longest 50 = .ok (.ifCond .ne 10, 3) := dk_154 0 10 (dk_at dksX1_longest_2 4 rfl rfl)
theorem dX1_longest_53 : decode cX1_longest 53 = .ok (.aload_n 0, 1) := dk_42 (dk_at dksX1_longest_2 7 rfl rfl)
theorem dX1_longest_54 : decode cX1_longest 54 = .ok (.getfield 337, 3) := dk_180 1 81 (dk_at dksX1_longest_2 8 rfl rfl)
theorem dX1_longest_57 : decode cX1_longest 57 = .ok (.goto 7, 3) := dk_167 0 7 (dk_at dksX1_longest_2 11 rfl rfl)
theorem dX1_longest_60 : decode cX1_longest 60 = .ok (.aload_n 0, 1) := dk_42 (dk_at dksX1_longest_2 14 rfl rfl)
theorem dX1_longest_61 : decode cX1_longest 61 = .ok (.getfield 340, 3) := dk_180 1 84 (dk_at dksX1_longest_2 15 rfl rfl)
theorem dX1_longest_64 : decode cX1_longest 64 = .ok (.ireturn, 1) := dk_172 (dk_at dksX1_longest_2 18 rfl rfl)
abbrev cX1_tightest : ByteArray := prog_1_method_67_code
def yX1_tightest : MethodName := ⟨RX1, "tightest", "(II)I"⟩
def dkwX1_tightest_7 : List UInt8 := [167, 0, 12, 42, 180, 0, 20, 180, 0, 148, 29, 46, 172]
abbrev dktX1_tightest_7 : List UInt8 := dkwX1_tightest_7 ++ []
def dkwX1_tightest_6 : List UInt8 := [16, 254, 167, 0, 34, 28, 154, 0, 7, 29, 167, 0, 26, 28, 4, 160, 0, 12, 29, 21, 4, 96, 4, 100]
abbrev dktX1_tightest_6 : List UInt8 := dkwX1_tightest_6 ++ dktX1_tightest_7
def dkwX1_tightest_5 : List UInt8 := [180, 0, 176, 21, 7, 46, 21, 5, 100, 4, 96, 54, 4, 132, 5, 1, 167, 255, 153, 29, 2, 160, 0, 8]
abbrev dktX1_tightest_5 : List UInt8 := dkwX1_tightest_5 ++ dktX1_tightest_6
def dkwX1_tightest_4 : List UInt8 := [180, 0, 176, 21, 7, 46, 21, 5, 100, 4, 96, 21, 4, 161, 0, 6, 167, 0, 21, 21, 5, 62, 25, 6]
abbrev dktX1_tightest_4 : List UInt8 := dkwX1_tightest_4 ++ dktX1_tightest_5
def dkwX1_tightest_3 : List UInt8 := [100, 164, 0, 6, 167, 0, 55, 25, 6, 21, 5, 182, 0, 169, 27, 96, 4, 100, 54, 7, 25, 6]
abbrev dktX1_tightest_3 : List UInt8 := dkwX1_tightest_3 ++ dktX1_tightest_4
def dkwX1_tightest_2 : List UInt8 := [180, 0, 148, 21, 5, 46, 182, 0, 165, 58, 6, 27, 25, 6, 180, 0, 144, 25, 6, 21, 5, 182, 0, 169]
abbrev dktX1_tightest_2 : List UInt8 := dkwX1_tightest_2 ++ dktX1_tightest_3
def dkwX1_tightest_1 : List UInt8 := [54, 4, 3, 54, 5, 21, 5, 42, 180, 0, 20, 180, 0, 147, 162, 0, 97, 42, 42, 180, 0, 20]
abbrev dktX1_tightest_1 : List UInt8 := dkwX1_tightest_1 ++ dktX1_tightest_2
def dkwX1_tightest_0 : List UInt8 := [27, 4, 161, 0, 15, 28, 133, 9, 20, 1, 62, 184, 0, 89, 154, 0, 5, 2, 172, 2, 62, 16, 121]
abbrev dktX1_tightest_0 : List UInt8 := dkwX1_tightest_0 ++ dktX1_tightest_1
theorem dksX1_tightest_0 : cX1_tightest.data.toList.drop 0 = dktX1_tightest_0 := by decide +kernel
theorem dksX1_tightest_1 : cX1_tightest.data.toList.drop 23 = dktX1_tightest_1 := dk_seg dksX1_tightest_0 23 rfl rfl
theorem dksX1_tightest_2 : cX1_tightest.data.toList.drop 45 = dktX1_tightest_2 := dk_seg dksX1_tightest_1 22 rfl rfl
theorem dksX1_tightest_3 : cX1_tightest.data.toList.drop 69 = dktX1_tightest_3 := dk_seg dksX1_tightest_2 24 rfl rfl
theorem dksX1_tightest_4 : cX1_tightest.data.toList.drop 91 = dktX1_tightest_4 := dk_seg dksX1_tightest_3 22 rfl rfl
theorem dksX1_tightest_5 : cX1_tightest.data.toList.drop 115 = dktX1_tightest_5 := dk_seg dksX1_tightest_4 24 rfl rfl
theorem dksX1_tightest_6 : cX1_tightest.data.toList.drop 139 = dktX1_tightest_6 := dk_seg dksX1_tightest_5 24 rfl rfl
theorem dksX1_tightest_7 : cX1_tightest.data.toList.drop 163 = dktX1_tightest_7 := dk_seg dksX1_tightest_6 24 rfl rfl
theorem dX1_tightest_0 : decode cX1_tightest 0 = .ok (.iload_n 1, 1) := dk_27 (dk_at dksX1_tightest_0 0 rfl rfl)
theorem dX1_tightest_1 : decode cX1_tightest 1 = .ok (.iconst 1, 1) := dk_4 (dk_at dksX1_tightest_0 1 rfl rfl)
theorem dX1_tightest_2 : decode cX1_tightest 2 = .ok (.if_icmp .lt 15, 3) := dk_161 0 15 (dk_at dksX1_tightest_0 2 rfl rfl)
theorem dX1_tightest_5 : decode cX1_tightest 5 = .ok (.iload_n 2, 1) := dk_28 (dk_at dksX1_tightest_0 5 rfl rfl)
theorem dX1_tightest_6 : decode cX1_tightest 6 = .ok (.i2l, 1) := dk_133 (dk_at dksX1_tightest_0 6 rfl rfl)
theorem dX1_tightest_7 : decode cX1_tightest 7 = .ok (.lconst 0, 1) := dk_9 (dk_at dksX1_tightest_0 7 rfl rfl)
theorem dX1_tightest_8 : decode cX1_tightest 8 = .ok (.ldc2_w 318, 3) := dk_20 1 62 (dk_at dksX1_tightest_0 8 rfl rfl)
theorem dX1_tightest_11 : decode cX1_tightest 11 = .ok (.invokestatic 89, 3) := dk_184 0 89 (dk_at dksX1_tightest_0 11 rfl rfl)
theorem dX1_tightest_14 : decode cX1_tightest 14 = .ok (.ifCond .ne 5, 3) := dk_154 0 5 (dk_at dksX1_tightest_0 14 rfl rfl)
theorem dX1_tightest_17 : decode cX1_tightest 17 = .ok (.iconst (-1), 1) := dk_2 (dk_at dksX1_tightest_0 17 rfl rfl)
theorem dX1_tightest_18 : decode cX1_tightest 18 = .ok (.ireturn, 1) := dk_172 (dk_at dksX1_tightest_0 18 rfl rfl)
theorem dX1_tightest_19 : decode cX1_tightest 19 = .ok (.iconst (-1), 1) := dk_2 (dk_at dksX1_tightest_0 19 rfl rfl)
theorem dX1_tightest_20 : decode cX1_tightest 20 = .ok (.istore_n 3, 1) := dk_62 (dk_at dksX1_tightest_0 20 rfl rfl)
theorem dX1_tightest_21 : decode cX1_tightest 21 = .ok (.bipush 121, 2) := dk_16 121 (dk_at dksX1_tightest_0 21 rfl rfl)
theorem dX1_tightest_23 : decode cX1_tightest 23 = .ok (.istore 4, 2) := dk_54 4 (dk_at dksX1_tightest_1 0 rfl rfl)
theorem dX1_tightest_25 : decode cX1_tightest 25 = .ok (.iconst 0, 1) := dk_3 (dk_at dksX1_tightest_1 2 rfl rfl)
theorem dX1_tightest_26 : decode cX1_tightest 26 = .ok (.istore 5, 2) := dk_54 5 (dk_at dksX1_tightest_1 3 rfl rfl)
theorem dX1_tightest_28 : decode cX1_tightest 28 = .ok (.iload 5, 2) := dk_21 5 (dk_at dksX1_tightest_1 5 rfl rfl)
theorem dX1_tightest_30 : decode cX1_tightest 30 = .ok (.aload_n 0, 1) := dk_42 (dk_at dksX1_tightest_1 7 rfl rfl)
theorem dX1_tightest_31 : decode cX1_tightest 31 = .ok (.getfield 20, 3) := dk_180 0 20 (dk_at dksX1_tightest_1 8 rfl rfl)
theorem dX1_tightest_34 : decode cX1_tightest 34 = .ok (.getfield 147, 3) := dk_180 0 147 (dk_at dksX1_tightest_1 11 rfl rfl)
theorem dX1_tightest_37 : decode cX1_tightest 37 = .ok (.if_icmp .ge 97, 3) := dk_162 0 97 (dk_at dksX1_tightest_1 14 rfl rfl)
theorem dX1_tightest_40 : decode cX1_tightest 40 = .ok (.aload_n 0, 1) := dk_42 (dk_at dksX1_tightest_1 17 rfl rfl)
theorem dX1_tightest_41 : decode cX1_tightest 41 = .ok (.aload_n 0, 1) := dk_42 (dk_at dksX1_tightest_1 18 rfl rfl)
theorem dX1_tightest_42 : decode cX1_tightest 42 = .ok (.getfield 20, 3) := dk_180 0 20 (dk_at dksX1_tightest_1 19 rfl rfl)
theorem dX1_tightest_45 : decode cX1_tightest 45 = .ok (.getfield 148, 3) := dk_180 0 148 (dk_at dksX1_tightest_2 0 rfl rfl)
theorem dX1_tightest_48 : decode cX1_tightest 48 = .ok (.iload 5, 2) := dk_21 5 (dk_at dksX1_tightest_2 3 rfl rfl)
theorem dX1_tightest_50 : decode cX1_tightest 50 = .ok (.iaload, 1) := dk_46 (dk_at dksX1_tightest_2 5 rfl rfl)
theorem dX1_tightest_51 : decode cX1_tightest 51 = .ok (.invokevirtual 165, 3) := dk_182 0 165 (dk_at dksX1_tightest_2 6 rfl rfl)
theorem dX1_tightest_54 : decode cX1_tightest 54 = .ok (.astore 6, 2) := dk_58 6 (dk_at dksX1_tightest_2 9 rfl rfl)
theorem dX1_tightest_56 : decode cX1_tightest 56 = .ok (.iload_n 1, 1) := dk_27 (dk_at dksX1_tightest_2 11 rfl rfl)
theorem dX1_tightest_57 : decode cX1_tightest 57 = .ok (.aload 6, 2) := dk_25 6 (dk_at dksX1_tightest_2 12 rfl rfl)
theorem dX1_tightest_59 : decode cX1_tightest 59 = .ok (.getfield 144, 3) := dk_180 0 144 (dk_at dksX1_tightest_2 14 rfl rfl)
theorem dX1_tightest_62 : decode cX1_tightest 62 = .ok (.aload 6, 2) := dk_25 6 (dk_at dksX1_tightest_2 17 rfl rfl)
theorem dX1_tightest_64 : decode cX1_tightest 64 = .ok (.iload 5, 2) := dk_21 5 (dk_at dksX1_tightest_2 19 rfl rfl)
theorem dX1_tightest_66 : decode cX1_tightest 66 = .ok (.invokevirtual 169, 3) := dk_182 0 169 (dk_at dksX1_tightest_2 21 rfl rfl)
theorem dX1_tightest_69 : decode cX1_tightest 69 = .ok (.isub, 1) := dk_100 (dk_at dksX1_tightest_3 0 rfl rfl)
theorem dX1_tightest_70 : decode cX1_tightest 70 = .ok (.if_icmp .le 6, 3) := dk_164 0 6 (dk_at dksX1_tightest_3 1 rfl rfl)
theorem dX1_tightest_73 : decode cX1_tightest 73 = .ok (.goto 55, 3) := dk_167 0 55 (dk_at dksX1_tightest_3 4 rfl rfl)
theorem dX1_tightest_76 : decode cX1_tightest 76 = .ok (.aload 6, 2) := dk_25 6 (dk_at dksX1_tightest_3 7 rfl rfl)
theorem dX1_tightest_78 : decode cX1_tightest 78 = .ok (.iload 5, 2) := dk_21 5 (dk_at dksX1_tightest_3 9 rfl rfl)
theorem dX1_tightest_80 : decode cX1_tightest 80 = .ok (.invokevirtual 169, 3) := dk_182 0 169 (dk_at dksX1_tightest_3 11 rfl rfl)
theorem dX1_tightest_83 : decode cX1_tightest 83 = .ok (.iload_n 1, 1) := dk_27 (dk_at dksX1_tightest_3 14 rfl rfl)
theorem dX1_tightest_84 : decode cX1_tightest 84 = .ok (.iadd, 1) := dk_96 (dk_at dksX1_tightest_3 15 rfl rfl)
theorem dX1_tightest_85 : decode cX1_tightest 85 = .ok (.iconst 1, 1) := dk_4 (dk_at dksX1_tightest_3 16 rfl rfl)
theorem dX1_tightest_86 : decode cX1_tightest 86 = .ok (.isub, 1) := dk_100 (dk_at dksX1_tightest_3 17 rfl rfl)
theorem dX1_tightest_87 : decode cX1_tightest 87 = .ok (.istore 7, 2) := dk_54 7 (dk_at dksX1_tightest_3 18 rfl rfl)
theorem dX1_tightest_89 : decode cX1_tightest 89 = .ok (.aload 6, 2) := dk_25 6 (dk_at dksX1_tightest_3 20 rfl rfl)
theorem dX1_tightest_91 : decode cX1_tightest 91 = .ok (.getfield 176, 3) := dk_180 0 176 (dk_at dksX1_tightest_4 0 rfl rfl)
theorem dX1_tightest_94 : decode cX1_tightest 94 = .ok (.iload 7, 2) := dk_21 7 (dk_at dksX1_tightest_4 3 rfl rfl)
theorem dX1_tightest_96 : decode cX1_tightest 96 = .ok (.iaload, 1) := dk_46 (dk_at dksX1_tightest_4 5 rfl rfl)
theorem dX1_tightest_97 : decode cX1_tightest 97 = .ok (.iload 5, 2) := dk_21 5 (dk_at dksX1_tightest_4 6 rfl rfl)
theorem dX1_tightest_99 : decode cX1_tightest 99 = .ok (.isub, 1) := dk_100 (dk_at dksX1_tightest_4 8 rfl rfl)
theorem dX1_tightest_100 : decode cX1_tightest 100 = .ok (.iconst 1, 1) := dk_4 (dk_at dksX1_tightest_4 9 rfl rfl)
theorem dX1_tightest_101 : decode cX1_tightest 101 = .ok (.iadd, 1) := dk_96 (dk_at dksX1_tightest_4 10 rfl rfl)
theorem dX1_tightest_102 : decode cX1_tightest 102 = .ok (.iload 4, 2) := dk_21 4 (dk_at dksX1_tightest_4 11 rfl rfl)
theorem dX1_tightest_104 : decode cX1_tightest 104 = .ok (.if_icmp .lt 6, 3) := dk_161 0 6 (dk_at dksX1_tightest_4 13 rfl rfl)
theorem dX1_tightest_107 : decode cX1_tightest 107 = .ok (.goto 21, 3) := dk_167 0 21 (dk_at dksX1_tightest_4 16 rfl rfl)
theorem dX1_tightest_110 : decode cX1_tightest 110 = .ok (.iload 5, 2) := dk_21 5 (dk_at dksX1_tightest_4 19 rfl rfl)
theorem dX1_tightest_112 : decode cX1_tightest 112 = .ok (.istore_n 3, 1) := dk_62 (dk_at dksX1_tightest_4 21 rfl rfl)
theorem dX1_tightest_113 : decode cX1_tightest 113 = .ok (.aload 6, 2) := dk_25 6 (dk_at dksX1_tightest_4 22 rfl rfl)
theorem dX1_tightest_115 : decode cX1_tightest 115 = .ok (.getfield 176, 3) := dk_180 0 176 (dk_at dksX1_tightest_5 0 rfl rfl)
theorem dX1_tightest_118 : decode cX1_tightest 118 = .ok (.iload 7, 2) := dk_21 7 (dk_at dksX1_tightest_5 3 rfl rfl)
theorem dX1_tightest_120 : decode cX1_tightest 120 = .ok (.iaload, 1) := dk_46 (dk_at dksX1_tightest_5 5 rfl rfl)
theorem dX1_tightest_121 : decode cX1_tightest 121 = .ok (.iload 5, 2) := dk_21 5 (dk_at dksX1_tightest_5 6 rfl rfl)
theorem dX1_tightest_123 : decode cX1_tightest 123 = .ok (.isub, 1) := dk_100 (dk_at dksX1_tightest_5 8 rfl rfl)
theorem dX1_tightest_124 : decode cX1_tightest 124 = .ok (.iconst 1, 1) := dk_4 (dk_at dksX1_tightest_5 9 rfl rfl)
theorem dX1_tightest_125 : decode cX1_tightest 125 = .ok (.iadd, 1) := dk_96 (dk_at dksX1_tightest_5 10 rfl rfl)
theorem dX1_tightest_126 : decode cX1_tightest 126 = .ok (.istore 4, 2) := dk_54 4 (dk_at dksX1_tightest_5 11 rfl rfl)
theorem dX1_tightest_128 : decode cX1_tightest 128 = .ok (.iinc 5 1, 3) := dk_132 5 1 (dk_at dksX1_tightest_5 13 rfl rfl)
theorem dX1_tightest_131 : decode cX1_tightest 131 = .ok (.goto (-103), 3) := dk_167 255 153 (dk_at dksX1_tightest_5 16 rfl rfl)
theorem dX1_tightest_134 : decode cX1_tightest 134 = .ok (.iload_n 3, 1) := dk_29 (dk_at dksX1_tightest_5 19 rfl rfl)
theorem dX1_tightest_135 : decode cX1_tightest 135 = .ok (.iconst (-1), 1) := dk_2 (dk_at dksX1_tightest_5 20 rfl rfl)
theorem dX1_tightest_136 : decode cX1_tightest 136 = .ok (.if_icmp .ne 8, 3) := dk_160 0 8 (dk_at dksX1_tightest_5 21 rfl rfl)
theorem dX1_tightest_139 : decode cX1_tightest 139 = .ok (.bipush (-2), 2) := dk_16 254 (dk_at dksX1_tightest_6 0 rfl rfl)
theorem dX1_tightest_141 : decode cX1_tightest 141 = .ok (.goto 34, 3) := dk_167 0 34 (dk_at dksX1_tightest_6 2 rfl rfl)
theorem dX1_tightest_144 : decode cX1_tightest 144 = .ok (.iload_n 2, 1) := dk_28 (dk_at dksX1_tightest_6 5 rfl rfl)
theorem dX1_tightest_145 : decode cX1_tightest 145 = .ok (.ifCond .ne 7, 3) := dk_154 0 7 (dk_at dksX1_tightest_6 6 rfl rfl)
theorem dX1_tightest_148 : decode cX1_tightest 148 = .ok (.iload_n 3, 1) := dk_29 (dk_at dksX1_tightest_6 9 rfl rfl)
theorem dX1_tightest_149 : decode cX1_tightest 149 = .ok (.goto 26, 3) := dk_167 0 26 (dk_at dksX1_tightest_6 10 rfl rfl)
theorem dX1_tightest_152 : decode cX1_tightest 152 = .ok (.iload_n 2, 1) := dk_28 (dk_at dksX1_tightest_6 13 rfl rfl)
theorem dX1_tightest_153 : decode cX1_tightest 153 = .ok (.iconst 1, 1) := dk_4 (dk_at dksX1_tightest_6 14 rfl rfl)
theorem dX1_tightest_154 : decode cX1_tightest 154 = .ok (.if_icmp .ne 12, 3) := dk_160 0 12 (dk_at dksX1_tightest_6 15 rfl rfl)
theorem dX1_tightest_157 : decode cX1_tightest 157 = .ok (.iload_n 3, 1) := dk_29 (dk_at dksX1_tightest_6 18 rfl rfl)
theorem dX1_tightest_158 : decode cX1_tightest 158 = .ok (.iload 4, 2) := dk_21 4 (dk_at dksX1_tightest_6 19 rfl rfl)
theorem dX1_tightest_160 : decode cX1_tightest 160 = .ok (.iadd, 1) := dk_96 (dk_at dksX1_tightest_6 21 rfl rfl)
theorem dX1_tightest_161 : decode cX1_tightest 161 = .ok (.iconst 1, 1) := dk_4 (dk_at dksX1_tightest_6 22 rfl rfl)
theorem dX1_tightest_162 : decode cX1_tightest 162 = .ok (.isub, 1) := dk_100 (dk_at dksX1_tightest_6 23 rfl rfl)
theorem dX1_tightest_163 : decode cX1_tightest 163 = .ok (.goto 12, 3) := dk_167 0 12 (dk_at dksX1_tightest_7 0 rfl rfl)
theorem dX1_tightest_166 : decode cX1_tightest 166 = .ok (.aload_n 0, 1) := dk_42 (dk_at dksX1_tightest_7 3 rfl rfl)
theorem dX1_tightest_167 : decode cX1_tightest 167 = .ok (.getfield 20, 3) := dk_180 0 20 (dk_at dksX1_tightest_7 4 rfl rfl)
theorem dX1_tightest_170 : decode cX1_tightest 170 = .ok (.getfield 148, 3) := dk_180 0 148 (dk_at dksX1_tightest_7 7 rfl rfl)
theorem dX1_tightest_173 : decode cX1_tightest 173 = .ok (.iload_n 3, 1) := dk_29 (dk_at dksX1_tightest_7 10 rfl rfl)
theorem dX1_tightest_174 : decode cX1_tightest 174 = .ok (.iaload, 1) := dk_46 (dk_at dksX1_tightest_7 11 rfl rfl)
theorem dX1_tightest_175 : decode cX1_tightest 175 = .ok (.ireturn, 1) := dk_172 (dk_at dksX1_tightest_7 12 rfl rfl)
abbrev cX1_needed : ByteArray := prog_1_method_68_code
def yX1_needed : MethodName := ⟨RX1, "needed", "(III)I"⟩
def dkwX1_needed_8 : List UInt8 := [79, 132, 5, 1, 167, 255, 149]
abbrev dktX1_needed_8 : List UInt8 := dkwX1_needed_8 ++ []
def dkwX1_needed_7 : List UInt8 := [96, 42, 180, 0, 77, 21, 6, 46, 164, 0, 6, 21, 5, 172, 42, 180, 0, 77, 21, 6, 92, 46, 4, 100]
abbrev dktX1_needed_7 : List UInt8 := dkwX1_needed_7 ++ dktX1_needed_8
def dkwX1_needed_6 : List UInt8 := [180, 0, 67, 21, 7, 46, 54, 6, 132, 7, 1, 167, 255, 196, 21, 6, 2, 159, 0, 18, 21, 4, 21, 5]
abbrev dktX1_needed_6 : List UInt8 := dkwX1_needed_6 ++ dktX1_needed_7
def dkwX1_needed_5 : List UInt8 := [180, 0, 77, 42, 180, 0, 67, 21, 7, 46, 46, 42, 180, 0, 77, 21, 6, 46, 164, 0, 12, 42]
abbrev dktX1_needed_5 : List UInt8 := dkwX1_needed_5 ++ dktX1_needed_6
def dkwX1_needed_4 : List UInt8 := [180, 1, 6, 162, 0, 57, 42, 180, 0, 67, 21, 7, 46, 29, 159, 0, 40, 21, 6, 2, 159, 0, 25, 42]
abbrev dktX1_needed_4 : List UInt8 := dkwX1_needed_4 ++ dktX1_needed_5
def dkwX1_needed_3 : List UInt8 := [182, 0, 165, 27, 28, 182, 0, 182, 54, 4, 3, 54, 5, 2, 54, 6, 3, 54, 7, 21, 7, 42]
abbrev dktX1_needed_3 : List UInt8 := dkwX1_needed_3 ++ dktX1_needed_4
def dkwX1_needed_2 : List UInt8 := [42, 180, 0, 67, 21, 4, 46, 182, 0, 165, 27, 28, 182, 0, 182, 79, 132, 4, 1, 167, 255, 216, 42, 29]
abbrev dktX1_needed_2 : List UInt8 := dkwX1_needed_2 ++ dktX1_needed_3
def dkwX1_needed_1 : List UInt8 := [3, 54, 4, 21, 4, 42, 180, 1, 6, 162, 0, 37, 42, 180, 0, 77, 42, 180, 0, 67, 21, 4, 46, 42]
abbrev dktX1_needed_1 : List UInt8 := dkwX1_needed_1 ++ dktX1_needed_2
def dkwX1_needed_0 : List UInt8 := [42, 27, 28, 182, 0, 236, 153, 0, 10, 29, 184, 0, 219, 154, 0, 5, 2, 172, 42, 27, 28, 182, 1, 43]
abbrev dktX1_needed_0 : List UInt8 := dkwX1_needed_0 ++ dktX1_needed_1
theorem dksX1_needed_0 : cX1_needed.data.toList.drop 0 = dktX1_needed_0 := by decide +kernel
theorem dksX1_needed_1 : cX1_needed.data.toList.drop 24 = dktX1_needed_1 := dk_seg dksX1_needed_0 24 rfl rfl
theorem dksX1_needed_2 : cX1_needed.data.toList.drop 48 = dktX1_needed_2 := dk_seg dksX1_needed_1 24 rfl rfl
theorem dksX1_needed_3 : cX1_needed.data.toList.drop 72 = dktX1_needed_3 := dk_seg dksX1_needed_2 24 rfl rfl
theorem dksX1_needed_4 : cX1_needed.data.toList.drop 94 = dktX1_needed_4 := dk_seg dksX1_needed_3 22 rfl rfl
theorem dksX1_needed_5 : cX1_needed.data.toList.drop 118 = dktX1_needed_5 := dk_seg dksX1_needed_4 24 rfl rfl
theorem dksX1_needed_6 : cX1_needed.data.toList.drop 140 = dktX1_needed_6 := dk_seg dksX1_needed_5 22 rfl rfl
theorem dksX1_needed_7 : cX1_needed.data.toList.drop 164 = dktX1_needed_7 := dk_seg dksX1_needed_6 24 rfl rfl
theorem dksX1_needed_8 : cX1_needed.data.toList.drop 188 = dktX1_needed_8 := dk_seg dksX1_needed_7 24 rfl rfl
theorem dX1_needed_0 : decode cX1_needed 0 = .ok (.aload_n 0, 1) := dk_42 (dk_at dksX1_needed_0 0 rfl rfl)
theorem dX1_needed_1 : decode cX1_needed 1 = .ok (.iload_n 1, 1) := dk_27 (dk_at dksX1_needed_0 1 rfl rfl)
theorem dX1_needed_2 : decode cX1_needed 2 = .ok (.iload_n 2, 1) := dk_28 (dk_at dksX1_needed_0 2 rfl rfl)
theorem dX1_needed_3 : decode cX1_needed 3 = .ok (.invokevirtual 236, 3) := dk_182 0 236 (dk_at dksX1_needed_0 3 rfl rfl)
theorem dX1_needed_6 : decode cX1_needed 6 = .ok (.ifCond .eq 10, 3) := dk_153 0 10 (dk_at dksX1_needed_0 6 rfl rfl)
theorem dX1_needed_9 : decode cX1_needed 9 = .ok (.iload_n 3, 1) := dk_29 (dk_at dksX1_needed_0 9 rfl rfl)
theorem dX1_needed_10 : decode cX1_needed 10 = .ok (.invokestatic 219, 3) := dk_184 0 219 (dk_at dksX1_needed_0 10 rfl rfl)
theorem dX1_needed_13 : decode cX1_needed 13 = .ok (.ifCond .ne 5, 3) := dk_154 0 5 (dk_at dksX1_needed_0 13 rfl rfl)
theorem dX1_needed_16 : decode cX1_needed 16 = .ok (.iconst (-1), 1) := dk_2 (dk_at dksX1_needed_0 16 rfl rfl)
theorem dX1_needed_17 : decode cX1_needed 17 = .ok (.ireturn, 1) := dk_172 (dk_at dksX1_needed_0 17 rfl rfl)
theorem dX1_needed_18 : decode cX1_needed 18 = .ok (.aload_n 0, 1) := dk_42 (dk_at dksX1_needed_0 18 rfl rfl)
theorem dX1_needed_19 : decode cX1_needed 19 = .ok (.iload_n 1, 1) := dk_27 (dk_at dksX1_needed_0 19 rfl rfl)
theorem dX1_needed_20 : decode cX1_needed 20 = .ok (.iload_n 2, 1) := dk_28 (dk_at dksX1_needed_0 20 rfl rfl)
theorem dX1_needed_21 : decode cX1_needed 21 = .ok (.invokevirtual 299, 3) := dk_182 1 43 (dk_at dksX1_needed_0 21 rfl rfl)
theorem dX1_needed_24 : decode cX1_needed 24 = .ok (.iconst 0, 1) := dk_3 (dk_at dksX1_needed_1 0 rfl rfl)
theorem dX1_needed_25 : decode cX1_needed 25 = .ok (.istore 4, 2) := dk_54 4 (dk_at dksX1_needed_1 1 rfl rfl)
theorem dX1_needed_27 : decode cX1_needed 27 = .ok (.iload 4, 2) := dk_21 4 (dk_at dksX1_needed_1 3 rfl rfl)
theorem dX1_needed_29 : decode cX1_needed 29 = .ok (.aload_n 0, 1) := dk_42 (dk_at dksX1_needed_1 5 rfl rfl)
theorem dX1_needed_30 : decode cX1_needed 30 = .ok (.getfield 262, 3) := dk_180 1 6 (dk_at dksX1_needed_1 6 rfl rfl)
theorem dX1_needed_33 : decode cX1_needed 33 = .ok (.if_icmp .ge 37, 3) := dk_162 0 37 (dk_at dksX1_needed_1 9 rfl rfl)
theorem dX1_needed_36 : decode cX1_needed 36 = .ok (.aload_n 0, 1) := dk_42 (dk_at dksX1_needed_1 12 rfl rfl)
theorem dX1_needed_37 : decode cX1_needed 37 = .ok (.getfield 77, 3) := dk_180 0 77 (dk_at dksX1_needed_1 13 rfl rfl)
theorem dX1_needed_40 : decode cX1_needed 40 = .ok (.aload_n 0, 1) := dk_42 (dk_at dksX1_needed_1 16 rfl rfl)
theorem dX1_needed_41 : decode cX1_needed 41 = .ok (.getfield 67, 3) := dk_180 0 67 (dk_at dksX1_needed_1 17 rfl rfl)
theorem dX1_needed_44 : decode cX1_needed 44 = .ok (.iload 4, 2) := dk_21 4 (dk_at dksX1_needed_1 20 rfl rfl)
theorem dX1_needed_46 : decode cX1_needed 46 = .ok (.iaload, 1) := dk_46 (dk_at dksX1_needed_1 22 rfl rfl)
theorem dX1_needed_47 : decode cX1_needed 47 = .ok (.aload_n 0, 1) := dk_42 (dk_at dksX1_needed_1 23 rfl rfl)
theorem dX1_needed_48 : decode cX1_needed 48 = .ok (.aload_n 0, 1) := dk_42 (dk_at dksX1_needed_2 0 rfl rfl)
theorem dX1_needed_49 : decode cX1_needed 49 = .ok (.getfield 67, 3) := dk_180 0 67 (dk_at dksX1_needed_2 1 rfl rfl)
theorem dX1_needed_52 : decode cX1_needed 52 = .ok (.iload 4, 2) := dk_21 4 (dk_at dksX1_needed_2 4 rfl rfl)
theorem dX1_needed_54 : decode cX1_needed 54 = .ok (.iaload, 1) := dk_46 (dk_at dksX1_needed_2 6 rfl rfl)
theorem dX1_needed_55 : decode cX1_needed 55 = .ok (.invokevirtual 165, 3) := dk_182 0 165 (dk_at dksX1_needed_2 7 rfl rfl)
theorem dX1_needed_58 : decode cX1_needed 58 = .ok (.iload_n 1, 1) := dk_27 (dk_at dksX1_needed_2 10 rfl rfl)
theorem dX1_needed_59 : decode cX1_needed 59 = .ok (.iload_n 2, 1) := dk_28 (dk_at dksX1_needed_2 11 rfl rfl)
theorem dX1_needed_60 : decode cX1_needed 60 = .ok (.invokevirtual 182, 3) := dk_182 0 182 (dk_at dksX1_needed_2 12 rfl rfl)
theorem dX1_needed_63 : decode cX1_needed 63 = .ok (.iastore, 1) := dk_79 (dk_at dksX1_needed_2 15 rfl rfl)
theorem dX1_needed_64 : decode cX1_needed 64 = .ok (.iinc 4 1, 3) := dk_132 4 1 (dk_at dksX1_needed_2 16 rfl rfl)
theorem dX1_needed_67 : decode cX1_needed 67 = .ok (.goto (-40), 3) := dk_167 255 216 (dk_at dksX1_needed_2 19 rfl rfl)
theorem dX1_needed_70 : decode cX1_needed 70 = .ok (.aload_n 0, 1) := dk_42 (dk_at dksX1_needed_2 22 rfl rfl)
theorem dX1_needed_71 : decode cX1_needed 71 = .ok (.iload_n 3, 1) := dk_29 (dk_at dksX1_needed_2 23 rfl rfl)
theorem dX1_needed_72 : decode cX1_needed 72 = .ok (.invokevirtual 165, 3) := dk_182 0 165 (dk_at dksX1_needed_3 0 rfl rfl)
theorem dX1_needed_75 : decode cX1_needed 75 = .ok (.iload_n 1, 1) := dk_27 (dk_at dksX1_needed_3 3 rfl rfl)
theorem dX1_needed_76 : decode cX1_needed 76 = .ok (.iload_n 2, 1) := dk_28 (dk_at dksX1_needed_3 4 rfl rfl)
theorem dX1_needed_77 : decode cX1_needed 77 = .ok (.invokevirtual 182, 3) := dk_182 0 182 (dk_at dksX1_needed_3 5 rfl rfl)
theorem dX1_needed_80 : decode cX1_needed 80 = .ok (.istore 4, 2) := dk_54 4 (dk_at dksX1_needed_3 8 rfl rfl)
theorem dX1_needed_82 : decode cX1_needed 82 = .ok (.iconst 0, 1) := dk_3 (dk_at dksX1_needed_3 10 rfl rfl)
theorem dX1_needed_83 : decode cX1_needed 83 = .ok (.istore 5, 2) := dk_54 5 (dk_at dksX1_needed_3 11 rfl rfl)
theorem dX1_needed_85 : decode cX1_needed 85 = .ok (.iconst (-1), 1) := dk_2 (dk_at dksX1_needed_3 13 rfl rfl)
theorem dX1_needed_86 : decode cX1_needed 86 = .ok (.istore 6, 2) := dk_54 6 (dk_at dksX1_needed_3 14 rfl rfl)
theorem dX1_needed_88 : decode cX1_needed 88 = .ok (.iconst 0, 1) := dk_3 (dk_at dksX1_needed_3 16 rfl rfl)
theorem dX1_needed_89 : decode cX1_needed 89 = .ok (.istore 7, 2) := dk_54 7 (dk_at dksX1_needed_3 17 rfl rfl)
theorem dX1_needed_91 : decode cX1_needed 91 = .ok (.iload 7, 2) := dk_21 7 (dk_at dksX1_needed_3 19 rfl rfl)
theorem dX1_needed_93 : decode cX1_needed 93 = .ok (.aload_n 0, 1) := dk_42 (dk_at dksX1_needed_3 21 rfl rfl)
theorem dX1_needed_94 : decode cX1_needed 94 = .ok (.getfield 262, 3) := dk_180 1 6 (dk_at dksX1_needed_4 0 rfl rfl)
theorem dX1_needed_97 : decode cX1_needed 97 = .ok (.if_icmp .ge 57, 3) := dk_162 0 57 (dk_at dksX1_needed_4 3 rfl rfl)
theorem dX1_needed_100 : decode cX1_needed 100 = .ok (.aload_n 0, 1) := dk_42 (dk_at dksX1_needed_4 6 rfl rfl)
theorem dX1_needed_101 : decode cX1_needed 101 = .ok (.getfield 67, 3) := dk_180 0 67 (dk_at dksX1_needed_4 7 rfl rfl)
theorem dX1_needed_104 : decode cX1_needed 104 = .ok (.iload 7, 2) := dk_21 7 (dk_at dksX1_needed_4 10 rfl rfl)
theorem dX1_needed_106 : decode cX1_needed 106 = .ok (.iaload, 1) := dk_46 (dk_at dksX1_needed_4 12 rfl rfl)
theorem dX1_needed_107 : decode cX1_needed 107 = .ok (.iload_n 3, 1) := dk_29 (dk_at dksX1_needed_4 13 rfl rfl)
theorem dX1_needed_108 : decode cX1_needed 108 = .ok (.if_icmp .eq 40, 3) := dk_159 0 40 (dk_at dksX1_needed_4 14 rfl rfl)
theorem dX1_needed_111 : decode cX1_needed 111 = .ok (.iload 6, 2) := dk_21 6 (dk_at dksX1_needed_4 17 rfl rfl)
theorem dX1_needed_113 : decode cX1_needed 113 = .ok (.iconst (-1), 1) := dk_2 (dk_at dksX1_needed_4 19 rfl rfl)
theorem dX1_needed_114 : decode cX1_needed 114 = .ok (.if_icmp .eq 25, 3) := dk_159 0 25 (dk_at dksX1_needed_4 20 rfl rfl)
theorem dX1_needed_117 : decode cX1_needed 117 = .ok (.aload_n 0, 1) := dk_42 (dk_at dksX1_needed_4 23 rfl rfl)
theorem dX1_needed_118 : decode cX1_needed 118 = .ok (.getfield 77, 3) := dk_180 0 77 (dk_at dksX1_needed_5 0 rfl rfl)
theorem dX1_needed_121 : decode cX1_needed 121 = .ok (.aload_n 0, 1) := dk_42 (dk_at dksX1_needed_5 3 rfl rfl)
theorem dX1_needed_122 : decode cX1_needed 122 = .ok (.getfield 67, 3) := dk_180 0 67 (dk_at dksX1_needed_5 4 rfl rfl)
theorem dX1_needed_125 : decode cX1_needed 125 = .ok (.iload 7, 2) := dk_21 7 (dk_at dksX1_needed_5 7 rfl rfl)
theorem dX1_needed_127 : decode cX1_needed 127 = .ok (.iaload, 1) := dk_46 (dk_at dksX1_needed_5 9 rfl rfl)
theorem dX1_needed_128 : decode cX1_needed 128 = .ok (.iaload, 1) := dk_46 (dk_at dksX1_needed_5 10 rfl rfl)
theorem dX1_needed_129 : decode cX1_needed 129 = .ok (.aload_n 0, 1) := dk_42 (dk_at dksX1_needed_5 11 rfl rfl)
theorem dX1_needed_130 : decode cX1_needed 130 = .ok (.getfield 77, 3) := dk_180 0 77 (dk_at dksX1_needed_5 12 rfl rfl)
theorem dX1_needed_133 : decode cX1_needed 133 = .ok (.iload 6, 2) := dk_21 6 (dk_at dksX1_needed_5 15 rfl rfl)
theorem dX1_needed_135 : decode cX1_needed 135 = .ok (.iaload, 1) := dk_46 (dk_at dksX1_needed_5 17 rfl rfl)
theorem dX1_needed_136 : decode cX1_needed 136 = .ok (.if_icmp .le 12, 3) := dk_164 0 12 (dk_at dksX1_needed_5 18 rfl rfl)
theorem dX1_needed_139 : decode cX1_needed 139 = .ok (.aload_n 0, 1) := dk_42 (dk_at dksX1_needed_5 21 rfl rfl)
theorem dX1_needed_140 : decode cX1_needed 140 = .ok (.getfield 67, 3) := dk_180 0 67 (dk_at dksX1_needed_6 0 rfl rfl)
theorem dX1_needed_143 : decode cX1_needed 143 = .ok (.iload 7, 2) := dk_21 7 (dk_at dksX1_needed_6 3 rfl rfl)
theorem dX1_needed_145 : decode cX1_needed 145 = .ok (.iaload, 1) := dk_46 (dk_at dksX1_needed_6 5 rfl rfl)
theorem dX1_needed_146 : decode cX1_needed 146 = .ok (.istore 6, 2) := dk_54 6 (dk_at dksX1_needed_6 6 rfl rfl)
theorem dX1_needed_148 : decode cX1_needed 148 = .ok (.iinc 7 1, 3) := dk_132 7 1 (dk_at dksX1_needed_6 8 rfl rfl)
theorem dX1_needed_151 : decode cX1_needed 151 = .ok (.goto (-60), 3) := dk_167 255 196 (dk_at dksX1_needed_6 11 rfl rfl)
theorem dX1_needed_154 : decode cX1_needed 154 = .ok (.iload 6, 2) := dk_21 6 (dk_at dksX1_needed_6 14 rfl rfl)
theorem dX1_needed_156 : decode cX1_needed 156 = .ok (.iconst (-1), 1) := dk_2 (dk_at dksX1_needed_6 16 rfl rfl)
theorem dX1_needed_157 : decode cX1_needed 157 = .ok (.if_icmp .eq 18, 3) := dk_159 0 18 (dk_at dksX1_needed_6 17 rfl rfl)
theorem dX1_needed_160 : decode cX1_needed 160 = .ok (.iload 4, 2) := dk_21 4 (dk_at dksX1_needed_6 20 rfl rfl)
theorem dX1_needed_162 : decode cX1_needed 162 = .ok (.iload 5, 2) := dk_21 5 (dk_at dksX1_needed_6 22 rfl rfl)
theorem dX1_needed_164 : decode cX1_needed 164 = .ok (.iadd, 1) := dk_96 (dk_at dksX1_needed_7 0 rfl rfl)
theorem dX1_needed_165 : decode cX1_needed 165 = .ok (.aload_n 0, 1) := dk_42 (dk_at dksX1_needed_7 1 rfl rfl)
theorem dX1_needed_166 : decode cX1_needed 166 = .ok (.getfield 77, 3) := dk_180 0 77 (dk_at dksX1_needed_7 2 rfl rfl)
theorem dX1_needed_169 : decode cX1_needed 169 = .ok (.iload 6, 2) := dk_21 6 (dk_at dksX1_needed_7 5 rfl rfl)
theorem dX1_needed_171 : decode cX1_needed 171 = .ok (.iaload, 1) := dk_46 (dk_at dksX1_needed_7 7 rfl rfl)
theorem dX1_needed_172 : decode cX1_needed 172 = .ok (.if_icmp .le 6, 3) := dk_164 0 6 (dk_at dksX1_needed_7 8 rfl rfl)
theorem dX1_needed_175 : decode cX1_needed 175 = .ok (.iload 5, 2) := dk_21 5 (dk_at dksX1_needed_7 11 rfl rfl)
theorem dX1_needed_177 : decode cX1_needed 177 = .ok (.ireturn, 1) := dk_172 (dk_at dksX1_needed_7 13 rfl rfl)
theorem dX1_needed_178 : decode cX1_needed 178 = .ok (.aload_n 0, 1) := dk_42 (dk_at dksX1_needed_7 14 rfl rfl)
theorem dX1_needed_179 : decode cX1_needed 179 = .ok (.getfield 77, 3) := dk_180 0 77 (dk_at dksX1_needed_7 15 rfl rfl)
theorem dX1_needed_182 : decode cX1_needed 182 = .ok (.iload 6, 2) := dk_21 6 (dk_at dksX1_needed_7 18 rfl rfl)
theorem dX1_needed_184 : decode cX1_needed 184 = .ok (.dup2, 1) := dk_92 (dk_at dksX1_needed_7 20 rfl rfl)
theorem dX1_needed_185 : decode cX1_needed 185 = .ok (.iaload, 1) := dk_46 (dk_at dksX1_needed_7 21 rfl rfl)
theorem dX1_needed_186 : decode cX1_needed 186 = .ok (.iconst 1, 1) := dk_4 (dk_at dksX1_needed_7 22 rfl rfl)
theorem dX1_needed_187 : decode cX1_needed 187 = .ok (.isub, 1) := dk_100 (dk_at dksX1_needed_7 23 rfl rfl)
theorem dX1_needed_188 : decode cX1_needed 188 = .ok (.iastore, 1) := dk_79 (dk_at dksX1_needed_8 0 rfl rfl)
theorem dX1_needed_189 : decode cX1_needed 189 = .ok (.iinc 5 1, 3) := dk_132 5 1 (dk_at dksX1_needed_8 1 rfl rfl)
theorem dX1_needed_192 : decode cX1_needed 192 = .ok (.goto (-107), 3) := dk_167 255 149 (dk_at dksX1_needed_8 4 rfl rfl)
abbrev cX1_ifSet : ByteArray := prog_1_method_71_code
def yX1_ifSet : MethodName := ⟨RX1, "ifSet", "(IIII)I"⟩
def dkwX1_ifSet_2 : List UInt8 := [180, 0, 80, 29, 21, 4, 2, 182, 1, 90, 172]
abbrev dktX1_ifSet_2 : List UInt8 := dkwX1_ifSet_2 ++ []
def dkwX1_ifSet_1 : List UInt8 := [154, 0, 5, 2, 172, 42, 180, 0, 80, 42, 180, 0, 20, 182, 0, 113, 180, 0, 148, 27, 28, 79, 42, 42]
abbrev dktX1_ifSet_1 : List UInt8 := dkwX1_ifSet_1 ++ dktX1_ifSet_2
def dkwX1_ifSet_0 : List UInt8 := [42, 27, 182, 0, 158, 153, 0, 20, 28, 184, 0, 219, 153, 0, 13, 42, 29, 21, 4, 182, 0, 236]
abbrev dktX1_ifSet_0 : List UInt8 := dkwX1_ifSet_0 ++ dktX1_ifSet_1
theorem dksX1_ifSet_0 : cX1_ifSet.data.toList.drop 0 = dktX1_ifSet_0 := by decide +kernel
theorem dksX1_ifSet_1 : cX1_ifSet.data.toList.drop 22 = dktX1_ifSet_1 := dk_seg dksX1_ifSet_0 22 rfl rfl
theorem dksX1_ifSet_2 : cX1_ifSet.data.toList.drop 46 = dktX1_ifSet_2 := dk_seg dksX1_ifSet_1 24 rfl rfl
theorem dX1_ifSet_0 : decode cX1_ifSet 0 = .ok (.aload_n 0, 1) := dk_42 (dk_at dksX1_ifSet_0 0 rfl rfl)
theorem dX1_ifSet_1 : decode cX1_ifSet 1 = .ok (.iload_n 1, 1) := dk_27 (dk_at dksX1_ifSet_0 1 rfl rfl)
theorem dX1_ifSet_2 : decode cX1_ifSet 2 = .ok (.invokevirtual 158, 3) := dk_182 0 158 (dk_at dksX1_ifSet_0 2 rfl rfl)
theorem dX1_ifSet_5 : decode cX1_ifSet 5 = .ok (.ifCond .eq 20, 3) := dk_153 0 20 (dk_at dksX1_ifSet_0 5 rfl rfl)
theorem dX1_ifSet_8 : decode cX1_ifSet 8 = .ok (.iload_n 2, 1) := dk_28 (dk_at dksX1_ifSet_0 8 rfl rfl)
theorem dX1_ifSet_9 : decode cX1_ifSet 9 = .ok (.invokestatic 219, 3) := dk_184 0 219 (dk_at dksX1_ifSet_0 9 rfl rfl)
theorem dX1_ifSet_12 : decode cX1_ifSet 12 = .ok (.ifCond .eq 13, 3) := dk_153 0 13 (dk_at dksX1_ifSet_0 12 rfl rfl)
theorem dX1_ifSet_15 : decode cX1_ifSet 15 = .ok (.aload_n 0, 1) := dk_42 (dk_at dksX1_ifSet_0 15 rfl rfl)
theorem dX1_ifSet_16 : decode cX1_ifSet 16 = .ok (.iload_n 3, 1) := dk_29 (dk_at dksX1_ifSet_0 16 rfl rfl)
theorem dX1_ifSet_17 : decode cX1_ifSet 17 = .ok (.iload 4, 2) := dk_21 4 (dk_at dksX1_ifSet_0 17 rfl rfl)
theorem dX1_ifSet_19 : decode cX1_ifSet 19 = .ok (.invokevirtual 236, 3) := dk_182 0 236 (dk_at dksX1_ifSet_0 19 rfl rfl)
theorem dX1_ifSet_22 : decode cX1_ifSet 22 = .ok (.ifCond .ne 5, 3) := dk_154 0 5 (dk_at dksX1_ifSet_1 0 rfl rfl)
theorem dX1_ifSet_25 : decode cX1_ifSet 25 = .ok (.iconst (-1), 1) := dk_2 (dk_at dksX1_ifSet_1 3 rfl rfl)
theorem dX1_ifSet_26 : decode cX1_ifSet 26 = .ok (.ireturn, 1) := dk_172 (dk_at dksX1_ifSet_1 4 rfl rfl)
theorem dX1_ifSet_27 : decode cX1_ifSet 27 = .ok (.aload_n 0, 1) := dk_42 (dk_at dksX1_ifSet_1 5 rfl rfl)
theorem dX1_ifSet_28 : decode cX1_ifSet 28 = .ok (.getfield 80, 3) := dk_180 0 80 (dk_at dksX1_ifSet_1 6 rfl rfl)
theorem dX1_ifSet_31 : decode cX1_ifSet 31 = .ok (.aload_n 0, 1) := dk_42 (dk_at dksX1_ifSet_1 9 rfl rfl)
theorem dX1_ifSet_32 : decode cX1_ifSet 32 = .ok (.getfield 20, 3) := dk_180 0 20 (dk_at dksX1_ifSet_1 10 rfl rfl)
theorem dX1_ifSet_35 : decode cX1_ifSet 35 = .ok (.invokevirtual 113, 3) := dk_182 0 113 (dk_at dksX1_ifSet_1 13 rfl rfl)
theorem dX1_ifSet_38 : decode cX1_ifSet 38 = .ok (.getfield 148, 3) := dk_180 0 148 (dk_at dksX1_ifSet_1 16 rfl rfl)
theorem dX1_ifSet_41 : decode cX1_ifSet 41 = .ok (.iload_n 1, 1) := dk_27 (dk_at dksX1_ifSet_1 19 rfl rfl)
theorem dX1_ifSet_42 : decode cX1_ifSet 42 = .ok (.iload_n 2, 1) := dk_28 (dk_at dksX1_ifSet_1 20 rfl rfl)
theorem dX1_ifSet_43 : decode cX1_ifSet 43 = .ok (.iastore, 1) := dk_79 (dk_at dksX1_ifSet_1 21 rfl rfl)
theorem dX1_ifSet_44 : decode cX1_ifSet 44 = .ok (.aload_n 0, 1) := dk_42 (dk_at dksX1_ifSet_1 22 rfl rfl)
theorem dX1_ifSet_45 : decode cX1_ifSet 45 = .ok (.aload_n 0, 1) := dk_42 (dk_at dksX1_ifSet_1 23 rfl rfl)
theorem dX1_ifSet_46 : decode cX1_ifSet 46 = .ok (.getfield 80, 3) := dk_180 0 80 (dk_at dksX1_ifSet_2 0 rfl rfl)
theorem dX1_ifSet_49 : decode cX1_ifSet 49 = .ok (.iload_n 3, 1) := dk_29 (dk_at dksX1_ifSet_2 3 rfl rfl)
theorem dX1_ifSet_50 : decode cX1_ifSet 50 = .ok (.iload 4, 2) := dk_21 4 (dk_at dksX1_ifSet_2 4 rfl rfl)
theorem dX1_ifSet_52 : decode cX1_ifSet 52 = .ok (.iconst (-1), 1) := dk_2 (dk_at dksX1_ifSet_2 6 rfl rfl)
theorem dX1_ifSet_53 : decode cX1_ifSet 53 = .ok (.invokevirtual 346, 3) := dk_182 1 90 (dk_at dksX1_ifSet_2 7 rfl rfl)
theorem dX1_ifSet_56 : decode cX1_ifSet 56 = .ok (.ireturn, 1) := dk_172 (dk_at dksX1_ifSet_2 10 rfl rfl)
abbrev cX1_plainMode : ByteArray := prog_1_method_69_code
def yX1_plainMode : MethodName := ⟨RX1, "plainMode", "(LModeDesk$Row;III)I"⟩
def dkwX1_plainMode_8 : List UInt8 := [21, 5, 2, 160, 0, 8, 16, 254, 167, 0, 10, 43, 180, 0, 148, 21, 5, 46, 172]
abbrev dktX1_plainMode_8 : List UInt8 := dkwX1_plainMode_8 ++ []
def dkwX1_plainMode_7 : List UInt8 := [182, 1, 87, 154, 0, 6, 167, 0, 11, 21, 7, 54, 5, 21, 8, 54, 6, 132, 7, 1, 167, 255, 85]
abbrev dktX1_plainMode_7 : List UInt8 := dkwX1_plainMode_7 ++ dktX1_plainMode_8
def dkwX1_plainMode_6 : List UInt8 := [21, 6, 160, 0, 31, 42, 43, 180, 0, 148, 21, 7, 46, 43, 180, 0, 148, 21, 5, 46, 21, 7, 21, 5]
abbrev dktX1_plainMode_6 : List UInt8 := dkwX1_plainMode_6 ++ dktX1_plainMode_7
def dkwX1_plainMode_5 : List UInt8 := [21, 9, 153, 0, 6, 167, 0, 59, 21, 5, 2, 159, 0, 45, 21, 8, 21, 6, 161, 0, 46, 21, 8]
abbrev dktX1_plainMode_5 : List UInt8 := dkwX1_plainMode_5 ++ dktX1_plainMode_6
def dkwX1_plainMode_4 : List UInt8 := [167, 255, 200, 42, 180, 0, 125, 4, 160, 0, 15, 21, 9, 21, 8, 4, 100, 159, 0, 14, 167, 0, 67]
abbrev dktX1_plainMode_4 : List UInt8 := dkwX1_plainMode_4 ++ dktX1_plainMode_5
def dkwX1_plainMode_3 : List UInt8 := [132, 8, 1, 21, 9, 21, 10, 21, 7, 162, 0, 7, 4, 167, 0, 4, 3, 96, 54, 9, 132, 10, 1]
abbrev dktX1_plainMode_3 : List UInt8 := dkwX1_plainMode_3 ++ dktX1_plainMode_4
def dkwX1_plainMode_2 : List UInt8 := [159, 0, 43, 43, 180, 0, 148, 21, 10, 46, 43, 180, 0, 148, 21, 7, 46, 159, 0, 6, 167, 0, 23]
abbrev dktX1_plainMode_2 : List UInt8 := dkwX1_plainMode_2 ++ dktX1_plainMode_3
def dkwX1_plainMode_1 : List UInt8 := [167, 0, 155, 3, 54, 8, 3, 54, 9, 28, 54, 10, 21, 10, 29, 163, 0, 56, 21, 10, 21, 4]
abbrev dktX1_plainMode_1 : List UInt8 := dkwX1_plainMode_1 ++ dktX1_plainMode_2
def dkwX1_plainMode_0 : List UInt8 := [2, 54, 5, 3, 54, 6, 28, 54, 7, 21, 7, 29, 163, 0, 171, 21, 7, 21, 4, 160, 0, 6]
abbrev dktX1_plainMode_0 : List UInt8 := dkwX1_plainMode_0 ++ dktX1_plainMode_1
theorem dksX1_plainMode_0 : cX1_plainMode.data.toList.drop 0 = dktX1_plainMode_0 := by decide +kernel
theorem dksX1_plainMode_1 : cX1_plainMode.data.toList.drop 22 = dktX1_plainMode_1 := dk_seg dksX1_plainMode_0 22 rfl rfl
theorem dksX1_plainMode_2 : cX1_plainMode.data.toList.drop 44 = dktX1_plainMode_2 := dk_seg dksX1_plainMode_1 22 rfl rfl
theorem dksX1_plainMode_3 : cX1_plainMode.data.toList.drop 67 = dktX1_plainMode_3 := dk_seg dksX1_plainMode_2 23 rfl rfl
theorem dksX1_plainMode_4 : cX1_plainMode.data.toList.drop 90 = dktX1_plainMode_4 := dk_seg dksX1_plainMode_3 23 rfl rfl
theorem dksX1_plainMode_5 : cX1_plainMode.data.toList.drop 113 = dktX1_plainMode_5 := dk_seg dksX1_plainMode_4 23 rfl rfl
theorem dksX1_plainMode_6 : cX1_plainMode.data.toList.drop 136 = dktX1_plainMode_6 := dk_seg dksX1_plainMode_5 23 rfl rfl
theorem dksX1_plainMode_7 : cX1_plainMode.data.toList.drop 160 = dktX1_plainMode_7 := dk_seg dksX1_plainMode_6 24 rfl rfl
theorem dksX1_plainMode_8 : cX1_plainMode.data.toList.drop 183 = dktX1_plainMode_8 := dk_seg dksX1_plainMode_7 23 rfl rfl
theorem dX1_plainMode_0 : decode cX1_plainMode 0 = .ok (.iconst (-1), 1) := dk_2 (dk_at dksX1_plainMode_0 0 rfl rfl)
theorem dX1_plainMode_1 : decode cX1_plainMode 1 = .ok (.istore 5, 2) := dk_54 5 (dk_at dksX1_plainMode_0 1 rfl rfl)
theorem dX1_plainMode_3 : decode cX1_plainMode 3 = .ok (.iconst 0, 1) := dk_3 (dk_at dksX1_plainMode_0 3 rfl rfl)
theorem dX1_plainMode_4 : decode cX1_plainMode 4 = .ok (.istore 6, 2) := dk_54 6 (dk_at dksX1_plainMode_0 4 rfl rfl)
theorem dX1_plainMode_6 : decode cX1_plainMode 6 = .ok (.iload_n 2, 1) := dk_28 (dk_at dksX1_plainMode_0 6 rfl rfl)
theorem dX1_plainMode_7 : decode cX1_plainMode 7 = .ok (.istore 7, 2) := dk_54 7 (dk_at dksX1_plainMode_0 7 rfl rfl)
theorem dX1_plainMode_9 : decode cX1_plainMode 9 = .ok (.iload 7, 2) := dk_21 7 (dk_at dksX1_plainMode_0 9 rfl rfl)
theorem dX1_plainMode_11 : decode cX1_plainMode 11 = .ok (.iload_n 3, 1) := dk_29 (dk_at dksX1_plainMode_0 11 rfl rfl)
theorem dX1_plainMode_12 : decode cX1_plainMode 12 = .ok (.if_icmp .gt 171, 3) := dk_163 0 171 (dk_at dksX1_plainMode_0 12 rfl rfl)
theorem dX1_plainMode_15 : decode cX1_plainMode 15 = .ok (.iload 7, 2) := dk_21 7 (dk_at dksX1_plainMode_0 15 rfl rfl)
theorem dX1_plainMode_17 : decode cX1_plainMode 17 = .ok (.iload 4, 2) := dk_21 4 (dk_at dksX1_plainMode_0 17 rfl rfl)
theorem dX1_plainMode_19 : decode cX1_plainMode 19 = .ok (.if_icmp .ne 6, 3) := dk_160 0 6 (dk_at dksX1_plainMode_0 19 rfl rfl)
theorem dX1_plainMode_22 : decode cX1_plainMode 22 = .ok (.goto 155, 3) := dk_167 0 155 (dk_at dksX1_plainMode_1 0 rfl rfl)
theorem dX1_plainMode_25 : decode cX1_plainMode 25 = .ok (.iconst 0, 1) := dk_3 (dk_at dksX1_plainMode_1 3 rfl rfl)
theorem dX1_plainMode_26 : decode cX1_plainMode 26 = .ok (.istore 8, 2) := dk_54 8 (dk_at dksX1_plainMode_1 4 rfl rfl)
theorem dX1_plainMode_28 : decode cX1_plainMode 28 = .ok (.iconst 0, 1) := dk_3 (dk_at dksX1_plainMode_1 6 rfl rfl)
theorem dX1_plainMode_29 : decode cX1_plainMode 29 = .ok (.istore 9, 2) := dk_54 9 (dk_at dksX1_plainMode_1 7 rfl rfl)
theorem dX1_plainMode_31 : decode cX1_plainMode 31 = .ok (.iload_n 2, 1) := dk_28 (dk_at dksX1_plainMode_1 9 rfl rfl)
theorem dX1_plainMode_32 : decode cX1_plainMode 32 = .ok (.istore 10, 2) := dk_54 10 (dk_at dksX1_plainMode_1 10 rfl rfl)
theorem dX1_plainMode_34 : decode cX1_plainMode 34 = .ok (.iload 10, 2) := dk_21 10 (dk_at dksX1_plainMode_1 12 rfl rfl)
theorem dX1_plainMode_36 : decode cX1_plainMode 36 = .ok (.iload_n 3, 1) := dk_29 (dk_at dksX1_plainMode_1 14 rfl rfl)
theorem dX1_plainMode_37 : decode cX1_plainMode 37 = .ok (.if_icmp .gt 56, 3) := dk_163 0 56 (dk_at dksX1_plainMode_1 15 rfl rfl)
theorem dX1_plainMode_40 : decode cX1_plainMode 40 = .ok (.iload 10, 2) := dk_21 10 (dk_at dksX1_plainMode_1 18 rfl rfl)
theorem dX1_plainMode_42 : decode cX1_plainMode 42 = .ok (.iload 4, 2) := dk_21 4 (dk_at dksX1_plainMode_1 20 rfl rfl)
theorem dX1_plainMode_44 : decode cX1_plainMode 44 = .ok (.if_icmp .eq 43, 3) := dk_159 0 43 (dk_at dksX1_plainMode_2 0 rfl rfl)
theorem dX1_plainMode_47 : decode cX1_plainMode 47 = .ok (.aload_n 1, 1) := dk_43 (dk_at dksX1_plainMode_2 3 rfl rfl)
theorem dX1_plainMode_48 : decode cX1_plainMode 48 = .ok (.getfield 148, 3) := dk_180 0 148 (dk_at dksX1_plainMode_2 4 rfl rfl)
theorem dX1_plainMode_51 : decode cX1_plainMode 51 = .ok (.iload 10, 2) := dk_21 10 (dk_at dksX1_plainMode_2 7 rfl rfl)
theorem dX1_plainMode_53 : decode cX1_plainMode 53 = .ok (.iaload, 1) := dk_46 (dk_at dksX1_plainMode_2 9 rfl rfl)
theorem dX1_plainMode_54 : decode cX1_plainMode 54 = .ok (.aload_n 1, 1) := dk_43 (dk_at dksX1_plainMode_2 10 rfl rfl)
theorem dX1_plainMode_55 : decode cX1_plainMode 55 = .ok (.getfield 148, 3) := dk_180 0 148 (dk_at dksX1_plainMode_2 11 rfl rfl)
theorem dX1_plainMode_58 : decode cX1_plainMode 58 = .ok (.iload 7, 2) := dk_21 7 (dk_at dksX1_plainMode_2 14 rfl rfl)
theorem dX1_plainMode_60 : decode cX1_plainMode 60 = .ok (.iaload, 1) := dk_46 (dk_at dksX1_plainMode_2 16 rfl rfl)
theorem dX1_plainMode_61 : decode cX1_plainMode 61 = .ok (.if_icmp .eq 6, 3) := dk_159 0 6 (dk_at dksX1_plainMode_2 17 rfl rfl)
theorem dX1_plainMode_64 : decode cX1_plainMode 64 = .ok (.goto 23, 3) := dk_167 0 23 (dk_at dksX1_plainMode_2 20 rfl rfl)
theorem dX1_plainMode_67 : decode cX1_plainMode 67 = .ok (.iinc 8 1, 3) := dk_132 8 1 (dk_at dksX1_plainMode_3 0 rfl rfl)
theorem dX1_plainMode_70 : decode cX1_plainMode 70 = .ok (.iload 9, 2) := dk_21 9 (dk_at dksX1_plainMode_3 3 rfl rfl)
theorem dX1_plainMode_72 : decode cX1_plainMode 72 = .ok (.iload 10, 2) := dk_21 10 (dk_at dksX1_plainMode_3 5 rfl rfl)
theorem dX1_plainMode_74 : decode cX1_plainMode 74 = .ok (.iload 7, 2) := dk_21 7 (dk_at dksX1_plainMode_3 7 rfl rfl)
theorem dX1_plainMode_76 : decode cX1_plainMode 76 = .ok (.if_icmp .ge 7, 3) := dk_162 0 7 (dk_at dksX1_plainMode_3 9 rfl rfl)
theorem dX1_plainMode_79 : decode cX1_plainMode 79 = .ok (.iconst 1, 1) := dk_4 (dk_at dksX1_plainMode_3 12 rfl rfl)
theorem dX1_plainMode_80 : decode cX1_plainMode 80 = .ok (.goto 4, 3) := dk_167 0 4 (dk_at dksX1_plainMode_3 13 rfl rfl)
theorem dX1_plainMode_83 : decode cX1_plainMode 83 = .ok (.iconst 0, 1) := dk_3 (dk_at dksX1_plainMode_3 16 rfl rfl)
theorem dX1_plainMode_84 : decode cX1_plainMode 84 = .ok (.iadd, 1) := dk_96 (dk_at dksX1_plainMode_3 17 rfl rfl)
theorem dX1_plainMode_85 : decode cX1_plainMode 85 = .ok (.istore 9, 2) := dk_54 9 (dk_at dksX1_plainMode_3 18 rfl rfl)
theorem dX1_plainMode_87 : decode cX1_plainMode 87 = .ok (.iinc 10 1, 3) := dk_132 10 1 (dk_at dksX1_plainMode_3 20 rfl rfl)
theorem dX1_plainMode_90 : decode cX1_plainMode 90 = .ok (.goto (-56), 3) := dk_167 255 200 (dk_at dksX1_plainMode_4 0 rfl rfl)
theorem dX1_plainMode_93 : decode cX1_plainMode 93 = .ok (.aload_n 0, 1) := dk_42 (dk_at dksX1_plainMode_4 3 rfl rfl)
theorem dX1_plainMode_94 : decode cX1_plainMode 94 = .ok (.getfield 125, 3) := dk_180 0 125 (dk_at dksX1_plainMode_4 4 rfl rfl)
theorem dX1_plainMode_97 : decode cX1_plainMode 97 = .ok (.iconst 1, 1) := dk_4 (dk_at dksX1_plainMode_4 7 rfl rfl)
theorem dX1_plainMode_98 : decode cX1_plainMode 98 = .ok (.if_icmp .ne 15, 3) := dk_160 0 15 (dk_at dksX1_plainMode_4 8 rfl rfl)
theorem dX1_plainMode_101 : decode cX1_plainMode 101 = .ok (.iload 9, 2) := dk_21 9 (dk_at dksX1_plainMode_4 11 rfl rfl)
theorem dX1_plainMode_103 : decode cX1_plainMode 103 = .ok (.iload 8, 2) := dk_21 8 (dk_at dksX1_plainMode_4 13 rfl rfl)
theorem dX1_plainMode_105 : decode cX1_plainMode 105 = .ok (.iconst 1, 1) := dk_4 (dk_at dksX1_plainMode_4 15 rfl rfl)
theorem dX1_plainMode_106 : decode cX1_plainMode 106 = .ok (.isub, 1) := dk_100 (dk_at dksX1_plainMode_4 16 rfl rfl)
theorem dX1_plainMode_107 : decode cX1_plainMode 107 = .ok (.if_icmp .eq 14, 3) := dk_159 0 14 (dk_at dksX1_plainMode_4 17 rfl rfl)
theorem dX1_plainMode_110 : decode cX1_plainMode 110 = .ok (.goto 67, 3) := dk_167 0 67 (dk_at dksX1_plainMode_4 20 rfl rfl)
theorem dX1_plainMode_113 : decode cX1_plainMode 113 = .ok (.iload 9, 2) := dk_21 9 (dk_at dksX1_plainMode_5 0 rfl rfl)
theorem dX1_plainMode_115 : decode cX1_plainMode 115 = .ok (.ifCond .eq 6, 3) := dk_153 0 6 (dk_at dksX1_plainMode_5 2 rfl rfl)
theorem dX1_plainMode_118 : decode cX1_plainMode 118 = .ok (.goto 59, 3) := dk_167 0 59 (dk_at dksX1_plainMode_5 5 rfl rfl)
theorem dX1_plainMode_121 : decode cX1_plainMode 121 = .ok (.iload 5, 2) := dk_21 5 (dk_at dksX1_plainMode_5 8 rfl rfl)
theorem dX1_plainMode_123 : decode cX1_plainMode 123 = .ok (.iconst (-1), 1) := dk_2 (dk_at dksX1_plainMode_5 10 rfl rfl)
theorem dX1_plainMode_124 : decode cX1_plainMode 124 = .ok (.if_icmp .eq 45, 3) := dk_159 0 45 (dk_at dksX1_plainMode_5 11 rfl rfl)
theorem dX1_plainMode_127 : decode cX1_plainMode 127 = .ok (.iload 8, 2) := dk_21 8 (dk_at dksX1_plainMode_5 14 rfl rfl)
theorem dX1_plainMode_129 : decode cX1_plainMode 129 = .ok (.iload 6, 2) := dk_21 6 (dk_at dksX1_plainMode_5 16 rfl rfl)
theorem dX1_plainMode_131 : decode cX1_plainMode 131 = .ok (.if_icmp .lt 46, 3) := dk_161 0 46 (dk_at dksX1_plainMode_5 18 rfl rfl)
theorem dX1_plainMode_134 : decode cX1_plainMode 134 = .ok (.iload 8, 2) := dk_21 8 (dk_at dksX1_plainMode_5 21 rfl rfl)
theorem dX1_plainMode_136 : decode cX1_plainMode 136 = .ok (.iload 6, 2) := dk_21 6 (dk_at dksX1_plainMode_6 0 rfl rfl)
theorem dX1_plainMode_138 : decode cX1_plainMode 138 = .ok (.if_icmp .ne 31, 3) := dk_160 0 31 (dk_at dksX1_plainMode_6 2 rfl rfl)
theorem dX1_plainMode_141 : decode cX1_plainMode 141 = .ok (.aload_n 0, 1) := dk_42 (dk_at dksX1_plainMode_6 5 rfl rfl)
theorem dX1_plainMode_142 : decode cX1_plainMode 142 = .ok (.aload_n 1, 1) := dk_43 (dk_at dksX1_plainMode_6 6 rfl rfl)
theorem dX1_plainMode_143 : decode cX1_plainMode 143 = .ok (.getfield 148, 3) := dk_180 0 148 (dk_at dksX1_plainMode_6 7 rfl rfl)
theorem dX1_plainMode_146 : decode cX1_plainMode 146 = .ok (.iload 7, 2) := dk_21 7 (dk_at dksX1_plainMode_6 10 rfl rfl)
theorem dX1_plainMode_148 : decode cX1_plainMode 148 = .ok (.iaload, 1) := dk_46 (dk_at dksX1_plainMode_6 12 rfl rfl)
theorem dX1_plainMode_149 : decode cX1_plainMode 149 = .ok (.aload_n 1, 1) := dk_43 (dk_at dksX1_plainMode_6 13 rfl rfl)
theorem dX1_plainMode_150 : decode cX1_plainMode 150 = .ok (.getfield 148, 3) := dk_180 0 148 (dk_at dksX1_plainMode_6 14 rfl rfl)
theorem dX1_plainMode_153 : decode cX1_plainMode 153 = .ok (.iload 5, 2) := dk_21 5 (dk_at dksX1_plainMode_6 17 rfl rfl)
theorem dX1_plainMode_155 : decode cX1_plainMode 155 = .ok (.iaload, 1) := dk_46 (dk_at dksX1_plainMode_6 19 rfl rfl)
theorem dX1_plainMode_156 : decode cX1_plainMode 156 = .ok (.iload 7, 2) := dk_21 7 (dk_at dksX1_plainMode_6 20 rfl rfl)
theorem dX1_plainMode_158 : decode cX1_plainMode 158 = .ok (.iload 5, 2) := dk_21 5 (dk_at dksX1_plainMode_6 22 rfl rfl)
theorem dX1_plainMode_160 : decode cX1_plainMode 160 = .ok (.invokevirtual 343, 3) := dk_182 1 87 (dk_at dksX1_plainMode_7 0 rfl rfl)
theorem dX1_plainMode_163 : decode cX1_plainMode 163 = .ok (.ifCond .ne 6, 3) := dk_154 0 6 (dk_at dksX1_plainMode_7 3 rfl rfl)
theorem dX1_plainMode_166 : decode cX1_plainMode 166 = .ok (.goto 11, 3) := dk_167 0 11 (dk_at dksX1_plainMode_7 6 rfl rfl)
theorem dX1_plainMode_169 : decode cX1_plainMode 169 = .ok (.iload 7, 2) := dk_21 7 (dk_at dksX1_plainMode_7 9 rfl rfl)
theorem dX1_plainMode_171 : decode cX1_plainMode 171 = .ok (.istore 5, 2) := dk_54 5 (dk_at dksX1_plainMode_7 11 rfl rfl)
theorem dX1_plainMode_173 : decode cX1_plainMode 173 = .ok (.iload 8, 2) := dk_21 8 (dk_at dksX1_plainMode_7 13 rfl rfl)
theorem dX1_plainMode_175 : decode cX1_plainMode 175 = .ok (.istore 6, 2) := dk_54 6 (dk_at dksX1_plainMode_7 15 rfl rfl)
theorem dX1_plainMode_177 : decode cX1_plainMode 177 = .ok (.iinc 7 1, 3) := dk_132 7 1 (dk_at dksX1_plainMode_7 17 rfl rfl)
theorem dX1_plainMode_180 : decode cX1_plainMode 180 = .ok (.goto (-171), 3) := dk_167 255 85 (dk_at dksX1_plainMode_7 20 rfl rfl)
theorem dX1_plainMode_183 : decode cX1_plainMode 183 = .ok (.iload 5, 2) := dk_21 5 (dk_at dksX1_plainMode_8 0 rfl rfl)
theorem dX1_plainMode_185 : decode cX1_plainMode 185 = .ok (.iconst (-1), 1) := dk_2 (dk_at dksX1_plainMode_8 2 rfl rfl)
theorem dX1_plainMode_186 : decode cX1_plainMode 186 = .ok (.if_icmp .ne 8, 3) := dk_160 0 8 (dk_at dksX1_plainMode_8 3 rfl rfl)
theorem dX1_plainMode_189 : decode cX1_plainMode 189 = .ok (.bipush (-2), 2) := dk_16 254 (dk_at dksX1_plainMode_8 6 rfl rfl)
theorem dX1_plainMode_191 : decode cX1_plainMode 191 = .ok (.goto 10, 3) := dk_167 0 10 (dk_at dksX1_plainMode_8 8 rfl rfl)
theorem dX1_plainMode_194 : decode cX1_plainMode 194 = .ok (.aload_n 1, 1) := dk_43 (dk_at dksX1_plainMode_8 11 rfl rfl)
theorem dX1_plainMode_195 : decode cX1_plainMode 195 = .ok (.getfield 148, 3) := dk_180 0 148 (dk_at dksX1_plainMode_8 12 rfl rfl)
theorem dX1_plainMode_198 : decode cX1_plainMode 198 = .ok (.iload 5, 2) := dk_21 5 (dk_at dksX1_plainMode_8 15 rfl rfl)
theorem dX1_plainMode_200 : decode cX1_plainMode 200 = .ok (.iaload, 1) := dk_46 (dk_at dksX1_plainMode_8 17 rfl rfl)
theorem dX1_plainMode_201 : decode cX1_plainMode 201 = .ok (.ireturn, 1) := dk_172 (dk_at dksX1_plainMode_8 18 rfl rfl)
abbrev cX1_isTieAhead : ByteArray := prog_1_method_70_code
def yX1_isTieAhead : MethodName := ⟨RX1, "isTieAhead", "(IIII)Z"⟩
def dkwX1_isTieAhead_3 : List UInt8 := [164, 0, 7, 4, 167, 0, 4, 3, 172]
abbrev dktX1_isTieAhead_3 : List UInt8 := dkwX1_isTieAhead_3 ++ []
def dkwX1_isTieAhead_2 : List UInt8 := [180, 0, 125, 5, 160, 0, 16, 27, 28, 162, 0, 7, 4, 167, 0, 17, 3, 167, 0, 13, 27, 28]
abbrev dktX1_isTieAhead_2 : List UInt8 := dkwX1_isTieAhead_2 ++ dktX1_isTieAhead_3
def dkwX1_isTieAhead_1 : List UInt8 := [180, 0, 125, 4, 160, 0, 17, 29, 21, 4, 164, 0, 7, 4, 167, 0, 38, 3, 167, 0, 34, 42]
abbrev dktX1_isTieAhead_1 : List UInt8 := dkwX1_isTieAhead_1 ++ dktX1_isTieAhead_2
def dkwX1_isTieAhead_0 : List UInt8 := [42, 180, 0, 125, 154, 0, 17, 29, 21, 4, 162, 0, 7, 4, 167, 0, 60, 3, 167, 0, 56, 42]
abbrev dktX1_isTieAhead_0 : List UInt8 := dkwX1_isTieAhead_0 ++ dktX1_isTieAhead_1
theorem dksX1_isTieAhead_0 : cX1_isTieAhead.data.toList.drop 0 = dktX1_isTieAhead_0 := by decide +kernel
theorem dksX1_isTieAhead_1 : cX1_isTieAhead.data.toList.drop 22 = dktX1_isTieAhead_1 := dk_seg dksX1_isTieAhead_0 22 rfl rfl
theorem dksX1_isTieAhead_2 : cX1_isTieAhead.data.toList.drop 44 = dktX1_isTieAhead_2 := dk_seg dksX1_isTieAhead_1 22 rfl rfl
theorem dksX1_isTieAhead_3 : cX1_isTieAhead.data.toList.drop 66 = dktX1_isTieAhead_3 := dk_seg dksX1_isTieAhead_2 22 rfl rfl
theorem dX1_isTieAhead_0 : decode cX1_isTieAhead 0 = .ok (.aload_n 0, 1) := dk_42 (dk_at dksX1_isTieAhead_0 0 rfl rfl)
theorem dX1_isTieAhead_1 : decode cX1_isTieAhead 1 = .ok (.getfield 125, 3) := dk_180 0 125 (dk_at dksX1_isTieAhead_0 1 rfl rfl)
theorem dX1_isTieAhead_4 : decode cX1_isTieAhead 4 = .ok (.ifCond .ne 17, 3) := dk_154 0 17 (dk_at dksX1_isTieAhead_0 4 rfl rfl)
theorem dX1_isTieAhead_7 : decode cX1_isTieAhead 7 = .ok (.iload_n 3, 1) := dk_29 (dk_at dksX1_isTieAhead_0 7 rfl rfl)
theorem dX1_isTieAhead_8 : decode cX1_isTieAhead 8 = .ok (.iload 4, 2) := dk_21 4 (dk_at dksX1_isTieAhead_0 8 rfl rfl)
theorem dX1_isTieAhead_10 : decode cX1_isTieAhead 10 = .ok (.if_icmp .ge 7, 3) := dk_162 0 7 (dk_at dksX1_isTieAhead_0 10 rfl rfl)
theorem dX1_isTieAhead_13 : decode cX1_isTieAhead 13 = .ok (.iconst 1, 1) := dk_4 (dk_at dksX1_isTieAhead_0 13 rfl rfl)
theorem dX1_isTieAhead_14 : decode cX1_isTieAhead 14 = .ok (.goto 60, 3) := dk_167 0 60 (dk_at dksX1_isTieAhead_0 14 rfl rfl)
theorem dX1_isTieAhead_17 : decode cX1_isTieAhead 17 = .ok (.iconst 0, 1) := dk_3 (dk_at dksX1_isTieAhead_0 17 rfl rfl)
theorem dX1_isTieAhead_18 : decode cX1_isTieAhead 18 = .ok (.goto 56, 3) := dk_167 0 56 (dk_at dksX1_isTieAhead_0 18 rfl rfl)
theorem dX1_isTieAhead_21 : decode cX1_isTieAhead 21 = .ok (.aload_n 0, 1) := dk_42 (dk_at dksX1_isTieAhead_0 21 rfl rfl)
theorem dX1_isTieAhead_22 : decode cX1_isTieAhead 22 = .ok (.getfield 125, 3) := dk_180 0 125 (dk_at dksX1_isTieAhead_1 0 rfl rfl)
theorem dX1_isTieAhead_25 : decode cX1_isTieAhead 25 = .ok (.iconst 1, 1) := dk_4 (dk_at dksX1_isTieAhead_1 3 rfl rfl)
theorem dX1_isTieAhead_26 : decode cX1_isTieAhead 26 = .ok (.if_icmp .ne 17, 3) := dk_160 0 17 (dk_at dksX1_isTieAhead_1 4 rfl rfl)
theorem dX1_isTieAhead_29 : decode cX1_isTieAhead 29 = .ok (.iload_n 3, 1) := dk_29 (dk_at dksX1_isTieAhead_1 7 rfl rfl)
theorem dX1_isTieAhead_30 : decode cX1_isTieAhead 30 = .ok (.iload 4, 2) := dk_21 4 (dk_at dksX1_isTieAhead_1 8 rfl rfl)
theorem dX1_isTieAhead_32 : decode cX1_isTieAhead 32 = .ok (.if_icmp .le 7, 3) := dk_164 0 7 (dk_at dksX1_isTieAhead_1 10 rfl rfl)
theorem dX1_isTieAhead_35 : decode cX1_isTieAhead 35 = .ok (.iconst 1, 1) := dk_4 (dk_at dksX1_isTieAhead_1 13 rfl rfl)
theorem dX1_isTieAhead_36 : decode cX1_isTieAhead 36 = .ok (.goto 38, 3) := dk_167 0 38 (dk_at dksX1_isTieAhead_1 14 rfl rfl)
theorem dX1_isTieAhead_39 : decode cX1_isTieAhead 39 = .ok (.iconst 0, 1) := dk_3 (dk_at dksX1_isTieAhead_1 17 rfl rfl)
theorem dX1_isTieAhead_40 : decode cX1_isTieAhead 40 = .ok (.goto 34, 3) := dk_167 0 34 (dk_at dksX1_isTieAhead_1 18 rfl rfl)
theorem dX1_isTieAhead_43 : decode cX1_isTieAhead 43 = .ok (.aload_n 0, 1) := dk_42 (dk_at dksX1_isTieAhead_1 21 rfl rfl)
theorem dX1_isTieAhead_44 : decode cX1_isTieAhead 44 = .ok (.getfield 125, 3) := dk_180 0 125 (dk_at dksX1_isTieAhead_2 0 rfl rfl)
theorem dX1_isTieAhead_47 : decode cX1_isTieAhead 47 = .ok (.iconst 2, 1) := dk_5 (dk_at dksX1_isTieAhead_2 3 rfl rfl)
theorem dX1_isTieAhead_48 : decode cX1_isTieAhead 48 = .ok (.if_icmp .ne 16, 3) := dk_160 0 16 (dk_at dksX1_isTieAhead_2 4 rfl rfl)
theorem dX1_isTieAhead_51 : decode cX1_isTieAhead 51 = .ok (.iload_n 1, 1) := dk_27 (dk_at dksX1_isTieAhead_2 7 rfl rfl)
theorem dX1_isTieAhead_52 : decode cX1_isTieAhead 52 = .ok (.iload_n 2, 1) := dk_28 (dk_at dksX1_isTieAhead_2 8 rfl rfl)
theorem dX1_isTieAhead_53 : decode cX1_isTieAhead 53 = .ok (.if_icmp .ge 7, 3) := dk_162 0 7 (dk_at dksX1_isTieAhead_2 9 rfl rfl)
theorem dX1_isTieAhead_56 : decode cX1_isTieAhead 56 = .ok (.iconst 1, 1) := dk_4 (dk_at dksX1_isTieAhead_2 12 rfl rfl)
theorem dX1_isTieAhead_57 : decode cX1_isTieAhead 57 = .ok (.goto 17, 3) := dk_167 0 17 (dk_at dksX1_isTieAhead_2 13 rfl rfl)
theorem dX1_isTieAhead_60 : decode cX1_isTieAhead 60 = .ok (.iconst 0, 1) := dk_3 (dk_at dksX1_isTieAhead_2 16 rfl rfl)
theorem dX1_isTieAhead_61 : decode cX1_isTieAhead 61 = .ok (.goto 13, 3) := dk_167 0 13 (dk_at dksX1_isTieAhead_2 17 rfl rfl)
theorem dX1_isTieAhead_64 : decode cX1_isTieAhead 64 = .ok (.iload_n 1, 1) := dk_27 (dk_at dksX1_isTieAhead_2 20 rfl rfl)
theorem dX1_isTieAhead_65 : decode cX1_isTieAhead 65 = .ok (.iload_n 2, 1) := dk_28 (dk_at dksX1_isTieAhead_2 21 rfl rfl)
theorem dX1_isTieAhead_66 : decode cX1_isTieAhead 66 = .ok (.if_icmp .le 7, 3) := dk_164 0 7 (dk_at dksX1_isTieAhead_3 0 rfl rfl)
theorem dX1_isTieAhead_69 : decode cX1_isTieAhead 69 = .ok (.iconst 1, 1) := dk_4 (dk_at dksX1_isTieAhead_3 3 rfl rfl)
theorem dX1_isTieAhead_70 : decode cX1_isTieAhead 70 = .ok (.goto 4, 3) := dk_167 0 4 (dk_at dksX1_isTieAhead_3 4 rfl rfl)
theorem dX1_isTieAhead_73 : decode cX1_isTieAhead 73 = .ok (.iconst 0, 1) := dk_3 (dk_at dksX1_isTieAhead_3 7 rfl rfl)
theorem dX1_isTieAhead_74 : decode cX1_isTieAhead 74 = .ok (.ireturn, 1) := dk_172 (dk_at dksX1_isTieAhead_3 8 rfl rfl)
abbrev cX1_ifOut : ByteArray := prog_1_method_72_code
def yX1_ifOut : MethodName := ⟨RX1, "ifOut", "(III)I"⟩
def dkwX1_ifOut_1 : List UInt8 := [180, 0, 20, 28, 29, 27, 182, 1, 90, 167, 0, 4, 2, 172]
abbrev dktX1_ifOut_1 : List UInt8 := dkwX1_ifOut_1 ++ []
def dkwX1_ifOut_0 : List UInt8 := [42, 28, 29, 182, 0, 236, 153, 0, 29, 27, 133, 28, 133, 29, 133, 184, 0, 89, 153, 0, 17, 42, 42]
abbrev dktX1_ifOut_0 : List UInt8 := dkwX1_ifOut_0 ++ dktX1_ifOut_1
theorem dksX1_ifOut_0 : cX1_ifOut.data.toList.drop 0 = dktX1_ifOut_0 := by decide +kernel
theorem dksX1_ifOut_1 : cX1_ifOut.data.toList.drop 23 = dktX1_ifOut_1 := dk_seg dksX1_ifOut_0 23 rfl rfl
theorem dX1_ifOut_0 : decode cX1_ifOut 0 = .ok (.aload_n 0, 1) := dk_42 (dk_at dksX1_ifOut_0 0 rfl rfl)
theorem dX1_ifOut_1 : decode cX1_ifOut 1 = .ok (.iload_n 2, 1) := dk_28 (dk_at dksX1_ifOut_0 1 rfl rfl)
theorem dX1_ifOut_2 : decode cX1_ifOut 2 = .ok (.iload_n 3, 1) := dk_29 (dk_at dksX1_ifOut_0 2 rfl rfl)
theorem dX1_ifOut_3 : decode cX1_ifOut 3 = .ok (.invokevirtual 236, 3) := dk_182 0 236 (dk_at dksX1_ifOut_0 3 rfl rfl)
theorem dX1_ifOut_6 : decode cX1_ifOut 6 = .ok (.ifCond .eq 29, 3) := dk_153 0 29 (dk_at dksX1_ifOut_0 6 rfl rfl)
theorem dX1_ifOut_9 : decode cX1_ifOut 9 = .ok (.iload_n 1, 1) := dk_27 (dk_at dksX1_ifOut_0 9 rfl rfl)
theorem dX1_ifOut_10 : decode cX1_ifOut 10 = .ok (.i2l, 1) := dk_133 (dk_at dksX1_ifOut_0 10 rfl rfl)
theorem dX1_ifOut_11 : decode cX1_ifOut 11 = .ok (.iload_n 2, 1) := dk_28 (dk_at dksX1_ifOut_0 11 rfl rfl)
theorem dX1_ifOut_12 : decode cX1_ifOut 12 = .ok (.i2l, 1) := dk_133 (dk_at dksX1_ifOut_0 12 rfl rfl)
theorem dX1_ifOut_13 : decode cX1_ifOut 13 = .ok (.iload_n 3, 1) := dk_29 (dk_at dksX1_ifOut_0 13 rfl rfl)
theorem dX1_ifOut_14 : decode cX1_ifOut 14 = .ok (.i2l, 1) := dk_133 (dk_at dksX1_ifOut_0 14 rfl rfl)
theorem dX1_ifOut_15 : decode cX1_ifOut 15 = .ok (.invokestatic 89, 3) := dk_184 0 89 (dk_at dksX1_ifOut_0 15 rfl rfl)
theorem dX1_ifOut_18 : decode cX1_ifOut 18 = .ok (.ifCond .eq 17, 3) := dk_153 0 17 (dk_at dksX1_ifOut_0 18 rfl rfl)
theorem dX1_ifOut_21 : decode cX1_ifOut 21 = .ok (.aload_n 0, 1) := dk_42 (dk_at dksX1_ifOut_0 21 rfl rfl)
theorem dX1_ifOut_22 : decode cX1_ifOut 22 = .ok (.aload_n 0, 1) := dk_42 (dk_at dksX1_ifOut_0 22 rfl rfl)
theorem dX1_ifOut_23 : decode cX1_ifOut 23 = .ok (.getfield 20, 3) := dk_180 0 20 (dk_at dksX1_ifOut_1 0 rfl rfl)
theorem dX1_ifOut_26 : decode cX1_ifOut 26 = .ok (.iload_n 2, 1) := dk_28 (dk_at dksX1_ifOut_1 3 rfl rfl)
theorem dX1_ifOut_27 : decode cX1_ifOut 27 = .ok (.iload_n 3, 1) := dk_29 (dk_at dksX1_ifOut_1 4 rfl rfl)
theorem dX1_ifOut_28 : decode cX1_ifOut 28 = .ok (.iload_n 1, 1) := dk_27 (dk_at dksX1_ifOut_1 5 rfl rfl)
theorem dX1_ifOut_29 : decode cX1_ifOut 29 = .ok (.invokevirtual 346, 3) := dk_182 1 90 (dk_at dksX1_ifOut_1 6 rfl rfl)
theorem dX1_ifOut_32 : decode cX1_ifOut 32 = .ok (.goto 4, 3) := dk_167 0 4 (dk_at dksX1_ifOut_1 9 rfl rfl)
theorem dX1_ifOut_35 : decode cX1_ifOut 35 = .ok (.iconst (-1), 1) := dk_2 (dk_at dksX1_ifOut_1 12 rfl rfl)
theorem dX1_ifOut_36 : decode cX1_ifOut 36 = .ok (.ireturn, 1) := dk_172 (dk_at dksX1_ifOut_1 13 rfl rfl)
abbrev cX1_ifTies : ByteArray := prog_1_method_73_code
def yX1_ifTies : MethodName := ⟨RX1, "ifTies", "(III)I"⟩
def dkwX1_ifTies_1 : List UInt8 := [28, 29, 182, 1, 43, 42, 28, 29, 27, 182, 1, 24, 172]
abbrev dktX1_ifTies_1 : List UInt8 := dkwX1_ifTies_1 ++ []
def dkwX1_ifTies_0 : List UInt8 := [27, 133, 9, 20, 1, 34, 184, 0, 89, 153, 0, 12, 42, 28, 29, 182, 0, 236, 154, 0, 5, 2, 172, 42]
abbrev dktX1_ifTies_0 : List UInt8 := dkwX1_ifTies_0 ++ dktX1_ifTies_1
theorem dksX1_ifTies_0 : cX1_ifTies.data.toList.drop 0 = dktX1_ifTies_0 := by decide +kernel
theorem dksX1_ifTies_1 : cX1_ifTies.data.toList.drop 24 = dktX1_ifTies_1 := dk_seg dksX1_ifTies_0 24 rfl rfl
theorem dX1_ifTies_0 : decode cX1_ifTies 0 = .ok (.iload_n 1, 1) := dk_27 (dk_at dksX1_ifTies_0 0 rfl rfl)
theorem dX1_ifTies_1 : decode cX1_ifTies 1 = .ok (.i2l, 1) := dk_133 (dk_at dksX1_ifTies_0 1 rfl rfl)
theorem dX1_ifTies_2 : decode cX1_ifTies 2 = .ok (.lconst 0, 1) := dk_9 (dk_at dksX1_ifTies_0 2 rfl rfl)
theorem dX1_ifTies_3 : decode cX1_ifTies 3 = .ok (.ldc2_w 290, 3) := dk_20 1 34 (dk_at dksX1_ifTies_0 3 rfl rfl)
theorem dX1_ifTies_6 : decode cX1_ifTies 6 = .ok (.invokestatic 89, 3) := dk_184 0 89 (dk_at dksX1_ifTies_0 6 rfl rfl)
theorem dX1_ifTies_9 : decode cX1_ifTies 9 = .ok (.ifCond .eq 12, 3) := dk_153 0 12 (dk_at dksX1_ifTies_0 9 rfl rfl)
theorem dX1_ifTies_12 : decode cX1_ifTies 12 = .ok (.aload_n 0, 1) := dk_42 (dk_at dksX1_ifTies_0 12 rfl rfl)
theorem dX1_ifTies_13 : decode cX1_ifTies 13 = .ok (.iload_n 2, 1) := dk_28 (dk_at dksX1_ifTies_0 13 rfl rfl)
theorem dX1_ifTies_14 : decode cX1_ifTies 14 = .ok (.iload_n 3, 1) := dk_29 (dk_at dksX1_ifTies_0 14 rfl rfl)
theorem dX1_ifTies_15 : decode cX1_ifTies 15 = .ok (.invokevirtual 236, 3) := dk_182 0 236 (dk_at dksX1_ifTies_0 15 rfl rfl)
theorem dX1_ifTies_18 : decode cX1_ifTies 18 = .ok (.ifCond .ne 5, 3) := dk_154 0 5 (dk_at dksX1_ifTies_0 18 rfl rfl)
theorem dX1_ifTies_21 : decode cX1_ifTies 21 = .ok (.iconst (-1), 1) := dk_2 (dk_at dksX1_ifTies_0 21 rfl rfl)
theorem dX1_ifTies_22 : decode cX1_ifTies 22 = .ok (.ireturn, 1) := dk_172 (dk_at dksX1_ifTies_0 22 rfl rfl)
theorem dX1_ifTies_23 : decode cX1_ifTies 23 = .ok (.aload_n 0, 1) := dk_42 (dk_at dksX1_ifTies_0 23 rfl rfl)
theorem dX1_ifTies_24 : decode cX1_ifTies 24 = .ok (.iload_n 2, 1) := dk_28 (dk_at dksX1_ifTies_1 0 rfl rfl)
theorem dX1_ifTies_25 : decode cX1_ifTies 25 = .ok (.iload_n 3, 1) := dk_29 (dk_at dksX1_ifTies_1 1 rfl rfl)
theorem dX1_ifTies_26 : decode cX1_ifTies 26 = .ok (.invokevirtual 299, 3) := dk_182 1 43 (dk_at dksX1_ifTies_1 2 rfl rfl)
theorem dX1_ifTies_29 : decode cX1_ifTies 29 = .ok (.aload_n 0, 1) := dk_42 (dk_at dksX1_ifTies_1 5 rfl rfl)
theorem dX1_ifTies_30 : decode cX1_ifTies 30 = .ok (.iload_n 2, 1) := dk_28 (dk_at dksX1_ifTies_1 6 rfl rfl)
theorem dX1_ifTies_31 : decode cX1_ifTies 31 = .ok (.iload_n 3, 1) := dk_29 (dk_at dksX1_ifTies_1 7 rfl rfl)
theorem dX1_ifTies_32 : decode cX1_ifTies 32 = .ok (.iload_n 1, 1) := dk_27 (dk_at dksX1_ifTies_1 8 rfl rfl)
theorem dX1_ifTies_33 : decode cX1_ifTies 33 = .ok (.invokevirtual 280, 3) := dk_182 1 24 (dk_at dksX1_ifTies_1 9 rfl rfl)
theorem dX1_ifTies_36 : decode cX1_ifTies 36 = .ok (.ireturn, 1) := dk_172 (dk_at dksX1_ifTies_1 12 rfl rfl)
abbrev cX1_lead : ByteArray := prog_1_method_74_code
def yX1_lead : MethodName := ⟨RX1, "lead", "(II)I"⟩
def dkwX1_lead_2 : List UInt8 := [167, 0, 18, 42, 42, 180, 0, 67, 4, 46, 182, 0, 165, 27, 28, 182, 0, 182, 100, 172]
abbrev dktX1_lead_2 : List UInt8 := dkwX1_lead_2 ++ []
def dkwX1_lead_1 : List UInt8 := [42, 180, 0, 67, 3, 46, 182, 0, 165, 27, 28, 182, 0, 182, 42, 180, 1, 6, 4, 160, 0, 7, 3]
abbrev dktX1_lead_1 : List UInt8 := dkwX1_lead_1 ++ dktX1_lead_2
def dkwX1_lead_0 : List UInt8 := [42, 27, 28, 182, 0, 236, 154, 0, 5, 2, 172, 42, 27, 28, 182, 1, 43, 42, 27, 28, 182, 1, 46, 42]
abbrev dktX1_lead_0 : List UInt8 := dkwX1_lead_0 ++ dktX1_lead_1
theorem dksX1_lead_0 : cX1_lead.data.toList.drop 0 = dktX1_lead_0 := by decide +kernel
theorem dksX1_lead_1 : cX1_lead.data.toList.drop 24 = dktX1_lead_1 := dk_seg dksX1_lead_0 24 rfl rfl
theorem dksX1_lead_2 : cX1_lead.data.toList.drop 47 = dktX1_lead_2 := dk_seg dksX1_lead_1 23 rfl rfl
theorem dX1_lead_0 : decode cX1_lead 0 = .ok (.aload_n 0, 1) := dk_42 (dk_at dksX1_lead_0 0 rfl rfl)
theorem dX1_lead_1 : decode cX1_lead 1 = .ok (.iload_n 1, 1) := dk_27 (dk_at dksX1_lead_0 1 rfl rfl)
theorem dX1_lead_2 : decode cX1_lead 2 = .ok (.iload_n 2, 1) := dk_28 (dk_at dksX1_lead_0 2 rfl rfl)
theorem dX1_lead_3 : decode cX1_lead 3 = .ok (.invokevirtual 236, 3) := dk_182 0 236 (dk_at dksX1_lead_0 3 rfl rfl)
theorem dX1_lead_6 : decode cX1_lead 6 = .ok (.ifCond .ne 5, 3) := dk_154 0 5 (dk_at dksX1_lead_0 6 rfl rfl)
theorem dX1_lead_9 : decode cX1_lead 9 = .ok (.iconst (-1), 1) := dk_2 (dk_at dksX1_lead_0 9 rfl rfl)
theorem dX1_lead_10 : decode cX1_lead 10 = .ok (.ireturn, 1) := dk_172 (dk_at dksX1_lead_0 10 rfl rfl)
theorem dX1_lead_11 : decode cX1_lead 11 = .ok (.aload_n 0, 1) := dk_42 (dk_at dksX1_lead_0 11 rfl rfl)
theorem dX1_lead_12 : decode cX1_lead 12 = .ok (.iload_n 1, 1) := dk_27 (dk_at dksX1_lead_0 12 rfl rfl)
theorem dX1_lead_13 : decode cX1_lead 13 = .ok (.iload_n 2, 1) := dk_28 (dk_at dksX1_lead_0 13 rfl rfl)
theorem dX1_lead_14 : decode cX1_lead 14 = .ok (.invokevirtual 299, 3) := dk_182 1 43 (dk_at dksX1_lead_0 14 rfl rfl)
theorem dX1_lead_17 : decode cX1_lead 17 = .ok (.aload_n 0, 1) := dk_42 (dk_at dksX1_lead_0 17 rfl rfl)
theorem dX1_lead_18 : decode cX1_lead 18 = .ok (.iload_n 1, 1) := dk_27 (dk_at dksX1_lead_0 18 rfl rfl)
theorem dX1_lead_19 : decode cX1_lead 19 = .ok (.iload_n 2, 1) := dk_28 (dk_at dksX1_lead_0 19 rfl rfl)
theorem dX1_lead_20 : decode cX1_lead 20 = .ok (.invokevirtual 302, 3) := dk_182 1 46 (dk_at dksX1_lead_0 20 rfl rfl)
theorem dX1_lead_23 : decode cX1_lead 23 = .ok (.aload_n 0, 1) := dk_42 (dk_at dksX1_lead_0 23 rfl rfl)
theorem dX1_lead_24 : decode cX1_lead 24 = .ok (.aload_n 0, 1) := dk_42 (dk_at dksX1_lead_1 0 rfl rfl)
theorem dX1_lead_25 : decode cX1_lead 25 = .ok (.getfield 67, 3) := dk_180 0 67 (dk_at dksX1_lead_1 1 rfl rfl)
theorem dX1_lead_28 : decode cX1_lead 28 = .ok (.iconst 0, 1) := dk_3 (dk_at dksX1_lead_1 4 rfl rfl)
theorem dX1_lead_29 : decode cX1_lead 29 = .ok (.iaload, 1) := dk_46 (dk_at dksX1_lead_1 5 rfl rfl)
theorem dX1_lead_30 : decode cX1_lead 30 = .ok (.invokevirtual 165, 3) := dk_182 0 165 (dk_at dksX1_lead_1 6 rfl rfl)
theorem dX1_lead_33 : decode cX1_lead 33 = .ok (.iload_n 1, 1) := dk_27 (dk_at dksX1_lead_1 9 rfl rfl)
theorem dX1_lead_34 : decode cX1_lead 34 = .ok (.iload_n 2, 1) := dk_28 (dk_at dksX1_lead_1 10 rfl rfl)
theorem dX1_lead_35 : decode cX1_lead 35 = .ok (.invokevirtual 182, 3) := dk_182 0 182 (dk_at dksX1_lead_1 11 rfl rfl)
theorem dX1_lead_38 : decode cX1_lead 38 = .ok (.aload_n 0, 1) := dk_42 (dk_at dksX1_lead_1 14 rfl rfl)
theorem dX1_lead_39 : decode cX1_lead 39 = .ok (.getfield 262, 3) := dk_180 1 6 (dk_at dksX1_lead_1 15 rfl rfl)
theorem dX1_lead_42 : decode cX1_lead 42 = .ok (.iconst 1, 1) := dk_4 (dk_at dksX1_lead_1 18 rfl rfl)
theorem dX1_lead_43 : decode cX1_lead 43 = .ok (.if_icmp .ne 7, 3) := dk_160 0 7 (dk_at dksX1_lead_1 19 rfl rfl)
theorem dX1_lead_46 : decode cX1_lead 46 = .ok (.iconst 0, 1) := dk_3 (dk_at dksX1_lead_1 22 rfl rfl)
theorem dX1_lead_47 : decode cX1_lead 47 = .ok (.goto 18, 3) := dk_167 0 18 (dk_at dksX1_lead_2 0 rfl rfl)
theorem dX1_lead_50 : decode cX1_lead 50 = .ok (.aload_n 0, 1) := dk_42 (dk_at dksX1_lead_2 3 rfl rfl)
theorem dX1_lead_51 : decode cX1_lead 51 = .ok (.aload_n 0, 1) := dk_42 (dk_at dksX1_lead_2 4 rfl rfl)
theorem dX1_lead_52 : decode cX1_lead 52 = .ok (.getfield 67, 3) := dk_180 0 67 (dk_at dksX1_lead_2 5 rfl rfl)
theorem dX1_lead_55 : decode cX1_lead 55 = .ok (.iconst 1, 1) := dk_4 (dk_at dksX1_lead_2 8 rfl rfl)
theorem dX1_lead_56 : decode cX1_lead 56 = .ok (.iaload, 1) := dk_46 (dk_at dksX1_lead_2 9 rfl rfl)
theorem dX1_lead_57 : decode cX1_lead 57 = .ok (.invokevirtual 165, 3) := dk_182 0 165 (dk_at dksX1_lead_2 10 rfl rfl)
theorem dX1_lead_60 : decode cX1_lead 60 = .ok (.iload_n 1, 1) := dk_27 (dk_at dksX1_lead_2 13 rfl rfl)
theorem dX1_lead_61 : decode cX1_lead 61 = .ok (.iload_n 2, 1) := dk_28 (dk_at dksX1_lead_2 14 rfl rfl)
theorem dX1_lead_62 : decode cX1_lead 62 = .ok (.invokevirtual 182, 3) := dk_182 0 182 (dk_at dksX1_lead_2 15 rfl rfl)
theorem dX1_lead_65 : decode cX1_lead 65 = .ok (.isub, 1) := dk_100 (dk_at dksX1_lead_2 18 rfl rfl)
theorem dX1_lead_66 : decode cX1_lead 66 = .ok (.ireturn, 1) := dk_172 (dk_at dksX1_lead_2 19 rfl rfl)
abbrev cX1_rarest : ByteArray := prog_1_method_75_code
def yX1_rarest : MethodName := ⟨RX1, "rarest", "(III)I"⟩
def dkwX1_rarest_2 : List UInt8 := [28, 29, 182, 1, 39, 172]
abbrev dktX1_rarest_2 : List UInt8 := dkwX1_rarest_2 ++ []
def dkwX1_rarest_1 : List UInt8 := [27, 28, 182, 1, 43, 42, 27, 28, 182, 1, 46, 42, 42, 180, 0, 67, 42, 180, 1, 6, 4, 100, 46, 27]
abbrev dktX1_rarest_1 : List UInt8 := dkwX1_rarest_1 ++ dktX1_rarest_2
def dkwX1_rarest_0 : List UInt8 := [42, 27, 28, 182, 0, 236, 153, 0, 15, 29, 133, 9, 20, 1, 34, 184, 0, 89, 154, 0, 5, 2, 172, 42]
abbrev dktX1_rarest_0 : List UInt8 := dkwX1_rarest_0 ++ dktX1_rarest_1
theorem dksX1_rarest_0 : cX1_rarest.data.toList.drop 0 = dktX1_rarest_0 := by decide +kernel
theorem dksX1_rarest_1 : cX1_rarest.data.toList.drop 24 = dktX1_rarest_1 := dk_seg dksX1_rarest_0 24 rfl rfl
theorem dksX1_rarest_2 : cX1_rarest.data.toList.drop 48 = dktX1_rarest_2 := dk_seg dksX1_rarest_1 24 rfl rfl
theorem dX1_rarest_0 : decode cX1_rarest 0 = .ok (.aload_n 0, 1) := dk_42 (dk_at dksX1_rarest_0 0 rfl rfl)
theorem dX1_rarest_1 : decode cX1_rarest 1 = .ok (.iload_n 1, 1) := dk_27 (dk_at dksX1_rarest_0 1 rfl rfl)
theorem dX1_rarest_2 : decode cX1_rarest 2 = .ok (.iload_n 2, 1) := dk_28 (dk_at dksX1_rarest_0 2 rfl rfl)
theorem dX1_rarest_3 : decode cX1_rarest 3 = .ok (.invokevirtual 236, 3) := dk_182 0 236 (dk_at dksX1_rarest_0 3 rfl rfl)
theorem dX1_rarest_6 : decode cX1_rarest 6 = .ok (.ifCond .eq 15, 3) := dk_153 0 15 (dk_at dksX1_rarest_0 6 rfl rfl)
theorem dX1_rarest_9 : decode cX1_rarest 9 = .ok (.iload_n 3, 1) := dk_29 (dk_at dksX1_rarest_0 9 rfl rfl)
theorem dX1_rarest_10 : decode cX1_rarest 10 = .ok (.i2l, 1) := dk_133 (dk_at dksX1_rarest_0 10 rfl rfl)
theorem dX1_rarest_11 : decode cX1_rarest 11 = .ok (.lconst 0, 1) := dk_9 (dk_at dksX1_rarest_0 11 rfl rfl)
theorem dX1_rarest_12 : decode cX1_rarest 12 = .ok (.ldc2_w 290, 3) := dk_20 1 34 (dk_at dksX1_rarest_0 12 rfl rfl)
theorem dX1_rarest_15 : decode cX1_rarest 15 = .ok (.invokestatic 89, 3) := dk_184 0 89 (dk_at dksX1_rarest_0 15 rfl rfl)
theorem dX1_rarest_18 : decode cX1_rarest 18 = .ok (.ifCond .ne 5, 3) := dk_154 0 5 (dk_at dksX1_rarest_0 18 rfl rfl)
theorem dX1_rarest_21 : decode cX1_rarest 21 = .ok (.iconst (-1), 1) := dk_2 (dk_at dksX1_rarest_0 21 rfl rfl)
theorem dX1_rarest_22 : decode cX1_rarest 22 = .ok (.ireturn, 1) := dk_172 (dk_at dksX1_rarest_0 22 rfl rfl)
theorem dX1_rarest_23 : decode cX1_rarest 23 = .ok (.aload_n 0, 1) := dk_42 (dk_at dksX1_rarest_0 23 rfl rfl)
theorem dX1_rarest_24 : decode cX1_rarest 24 = .ok (.iload_n 1, 1) := dk_27 (dk_at dksX1_rarest_1 0 rfl rfl)
theorem dX1_rarest_25 : decode cX1_rarest 25 = .ok (.iload_n 2, 1) := dk_28 (dk_at dksX1_rarest_1 1 rfl rfl)
theorem dX1_rarest_26 : decode cX1_rarest 26 = .ok (.invokevirtual 299, 3) := dk_182 1 43 (dk_at dksX1_rarest_1 2 rfl rfl)
theorem dX1_rarest_29 : decode cX1_rarest 29 = .ok (.aload_n 0, 1) := dk_42 (dk_at dksX1_rarest_1 5 rfl rfl)
theorem dX1_rarest_30 : decode cX1_rarest 30 = .ok (.iload_n 1, 1) := dk_27 (dk_at dksX1_rarest_1 6 rfl rfl)
theorem dX1_rarest_31 : decode cX1_rarest 31 = .ok (.iload_n 2, 1) := dk_28 (dk_at dksX1_rarest_1 7 rfl rfl)
theorem dX1_rarest_32 : decode cX1_rarest 32 = .ok (.invokevirtual 302, 3) := dk_182 1 46 (dk_at dksX1_rarest_1 8 rfl rfl)
theorem dX1_rarest_35 : decode cX1_rarest 35 = .ok (.aload_n 0, 1) := dk_42 (dk_at dksX1_rarest_1 11 rfl rfl)
theorem dX1_rarest_36 : decode cX1_rarest 36 = .ok (.aload_n 0, 1) := dk_42 (dk_at dksX1_rarest_1 12 rfl rfl)
theorem dX1_rarest_37 : decode cX1_rarest 37 = .ok (.getfield 67, 3) := dk_180 0 67 (dk_at dksX1_rarest_1 13 rfl rfl)
theorem dX1_rarest_40 : decode cX1_rarest 40 = .ok (.aload_n 0, 1) := dk_42 (dk_at dksX1_rarest_1 16 rfl rfl)
theorem dX1_rarest_41 : decode cX1_rarest 41 = .ok (.getfield 262, 3) := dk_180 1 6 (dk_at dksX1_rarest_1 17 rfl rfl)
theorem dX1_rarest_44 : decode cX1_rarest 44 = .ok (.iconst 1, 1) := dk_4 (dk_at dksX1_rarest_1 20 rfl rfl)
theorem dX1_rarest_45 : decode cX1_rarest 45 = .ok (.isub, 1) := dk_100 (dk_at dksX1_rarest_1 21 rfl rfl)
theorem dX1_rarest_46 : decode cX1_rarest 46 = .ok (.iaload, 1) := dk_46 (dk_at dksX1_rarest_1 22 rfl rfl)
theorem dX1_rarest_47 : decode cX1_rarest 47 = .ok (.iload_n 1, 1) := dk_27 (dk_at dksX1_rarest_1 23 rfl rfl)
theorem dX1_rarest_48 : decode cX1_rarest 48 = .ok (.iload_n 2, 1) := dk_28 (dk_at dksX1_rarest_2 0 rfl rfl)
theorem dX1_rarest_49 : decode cX1_rarest 49 = .ok (.iload_n 3, 1) := dk_29 (dk_at dksX1_rarest_2 1 rfl rfl)
theorem dX1_rarest_50 : decode cX1_rarest 50 = .ok (.invokevirtual 295, 3) := dk_182 1 39 (dk_at dksX1_rarest_2 2 rfl rfl)
theorem dX1_rarest_53 : decode cX1_rarest 53 = .ok (.ireturn, 1) := dk_172 (dk_at dksX1_rarest_2 5 rfl rfl)
abbrev cX1_follow : ByteArray := prog_1_method_76_code
def yX1_follow : MethodName := ⟨RX1, "follow", "(IIZ)I"⟩
def dkwX1_follow_3 : List UInt8 := [27, 182, 0, 165, 180, 0, 176, 21, 4, 46, 167, 0, 5, 16, 254, 172]
abbrev dktX1_follow_3 : List UInt8 := dkwX1_follow_3 ++ []
def dkwX1_follow_2 : List UInt8 := [54, 4, 21, 4, 133, 9, 42, 27, 182, 0, 165, 180, 0, 144, 4, 100, 133, 184, 0, 89, 153, 0, 17, 42]
abbrev dktX1_follow_2 : List UInt8 := dkwX1_follow_2 ++ dktX1_follow_3
def dkwX1_follow_1 : List UInt8 := [182, 0, 165, 28, 4, 96, 182, 0, 169, 4, 100, 167, 0, 12, 42, 27, 182, 0, 165, 28, 182, 0, 169]
abbrev dktX1_follow_1 : List UInt8 := dkwX1_follow_1 ++ dktX1_follow_2
def dkwX1_follow_0 : List UInt8 := [27, 184, 0, 219, 153, 0, 11, 42, 28, 182, 0, 158, 154, 0, 5, 2, 172, 29, 153, 0, 19, 42, 27]
abbrev dktX1_follow_0 : List UInt8 := dkwX1_follow_0 ++ dktX1_follow_1
theorem dksX1_follow_0 : cX1_follow.data.toList.drop 0 = dktX1_follow_0 := by decide +kernel
theorem dksX1_follow_1 : cX1_follow.data.toList.drop 23 = dktX1_follow_1 := dk_seg dksX1_follow_0 23 rfl rfl
theorem dksX1_follow_2 : cX1_follow.data.toList.drop 46 = dktX1_follow_2 := dk_seg dksX1_follow_1 23 rfl rfl
theorem dksX1_follow_3 : cX1_follow.data.toList.drop 70 = dktX1_follow_3 := dk_seg dksX1_follow_2 24 rfl rfl
theorem dX1_follow_0 : decode cX1_follow 0 = .ok (.iload_n 1, 1) := dk_27 (dk_at dksX1_follow_0 0 rfl rfl)
theorem dX1_follow_1 : decode cX1_follow 1 = .ok (.invokestatic 219, 3) := dk_184 0 219 (dk_at dksX1_follow_0 1 rfl rfl)
theorem dX1_follow_4 : decode cX1_follow 4 = .ok (.ifCond .eq 11, 3) := dk_153 0 11 (dk_at dksX1_follow_0 4 rfl rfl)
theorem dX1_follow_7 : decode cX1_follow 7 = .ok (.aload_n 0, 1) := dk_42 (dk_at dksX1_follow_0 7 rfl rfl)
theorem dX1_follow_8 : decode cX1_follow 8 = .ok (.iload_n 2, 1) := dk_28 (dk_at dksX1_follow_0 8 rfl rfl)
theorem dX1_follow_9 : decode cX1_follow 9 = .ok (.invokevirtual 158, 3) := dk_182 0 158 (dk_at dksX1_follow_0 9 rfl rfl)
theorem dX1_follow_12 : decode cX1_follow 12 = .ok (.ifCond .ne 5, 3) := dk_154 0 5 (dk_at dksX1_follow_0 12 rfl rfl)
theorem dX1_follow_15 : decode cX1_follow 15 = .ok (.iconst (-1), 1) := dk_2 (dk_at dksX1_follow_0 15 rfl rfl)
theorem dX1_follow_16 : decode cX1_follow 16 = .ok (.ireturn, 1) := dk_172 (dk_at dksX1_follow_0 16 rfl rfl)
theorem dX1_follow_17 : decode cX1_follow 17 = .ok (.iload_n 3, 1) := dk_29 (dk_at dksX1_follow_0 17 rfl rfl)
theorem dX1_follow_18 : decode cX1_follow 18 = .ok (.ifCond .eq 19, 3) := dk_153 0 19 (dk_at dksX1_follow_0 18 rfl rfl)
theorem dX1_follow_21 : decode cX1_follow 21 = .ok (.aload_n 0, 1) := dk_42 (dk_at dksX1_follow_0 21 rfl rfl)
theorem dX1_follow_22 : decode cX1_follow 22 = .ok (.iload_n 1, 1) := dk_27 (dk_at dksX1_follow_0 22 rfl rfl)
theorem dX1_follow_23 : decode cX1_follow 23 = .ok (.invokevirtual 165, 3) := dk_182 0 165 (dk_at dksX1_follow_1 0 rfl rfl)
theorem dX1_follow_26 : decode cX1_follow 26 = .ok (.iload_n 2, 1) := dk_28 (dk_at dksX1_follow_1 3 rfl rfl)
theorem dX1_follow_27 : decode cX1_follow 27 = .ok (.iconst 1, 1) := dk_4 (dk_at dksX1_follow_1 4 rfl rfl)
theorem dX1_follow_28 : decode cX1_follow 28 = .ok (.iadd, 1) := dk_96 (dk_at dksX1_follow_1 5 rfl rfl)
theorem dX1_follow_29 : decode cX1_follow 29 = .ok (.invokevirtual 169, 3) := dk_182 0 169 (dk_at dksX1_follow_1 6 rfl rfl)
theorem dX1_follow_32 : decode cX1_follow 32 = .ok (.iconst 1, 1) := dk_4 (dk_at dksX1_follow_1 9 rfl rfl)
theorem dX1_follow_33 : decode cX1_follow 33 = .ok (.isub, 1) := dk_100 (dk_at dksX1_follow_1 10 rfl rfl)
theorem dX1_follow_34 : decode cX1_follow 34 = .ok (.goto 12, 3) := dk_167 0 12 (dk_at dksX1_follow_1 11 rfl rfl)
theorem dX1_follow_37 : decode cX1_follow 37 = .ok (.aload_n 0, 1) := dk_42 (dk_at dksX1_follow_1 14 rfl rfl)
theorem dX1_follow_38 : decode cX1_follow 38 = .ok (.iload_n 1, 1) := dk_27 (dk_at dksX1_follow_1 15 rfl rfl)
theorem dX1_follow_39 : decode cX1_follow 39 = .ok (.invokevirtual 165, 3) := dk_182 0 165 (dk_at dksX1_follow_1 16 rfl rfl)
theorem dX1_follow_42 : decode cX1_follow 42 = .ok (.iload_n 2, 1) := dk_28 (dk_at dksX1_follow_1 19 rfl rfl)
theorem dX1_follow_43 : decode cX1_follow 43 = .ok (.invokevirtual 169, 3) := dk_182 0 169 (dk_at dksX1_follow_1 20 rfl rfl)
theorem dX1_follow_46 : decode cX1_follow 46 = .ok (.istore 4, 2) := dk_54 4 (dk_at dksX1_follow_2 0 rfl rfl)
theorem dX1_follow_48 : decode cX1_follow 48 = .ok (.iload 4, 2) := dk_21 4 (dk_at dksX1_follow_2 2 rfl rfl)
theorem dX1_follow_50 : decode cX1_follow 50 = .ok (.i2l, 1) := dk_133 (dk_at dksX1_follow_2 4 rfl rfl)
theorem dX1_follow_51 : decode cX1_follow 51 = .ok (.lconst 0, 1) := dk_9 (dk_at dksX1_follow_2 5 rfl rfl)
theorem dX1_follow_52 : decode cX1_follow 52 = .ok (.aload_n 0, 1) := dk_42 (dk_at dksX1_follow_2 6 rfl rfl)
theorem dX1_follow_53 : decode cX1_follow 53 = .ok (.iload_n 1, 1) := dk_27 (dk_at dksX1_follow_2 7 rfl rfl)
theorem dX1_follow_54 : decode cX1_follow 54 = .ok (.invokevirtual 165, 3) := dk_182 0 165 (dk_at dksX1_follow_2 8 rfl rfl)
theorem dX1_follow_57 : decode cX1_follow 57 = .ok (.getfield 144, 3) := dk_180 0 144 (dk_at dksX1_follow_2 11 rfl rfl)
theorem dX1_follow_60 : decode cX1_follow 60 = .ok (.iconst 1, 1) := dk_4 (dk_at dksX1_follow_2 14 rfl rfl)
theorem dX1_follow_61 : decode cX1_follow 61 = .ok (.isub, 1) := dk_100 (dk_at dksX1_follow_2 15 rfl rfl)
theorem dX1_follow_62 : decode cX1_follow 62 = .ok (.i2l, 1) := dk_133 (dk_at dksX1_follow_2 16 rfl rfl)
theorem dX1_follow_63 : decode cX1_follow 63 = .ok (.invokestatic 89, 3) := dk_184 0 89 (dk_at dksX1_follow_2 17 rfl rfl)
theorem dX1_follow_66 : decode cX1_follow 66 = .ok (.ifCond .eq 17, 3) := dk_153 0 17 (dk_at dksX1_follow_2 20 rfl rfl)
theorem dX1_follow_69 : decode cX1_follow 69 = .ok (.aload_n 0, 1) := dk_42 (dk_at dksX1_follow_2 23 rfl rfl)
theorem dX1_follow_70 : decode cX1_follow 70 = .ok (.iload_n 1, 1) := dk_27 (dk_at dksX1_follow_3 0 rfl rfl)
theorem dX1_follow_71 : decode cX1_follow 71 = .ok (.invokevirtual 165, 3) := dk_182 0 165 (dk_at dksX1_follow_3 1 rfl rfl)
theorem dX1_follow_74 : decode cX1_follow 74 = .ok (.getfield 176, 3) := dk_180 0 176 (dk_at dksX1_follow_3 4 rfl rfl)
theorem dX1_follow_77 : decode cX1_follow 77 = .ok (.iload 4, 2) := dk_21 4 (dk_at dksX1_follow_3 7 rfl rfl)
theorem dX1_follow_79 : decode cX1_follow 79 = .ok (.iaload, 1) := dk_46 (dk_at dksX1_follow_3 9 rfl rfl)
theorem dX1_follow_80 : decode cX1_follow 80 = .ok (.goto 5, 3) := dk_167 0 5 (dk_at dksX1_follow_3 10 rfl rfl)
theorem dX1_follow_83 : decode cX1_follow 83 = .ok (.bipush (-2), 2) := dk_16 254 (dk_at dksX1_follow_3 13 rfl rfl)
theorem dX1_follow_85 : decode cX1_follow 85 = .ok (.ireturn, 1) := dk_172 (dk_at dksX1_follow_3 15 rfl rfl)
abbrev cX1_split : ByteArray := prog_1_method_78_code
def yX1_split : MethodName := ⟨RX1, "split", "(III)I"⟩
def dkwX1_split_3 : List UInt8 := [54, 4, 21, 7, 54, 5, 132, 6, 1, 167, 255, 210, 29, 154, 0, 8, 21, 4, 167, 0, 5, 21, 5, 172]
abbrev dktX1_split_3 : List UInt8 := dkwX1_split_3 ++ []
def dkwX1_split_2 : List UInt8 := [42, 21, 6, 4, 96, 28, 182, 1, 94, 96, 54, 7, 21, 7, 21, 5, 163, 0, 6, 167, 0, 11, 21, 6]
abbrev dktX1_split_2 : List UInt8 := dkwX1_split_2 ++ dktX1_split_3
def dkwX1_split_1 : List UInt8 := [2, 172, 27, 54, 4, 3, 54, 5, 27, 54, 6, 21, 6, 28, 162, 0, 46, 42, 27, 21, 6, 182, 1, 94]
abbrev dktX1_split_1 : List UInt8 := dkwX1_split_1 ++ dktX1_split_2
def dkwX1_split_0 : List UInt8 := [42, 27, 28, 182, 0, 236, 153, 0, 18, 27, 28, 159, 0, 13, 29, 133, 9, 10, 184, 0, 89, 154, 0, 5]
abbrev dktX1_split_0 : List UInt8 := dkwX1_split_0 ++ dktX1_split_1
theorem dksX1_split_0 : cX1_split.data.toList.drop 0 = dktX1_split_0 := by decide +kernel
theorem dksX1_split_1 : cX1_split.data.toList.drop 24 = dktX1_split_1 := dk_seg dksX1_split_0 24 rfl rfl
theorem dksX1_split_2 : cX1_split.data.toList.drop 48 = dktX1_split_2 := dk_seg dksX1_split_1 24 rfl rfl
theorem dksX1_split_3 : cX1_split.data.toList.drop 72 = dktX1_split_3 := dk_seg dksX1_split_2 24 rfl rfl
theorem dX1_split_0 : decode cX1_split 0 = .ok (.aload_n 0, 1) := dk_42 (dk_at dksX1_split_0 0 rfl rfl)
theorem dX1_split_1 : decode cX1_split 1 = .ok (.iload_n 1, 1) := dk_27 (dk_at dksX1_split_0 1 rfl rfl)
theorem dX1_split_2 : decode cX1_split 2 = .ok (.iload_n 2, 1) := dk_28 (dk_at dksX1_split_0 2 rfl rfl)
theorem dX1_split_3 : decode cX1_split 3 = .ok (.invokevirtual 236, 3) := dk_182 0 236 (dk_at dksX1_split_0 3 rfl rfl)
theorem dX1_split_6 : decode cX1_split 6 = .ok (.ifCond .eq 18, 3) := dk_153 0 18 (dk_at dksX1_split_0 6 rfl rfl)
theorem dX1_split_9 : decode cX1_split 9 = .ok (.iload_n 1, 1) := dk_27 (dk_at dksX1_split_0 9 rfl rfl)
theorem dX1_split_10 : decode cX1_split 10 = .ok (.iload_n 2, 1) := dk_28 (dk_at dksX1_split_0 10 rfl rfl)
theorem dX1_split_11 : decode cX1_split 11 = .ok (.if_icmp .eq 13, 3) := dk_159 0 13 (dk_at dksX1_split_0 11 rfl rfl)
theorem dX1_split_14 : decode cX1_split 14 = .ok (.iload_n 3, 1) := dk_29 (dk_at dksX1_split_0 14 rfl rfl)
theorem dX1_split_15 : decode cX1_split 15 = .ok (.i2l, 1) := dk_133 (dk_at dksX1_split_0 15 rfl rfl)
theorem dX1_split_16 : decode cX1_split 16 = .ok (.lconst 0, 1) := dk_9 (dk_at dksX1_split_0 16 rfl rfl)
theorem dX1_split_17 : decode cX1_split 17 = .ok (.lconst 1, 1) := dk_10 (dk_at dksX1_split_0 17 rfl rfl)
theorem dX1_split_18 : decode cX1_split 18 = .ok (.invokestatic 89, 3) := dk_184 0 89 (dk_at dksX1_split_0 18 rfl rfl)
theorem dX1_split_21 : decode cX1_split 21 = .ok (.ifCond .ne 5, 3) := dk_154 0 5 (dk_at dksX1_split_0 21 rfl rfl)
theorem dX1_split_24 : decode cX1_split 24 = .ok (.iconst (-1), 1) := dk_2 (dk_at dksX1_split_1 0 rfl rfl)
theorem dX1_split_25 : decode cX1_split 25 = .ok (.ireturn, 1) := dk_172 (dk_at dksX1_split_1 1 rfl rfl)
theorem dX1_split_26 : decode cX1_split 26 = .ok (.iload_n 1, 1) := dk_27 (dk_at dksX1_split_1 2 rfl rfl)
theorem dX1_split_27 : decode cX1_split 27 = .ok (.istore 4, 2) := dk_54 4 (dk_at dksX1_split_1 3 rfl rfl)
theorem dX1_split_29 : decode cX1_split 29 = .ok (.iconst 0, 1) := dk_3 (dk_at dksX1_split_1 5 rfl rfl)
theorem dX1_split_30 : decode cX1_split 30 = .ok (.istore 5, 2) := dk_54 5 (dk_at dksX1_split_1 6 rfl rfl)
theorem dX1_split_32 : decode cX1_split 32 = .ok (.iload_n 1, 1) := dk_27 (dk_at dksX1_split_1 8 rfl rfl)
theorem dX1_split_33 : decode cX1_split 33 = .ok (.istore 6, 2) := dk_54 6 (dk_at dksX1_split_1 9 rfl rfl)
theorem dX1_split_35 : decode cX1_split 35 = .ok (.iload 6, 2) := dk_21 6 (dk_at dksX1_split_1 11 rfl rfl)
theorem dX1_split_37 : decode cX1_split 37 = .ok (.iload_n 2, 1) := dk_28 (dk_at dksX1_split_1 13 rfl rfl)
theorem dX1_split_38 : decode cX1_split 38 = .ok (.if_icmp .ge 46, 3) := dk_162 0 46 (dk_at dksX1_split_1 14 rfl rfl)
theorem dX1_split_41 : decode cX1_split 41 = .ok (.aload_n 0, 1) := dk_42 (dk_at dksX1_split_1 17 rfl rfl)
theorem dX1_split_42 : decode cX1_split 42 = .ok (.iload_n 1, 1) := dk_27 (dk_at dksX1_split_1 18 rfl rfl)
theorem dX1_split_43 : decode cX1_split 43 = .ok (.iload 6, 2) := dk_21 6 (dk_at dksX1_split_1 19 rfl rfl)
theorem dX1_split_45 : decode cX1_split 45 = .ok (.invokevirtual 350, 3) := dk_182 1 94 (dk_at dksX1_split_1 21 rfl rfl)
theorem dX1_split_48 : decode cX1_split 48 = .ok (.aload_n 0, 1) := dk_42 (dk_at dksX1_split_2 0 rfl rfl)
theorem dX1_split_49 : decode cX1_split 49 = .ok (.iload 6, 2) := dk_21 6 (dk_at dksX1_split_2 1 rfl rfl)
theorem dX1_split_51 : decode cX1_split 51 = .ok (.iconst 1, 1) := dk_4 (dk_at dksX1_split_2 3 rfl rfl)
theorem dX1_split_52 : decode cX1_split 52 = .ok (.iadd, 1) := dk_96 (dk_at dksX1_split_2 4 rfl rfl)
theorem dX1_split_53 : decode cX1_split 53 = .ok (.iload_n 2, 1) := dk_28 (dk_at dksX1_split_2 5 rfl rfl)
theorem dX1_split_54 : decode cX1_split 54 = .ok (.invokevirtual 350, 3) := dk_182 1 94 (dk_at dksX1_split_2 6 rfl rfl)
theorem dX1_split_57 : decode cX1_split 57 = .ok (.iadd, 1) := dk_96 (dk_at dksX1_split_2 9 rfl rfl)
theorem dX1_split_58 : decode cX1_split 58 = .ok (.istore 7, 2) := dk_54 7 (dk_at dksX1_split_2 10 rfl rfl)
theorem dX1_split_60 : decode cX1_split 60 = .ok (.iload 7, 2) := dk_21 7 (dk_at dksX1_split_2 12 rfl rfl)
theorem dX1_split_62 : decode cX1_split 62 = .ok (.iload 5, 2) := dk_21 5 (dk_at dksX1_split_2 14 rfl rfl)
theorem dX1_split_64 : decode cX1_split 64 = .ok (.if_icmp .gt 6, 3) := dk_163 0 6 (dk_at dksX1_split_2 16 rfl rfl)
theorem dX1_split_67 : decode cX1_split 67 = .ok (.goto 11, 3) := dk_167 0 11 (dk_at dksX1_split_2 19 rfl rfl)
theorem dX1_split_70 : decode cX1_split 70 = .ok (.iload 6, 2) := dk_21 6 (dk_at dksX1_split_2 22 rfl rfl)
theorem dX1_split_72 : decode cX1_split 72 = .ok (.istore 4, 2) := dk_54 4 (dk_at dksX1_split_3 0 rfl rfl)
theorem dX1_split_74 : decode cX1_split 74 = .ok (.iload 7, 2) := dk_21 7 (dk_at dksX1_split_3 2 rfl rfl)
theorem dX1_split_76 : decode cX1_split 76 = .ok (.istore 5, 2) := dk_54 5 (dk_at dksX1_split_3 4 rfl rfl)
theorem dX1_split_78 : decode cX1_split 78 = .ok (.iinc 6 1, 3) := dk_132 6 1 (dk_at dksX1_split_3 6 rfl rfl)
theorem dX1_split_81 : decode cX1_split 81 = .ok (.goto (-46), 3) := dk_167 255 210 (dk_at dksX1_split_3 9 rfl rfl)
theorem dX1_split_84 : decode cX1_split 84 = .ok (.iload_n 3, 1) := dk_29 (dk_at dksX1_split_3 12 rfl rfl)
theorem dX1_split_85 : decode cX1_split 85 = .ok (.ifCond .ne 8, 3) := dk_154 0 8 (dk_at dksX1_split_3 13 rfl rfl)
theorem dX1_split_88 : decode cX1_split 88 = .ok (.iload 4, 2) := dk_21 4 (dk_at dksX1_split_3 16 rfl rfl)
theorem dX1_split_90 : decode cX1_split 90 = .ok (.goto 5, 3) := dk_167 0 5 (dk_at dksX1_split_3 18 rfl rfl)
theorem dX1_split_93 : decode cX1_split 93 = .ok (.iload 5, 2) := dk_21 5 (dk_at dksX1_split_3 21 rfl rfl)
theorem dX1_split_95 : decode cX1_split 95 = .ok (.ireturn, 1) := dk_172 (dk_at dksX1_split_3 23 rfl rfl)
abbrev cX1_mostIn : ByteArray := prog_1_method_77_code
def yX1_mostIn : MethodName := ⟨RX1, "mostIn", "(II)I"⟩
def dkwX1_mostIn_0 : List UInt8 := [42, 42, 27, 28, 182, 1, 36, 182, 0, 165, 27, 28, 182, 0, 182, 172]
abbrev dktX1_mostIn_0 : List UInt8 := dkwX1_mostIn_0 ++ []
theorem dksX1_mostIn_0 : cX1_mostIn.data.toList.drop 0 = dktX1_mostIn_0 := by decide +kernel
theorem dX1_mostIn_0 : decode cX1_mostIn 0 = .ok (.aload_n 0, 1) := dk_42 (dk_at dksX1_mostIn_0 0 rfl rfl)
theorem dX1_mostIn_1 : decode cX1_mostIn 1 = .ok (.aload_n 0, 1) := dk_42 (dk_at dksX1_mostIn_0 1 rfl rfl)
theorem dX1_mostIn_2 : decode cX1_mostIn 2 = .ok (.iload_n 1, 1) := dk_27 (dk_at dksX1_mostIn_0 2 rfl rfl)
theorem dX1_mostIn_3 : decode cX1_mostIn 3 = .ok (.iload_n 2, 1) := dk_28 (dk_at dksX1_mostIn_0 3 rfl rfl)
theorem dX1_mostIn_4 : decode cX1_mostIn 4 = .ok (.invokevirtual 292, 3) := dk_182 1 36 (dk_at dksX1_mostIn_0 4 rfl rfl)
theorem dX1_mostIn_7 : decode cX1_mostIn 7 = .ok (.invokevirtual 165, 3) := dk_182 0 165 (dk_at dksX1_mostIn_0 7 rfl rfl)
theorem dX1_mostIn_10 : decode cX1_mostIn 10 = .ok (.iload_n 1, 1) := dk_27 (dk_at dksX1_mostIn_0 10 rfl rfl)
theorem dX1_mostIn_11 : decode cX1_mostIn 11 = .ok (.iload_n 2, 1) := dk_28 (dk_at dksX1_mostIn_0 11 rfl rfl)
theorem dX1_mostIn_12 : decode cX1_mostIn 12 = .ok (.invokevirtual 182, 3) := dk_182 0 182 (dk_at dksX1_mostIn_0 12 rfl rfl)
theorem dX1_mostIn_15 : decode cX1_mostIn 15 = .ok (.ireturn, 1) := dk_172 (dk_at dksX1_mostIn_0 15 rfl rfl)
abbrev cX1_together : ByteArray := prog_1_method_79_code
def yX1_together : MethodName := ⟨RX1, "together", "(IIIII)I"⟩
def dkwX1_together_8 : List UInt8 := [167, 255, 216, 21, 5, 154, 0, 8, 21, 6, 167, 0, 5, 21, 7, 172]
abbrev dktX1_together_8 : List UInt8 := dkwX1_together_8 ++ []
def dkwX1_together_7 : List UInt8 := [180, 0, 148, 21, 8, 46, 21, 6, 160, 0, 7, 4, 167, 0, 4, 3, 96, 54, 7, 132, 8, 1]
abbrev dktX1_together_7 : List UInt8 := dkwX1_together_7 ++ dktX1_together_8
def dkwX1_together_6 : List UInt8 := [3, 54, 7, 3, 54, 8, 21, 8, 42, 180, 0, 80, 180, 0, 147, 162, 0, 34, 21, 7, 42, 180, 0, 80]
abbrev dktX1_together_6 : List UInt8 := dkwX1_together_6 ++ dktX1_together_7
def dkwX1_together_5 : List UInt8 := [167, 255, 216, 42, 42, 180, 0, 80, 3, 42, 180, 0, 80, 180, 0, 147, 4, 100, 2, 182, 1, 90, 54, 6]
abbrev dktX1_together_5 : List UInt8 := dkwX1_together_5 ++ dktX1_together_6
def dkwX1_together_4 : List UInt8 := [154, 0, 20, 42, 180, 0, 80, 42, 180, 0, 20, 180, 0, 148, 21, 6, 46, 182, 1, 97, 132, 6, 1]
abbrev dktX1_together_4 : List UInt8 := dkwX1_together_4 ++ dktX1_together_5
def dkwX1_together_3 : List UInt8 := [167, 255, 230, 29, 54, 6, 21, 6, 21, 4, 163, 0, 39, 21, 6, 133, 27, 133, 28, 133, 184, 0, 89]
abbrev dktX1_together_3 : List UInt8 := dkwX1_together_3 ++ dktX1_together_4
def dkwX1_together_2 : List UInt8 := [163, 0, 26, 42, 180, 0, 80, 42, 180, 0, 20, 180, 0, 148, 21, 6, 46, 182, 1, 97, 132, 6, 1]
abbrev dktX1_together_2 : List UInt8 := dkwX1_together_2 ++ dktX1_together_3
def dkwX1_together_1 : List UInt8 := [184, 0, 89, 154, 0, 5, 2, 172, 42, 180, 0, 80, 3, 181, 0, 147, 27, 54, 6, 21, 6, 28]
abbrev dktX1_together_1 : List UInt8 := dkwX1_together_1 ++ dktX1_together_2
def dkwX1_together_0 : List UInt8 := [42, 27, 28, 182, 0, 236, 153, 0, 24, 42, 29, 21, 4, 182, 0, 236, 153, 0, 14, 21, 5, 133, 9, 10]
abbrev dktX1_together_0 : List UInt8 := dkwX1_together_0 ++ dktX1_together_1
theorem dksX1_together_0 : cX1_together.data.toList.drop 0 = dktX1_together_0 := by decide +kernel
theorem dksX1_together_1 : cX1_together.data.toList.drop 24 = dktX1_together_1 := dk_seg dksX1_together_0 24 rfl rfl
theorem dksX1_together_2 : cX1_together.data.toList.drop 46 = dktX1_together_2 := dk_seg dksX1_together_1 22 rfl rfl
theorem dksX1_together_3 : cX1_together.data.toList.drop 69 = dktX1_together_3 := dk_seg dksX1_together_2 23 rfl rfl
theorem dksX1_together_4 : cX1_together.data.toList.drop 92 = dktX1_together_4 := dk_seg dksX1_together_3 23 rfl rfl
theorem dksX1_together_5 : cX1_together.data.toList.drop 115 = dktX1_together_5 := dk_seg dksX1_together_4 23 rfl rfl
theorem dksX1_together_6 : cX1_together.data.toList.drop 139 = dktX1_together_6 := dk_seg dksX1_together_5 24 rfl rfl
theorem dksX1_together_7 : cX1_together.data.toList.drop 163 = dktX1_together_7 := dk_seg dksX1_together_6 24 rfl rfl
theorem dksX1_together_8 : cX1_together.data.toList.drop 185 = dktX1_together_8 := dk_seg dksX1_together_7 22 rfl rfl
theorem dX1_together_0 : decode cX1_together 0 = .ok (.aload_n 0, 1) := dk_42 (dk_at dksX1_together_0 0 rfl rfl)
theorem dX1_together_1 : decode cX1_together 1 = .ok (.iload_n 1, 1) := dk_27 (dk_at dksX1_together_0 1 rfl rfl)
theorem dX1_together_2 : decode cX1_together 2 = .ok (.iload_n 2, 1) := dk_28 (dk_at dksX1_together_0 2 rfl rfl)
theorem dX1_together_3 : decode cX1_together 3 = .ok (.invokevirtual 236, 3) := dk_182 0 236 (dk_at dksX1_together_0 3 rfl rfl)
theorem dX1_together_6 : decode cX1_together 6 = .ok (.ifCond .eq 24, 3) := dk_153 0 24 (dk_at dksX1_together_0 6 rfl rfl)
theorem dX1_together_9 : decode cX1_together 9 = .ok (.aload_n 0, 1) := dk_42 (dk_at dksX1_together_0 9 rfl rfl)
theorem dX1_together_10 : decode cX1_together 10 = .ok (.iload_n 3, 1) := dk_29 (dk_at dksX1_together_0 10 rfl rfl)
theorem dX1_together_11 : decode cX1_together 11 = .ok (.iload 4, 2) := dk_21 4 (dk_at dksX1_together_0 11 rfl rfl)
theorem dX1_together_13 : decode cX1_together 13 = .ok (.invokevirtual 236, 3) := dk_182 0 236 (dk_at dksX1_together_0 13 rfl rfl)
theorem dX1_together_16 : decode cX1_together 16 = .ok (.ifCond .eq 14, 3) := dk_153 0 14 (dk_at dksX1_together_0 16 rfl rfl)
theorem dX1_together_19 : decode cX1_together 19 = .ok (.iload 5, 2) := dk_21 5 (dk_at dksX1_together_0 19 rfl rfl)
theorem dX1_together_21 : decode cX1_together 21 = .ok (.i2l, 1) := dk_133 (dk_at dksX1_together_0 21 rfl rfl)
theorem dX1_together_22 : decode cX1_together 22 = .ok (.lconst 0, 1) := dk_9 (dk_at dksX1_together_0 22 rfl rfl)
theorem dX1_together_23 : decode cX1_together 23 = .ok (.lconst 1, 1) := dk_10 (dk_at dksX1_together_0 23 rfl rfl)
theorem dX1_together_24 : decode cX1_together 24 = .ok (.invokestatic 89, 3) := dk_184 0 89 (dk_at dksX1_together_1 0 rfl rfl)
theorem dX1_together_27 : decode cX1_together 27 = .ok (.ifCond .ne 5, 3) := dk_154 0 5 (dk_at dksX1_together_1 3 rfl rfl)
theorem dX1_together_30 : decode cX1_together 30 = .ok (.iconst (-1), 1) := dk_2 (dk_at dksX1_together_1 6 rfl rfl)
theorem dX1_together_31 : decode cX1_together 31 = .ok (.ireturn, 1) := dk_172 (dk_at dksX1_together_1 7 rfl rfl)
theorem dX1_together_32 : decode cX1_together 32 = .ok (.aload_n 0, 1) := dk_42 (dk_at dksX1_together_1 8 rfl rfl)
theorem dX1_together_33 : decode cX1_together 33 = .ok (.getfield 80, 3) := dk_180 0 80 (dk_at dksX1_together_1 9 rfl rfl)
theorem dX1_together_36 : decode cX1_together 36 = .ok (.iconst 0, 1) := dk_3 (dk_at dksX1_together_1 12 rfl rfl)
theorem dX1_together_37 : decode cX1_together 37 = .ok (.putfield 147, 3) := dk_181 0 147 (dk_at dksX1_together_1 13 rfl rfl)
theorem dX1_together_40 : decode cX1_together 40 = .ok (.iload_n 1, 1) := dk_27 (dk_at dksX1_together_1 16 rfl rfl)
theorem dX1_together_41 : decode cX1_together 41 = .ok (.istore 6, 2) := dk_54 6 (dk_at dksX1_together_1 17 rfl rfl)
theorem dX1_together_43 : decode cX1_together 43 = .ok (.iload 6, 2) := dk_21 6 (dk_at dksX1_together_1 19 rfl rfl)
theorem dX1_together_45 : decode cX1_together 45 = .ok (.iload_n 2, 1) := dk_28 (dk_at dksX1_together_1 21 rfl rfl)
theorem dX1_together_46 : decode cX1_together 46 = .ok (.if_icmp .gt 26, 3) := dk_163 0 26 (dk_at dksX1_together_2 0 rfl rfl)
theorem dX1_together_49 : decode cX1_together 49 = .ok (.aload_n 0, 1) := dk_42 (dk_at dksX1_together_2 3 rfl rfl)
theorem dX1_together_50 : decode cX1_together 50 = .ok (.getfield 80, 3) := dk_180 0 80 (dk_at dksX1_together_2 4 rfl rfl)
theorem dX1_together_53 : decode cX1_together 53 = .ok (.aload_n 0, 1) := dk_42 (dk_at dksX1_together_2 7 rfl rfl)
theorem dX1_together_54 : decode cX1_together 54 = .ok (.getfield 20, 3) := dk_180 0 20 (dk_at dksX1_together_2 8 rfl rfl)
theorem dX1_together_57 : decode cX1_together 57 = .ok (.getfield 148, 3) := dk_180 0 148 (dk_at dksX1_together_2 11 rfl rfl)
theorem dX1_together_60 : decode cX1_together 60 = .ok (.iload 6, 2) := dk_21 6 (dk_at dksX1_together_2 14 rfl rfl)
theorem dX1_together_62 : decode cX1_together 62 = .ok (.iaload, 1) := dk_46 (dk_at dksX1_together_2 16 rfl rfl)
theorem dX1_together_63 : decode cX1_together 63 = .ok (.invokevirtual 353, 3) := dk_182 1 97 (dk_at dksX1_together_2 17 rfl rfl)
theorem dX1_together_66 : decode cX1_together 66 = .ok (.iinc 6 1, 3) := dk_132 6 1 (dk_at dksX1_together_2 20 rfl rfl)
theorem dX1_together_69 : decode cX1_together 69 = .ok (.goto (-26), 3) := dk_167 255 230 (dk_at dksX1_together_3 0 rfl rfl)
theorem dX1_together_72 : decode cX1_together 72 = .ok (.iload_n 3, 1) := dk_29 (dk_at dksX1_together_3 3 rfl rfl)
theorem dX1_together_73 : decode cX1_together 73 = .ok (.istore 6, 2) := dk_54 6 (dk_at dksX1_together_3 4 rfl rfl)
theorem dX1_together_75 : decode cX1_together 75 = .ok (.iload 6, 2) := dk_21 6 (dk_at dksX1_together_3 6 rfl rfl)
theorem dX1_together_77 : decode cX1_together 77 = .ok (.iload 4, 2) := dk_21 4 (dk_at dksX1_together_3 8 rfl rfl)
theorem dX1_together_79 : decode cX1_together 79 = .ok (.if_icmp .gt 39, 3) := dk_163 0 39 (dk_at dksX1_together_3 10 rfl rfl)
theorem dX1_together_82 : decode cX1_together 82 = .ok (.iload 6, 2) := dk_21 6 (dk_at dksX1_together_3 13 rfl rfl)
theorem dX1_together_84 : decode cX1_together 84 = .ok (.i2l, 1) := dk_133 (dk_at dksX1_together_3 15 rfl rfl)
theorem dX1_together_85 : decode cX1_together 85 = .ok (.iload_n 1, 1) := dk_27 (dk_at dksX1_together_3 16 rfl rfl)
theorem dX1_together_86 : decode cX1_together 86 = .ok (.i2l, 1) := dk_133 (dk_at dksX1_together_3 17 rfl rfl)
theorem dX1_together_87 : decode cX1_together 87 = .ok (.iload_n 2, 1) := dk_28 (dk_at dksX1_together_3 18 rfl rfl)
theorem dX1_together_88 : decode cX1_together 88 = .ok (.i2l, 1) := dk_133 (dk_at dksX1_together_3 19 rfl rfl)
theorem dX1_together_89 : decode cX1_together 89 = .ok (.invokestatic 89, 3) := dk_184 0 89 (dk_at dksX1_together_3 20 rfl rfl)
theorem dX1_together_92 : decode cX1_together 92 = .ok (.ifCond .ne 20, 3) := dk_154 0 20 (dk_at dksX1_together_4 0 rfl rfl)
theorem dX1_together_95 : decode cX1_together 95 = .ok (.aload_n 0, 1) := dk_42 (dk_at dksX1_together_4 3 rfl rfl)
theorem dX1_together_96 : decode cX1_together 96 = .ok (.getfield 80, 3) := dk_180 0 80 (dk_at dksX1_together_4 4 rfl rfl)
theorem dX1_together_99 : decode cX1_together 99 = .ok (.aload_n 0, 1) := dk_42 (dk_at dksX1_together_4 7 rfl rfl)
theorem dX1_together_100 : decode cX1_together 100 = .ok (.getfield 20, 3) := dk_180 0 20 (dk_at dksX1_together_4 8 rfl rfl)
theorem dX1_together_103 : decode cX1_together 103 = .ok (.getfield 148, 3) := dk_180 0 148 (dk_at dksX1_together_4 11 rfl rfl)
theorem dX1_together_106 : decode cX1_together 106 = .ok (.iload 6, 2) := dk_21 6 (dk_at dksX1_together_4 14 rfl rfl)
theorem dX1_together_108 : decode cX1_together 108 = .ok (.iaload, 1) := dk_46 (dk_at dksX1_together_4 16 rfl rfl)
theorem dX1_together_109 : decode cX1_together 109 = .ok (.invokevirtual 353, 3) := dk_182 1 97 (dk_at dksX1_together_4 17 rfl rfl)
theorem dX1_together_112 : decode cX1_together 112 = .ok (.iinc 6 1, 3) := dk_132 6 1 (dk_at dksX1_together_4 20 rfl rfl)
theorem dX1_together_115 : decode cX1_together 115 = .ok (.goto (-40), 3) := dk_167 255 216 (dk_at dksX1_together_5 0 rfl rfl)
theorem dX1_together_118 : decode cX1_together 118 = .ok (.aload_n 0, 1) := dk_42 (dk_at dksX1_together_5 3 rfl rfl)
theorem dX1_together_119 : decode cX1_together 119 = .ok (.aload_n 0, 1) := dk_42 (dk_at dksX1_together_5 4 rfl rfl)
theorem dX1_together_120 : decode cX1_together 120 = .ok (.getfield 80, 3) := dk_180 0 80 (dk_at dksX1_together_5 5 rfl rfl)
theorem dX1_together_123 : decode cX1_together 123 = .ok (.iconst 0, 1) := dk_3 (dk_at dksX1_together_5 8 rfl rfl)
theorem dX1_together_124 : decode cX1_together 124 = .ok (.aload_n 0, 1) := dk_42 (dk_at dksX1_together_5 9 rfl rfl)
theorem dX1_together_125 : decode cX1_together 125 = .ok (.getfield 80, 3) := dk_180 0 80 (dk_at dksX1_together_5 10 rfl rfl)
theorem dX1_together_128 : decode cX1_together 128 = .ok (.getfield 147, 3) := dk_180 0 147 (dk_at dksX1_together_5 13 rfl rfl)
theorem dX1_together_131 : decode cX1_together 131 = .ok (.iconst 1, 1) := dk_4 (dk_at dksX1_together_5 16 rfl rfl)
theorem dX1_together_132 : decode cX1_together 132 = .ok (.isub, 1) := dk_100 (dk_at dksX1_together_5 17 rfl rfl)
theorem dX1_together_133 : decode cX1_together 133 = .ok (.iconst (-1), 1) := dk_2 (dk_at dksX1_together_5 18 rfl rfl)
theorem dX1_together_134 : decode cX1_together 134 = .ok (.invokevirtual 346, 3) := dk_182 1 90 (dk_at dksX1_together_5 19 rfl rfl)
theorem dX1_together_137 : decode cX1_together 137 = .ok (.istore 6, 2) := dk_54 6 (dk_at dksX1_together_5 22 rfl rfl)
theorem dX1_together_139 : decode cX1_together 139 = .ok (.iconst 0, 1) := dk_3 (dk_at dksX1_together_6 0 rfl rfl)
theorem dX1_together_140 : decode cX1_together 140 = .ok (.istore 7, 2) := dk_54 7 (dk_at dksX1_together_6 1 rfl rfl)
theorem dX1_together_142 : decode cX1_together 142 = .ok (.iconst 0, 1) := dk_3 (dk_at dksX1_together_6 3 rfl rfl)
theorem dX1_together_143 : decode cX1_together 143 = .ok (.istore 8, 2) := dk_54 8 (dk_at dksX1_together_6 4 rfl rfl)
theorem dX1_together_145 : decode cX1_together 145 = .ok (.iload 8, 2) := dk_21 8 (dk_at dksX1_together_6 6 rfl rfl)
theorem dX1_together_147 : decode cX1_together 147 = .ok (.aload_n 0, 1) := dk_42 (dk_at dksX1_together_6 8 rfl rfl)
theorem dX1_together_148 : decode cX1_together 148 = .ok (.getfield 80, 3) := dk_180 0 80 (dk_at dksX1_together_6 9 rfl rfl)
theorem dX1_together_151 : decode cX1_together 151 = .ok (.getfield 147, 3) := dk_180 0 147 (dk_at dksX1_together_6 12 rfl rfl)
theorem dX1_together_154 : decode cX1_together 154 = .ok (.if_icmp .ge 34, 3) := dk_162 0 34 (dk_at dksX1_together_6 15 rfl rfl)
theorem dX1_together_157 : decode cX1_together 157 = .ok (.iload 7, 2) := dk_21 7 (dk_at dksX1_together_6 18 rfl rfl)
theorem dX1_together_159 : decode cX1_together 159 = .ok (.aload_n 0, 1) := dk_42 (dk_at dksX1_together_6 20 rfl rfl)
theorem dX1_together_160 : decode cX1_together 160 = .ok (.getfield 80, 3) := dk_180 0 80 (dk_at dksX1_together_6 21 rfl rfl)
theorem dX1_together_163 : decode cX1_together 163 = .ok (.getfield 148, 3) := dk_180 0 148 (dk_at dksX1_together_7 0 rfl rfl)
theorem dX1_together_166 : decode cX1_together 166 = .ok (.iload 8, 2) := dk_21 8 (dk_at dksX1_together_7 3 rfl rfl)
theorem dX1_together_168 : decode cX1_together 168 = .ok (.iaload, 1) := dk_46 (dk_at dksX1_together_7 5 rfl rfl)
theorem dX1_together_169 : decode cX1_together 169 = .ok (.iload 6, 2) := dk_21 6 (dk_at dksX1_together_7 6 rfl rfl)
theorem dX1_together_171 : decode cX1_together 171 = .ok (.if_icmp .ne 7, 3) := dk_160 0 7 (dk_at dksX1_together_7 8 rfl rfl)
theorem dX1_together_174 : decode cX1_together 174 = .ok (.iconst 1, 1) := dk_4 (dk_at dksX1_together_7 11 rfl rfl)
theorem dX1_together_175 : decode cX1_together 175 = .ok (.goto 4, 3) := dk_167 0 4 (dk_at dksX1_together_7 12 rfl rfl)
theorem dX1_together_178 : decode cX1_together 178 = .ok (.iconst 0, 1) := dk_3 (dk_at dksX1_together_7 15 rfl rfl)
theorem dX1_together_179 : decode cX1_together 179 = .ok (.iadd, 1) := dk_96 (dk_at dksX1_together_7 16 rfl rfl)
theorem dX1_together_180 : decode cX1_together 180 = .ok (.istore 7, 2) := dk_54 7 (dk_at dksX1_together_7 17 rfl rfl)
theorem dX1_together_182 : decode cX1_together 182 = .ok (.iinc 8 1, 3) := dk_132 8 1 (dk_at dksX1_together_7 19 rfl rfl)
theorem dX1_together_185 : decode cX1_together 185 = .ok (.goto (-40), 3) := dk_167 255 216 (dk_at dksX1_together_8 0 rfl rfl)
theorem dX1_together_188 : decode cX1_together 188 = .ok (.iload 5, 2) := dk_21 5 (dk_at dksX1_together_8 3 rfl rfl)
theorem dX1_together_190 : decode cX1_together 190 = .ok (.ifCond .ne 8, 3) := dk_154 0 8 (dk_at dksX1_together_8 5 rfl rfl)
theorem dX1_together_193 : decode cX1_together 193 = .ok (.iload 6, 2) := dk_21 6 (dk_at dksX1_together_8 8 rfl rfl)
theorem dX1_together_195 : decode cX1_together 195 = .ok (.goto 5, 3) := dk_167 0 5 (dk_at dksX1_together_8 10 rfl rfl)
theorem dX1_together_198 : decode cX1_together 198 = .ok (.iload 7, 2) := dk_21 7 (dk_at dksX1_together_8 13 rfl rfl)
theorem dX1_together_200 : decode cX1_together 200 = .ok (.ireturn, 1) := dk_172 (dk_at dksX1_together_8 15 rfl rfl)
abbrev cX1_agree : ByteArray := prog_1_method_80_code
def yX1_agree : MethodName := ⟨RX1, "agree", "(III)I"⟩
def dkwX1_agree_1 : List UInt8 := [28, 182, 1, 36, 42, 28, 4, 96, 29, 182, 1, 36, 160, 0, 7, 4, 167, 0, 4, 3, 172]
abbrev dktX1_agree_1 : List UInt8 := dkwX1_agree_1 ++ []
def dkwX1_agree_0 : List UInt8 := [42, 27, 28, 182, 0, 236, 153, 0, 14, 42, 28, 4, 96, 29, 182, 0, 236, 154, 0, 5, 2, 172, 42, 27]
abbrev dktX1_agree_0 : List UInt8 := dkwX1_agree_0 ++ dktX1_agree_1
theorem dksX1_agree_0 : cX1_agree.data.toList.drop 0 = dktX1_agree_0 := by decide +kernel
theorem dksX1_agree_1 : cX1_agree.data.toList.drop 24 = dktX1_agree_1 := dk_seg dksX1_agree_0 24 rfl rfl
theorem dX1_agree_0 : decode cX1_agree 0 = .ok (.aload_n 0, 1) := dk_42 (dk_at dksX1_agree_0 0 rfl rfl)
theorem dX1_agree_1 : decode cX1_agree 1 = .ok (.iload_n 1, 1) := dk_27 (dk_at dksX1_agree_0 1 rfl rfl)
theorem dX1_agree_2 : decode cX1_agree 2 = .ok (.iload_n 2, 1) := dk_28 (dk_at dksX1_agree_0 2 rfl rfl)
theorem dX1_agree_3 : decode cX1_agree 3 = .ok (.invokevirtual 236, 3) := dk_182 0 236 (dk_at dksX1_agree_0 3 rfl rfl)
theorem dX1_agree_6 : decode cX1_agree 6 = .ok (.ifCond .eq 14, 3) := dk_153 0 14 (dk_at dksX1_agree_0 6 rfl rfl)
theorem dX1_agree_9 : decode cX1_agree 9 = .ok (.aload_n 0, 1) := dk_42 (dk_at dksX1_agree_0 9 rfl rfl)
theorem dX1_agree_10 : decode cX1_agree 10 = .ok (.iload_n 2, 1) := dk_28 (dk_at dksX1_agree_0 10 rfl rfl)
theorem dX1_agree_11 : decode cX1_agree 11 = .ok (.iconst 1, 1) := dk_4 (dk_at dksX1_agree_0 11 rfl rfl)
theorem dX1_agree_12 : decode cX1_agree 12 = .ok (.iadd, 1) := dk_96 (dk_at dksX1_agree_0 12 rfl rfl)
theorem dX1_agree_13 : decode cX1_agree 13 = .ok (.iload_n 3, 1) := dk_29 (dk_at dksX1_agree_0 13 rfl rfl)
theorem dX1_agree_14 : decode cX1_agree 14 = .ok (.invokevirtual 236, 3) := dk_182 0 236 (dk_at dksX1_agree_0 14 rfl rfl)
theorem dX1_agree_17 : decode cX1_agree 17 = .ok (.ifCond .ne 5, 3) := dk_154 0 5 (dk_at dksX1_agree_0 17 rfl rfl)
theorem dX1_agree_20 : decode cX1_agree 20 = .ok (.iconst (-1), 1) := dk_2 (dk_at dksX1_agree_0 20 rfl rfl)
theorem dX1_agree_21 : decode cX1_agree 21 = .ok (.ireturn, 1) := dk_172 (dk_at dksX1_agree_0 21 rfl rfl)
theorem dX1_agree_22 : decode cX1_agree 22 = .ok (.aload_n 0, 1) := dk_42 (dk_at dksX1_agree_0 22 rfl rfl)
theorem dX1_agree_23 : decode cX1_agree 23 = .ok (.iload_n 1, 1) := dk_27 (dk_at dksX1_agree_0 23 rfl rfl)
theorem dX1_agree_24 : decode cX1_agree 24 = .ok (.iload_n 2, 1) := dk_28 (dk_at dksX1_agree_1 0 rfl rfl)
theorem dX1_agree_25 : decode cX1_agree 25 = .ok (.invokevirtual 292, 3) := dk_182 1 36 (dk_at dksX1_agree_1 1 rfl rfl)
theorem dX1_agree_28 : decode cX1_agree 28 = .ok (.aload_n 0, 1) := dk_42 (dk_at dksX1_agree_1 4 rfl rfl)
theorem dX1_agree_29 : decode cX1_agree 29 = .ok (.iload_n 2, 1) := dk_28 (dk_at dksX1_agree_1 5 rfl rfl)
theorem dX1_agree_30 : decode cX1_agree 30 = .ok (.iconst 1, 1) := dk_4 (dk_at dksX1_agree_1 6 rfl rfl)
theorem dX1_agree_31 : decode cX1_agree 31 = .ok (.iadd, 1) := dk_96 (dk_at dksX1_agree_1 7 rfl rfl)
theorem dX1_agree_32 : decode cX1_agree 32 = .ok (.iload_n 3, 1) := dk_29 (dk_at dksX1_agree_1 8 rfl rfl)
theorem dX1_agree_33 : decode cX1_agree 33 = .ok (.invokevirtual 292, 3) := dk_182 1 36 (dk_at dksX1_agree_1 9 rfl rfl)
theorem dX1_agree_36 : decode cX1_agree 36 = .ok (.if_icmp .ne 7, 3) := dk_160 0 7 (dk_at dksX1_agree_1 12 rfl rfl)
theorem dX1_agree_39 : decode cX1_agree 39 = .ok (.iconst 1, 1) := dk_4 (dk_at dksX1_agree_1 15 rfl rfl)
theorem dX1_agree_40 : decode cX1_agree 40 = .ok (.goto 4, 3) := dk_167 0 4 (dk_at dksX1_agree_1 16 rfl rfl)
theorem dX1_agree_43 : decode cX1_agree 43 = .ok (.iconst 0, 1) := dk_3 (dk_at dksX1_agree_1 19 rfl rfl)
theorem dX1_agree_44 : decode cX1_agree 44 = .ok (.ireturn, 1) := dk_172 (dk_at dksX1_agree_1 20 rfl rfl)
abbrev cX1_peeled : ByteArray := prog_1_method_81_code
def yX1_peeled : MethodName := ⟨RX1, "peeled", "(III)I"⟩
def dkwX1_peeled_3 : List UInt8 := [182, 0, 182, 100, 54, 4, 132, 5, 1, 167, 255, 226, 21, 4, 172]
abbrev dktX1_peeled_3 : List UInt8 := dkwX1_peeled_3 ++ []
def dkwX1_peeled_2 : List UInt8 := [54, 5, 21, 5, 29, 162, 0, 30, 21, 4, 42, 42, 180, 0, 67, 21, 5, 46, 182, 0, 165, 27, 28]
abbrev dktX1_peeled_2 : List UInt8 := dkwX1_peeled_2 ++ dktX1_peeled_3
def dkwX1_peeled_1 : List UInt8 := [180, 1, 6, 164, 0, 6, 16, 254, 172, 42, 27, 28, 182, 1, 46, 28, 27, 100, 4, 96, 54, 4, 3]
abbrev dktX1_peeled_1 : List UInt8 := dkwX1_peeled_1 ++ dktX1_peeled_2
def dkwX1_peeled_0 : List UInt8 := [42, 27, 28, 182, 0, 236, 153, 0, 7, 29, 156, 0, 5, 2, 172, 42, 27, 28, 182, 1, 43, 29, 42]
abbrev dktX1_peeled_0 : List UInt8 := dkwX1_peeled_0 ++ dktX1_peeled_1
theorem dksX1_peeled_0 : cX1_peeled.data.toList.drop 0 = dktX1_peeled_0 := by decide +kernel
theorem dksX1_peeled_1 : cX1_peeled.data.toList.drop 23 = dktX1_peeled_1 := dk_seg dksX1_peeled_0 23 rfl rfl
theorem dksX1_peeled_2 : cX1_peeled.data.toList.drop 46 = dktX1_peeled_2 := dk_seg dksX1_peeled_1 23 rfl rfl
theorem dksX1_peeled_3 : cX1_peeled.data.toList.drop 69 = dktX1_peeled_3 := dk_seg dksX1_peeled_2 23 rfl rfl
theorem dX1_peeled_0 : decode cX1_peeled 0 = .ok (.aload_n 0, 1) := dk_42 (dk_at dksX1_peeled_0 0 rfl rfl)
theorem dX1_peeled_1 : decode cX1_peeled 1 = .ok (.iload_n 1, 1) := dk_27 (dk_at dksX1_peeled_0 1 rfl rfl)
theorem dX1_peeled_2 : decode cX1_peeled 2 = .ok (.iload_n 2, 1) := dk_28 (dk_at dksX1_peeled_0 2 rfl rfl)
theorem dX1_peeled_3 : decode cX1_peeled 3 = .ok (.invokevirtual 236, 3) := dk_182 0 236 (dk_at dksX1_peeled_0 3 rfl rfl)
theorem dX1_peeled_6 : decode cX1_peeled 6 = .ok (.ifCond .eq 7, 3) := dk_153 0 7 (dk_at dksX1_peeled_0 6 rfl rfl)
theorem dX1_peeled_9 : decode cX1_peeled 9 = .ok (.iload_n 3, 1) := dk_29 (dk_at dksX1_peeled_0 9 rfl rfl)
theorem dX1_peeled_10 : decode cX1_peeled 10 = .ok (.ifCond .ge 5, 3) := dk_156 0 5 (dk_at dksX1_peeled_0 10 rfl rfl)
theorem dX1_peeled_13 : decode cX1_peeled 13 = .ok (.iconst (-1), 1) := dk_2 (dk_at dksX1_peeled_0 13 rfl rfl)
theorem dX1_peeled_14 : decode cX1_peeled 14 = .ok (.ireturn, 1) := dk_172 (dk_at dksX1_peeled_0 14 rfl rfl)
theorem dX1_peeled_15 : decode cX1_peeled 15 = .ok (.aload_n 0, 1) := dk_42 (dk_at dksX1_peeled_0 15 rfl rfl)
theorem dX1_peeled_16 : decode cX1_peeled 16 = .ok (.iload_n 1, 1) := dk_27 (dk_at dksX1_peeled_0 16 rfl rfl)
theorem dX1_peeled_17 : decode cX1_peeled 17 = .ok (.iload_n 2, 1) := dk_28 (dk_at dksX1_peeled_0 17 rfl rfl)
theorem dX1_peeled_18 : decode cX1_peeled 18 = .ok (.invokevirtual 299, 3) := dk_182 1 43 (dk_at dksX1_peeled_0 18 rfl rfl)
theorem dX1_peeled_21 : decode cX1_peeled 21 = .ok (.iload_n 3, 1) := dk_29 (dk_at dksX1_peeled_0 21 rfl rfl)
theorem dX1_peeled_22 : decode cX1_peeled 22 = .ok (.aload_n 0, 1) := dk_42 (dk_at dksX1_peeled_0 22 rfl rfl)
theorem dX1_peeled_23 : decode cX1_peeled 23 = .ok (.getfield 262, 3) := dk_180 1 6 (dk_at dksX1_peeled_1 0 rfl rfl)
theorem dX1_peeled_26 : decode cX1_peeled 26 = .ok (.if_icmp .le 6, 3) := dk_164 0 6 (dk_at dksX1_peeled_1 3 rfl rfl)
theorem dX1_peeled_29 : decode cX1_peeled 29 = .ok (.bipush (-2), 2) := dk_16 254 (dk_at dksX1_peeled_1 6 rfl rfl)
theorem dX1_peeled_31 : decode cX1_peeled 31 = .ok (.ireturn, 1) := dk_172 (dk_at dksX1_peeled_1 8 rfl rfl)
theorem dX1_peeled_32 : decode cX1_peeled 32 = .ok (.aload_n 0, 1) := dk_42 (dk_at dksX1_peeled_1 9 rfl rfl)
theorem dX1_peeled_33 : decode cX1_peeled 33 = .ok (.iload_n 1, 1) := dk_27 (dk_at dksX1_peeled_1 10 rfl rfl)
theorem dX1_peeled_34 : decode cX1_peeled 34 = .ok (.iload_n 2, 1) := dk_28 (dk_at dksX1_peeled_1 11 rfl rfl)
theorem dX1_peeled_35 : decode cX1_peeled 35 = .ok (.invokevirtual 302, 3) := dk_182 1 46 (dk_at dksX1_peeled_1 12 rfl rfl)
theorem dX1_peeled_38 : decode cX1_peeled 38 = .ok (.iload_n 2, 1) := dk_28 (dk_at dksX1_peeled_1 15 rfl rfl)
theorem dX1_peeled_39 : decode cX1_peeled 39 = .ok (.iload_n 1, 1) := dk_27 (dk_at dksX1_peeled_1 16 rfl rfl)
theorem dX1_peeled_40 : decode cX1_peeled 40 = .ok (.isub, 1) := dk_100 (dk_at dksX1_peeled_1 17 rfl rfl)
theorem dX1_peeled_41 : decode cX1_peeled 41 = .ok (.iconst 1, 1) := dk_4 (dk_at dksX1_peeled_1 18 rfl rfl)
theorem dX1_peeled_42 : decode cX1_peeled 42 = .ok (.iadd, 1) := dk_96 (dk_at dksX1_peeled_1 19 rfl rfl)
theorem dX1_peeled_43 : decode cX1_peeled 43 = .ok (.istore 4, 2) := dk_54 4 (dk_at dksX1_peeled_1 20 rfl rfl)
theorem dX1_peeled_45 : decode cX1_peeled 45 = .ok (.iconst 0, 1) := dk_3 (dk_at dksX1_peeled_1 22 rfl rfl)
theorem dX1_peeled_46 : decode cX1_peeled 46 = .ok (.istore 5, 2) := dk_54 5 (dk_at dksX1_peeled_2 0 rfl rfl)
theorem dX1_peeled_48 : decode cX1_peeled 48 = .ok (.iload 5, 2) := dk_21 5 (dk_at dksX1_peeled_2 2 rfl rfl)
theorem dX1_peeled_50 : decode cX1_peeled 50 = .ok (.iload_n 3, 1) := dk_29 (dk_at dksX1_peeled_2 4 rfl rfl)
theorem dX1_peeled_51 : decode cX1_peeled 51 = .ok (.if_icmp .ge 30, 3) := dk_162 0 30 (dk_at dksX1_peeled_2 5 rfl rfl)
theorem dX1_peeled_54 : decode cX1_peeled 54 = .ok (.iload 4, 2) := dk_21 4 (dk_at dksX1_peeled_2 8 rfl rfl)
theorem dX1_peeled_56 : decode cX1_peeled 56 = .ok (.aload_n 0, 1) := dk_42 (dk_at dksX1_peeled_2 10 rfl rfl)
theorem dX1_peeled_57 : decode cX1_peeled 57 = .ok (.aload_n 0, 1) := dk_42 (dk_at dksX1_peeled_2 11 rfl rfl)
theorem dX1_peeled_58 : decode cX1_peeled 58 = .ok (.getfield 67, 3) := dk_180 0 67 (dk_at dksX1_peeled_2 12 rfl rfl)
theorem dX1_peeled_61 : decode cX1_peeled 61 = .ok (.iload 5, 2) := dk_21 5 (dk_at dksX1_peeled_2 15 rfl rfl)
theorem dX1_peeled_63 : decode cX1_peeled 63 = .ok (.iaload, 1) := dk_46 (dk_at dksX1_peeled_2 17 rfl rfl)
theorem dX1_peeled_64 : decode cX1_peeled 64 = .ok (.invokevirtual 165, 3) := dk_182 0 165 (dk_at dksX1_peeled_2 18 rfl rfl)
theorem dX1_peeled_67 : decode cX1_peeled 67 = .ok (.iload_n 1, 1) := dk_27 (dk_at dksX1_peeled_2 21 rfl rfl)
theorem dX1_peeled_68 : decode cX1_peeled 68 = .ok (.iload_n 2, 1) := dk_28 (dk_at dksX1_peeled_2 22 rfl rfl)
theorem dX1_peeled_69 : decode cX1_peeled 69 = .ok (.invokevirtual 182, 3) := dk_182 0 182 (dk_at dksX1_peeled_3 0 rfl rfl)
theorem dX1_peeled_72 : decode cX1_peeled 72 = .ok (.isub, 1) := dk_100 (dk_at dksX1_peeled_3 3 rfl rfl)
theorem dX1_peeled_73 : decode cX1_peeled 73 = .ok (.istore 4, 2) := dk_54 4 (dk_at dksX1_peeled_3 4 rfl rfl)
theorem dX1_peeled_75 : decode cX1_peeled 75 = .ok (.iinc 5 1, 3) := dk_132 5 1 (dk_at dksX1_peeled_3 6 rfl rfl)
theorem dX1_peeled_78 : decode cX1_peeled 78 = .ok (.goto (-30), 3) := dk_167 255 226 (dk_at dksX1_peeled_3 9 rfl rfl)
theorem dX1_peeled_81 : decode cX1_peeled 81 = .ok (.iload 4, 2) := dk_21 4 (dk_at dksX1_peeled_3 12 rfl rfl)
theorem dX1_peeled_83 : decode cX1_peeled 83 = .ok (.ireturn, 1) := dk_172 (dk_at dksX1_peeled_3 14 rfl rfl)
abbrev cX1_reign : ByteArray := prog_1_method_82_code
def yX1_reign : MethodName := ⟨RX1, "reign", "(II)I"⟩
def dkwX1_reign_2 : List UInt8 := [167, 0, 18, 28, 154, 0, 10, 42, 180, 1, 81, 167, 0, 7, 42, 180, 1, 84, 172]
abbrev dktX1_reign_2 : List UInt8 := dkwX1_reign_2 ++ []
def dkwX1_reign_1 : List UInt8 := [187, 1, 98, 89, 42, 27, 183, 1, 100, 182, 1, 101, 78, 42, 180, 1, 67, 154, 0, 8, 16, 254]
abbrev dktX1_reign_1 : List UInt8 := dkwX1_reign_1 ++ dktX1_reign_2
def dkwX1_reign_0 : List UInt8 := [27, 184, 0, 219, 153, 0, 13, 28, 133, 9, 10, 184, 0, 89, 154, 0, 5, 2, 172, 42, 3, 181, 1, 67]
abbrev dktX1_reign_0 : List UInt8 := dkwX1_reign_0 ++ dktX1_reign_1
theorem dksX1_reign_0 : cX1_reign.data.toList.drop 0 = dktX1_reign_0 := by decide +kernel
theorem dksX1_reign_1 : cX1_reign.data.toList.drop 24 = dktX1_reign_1 := dk_seg dksX1_reign_0 24 rfl rfl
theorem dksX1_reign_2 : cX1_reign.data.toList.drop 46 = dktX1_reign_2 := dk_seg dksX1_reign_1 22 rfl rfl
theorem dX1_reign_0 : decode cX1_reign 0 = .ok (.iload_n 1, 1) := dk_27 (dk_at dksX1_reign_0 0 rfl rfl)
theorem dX1_reign_1 : decode cX1_reign 1 = .ok (.invokestatic 219, 3) := dk_184 0 219 (dk_at dksX1_reign_0 1 rfl rfl)
theorem dX1_reign_4 : decode cX1_reign 4 = .ok (.ifCond .eq 13, 3) := dk_153 0 13 (dk_at dksX1_reign_0 4 rfl rfl)
theorem dX1_reign_7 : decode cX1_reign 7 = .ok (.iload_n 2, 1) := dk_28 (dk_at dksX1_reign_0 7 rfl rfl)
theorem dX1_reign_8 : decode cX1_reign 8 = .ok (.i2l, 1) := dk_133 (dk_at dksX1_reign_0 8 rfl rfl)
theorem dX1_reign_9 : decode cX1_reign 9 = .ok (.lconst 0, 1) := dk_9 (dk_at dksX1_reign_0 9 rfl rfl)
theorem dX1_reign_10 : decode cX1_reign 10 = .ok (.lconst 1, 1) := dk_10 (dk_at dksX1_reign_0 10 rfl rfl)
theorem dX1_reign_11 : decode cX1_reign 11 = .ok (.invokestatic 89, 3) := dk_184 0 89 (dk_at dksX1_reign_0 11 rfl rfl)
theorem dX1_reign_14 : decode cX1_reign 14 = .ok (.ifCond .ne 5, 3) := dk_154 0 5 (dk_at dksX1_reign_0 14 rfl rfl)
theorem dX1_reign_17 : decode cX1_reign 17 = .ok (.iconst (-1), 1) := dk_2 (dk_at dksX1_reign_0 17 rfl rfl)
theorem dX1_reign_18 : decode cX1_reign 18 = .ok (.ireturn, 1) := dk_172 (dk_at dksX1_reign_0 18 rfl rfl)
theorem dX1_reign_19 : decode cX1_reign 19 = .ok (.aload_n 0, 1) := dk_42 (dk_at dksX1_reign_0 19 rfl rfl)
theorem dX1_reign_20 : decode cX1_reign 20 = .ok (.iconst 0, 1) := dk_3 (dk_at dksX1_reign_0 20 rfl rfl)
theorem dX1_reign_21 : decode cX1_reign 21 = .ok (.putfield 323, 3) := dk_181 1 67 (dk_at dksX1_reign_0 21 rfl rfl)
theorem dX1_reign_24 : decode cX1_reign 24 = .ok (.new 354, 3) := dk_187 1 98 (dk_at dksX1_reign_1 0 rfl rfl)
theorem dX1_reign_27 : decode cX1_reign 27 = .ok (.dup, 1) := dk_89 (dk_at dksX1_reign_1 3 rfl rfl)
theorem dX1_reign_28 : decode cX1_reign 28 = .ok (.aload_n 0, 1) := dk_42 (dk_at dksX1_reign_1 4 rfl rfl)
theorem dX1_reign_29 : decode cX1_reign 29 = .ok (.iload_n 1, 1) := dk_27 (dk_at dksX1_reign_1 5 rfl rfl)
theorem dX1_reign_30 : decode cX1_reign 30 = .ok (.invokespecial 356, 3) := dk_183 1 100 (dk_at dksX1_reign_1 6 rfl rfl)
theorem dX1_reign_33 : decode cX1_reign 33 = .ok (.invokevirtual 357, 3) := dk_182 1 101 (dk_at dksX1_reign_1 9 rfl rfl)
theorem dX1_reign_36 : decode cX1_reign 36 = .ok (.astore_n 3, 1) := dk_78 (dk_at dksX1_reign_1 12 rfl rfl)
theorem dX1_reign_37 : decode cX1_reign 37 = .ok (.aload_n 0, 1) := dk_42 (dk_at dksX1_reign_1 13 rfl rfl)
theorem dX1_reign_38 : decode cX1_reign 38 = .ok (.getfield 323, 3) := dk_180 1 67 (dk_at dksX1_reign_1 14 rfl rfl)
theorem dX1_reign_41 : decode cX1_reign 41 = .ok (.ifCond .ne 8, 3) := dk_154 0 8 (dk_at dksX1_reign_1 17 rfl rfl)
theorem dX1_reign_44 : decode cX1_reign 44 = .ok (.bipush (-2), 2) := dk_16 254 (dk_at dksX1_reign_1 20 rfl rfl)
theorem dX1_reign_46 : decode cX1_reign 46 = .ok (.goto 18, 3) := dk_167 0 18 (dk_at dksX1_reign_2 0 rfl rfl)
theorem dX1_reign_49 : decode cX1_reign 49 = .ok (.iload_n 2, 1) := dk_28 (dk_at dksX1_reign_2 3 rfl rfl)
theorem dX1_reign_50 : decode cX1_reign 50 = .ok (.ifCond .ne 10, 3) := dk_154 0 10 (dk_at dksX1_reign_2 4 rfl rfl)
theorem dX1_reign_53 : decode cX1_reign 53 = .ok (.aload_n 0, 1) := dk_42 (dk_at dksX1_reign_2 7 rfl rfl)
theorem dX1_reign_54 : decode cX1_reign 54 = .ok (.getfield 337, 3) := dk_180 1 81 (dk_at dksX1_reign_2 8 rfl rfl)
theorem dX1_reign_57 : decode cX1_reign 57 = .ok (.goto 7, 3) := dk_167 0 7 (dk_at dksX1_reign_2 11 rfl rfl)
theorem dX1_reign_60 : decode cX1_reign 60 = .ok (.aload_n 0, 1) := dk_42 (dk_at dksX1_reign_2 14 rfl rfl)
theorem dX1_reign_61 : decode cX1_reign 61 = .ok (.getfield 340, 3) := dk_180 1 84 (dk_at dksX1_reign_2 15 rfl rfl)
theorem dX1_reign_64 : decode cX1_reign 64 = .ok (.ireturn, 1) := dk_172 (dk_at dksX1_reign_2 18 rfl rfl)
abbrev cX1_beginnings : ByteArray := prog_1_method_83_code
def yX1_beginnings : MethodName := ⟨RX1, "beginnings", "(I)I"⟩
def dkwX1_beginnings_7 : List UInt8 := [160, 0, 7, 29, 167, 0, 15, 27, 5, 160, 0, 8, 21, 4, 167, 0, 5, 21, 6, 172]
abbrev dktX1_beginnings_7 : List UInt8 := dkwX1_beginnings_7 ++ []
def dkwX1_beginnings_6 : List UInt8 := [54, 6, 21, 9, 54, 7, 132, 8, 1, 167, 255, 162, 27, 154, 0, 7, 28, 167, 0, 24, 27, 4]
abbrev dktX1_beginnings_6 : List UInt8 := dkwX1_beginnings_6 ++ dktX1_beginnings_7
def dkwX1_beginnings_5 : List UInt8 := [159, 0, 13, 132, 2, 1, 21, 8, 62, 21, 8, 54, 5, 21, 6, 21, 8, 21, 5, 100, 184, 1, 102]
abbrev dktX1_beginnings_5 : List UInt8 := dkwX1_beginnings_5 ++ dktX1_beginnings_6
def dkwX1_beginnings_4 : List UInt8 := [96, 54, 4, 42, 180, 0, 77, 21, 9, 92, 46, 4, 96, 79, 21, 7, 2, 159, 0, 20, 21, 7, 21, 9]
abbrev dktX1_beginnings_4 : List UInt8 := dkwX1_beginnings_4 ++ dktX1_beginnings_5
def dkwX1_beginnings_3 : List UInt8 := [21, 8, 182, 1, 36, 54, 9, 21, 4, 42, 180, 0, 77, 21, 9, 46, 154, 0, 7, 4, 167, 0, 4, 3]
abbrev dktX1_beginnings_3 : List UInt8 := dkwX1_beginnings_3 ++ dktX1_beginnings_4
def dkwX1_beginnings_2 : List UInt8 := [16, 254, 54, 6, 2, 54, 7, 3, 54, 8, 21, 8, 42, 180, 0, 20, 180, 0, 147, 162, 0, 88, 42, 3]
abbrev dktX1_beginnings_2 : List UInt8 := dkwX1_beginnings_2 ++ dktX1_beginnings_3
def dkwX1_beginnings_1 : List UInt8 := [180, 0, 77, 28, 3, 79, 132, 2, 1, 167, 255, 239, 3, 61, 16, 254, 62, 3, 54, 4, 3, 54, 5]
abbrev dktX1_beginnings_1 : List UInt8 := dkwX1_beginnings_1 ++ dktX1_beginnings_2
def dkwX1_beginnings_0 : List UInt8 := [27, 133, 9, 20, 1, 34, 184, 0, 89, 154, 0, 5, 2, 172, 3, 61, 28, 17, 3, 232, 162, 0, 16, 42]
abbrev dktX1_beginnings_0 : List UInt8 := dkwX1_beginnings_0 ++ dktX1_beginnings_1
theorem dksX1_beginnings_0 : cX1_beginnings.data.toList.drop 0 = dktX1_beginnings_0 := by decide +kernel
theorem dksX1_beginnings_1 : cX1_beginnings.data.toList.drop 24 = dktX1_beginnings_1 := dk_seg dksX1_beginnings_0 24 rfl rfl
theorem dksX1_beginnings_2 : cX1_beginnings.data.toList.drop 47 = dktX1_beginnings_2 := dk_seg dksX1_beginnings_1 23 rfl rfl
theorem dksX1_beginnings_3 : cX1_beginnings.data.toList.drop 71 = dktX1_beginnings_3 := dk_seg dksX1_beginnings_2 24 rfl rfl
theorem dksX1_beginnings_4 : cX1_beginnings.data.toList.drop 95 = dktX1_beginnings_4 := dk_seg dksX1_beginnings_3 24 rfl rfl
theorem dksX1_beginnings_5 : cX1_beginnings.data.toList.drop 119 = dktX1_beginnings_5 := dk_seg dksX1_beginnings_4 24 rfl rfl
theorem dksX1_beginnings_6 : cX1_beginnings.data.toList.drop 142 = dktX1_beginnings_6 := dk_seg dksX1_beginnings_5 23 rfl rfl
theorem dksX1_beginnings_7 : cX1_beginnings.data.toList.drop 164 = dktX1_beginnings_7 := dk_seg dksX1_beginnings_6 22 rfl rfl
theorem dX1_beginnings_0 : decode cX1_beginnings 0 = .ok (.iload_n 1, 1) := dk_27 (dk_at dksX1_beginnings_0 0 rfl rfl)
theorem dX1_beginnings_1 : decode cX1_beginnings 1 = .ok (.i2l, 1) := dk_133 (dk_at dksX1_beginnings_0 1 rfl rfl)
theorem dX1_beginnings_2 : decode cX1_beginnings 2 = .ok (.lconst 0, 1) := dk_9 (dk_at dksX1_beginnings_0 2 rfl rfl)
theorem dX1_beginnings_3 : decode cX1_beginnings 3 = .ok (.ldc2_w 290, 3) := dk_20 1 34 (dk_at dksX1_beginnings_0 3 rfl rfl)
theorem dX1_beginnings_6 : decode cX1_beginnings 6 = .ok (.invokestatic 89, 3) := dk_184 0 89 (dk_at dksX1_beginnings_0 6 rfl rfl)
theorem dX1_beginnings_9 : decode cX1_beginnings 9 = .ok (.ifCond .ne 5, 3) := dk_154 0 5 (dk_at dksX1_beginnings_0 9 rfl rfl)
theorem dX1_beginnings_12 : decode cX1_beginnings 12 = .ok (.iconst (-1), 1) := dk_2 (dk_at dksX1_beginnings_0 12 rfl rfl)
theorem dX1_beginnings_13 : decode cX1_beginnings 13 = .ok (.ireturn, 1) := dk_172 (dk_at dksX1_beginnings_0 13 rfl rfl)
theorem dX1_beginnings_14 : decode cX1_beginnings 14 = .ok (.iconst 0, 1) := dk_3 (dk_at dksX1_beginnings_0 14 rfl rfl)
theorem dX1_beginnings_15 : decode cX1_beginnings 15 = .ok (.istore_n 2, 1) := dk_61 (dk_at dksX1_beginnings_0 15 rfl rfl)
theorem dX1_beginnings_16 : decode cX1_beginnings 16 = .ok (.iload_n 2, 1) := dk_28 (dk_at dksX1_beginnings_0 16 rfl rfl)
theorem dX1_beginnings_17 : decode cX1_beginnings 17 = .ok (.sipush 1000, 3) := dk_17 3 232 (dk_at dksX1_beginnings_0 17 rfl rfl)
theorem dX1_beginnings_20 : decode cX1_beginnings 20 = .ok (.if_icmp .ge 16, 3) := dk_162 0 16 (dk_at dksX1_beginnings_0 20 rfl rfl)
theorem dX1_beginnings_23 : decode cX1_beginnings 23 = .ok (.aload_n 0, 1) := dk_42 (dk_at dksX1_beginnings_0 23 rfl rfl)
theorem dX1_beginnings_24 : decode cX1_beginnings 24 = .ok (.getfield 77, 3) := dk_180 0 77 (dk_at dksX1_beginnings_1 0 rfl rfl)
theorem dX1_beginnings_27 : decode cX1_beginnings 27 = .ok (.iload_n 2, 1) := dk_28 (dk_at dksX1_beginnings_1 3 rfl rfl)
theorem dX1_beginnings_28 : decode cX1_beginnings 28 = .ok (.iconst 0, 1) := dk_3 (dk_at dksX1_beginnings_1 4 rfl rfl)
theorem dX1_beginnings_29 : decode cX1_beginnings 29 = .ok (.iastore, 1) := dk_79 (dk_at dksX1_beginnings_1 5 rfl rfl)
theorem dX1_beginnings_30 : decode cX1_beginnings 30 = .ok (.iinc 2 1, 3) := dk_132 2 1 (dk_at dksX1_beginnings_1 6 rfl rfl)
theorem dX1_beginnings_33 : decode cX1_beginnings 33 = .ok (.goto (-17), 3) := dk_167 255 239 (dk_at dksX1_beginnings_1 9 rfl rfl)
theorem dX1_beginnings_36 : decode cX1_beginnings 36 = .ok (.iconst 0, 1) := dk_3 (dk_at dksX1_beginnings_1 12 rfl rfl)
theorem dX1_beginnings_37 : decode cX1_beginnings 37 = .ok (.istore_n 2, 1) := dk_61 (dk_at dksX1_beginnings_1 13 rfl rfl)
theorem dX1_beginnings_38 : decode cX1_beginnings 38 = .ok (.bipush (-2), 2) := dk_16 254 (dk_at dksX1_beginnings_1 14 rfl rfl)
theorem dX1_beginnings_40 : decode cX1_beginnings 40 = .ok (.istore_n 3, 1) := dk_62 (dk_at dksX1_beginnings_1 16 rfl rfl)
theorem dX1_beginnings_41 : decode cX1_beginnings 41 = .ok (.iconst 0, 1) := dk_3 (dk_at dksX1_beginnings_1 17 rfl rfl)
theorem dX1_beginnings_42 : decode cX1_beginnings 42 = .ok (.istore 4, 2) := dk_54 4 (dk_at dksX1_beginnings_1 18 rfl rfl)
theorem dX1_beginnings_44 : decode cX1_beginnings 44 = .ok (.iconst 0, 1) := dk_3 (dk_at dksX1_beginnings_1 20 rfl rfl)
theorem dX1_beginnings_45 : decode cX1_beginnings 45 = .ok (.istore 5, 2) := dk_54 5 (dk_at dksX1_beginnings_1 21 rfl rfl)
theorem dX1_beginnings_47 : decode cX1_beginnings 47 = .ok (.bipush (-2), 2) := dk_16 254 (dk_at dksX1_beginnings_2 0 rfl rfl)
theorem dX1_beginnings_49 : decode cX1_beginnings 49 = .ok (.istore 6, 2) := dk_54 6 (dk_at dksX1_beginnings_2 2 rfl rfl)
theorem dX1_beginnings_51 : decode cX1_beginnings 51 = .ok (.iconst (-1), 1) := dk_2 (dk_at dksX1_beginnings_2 4 rfl rfl)
theorem dX1_beginnings_52 : decode cX1_beginnings 52 = .ok (.istore 7, 2) := dk_54 7 (dk_at dksX1_beginnings_2 5 rfl rfl)
theorem dX1_beginnings_54 : decode cX1_beginnings 54 = .ok (.iconst 0, 1) := dk_3 (dk_at dksX1_beginnings_2 7 rfl rfl)
theorem dX1_beginnings_55 : decode cX1_beginnings 55 = .ok (.istore 8, 2) := dk_54 8 (dk_at dksX1_beginnings_2 8 rfl rfl)
theorem dX1_beginnings_57 : decode cX1_beginnings 57 = .ok (.iload 8, 2) := dk_21 8 (dk_at dksX1_beginnings_2 10 rfl rfl)
theorem dX1_beginnings_59 : decode cX1_beginnings 59 = .ok (.aload_n 0, 1) := dk_42 (dk_at dksX1_beginnings_2 12 rfl rfl)
theorem dX1_beginnings_60 : decode cX1_beginnings 60 = .ok (.getfield 20, 3) := dk_180 0 20 (dk_at dksX1_beginnings_2 13 rfl rfl)
theorem dX1_beginnings_63 : decode cX1_beginnings 63 = .ok (.getfield 147, 3) := dk_180 0 147 (dk_at dksX1_beginnings_2 16 rfl rfl)
theorem dX1_beginnings_66 : decode cX1_beginnings 66 = .ok (.if_icmp .ge 88, 3) := dk_162 0 88 (dk_at dksX1_beginnings_2 19 rfl rfl)
theorem dX1_beginnings_69 : decode cX1_beginnings 69 = .ok (.aload_n 0, 1) := dk_42 (dk_at dksX1_beginnings_2 22 rfl rfl)
theorem dX1_beginnings_70 : decode cX1_beginnings 70 = .ok (.iconst 0, 1) := dk_3 (dk_at dksX1_beginnings_2 23 rfl rfl)
theorem dX1_beginnings_71 : decode cX1_beginnings 71 = .ok (.iload 8, 2) := dk_21 8 (dk_at dksX1_beginnings_3 0 rfl rfl)
theorem dX1_beginnings_73 : decode cX1_beginnings 73 = .ok (.invokevirtual 292, 3) := dk_182 1 36 (dk_at dksX1_beginnings_3 2 rfl rfl)
theorem dX1_beginnings_76 : decode cX1_beginnings 76 = .ok (.istore 9, 2) := dk_54 9 (dk_at dksX1_beginnings_3 5 rfl rfl)
theorem dX1_beginnings_78 : decode cX1_beginnings 78 = .ok (.iload 4, 2) := dk_21 4 (dk_at dksX1_beginnings_3 7 rfl rfl)
theorem dX1_beginnings_80 : decode cX1_beginnings 80 = .ok (.aload_n 0, 1) := dk_42 (dk_at dksX1_beginnings_3 9 rfl rfl)
theorem dX1_beginnings_81 : decode cX1_beginnings 81 = .ok (.getfield 77, 3) := dk_180 0 77 (dk_at dksX1_beginnings_3 10 rfl rfl)
theorem dX1_beginnings_84 : decode cX1_beginnings 84 = .ok (.iload 9, 2) := dk_21 9 (dk_at dksX1_beginnings_3 13 rfl rfl)
theorem dX1_beginnings_86 : decode cX1_beginnings 86 = .ok (.iaload, 1) := dk_46 (dk_at dksX1_beginnings_3 15 rfl rfl)
theorem dX1_beginnings_87 : decode cX1_beginnings 87 = .ok (.ifCond .ne 7, 3) := dk_154 0 7 (dk_at dksX1_beginnings_3 16 rfl rfl)
theorem dX1_beginnings_90 : decode cX1_beginnings 90 = .ok (.iconst 1, 1) := dk_4 (dk_at dksX1_beginnings_3 19 rfl rfl)
theorem dX1_beginnings_91 : decode cX1_beginnings 91 = .ok (.goto 4, 3) := dk_167 0 4 (dk_at dksX1_beginnings_3 20 rfl rfl)
theorem dX1_beginnings_94 : decode cX1_beginnings 94 = .ok (.iconst 0, 1) := dk_3 (dk_at dksX1_beginnings_3 23 rfl rfl)
theorem dX1_beginnings_95 : decode cX1_beginnings 95 = .ok (.iadd, 1) := dk_96 (dk_at dksX1_beginnings_4 0 rfl rfl)
theorem dX1_beginnings_96 : decode cX1_beginnings 96 = .ok (.istore 4, 2) := dk_54 4 (dk_at dksX1_beginnings_4 1 rfl rfl)
theorem dX1_beginnings_98 : decode cX1_beginnings 98 = .ok (.aload_n 0, 1) := dk_42 (dk_at dksX1_beginnings_4 3 rfl rfl)
theorem dX1_beginnings_99 : decode cX1_beginnings 99 = .ok (.getfield 77, 3) := dk_180 0 77 (dk_at dksX1_beginnings_4 4 rfl rfl)
theorem dX1_beginnings_102 : decode cX1_beginnings 102 = .ok (.iload 9, 2) := dk_21 9 (dk_at dksX1_beginnings_4 7 rfl rfl)
theorem dX1_beginnings_104 : decode cX1_beginnings 104 = .ok (.dup2, 1) := dk_92 (dk_at dksX1_beginnings_4 9 rfl rfl)
theorem dX1_beginnings_105 : decode cX1_beginnings 105 = .ok (.iaload, 1) := dk_46 (dk_at dksX1_beginnings_4 10 rfl rfl)
theorem dX1_beginnings_106 : decode cX1_beginnings 106 = .ok (.iconst 1, 1) := dk_4 (dk_at dksX1_beginnings_4 11 rfl rfl)
theorem dX1_beginnings_107 : decode cX1_beginnings 107 = .ok (.iadd, 1) := dk_96 (dk_at dksX1_beginnings_4 12 rfl rfl)
theorem dX1_beginnings_108 : decode cX1_beginnings 108 = .ok (.iastore, 1) := dk_79 (dk_at dksX1_beginnings_4 13 rfl rfl)
theorem dX1_beginnings_109 : decode cX1_beginnings 109 = .ok (.iload 7, 2) := dk_21 7 (dk_at dksX1_beginnings_4 14 rfl rfl)
theorem dX1_beginnings_111 : decode cX1_beginnings 111 = .ok (.iconst (-1), 1) := dk_2 (dk_at dksX1_beginnings_4 16 rfl rfl)
theorem dX1_beginnings_112 : decode cX1_beginnings 112 = .ok (.if_icmp .eq 20, 3) := dk_159 0 20 (dk_at dksX1_beginnings_4 17 rfl rfl)
theorem dX1_beginnings_115 : decode cX1_beginnings 115 = .ok (.iload 7, 2) := dk_21 7 (dk_at dksX1_beginnings_4 20 rfl rfl)
theorem dX1_beginnings_117 : decode cX1_beginnings 117 = .ok (.iload 9, 2) := dk_21 9 (dk_at dksX1_beginnings_4 22 rfl rfl)
theorem dX1_beginnings_119 : decode cX1_beginnings 119 = .ok (.if_icmp .eq 13, 3) := dk_159 0 13 (dk_at dksX1_beginnings_5 0 rfl rfl)
theorem dX1_beginnings_122 : decode cX1_beginnings 122 = .ok (.iinc 2 1, 3) := dk_132 2 1 (dk_at dksX1_beginnings_5 3 rfl rfl)
theorem dX1_beginnings_125 : decode cX1_beginnings 125 = .ok (.iload 8, 2) := dk_21 8 (dk_at dksX1_beginnings_5 6 rfl rfl)
theorem dX1_beginnings_127 : decode cX1_beginnings 127 = .ok (.istore_n 3, 1) := dk_62 (dk_at dksX1_beginnings_5 8 rfl rfl)
theorem dX1_beginnings_128 : decode cX1_beginnings 128 = .ok (.iload 8, 2) := dk_21 8 (dk_at dksX1_beginnings_5 9 rfl rfl)
theorem dX1_beginnings_130 : decode cX1_beginnings 130 = .ok (.istore 5, 2) := dk_54 5 (dk_at dksX1_beginnings_5 11 rfl rfl)
theorem dX1_beginnings_132 : decode cX1_beginnings 132 = .ok (.iload 6, 2) := dk_21 6 (dk_at dksX1_beginnings_5 13 rfl rfl)
theorem dX1_beginnings_134 : decode cX1_beginnings 134 = .ok (.iload 8, 2) := dk_21 8 (dk_at dksX1_beginnings_5 15 rfl rfl)
theorem dX1_beginnings_136 : decode cX1_beginnings 136 = .ok (.iload 5, 2) := dk_21 5 (dk_at dksX1_beginnings_5 17 rfl rfl)
theorem dX1_beginnings_138 : decode cX1_beginnings 138 = .ok (.isub, 1) := dk_100 (dk_at dksX1_beginnings_5 19 rfl rfl)
theorem dX1_beginnings_139 : decode cX1_beginnings 139 = .ok (.invokestatic 358, 3) := dk_184 1 102 (dk_at dksX1_beginnings_5 20 rfl rfl)
theorem dX1_beginnings_142 : decode cX1_beginnings 142 = .ok (.istore 6, 2) := dk_54 6 (dk_at dksX1_beginnings_6 0 rfl rfl)
theorem dX1_beginnings_144 : decode cX1_beginnings 144 = .ok (.iload 9, 2) := dk_21 9 (dk_at dksX1_beginnings_6 2 rfl rfl)
theorem dX1_beginnings_146 : decode cX1_beginnings 146 = .ok (.istore 7, 2) := dk_54 7 (dk_at dksX1_beginnings_6 4 rfl rfl)
theorem dX1_beginnings_148 : decode cX1_beginnings 148 = .ok (.iinc 8 1, 3) := dk_132 8 1 (dk_at dksX1_beginnings_6 6 rfl rfl)
theorem dX1_beginnings_151 : decode cX1_beginnings 151 = .ok (.goto (-94), 3) := dk_167 255 162 (dk_at dksX1_beginnings_6 9 rfl rfl)
theorem dX1_beginnings_154 : decode cX1_beginnings 154 = .ok (.iload_n 1, 1) := dk_27 (dk_at dksX1_beginnings_6 12 rfl rfl)
theorem dX1_beginnings_155 : decode cX1_beginnings 155 = .ok (.ifCond .ne 7, 3) := dk_154 0 7 (dk_at dksX1_beginnings_6 13 rfl rfl)
theorem dX1_beginnings_158 : decode cX1_beginnings 158 = .ok (.iload_n 2, 1) := dk_28 (dk_at dksX1_beginnings_6 16 rfl rfl)
theorem dX1_beginnings_159 : decode cX1_beginnings 159 = .ok (.goto 24, 3) := dk_167 0 24 (dk_at dksX1_beginnings_6 17 rfl rfl)
theorem dX1_beginnings_162 : decode cX1_beginnings 162 = .ok (.iload_n 1, 1) := dk_27 (dk_at dksX1_beginnings_6 20 rfl rfl)
theorem dX1_beginnings_163 : decode cX1_beginnings 163 = .ok (.iconst 1, 1) := dk_4 (dk_at dksX1_beginnings_6 21 rfl rfl)
theorem dX1_beginnings_164 : decode cX1_beginnings 164 = .ok (.if_icmp .ne 7, 3) := dk_160 0 7 (dk_at dksX1_beginnings_7 0 rfl rfl)
theorem dX1_beginnings_167 : decode cX1_beginnings 167 = .ok (.iload_n 3, 1) := dk_29 (dk_at dksX1_beginnings_7 3 rfl rfl)
theorem dX1_beginnings_168 : decode cX1_beginnings 168 = .ok (.goto 15, 3) := dk_167 0 15 (dk_at dksX1_beginnings_7 4 rfl rfl)
theorem dX1_beginnings_171 : decode cX1_beginnings 171 = .ok (.iload_n 1, 1) := dk_27 (dk_at dksX1_beginnings_7 7 rfl rfl)
theorem dX1_beginnings_172 : decode cX1_beginnings 172 = .ok (.iconst 2, 1) := dk_5 (dk_at dksX1_beginnings_7 8 rfl rfl)
theorem dX1_beginnings_173 : decode cX1_beginnings 173 = .ok (.if_icmp .ne 8, 3) := dk_160 0 8 (dk_at dksX1_beginnings_7 9 rfl rfl)
theorem dX1_beginnings_176 : decode cX1_beginnings 176 = .ok (.iload 4, 2) := dk_21 4 (dk_at dksX1_beginnings_7 12 rfl rfl)
theorem dX1_beginnings_178 : decode cX1_beginnings 178 = .ok (.goto 5, 3) := dk_167 0 5 (dk_at dksX1_beginnings_7 14 rfl rfl)
theorem dX1_beginnings_181 : decode cX1_beginnings 181 = .ok (.iload 6, 2) := dk_21 6 (dk_at dksX1_beginnings_7 17 rfl rfl)
theorem dX1_beginnings_183 : decode cX1_beginnings 183 = .ok (.ireturn, 1) := dk_172 (dk_at dksX1_beginnings_7 19 rfl rfl)
abbrev cX1_since : ByteArray := prog_1_method_84_code
def yX1_since : MethodName := ⟨RX1, "since", "(I)I"⟩
def dkwX1_since_2 : List UInt8 := [180, 0, 20, 180, 0, 148, 27, 46, 159, 0, 7, 28, 4, 100, 172, 132, 2, 1, 167, 255, 203, 16, 254, 172]
abbrev dktX1_since_2 : List UInt8 := dkwX1_since_2 ++ []
def dkwX1_since_1 : List UInt8 := [42, 180, 0, 126, 28, 100, 50, 78, 27, 45, 180, 0, 147, 162, 0, 21, 45, 180, 0, 148, 27, 46, 42]
abbrev dktX1_since_1 : List UInt8 := dkwX1_since_1 ++ dktX1_since_2
def dkwX1_since_0 : List UInt8 := [42, 27, 182, 0, 158, 154, 0, 5, 2, 172, 4, 61, 28, 42, 180, 0, 126, 163, 0, 51, 42, 180, 0, 63]
abbrev dktX1_since_0 : List UInt8 := dkwX1_since_0 ++ dktX1_since_1
theorem dksX1_since_0 : cX1_since.data.toList.drop 0 = dktX1_since_0 := by decide +kernel
theorem dksX1_since_1 : cX1_since.data.toList.drop 24 = dktX1_since_1 := dk_seg dksX1_since_0 24 rfl rfl
theorem dksX1_since_2 : cX1_since.data.toList.drop 47 = dktX1_since_2 := dk_seg dksX1_since_1 23 rfl rfl
theorem dX1_since_0 : decode cX1_since 0 = .ok (.aload_n 0, 1) := dk_42 (dk_at dksX1_since_0 0 rfl rfl)
theorem dX1_since_1 : decode cX1_since 1 = .ok (.iload_n 1, 1) := dk_27 (dk_at dksX1_since_0 1 rfl rfl)
theorem dX1_since_2 : decode cX1_since 2 = .ok (.invokevirtual 158, 3) := dk_182 0 158 (dk_at dksX1_since_0 2 rfl rfl)
theorem dX1_since_5 : decode cX1_since 5 = .ok (.ifCond .ne 5, 3) := dk_154 0 5 (dk_at dksX1_since_0 5 rfl rfl)
theorem dX1_since_8 : decode cX1_since 8 = .ok (.iconst (-1), 1) := dk_2 (dk_at dksX1_since_0 8 rfl rfl)
theorem dX1_since_9 : decode cX1_since 9 = .ok (.ireturn, 1) := dk_172 (dk_at dksX1_since_0 9 rfl rfl)
theorem dX1_since_10 : decode cX1_since 10 = .ok (.iconst 1, 1) := dk_4 (dk_at dksX1_since_0 10 rfl rfl)
theorem dX1_since_11 : decode cX1_since 11 = .ok (.istore_n 2, 1) := dk_61 (dk_at dksX1_since_0 11 rfl rfl)
theorem dX1_since_12 : decode cX1_since 12 = .ok (.iload_n 2, 1) := dk_28 (dk_at dksX1_since_0 12 rfl rfl)
theorem dX1_since_13 : decode cX1_since 13 = .ok (.aload_n 0, 1) := dk_42 (dk_at dksX1_since_0 13 rfl rfl)
theorem dX1_since_14 : decode cX1_since 14 = .ok (.getfield 126, 3) := dk_180 0 126 (dk_at dksX1_since_0 14 rfl rfl)
theorem dX1_since_17 : decode cX1_since 17 = .ok (.if_icmp .gt 51, 3) := dk_163 0 51 (dk_at dksX1_since_0 17 rfl rfl)
theorem dX1_since_20 : decode cX1_since 20 = .ok (.aload_n 0, 1) := dk_42 (dk_at dksX1_since_0 20 rfl rfl)
theorem dX1_since_21 : decode cX1_since 21 = .ok (.getfield 63, 3) := dk_180 0 63 (dk_at dksX1_since_0 21 rfl rfl)
theorem dX1_since_24 : decode cX1_since 24 = .ok (.aload_n 0, 1) := dk_42 (dk_at dksX1_since_1 0 rfl rfl)
theorem dX1_since_25 : decode cX1_since 25 = .ok (.getfield 126, 3) := dk_180 0 126 (dk_at dksX1_since_1 1 rfl rfl)
theorem dX1_since_28 : decode cX1_since 28 = .ok (.iload_n 2, 1) := dk_28 (dk_at dksX1_since_1 4 rfl rfl)
theorem dX1_since_29 : decode cX1_since 29 = .ok (.isub, 1) := dk_100 (dk_at dksX1_since_1 5 rfl rfl)
theorem dX1_since_30 : decode cX1_since 30 = .ok (.aaload, 1) := dk_50 (dk_at dksX1_since_1 6 rfl rfl)
theorem dX1_since_31 : decode cX1_since 31 = .ok (.astore_n 3, 1) := dk_78 (dk_at dksX1_since_1 7 rfl rfl)
theorem dX1_since_32 : decode cX1_since 32 = .ok (.iload_n 1, 1) := dk_27 (dk_at dksX1_since_1 8 rfl rfl)
theorem dX1_since_33 : decode cX1_since 33 = .ok (.aload_n 3, 1) := dk_45 (dk_at dksX1_since_1 9 rfl rfl)
theorem dX1_since_34 : decode cX1_since 34 = .ok (.getfield 147, 3) := dk_180 0 147 (dk_at dksX1_since_1 10 rfl rfl)
theorem dX1_since_37 : decode cX1_since 37 = .ok (.if_icmp .ge 21, 3) := dk_162 0 21 (dk_at dksX1_since_1 13 rfl rfl)
theorem dX1_since_40 : decode cX1_since 40 = .ok (.aload_n 3, 1) := dk_45 (dk_at dksX1_since_1 16 rfl rfl)
theorem dX1_since_41 : decode cX1_since 41 = .ok (.getfield 148, 3) := dk_180 0 148 (dk_at dksX1_since_1 17 rfl rfl)
theorem dX1_since_44 : decode cX1_since 44 = .ok (.iload_n 1, 1) := dk_27 (dk_at dksX1_since_1 20 rfl rfl)
theorem dX1_since_45 : decode cX1_since 45 = .ok (.iaload, 1) := dk_46 (dk_at dksX1_since_1 21 rfl rfl)
theorem dX1_since_46 : decode cX1_since 46 = .ok (.aload_n 0, 1) := dk_42 (dk_at dksX1_since_1 22 rfl rfl)
theorem dX1_since_47 : decode cX1_since 47 = .ok (.getfield 20, 3) := dk_180 0 20 (dk_at dksX1_since_2 0 rfl rfl)
theorem dX1_since_50 : decode cX1_since 50 = .ok (.getfield 148, 3) := dk_180 0 148 (dk_at dksX1_since_2 3 rfl rfl)
theorem dX1_since_53 : decode cX1_since 53 = .ok (.iload_n 1, 1) := dk_27 (dk_at dksX1_since_2 6 rfl rfl)
theorem dX1_since_54 : decode cX1_since 54 = .ok (.iaload, 1) := dk_46 (dk_at dksX1_since_2 7 rfl rfl)
theorem dX1_since_55 : decode cX1_since 55 = .ok (.if_icmp .eq 7, 3) := dk_159 0 7 (dk_at dksX1_since_2 8 rfl rfl)
theorem dX1_since_58 : decode cX1_since 58 = .ok (.iload_n 2, 1) := dk_28 (dk_at dksX1_since_2 11 rfl rfl)
theorem dX1_since_59 : decode cX1_since 59 = .ok (.iconst 1, 1) := dk_4 (dk_at dksX1_since_2 12 rfl rfl)
theorem dX1_since_60 : decode cX1_since 60 = .ok (.isub, 1) := dk_100 (dk_at dksX1_since_2 13 rfl rfl)
theorem dX1_since_61 : decode cX1_since 61 = .ok (.ireturn, 1) := dk_172 (dk_at dksX1_since_2 14 rfl rfl)
theorem dX1_since_62 : decode cX1_since 62 = .ok (.iinc 2 1, 3) := dk_132 2 1 (dk_at dksX1_since_2 15 rfl rfl)
theorem dX1_since_65 : decode cX1_since 65 = .ok (.goto (-53), 3) := dk_167 255 203 (dk_at dksX1_since_2 18 rfl rfl)
theorem dX1_since_68 : decode cX1_since 68 = .ok (.bipush (-2), 2) := dk_16 254 (dk_at dksX1_since_2 21 rfl rfl)
theorem dX1_since_70 : decode cX1_since 70 = .ok (.ireturn, 1) := dk_172 (dk_at dksX1_since_2 23 rfl rfl)
abbrev cX1_gap : ByteArray := prog_1_method_85_code
def yX1_gap : MethodName := ⟨RX1, "gap", "(I)I"⟩
def dkwX1_gap_2 : List UInt8 := [54, 5, 28, 2, 159, 0, 12, 29, 21, 5, 28, 100, 184, 1, 102, 62, 21, 5, 61, 167, 255, 214, 29, 172]
abbrev dktX1_gap_2 : List UInt8 := dkwX1_gap_2 ++ []
def dkwX1_gap_1 : List UInt8 := [25, 4, 185, 0, 247, 1, 0, 153, 0, 38, 25, 4, 185, 0, 253, 1, 0, 192, 1, 1, 182, 1, 3]
abbrev dktX1_gap_1 : List UInt8 := dkwX1_gap_1 ++ dktX1_gap_2
def dkwX1_gap_0 : List UInt8 := [27, 184, 0, 219, 154, 0, 5, 2, 172, 2, 61, 16, 254, 62, 42, 27, 182, 0, 165, 182, 0, 243, 58, 4]
abbrev dktX1_gap_0 : List UInt8 := dkwX1_gap_0 ++ dktX1_gap_1
theorem dksX1_gap_0 : cX1_gap.data.toList.drop 0 = dktX1_gap_0 := by decide +kernel
theorem dksX1_gap_1 : cX1_gap.data.toList.drop 24 = dktX1_gap_1 := dk_seg dksX1_gap_0 24 rfl rfl
theorem dksX1_gap_2 : cX1_gap.data.toList.drop 47 = dktX1_gap_2 := dk_seg dksX1_gap_1 23 rfl rfl
theorem dX1_gap_0 : decode cX1_gap 0 = .ok (.iload_n 1, 1) := dk_27 (dk_at dksX1_gap_0 0 rfl rfl)
theorem dX1_gap_1 : decode cX1_gap 1 = .ok (.invokestatic 219, 3) := dk_184 0 219 (dk_at dksX1_gap_0 1 rfl rfl)
theorem dX1_gap_4 : decode cX1_gap 4 = .ok (.ifCond .ne 5, 3) := dk_154 0 5 (dk_at dksX1_gap_0 4 rfl rfl)
theorem dX1_gap_7 : decode cX1_gap 7 = .ok (.iconst (-1), 1) := dk_2 (dk_at dksX1_gap_0 7 rfl rfl)
theorem dX1_gap_8 : decode cX1_gap 8 = .ok (.ireturn, 1) := dk_172 (dk_at dksX1_gap_0 8 rfl rfl)
theorem dX1_gap_9 : decode cX1_gap 9 = .ok (.iconst (-1), 1) := dk_2 (dk_at dksX1_gap_0 9 rfl rfl)
theorem dX1_gap_10 : decode cX1_gap 10 = .ok (.istore_n 2, 1) := dk_61 (dk_at dksX1_gap_0 10 rfl rfl)
theorem dX1_gap_11 : decode cX1_gap 11 = .ok (.bipush (-2), 2) := dk_16 254 (dk_at dksX1_gap_0 11 rfl rfl)
theorem dX1_gap_13 : decode cX1_gap 13 = .ok (.istore_n 3, 1) := dk_62 (dk_at dksX1_gap_0 13 rfl rfl)
theorem dX1_gap_14 : decode cX1_gap 14 = .ok (.aload_n 0, 1) := dk_42 (dk_at dksX1_gap_0 14 rfl rfl)
theorem dX1_gap_15 : decode cX1_gap 15 = .ok (.iload_n 1, 1) := dk_27 (dk_at dksX1_gap_0 15 rfl rfl)
theorem dX1_gap_16 : decode cX1_gap 16 = .ok (.invokevirtual 165, 3) := dk_182 0 165 (dk_at dksX1_gap_0 16 rfl rfl)
theorem dX1_gap_19 : decode cX1_gap 19 = .ok (.invokevirtual 243, 3) := dk_182 0 243 (dk_at dksX1_gap_0 19 rfl rfl)
theorem dX1_gap_22 : decode cX1_gap 22 = .ok (.astore 4, 2) := dk_58 4 (dk_at dksX1_gap_0 22 rfl rfl)
theorem dX1_gap_24 : decode cX1_gap 24 = .ok (.aload 4, 2) := dk_25 4 (dk_at dksX1_gap_1 0 rfl rfl)
theorem dX1_gap_26 : decode cX1_gap 26 = .ok (.invokeinterface 247 1, 5) := by decide +kernel
theorem dX1_gap_31 : decode cX1_gap 31 = .ok (.ifCond .eq 38, 3) := dk_153 0 38 (dk_at dksX1_gap_1 7 rfl rfl)
theorem dX1_gap_34 : decode cX1_gap 34 = .ok (.aload 4, 2) := dk_25 4 (dk_at dksX1_gap_1 10 rfl rfl)
theorem dX1_gap_36 : decode cX1_gap 36 = .ok (.invokeinterface 253 1, 5) := by decide +kernel
theorem dX1_gap_41 : decode cX1_gap 41 = .ok (.checkcast 257, 3) := dk_192 1 1 (dk_at dksX1_gap_1 17 rfl rfl)
theorem dX1_gap_44 : decode cX1_gap 44 = .ok (.invokevirtual 259, 3) := dk_182 1 3 (dk_at dksX1_gap_1 20 rfl rfl)
theorem dX1_gap_47 : decode cX1_gap 47 = .ok (.istore 5, 2) := dk_54 5 (dk_at dksX1_gap_2 0 rfl rfl)
theorem dX1_gap_49 : decode cX1_gap 49 = .ok (.iload_n 2, 1) := dk_28 (dk_at dksX1_gap_2 2 rfl rfl)
theorem dX1_gap_50 : decode cX1_gap 50 = .ok (.iconst (-1), 1) := dk_2 (dk_at dksX1_gap_2 3 rfl rfl)
theorem dX1_gap_51 : decode cX1_gap 51 = .ok (.if_icmp .eq 12, 3) := dk_159 0 12 (dk_at dksX1_gap_2 4 rfl rfl)
theorem dX1_gap_54 : decode cX1_gap 54 = .ok (.iload_n 3, 1) := dk_29 (dk_at dksX1_gap_2 7 rfl rfl)
theorem dX1_gap_55 : decode cX1_gap 55 = .ok (.iload 5, 2) := dk_21 5 (dk_at dksX1_gap_2 8 rfl rfl)
theorem dX1_gap_57 : decode cX1_gap 57 = .ok (.iload_n 2, 1) := dk_28 (dk_at dksX1_gap_2 10 rfl rfl)
theorem dX1_gap_58 : decode cX1_gap 58 = .ok (.isub, 1) := dk_100 (dk_at dksX1_gap_2 11 rfl rfl)
theorem dX1_gap_59 : decode cX1_gap 59 = .ok (.invokestatic 358, 3) := dk_184 1 102 (dk_at dksX1_gap_2 12 rfl rfl)
theorem dX1_gap_62 : decode cX1_gap 62 = .ok (.istore_n 3, 1) := dk_62 (dk_at dksX1_gap_2 15 rfl rfl)
theorem dX1_gap_63 : decode cX1_gap 63 = .ok (.iload 5, 2) := dk_21 5 (dk_at dksX1_gap_2 16 rfl rfl)
theorem dX1_gap_65 : decode cX1_gap 65 = .ok (.istore_n 2, 1) := dk_61 (dk_at dksX1_gap_2 18 rfl rfl)
theorem dX1_gap_66 : decode cX1_gap 66 = .ok (.goto (-42), 3) := dk_167 255 214 (dk_at dksX1_gap_2 19 rfl rfl)
theorem dX1_gap_69 : decode cX1_gap 69 = .ok (.iload_n 3, 1) := dk_29 (dk_at dksX1_gap_2 22 rfl rfl)
theorem dX1_gap_70 : decode cX1_gap 70 = .ok (.ireturn, 1) := dk_172 (dk_at dksX1_gap_2 23 rfl rfl)
abbrev cX1_wide : ByteArray := prog_1_method_87_code
def yX1_wide : MethodName := ⟨RX1, "wide", "(I)I"⟩
def dkwX1_wide_1 : List UInt8 := [182, 1, 105, 153, 0, 5, 28, 172, 132, 2, 1, 167, 255, 231, 16, 254, 172]
abbrev dktX1_wide_1 : List UInt8 := dkwX1_wide_1 ++ []
def dkwX1_wide_0 : List UInt8 := [27, 4, 162, 0, 5, 2, 172, 4, 61, 28, 42, 180, 0, 20, 180, 0, 147, 163, 0, 20, 42, 28, 27]
abbrev dktX1_wide_0 : List UInt8 := dkwX1_wide_0 ++ dktX1_wide_1
theorem dksX1_wide_0 : cX1_wide.data.toList.drop 0 = dktX1_wide_0 := by decide +kernel
theorem dksX1_wide_1 : cX1_wide.data.toList.drop 23 = dktX1_wide_1 := dk_seg dksX1_wide_0 23 rfl rfl
theorem dX1_wide_0 : decode cX1_wide 0 = .ok (.iload_n 1, 1) := dk_27 (dk_at dksX1_wide_0 0 rfl rfl)
theorem dX1_wide_1 : decode cX1_wide 1 = .ok (.iconst 1, 1) := dk_4 (dk_at dksX1_wide_0 1 rfl rfl)
theorem dX1_wide_2 : decode cX1_wide 2 = .ok (.if_icmp .ge 5, 3) := dk_162 0 5 (dk_at dksX1_wide_0 2 rfl rfl)
theorem dX1_wide_5 : decode cX1_wide 5 = .ok (.iconst (-1), 1) := dk_2 (dk_at dksX1_wide_0 5 rfl rfl)
theorem dX1_wide_6 : decode cX1_wide 6 = .ok (.ireturn, 1) := dk_172 (dk_at dksX1_wide_0 6 rfl rfl)
theorem dX1_wide_7 : decode cX1_wide 7 = .ok (.iconst 1, 1) := dk_4 (dk_at dksX1_wide_0 7 rfl rfl)
theorem dX1_wide_8 : decode cX1_wide 8 = .ok (.istore_n 2, 1) := dk_61 (dk_at dksX1_wide_0 8 rfl rfl)
theorem dX1_wide_9 : decode cX1_wide 9 = .ok (.iload_n 2, 1) := dk_28 (dk_at dksX1_wide_0 9 rfl rfl)
theorem dX1_wide_10 : decode cX1_wide 10 = .ok (.aload_n 0, 1) := dk_42 (dk_at dksX1_wide_0 10 rfl rfl)
theorem dX1_wide_11 : decode cX1_wide 11 = .ok (.getfield 20, 3) := dk_180 0 20 (dk_at dksX1_wide_0 11 rfl rfl)
theorem dX1_wide_14 : decode cX1_wide 14 = .ok (.getfield 147, 3) := dk_180 0 147 (dk_at dksX1_wide_0 14 rfl rfl)
theorem dX1_wide_17 : decode cX1_wide 17 = .ok (.if_icmp .gt 20, 3) := dk_163 0 20 (dk_at dksX1_wide_0 17 rfl rfl)
theorem dX1_wide_20 : decode cX1_wide 20 = .ok (.aload_n 0, 1) := dk_42 (dk_at dksX1_wide_0 20 rfl rfl)
theorem dX1_wide_21 : decode cX1_wide 21 = .ok (.iload_n 2, 1) := dk_28 (dk_at dksX1_wide_0 21 rfl rfl)
theorem dX1_wide_22 : decode cX1_wide 22 = .ok (.iload_n 1, 1) := dk_27 (dk_at dksX1_wide_0 22 rfl rfl)
theorem dX1_wide_23 : decode cX1_wide 23 = .ok (.invokevirtual 361, 3) := dk_182 1 105 (dk_at dksX1_wide_1 0 rfl rfl)
theorem dX1_wide_26 : decode cX1_wide 26 = .ok (.ifCond .eq 5, 3) := dk_153 0 5 (dk_at dksX1_wide_1 3 rfl rfl)
theorem dX1_wide_29 : decode cX1_wide 29 = .ok (.iload_n 2, 1) := dk_28 (dk_at dksX1_wide_1 6 rfl rfl)
theorem dX1_wide_30 : decode cX1_wide 30 = .ok (.ireturn, 1) := dk_172 (dk_at dksX1_wide_1 7 rfl rfl)
theorem dX1_wide_31 : decode cX1_wide 31 = .ok (.iinc 2 1, 3) := dk_132 2 1 (dk_at dksX1_wide_1 8 rfl rfl)
theorem dX1_wide_34 : decode cX1_wide 34 = .ok (.goto (-25), 3) := dk_167 255 231 (dk_at dksX1_wide_1 11 rfl rfl)
theorem dX1_wide_37 : decode cX1_wide 37 = .ok (.bipush (-2), 2) := dk_16 254 (dk_at dksX1_wide_1 14 rfl rfl)
theorem dX1_wide_39 : decode cX1_wide 39 = .ok (.ireturn, 1) := dk_172 (dk_at dksX1_wide_1 16 rfl rfl)
abbrev cX1_isWide : ByteArray := prog_1_method_86_code
def yX1_isWide : MethodName := ⟨RX1, "isWide", "(II)Z"⟩
def dkwX1_isWide_1 : List UInt8 := [182, 1, 94, 28, 162, 0, 5, 3, 172, 132, 3, 1, 167, 255, 224, 4, 172]
abbrev dktX1_isWide_1 : List UInt8 := dkwX1_isWide_1 ++ []
def dkwX1_isWide_0 : List UInt8 := [3, 62, 29, 27, 96, 42, 180, 0, 20, 180, 0, 147, 163, 0, 25, 42, 29, 29, 27, 96, 4, 100]
abbrev dktX1_isWide_0 : List UInt8 := dkwX1_isWide_0 ++ dktX1_isWide_1
theorem dksX1_isWide_0 : cX1_isWide.data.toList.drop 0 = dktX1_isWide_0 := by decide +kernel
theorem dksX1_isWide_1 : cX1_isWide.data.toList.drop 22 = dktX1_isWide_1 := dk_seg dksX1_isWide_0 22 rfl rfl
theorem dX1_isWide_0 : decode cX1_isWide 0 = .ok (.iconst 0, 1) := dk_3 (dk_at dksX1_isWide_0 0 rfl rfl)
theorem dX1_isWide_1 : decode cX1_isWide 1 = .ok (.istore_n 3, 1) := dk_62 (dk_at dksX1_isWide_0 1 rfl rfl)
theorem dX1_isWide_2 : decode cX1_isWide 2 = .ok (.iload_n 3, 1) := dk_29 (dk_at dksX1_isWide_0 2 rfl rfl)
theorem dX1_isWide_3 : decode cX1_isWide 3 = .ok (.iload_n 1, 1) := dk_27 (dk_at dksX1_isWide_0 3 rfl rfl)
theorem dX1_isWide_4 : decode cX1_isWide 4 = .ok (.iadd, 1) := dk_96 (dk_at dksX1_isWide_0 4 rfl rfl)
theorem dX1_isWide_5 : decode cX1_isWide 5 = .ok (.aload_n 0, 1) := dk_42 (dk_at dksX1_isWide_0 5 rfl rfl)
theorem dX1_isWide_6 : decode cX1_isWide 6 = .ok (.getfield 20, 3) := dk_180 0 20 (dk_at dksX1_isWide_0 6 rfl rfl)
theorem dX1_isWide_9 : decode cX1_isWide 9 = .ok (.getfield 147, 3) := dk_180 0 147 (dk_at dksX1_isWide_0 9 rfl rfl)
theorem dX1_isWide_12 : decode cX1_isWide 12 = .ok (.if_icmp .gt 25, 3) := dk_163 0 25 (dk_at dksX1_isWide_0 12 rfl rfl)
theorem dX1_isWide_15 : decode cX1_isWide 15 = .ok (.aload_n 0, 1) := dk_42 (dk_at dksX1_isWide_0 15 rfl rfl)
theorem dX1_isWide_16 : decode cX1_isWide 16 = .ok (.iload_n 3, 1) := dk_29 (dk_at dksX1_isWide_0 16 rfl rfl)
theorem dX1_isWide_17 : decode cX1_isWide 17 = .ok (.iload_n 3, 1) := dk_29 (dk_at dksX1_isWide_0 17 rfl rfl)
theorem dX1_isWide_18 : decode cX1_isWide 18 = .ok (.iload_n 1, 1) := dk_27 (dk_at dksX1_isWide_0 18 rfl rfl)
theorem dX1_isWide_19 : decode cX1_isWide 19 = .ok (.iadd, 1) := dk_96 (dk_at dksX1_isWide_0 19 rfl rfl)
theorem dX1_isWide_20 : decode cX1_isWide 20 = .ok (.iconst 1, 1) := dk_4 (dk_at dksX1_isWide_0 20 rfl rfl)
theorem dX1_isWide_21 : decode cX1_isWide 21 = .ok (.isub, 1) := dk_100 (dk_at dksX1_isWide_0 21 rfl rfl)
theorem dX1_isWide_22 : decode cX1_isWide 22 = .ok (.invokevirtual 350, 3) := dk_182 1 94 (dk_at dksX1_isWide_1 0 rfl rfl)
theorem dX1_isWide_25 : decode cX1_isWide 25 = .ok (.iload_n 2, 1) := dk_28 (dk_at dksX1_isWide_1 3 rfl rfl)
theorem dX1_isWide_26 : decode cX1_isWide 26 = .ok (.if_icmp .ge 5, 3) := dk_162 0 5 (dk_at dksX1_isWide_1 4 rfl rfl)
theorem dX1_isWide_29 : decode cX1_isWide 29 = .ok (.iconst 0, 1) := dk_3 (dk_at dksX1_isWide_1 7 rfl rfl)
theorem dX1_isWide_30 : decode cX1_isWide 30 = .ok (.ireturn, 1) := dk_172 (dk_at dksX1_isWide_1 8 rfl rfl)
theorem dX1_isWide_31 : decode cX1_isWide 31 = .ok (.iinc 3 1, 3) := dk_132 3 1 (dk_at dksX1_isWide_1 9 rfl rfl)
theorem dX1_isWide_34 : decode cX1_isWide 34 = .ok (.goto (-32), 3) := dk_167 255 224 (dk_at dksX1_isWide_1 12 rfl rfl)
theorem dX1_isWide_37 : decode cX1_isWide 37 = .ok (.iconst 1, 1) := dk_4 (dk_at dksX1_isWide_1 15 rfl rfl)
theorem dX1_isWide_38 : decode cX1_isWide 38 = .ok (.ireturn, 1) := dk_172 (dk_at dksX1_isWide_1 16 rfl rfl)
abbrev cX1_part : ByteArray := prog_1_method_90_code
def yX1_part : MethodName := ⟨RX1, "part", "(I)I"⟩
def dkwX1_part_2 : List UInt8 := [182, 1, 111, 4, 96, 61, 132, 3, 1, 167, 255, 240, 28, 172]
abbrev dktX1_part_2 : List UInt8 := dkwX1_part_2 ++ []
def dkwX1_part_1 : List UInt8 := [42, 180, 0, 83, 3, 46, 161, 0, 6, 16, 254, 172, 3, 61, 3, 62, 29, 27, 162, 0, 17, 42, 28]
abbrev dktX1_part_1 : List UInt8 := dkwX1_part_1 ++ dktX1_part_2
def dkwX1_part_0 : List UInt8 := [27, 2, 162, 0, 5, 2, 172, 42, 182, 1, 108, 27, 2, 160, 0, 10, 42, 180, 0, 83, 3, 46, 172, 27]
abbrev dktX1_part_0 : List UInt8 := dkwX1_part_0 ++ dktX1_part_1
theorem dksX1_part_0 : cX1_part.data.toList.drop 0 = dktX1_part_0 := by decide +kernel
theorem dksX1_part_1 : cX1_part.data.toList.drop 24 = dktX1_part_1 := dk_seg dksX1_part_0 24 rfl rfl
theorem dksX1_part_2 : cX1_part.data.toList.drop 47 = dktX1_part_2 := dk_seg dksX1_part_1 23 rfl rfl
theorem dX1_part_0 : decode cX1_part 0 = .ok (.iload_n 1, 1) := dk_27 (dk_at dksX1_part_0 0 rfl rfl)
theorem dX1_part_1 : decode cX1_part 1 = .ok (.iconst (-1), 1) := dk_2 (dk_at dksX1_part_0 1 rfl rfl)
theorem dX1_part_2 : decode cX1_part 2 = .ok (.if_icmp .ge 5, 3) := dk_162 0 5 (dk_at dksX1_part_0 2 rfl rfl)
theorem dX1_part_5 : decode cX1_part 5 = .ok (.iconst (-1), 1) := dk_2 (dk_at dksX1_part_0 5 rfl rfl)
theorem dX1_part_6 : decode cX1_part 6 = .ok (.ireturn, 1) := dk_172 (dk_at dksX1_part_0 6 rfl rfl)
theorem dX1_part_7 : decode cX1_part 7 = .ok (.aload_n 0, 1) := dk_42 (dk_at dksX1_part_0 7 rfl rfl)
theorem dX1_part_8 : decode cX1_part 8 = .ok (.invokevirtual 364, 3) := dk_182 1 108 (dk_at dksX1_part_0 8 rfl rfl)
theorem dX1_part_11 : decode cX1_part 11 = .ok (.iload_n 1, 1) := dk_27 (dk_at dksX1_part_0 11 rfl rfl)
theorem dX1_part_12 : decode cX1_part 12 = .ok (.iconst (-1), 1) := dk_2 (dk_at dksX1_part_0 12 rfl rfl)
theorem dX1_part_13 : decode cX1_part 13 = .ok (.if_icmp .ne 10, 3) := dk_160 0 10 (dk_at dksX1_part_0 13 rfl rfl)
theorem dX1_part_16 : decode cX1_part 16 = .ok (.aload_n 0, 1) := dk_42 (dk_at dksX1_part_0 16 rfl rfl)
theorem dX1_part_17 : decode cX1_part 17 = .ok (.getfield 83, 3) := dk_180 0 83 (dk_at dksX1_part_0 17 rfl rfl)
theorem dX1_part_20 : decode cX1_part 20 = .ok (.iconst 0, 1) := dk_3 (dk_at dksX1_part_0 20 rfl rfl)
theorem dX1_part_21 : decode cX1_part 21 = .ok (.iaload, 1) := dk_46 (dk_at dksX1_part_0 21 rfl rfl)
theorem dX1_part_22 : decode cX1_part 22 = .ok (.ireturn, 1) := dk_172 (dk_at dksX1_part_0 22 rfl rfl)
theorem dX1_part_23 : decode cX1_part 23 = .ok (.iload_n 1, 1) := dk_27 (dk_at dksX1_part_0 23 rfl rfl)
theorem dX1_part_24 : decode cX1_part 24 = .ok (.aload_n 0, 1) := dk_42 (dk_at dksX1_part_1 0 rfl rfl)
theorem dX1_part_25 : decode cX1_part 25 = .ok (.getfield 83, 3) := dk_180 0 83 (dk_at dksX1_part_1 1 rfl rfl)
theorem dX1_part_28 : decode cX1_part 28 = .ok (.iconst 0, 1) := dk_3 (dk_at dksX1_part_1 4 rfl rfl)
theorem dX1_part_29 : decode cX1_part 29 = .ok (.iaload, 1) := dk_46 (dk_at dksX1_part_1 5 rfl rfl)
theorem dX1_part_30 : decode cX1_part 30 = .ok (.if_icmp .lt 6, 3) := dk_161 0 6 (dk_at dksX1_part_1 6 rfl rfl)
theorem dX1_part_33 : decode cX1_part 33 = .ok (.bipush (-2), 2) := dk_16 254 (dk_at dksX1_part_1 9 rfl rfl)
theorem dX1_part_35 : decode cX1_part 35 = .ok (.ireturn, 1) := dk_172 (dk_at dksX1_part_1 11 rfl rfl)
theorem dX1_part_36 : decode cX1_part 36 = .ok (.iconst 0, 1) := dk_3 (dk_at dksX1_part_1 12 rfl rfl)
theorem dX1_part_37 : decode cX1_part 37 = .ok (.istore_n 2, 1) := dk_61 (dk_at dksX1_part_1 13 rfl rfl)
theorem dX1_part_38 : decode cX1_part 38 = .ok (.iconst 0, 1) := dk_3 (dk_at dksX1_part_1 14 rfl rfl)
theorem dX1_part_39 : decode cX1_part 39 = .ok (.istore_n 3, 1) := dk_62 (dk_at dksX1_part_1 15 rfl rfl)
theorem dX1_part_40 : decode cX1_part 40 = .ok (.iload_n 3, 1) := dk_29 (dk_at dksX1_part_1 16 rfl rfl)
theorem dX1_part_41 : decode cX1_part 41 = .ok (.iload_n 1, 1) := dk_27 (dk_at dksX1_part_1 17 rfl rfl)
theorem dX1_part_42 : decode cX1_part 42 = .ok (.if_icmp .ge 17, 3) := dk_162 0 17 (dk_at dksX1_part_1 18 rfl rfl)
theorem dX1_part_45 : decode cX1_part 45 = .ok (.aload_n 0, 1) := dk_42 (dk_at dksX1_part_1 21 rfl rfl)
theorem dX1_part_46 : decode cX1_part 46 = .ok (.iload_n 2, 1) := dk_28 (dk_at dksX1_part_1 22 rfl rfl)
theorem dX1_part_47 : decode cX1_part 47 = .ok (.invokevirtual 367, 3) := dk_182 1 111 (dk_at dksX1_part_2 0 rfl rfl)
theorem dX1_part_50 : decode cX1_part 50 = .ok (.iconst 1, 1) := dk_4 (dk_at dksX1_part_2 3 rfl rfl)
theorem dX1_part_51 : decode cX1_part 51 = .ok (.iadd, 1) := dk_96 (dk_at dksX1_part_2 4 rfl rfl)
theorem dX1_part_52 : decode cX1_part 52 = .ok (.istore_n 2, 1) := dk_61 (dk_at dksX1_part_2 5 rfl rfl)
theorem dX1_part_53 : decode cX1_part 53 = .ok (.iinc 3 1, 3) := dk_132 3 1 (dk_at dksX1_part_2 6 rfl rfl)
theorem dX1_part_56 : decode cX1_part 56 = .ok (.goto (-16), 3) := dk_167 255 240 (dk_at dksX1_part_2 9 rfl rfl)
theorem dX1_part_59 : decode cX1_part 59 = .ok (.iload_n 2, 1) := dk_28 (dk_at dksX1_part_2 12 rfl rfl)
theorem dX1_part_60 : decode cX1_part 60 = .ok (.ireturn, 1) := dk_172 (dk_at dksX1_part_2 13 rfl rfl)
abbrev cX1_laysFewest : ByteArray := prog_1_method_88_code
def yX1_laysFewest : MethodName := ⟨RX1, "laysFewest", "()V"⟩
def dkwX1_laysFewest_4 : List UInt8 := [132, 2, 1, 167, 255, 198, 132, 1, 255, 167, 255, 178, 177]
abbrev dktX1_laysFewest_4 : List UInt8 := dkwX1_laysFewest_4 ++ []
def dkwX1_laysFewest_3 : List UInt8 := [182, 1, 49, 155, 0, 19, 42, 180, 0, 83, 27, 42, 180, 0, 83, 28, 4, 96, 46, 4, 96, 79]
abbrev dktX1_laysFewest_3 : List UInt8 := dkwX1_laysFewest_3 ++ dktX1_laysFewest_4
def dkwX1_laysFewest_2 : List UInt8 := [42, 180, 0, 83, 28, 4, 96, 46, 4, 96, 42, 180, 0, 83, 27, 46, 162, 0, 28, 42, 27, 28]
abbrev dktX1_laysFewest_2 : List UInt8 := dkwX1_laysFewest_2 ++ dktX1_laysFewest_3
def dkwX1_laysFewest_1 : List UInt8 := [155, 0, 80, 42, 180, 0, 83, 27, 16, 121, 79, 27, 61, 28, 42, 180, 0, 20, 180, 0, 147, 162, 0, 53]
abbrev dktX1_laysFewest_1 : List UInt8 := dkwX1_laysFewest_1 ++ dktX1_laysFewest_2
def dkwX1_laysFewest_0 : List UInt8 := [42, 180, 0, 83, 42, 180, 0, 20, 180, 0, 147, 3, 79, 42, 180, 0, 20, 180, 0, 147, 4, 100, 60, 27]
abbrev dktX1_laysFewest_0 : List UInt8 := dkwX1_laysFewest_0 ++ dktX1_laysFewest_1
theorem dksX1_laysFewest_0 : cX1_laysFewest.data.toList.drop 0 = dktX1_laysFewest_0 := by decide +kernel
theorem dksX1_laysFewest_1 : cX1_laysFewest.data.toList.drop 24 = dktX1_laysFewest_1 := dk_seg dksX1_laysFewest_0 24 rfl rfl
theorem dksX1_laysFewest_2 : cX1_laysFewest.data.toList.drop 48 = dktX1_laysFewest_2 := dk_seg dksX1_laysFewest_1 24 rfl rfl
theorem dksX1_laysFewest_3 : cX1_laysFewest.data.toList.drop 70 = dktX1_laysFewest_3 := dk_seg dksX1_laysFewest_2 22 rfl rfl
theorem dksX1_laysFewest_4 : cX1_laysFewest.data.toList.drop 92 = dktX1_laysFewest_4 := dk_seg dksX1_laysFewest_3 22 rfl rfl
theorem dX1_laysFewest_0 : decode cX1_laysFewest 0 = .ok (.aload_n 0, 1) := dk_42 (dk_at dksX1_laysFewest_0 0 rfl rfl)
theorem dX1_laysFewest_1 : decode cX1_laysFewest 1 = .ok (.getfield 83, 3) := dk_180 0 83 (dk_at dksX1_laysFewest_0 1 rfl rfl)
theorem dX1_laysFewest_4 : decode cX1_laysFewest 4 = .ok (.aload_n 0, 1) := dk_42 (dk_at dksX1_laysFewest_0 4 rfl rfl)
theorem dX1_laysFewest_5 : decode cX1_laysFewest 5 = .ok (.getfield 20, 3) := dk_180 0 20 (dk_at dksX1_laysFewest_0 5 rfl rfl)
theorem dX1_laysFewest_8 : decode cX1_laysFewest 8 = .ok (.getfield 147, 3) := dk_180 0 147 (dk_at dksX1_laysFewest_0 8 rfl rfl)
theorem dX1_laysFewest_11 : decode cX1_laysFewest 11 = .ok (.iconst 0, 1) := dk_3 (dk_at dksX1_laysFewest_0 11 rfl rfl)
theorem dX1_laysFewest_12 : decode cX1_laysFewest 12 = .ok (.iastore, 1) := dk_79 (dk_at dksX1_laysFewest_0 12 rfl rfl)
theorem dX1_laysFewest_13 : decode cX1_laysFewest 13 = .ok (.aload_n 0, 1) := dk_42 (dk_at dksX1_laysFewest_0 13 rfl rfl)
theorem dX1_laysFewest_14 : decode cX1_laysFewest 14 = .ok (.getfield 20, 3) := dk_180 0 20 (dk_at dksX1_laysFewest_0 14 rfl rfl)
theorem dX1_laysFewest_17 : decode cX1_laysFewest 17 = .ok (.getfield 147, 3) := dk_180 0 147 (dk_at dksX1_laysFewest_0 17 rfl rfl)
theorem dX1_laysFewest_20 : decode cX1_laysFewest 20 = .ok (.iconst 1, 1) := dk_4 (dk_at dksX1_laysFewest_0 20 rfl rfl)
theorem dX1_laysFewest_21 : decode cX1_laysFewest 21 = .ok (.isub, 1) := dk_100 (dk_at dksX1_laysFewest_0 21 rfl rfl)
theorem dX1_laysFewest_22 : decode cX1_laysFewest 22 = .ok (.istore_n 1, 1) := dk_60 (dk_at dksX1_laysFewest_0 22 rfl rfl)
theorem dX1_laysFewest_23 : decode cX1_laysFewest 23 = .ok (.iload_n 1, 1) := dk_27 (dk_at dksX1_laysFewest_0 23 rfl rfl)
theorem dX1_laysFewest_24 : decode cX1_laysFewest 24 = .ok (.ifCond .lt 80, 3) := dk_155 0 80 (dk_at dksX1_laysFewest_1 0 rfl rfl)
theorem dX1_laysFewest_27 : decode cX1_laysFewest 27 = .ok (.aload_n 0, 1) := dk_42 (dk_at dksX1_laysFewest_1 3 rfl rfl)
theorem dX1_laysFewest_28 : decode cX1_laysFewest 28 = .ok (.getfield 83, 3) := dk_180 0 83 (dk_at dksX1_laysFewest_1 4 rfl rfl)
theorem dX1_laysFewest_31 : decode cX1_laysFewest 31 = .ok (.iload_n 1, 1) := dk_27 (dk_at dksX1_laysFewest_1 7 rfl rfl)
theorem dX1_laysFewest_32 : decode cX1_laysFewest 32 = .ok (.bipush 121, 2) := dk_16 121 (dk_at dksX1_laysFewest_1 8 rfl rfl)
theorem dX1_laysFewest_34 : decode cX1_laysFewest 34 = .ok (.iastore, 1) := dk_79 (dk_at dksX1_laysFewest_1 10 rfl rfl)
theorem dX1_laysFewest_35 : decode cX1_laysFewest 35 = .ok (.iload_n 1, 1) := dk_27 (dk_at dksX1_laysFewest_1 11 rfl rfl)
theorem dX1_laysFewest_36 : decode cX1_laysFewest 36 = .ok (.istore_n 2, 1) := dk_61 (dk_at dksX1_laysFewest_1 12 rfl rfl)
theorem dX1_laysFewest_37 : decode cX1_laysFewest 37 = .ok (.iload_n 2, 1) := dk_28 (dk_at dksX1_laysFewest_1 13 rfl rfl)
theorem dX1_laysFewest_38 : decode cX1_laysFewest 38 = .ok (.aload_n 0, 1) := dk_42 (dk_at dksX1_laysFewest_1 14 rfl rfl)
theorem dX1_laysFewest_39 : decode cX1_laysFewest 39 = .ok (.getfield 20, 3) := dk_180 0 20 (dk_at dksX1_laysFewest_1 15 rfl rfl)
theorem dX1_laysFewest_42 : decode cX1_laysFewest 42 = .ok (.getfield 147, 3) := dk_180 0 147 (dk_at dksX1_laysFewest_1 18 rfl rfl)
theorem dX1_laysFewest_45 : decode cX1_laysFewest 45 = .ok (.if_icmp .ge 53, 3) := dk_162 0 53 (dk_at dksX1_laysFewest_1 21 rfl rfl)
theorem dX1_laysFewest_48 : decode cX1_laysFewest 48 = .ok (.aload_n 0, 1) := dk_42 (dk_at dksX1_laysFewest_2 0 rfl rfl)
theorem dX1_laysFewest_49 : decode cX1_laysFewest 49 = .ok (.getfield 83, 3) := dk_180 0 83 (dk_at dksX1_laysFewest_2 1 rfl rfl)
theorem dX1_laysFewest_52 : decode cX1_laysFewest 52 = .ok (.iload_n 2, 1) := dk_28 (dk_at dksX1_laysFewest_2 4 rfl rfl)
theorem dX1_laysFewest_53 : decode cX1_laysFewest 53 = .ok (.iconst 1, 1) := dk_4 (dk_at dksX1_laysFewest_2 5 rfl rfl)
theorem dX1_laysFewest_54 : decode cX1_laysFewest 54 = .ok (.iadd, 1) := dk_96 (dk_at dksX1_laysFewest_2 6 rfl rfl)
theorem dX1_laysFewest_55 : decode cX1_laysFewest 55 = .ok (.iaload, 1) := dk_46 (dk_at dksX1_laysFewest_2 7 rfl rfl)
theorem dX1_laysFewest_56 : decode cX1_laysFewest 56 = .ok (.iconst 1, 1) := dk_4 (dk_at dksX1_laysFewest_2 8 rfl rfl)
theorem dX1_laysFewest_57 : decode cX1_laysFewest 57 = .ok (.iadd, 1) := dk_96 (dk_at dksX1_laysFewest_2 9 rfl rfl)
theorem dX1_laysFewest_58 : decode cX1_laysFewest 58 = .ok (.aload_n 0, 1) := dk_42 (dk_at dksX1_laysFewest_2 10 rfl rfl)
theorem dX1_laysFewest_59 : decode cX1_laysFewest 59 = .ok (.getfield 83, 3) := dk_180 0 83 (dk_at dksX1_laysFewest_2 11 rfl rfl)
theorem dX1_laysFewest_62 : decode cX1_laysFewest 62 = .ok (.iload_n 1, 1) := dk_27 (dk_at dksX1_laysFewest_2 14 rfl rfl)
theorem dX1_laysFewest_63 : decode cX1_laysFewest 63 = .ok (.iaload, 1) := dk_46 (dk_at dksX1_laysFewest_2 15 rfl rfl)
theorem dX1_laysFewest_64 : decode cX1_laysFewest 64 = .ok (.if_icmp .ge 28, 3) := dk_162 0 28 (dk_at dksX1_laysFewest_2 16 rfl rfl)
theorem dX1_laysFewest_67 : decode cX1_laysFewest 67 = .ok (.aload_n 0, 1) := dk_42 (dk_at dksX1_laysFewest_2 19 rfl rfl)
theorem dX1_laysFewest_68 : decode cX1_laysFewest 68 = .ok (.iload_n 1, 1) := dk_27 (dk_at dksX1_laysFewest_2 20 rfl rfl)
theorem dX1_laysFewest_69 : decode cX1_laysFewest 69 = .ok (.iload_n 2, 1) := dk_28 (dk_at dksX1_laysFewest_2 21 rfl rfl)
theorem dX1_laysFewest_70 : decode cX1_laysFewest 70 = .ok (.invokevirtual 305, 3) := dk_182 1 49 (dk_at dksX1_laysFewest_3 0 rfl rfl)
theorem dX1_laysFewest_73 : decode cX1_laysFewest 73 = .ok (.ifCond .lt 19, 3) := dk_155 0 19 (dk_at dksX1_laysFewest_3 3 rfl rfl)
theorem dX1_laysFewest_76 : decode cX1_laysFewest 76 = .ok (.aload_n 0, 1) := dk_42 (dk_at dksX1_laysFewest_3 6 rfl rfl)
theorem dX1_laysFewest_77 : decode cX1_laysFewest 77 = .ok (.getfield 83, 3) := dk_180 0 83 (dk_at dksX1_laysFewest_3 7 rfl rfl)
theorem dX1_laysFewest_80 : decode cX1_laysFewest 80 = .ok (.iload_n 1, 1) := dk_27 (dk_at dksX1_laysFewest_3 10 rfl rfl)
theorem dX1_laysFewest_81 : decode cX1_laysFewest 81 = .ok (.aload_n 0, 1) := dk_42 (dk_at dksX1_laysFewest_3 11 rfl rfl)
theorem dX1_laysFewest_82 : decode cX1_laysFewest 82 = .ok (.getfield 83, 3) := dk_180 0 83 (dk_at dksX1_laysFewest_3 12 rfl rfl)
theorem dX1_laysFewest_85 : decode cX1_laysFewest 85 = .ok (.iload_n 2, 1) := dk_28 (dk_at dksX1_laysFewest_3 15 rfl rfl)
theorem dX1_laysFewest_86 : decode cX1_laysFewest 86 = .ok (.iconst 1, 1) := dk_4 (dk_at dksX1_laysFewest_3 16 rfl rfl)
theorem dX1_laysFewest_87 : decode cX1_laysFewest 87 = .ok (.iadd, 1) := dk_96 (dk_at dksX1_laysFewest_3 17 rfl rfl)
theorem dX1_laysFewest_88 : decode cX1_laysFewest 88 = .ok (.iaload, 1) := dk_46 (dk_at dksX1_laysFewest_3 18 rfl rfl)
theorem dX1_laysFewest_89 : decode cX1_laysFewest 89 = .ok (.iconst 1, 1) := dk_4 (dk_at dksX1_laysFewest_3 19 rfl rfl)
theorem dX1_laysFewest_90 : decode cX1_laysFewest 90 = .ok (.iadd, 1) := dk_96 (dk_at dksX1_laysFewest_3 20 rfl rfl)
theorem dX1_laysFewest_91 : decode cX1_laysFewest 91 = .ok (.iastore, 1) := dk_79 (dk_at dksX1_laysFewest_3 21 rfl rfl)
theorem dX1_laysFewest_92 : decode cX1_laysFewest 92 = .ok (.iinc 2 1, 3) := dk_132 2 1 (dk_at dksX1_laysFewest_4 0 rfl rfl)
theorem dX1_laysFewest_95 : decode cX1_laysFewest 95 = .ok (.goto (-58), 3) := dk_167 255 198 (dk_at dksX1_laysFewest_4 3 rfl rfl)
theorem dX1_laysFewest_98 : decode cX1_laysFewest 98 = .ok (.iinc 1 (-1), 3) := dk_132 1 255 (dk_at dksX1_laysFewest_4 6 rfl rfl)
theorem dX1_laysFewest_101 : decode cX1_laysFewest 101 = .ok (.goto (-78), 3) := dk_167 255 178 (dk_at dksX1_laysFewest_4 9 rfl rfl)
theorem dX1_laysFewest_104 : decode cX1_laysFewest 104 = .ok (.return_, 1) := dk_177 (dk_at dksX1_laysFewest_4 12 rfl rfl)
abbrev cX1_partEnd : ByteArray := prog_1_method_89_code
def yX1_partEnd : MethodName := ⟨RX1, "partEnd", "(I)I"⟩
def dkwX1_partEnd_1 : List UInt8 := [182, 1, 49, 156, 0, 9, 132, 2, 1, 167, 255, 225, 28, 172]
abbrev dktX1_partEnd_1 : List UInt8 := dkwX1_partEnd_1 ++ []
def dkwX1_partEnd_0 : List UInt8 := [27, 61, 42, 180, 0, 83, 28, 4, 96, 46, 4, 96, 42, 180, 0, 83, 27, 46, 160, 0, 12, 42, 27, 28]
abbrev dktX1_partEnd_0 : List UInt8 := dkwX1_partEnd_0 ++ dktX1_partEnd_1
theorem dksX1_partEnd_0 : cX1_partEnd.data.toList.drop 0 = dktX1_partEnd_0 := by decide +kernel
theorem dksX1_partEnd_1 : cX1_partEnd.data.toList.drop 24 = dktX1_partEnd_1 := dk_seg dksX1_partEnd_0 24 rfl rfl
theorem dX1_partEnd_0 : decode cX1_partEnd 0 = .ok (.iload_n 1, 1) := dk_27 (dk_at dksX1_partEnd_0 0 rfl rfl)
theorem dX1_partEnd_1 : decode cX1_partEnd 1 = .ok (.istore_n 2, 1) := dk_61 (dk_at dksX1_partEnd_0 1 rfl rfl)
theorem dX1_partEnd_2 : decode cX1_partEnd 2 = .ok (.aload_n 0, 1) := dk_42 (dk_at dksX1_partEnd_0 2 rfl rfl)
theorem dX1_partEnd_3 : decode cX1_partEnd 3 = .ok (.getfield 83, 3) := dk_180 0 83 (dk_at dksX1_partEnd_0 3 rfl rfl)
theorem dX1_partEnd_6 : decode cX1_partEnd 6 = .ok (.iload_n 2, 1) := dk_28 (dk_at dksX1_partEnd_0 6 rfl rfl)
theorem dX1_partEnd_7 : decode cX1_partEnd 7 = .ok (.iconst 1, 1) := dk_4 (dk_at dksX1_partEnd_0 7 rfl rfl)
theorem dX1_partEnd_8 : decode cX1_partEnd 8 = .ok (.iadd, 1) := dk_96 (dk_at dksX1_partEnd_0 8 rfl rfl)
theorem dX1_partEnd_9 : decode cX1_partEnd 9 = .ok (.iaload, 1) := dk_46 (dk_at dksX1_partEnd_0 9 rfl rfl)
theorem dX1_partEnd_10 : decode cX1_partEnd 10 = .ok (.iconst 1, 1) := dk_4 (dk_at dksX1_partEnd_0 10 rfl rfl)
theorem dX1_partEnd_11 : decode cX1_partEnd 11 = .ok (.iadd, 1) := dk_96 (dk_at dksX1_partEnd_0 11 rfl rfl)
theorem dX1_partEnd_12 : decode cX1_partEnd 12 = .ok (.aload_n 0, 1) := dk_42 (dk_at dksX1_partEnd_0 12 rfl rfl)
theorem dX1_partEnd_13 : decode cX1_partEnd 13 = .ok (.getfield 83, 3) := dk_180 0 83 (dk_at dksX1_partEnd_0 13 rfl rfl)
theorem dX1_partEnd_16 : decode cX1_partEnd 16 = .ok (.iload_n 1, 1) := dk_27 (dk_at dksX1_partEnd_0 16 rfl rfl)
theorem dX1_partEnd_17 : decode cX1_partEnd 17 = .ok (.iaload, 1) := dk_46 (dk_at dksX1_partEnd_0 17 rfl rfl)
theorem dX1_partEnd_18 : decode cX1_partEnd 18 = .ok (.if_icmp .ne 12, 3) := dk_160 0 12 (dk_at dksX1_partEnd_0 18 rfl rfl)
theorem dX1_partEnd_21 : decode cX1_partEnd 21 = .ok (.aload_n 0, 1) := dk_42 (dk_at dksX1_partEnd_0 21 rfl rfl)
theorem dX1_partEnd_22 : decode cX1_partEnd 22 = .ok (.iload_n 1, 1) := dk_27 (dk_at dksX1_partEnd_0 22 rfl rfl)
theorem dX1_partEnd_23 : decode cX1_partEnd 23 = .ok (.iload_n 2, 1) := dk_28 (dk_at dksX1_partEnd_0 23 rfl rfl)
theorem dX1_partEnd_24 : decode cX1_partEnd 24 = .ok (.invokevirtual 305, 3) := dk_182 1 49 (dk_at dksX1_partEnd_1 0 rfl rfl)
theorem dX1_partEnd_27 : decode cX1_partEnd 27 = .ok (.ifCond .ge 9, 3) := dk_156 0 9 (dk_at dksX1_partEnd_1 3 rfl rfl)
theorem dX1_partEnd_30 : decode cX1_partEnd 30 = .ok (.iinc 2 1, 3) := dk_132 2 1 (dk_at dksX1_partEnd_1 6 rfl rfl)
theorem dX1_partEnd_33 : decode cX1_partEnd 33 = .ok (.goto (-31), 3) := dk_167 255 225 (dk_at dksX1_partEnd_1 9 rfl rfl)
theorem dX1_partEnd_36 : decode cX1_partEnd 36 = .ok (.iload_n 2, 1) := dk_28 (dk_at dksX1_partEnd_1 12 rfl rfl)
theorem dX1_partEnd_37 : decode cX1_partEnd 37 = .ok (.ireturn, 1) := dk_172 (dk_at dksX1_partEnd_1 13 rfl rfl)
abbrev cX1_count : ByteArray := prog_1_method_92_code
def yX1_count : MethodName := ⟨RX1, "count", "(I)I"⟩
def dkwX1_count_5 : List UInt8 := [2, 172]
abbrev dktX1_count_5 : List UInt8 := dkwX1_count_5 ++ []
def dkwX1_count_4 : List UInt8 := [180, 0, 147, 4, 100, 182, 1, 114, 172, 42, 180, 0, 126, 172, 42, 182, 1, 116, 172, 42, 180, 0, 86, 172]
abbrev dktX1_count_4 : List UInt8 := dkwX1_count_4 ++ dktX1_count_5
def dkwX1_count_3 : List UInt8 := [180, 0, 120, 172, 42, 180, 0, 20, 180, 0, 147, 154, 0, 7, 3, 167, 0, 17, 42, 3, 42, 180, 0, 20]
abbrev dktX1_count_3 : List UInt8 := dkwX1_count_3 ++ dktX1_count_4
def dkwX1_count_2 : List UInt8 := [42, 180, 0, 20, 180, 0, 147, 172, 42, 180, 0, 27, 172, 42, 182, 0, 132, 172, 42, 180, 0, 125, 172, 42]
abbrev dktX1_count_2 : List UInt8 := dkwX1_count_2 ++ dktX1_count_3
def dkwX1_count_1 : List UInt8 := [170, 0, 0, 0, 0, 0, 123, 0, 0, 0, 0, 0, 0, 0, 8, 0, 0, 0, 51, 0, 0, 0, 59, 0, 0, 0, 64, 0, 0, 0, 69, 0, 0, 0, 74, 0, 0, 0, 79, 0, 0, 0, 108, 0, 0, 0, 113, 0, 0, 0, 118]
abbrev dktX1_count_1 : List UInt8 := dkwX1_count_1 ++ dktX1_count_2
def dkwX1_count_0 : List UInt8 := [27]
abbrev dktX1_count_0 : List UInt8 := dkwX1_count_0 ++ dktX1_count_1
theorem dksX1_count_0 : cX1_count.data.toList.drop 0 = dktX1_count_0 := by decide +kernel
theorem dksX1_count_1 : cX1_count.data.toList.drop 1 = dktX1_count_1 := dk_seg dksX1_count_0 1 rfl rfl
theorem dksX1_count_2 : cX1_count.data.toList.drop 52 = dktX1_count_2 := dk_seg dksX1_count_1 51 rfl rfl
theorem dksX1_count_3 : cX1_count.data.toList.drop 76 = dktX1_count_3 := dk_seg dksX1_count_2 24 rfl rfl
theorem dksX1_count_4 : cX1_count.data.toList.drop 100 = dktX1_count_4 := dk_seg dksX1_count_3 24 rfl rfl
theorem dksX1_count_5 : cX1_count.data.toList.drop 124 = dktX1_count_5 := dk_seg dksX1_count_4 24 rfl rfl
theorem dX1_count_0 : decode cX1_count 0 = .ok (.iload_n 1, 1) := dk_27 (dk_at dksX1_count_0 0 rfl rfl)
theorem dX1_count_1 : decode cX1_count 1 = .ok (.tableswitch 123 0 8 #[51, 59, 64, 69, 74, 79, 108, 113, 118], 51) := by decide +kernel
theorem dX1_count_52 : decode cX1_count 52 = .ok (.aload_n 0, 1) := dk_42 (dk_at dksX1_count_2 0 rfl rfl)
theorem dX1_count_53 : decode cX1_count 53 = .ok (.getfield 20, 3) := dk_180 0 20 (dk_at dksX1_count_2 1 rfl rfl)
theorem dX1_count_56 : decode cX1_count 56 = .ok (.getfield 147, 3) := dk_180 0 147 (dk_at dksX1_count_2 4 rfl rfl)
theorem dX1_count_59 : decode cX1_count 59 = .ok (.ireturn, 1) := dk_172 (dk_at dksX1_count_2 7 rfl rfl)
theorem dX1_count_60 : decode cX1_count 60 = .ok (.aload_n 0, 1) := dk_42 (dk_at dksX1_count_2 8 rfl rfl)
theorem dX1_count_61 : decode cX1_count 61 = .ok (.getfield 27, 3) := dk_180 0 27 (dk_at dksX1_count_2 9 rfl rfl)
theorem dX1_count_64 : decode cX1_count 64 = .ok (.ireturn, 1) := dk_172 (dk_at dksX1_count_2 12 rfl rfl)
theorem dX1_count_65 : decode cX1_count 65 = .ok (.aload_n 0, 1) := dk_42 (dk_at dksX1_count_2 13 rfl rfl)
theorem dX1_count_66 : decode cX1_count 66 = .ok (.invokevirtual 132, 3) := dk_182 0 132 (dk_at dksX1_count_2 14 rfl rfl)
theorem dX1_count_69 : decode cX1_count 69 = .ok (.ireturn, 1) := dk_172 (dk_at dksX1_count_2 17 rfl rfl)
theorem dX1_count_70 : decode cX1_count 70 = .ok (.aload_n 0, 1) := dk_42 (dk_at dksX1_count_2 18 rfl rfl)
theorem dX1_count_71 : decode cX1_count 71 = .ok (.getfield 125, 3) := dk_180 0 125 (dk_at dksX1_count_2 19 rfl rfl)
theorem dX1_count_74 : decode cX1_count 74 = .ok (.ireturn, 1) := dk_172 (dk_at dksX1_count_2 22 rfl rfl)
theorem dX1_count_75 : decode cX1_count 75 = .ok (.aload_n 0, 1) := dk_42 (dk_at dksX1_count_2 23 rfl rfl)
theorem dX1_count_76 : decode cX1_count 76 = .ok (.getfield 120, 3) := dk_180 0 120 (dk_at dksX1_count_3 0 rfl rfl)
theorem dX1_count_79 : decode cX1_count 79 = .ok (.ireturn, 1) := dk_172 (dk_at dksX1_count_3 3 rfl rfl)
theorem dX1_count_80 : decode cX1_count 80 = .ok (.aload_n 0, 1) := dk_42 (dk_at dksX1_count_3 4 rfl rfl)
theorem dX1_count_81 : decode cX1_count 81 = .ok (.getfield 20, 3) := dk_180 0 20 (dk_at dksX1_count_3 5 rfl rfl)
theorem dX1_count_84 : decode cX1_count 84 = .ok (.getfield 147, 3) := dk_180 0 147 (dk_at dksX1_count_3 8 rfl rfl)
theorem dX1_count_87 : decode cX1_count 87 = .ok (.ifCond .ne 7, 3) := dk_154 0 7 (dk_at dksX1_count_3 11 rfl rfl)
theorem dX1_count_90 : decode cX1_count 90 = .ok (.iconst 0, 1) := dk_3 (dk_at dksX1_count_3 14 rfl rfl)
theorem dX1_count_91 : decode cX1_count 91 = .ok (.goto 17, 3) := dk_167 0 17 (dk_at dksX1_count_3 15 rfl rfl)
theorem dX1_count_94 : decode cX1_count 94 = .ok (.aload_n 0, 1) := dk_42 (dk_at dksX1_count_3 18 rfl rfl)
theorem dX1_count_95 : decode cX1_count 95 = .ok (.iconst 0, 1) := dk_3 (dk_at dksX1_count_3 19 rfl rfl)
theorem dX1_count_96 : decode cX1_count 96 = .ok (.aload_n 0, 1) := dk_42 (dk_at dksX1_count_3 20 rfl rfl)
theorem dX1_count_97 : decode cX1_count 97 = .ok (.getfield 20, 3) := dk_180 0 20 (dk_at dksX1_count_3 21 rfl rfl)
theorem dX1_count_100 : decode cX1_count 100 = .ok (.getfield 147, 3) := dk_180 0 147 (dk_at dksX1_count_4 0 rfl rfl)
theorem dX1_count_103 : decode cX1_count 103 = .ok (.iconst 1, 1) := dk_4 (dk_at dksX1_count_4 3 rfl rfl)
theorem dX1_count_104 : decode cX1_count 104 = .ok (.isub, 1) := dk_100 (dk_at dksX1_count_4 4 rfl rfl)
theorem dX1_count_105 : decode cX1_count 105 = .ok (.invokevirtual 370, 3) := dk_182 1 114 (dk_at dksX1_count_4 5 rfl rfl)
theorem dX1_count_108 : decode cX1_count 108 = .ok (.ireturn, 1) := dk_172 (dk_at dksX1_count_4 8 rfl rfl)
theorem dX1_count_109 : decode cX1_count 109 = .ok (.aload_n 0, 1) := dk_42 (dk_at dksX1_count_4 9 rfl rfl)
theorem dX1_count_110 : decode cX1_count 110 = .ok (.getfield 126, 3) := dk_180 0 126 (dk_at dksX1_count_4 10 rfl rfl)
theorem dX1_count_113 : decode cX1_count 113 = .ok (.ireturn, 1) := dk_172 (dk_at dksX1_count_4 13 rfl rfl)
theorem dX1_count_114 : decode cX1_count 114 = .ok (.aload_n 0, 1) := dk_42 (dk_at dksX1_count_4 14 rfl rfl)
theorem dX1_count_115 : decode cX1_count 115 = .ok (.invokevirtual 372, 3) := dk_182 1 116 (dk_at dksX1_count_4 15 rfl rfl)
theorem dX1_count_118 : decode cX1_count 118 = .ok (.ireturn, 1) := dk_172 (dk_at dksX1_count_4 18 rfl rfl)
theorem dX1_count_119 : decode cX1_count 119 = .ok (.aload_n 0, 1) := dk_42 (dk_at dksX1_count_4 19 rfl rfl)
theorem dX1_count_120 : decode cX1_count 120 = .ok (.getfield 86, 3) := dk_180 0 86 (dk_at dksX1_count_4 20 rfl rfl)
theorem dX1_count_123 : decode cX1_count 123 = .ok (.ireturn, 1) := dk_172 (dk_at dksX1_count_4 23 rfl rfl)
theorem dX1_count_124 : decode cX1_count 124 = .ok (.iconst (-1), 1) := dk_2 (dk_at dksX1_count_5 0 rfl rfl)
theorem dX1_count_125 : decode cX1_count 125 = .ok (.ireturn, 1) := dk_172 (dk_at dksX1_count_5 1 rfl rfl)
abbrev cX1_weights : ByteArray := prog_1_method_91_code
def yX1_weights : MethodName := ⟨RX1, "weights", "()I"⟩
def dkwX1_weights_1 : List UInt8 := [46, 96, 60, 132, 2, 1, 167, 255, 230, 27, 172]
abbrev dktX1_weights_1 : List UInt8 := dkwX1_weights_1 ++ []
def dkwX1_weights_0 : List UInt8 := [3, 60, 3, 61, 28, 42, 180, 0, 20, 180, 0, 147, 162, 0, 21, 27, 42, 180, 0, 20, 180, 0, 173, 28]
abbrev dktX1_weights_0 : List UInt8 := dkwX1_weights_0 ++ dktX1_weights_1
theorem dksX1_weights_0 : cX1_weights.data.toList.drop 0 = dktX1_weights_0 := by decide +kernel
theorem dksX1_weights_1 : cX1_weights.data.toList.drop 24 = dktX1_weights_1 := dk_seg dksX1_weights_0 24 rfl rfl
theorem dX1_weights_0 : decode cX1_weights 0 = .ok (.iconst 0, 1) := dk_3 (dk_at dksX1_weights_0 0 rfl rfl)
theorem dX1_weights_1 : decode cX1_weights 1 = .ok (.istore_n 1, 1) := dk_60 (dk_at dksX1_weights_0 1 rfl rfl)
theorem dX1_weights_2 : decode cX1_weights 2 = .ok (.iconst 0, 1) := dk_3 (dk_at dksX1_weights_0 2 rfl rfl)
theorem dX1_weights_3 : decode cX1_weights 3 = .ok (.istore_n 2, 1) := dk_61 (dk_at dksX1_weights_0 3 rfl rfl)
theorem dX1_weights_4 : decode cX1_weights 4 = .ok (.iload_n 2, 1) := dk_28 (dk_at dksX1_weights_0 4 rfl rfl)
theorem dX1_weights_5 : decode cX1_weights 5 = .ok (.aload_n 0, 1) := dk_42 (dk_at dksX1_weights_0 5 rfl rfl)
theorem dX1_weights_6 : decode cX1_weights 6 = .ok (.getfield 20, 3) := dk_180 0 20 (dk_at dksX1_weights_0 6 rfl rfl)
theorem dX1_weights_9 : decode cX1_weights 9 = .ok (.getfield 147, 3) := dk_180 0 147 (dk_at dksX1_weights_0 9 rfl rfl)
theorem dX1_weights_12 : decode cX1_weights 12 = .ok (.if_icmp .ge 21, 3) := dk_162 0 21 (dk_at dksX1_weights_0 12 rfl rfl)
theorem dX1_weights_15 : decode cX1_weights 15 = .ok (.iload_n 1, 1) := dk_27 (dk_at dksX1_weights_0 15 rfl rfl)
theorem dX1_weights_16 : decode cX1_weights 16 = .ok (.aload_n 0, 1) := dk_42 (dk_at dksX1_weights_0 16 rfl rfl)
theorem dX1_weights_17 : decode cX1_weights 17 = .ok (.getfield 20, 3) := dk_180 0 20 (dk_at dksX1_weights_0 17 rfl rfl)
theorem dX1_weights_20 : decode cX1_weights 20 = .ok (.getfield 173, 3) := dk_180 0 173 (dk_at dksX1_weights_0 20 rfl rfl)
theorem dX1_weights_23 : decode cX1_weights 23 = .ok (.iload_n 2, 1) := dk_28 (dk_at dksX1_weights_0 23 rfl rfl)
theorem dX1_weights_24 : decode cX1_weights 24 = .ok (.iaload, 1) := dk_46 (dk_at dksX1_weights_1 0 rfl rfl)
theorem dX1_weights_25 : decode cX1_weights 25 = .ok (.iadd, 1) := dk_96 (dk_at dksX1_weights_1 1 rfl rfl)
theorem dX1_weights_26 : decode cX1_weights 26 = .ok (.istore_n 1, 1) := dk_60 (dk_at dksX1_weights_1 2 rfl rfl)
theorem dX1_weights_27 : decode cX1_weights 27 = .ok (.iinc 2 1, 3) := dk_132 2 1 (dk_at dksX1_weights_1 3 rfl rfl)
theorem dX1_weights_30 : decode cX1_weights 30 = .ok (.goto (-26), 3) := dk_167 255 230 (dk_at dksX1_weights_1 6 rfl rfl)
theorem dX1_weights_33 : decode cX1_weights 33 = .ok (.iload_n 1, 1) := dk_27 (dk_at dksX1_weights_1 9 rfl rfl)
theorem dX1_weights_34 : decode cX1_weights 34 = .ok (.ireturn, 1) := dk_172 (dk_at dksX1_weights_1 10 rfl rfl)
abbrev cX1_place : ByteArray := prog_1_method_11_code
def yX1_place : MethodName := ⟨RX1, "place", "(II)I"⟩
def dkwX1_place_6 : List UInt8 := [46, 167, 0, 5, 16, 254, 172, 187, 0, 179, 89, 183, 0, 181, 191]
abbrev dktX1_place_6 : List UInt8 := dkwX1_place_6 ++ []
def dkwX1_place_5 : List UInt8 := [21, 4, 4, 96, 46, 167, 0, 5, 16, 254, 172, 21, 4, 158, 0, 15, 45, 180, 0, 176, 21, 4, 4, 100]
abbrev dktX1_place_5 : List UInt8 := dkwX1_place_5 ++ dktX1_place_6
def dkwX1_place_4 : List UInt8 := [180, 0, 27, 108, 172, 21, 4, 172, 21, 4, 4, 96, 45, 180, 0, 144, 162, 0, 15, 45, 180, 0, 176]
abbrev dktX1_place_4 : List UInt8 := dkwX1_place_4 ++ dktX1_place_5
def dkwX1_place_3 : List UInt8 := [42, 180, 0, 20, 180, 0, 148, 27, 46, 172, 42, 180, 0, 20, 180, 0, 173, 27, 46, 172, 27, 42]
abbrev dktX1_place_3 : List UInt8 := dkwX1_place_3 ++ dktX1_place_4
def dkwX1_place_2 : List UInt8 := [170, 0, 0, 0, 0, 114, 0, 0, 0, 0, 0, 0, 0, 5, 0, 0, 0, 38, 0, 0, 0, 48, 0, 0, 0, 58, 0, 0, 0, 65, 0, 0, 0, 68, 0, 0, 0, 94]
abbrev dktX1_place_2 : List UInt8 := dkwX1_place_2 ++ dktX1_place_3
def dkwX1_place_1 : List UInt8 := [27, 46, 182, 0, 165, 78, 45, 27, 182, 0, 169, 54, 4, 28]
abbrev dktX1_place_1 : List UInt8 := dkwX1_place_1 ++ dktX1_place_2
def dkwX1_place_0 : List UInt8 := [42, 27, 182, 0, 158, 154, 0, 11, 187, 0, 162, 89, 183, 0, 164, 191, 42, 42, 180, 0, 20, 180, 0, 148]
abbrev dktX1_place_0 : List UInt8 := dkwX1_place_0 ++ dktX1_place_1
theorem dksX1_place_0 : cX1_place.data.toList.drop 0 = dktX1_place_0 := by decide +kernel
theorem dksX1_place_1 : cX1_place.data.toList.drop 24 = dktX1_place_1 := dk_seg dksX1_place_0 24 rfl rfl
theorem dksX1_place_2 : cX1_place.data.toList.drop 38 = dktX1_place_2 := dk_seg dksX1_place_1 14 rfl rfl
theorem dksX1_place_3 : cX1_place.data.toList.drop 76 = dktX1_place_3 := dk_seg dksX1_place_2 38 rfl rfl
theorem dksX1_place_4 : cX1_place.data.toList.drop 98 = dktX1_place_4 := dk_seg dksX1_place_3 22 rfl rfl
theorem dksX1_place_5 : cX1_place.data.toList.drop 121 = dktX1_place_5 := dk_seg dksX1_place_4 23 rfl rfl
theorem dksX1_place_6 : cX1_place.data.toList.drop 145 = dktX1_place_6 := dk_seg dksX1_place_5 24 rfl rfl
theorem dX1_place_0 : decode cX1_place 0 = .ok (.aload_n 0, 1) := dk_42 (dk_at dksX1_place_0 0 rfl rfl)
theorem dX1_place_1 : decode cX1_place 1 = .ok (.iload_n 1, 1) := dk_27 (dk_at dksX1_place_0 1 rfl rfl)
theorem dX1_place_2 : decode cX1_place 2 = .ok (.invokevirtual 158, 3) := dk_182 0 158 (dk_at dksX1_place_0 2 rfl rfl)
theorem dX1_place_5 : decode cX1_place 5 = .ok (.ifCond .ne 11, 3) := dk_154 0 11 (dk_at dksX1_place_0 5 rfl rfl)
theorem dX1_place_8 : decode cX1_place 8 = .ok (.new 162, 3) := dk_187 0 162 (dk_at dksX1_place_0 8 rfl rfl)
theorem dX1_place_11 : decode cX1_place 11 = .ok (.dup, 1) := dk_89 (dk_at dksX1_place_0 11 rfl rfl)
theorem dX1_place_12 : decode cX1_place 12 = .ok (.invokespecial 164, 3) := dk_183 0 164 (dk_at dksX1_place_0 12 rfl rfl)
theorem dX1_place_15 : decode cX1_place 15 = .ok (.athrow, 1) := dk_191 (dk_at dksX1_place_0 15 rfl rfl)
theorem dX1_place_16 : decode cX1_place 16 = .ok (.aload_n 0, 1) := dk_42 (dk_at dksX1_place_0 16 rfl rfl)
theorem dX1_place_17 : decode cX1_place 17 = .ok (.aload_n 0, 1) := dk_42 (dk_at dksX1_place_0 17 rfl rfl)
theorem dX1_place_18 : decode cX1_place 18 = .ok (.getfield 20, 3) := dk_180 0 20 (dk_at dksX1_place_0 18 rfl rfl)
theorem dX1_place_21 : decode cX1_place 21 = .ok (.getfield 148, 3) := dk_180 0 148 (dk_at dksX1_place_0 21 rfl rfl)
theorem dX1_place_24 : decode cX1_place 24 = .ok (.iload_n 1, 1) := dk_27 (dk_at dksX1_place_1 0 rfl rfl)
theorem dX1_place_25 : decode cX1_place 25 = .ok (.iaload, 1) := dk_46 (dk_at dksX1_place_1 1 rfl rfl)
theorem dX1_place_26 : decode cX1_place 26 = .ok (.invokevirtual 165, 3) := dk_182 0 165 (dk_at dksX1_place_1 2 rfl rfl)
theorem dX1_place_29 : decode cX1_place 29 = .ok (.astore_n 3, 1) := dk_78 (dk_at dksX1_place_1 5 rfl rfl)
theorem dX1_place_30 : decode cX1_place 30 = .ok (.aload_n 3, 1) := dk_45 (dk_at dksX1_place_1 6 rfl rfl)
theorem dX1_place_31 : decode cX1_place 31 = .ok (.iload_n 1, 1) := dk_27 (dk_at dksX1_place_1 7 rfl rfl)
theorem dX1_place_32 : decode cX1_place 32 = .ok (.invokevirtual 169, 3) := dk_182 0 169 (dk_at dksX1_place_1 8 rfl rfl)
theorem dX1_place_35 : decode cX1_place 35 = .ok (.istore 4, 2) := dk_54 4 (dk_at dksX1_place_1 11 rfl rfl)
theorem dX1_place_37 : decode cX1_place 37 = .ok (.iload_n 2, 1) := dk_28 (dk_at dksX1_place_1 13 rfl rfl)
theorem dX1_place_38 : decode cX1_place 38 = .ok (.tableswitch 114 0 5 #[38, 48, 58, 65, 68, 94], 38) := by decide +kernel
theorem dX1_place_76 : decode cX1_place 76 = .ok (.aload_n 0, 1) := dk_42 (dk_at dksX1_place_3 0 rfl rfl)
theorem dX1_place_77 : decode cX1_place 77 = .ok (.getfield 20, 3) := dk_180 0 20 (dk_at dksX1_place_3 1 rfl rfl)
theorem dX1_place_80 : decode cX1_place 80 = .ok (.getfield 148, 3) := dk_180 0 148 (dk_at dksX1_place_3 4 rfl rfl)
theorem dX1_place_83 : decode cX1_place 83 = .ok (.iload_n 1, 1) := dk_27 (dk_at dksX1_place_3 7 rfl rfl)
theorem dX1_place_84 : decode cX1_place 84 = .ok (.iaload, 1) := dk_46 (dk_at dksX1_place_3 8 rfl rfl)
theorem dX1_place_85 : decode cX1_place 85 = .ok (.ireturn, 1) := dk_172 (dk_at dksX1_place_3 9 rfl rfl)
theorem dX1_place_86 : decode cX1_place 86 = .ok (.aload_n 0, 1) := dk_42 (dk_at dksX1_place_3 10 rfl rfl)
theorem dX1_place_87 : decode cX1_place 87 = .ok (.getfield 20, 3) := dk_180 0 20 (dk_at dksX1_place_3 11 rfl rfl)
theorem dX1_place_90 : decode cX1_place 90 = .ok (.getfield 173, 3) := dk_180 0 173 (dk_at dksX1_place_3 14 rfl rfl)
theorem dX1_place_93 : decode cX1_place 93 = .ok (.iload_n 1, 1) := dk_27 (dk_at dksX1_place_3 17 rfl rfl)
theorem dX1_place_94 : decode cX1_place 94 = .ok (.iaload, 1) := dk_46 (dk_at dksX1_place_3 18 rfl rfl)
theorem dX1_place_95 : decode cX1_place 95 = .ok (.ireturn, 1) := dk_172 (dk_at dksX1_place_3 19 rfl rfl)
theorem dX1_place_96 : decode cX1_place 96 = .ok (.iload_n 1, 1) := dk_27 (dk_at dksX1_place_3 20 rfl rfl)
theorem dX1_place_97 : decode cX1_place 97 = .ok (.aload_n 0, 1) := dk_42 (dk_at dksX1_place_3 21 rfl rfl)
theorem dX1_place_98 : decode cX1_place 98 = .ok (.getfield 27, 3) := dk_180 0 27 (dk_at dksX1_place_4 0 rfl rfl)
theorem dX1_place_101 : decode cX1_place 101 = .ok (.idiv, 1) := dk_108 (dk_at dksX1_place_4 3 rfl rfl)
theorem dX1_place_102 : decode cX1_place 102 = .ok (.ireturn, 1) := dk_172 (dk_at dksX1_place_4 4 rfl rfl)
theorem dX1_place_103 : decode cX1_place 103 = .ok (.iload 4, 2) := dk_21 4 (dk_at dksX1_place_4 5 rfl rfl)
theorem dX1_place_105 : decode cX1_place 105 = .ok (.ireturn, 1) := dk_172 (dk_at dksX1_place_4 7 rfl rfl)
theorem dX1_place_106 : decode cX1_place 106 = .ok (.iload 4, 2) := dk_21 4 (dk_at dksX1_place_4 8 rfl rfl)
theorem dX1_place_108 : decode cX1_place 108 = .ok (.iconst 1, 1) := dk_4 (dk_at dksX1_place_4 10 rfl rfl)
theorem dX1_place_109 : decode cX1_place 109 = .ok (.iadd, 1) := dk_96 (dk_at dksX1_place_4 11 rfl rfl)
theorem dX1_place_110 : decode cX1_place 110 = .ok (.aload_n 3, 1) := dk_45 (dk_at dksX1_place_4 12 rfl rfl)
theorem dX1_place_111 : decode cX1_place 111 = .ok (.getfield 144, 3) := dk_180 0 144 (dk_at dksX1_place_4 13 rfl rfl)
theorem dX1_place_114 : decode cX1_place 114 = .ok (.if_icmp .ge 15, 3) := dk_162 0 15 (dk_at dksX1_place_4 16 rfl rfl)
theorem dX1_place_117 : decode cX1_place 117 = .ok (.aload_n 3, 1) := dk_45 (dk_at dksX1_place_4 19 rfl rfl)
theorem dX1_place_118 : decode cX1_place 118 = .ok (.getfield 176, 3) := dk_180 0 176 (dk_at dksX1_place_4 20 rfl rfl)
theorem dX1_place_121 : decode cX1_place 121 = .ok (.iload 4, 2) := dk_21 4 (dk_at dksX1_place_5 0 rfl rfl)
theorem dX1_place_123 : decode cX1_place 123 = .ok (.iconst 1, 1) := dk_4 (dk_at dksX1_place_5 2 rfl rfl)
theorem dX1_place_124 : decode cX1_place 124 = .ok (.iadd, 1) := dk_96 (dk_at dksX1_place_5 3 rfl rfl)
theorem dX1_place_125 : decode cX1_place 125 = .ok (.iaload, 1) := dk_46 (dk_at dksX1_place_5 4 rfl rfl)
theorem dX1_place_126 : decode cX1_place 126 = .ok (.goto 5, 3) := dk_167 0 5 (dk_at dksX1_place_5 5 rfl rfl)
theorem dX1_place_129 : decode cX1_place 129 = .ok (.bipush (-2), 2) := dk_16 254 (dk_at dksX1_place_5 8 rfl rfl)
theorem dX1_place_131 : decode cX1_place 131 = .ok (.ireturn, 1) := dk_172 (dk_at dksX1_place_5 10 rfl rfl)
theorem dX1_place_132 : decode cX1_place 132 = .ok (.iload 4, 2) := dk_21 4 (dk_at dksX1_place_5 11 rfl rfl)
theorem dX1_place_134 : decode cX1_place 134 = .ok (.ifCond .le 15, 3) := dk_158 0 15 (dk_at dksX1_place_5 13 rfl rfl)
theorem dX1_place_137 : decode cX1_place 137 = .ok (.aload_n 3, 1) := dk_45 (dk_at dksX1_place_5 16 rfl rfl)
theorem dX1_place_138 : decode cX1_place 138 = .ok (.getfield 176, 3) := dk_180 0 176 (dk_at dksX1_place_5 17 rfl rfl)
theorem dX1_place_141 : decode cX1_place 141 = .ok (.iload 4, 2) := dk_21 4 (dk_at dksX1_place_5 20 rfl rfl)
theorem dX1_place_143 : decode cX1_place 143 = .ok (.iconst 1, 1) := dk_4 (dk_at dksX1_place_5 22 rfl rfl)
theorem dX1_place_144 : decode cX1_place 144 = .ok (.isub, 1) := dk_100 (dk_at dksX1_place_5 23 rfl rfl)
theorem dX1_place_145 : decode cX1_place 145 = .ok (.iaload, 1) := dk_46 (dk_at dksX1_place_6 0 rfl rfl)
theorem dX1_place_146 : decode cX1_place 146 = .ok (.goto 5, 3) := dk_167 0 5 (dk_at dksX1_place_6 1 rfl rfl)
theorem dX1_place_149 : decode cX1_place 149 = .ok (.bipush (-2), 2) := dk_16 254 (dk_at dksX1_place_6 4 rfl rfl)
theorem dX1_place_151 : decode cX1_place 151 = .ok (.ireturn, 1) := dk_172 (dk_at dksX1_place_6 6 rfl rfl)
theorem dX1_place_152 : decode cX1_place 152 = .ok (.new 179, 3) := dk_187 0 179 (dk_at dksX1_place_6 7 rfl rfl)
theorem dX1_place_155 : decode cX1_place 155 = .ok (.dup, 1) := dk_89 (dk_at dksX1_place_6 10 rfl rfl)
theorem dX1_place_156 : decode cX1_place 156 = .ok (.invokespecial 181, 3) := dk_183 0 181 (dk_at dksX1_place_6 11 rfl rfl)
theorem dX1_place_159 : decode cX1_place 159 = .ok (.athrow, 1) := dk_191 (dk_at dksX1_place_6 14 rfl rfl)
theorem q89 : (Jvm.Cond.initialized "ModeDesk") ∈ lw_all := lw_g (lw_at lw_m1 1 rfl) rfl
theorem q126 : (Jvm.Cond.instantiable "ModeDesk" (25 : Nat)) ∈ lw_all := lw_g (lw_at lw_m1 38 rfl) rfl
theorem q128 : (Jvm.Cond.instanceMethod ({ cls := "ModeDesk", name := "<init>", desc := "()V" } : Jvm.MethodName)) ∈ lw_all := lw_g (lw_at lw_m1 40 rfl) rfl
theorem q129 : (Jvm.Cond.code ({ cls := "ModeDesk", name := "<init>", desc := "()V" } : Jvm.MethodName) prog_1_method_1_code (1 : Nat) (Option.none : Option Jvm.ClassFile.FieldType)) ∈ lw_all := lw_g (lw_at lw_m1 41 rfl) rfl
theorem q130 : (Jvm.Cond.methodLink "ModeDesk" (1 : Nat) ({ cls := "java/lang/Object", name := "<init>", desc := "()V" } : Jvm.MethodName)) ∈ lw_all := lw_g (lw_at lw_m1 42 rfl) rfl
theorem q133 : (Jvm.Cond.classLink "ModeDesk" (17 : Nat) "ModeDesk$Row") ∈ lw_all := lw_g (lw_at lw_m1 45 rfl) rfl
theorem q135 : (Jvm.Cond.methodLinkNest "ModeDesk" (19 : Nat) ({ cls := "ModeDesk$Row", name := "<init>", desc := "()V" } : Jvm.MethodName) "ModeDesk") ∈ lw_tbl := lw_at lw_m1 47 rfl
theorem q141 : (Jvm.Cond.fieldLinkNest "ModeDesk" (148 : Nat) "ModeDesk$Row" "value" "[I" "ModeDesk") ∈ lw_tbl := lw_at lw_m1 53 rfl
theorem q145 : (Jvm.Cond.fieldLinkNest "ModeDesk" (173 : Nat) "ModeDesk$Row" "weight" "[I" "ModeDesk") ∈ lw_tbl := lw_at lw_m1 57 rfl
theorem q149 : (Jvm.Cond.fieldLinkNest "ModeDesk" (147 : Nat) "ModeDesk$Row" "many" "I" "ModeDesk") ∈ lw_tbl := lw_at lw_m1 61 rfl
theorem q160 : (Jvm.Cond.classLink "ModeDesk" (33 : Nat) "ModeDesk$Places") ∈ lw_all := lw_g (lw_at lw_m1 72 rfl) rfl
theorem q162 : (Jvm.Cond.classLink "ModeDesk" (39 : Nat) "ModeDesk$Ahead") ∈ lw_all := lw_g (lw_at lw_m1 74 rfl) rfl
theorem q164 : (Jvm.Cond.classLink "ModeDesk" (41 : Nat) "ModeDesk$1") ∈ lw_all := lw_g (lw_at lw_m1 76 rfl) rfl
theorem q166 : (Jvm.Cond.methodLink "ModeDesk" (43 : Nat) ({ cls := "ModeDesk$1", name := "<init>", desc := "(LModeDesk;)V" } : Jvm.MethodName)) ∈ lw_all := lw_g (lw_at lw_m1 78 rfl) rfl
theorem q174 : (Jvm.Cond.classLink "ModeDesk" (46 : Nat) "ModeDesk$2") ∈ lw_all := lw_g (lw_at lw_m1 86 rfl) rfl
theorem q176 : (Jvm.Cond.methodLink "ModeDesk" (48 : Nat) ({ cls := "ModeDesk$2", name := "<init>", desc := "(LModeDesk;)V" } : Jvm.MethodName)) ∈ lw_all := lw_g (lw_at lw_m1 88 rfl) rfl
theorem q184 : (Jvm.Cond.classLink "ModeDesk" (49 : Nat) "ModeDesk$3") ∈ lw_all := lw_g (lw_at lw_m1 96 rfl) rfl
theorem q186 : (Jvm.Cond.methodLink "ModeDesk" (51 : Nat) ({ cls := "ModeDesk$3", name := "<init>", desc := "(LModeDesk;)V" } : Jvm.MethodName)) ∈ lw_all := lw_g (lw_at lw_m1 98 rfl) rfl
theorem q194 : (Jvm.Cond.classLink "ModeDesk" (52 : Nat) "ModeDesk$4") ∈ lw_all := lw_g (lw_at lw_m1 106 rfl) rfl
theorem q196 : (Jvm.Cond.methodLink "ModeDesk" (54 : Nat) ({ cls := "ModeDesk$4", name := "<init>", desc := "(LModeDesk;)V" } : Jvm.MethodName)) ∈ lw_all := lw_g (lw_at lw_m1 108 rfl) rfl
theorem q205 : (Jvm.Cond.fieldLink "ModeDesk" (9 : Nat) "ModeDesk" "tape" "[B") ∈ lw_all := lw_g (lw_at lw_m1 117 rfl) rfl
theorem q207 : (Jvm.Cond.fieldLink "ModeDesk" (86 : Nat) "ModeDesk" "taped" "I") ∈ lw_all := lw_g (lw_at lw_m1 119 rfl) rfl
theorem q208 : (Jvm.Cond.fieldLink "ModeDesk" (93 : Nat) "ModeDesk" "fault" "I") ∈ lw_all := lw_g (lw_at lw_m1 120 rfl) rfl
theorem q209 : (Jvm.Cond.fieldLink "ModeDesk" (13 : Nat) "ModeDesk" "faultPlace" "I") ∈ lw_all := lw_g (lw_at lw_m1 121 rfl) rfl
theorem q210 : (Jvm.Cond.fieldLink "ModeDesk" (20 : Nat) "ModeDesk" "row" "LModeDesk$Row;") ∈ lw_all := lw_g (lw_at lw_m1 122 rfl) rfl
theorem q214 : (Jvm.Cond.fieldLink "ModeDesk" (24 : Nat) "ModeDesk" "before" "LModeDesk$Row;") ∈ lw_all := lw_g (lw_at lw_m1 126 rfl) rfl
theorem q215 : (Jvm.Cond.fieldLink "ModeDesk" (120 : Nat) "ModeDesk" "lines" "I") ∈ lw_all := lw_g (lw_at lw_m1 127 rfl) rfl
theorem q216 : (Jvm.Cond.fieldLink "ModeDesk" (27 : Nat) "ModeDesk" "block" "I") ∈ lw_all := lw_g (lw_at lw_m1 128 rfl) rfl
theorem q218 : (Jvm.Cond.fieldLink "ModeDesk" (125 : Nat) "ModeDesk" "tie" "I") ∈ lw_all := lw_g (lw_at lw_m1 130 rfl) rfl
theorem q219 : (Jvm.Cond.fieldLink "ModeDesk" (30 : Nat) "ModeDesk" "refreshed" "I") ∈ lw_all := lw_g (lw_at lw_m1 131 rfl) rfl
theorem q220 : (Jvm.Cond.fieldLink "ModeDesk" (35 : Nat) "ModeDesk" "places" "[LModeDesk$Places;") ∈ lw_all := lw_g (lw_at lw_m1 132 rfl) rfl
theorem q221 : (Jvm.Cond.fieldLink "ModeDesk" (55 : Nat) "ModeDesk" "rules" "[LModeDesk$Ahead;") ∈ lw_all := lw_g (lw_at lw_m1 133 rfl) rfl
theorem q222 : (Jvm.Cond.fieldLink "ModeDesk" (59 : Nat) "ModeDesk" "modes" "[I") ∈ lw_all := lw_g (lw_at lw_m1 134 rfl) rfl
theorem q223 : (Jvm.Cond.fieldLink "ModeDesk" (63 : Nat) "ModeDesk" "kept" "[LModeDesk$Row;") ∈ lw_all := lw_g (lw_at lw_m1 135 rfl) rfl
theorem q224 : (Jvm.Cond.fieldLink "ModeDesk" (126 : Nat) "ModeDesk" "undos" "I") ∈ lw_all := lw_g (lw_at lw_m1 136 rfl) rfl
theorem q225 : (Jvm.Cond.fieldLink "ModeDesk" (67 : Nat) "ModeDesk" "looked" "[I") ∈ lw_all := lw_g (lw_at lw_m1 137 rfl) rfl
theorem q226 : (Jvm.Cond.fieldLink "ModeDesk" (70 : Nat) "ModeDesk" "isLooked" "[Z") ∈ lw_all := lw_g (lw_at lw_m1 138 rfl) rfl
theorem q227 : (Jvm.Cond.fieldLink "ModeDesk" (262 : Nat) "ModeDesk" "lookedMany" "I") ∈ lw_all := lw_g (lw_at lw_m1 139 rfl) rfl
theorem q228 : (Jvm.Cond.fieldLink "ModeDesk" (74 : Nat) "ModeDesk" "sorted" "[I") ∈ lw_all := lw_g (lw_at lw_m1 140 rfl) rfl
theorem q229 : (Jvm.Cond.fieldLink "ModeDesk" (77 : Nat) "ModeDesk" "tally" "[I") ∈ lw_all := lw_g (lw_at lw_m1 141 rfl) rfl
theorem q233 : (Jvm.Cond.fieldLink "ModeDesk" (323 : Nat) "ModeDesk" "found" "I") ∈ lw_all := lw_g (lw_at lw_m1 145 rfl) rfl
theorem q236 : (Jvm.Cond.fieldLink "ModeDesk" (337 : Nat) "ModeDesk" "foundL" "I") ∈ lw_all := lw_g (lw_at lw_m1 148 rfl) rfl
theorem q239 : (Jvm.Cond.fieldLink "ModeDesk" (340 : Nat) "ModeDesk" "foundR" "I") ∈ lw_all := lw_g (lw_at lw_m1 151 rfl) rfl
theorem q240 : (Jvm.Cond.fieldLink "ModeDesk" (80 : Nat) "ModeDesk" "tried" "LModeDesk$Row;") ∈ lw_all := lw_g (lw_at lw_m1 152 rfl) rfl
theorem q241 : (Jvm.Cond.fieldLink "ModeDesk" (83 : Nat) "ModeDesk" "fewest" "[I") ∈ lw_all := lw_g (lw_at lw_m1 153 rfl) rfl
theorem q242 : (Jvm.Cond.laysFinal "ModeDesk" "ModeDesk" "tape" "[B") ∈ lw_all := lw_g (lw_at lw_m1 154 rfl) rfl
theorem q243 : (Jvm.Cond.soleField "ModeDesk" "tape") ∈ lw_all := lw_g (lw_at lw_m1 155 rfl) rfl
theorem q244 : (Jvm.Cond.lays "ModeDesk" "ModeDesk" "taped" "I") ∈ lw_all := lw_g (lw_at lw_m1 156 rfl) rfl
theorem q245 : (Jvm.Cond.soleField "ModeDesk" "taped") ∈ lw_all := lw_g (lw_at lw_m1 157 rfl) rfl
theorem q246 : (Jvm.Cond.lays "ModeDesk" "ModeDesk" "fault" "I") ∈ lw_all := lw_g (lw_at lw_m1 158 rfl) rfl
theorem q247 : (Jvm.Cond.soleField "ModeDesk" "fault") ∈ lw_all := lw_g (lw_at lw_m1 159 rfl) rfl
theorem q248 : (Jvm.Cond.lays "ModeDesk" "ModeDesk" "faultPlace" "I") ∈ lw_all := lw_g (lw_at lw_m1 160 rfl) rfl
theorem q249 : (Jvm.Cond.soleField "ModeDesk" "faultPlace") ∈ lw_all := lw_g (lw_at lw_m1 161 rfl) rfl
theorem q250 : (Jvm.Cond.laysFinal "ModeDesk" "ModeDesk" "row" "LModeDesk$Row;") ∈ lw_all := lw_g (lw_at lw_m1 162 rfl) rfl
theorem q251 : (Jvm.Cond.soleField "ModeDesk" "row") ∈ lw_all := lw_g (lw_at lw_m1 163 rfl) rfl
theorem q252 : (Jvm.Cond.laysFinal "ModeDesk" "ModeDesk" "before" "LModeDesk$Row;") ∈ lw_all := lw_g (lw_at lw_m1 164 rfl) rfl
theorem q253 : (Jvm.Cond.soleField "ModeDesk" "before") ∈ lw_all := lw_g (lw_at lw_m1 165 rfl) rfl
theorem q254 : (Jvm.Cond.lays "ModeDesk" "ModeDesk" "lines" "I") ∈ lw_all := lw_g (lw_at lw_m1 166 rfl) rfl
theorem q255 : (Jvm.Cond.soleField "ModeDesk" "lines") ∈ lw_all := lw_g (lw_at lw_m1 167 rfl) rfl
theorem q256 : (Jvm.Cond.lays "ModeDesk" "ModeDesk" "block" "I") ∈ lw_all := lw_g (lw_at lw_m1 168 rfl) rfl
theorem q257 : (Jvm.Cond.soleField "ModeDesk" "block") ∈ lw_all := lw_g (lw_at lw_m1 169 rfl) rfl
theorem q258 : (Jvm.Cond.lays "ModeDesk" "ModeDesk" "tie" "I") ∈ lw_all := lw_g (lw_at lw_m1 170 rfl) rfl
theorem q259 : (Jvm.Cond.soleField "ModeDesk" "tie") ∈ lw_all := lw_g (lw_at lw_m1 171 rfl) rfl
theorem q260 : (Jvm.Cond.lays "ModeDesk" "ModeDesk" "refreshed" "I") ∈ lw_all := lw_g (lw_at lw_m1 172 rfl) rfl
theorem q261 : (Jvm.Cond.soleField "ModeDesk" "refreshed") ∈ lw_all := lw_g (lw_at lw_m1 173 rfl) rfl
theorem q262 : (Jvm.Cond.laysFinal "ModeDesk" "ModeDesk" "places" "[LModeDesk$Places;") ∈ lw_all := lw_g (lw_at lw_m1 174 rfl) rfl
theorem q263 : (Jvm.Cond.soleField "ModeDesk" "places") ∈ lw_all := lw_g (lw_at lw_m1 175 rfl) rfl
theorem q264 : (Jvm.Cond.laysFinal "ModeDesk" "ModeDesk" "rules" "[LModeDesk$Ahead;") ∈ lw_all := lw_g (lw_at lw_m1 176 rfl) rfl
theorem q265 : (Jvm.Cond.soleField "ModeDesk" "rules") ∈ lw_all := lw_g (lw_at lw_m1 177 rfl) rfl
theorem q266 : (Jvm.Cond.laysFinal "ModeDesk" "ModeDesk" "modes" "[I") ∈ lw_all := lw_g (lw_at lw_m1 178 rfl) rfl
theorem q267 : (Jvm.Cond.soleField "ModeDesk" "modes") ∈ lw_all := lw_g (lw_at lw_m1 179 rfl) rfl
theorem q268 : (Jvm.Cond.laysFinal "ModeDesk" "ModeDesk" "kept" "[LModeDesk$Row;") ∈ lw_all := lw_g (lw_at lw_m1 180 rfl) rfl
theorem q269 : (Jvm.Cond.soleField "ModeDesk" "kept") ∈ lw_all := lw_g (lw_at lw_m1 181 rfl) rfl
theorem q270 : (Jvm.Cond.lays "ModeDesk" "ModeDesk" "undos" "I") ∈ lw_all := lw_g (lw_at lw_m1 182 rfl) rfl
theorem q271 : (Jvm.Cond.soleField "ModeDesk" "undos") ∈ lw_all := lw_g (lw_at lw_m1 183 rfl) rfl
theorem q272 : (Jvm.Cond.laysFinal "ModeDesk" "ModeDesk" "looked" "[I") ∈ lw_all := lw_g (lw_at lw_m1 184 rfl) rfl
theorem q273 : (Jvm.Cond.soleField "ModeDesk" "looked") ∈ lw_all := lw_g (lw_at lw_m1 185 rfl) rfl
theorem q274 : (Jvm.Cond.laysFinal "ModeDesk" "ModeDesk" "isLooked" "[Z") ∈ lw_all := lw_g (lw_at lw_m1 186 rfl) rfl
theorem q275 : (Jvm.Cond.soleField "ModeDesk" "isLooked") ∈ lw_all := lw_g (lw_at lw_m1 187 rfl) rfl
theorem q276 : (Jvm.Cond.lays "ModeDesk" "ModeDesk" "lookedMany" "I") ∈ lw_all := lw_g (lw_at lw_m1 188 rfl) rfl
theorem q277 : (Jvm.Cond.soleField "ModeDesk" "lookedMany") ∈ lw_all := lw_g (lw_at lw_m1 189 rfl) rfl
theorem q278 : (Jvm.Cond.laysFinal "ModeDesk" "ModeDesk" "sorted" "[I") ∈ lw_all := lw_g (lw_at lw_m1 190 rfl) rfl
theorem q279 : (Jvm.Cond.soleField "ModeDesk" "sorted") ∈ lw_all := lw_g (lw_at lw_m1 191 rfl) rfl
theorem q280 : (Jvm.Cond.laysFinal "ModeDesk" "ModeDesk" "tally" "[I") ∈ lw_all := lw_g (lw_at lw_m1 192 rfl) rfl
theorem q281 : (Jvm.Cond.soleField "ModeDesk" "tally") ∈ lw_all := lw_g (lw_at lw_m1 193 rfl) rfl
theorem q282 : (Jvm.Cond.lays "ModeDesk" "ModeDesk" "found" "I") ∈ lw_all := lw_g (lw_at lw_m1 194 rfl) rfl
theorem q283 : (Jvm.Cond.soleField "ModeDesk" "found") ∈ lw_all := lw_g (lw_at lw_m1 195 rfl) rfl
theorem q284 : (Jvm.Cond.lays "ModeDesk" "ModeDesk" "foundL" "I") ∈ lw_all := lw_g (lw_at lw_m1 196 rfl) rfl
theorem q285 : (Jvm.Cond.soleField "ModeDesk" "foundL") ∈ lw_all := lw_g (lw_at lw_m1 197 rfl) rfl
theorem q286 : (Jvm.Cond.lays "ModeDesk" "ModeDesk" "foundR" "I") ∈ lw_all := lw_g (lw_at lw_m1 198 rfl) rfl
theorem q287 : (Jvm.Cond.soleField "ModeDesk" "foundR") ∈ lw_all := lw_g (lw_at lw_m1 199 rfl) rfl
theorem q288 : (Jvm.Cond.laysFinal "ModeDesk" "ModeDesk" "tried" "LModeDesk$Row;") ∈ lw_all := lw_g (lw_at lw_m1 200 rfl) rfl
theorem q289 : (Jvm.Cond.soleField "ModeDesk" "tried") ∈ lw_all := lw_g (lw_at lw_m1 201 rfl) rfl
theorem q290 : (Jvm.Cond.laysFinal "ModeDesk" "ModeDesk" "fewest" "[I") ∈ lw_all := lw_g (lw_at lw_m1 202 rfl) rfl
theorem q291 : (Jvm.Cond.soleField "ModeDesk" "fewest") ∈ lw_all := lw_g (lw_at lw_m1 203 rfl) rfl
theorem q292 : (Jvm.Cond.superclass "ModeDesk" "java/lang/Object") ∈ lw_all := lw_g (lw_at lw_m1 204 rfl) rfl
theorem q295 : (Jvm.Cond.instanceMethod ({ cls := "ModeDesk", name := "feed", desc := "(IIIII)I" } : Jvm.MethodName)) ∈ lw_all := lw_g (lw_at lw_m1 207 rfl) rfl
theorem q296 : (Jvm.Cond.selects "ModeDesk" ({ cls := "ModeDesk", name := "feed", desc := "(IIIII)I" } : Jvm.MethodName) ({ cls := "ModeDesk", name := "feed", desc := "(IIIII)I" } : Jvm.MethodName)) ∈ lw_all := lw_g (lw_at lw_m1 208 rfl) rfl
theorem q297 : (Jvm.Cond.code ({ cls := "ModeDesk", name := "feed", desc := "(IIIII)I" } : Jvm.MethodName) prog_1_method_3_code (8 : Nat) (Option.some Jvm.ClassFile.FieldType.int)) ∈ lw_all := lw_g (lw_at lw_m1 209 rfl) rfl
theorem q299 : (Jvm.Cond.instanceMethod ({ cls := "ModeDesk", name := "text", desc := "(I)I" } : Jvm.MethodName)) ∈ lw_all := lw_g (lw_at lw_m1 211 rfl) rfl
theorem q300 : (Jvm.Cond.selects "ModeDesk" ({ cls := "ModeDesk", name := "text", desc := "(I)I" } : Jvm.MethodName) ({ cls := "ModeDesk", name := "text", desc := "(I)I" } : Jvm.MethodName)) ∈ lw_all := lw_g (lw_at lw_m1 212 rfl) rfl
theorem q301 : (Jvm.Cond.codeWith ({ cls := "ModeDesk", name := "text", desc := "(I)I" } : Jvm.MethodName) prog_1_method_4_code (4 : Nat) (Option.some Jvm.ClassFile.FieldType.int) [((42 : Nat), (46 : Nat), (49 : Nat), (104 : Nat))]) ∈ lw_all := lw_g (lw_at lw_m1 213 rfl) rfl
theorem q302 : (Jvm.Cond.classLink "ModeDesk" (104 : Nat) "ModeDesk$Fault") ∈ lw_all := lw_g (lw_at lw_m1 214 rfl) rfl
theorem q303 : (Jvm.Cond.methodLink "ModeDesk" (89 : Nat) ({ cls := "ModeDesk", name := "isIn", desc := "(JJJ)Z" } : Jvm.MethodName)) ∈ lw_all := lw_g (lw_at lw_m1 215 rfl) rfl
theorem q304 : (Jvm.Cond.static ({ cls := "ModeDesk", name := "isIn", desc := "(JJJ)Z" } : Jvm.MethodName)) ∈ lw_all := lw_g (lw_at lw_m1 216 rfl) rfl
theorem q305 : (Jvm.Cond.code ({ cls := "ModeDesk", name := "isIn", desc := "(JJJ)Z" } : Jvm.MethodName) prog_1_method_2_code (6 : Nat) (Option.some Jvm.ClassFile.FieldType.boolean)) ∈ lw_all := lw_g (lw_at lw_m1 217 rfl) rfl
theorem q306 : (Jvm.Cond.classLink "ModeDesk" (96 : Nat) "ModeDesk$Reader") ∈ lw_all := lw_g (lw_at lw_m1 218 rfl) rfl
theorem q308 : (Jvm.Cond.methodLink "ModeDesk" (98 : Nat) ({ cls := "ModeDesk$Reader", name := "<init>", desc := "(LModeDesk;I)V" } : Jvm.MethodName)) ∈ lw_all := lw_g (lw_at lw_m1 220 rfl) rfl
theorem q316 : (Jvm.Cond.fieldLinkNest "ModeDesk" (112 : Nat) "ModeDesk$Reader" "row" "LModeDesk$Row;" "ModeDesk") ∈ lw_tbl := lw_at lw_m1 228 rfl
theorem q321 : (Jvm.Cond.fieldLinkNest "ModeDesk" (117 : Nat) "ModeDesk$Reader" "lines" "I" "ModeDesk") ∈ lw_tbl := lw_at lw_m1 233 rfl
theorem q324 : (Jvm.Cond.fieldLinkNest "ModeDesk" (121 : Nat) "ModeDesk$Reader" "block" "I" "ModeDesk") ∈ lw_tbl := lw_at lw_m1 236 rfl
theorem q325 : (Jvm.Cond.fieldLinkNest "ModeDesk" (122 : Nat) "ModeDesk$Reader" "tie" "I" "ModeDesk") ∈ lw_tbl := lw_at lw_m1 237 rfl
theorem q358 : (Jvm.Cond.methodLink "ModeDesk" (101 : Nat) ({ cls := "ModeDesk$Reader", name := "reads", desc := "()V" } : Jvm.MethodName)) ∈ lw_all := lw_g (lw_at lw_m2 30 rfl) rfl
theorem q643 : (Jvm.Cond.fieldLinkNest "ModeDesk" (106 : Nat) "ModeDesk$Fault" "sort" "I" "ModeDesk") ∈ lw_tbl := lw_at lw_m3 75 rfl
theorem q645 : (Jvm.Cond.fieldLinkNest "ModeDesk" (109 : Nat) "ModeDesk$Fault" "place" "I" "ModeDesk") ∈ lw_tbl := lw_at lw_m3 77 rfl
theorem q690 : (Jvm.Cond.methodLink "ModeDesk" (113 : Nat) ({ cls := "ModeDesk$Row", name := "like", desc := "(LModeDesk$Row;)LModeDesk$Row;" } : Jvm.MethodName)) ∈ lw_all := lw_g (lw_at lw_m3 122 rfl) rfl
theorem q695 : (Jvm.Cond.methodLink "ModeDesk" (129 : Nat) ({ cls := "ModeDesk", name := "laysPlaces", desc := "()V" } : Jvm.MethodName)) ∈ lw_all := lw_g (lw_at lw_m3 127 rfl) rfl
theorem q696 : (Jvm.Cond.privateMethod ({ cls := "ModeDesk", name := "laysPlaces", desc := "()V" } : Jvm.MethodName)) ∈ lw_tbl := lw_at lw_m3 128 rfl
theorem q697 : (Jvm.Cond.instanceMethod ({ cls := "ModeDesk", name := "laysPlaces", desc := "()V" } : Jvm.MethodName)) ∈ lw_all := lw_g (lw_at lw_m3 129 rfl) rfl
theorem q698 : (Jvm.Cond.code ({ cls := "ModeDesk", name := "laysPlaces", desc := "()V" } : Jvm.MethodName) prog_1_method_7_code (5 : Nat) (Option.none : Option Jvm.ClassFile.FieldType)) ∈ lw_all := lw_g (lw_at lw_m3 130 rfl) rfl
theorem q700 : (Jvm.Cond.methodLinkNest "ModeDesk" (151 : Nat) ({ cls := "ModeDesk$Places", name := "<init>", desc := "()V" } : Jvm.MethodName) "ModeDesk") ∈ lw_tbl := lw_at lw_m3 132 rfl
theorem q706 : (Jvm.Cond.fieldLinkNest "ModeDesk" (176 : Nat) "ModeDesk$Places" "at" "[I" "ModeDesk") ∈ lw_tbl := lw_at lw_m3 138 rfl
theorem q709 : (Jvm.Cond.fieldLinkNest "ModeDesk" (144 : Nat) "ModeDesk$Places" "many" "I" "ModeDesk") ∈ lw_tbl := lw_at lw_m3 141 rfl
theorem q715 : (Jvm.Cond.methodLink "ModeDesk" (152 : Nat) ({ cls := "ModeDesk$Places", name := "adds", desc := "(I)V" } : Jvm.MethodName)) ∈ lw_all := lw_g (lw_at lw_m3 147 rfl) rfl
theorem q719 : (Jvm.Cond.methodLink "ModeDesk" (132 : Nat) ({ cls := "ModeDesk", name := "blocks", desc := "()I" } : Jvm.MethodName)) ∈ lw_all := lw_g (lw_at lw_m3 151 rfl) rfl
theorem q720 : (Jvm.Cond.privateMethod ({ cls := "ModeDesk", name := "blocks", desc := "()I" } : Jvm.MethodName)) ∈ lw_tbl := lw_at lw_m3 152 rfl
theorem q721 : (Jvm.Cond.instanceMethod ({ cls := "ModeDesk", name := "blocks", desc := "()I" } : Jvm.MethodName)) ∈ lw_all := lw_g (lw_at lw_m3 153 rfl) rfl
theorem q722 : (Jvm.Cond.code ({ cls := "ModeDesk", name := "blocks", desc := "()I" } : Jvm.MethodName) prog_1_method_15_code (1 : Nat) (Option.some Jvm.ClassFile.FieldType.int)) ∈ lw_all := lw_g (lw_at lw_m3 154 rfl) rfl
theorem q723 : (Jvm.Cond.methodLink "ModeDesk" (136 : Nat) ({ cls := "ModeDesk", name := "laysPairs", desc := "(II)V" } : Jvm.MethodName)) ∈ lw_all := lw_g (lw_at lw_m3 155 rfl) rfl
theorem q724 : (Jvm.Cond.privateMethod ({ cls := "ModeDesk", name := "laysPairs", desc := "(II)V" } : Jvm.MethodName)) ∈ lw_tbl := lw_at lw_m3 156 rfl
theorem q725 : (Jvm.Cond.instanceMethod ({ cls := "ModeDesk", name := "laysPairs", desc := "(II)V" } : Jvm.MethodName)) ∈ lw_all := lw_g (lw_at lw_m3 157 rfl) rfl
theorem q726 : (Jvm.Cond.code ({ cls := "ModeDesk", name := "laysPairs", desc := "(II)V" } : Jvm.MethodName) prog_1_method_17_code (7 : Nat) (Option.none : Option Jvm.ClassFile.FieldType)) ∈ lw_all := lw_g (lw_at lw_m3 158 rfl) rfl
theorem q727 : (Jvm.Cond.methodLink "ModeDesk" (195 : Nat) ({ cls := "ModeDesk", name := "endOf", desc := "(I)I" } : Jvm.MethodName)) ∈ lw_all := lw_g (lw_at lw_m3 159 rfl) rfl
theorem q728 : (Jvm.Cond.privateMethod ({ cls := "ModeDesk", name := "endOf", desc := "(I)I" } : Jvm.MethodName)) ∈ lw_tbl := lw_at lw_m3 160 rfl
theorem q729 : (Jvm.Cond.instanceMethod ({ cls := "ModeDesk", name := "endOf", desc := "(I)I" } : Jvm.MethodName)) ∈ lw_all := lw_g (lw_at lw_m3 161 rfl) rfl
theorem q730 : (Jvm.Cond.code ({ cls := "ModeDesk", name := "endOf", desc := "(I)I" } : Jvm.MethodName) prog_1_method_16_code (2 : Nat) (Option.some Jvm.ClassFile.FieldType.int)) ∈ lw_all := lw_g (lw_at lw_m3 162 rfl) rfl
theorem q731 : (Jvm.Cond.methodLink "ModeDesk" (190 : Nat) ({ cls := "java/lang/Math", name := "min", desc := "(II)I" } : Jvm.MethodName)) ∈ lw_all := lw_g (lw_at lw_m3 163 rfl) rfl
theorem q732 : (Jvm.Cond.methodLink "ModeDesk" (198 : Nat) ({ cls := "ModeDesk", name := "isAhead", desc := "(IIIII)Z" } : Jvm.MethodName)) ∈ lw_all := lw_g (lw_at lw_m3 164 rfl) rfl
theorem q733 : (Jvm.Cond.privateMethod ({ cls := "ModeDesk", name := "isAhead", desc := "(IIIII)Z" } : Jvm.MethodName)) ∈ lw_tbl := lw_at lw_m3 165 rfl
theorem q734 : (Jvm.Cond.instanceMethod ({ cls := "ModeDesk", name := "isAhead", desc := "(IIIII)Z" } : Jvm.MethodName)) ∈ lw_all := lw_g (lw_at lw_m3 166 rfl) rfl
theorem q735 : (Jvm.Cond.code ({ cls := "ModeDesk", name := "isAhead", desc := "(IIIII)Z" } : Jvm.MethodName) prog_1_method_14_code (7 : Nat) (Option.some Jvm.ClassFile.FieldType.boolean)) ∈ lw_all := lw_g (lw_at lw_m3 167 rfl) rfl
theorem q736 : (Jvm.Cond.methodLink "ModeDesk" (165 : Nat) ({ cls := "ModeDesk", name := "of", desc := "(I)LModeDesk$Places;" } : Jvm.MethodName)) ∈ lw_all := lw_g (lw_at lw_m3 168 rfl) rfl
theorem q737 : (Jvm.Cond.privateMethod ({ cls := "ModeDesk", name := "of", desc := "(I)LModeDesk$Places;" } : Jvm.MethodName)) ∈ lw_tbl := lw_at lw_m3 169 rfl
theorem q738 : (Jvm.Cond.instanceMethod ({ cls := "ModeDesk", name := "of", desc := "(I)LModeDesk$Places;" } : Jvm.MethodName)) ∈ lw_all := lw_g (lw_at lw_m3 170 rfl) rfl
theorem q739 : (Jvm.Cond.code ({ cls := "ModeDesk", name := "of", desc := "(I)LModeDesk$Places;" } : Jvm.MethodName) prog_1_method_6_code (2 : Nat) (Option.some (Jvm.ClassFile.FieldType.object "ModeDesk$Places"))) ∈ lw_all := lw_g (lw_at lw_m3 171 rfl) rfl
theorem q740 : (Jvm.Cond.fieldLink "ModeDesk" (140 : Nat) "ModeDesk" "NOWHERE" "LModeDesk$Places;") ∈ lw_all := lw_g (lw_at lw_m3 172 rfl) rfl
theorem q741 : (Jvm.Cond.laysStatic "ModeDesk" "NOWHERE" "LModeDesk$Places;") ∈ lw_tbl := lw_at lw_m3 173 rfl
theorem q742 : (Jvm.Cond.methodLink "ModeDesk" (182 : Nat) ({ cls := "ModeDesk$Places", name := "within", desc := "(II)I" } : Jvm.MethodName)) ∈ lw_all := lw_g (lw_at lw_m3 174 rfl) rfl
theorem q750 : (Jvm.Cond.interfaceEntry "ModeDesk" (186 : Nat)) ∈ lw_tbl := lw_at lw_m3 182 rfl
theorem q751 : (Jvm.Cond.methodLink "ModeDesk" (186 : Nat) ({ cls := "ModeDesk$Ahead", name := "is", desc := "(IIII)Z" } : Jvm.MethodName)) ∈ lw_all := lw_g (lw_at lw_m3 183 rfl) rfl
theorem q761 : (Jvm.Cond.privateMethod ({ cls := "ModeDesk", name := "firstOf", desc := "(II)I" } : Jvm.MethodName)) ∈ lw_tbl := lw_at lw_m3 193 rfl
theorem q762 : (Jvm.Cond.instanceMethod ({ cls := "ModeDesk", name := "firstOf", desc := "(II)I" } : Jvm.MethodName)) ∈ lw_all := lw_g (lw_at lw_m3 194 rfl) rfl
theorem q763 : (Jvm.Cond.code ({ cls := "ModeDesk", name := "firstOf", desc := "(II)I" } : Jvm.MethodName) prog_1_method_12_code (3 : Nat) (Option.some Jvm.ClassFile.FieldType.int)) ∈ lw_all := lw_g (lw_at lw_m3 195 rfl) rfl
theorem q764 : (Jvm.Cond.methodLink "ModeDesk" (169 : Nat) ({ cls := "ModeDesk$Places", name := "ahead", desc := "(I)I" } : Jvm.MethodName)) ∈ lw_all := lw_g (lw_at lw_m3 196 rfl) rfl
theorem q772 : (Jvm.Cond.privateMethod ({ cls := "ModeDesk", name := "lastOf", desc := "(II)I" } : Jvm.MethodName)) ∈ lw_tbl := lw_at lw_m3 204 rfl
theorem q773 : (Jvm.Cond.instanceMethod ({ cls := "ModeDesk", name := "lastOf", desc := "(II)I" } : Jvm.MethodName)) ∈ lw_all := lw_g (lw_at lw_m3 205 rfl) rfl
theorem q774 : (Jvm.Cond.code ({ cls := "ModeDesk", name := "lastOf", desc := "(II)I" } : Jvm.MethodName) prog_1_method_13_code (3 : Nat) (Option.some Jvm.ClassFile.FieldType.int)) ∈ lw_all := lw_g (lw_at lw_m3 206 rfl) rfl
theorem q788 : (Jvm.Cond.instanceMethod ({ cls := "ModeDesk", name := "fault", desc := "(I)I" } : Jvm.MethodName)) ∈ lw_all := lw_g (lw_at lw_m3 220 rfl) rfl
theorem q789 : (Jvm.Cond.selects "ModeDesk" ({ cls := "ModeDesk", name := "fault", desc := "(I)I" } : Jvm.MethodName) ({ cls := "ModeDesk", name := "fault", desc := "(I)I" } : Jvm.MethodName)) ∈ lw_all := lw_g (lw_at lw_m3 221 rfl) rfl
theorem q790 : (Jvm.Cond.code ({ cls := "ModeDesk", name := "fault", desc := "(I)I" } : Jvm.MethodName) prog_1_method_5_code (2 : Nat) (Option.some Jvm.ClassFile.FieldType.int)) ∈ lw_all := lw_g (lw_at lw_m3 222 rfl) rfl
theorem q792 : (Jvm.Cond.instanceMethod ({ cls := "ModeDesk", name := "refreshed", desc := "()I" } : Jvm.MethodName)) ∈ lw_all := lw_g (lw_at lw_m3 224 rfl) rfl
theorem q793 : (Jvm.Cond.selects "ModeDesk" ({ cls := "ModeDesk", name := "refreshed", desc := "()I" } : Jvm.MethodName) ({ cls := "ModeDesk", name := "refreshed", desc := "()I" } : Jvm.MethodName)) ∈ lw_all := lw_g (lw_at lw_m3 225 rfl) rfl
theorem q794 : (Jvm.Cond.code ({ cls := "ModeDesk", name := "refreshed", desc := "()I" } : Jvm.MethodName) prog_1_method_23_code (1 : Nat) (Option.some Jvm.ClassFile.FieldType.int)) ∈ lw_all := lw_g (lw_at lw_m3 226 rfl) rfl
theorem q796 : (Jvm.Cond.instanceMethod ({ cls := "ModeDesk", name := "set", desc := "(II)I" } : Jvm.MethodName)) ∈ lw_all := lw_g (lw_at lw_m3 228 rfl) rfl
theorem q797 : (Jvm.Cond.selects "ModeDesk" ({ cls := "ModeDesk", name := "set", desc := "(II)I" } : Jvm.MethodName) ({ cls := "ModeDesk", name := "set", desc := "(II)I" } : Jvm.MethodName)) ∈ lw_all := lw_g (lw_at lw_m3 229 rfl) rfl
theorem q798 : (Jvm.Cond.code ({ cls := "ModeDesk", name := "set", desc := "(II)I" } : Jvm.MethodName) prog_1_method_24_code (4 : Nat) (Option.some Jvm.ClassFile.FieldType.int)) ∈ lw_all := lw_g (lw_at lw_m3 230 rfl) rfl
theorem q799 : (Jvm.Cond.methodLink "ModeDesk" (158 : Nat) ({ cls := "ModeDesk", name := "isPlace", desc := "(I)Z" } : Jvm.MethodName)) ∈ lw_all := lw_g (lw_at lw_m3 231 rfl) rfl
theorem q800 : (Jvm.Cond.privateMethod ({ cls := "ModeDesk", name := "isPlace", desc := "(I)Z" } : Jvm.MethodName)) ∈ lw_tbl := lw_at lw_m3 232 rfl
theorem q801 : (Jvm.Cond.instanceMethod ({ cls := "ModeDesk", name := "isPlace", desc := "(I)Z" } : Jvm.MethodName)) ∈ lw_all := lw_g (lw_at lw_m3 233 rfl) rfl
theorem q802 : (Jvm.Cond.code ({ cls := "ModeDesk", name := "isPlace", desc := "(I)Z" } : Jvm.MethodName) prog_1_method_8_code (2 : Nat) (Option.some Jvm.ClassFile.FieldType.boolean)) ∈ lw_all := lw_g (lw_at lw_m3 234 rfl) rfl
theorem q803 : (Jvm.Cond.methodLink "ModeDesk" (219 : Nat) ({ cls := "ModeDesk", name := "isValue", desc := "(I)Z" } : Jvm.MethodName)) ∈ lw_all := lw_g (lw_at lw_m3 235 rfl) rfl
theorem q804 : (Jvm.Cond.static ({ cls := "ModeDesk", name := "isValue", desc := "(I)Z" } : Jvm.MethodName)) ∈ lw_all := lw_g (lw_at lw_m3 236 rfl) rfl
theorem q805 : (Jvm.Cond.code ({ cls := "ModeDesk", name := "isValue", desc := "(I)Z" } : Jvm.MethodName) prog_1_method_9_code (1 : Nat) (Option.some Jvm.ClassFile.FieldType.boolean)) ∈ lw_all := lw_g (lw_at lw_m3 237 rfl) rfl
theorem q806 : (Jvm.Cond.constantLong "ModeDesk" (156 : Nat) (999 : Int64)) ∈ lw_all := lw_g (lw_at lw_m3 238 rfl) rfl
theorem q807 : (Jvm.Cond.methodLink "ModeDesk" (222 : Nat) ({ cls := "ModeDesk", name := "begins", desc := "()V" } : Jvm.MethodName)) ∈ lw_all := lw_g (lw_at lw_m3 239 rfl) rfl
theorem q808 : (Jvm.Cond.privateMethod ({ cls := "ModeDesk", name := "begins", desc := "()V" } : Jvm.MethodName)) ∈ lw_tbl := lw_at lw_m4 0 rfl
theorem q809 : (Jvm.Cond.instanceMethod ({ cls := "ModeDesk", name := "begins", desc := "()V" } : Jvm.MethodName)) ∈ lw_all := lw_g (lw_at lw_m4 1 rfl) rfl
theorem q810 : (Jvm.Cond.code ({ cls := "ModeDesk", name := "begins", desc := "()V" } : Jvm.MethodName) prog_1_method_18_code (1 : Nat) (Option.none : Option Jvm.ClassFile.FieldType)) ∈ lw_all := lw_g (lw_at lw_m4 2 rfl) rfl
theorem q811 : (Jvm.Cond.methodLink "ModeDesk" (225 : Nat) ({ cls := "ModeDesk", name := "ends", desc := "()I" } : Jvm.MethodName)) ∈ lw_all := lw_g (lw_at lw_m4 3 rfl) rfl
theorem q812 : (Jvm.Cond.privateMethod ({ cls := "ModeDesk", name := "ends", desc := "()I" } : Jvm.MethodName)) ∈ lw_tbl := lw_at lw_m4 4 rfl
theorem q813 : (Jvm.Cond.instanceMethod ({ cls := "ModeDesk", name := "ends", desc := "()I" } : Jvm.MethodName)) ∈ lw_all := lw_g (lw_at lw_m4 5 rfl) rfl
theorem q814 : (Jvm.Cond.code ({ cls := "ModeDesk", name := "ends", desc := "()I" } : Jvm.MethodName) prog_1_method_20_code (1 : Nat) (Option.some Jvm.ClassFile.FieldType.int)) ∈ lw_all := lw_g (lw_at lw_m4 6 rfl) rfl
theorem q815 : (Jvm.Cond.methodLink "ModeDesk" (202 : Nat) ({ cls := "ModeDesk$Row", name := "isLike", desc := "(LModeDesk$Row;)Z" } : Jvm.MethodName)) ∈ lw_all := lw_g (lw_at lw_m4 7 rfl) rfl
theorem q819 : (Jvm.Cond.methodLink "ModeDesk" (206 : Nat) ({ cls := "ModeDesk", name := "keeps", desc := "()V" } : Jvm.MethodName)) ∈ lw_all := lw_g (lw_at lw_m4 11 rfl) rfl
theorem q820 : (Jvm.Cond.privateMethod ({ cls := "ModeDesk", name := "keeps", desc := "()V" } : Jvm.MethodName)) ∈ lw_tbl := lw_at lw_m4 12 rfl
theorem q821 : (Jvm.Cond.instanceMethod ({ cls := "ModeDesk", name := "keeps", desc := "()V" } : Jvm.MethodName)) ∈ lw_all := lw_g (lw_at lw_m4 13 rfl) rfl
theorem q822 : (Jvm.Cond.code ({ cls := "ModeDesk", name := "keeps", desc := "()V" } : Jvm.MethodName) prog_1_method_19_code (3 : Nat) (Option.none : Option Jvm.ClassFile.FieldType)) ∈ lw_all := lw_g (lw_at lw_m4 14 rfl) rfl
theorem q823 : (Jvm.Cond.methodLink "ModeDesk" (209 : Nat) ({ cls := "ModeDesk", name := "refreshes", desc := "()V" } : Jvm.MethodName)) ∈ lw_all := lw_g (lw_at lw_m4 15 rfl) rfl
theorem q824 : (Jvm.Cond.privateMethod ({ cls := "ModeDesk", name := "refreshes", desc := "()V" } : Jvm.MethodName)) ∈ lw_tbl := lw_at lw_m4 16 rfl
theorem q825 : (Jvm.Cond.instanceMethod ({ cls := "ModeDesk", name := "refreshes", desc := "()V" } : Jvm.MethodName)) ∈ lw_all := lw_g (lw_at lw_m4 17 rfl) rfl
theorem q826 : (Jvm.Cond.code ({ cls := "ModeDesk", name := "refreshes", desc := "()V" } : Jvm.MethodName) prog_1_method_22_code (3 : Nat) (Option.none : Option Jvm.ClassFile.FieldType)) ∈ lw_all := lw_g (lw_at lw_m4 18 rfl) rfl
theorem q827 : (Jvm.Cond.methodLink "ModeDesk" (216 : Nat) ({ cls := "ModeDesk", name := "isFresh", desc := "(I)Z" } : Jvm.MethodName)) ∈ lw_all := lw_g (lw_at lw_m4 19 rfl) rfl
theorem q828 : (Jvm.Cond.privateMethod ({ cls := "ModeDesk", name := "isFresh", desc := "(I)Z" } : Jvm.MethodName)) ∈ lw_tbl := lw_at lw_m4 20 rfl
theorem q829 : (Jvm.Cond.instanceMethod ({ cls := "ModeDesk", name := "isFresh", desc := "(I)Z" } : Jvm.MethodName)) ∈ lw_all := lw_g (lw_at lw_m4 21 rfl) rfl
theorem q830 : (Jvm.Cond.code ({ cls := "ModeDesk", name := "isFresh", desc := "(I)Z" } : Jvm.MethodName) prog_1_method_21_code (3 : Nat) (Option.some Jvm.ClassFile.FieldType.boolean)) ∈ lw_all := lw_g (lw_at lw_m4 22 rfl) rfl
theorem q831 : (Jvm.Cond.methodLink "ModeDesk" (212 : Nat) ({ cls := "ModeDesk$Row", name := "unlike", desc := "(LModeDesk$Row;)I" } : Jvm.MethodName)) ∈ lw_all := lw_g (lw_at lw_m4 23 rfl) rfl
theorem q836 : (Jvm.Cond.instanceMethod ({ cls := "ModeDesk", name := "weigh", desc := "(II)I" } : Jvm.MethodName)) ∈ lw_all := lw_g (lw_at lw_m4 28 rfl) rfl
theorem q837 : (Jvm.Cond.selects "ModeDesk" ({ cls := "ModeDesk", name := "weigh", desc := "(II)I" } : Jvm.MethodName) ({ cls := "ModeDesk", name := "weigh", desc := "(II)I" } : Jvm.MethodName)) ∈ lw_all := lw_g (lw_at lw_m4 29 rfl) rfl
theorem q838 : (Jvm.Cond.code ({ cls := "ModeDesk", name := "weigh", desc := "(II)I" } : Jvm.MethodName) prog_1_method_25_code (4 : Nat) (Option.some Jvm.ClassFile.FieldType.int)) ∈ lw_all := lw_g (lw_at lw_m4 30 rfl) rfl
theorem q839 : (Jvm.Cond.constantLong "ModeDesk" (228 : Nat) (9 : Int64)) ∈ lw_all := lw_g (lw_at lw_m4 31 rfl) rfl
theorem q841 : (Jvm.Cond.instanceMethod ({ cls := "ModeDesk", name := "insert", desc := "(II)I" } : Jvm.MethodName)) ∈ lw_all := lw_g (lw_at lw_m4 33 rfl) rfl
theorem q842 : (Jvm.Cond.selects "ModeDesk" ({ cls := "ModeDesk", name := "insert", desc := "(II)I" } : Jvm.MethodName) ({ cls := "ModeDesk", name := "insert", desc := "(II)I" } : Jvm.MethodName)) ∈ lw_all := lw_g (lw_at lw_m4 34 rfl) rfl
theorem q843 : (Jvm.Cond.code ({ cls := "ModeDesk", name := "insert", desc := "(II)I" } : Jvm.MethodName) prog_1_method_26_code (4 : Nat) (Option.some Jvm.ClassFile.FieldType.int)) ∈ lw_all := lw_g (lw_at lw_m4 35 rfl) rfl
theorem q844 : (Jvm.Cond.methodLink "ModeDesk" (230 : Nat) ({ cls := "ModeDesk$Row", name := "opens", desc := "(II)V" } : Jvm.MethodName)) ∈ lw_all := lw_g (lw_at lw_m4 36 rfl) rfl
theorem q853 : (Jvm.Cond.instanceMethod ({ cls := "ModeDesk", name := "remove", desc := "(I)I" } : Jvm.MethodName)) ∈ lw_all := lw_g (lw_at lw_m4 45 rfl) rfl
theorem q854 : (Jvm.Cond.selects "ModeDesk" ({ cls := "ModeDesk", name := "remove", desc := "(I)I" } : Jvm.MethodName) ({ cls := "ModeDesk", name := "remove", desc := "(I)I" } : Jvm.MethodName)) ∈ lw_all := lw_g (lw_at lw_m4 46 rfl) rfl
theorem q855 : (Jvm.Cond.code ({ cls := "ModeDesk", name := "remove", desc := "(I)I" } : Jvm.MethodName) prog_1_method_27_code (3 : Nat) (Option.some Jvm.ClassFile.FieldType.int)) ∈ lw_all := lw_g (lw_at lw_m4 47 rfl) rfl
theorem q856 : (Jvm.Cond.methodLink "ModeDesk" (233 : Nat) ({ cls := "ModeDesk$Row", name := "closes", desc := "(I)V" } : Jvm.MethodName)) ∈ lw_all := lw_g (lw_at lw_m4 48 rfl) rfl
theorem q861 : (Jvm.Cond.instanceMethod ({ cls := "ModeDesk", name := "fill", desc := "(III)I" } : Jvm.MethodName)) ∈ lw_all := lw_g (lw_at lw_m4 53 rfl) rfl
theorem q862 : (Jvm.Cond.selects "ModeDesk" ({ cls := "ModeDesk", name := "fill", desc := "(III)I" } : Jvm.MethodName) ({ cls := "ModeDesk", name := "fill", desc := "(III)I" } : Jvm.MethodName)) ∈ lw_all := lw_g (lw_at lw_m4 54 rfl) rfl
theorem q863 : (Jvm.Cond.code ({ cls := "ModeDesk", name := "fill", desc := "(III)I" } : Jvm.MethodName) prog_1_method_28_code (5 : Nat) (Option.some Jvm.ClassFile.FieldType.int)) ∈ lw_all := lw_g (lw_at lw_m4 55 rfl) rfl
theorem q864 : (Jvm.Cond.methodLink "ModeDesk" (236 : Nat) ({ cls := "ModeDesk", name := "isSpan", desc := "(II)Z" } : Jvm.MethodName)) ∈ lw_all := lw_g (lw_at lw_m4 56 rfl) rfl
theorem q865 : (Jvm.Cond.privateMethod ({ cls := "ModeDesk", name := "isSpan", desc := "(II)Z" } : Jvm.MethodName)) ∈ lw_tbl := lw_at lw_m4 57 rfl
theorem q866 : (Jvm.Cond.instanceMethod ({ cls := "ModeDesk", name := "isSpan", desc := "(II)Z" } : Jvm.MethodName)) ∈ lw_all := lw_g (lw_at lw_m4 58 rfl) rfl
theorem q867 : (Jvm.Cond.code ({ cls := "ModeDesk", name := "isSpan", desc := "(II)Z" } : Jvm.MethodName) prog_1_method_10_code (3 : Nat) (Option.some Jvm.ClassFile.FieldType.boolean)) ∈ lw_all := lw_g (lw_at lw_m4 59 rfl) rfl
theorem q869 : (Jvm.Cond.instanceMethod ({ cls := "ModeDesk", name := "swap", desc := "(II)Z" } : Jvm.MethodName)) ∈ lw_all := lw_g (lw_at lw_m4 61 rfl) rfl
theorem q870 : (Jvm.Cond.selects "ModeDesk" ({ cls := "ModeDesk", name := "swap", desc := "(II)Z" } : Jvm.MethodName) ({ cls := "ModeDesk", name := "swap", desc := "(II)Z" } : Jvm.MethodName)) ∈ lw_all := lw_g (lw_at lw_m4 62 rfl) rfl
theorem q871 : (Jvm.Cond.code ({ cls := "ModeDesk", name := "swap", desc := "(II)Z" } : Jvm.MethodName) prog_1_method_29_code (4 : Nat) (Option.some Jvm.ClassFile.FieldType.boolean)) ∈ lw_all := lw_g (lw_at lw_m4 63 rfl) rfl
theorem q872 : (Jvm.Cond.methodLink "ModeDesk" (240 : Nat) ({ cls := "ModeDesk$Row", name := "swaps", desc := "(II)V" } : Jvm.MethodName)) ∈ lw_all := lw_g (lw_at lw_m4 64 rfl) rfl
theorem q877 : (Jvm.Cond.instanceMethod ({ cls := "ModeDesk", name := "flip", desc := "(II)I" } : Jvm.MethodName)) ∈ lw_all := lw_g (lw_at lw_m4 69 rfl) rfl
theorem q878 : (Jvm.Cond.selects "ModeDesk" ({ cls := "ModeDesk", name := "flip", desc := "(II)I" } : Jvm.MethodName) ({ cls := "ModeDesk", name := "flip", desc := "(II)I" } : Jvm.MethodName)) ∈ lw_all := lw_g (lw_at lw_m4 70 rfl) rfl
theorem q879 : (Jvm.Cond.code ({ cls := "ModeDesk", name := "flip", desc := "(II)I" } : Jvm.MethodName) prog_1_method_30_code (4 : Nat) (Option.some Jvm.ClassFile.FieldType.int)) ∈ lw_all := lw_g (lw_at lw_m4 71 rfl) rfl
theorem q881 : (Jvm.Cond.instanceMethod ({ cls := "ModeDesk", name := "shift", desc := "(III)I" } : Jvm.MethodName)) ∈ lw_all := lw_g (lw_at lw_m4 73 rfl) rfl
theorem q882 : (Jvm.Cond.selects "ModeDesk" ({ cls := "ModeDesk", name := "shift", desc := "(III)I" } : Jvm.MethodName) ({ cls := "ModeDesk", name := "shift", desc := "(III)I" } : Jvm.MethodName)) ∈ lw_all := lw_g (lw_at lw_m4 74 rfl) rfl
theorem q883 : (Jvm.Cond.code ({ cls := "ModeDesk", name := "shift", desc := "(III)I" } : Jvm.MethodName) prog_1_method_31_code (6 : Nat) (Option.some Jvm.ClassFile.FieldType.int)) ∈ lw_all := lw_g (lw_at lw_m4 75 rfl) rfl
theorem q885 : (Jvm.Cond.instanceMethod ({ cls := "ModeDesk", name := "replace", desc := "(II)I" } : Jvm.MethodName)) ∈ lw_all := lw_g (lw_at lw_m4 77 rfl) rfl
theorem q886 : (Jvm.Cond.selects "ModeDesk" ({ cls := "ModeDesk", name := "replace", desc := "(II)I" } : Jvm.MethodName) ({ cls := "ModeDesk", name := "replace", desc := "(II)I" } : Jvm.MethodName)) ∈ lw_all := lw_g (lw_at lw_m4 78 rfl) rfl
theorem q887 : (Jvm.Cond.code ({ cls := "ModeDesk", name := "replace", desc := "(II)I" } : Jvm.MethodName) prog_1_method_32_code (5 : Nat) (Option.some Jvm.ClassFile.FieldType.int)) ∈ lw_all := lw_g (lw_at lw_m4 79 rfl) rfl
theorem q888 : (Jvm.Cond.methodLink "ModeDesk" (243 : Nat) ({ cls := "ModeDesk$Places", name := "iterator", desc := "()Ljava/util/Iterator;" } : Jvm.MethodName)) ∈ lw_all := lw_g (lw_at lw_m4 80 rfl) rfl
theorem q905 : (Jvm.Cond.interfaceEntry "ModeDesk" (247 : Nat)) ∈ lw_tbl := lw_at lw_m4 97 rfl
theorem q906 : (Jvm.Cond.methodLink "ModeDesk" (247 : Nat) ({ cls := "java/util/Iterator", name := "hasNext", desc := "()Z" } : Jvm.MethodName)) ∈ lw_all := lw_g (lw_at lw_m4 98 rfl) rfl
theorem q921 : (Jvm.Cond.interfaceEntry "ModeDesk" (253 : Nat)) ∈ lw_tbl := lw_at lw_m4 113 rfl
theorem q922 : (Jvm.Cond.methodLink "ModeDesk" (253 : Nat) ({ cls := "java/util/Iterator", name := "next", desc := "()Ljava/lang/Object;" } : Jvm.MethodName)) ∈ lw_all := lw_g (lw_at lw_m4 114 rfl) rfl
theorem q990 : (Jvm.Cond.privateMethod ({ cls := "ModeDesk", name := "modeOf", desc := "(II)I" } : Jvm.MethodName)) ∈ lw_tbl := lw_at lw_m4 182 rfl
theorem q991 : (Jvm.Cond.instanceMethod ({ cls := "ModeDesk", name := "modeOf", desc := "(II)I" } : Jvm.MethodName)) ∈ lw_all := lw_g (lw_at lw_m4 183 rfl) rfl
theorem q992 : (Jvm.Cond.code ({ cls := "ModeDesk", name := "modeOf", desc := "(II)I" } : Jvm.MethodName) prog_1_method_42_code (3 : Nat) (Option.some Jvm.ClassFile.FieldType.int)) ∈ lw_all := lw_g (lw_at lw_m4 184 rfl) rfl
theorem q993 : (Jvm.Cond.methodLink "ModeDesk" (277 : Nat) ({ cls := "ModeDesk", name := "laysCandidates", desc := "(II)V" } : Jvm.MethodName)) ∈ lw_all := lw_g (lw_at lw_m4 185 rfl) rfl
theorem q994 : (Jvm.Cond.privateMethod ({ cls := "ModeDesk", name := "laysCandidates", desc := "(II)V" } : Jvm.MethodName)) ∈ lw_tbl := lw_at lw_m4 186 rfl
theorem q995 : (Jvm.Cond.instanceMethod ({ cls := "ModeDesk", name := "laysCandidates", desc := "(II)V" } : Jvm.MethodName)) ∈ lw_all := lw_g (lw_at lw_m4 187 rfl) rfl
theorem q996 : (Jvm.Cond.code ({ cls := "ModeDesk", name := "laysCandidates", desc := "(II)V" } : Jvm.MethodName) prog_1_method_40_code (7 : Nat) (Option.none : Option Jvm.ClassFile.FieldType)) ∈ lw_all := lw_g (lw_at lw_m4 188 rfl) rfl
theorem q997 : (Jvm.Cond.methodLink "ModeDesk" (265 : Nat) ({ cls := "ModeDesk", name := "firstBlock", desc := "(I)I" } : Jvm.MethodName)) ∈ lw_all := lw_g (lw_at lw_m4 189 rfl) rfl
theorem q998 : (Jvm.Cond.privateMethod ({ cls := "ModeDesk", name := "firstBlock", desc := "(I)I" } : Jvm.MethodName)) ∈ lw_tbl := lw_at lw_m4 190 rfl
theorem q999 : (Jvm.Cond.instanceMethod ({ cls := "ModeDesk", name := "firstBlock", desc := "(I)I" } : Jvm.MethodName)) ∈ lw_all := lw_g (lw_at lw_m4 191 rfl) rfl
theorem q1000 : (Jvm.Cond.code ({ cls := "ModeDesk", name := "firstBlock", desc := "(I)I" } : Jvm.MethodName) prog_1_method_36_code (2 : Nat) (Option.some Jvm.ClassFile.FieldType.int)) ∈ lw_all := lw_g (lw_at lw_m4 192 rfl) rfl
theorem q1001 : (Jvm.Cond.methodLink "ModeDesk" (268 : Nat) ({ cls := "ModeDesk", name := "lastBlock", desc := "(I)I" } : Jvm.MethodName)) ∈ lw_all := lw_g (lw_at lw_m4 193 rfl) rfl
theorem q1002 : (Jvm.Cond.privateMethod ({ cls := "ModeDesk", name := "lastBlock", desc := "(I)I" } : Jvm.MethodName)) ∈ lw_tbl := lw_at lw_m4 194 rfl
theorem q1003 : (Jvm.Cond.instanceMethod ({ cls := "ModeDesk", name := "lastBlock", desc := "(I)I" } : Jvm.MethodName)) ∈ lw_all := lw_g (lw_at lw_m4 195 rfl) rfl
theorem q1004 : (Jvm.Cond.code ({ cls := "ModeDesk", name := "lastBlock", desc := "(I)I" } : Jvm.MethodName) prog_1_method_37_code (2 : Nat) (Option.some Jvm.ClassFile.FieldType.int)) ∈ lw_all := lw_g (lw_at lw_m4 196 rfl) rfl
theorem q1005 : (Jvm.Cond.methodLink "ModeDesk" (271 : Nat) ({ cls := "ModeDesk", name := "looks", desc := "(I)V" } : Jvm.MethodName)) ∈ lw_all := lw_g (lw_at lw_m4 197 rfl) rfl
theorem q1006 : (Jvm.Cond.privateMethod ({ cls := "ModeDesk", name := "looks", desc := "(I)V" } : Jvm.MethodName)) ∈ lw_tbl := lw_at lw_m4 198 rfl
theorem q1007 : (Jvm.Cond.instanceMethod ({ cls := "ModeDesk", name := "looks", desc := "(I)V" } : Jvm.MethodName)) ∈ lw_all := lw_g (lw_at lw_m4 199 rfl) rfl
theorem q1008 : (Jvm.Cond.code ({ cls := "ModeDesk", name := "looks", desc := "(I)V" } : Jvm.MethodName) prog_1_method_38_code (2 : Nat) (Option.none : Option Jvm.ClassFile.FieldType)) ∈ lw_all := lw_g (lw_at lw_m4 200 rfl) rfl
theorem q1009 : (Jvm.Cond.methodLink "ModeDesk" (274 : Nat) ({ cls := "ModeDesk", name := "looksNoMore", desc := "()V" } : Jvm.MethodName)) ∈ lw_all := lw_g (lw_at lw_m4 201 rfl) rfl
theorem q1010 : (Jvm.Cond.privateMethod ({ cls := "ModeDesk", name := "looksNoMore", desc := "()V" } : Jvm.MethodName)) ∈ lw_tbl := lw_at lw_m4 202 rfl
theorem q1011 : (Jvm.Cond.instanceMethod ({ cls := "ModeDesk", name := "looksNoMore", desc := "()V" } : Jvm.MethodName)) ∈ lw_all := lw_g (lw_at lw_m4 203 rfl) rfl
theorem q1012 : (Jvm.Cond.code ({ cls := "ModeDesk", name := "looksNoMore", desc := "()V" } : Jvm.MethodName) prog_1_method_39_code (2 : Nat) (Option.none : Option Jvm.ClassFile.FieldType)) ∈ lw_all := lw_g (lw_at lw_m4 204 rfl) rfl
theorem q1013 : (Jvm.Cond.methodLink "ModeDesk" (280 : Nat) ({ cls := "ModeDesk", name := "bestOf", desc := "(III)I" } : Jvm.MethodName)) ∈ lw_all := lw_g (lw_at lw_m4 205 rfl) rfl
theorem q1014 : (Jvm.Cond.privateMethod ({ cls := "ModeDesk", name := "bestOf", desc := "(III)I" } : Jvm.MethodName)) ∈ lw_tbl := lw_at lw_m4 206 rfl
theorem q1015 : (Jvm.Cond.instanceMethod ({ cls := "ModeDesk", name := "bestOf", desc := "(III)I" } : Jvm.MethodName)) ∈ lw_all := lw_g (lw_at lw_m4 207 rfl) rfl
theorem q1016 : (Jvm.Cond.code ({ cls := "ModeDesk", name := "bestOf", desc := "(III)I" } : Jvm.MethodName) prog_1_method_41_code (6 : Nat) (Option.some Jvm.ClassFile.FieldType.int)) ∈ lw_all := lw_g (lw_at lw_m4 208 rfl) rfl
theorem q1018 : (Jvm.Cond.classLink "ModeDesk" (257 : Nat) "java/lang/Integer") ∈ lw_all := lw_g (lw_at lw_m4 210 rfl) rfl
theorem q1019 : (Jvm.Cond.methodLink "ModeDesk" (259 : Nat) ({ cls := "java/lang/Integer", name := "intValue", desc := "()I" } : Jvm.MethodName)) ∈ lw_all := lw_g (lw_at lw_m4 211 rfl) rfl
theorem q1024 : (Jvm.Cond.instanceMethod ({ cls := "ModeDesk", name := "sort", desc := "(IIZ)I" } : Jvm.MethodName)) ∈ lw_all := lw_g (lw_at lw_m4 216 rfl) rfl
theorem q1025 : (Jvm.Cond.selects "ModeDesk" ({ cls := "ModeDesk", name := "sort", desc := "(IIZ)I" } : Jvm.MethodName) ({ cls := "ModeDesk", name := "sort", desc := "(IIZ)I" } : Jvm.MethodName)) ∈ lw_all := lw_g (lw_at lw_m4 217 rfl) rfl
theorem q1026 : (Jvm.Cond.code ({ cls := "ModeDesk", name := "sort", desc := "(IIZ)I" } : Jvm.MethodName) prog_1_method_33_code (6 : Nat) (Option.some Jvm.ClassFile.FieldType.int)) ∈ lw_all := lw_g (lw_at lw_m4 218 rfl) rfl
theorem q1028 : (Jvm.Cond.instanceMethod ({ cls := "ModeDesk", name := "undo", desc := "()I" } : Jvm.MethodName)) ∈ lw_all := lw_g (lw_at lw_m4 220 rfl) rfl
theorem q1029 : (Jvm.Cond.selects "ModeDesk" ({ cls := "ModeDesk", name := "undo", desc := "()I" } : Jvm.MethodName) ({ cls := "ModeDesk", name := "undo", desc := "()I" } : Jvm.MethodName)) ∈ lw_all := lw_g (lw_at lw_m4 221 rfl) rfl
theorem q1030 : (Jvm.Cond.code ({ cls := "ModeDesk", name := "undo", desc := "()I" } : Jvm.MethodName) prog_1_method_34_code (1 : Nat) (Option.some Jvm.ClassFile.FieldType.int)) ∈ lw_all := lw_g (lw_at lw_m4 222 rfl) rfl
theorem q1032 : (Jvm.Cond.instanceMethod ({ cls := "ModeDesk", name := "was", desc := "(II)I" } : Jvm.MethodName)) ∈ lw_all := lw_g (lw_at lw_m4 224 rfl) rfl
theorem q1033 : (Jvm.Cond.selects "ModeDesk" ({ cls := "ModeDesk", name := "was", desc := "(II)I" } : Jvm.MethodName) ({ cls := "ModeDesk", name := "was", desc := "(II)I" } : Jvm.MethodName)) ∈ lw_all := lw_g (lw_at lw_m4 225 rfl) rfl
theorem q1034 : (Jvm.Cond.code ({ cls := "ModeDesk", name := "was", desc := "(II)I" } : Jvm.MethodName) prog_1_method_35_code (4 : Nat) (Option.some Jvm.ClassFile.FieldType.int)) ∈ lw_all := lw_g (lw_at lw_m4 226 rfl) rfl
theorem q1036 : (Jvm.Cond.instanceMethod ({ cls := "ModeDesk", name := "mode", desc := "(III)I" } : Jvm.MethodName)) ∈ lw_all := lw_g (lw_at lw_m4 228 rfl) rfl
theorem q1037 : (Jvm.Cond.selects "ModeDesk" ({ cls := "ModeDesk", name := "mode", desc := "(III)I" } : Jvm.MethodName) ({ cls := "ModeDesk", name := "mode", desc := "(III)I" } : Jvm.MethodName)) ∈ lw_all := lw_g (lw_at lw_m4 229 rfl) rfl
theorem q1038 : (Jvm.Cond.code ({ cls := "ModeDesk", name := "mode", desc := "(III)I" } : Jvm.MethodName) prog_1_method_46_code (4 : Nat) (Option.some Jvm.ClassFile.FieldType.int)) ∈ lw_all := lw_g (lw_at lw_m4 230 rfl) rfl
theorem q1039 : (Jvm.Cond.constantLong "ModeDesk" (290 : Nat) (3 : Int64)) ∈ lw_all := lw_g (lw_at lw_m4 231 rfl) rfl
theorem q1040 : (Jvm.Cond.methodLink "ModeDesk" (292 : Nat) ({ cls := "ModeDesk", name := "modeOf", desc := "(II)I" } : Jvm.MethodName)) ∈ lw_all := lw_g (lw_at lw_m4 232 rfl) rfl
theorem q1041 : (Jvm.Cond.methodLink "ModeDesk" (295 : Nat) ({ cls := "ModeDesk", name := "told", desc := "(IIII)I" } : Jvm.MethodName)) ∈ lw_all := lw_g (lw_at lw_m4 233 rfl) rfl
theorem q1042 : (Jvm.Cond.privateMethod ({ cls := "ModeDesk", name := "told", desc := "(IIII)I" } : Jvm.MethodName)) ∈ lw_tbl := lw_at lw_m4 234 rfl
theorem q1043 : (Jvm.Cond.instanceMethod ({ cls := "ModeDesk", name := "told", desc := "(IIII)I" } : Jvm.MethodName)) ∈ lw_all := lw_g (lw_at lw_m4 235 rfl) rfl
theorem q1044 : (Jvm.Cond.code ({ cls := "ModeDesk", name := "told", desc := "(IIII)I" } : Jvm.MethodName) prog_1_method_45_code (5 : Nat) (Option.some Jvm.ClassFile.FieldType.int)) ∈ lw_all := lw_g (lw_at lw_m4 236 rfl) rfl
theorem q1045 : (Jvm.Cond.methodLink "ModeDesk" (284 : Nat) ({ cls := "ModeDesk", name := "firstOf", desc := "(II)I" } : Jvm.MethodName)) ∈ lw_all := lw_g (lw_at lw_m4 237 rfl) rfl
theorem q1046 : (Jvm.Cond.methodLink "ModeDesk" (287 : Nat) ({ cls := "ModeDesk", name := "lastOf", desc := "(II)I" } : Jvm.MethodName)) ∈ lw_all := lw_g (lw_at lw_m4 238 rfl) rfl
theorem q1048 : (Jvm.Cond.instanceMethod ({ cls := "ModeDesk", name := "ranked", desc := "(IIII)I" } : Jvm.MethodName)) ∈ lw_all := lw_g (lw_at lw_m5 0 rfl) rfl
theorem q1049 : (Jvm.Cond.selects "ModeDesk" ({ cls := "ModeDesk", name := "ranked", desc := "(IIII)I" } : Jvm.MethodName) ({ cls := "ModeDesk", name := "ranked", desc := "(IIII)I" } : Jvm.MethodName)) ∈ lw_all := lw_g (lw_at lw_m5 1 rfl) rfl
theorem q1050 : (Jvm.Cond.code ({ cls := "ModeDesk", name := "ranked", desc := "(IIII)I" } : Jvm.MethodName) prog_1_method_47_code (5 : Nat) (Option.some Jvm.ClassFile.FieldType.int)) ∈ lw_all := lw_g (lw_at lw_m5 2 rfl) rfl
theorem q1051 : (Jvm.Cond.methodLink "ModeDesk" (299 : Nat) ({ cls := "ModeDesk", name := "laysAll", desc := "(II)V" } : Jvm.MethodName)) ∈ lw_all := lw_g (lw_at lw_m5 3 rfl) rfl
theorem q1052 : (Jvm.Cond.privateMethod ({ cls := "ModeDesk", name := "laysAll", desc := "(II)V" } : Jvm.MethodName)) ∈ lw_tbl := lw_at lw_m5 4 rfl
theorem q1053 : (Jvm.Cond.instanceMethod ({ cls := "ModeDesk", name := "laysAll", desc := "(II)V" } : Jvm.MethodName)) ∈ lw_all := lw_g (lw_at lw_m5 5 rfl) rfl
theorem q1054 : (Jvm.Cond.code ({ cls := "ModeDesk", name := "laysAll", desc := "(II)V" } : Jvm.MethodName) prog_1_method_43_code (4 : Nat) (Option.none : Option Jvm.ClassFile.FieldType)) ∈ lw_all := lw_g (lw_at lw_m5 6 rfl) rfl
theorem q1055 : (Jvm.Cond.methodLink "ModeDesk" (302 : Nat) ({ cls := "ModeDesk", name := "ranks", desc := "(II)V" } : Jvm.MethodName)) ∈ lw_all := lw_g (lw_at lw_m5 7 rfl) rfl
theorem q1056 : (Jvm.Cond.privateMethod ({ cls := "ModeDesk", name := "ranks", desc := "(II)V" } : Jvm.MethodName)) ∈ lw_tbl := lw_at lw_m5 8 rfl
theorem q1057 : (Jvm.Cond.instanceMethod ({ cls := "ModeDesk", name := "ranks", desc := "(II)V" } : Jvm.MethodName)) ∈ lw_all := lw_g (lw_at lw_m5 9 rfl) rfl
theorem q1058 : (Jvm.Cond.code ({ cls := "ModeDesk", name := "ranks", desc := "(II)V" } : Jvm.MethodName) prog_1_method_44_code (6 : Nat) (Option.none : Option Jvm.ClassFile.FieldType)) ∈ lw_all := lw_g (lw_at lw_m5 10 rfl) rfl
theorem q1060 : (Jvm.Cond.instanceMethod ({ cls := "ModeDesk", name := "rank", desc := "(III)I" } : Jvm.MethodName)) ∈ lw_all := lw_g (lw_at lw_m5 12 rfl) rfl
theorem q1061 : (Jvm.Cond.selects "ModeDesk" ({ cls := "ModeDesk", name := "rank", desc := "(III)I" } : Jvm.MethodName) ({ cls := "ModeDesk", name := "rank", desc := "(III)I" } : Jvm.MethodName)) ∈ lw_all := lw_g (lw_at lw_m5 13 rfl) rfl
theorem q1062 : (Jvm.Cond.code ({ cls := "ModeDesk", name := "rank", desc := "(III)I" } : Jvm.MethodName) prog_1_method_48_code (6 : Nat) (Option.some Jvm.ClassFile.FieldType.int)) ∈ lw_all := lw_g (lw_at lw_m5 14 rfl) rfl
theorem q1064 : (Jvm.Cond.instanceMethod ({ cls := "ModeDesk", name := "often", desc := "(III)I" } : Jvm.MethodName)) ∈ lw_all := lw_g (lw_at lw_m5 16 rfl) rfl
theorem q1065 : (Jvm.Cond.selects "ModeDesk" ({ cls := "ModeDesk", name := "often", desc := "(III)I" } : Jvm.MethodName) ({ cls := "ModeDesk", name := "often", desc := "(III)I" } : Jvm.MethodName)) ∈ lw_all := lw_g (lw_at lw_m5 17 rfl) rfl
theorem q1066 : (Jvm.Cond.code ({ cls := "ModeDesk", name := "often", desc := "(III)I" } : Jvm.MethodName) prog_1_method_49_code (4 : Nat) (Option.some Jvm.ClassFile.FieldType.int)) ∈ lw_all := lw_g (lw_at lw_m5 18 rfl) rfl
theorem q1068 : (Jvm.Cond.instanceMethod ({ cls := "ModeDesk", name := "at", desc := "(II)I" } : Jvm.MethodName)) ∈ lw_all := lw_g (lw_at lw_m5 20 rfl) rfl
theorem q1069 : (Jvm.Cond.selects "ModeDesk" ({ cls := "ModeDesk", name := "at", desc := "(II)I" } : Jvm.MethodName) ({ cls := "ModeDesk", name := "at", desc := "(II)I" } : Jvm.MethodName)) ∈ lw_all := lw_g (lw_at lw_m5 21 rfl) rfl
theorem q1070 : (Jvm.Cond.code ({ cls := "ModeDesk", name := "at", desc := "(II)I" } : Jvm.MethodName) prog_1_method_50_code (6 : Nat) (Option.some Jvm.ClassFile.FieldType.int)) ∈ lw_all := lw_g (lw_at lw_m5 22 rfl) rfl
theorem q1072 : (Jvm.Cond.instanceMethod ({ cls := "ModeDesk", name := "unlike", desc := "(II)I" } : Jvm.MethodName)) ∈ lw_all := lw_g (lw_at lw_m5 24 rfl) rfl
theorem q1073 : (Jvm.Cond.selects "ModeDesk" ({ cls := "ModeDesk", name := "unlike", desc := "(II)I" } : Jvm.MethodName) ({ cls := "ModeDesk", name := "unlike", desc := "(II)I" } : Jvm.MethodName)) ∈ lw_all := lw_g (lw_at lw_m5 25 rfl) rfl
theorem q1074 : (Jvm.Cond.code ({ cls := "ModeDesk", name := "unlike", desc := "(II)I" } : Jvm.MethodName) prog_1_method_51_code (3 : Nat) (Option.some Jvm.ClassFile.FieldType.int)) ∈ lw_all := lw_g (lw_at lw_m5 26 rfl) rfl
theorem q1076 : (Jvm.Cond.instanceMethod ({ cls := "ModeDesk", name := "times", desc := "(III)I" } : Jvm.MethodName)) ∈ lw_all := lw_g (lw_at lw_m5 28 rfl) rfl
theorem q1077 : (Jvm.Cond.selects "ModeDesk" ({ cls := "ModeDesk", name := "times", desc := "(III)I" } : Jvm.MethodName) ({ cls := "ModeDesk", name := "times", desc := "(III)I" } : Jvm.MethodName)) ∈ lw_all := lw_g (lw_at lw_m5 29 rfl) rfl
theorem q1078 : (Jvm.Cond.code ({ cls := "ModeDesk", name := "times", desc := "(III)I" } : Jvm.MethodName) prog_1_method_52_code (6 : Nat) (Option.some Jvm.ClassFile.FieldType.int)) ∈ lw_all := lw_g (lw_at lw_m5 30 rfl) rfl
theorem q1080 : (Jvm.Cond.instanceMethod ({ cls := "ModeDesk", name := "majority", desc := "(II)I" } : Jvm.MethodName)) ∈ lw_all := lw_g (lw_at lw_m5 32 rfl) rfl
theorem q1081 : (Jvm.Cond.selects "ModeDesk" ({ cls := "ModeDesk", name := "majority", desc := "(II)I" } : Jvm.MethodName) ({ cls := "ModeDesk", name := "majority", desc := "(II)I" } : Jvm.MethodName)) ∈ lw_all := lw_g (lw_at lw_m5 33 rfl) rfl
theorem q1082 : (Jvm.Cond.code ({ cls := "ModeDesk", name := "majority", desc := "(II)I" } : Jvm.MethodName) prog_1_method_54_code (3 : Nat) (Option.some Jvm.ClassFile.FieldType.int)) ∈ lw_all := lw_g (lw_at lw_m5 34 rfl) rfl
theorem q1083 : (Jvm.Cond.methodLink "ModeDesk" (305 : Nat) ({ cls := "ModeDesk", name := "majorityOf", desc := "(II)I" } : Jvm.MethodName)) ∈ lw_all := lw_g (lw_at lw_m5 35 rfl) rfl
theorem q1084 : (Jvm.Cond.privateMethod ({ cls := "ModeDesk", name := "majorityOf", desc := "(II)I" } : Jvm.MethodName)) ∈ lw_tbl := lw_at lw_m5 36 rfl
theorem q1085 : (Jvm.Cond.instanceMethod ({ cls := "ModeDesk", name := "majorityOf", desc := "(II)I" } : Jvm.MethodName)) ∈ lw_all := lw_g (lw_at lw_m5 37 rfl) rfl
theorem q1086 : (Jvm.Cond.code ({ cls := "ModeDesk", name := "majorityOf", desc := "(II)I" } : Jvm.MethodName) prog_1_method_53_code (4 : Nat) (Option.some Jvm.ClassFile.FieldType.int)) ∈ lw_all := lw_g (lw_at lw_m5 38 rfl) rfl
theorem q1088 : (Jvm.Cond.instanceMethod ({ cls := "ModeDesk", name := "heaviest", desc := "(III)I" } : Jvm.MethodName)) ∈ lw_all := lw_g (lw_at lw_m5 40 rfl) rfl
theorem q1089 : (Jvm.Cond.selects "ModeDesk" ({ cls := "ModeDesk", name := "heaviest", desc := "(III)I" } : Jvm.MethodName) ({ cls := "ModeDesk", name := "heaviest", desc := "(III)I" } : Jvm.MethodName)) ∈ lw_all := lw_g (lw_at lw_m5 41 rfl) rfl
theorem q1090 : (Jvm.Cond.code ({ cls := "ModeDesk", name := "heaviest", desc := "(III)I" } : Jvm.MethodName) prog_1_method_55_code (7 : Nat) (Option.some Jvm.ClassFile.FieldType.int)) ∈ lw_all := lw_g (lw_at lw_m5 42 rfl) rfl
theorem q1091 : (Jvm.Cond.classLink "ModeDesk" (308 : Nat) "ModeDesk$1Scale") ∈ lw_all := lw_g (lw_at lw_m5 43 rfl) rfl
theorem q1093 : (Jvm.Cond.methodLink "ModeDesk" (310 : Nat) ({ cls := "ModeDesk$1Scale", name := "<init>", desc := "(LModeDesk;II)V" } : Jvm.MethodName)) ∈ lw_all := lw_g (lw_at lw_m5 45 rfl) rfl
theorem q1107 : (Jvm.Cond.methodLink "ModeDesk" (313 : Nat) ({ cls := "ModeDesk$1Scale", name := "of", desc := "(I)I" } : Jvm.MethodName)) ∈ lw_all := lw_g (lw_at lw_m5 59 rfl) rfl
theorem q1121 : (Jvm.Cond.instanceMethod ({ cls := "ModeDesk", name := "pair", desc := "(III)I" } : Jvm.MethodName)) ∈ lw_all := lw_g (lw_at lw_m5 73 rfl) rfl
theorem q1122 : (Jvm.Cond.selects "ModeDesk" ({ cls := "ModeDesk", name := "pair", desc := "(III)I" } : Jvm.MethodName) ({ cls := "ModeDesk", name := "pair", desc := "(III)I" } : Jvm.MethodName)) ∈ lw_all := lw_g (lw_at lw_m5 74 rfl) rfl
theorem q1123 : (Jvm.Cond.code ({ cls := "ModeDesk", name := "pair", desc := "(III)I" } : Jvm.MethodName) prog_1_method_56_code (5 : Nat) (Option.some Jvm.ClassFile.FieldType.int)) ∈ lw_all := lw_g (lw_at lw_m5 75 rfl) rfl
theorem q1125 : (Jvm.Cond.instanceMethod ({ cls := "ModeDesk", name := "candidate", desc := "(III)I" } : Jvm.MethodName)) ∈ lw_all := lw_g (lw_at lw_m5 77 rfl) rfl
theorem q1126 : (Jvm.Cond.selects "ModeDesk" ({ cls := "ModeDesk", name := "candidate", desc := "(III)I" } : Jvm.MethodName) ({ cls := "ModeDesk", name := "candidate", desc := "(III)I" } : Jvm.MethodName)) ∈ lw_all := lw_g (lw_at lw_m5 78 rfl) rfl
theorem q1127 : (Jvm.Cond.code ({ cls := "ModeDesk", name := "candidate", desc := "(III)I" } : Jvm.MethodName) prog_1_method_57_code (4 : Nat) (Option.some Jvm.ClassFile.FieldType.int)) ∈ lw_all := lw_g (lw_at lw_m5 79 rfl) rfl
theorem q1129 : (Jvm.Cond.instanceMethod ({ cls := "ModeDesk", name := "median", desc := "(II)I" } : Jvm.MethodName)) ∈ lw_all := lw_g (lw_at lw_m5 81 rfl) rfl
theorem q1130 : (Jvm.Cond.selects "ModeDesk" ({ cls := "ModeDesk", name := "median", desc := "(II)I" } : Jvm.MethodName) ({ cls := "ModeDesk", name := "median", desc := "(II)I" } : Jvm.MethodName)) ∈ lw_all := lw_g (lw_at lw_m5 82 rfl) rfl
theorem q1131 : (Jvm.Cond.code ({ cls := "ModeDesk", name := "median", desc := "(II)I" } : Jvm.MethodName) prog_1_method_59_code (3 : Nat) (Option.some Jvm.ClassFile.FieldType.int)) ∈ lw_all := lw_g (lw_at lw_m5 83 rfl) rfl
theorem q1132 : (Jvm.Cond.methodLink "ModeDesk" (315 : Nat) ({ cls := "ModeDesk", name := "sorts", desc := "(II)V" } : Jvm.MethodName)) ∈ lw_all := lw_g (lw_at lw_m5 84 rfl) rfl
theorem q1133 : (Jvm.Cond.privateMethod ({ cls := "ModeDesk", name := "sorts", desc := "(II)V" } : Jvm.MethodName)) ∈ lw_tbl := lw_at lw_m5 85 rfl
theorem q1134 : (Jvm.Cond.instanceMethod ({ cls := "ModeDesk", name := "sorts", desc := "(II)V" } : Jvm.MethodName)) ∈ lw_all := lw_g (lw_at lw_m5 86 rfl) rfl
theorem q1135 : (Jvm.Cond.code ({ cls := "ModeDesk", name := "sorts", desc := "(II)V" } : Jvm.MethodName) prog_1_method_58_code (5 : Nat) (Option.none : Option Jvm.ClassFile.FieldType)) ∈ lw_all := lw_g (lw_at lw_m5 87 rfl) rfl
theorem q1137 : (Jvm.Cond.instanceMethod ({ cls := "ModeDesk", name := "twisted", desc := "(II)I" } : Jvm.MethodName)) ∈ lw_all := lw_g (lw_at lw_m5 89 rfl) rfl
theorem q1138 : (Jvm.Cond.selects "ModeDesk" ({ cls := "ModeDesk", name := "twisted", desc := "(II)I" } : Jvm.MethodName) ({ cls := "ModeDesk", name := "twisted", desc := "(II)I" } : Jvm.MethodName)) ∈ lw_all := lw_g (lw_at lw_m5 90 rfl) rfl
theorem q1139 : (Jvm.Cond.code ({ cls := "ModeDesk", name := "twisted", desc := "(II)I" } : Jvm.MethodName) prog_1_method_60_code (6 : Nat) (Option.some Jvm.ClassFile.FieldType.int)) ∈ lw_all := lw_g (lw_at lw_m5 91 rfl) rfl
theorem q1141 : (Jvm.Cond.instanceMethod ({ cls := "ModeDesk", name := "run", desc := "(III)I" } : Jvm.MethodName)) ∈ lw_all := lw_g (lw_at lw_m5 93 rfl) rfl
theorem q1142 : (Jvm.Cond.selects "ModeDesk" ({ cls := "ModeDesk", name := "run", desc := "(III)I" } : Jvm.MethodName) ({ cls := "ModeDesk", name := "run", desc := "(III)I" } : Jvm.MethodName)) ∈ lw_all := lw_g (lw_at lw_m5 94 rfl) rfl
theorem q1143 : (Jvm.Cond.code ({ cls := "ModeDesk", name := "run", desc := "(III)I" } : Jvm.MethodName) prog_1_method_61_code (8 : Nat) (Option.some Jvm.ClassFile.FieldType.int)) ∈ lw_all := lw_g (lw_at lw_m5 95 rfl) rfl
theorem q1144 : (Jvm.Cond.constantLong "ModeDesk" (318 : Nat) (2 : Int64)) ∈ lw_all := lw_g (lw_at lw_m5 96 rfl) rfl
theorem q1146 : (Jvm.Cond.instanceMethod ({ cls := "ModeDesk", name := "common", desc := "(III)I" } : Jvm.MethodName)) ∈ lw_all := lw_g (lw_at lw_m5 98 rfl) rfl
theorem q1147 : (Jvm.Cond.selects "ModeDesk" ({ cls := "ModeDesk", name := "common", desc := "(III)I" } : Jvm.MethodName) ({ cls := "ModeDesk", name := "common", desc := "(III)I" } : Jvm.MethodName)) ∈ lw_all := lw_g (lw_at lw_m5 99 rfl) rfl
theorem q1148 : (Jvm.Cond.code ({ cls := "ModeDesk", name := "common", desc := "(III)I" } : Jvm.MethodName) prog_1_method_62_code (6 : Nat) (Option.some Jvm.ClassFile.FieldType.int)) ∈ lw_all := lw_g (lw_at lw_m5 100 rfl) rfl
theorem q1150 : (Jvm.Cond.instanceMethod ({ cls := "ModeDesk", name := "window", desc := "(II)I" } : Jvm.MethodName)) ∈ lw_all := lw_g (lw_at lw_m5 102 rfl) rfl
theorem q1151 : (Jvm.Cond.selects "ModeDesk" ({ cls := "ModeDesk", name := "window", desc := "(II)I" } : Jvm.MethodName) ({ cls := "ModeDesk", name := "window", desc := "(II)I" } : Jvm.MethodName)) ∈ lw_all := lw_g (lw_at lw_m5 103 rfl) rfl
theorem q1152 : (Jvm.Cond.code ({ cls := "ModeDesk", name := "window", desc := "(II)I" } : Jvm.MethodName) prog_1_method_63_code (3 : Nat) (Option.some Jvm.ClassFile.FieldType.int)) ∈ lw_all := lw_g (lw_at lw_m5 104 rfl) rfl
theorem q1154 : (Jvm.Cond.instanceMethod ({ cls := "ModeDesk", name := "windows", desc := "(II)I" } : Jvm.MethodName)) ∈ lw_all := lw_g (lw_at lw_m5 106 rfl) rfl
theorem q1155 : (Jvm.Cond.selects "ModeDesk" ({ cls := "ModeDesk", name := "windows", desc := "(II)I" } : Jvm.MethodName) ({ cls := "ModeDesk", name := "windows", desc := "(II)I" } : Jvm.MethodName)) ∈ lw_all := lw_g (lw_at lw_m5 107 rfl) rfl
theorem q1156 : (Jvm.Cond.code ({ cls := "ModeDesk", name := "windows", desc := "(II)I" } : Jvm.MethodName) prog_1_method_64_code (8 : Nat) (Option.some Jvm.ClassFile.FieldType.int)) ∈ lw_all := lw_g (lw_at lw_m5 108 rfl) rfl
theorem q1157 : (Jvm.Cond.classLink "ModeDesk" (320 : Nat) "ModeDesk$Windows") ∈ lw_all := lw_g (lw_at lw_m5 109 rfl) rfl
theorem q1159 : (Jvm.Cond.methodLink "ModeDesk" (322 : Nat) ({ cls := "ModeDesk$Windows", name := "<init>", desc := "(LModeDesk;I)V" } : Jvm.MethodName)) ∈ lw_all := lw_g (lw_at lw_m5 111 rfl) rfl
theorem q1174 : (Jvm.Cond.instanceMethod ({ cls := "ModeDesk", name := "spans", desc := "(I)I" } : Jvm.MethodName)) ∈ lw_all := lw_g (lw_at lw_m5 126 rfl) rfl
theorem q1175 : (Jvm.Cond.selects "ModeDesk" ({ cls := "ModeDesk", name := "spans", desc := "(I)I" } : Jvm.MethodName) ({ cls := "ModeDesk", name := "spans", desc := "(I)I" } : Jvm.MethodName)) ∈ lw_all := lw_g (lw_at lw_m5 127 rfl) rfl
theorem q1176 : (Jvm.Cond.code ({ cls := "ModeDesk", name := "spans", desc := "(I)I" } : Jvm.MethodName) prog_1_method_65_code (3 : Nat) (Option.some Jvm.ClassFile.FieldType.int)) ∈ lw_all := lw_g (lw_at lw_m5 128 rfl) rfl
theorem q1177 : (Jvm.Cond.classLink "ModeDesk" (326 : Nat) "ModeDesk$5") ∈ lw_all := lw_g (lw_at lw_m5 129 rfl) rfl
theorem q1179 : (Jvm.Cond.methodLink "ModeDesk" (328 : Nat) ({ cls := "ModeDesk$5", name := "<init>", desc := "(LModeDesk;I)V" } : Jvm.MethodName)) ∈ lw_all := lw_g (lw_at lw_m5 131 rfl) rfl
theorem q1196 : (Jvm.Cond.methodLink "ModeDesk" (329 : Nat) ({ cls := "ModeDesk$5", name := "goes", desc := "()LModeDesk$Walk;" } : Jvm.MethodName)) ∈ lw_all := lw_g (lw_at lw_m5 148 rfl) rfl
theorem q1218 : (Jvm.Cond.instanceMethod ({ cls := "ModeDesk", name := "longest", desc := "(II)I" } : Jvm.MethodName)) ∈ lw_all := lw_g (lw_at lw_m5 170 rfl) rfl
theorem q1219 : (Jvm.Cond.selects "ModeDesk" ({ cls := "ModeDesk", name := "longest", desc := "(II)I" } : Jvm.MethodName) ({ cls := "ModeDesk", name := "longest", desc := "(II)I" } : Jvm.MethodName)) ∈ lw_all := lw_g (lw_at lw_m5 171 rfl) rfl
theorem q1220 : (Jvm.Cond.code ({ cls := "ModeDesk", name := "longest", desc := "(II)I" } : Jvm.MethodName) prog_1_method_66_code (4 : Nat) (Option.some Jvm.ClassFile.FieldType.int)) ∈ lw_all := lw_g (lw_at lw_m5 172 rfl) rfl
theorem q1221 : (Jvm.Cond.classLink "ModeDesk" (333 : Nat) "ModeDesk$6") ∈ lw_all := lw_g (lw_at lw_m5 173 rfl) rfl
theorem q1223 : (Jvm.Cond.methodLink "ModeDesk" (335 : Nat) ({ cls := "ModeDesk$6", name := "<init>", desc := "(LModeDesk;I)V" } : Jvm.MethodName)) ∈ lw_all := lw_g (lw_at lw_m5 175 rfl) rfl
theorem q1235 : (Jvm.Cond.methodLink "ModeDesk" (336 : Nat) ({ cls := "ModeDesk$6", name := "goes", desc := "()LModeDesk$Walk;" } : Jvm.MethodName)) ∈ lw_all := lw_g (lw_at lw_m5 187 rfl) rfl
theorem q1239 : (Jvm.Cond.instanceMethod ({ cls := "ModeDesk", name := "tightest", desc := "(II)I" } : Jvm.MethodName)) ∈ lw_all := lw_g (lw_at lw_m5 191 rfl) rfl
theorem q1240 : (Jvm.Cond.selects "ModeDesk" ({ cls := "ModeDesk", name := "tightest", desc := "(II)I" } : Jvm.MethodName) ({ cls := "ModeDesk", name := "tightest", desc := "(II)I" } : Jvm.MethodName)) ∈ lw_all := lw_g (lw_at lw_m5 192 rfl) rfl
theorem q1241 : (Jvm.Cond.code ({ cls := "ModeDesk", name := "tightest", desc := "(II)I" } : Jvm.MethodName) prog_1_method_67_code (8 : Nat) (Option.some Jvm.ClassFile.FieldType.int)) ∈ lw_all := lw_g (lw_at lw_m5 193 rfl) rfl
theorem q1243 : (Jvm.Cond.instanceMethod ({ cls := "ModeDesk", name := "needed", desc := "(III)I" } : Jvm.MethodName)) ∈ lw_all := lw_g (lw_at lw_m5 195 rfl) rfl
theorem q1244 : (Jvm.Cond.selects "ModeDesk" ({ cls := "ModeDesk", name := "needed", desc := "(III)I" } : Jvm.MethodName) ({ cls := "ModeDesk", name := "needed", desc := "(III)I" } : Jvm.MethodName)) ∈ lw_all := lw_g (lw_at lw_m5 196 rfl) rfl
theorem q1245 : (Jvm.Cond.code ({ cls := "ModeDesk", name := "needed", desc := "(III)I" } : Jvm.MethodName) prog_1_method_68_code (8 : Nat) (Option.some Jvm.ClassFile.FieldType.int)) ∈ lw_all := lw_g (lw_at lw_m5 197 rfl) rfl
theorem q1247 : (Jvm.Cond.instanceMethod ({ cls := "ModeDesk", name := "ifSet", desc := "(IIII)I" } : Jvm.MethodName)) ∈ lw_all := lw_g (lw_at lw_m5 199 rfl) rfl
theorem q1248 : (Jvm.Cond.selects "ModeDesk" ({ cls := "ModeDesk", name := "ifSet", desc := "(IIII)I" } : Jvm.MethodName) ({ cls := "ModeDesk", name := "ifSet", desc := "(IIII)I" } : Jvm.MethodName)) ∈ lw_all := lw_g (lw_at lw_m5 200 rfl) rfl
theorem q1249 : (Jvm.Cond.code ({ cls := "ModeDesk", name := "ifSet", desc := "(IIII)I" } : Jvm.MethodName) prog_1_method_71_code (5 : Nat) (Option.some Jvm.ClassFile.FieldType.int)) ∈ lw_all := lw_g (lw_at lw_m5 201 rfl) rfl
theorem q1250 : (Jvm.Cond.methodLink "ModeDesk" (346 : Nat) ({ cls := "ModeDesk", name := "plainMode", desc := "(LModeDesk$Row;III)I" } : Jvm.MethodName)) ∈ lw_all := lw_g (lw_at lw_m5 202 rfl) rfl
theorem q1251 : (Jvm.Cond.privateMethod ({ cls := "ModeDesk", name := "plainMode", desc := "(LModeDesk$Row;III)I" } : Jvm.MethodName)) ∈ lw_tbl := lw_at lw_m5 203 rfl
theorem q1252 : (Jvm.Cond.instanceMethod ({ cls := "ModeDesk", name := "plainMode", desc := "(LModeDesk$Row;III)I" } : Jvm.MethodName)) ∈ lw_all := lw_g (lw_at lw_m5 204 rfl) rfl
theorem q1253 : (Jvm.Cond.code ({ cls := "ModeDesk", name := "plainMode", desc := "(LModeDesk$Row;III)I" } : Jvm.MethodName) prog_1_method_69_code (11 : Nat) (Option.some Jvm.ClassFile.FieldType.int)) ∈ lw_all := lw_g (lw_at lw_m5 205 rfl) rfl
theorem q1254 : (Jvm.Cond.methodLink "ModeDesk" (343 : Nat) ({ cls := "ModeDesk", name := "isTieAhead", desc := "(IIII)Z" } : Jvm.MethodName)) ∈ lw_all := lw_g (lw_at lw_m5 206 rfl) rfl
theorem q1255 : (Jvm.Cond.privateMethod ({ cls := "ModeDesk", name := "isTieAhead", desc := "(IIII)Z" } : Jvm.MethodName)) ∈ lw_tbl := lw_at lw_m5 207 rfl
theorem q1256 : (Jvm.Cond.instanceMethod ({ cls := "ModeDesk", name := "isTieAhead", desc := "(IIII)Z" } : Jvm.MethodName)) ∈ lw_all := lw_g (lw_at lw_m5 208 rfl) rfl
theorem q1257 : (Jvm.Cond.code ({ cls := "ModeDesk", name := "isTieAhead", desc := "(IIII)Z" } : Jvm.MethodName) prog_1_method_70_code (5 : Nat) (Option.some Jvm.ClassFile.FieldType.boolean)) ∈ lw_all := lw_g (lw_at lw_m5 209 rfl) rfl
theorem q1259 : (Jvm.Cond.instanceMethod ({ cls := "ModeDesk", name := "ifOut", desc := "(III)I" } : Jvm.MethodName)) ∈ lw_all := lw_g (lw_at lw_m5 211 rfl) rfl
theorem q1260 : (Jvm.Cond.selects "ModeDesk" ({ cls := "ModeDesk", name := "ifOut", desc := "(III)I" } : Jvm.MethodName) ({ cls := "ModeDesk", name := "ifOut", desc := "(III)I" } : Jvm.MethodName)) ∈ lw_all := lw_g (lw_at lw_m5 212 rfl) rfl
theorem q1261 : (Jvm.Cond.code ({ cls := "ModeDesk", name := "ifOut", desc := "(III)I" } : Jvm.MethodName) prog_1_method_72_code (4 : Nat) (Option.some Jvm.ClassFile.FieldType.int)) ∈ lw_all := lw_g (lw_at lw_m5 213 rfl) rfl
theorem q1263 : (Jvm.Cond.instanceMethod ({ cls := "ModeDesk", name := "ifTies", desc := "(III)I" } : Jvm.MethodName)) ∈ lw_all := lw_g (lw_at lw_m5 215 rfl) rfl
theorem q1264 : (Jvm.Cond.selects "ModeDesk" ({ cls := "ModeDesk", name := "ifTies", desc := "(III)I" } : Jvm.MethodName) ({ cls := "ModeDesk", name := "ifTies", desc := "(III)I" } : Jvm.MethodName)) ∈ lw_all := lw_g (lw_at lw_m5 216 rfl) rfl
theorem q1265 : (Jvm.Cond.code ({ cls := "ModeDesk", name := "ifTies", desc := "(III)I" } : Jvm.MethodName) prog_1_method_73_code (4 : Nat) (Option.some Jvm.ClassFile.FieldType.int)) ∈ lw_all := lw_g (lw_at lw_m5 217 rfl) rfl
theorem q1267 : (Jvm.Cond.instanceMethod ({ cls := "ModeDesk", name := "lead", desc := "(II)I" } : Jvm.MethodName)) ∈ lw_all := lw_g (lw_at lw_m5 219 rfl) rfl
theorem q1268 : (Jvm.Cond.selects "ModeDesk" ({ cls := "ModeDesk", name := "lead", desc := "(II)I" } : Jvm.MethodName) ({ cls := "ModeDesk", name := "lead", desc := "(II)I" } : Jvm.MethodName)) ∈ lw_all := lw_g (lw_at lw_m5 220 rfl) rfl
theorem q1269 : (Jvm.Cond.code ({ cls := "ModeDesk", name := "lead", desc := "(II)I" } : Jvm.MethodName) prog_1_method_74_code (3 : Nat) (Option.some Jvm.ClassFile.FieldType.int)) ∈ lw_all := lw_g (lw_at lw_m5 221 rfl) rfl
theorem q1271 : (Jvm.Cond.instanceMethod ({ cls := "ModeDesk", name := "rarest", desc := "(III)I" } : Jvm.MethodName)) ∈ lw_all := lw_g (lw_at lw_m5 223 rfl) rfl
theorem q1272 : (Jvm.Cond.selects "ModeDesk" ({ cls := "ModeDesk", name := "rarest", desc := "(III)I" } : Jvm.MethodName) ({ cls := "ModeDesk", name := "rarest", desc := "(III)I" } : Jvm.MethodName)) ∈ lw_all := lw_g (lw_at lw_m5 224 rfl) rfl
theorem q1273 : (Jvm.Cond.code ({ cls := "ModeDesk", name := "rarest", desc := "(III)I" } : Jvm.MethodName) prog_1_method_75_code (4 : Nat) (Option.some Jvm.ClassFile.FieldType.int)) ∈ lw_all := lw_g (lw_at lw_m5 225 rfl) rfl
theorem q1275 : (Jvm.Cond.instanceMethod ({ cls := "ModeDesk", name := "follow", desc := "(IIZ)I" } : Jvm.MethodName)) ∈ lw_all := lw_g (lw_at lw_m5 227 rfl) rfl
theorem q1276 : (Jvm.Cond.selects "ModeDesk" ({ cls := "ModeDesk", name := "follow", desc := "(IIZ)I" } : Jvm.MethodName) ({ cls := "ModeDesk", name := "follow", desc := "(IIZ)I" } : Jvm.MethodName)) ∈ lw_all := lw_g (lw_at lw_m5 228 rfl) rfl
theorem q1277 : (Jvm.Cond.code ({ cls := "ModeDesk", name := "follow", desc := "(IIZ)I" } : Jvm.MethodName) prog_1_method_76_code (5 : Nat) (Option.some Jvm.ClassFile.FieldType.int)) ∈ lw_all := lw_g (lw_at lw_m5 229 rfl) rfl
theorem q1279 : (Jvm.Cond.instanceMethod ({ cls := "ModeDesk", name := "split", desc := "(III)I" } : Jvm.MethodName)) ∈ lw_all := lw_g (lw_at lw_m5 231 rfl) rfl
theorem q1280 : (Jvm.Cond.selects "ModeDesk" ({ cls := "ModeDesk", name := "split", desc := "(III)I" } : Jvm.MethodName) ({ cls := "ModeDesk", name := "split", desc := "(III)I" } : Jvm.MethodName)) ∈ lw_all := lw_g (lw_at lw_m5 232 rfl) rfl
theorem q1281 : (Jvm.Cond.code ({ cls := "ModeDesk", name := "split", desc := "(III)I" } : Jvm.MethodName) prog_1_method_78_code (8 : Nat) (Option.some Jvm.ClassFile.FieldType.int)) ∈ lw_all := lw_g (lw_at lw_m5 233 rfl) rfl
theorem q1282 : (Jvm.Cond.methodLink "ModeDesk" (350 : Nat) ({ cls := "ModeDesk", name := "mostIn", desc := "(II)I" } : Jvm.MethodName)) ∈ lw_all := lw_g (lw_at lw_m5 234 rfl) rfl
theorem q1283 : (Jvm.Cond.privateMethod ({ cls := "ModeDesk", name := "mostIn", desc := "(II)I" } : Jvm.MethodName)) ∈ lw_tbl := lw_at lw_m5 235 rfl
theorem q1284 : (Jvm.Cond.instanceMethod ({ cls := "ModeDesk", name := "mostIn", desc := "(II)I" } : Jvm.MethodName)) ∈ lw_all := lw_g (lw_at lw_m5 236 rfl) rfl
theorem q1285 : (Jvm.Cond.code ({ cls := "ModeDesk", name := "mostIn", desc := "(II)I" } : Jvm.MethodName) prog_1_method_77_code (3 : Nat) (Option.some Jvm.ClassFile.FieldType.int)) ∈ lw_all := lw_g (lw_at lw_m5 237 rfl) rfl
theorem q1287 : (Jvm.Cond.instanceMethod ({ cls := "ModeDesk", name := "together", desc := "(IIIII)I" } : Jvm.MethodName)) ∈ lw_all := lw_g (lw_at lw_m5 239 rfl) rfl
theorem q1288 : (Jvm.Cond.selects "ModeDesk" ({ cls := "ModeDesk", name := "together", desc := "(IIIII)I" } : Jvm.MethodName) ({ cls := "ModeDesk", name := "together", desc := "(IIIII)I" } : Jvm.MethodName)) ∈ lw_all := lw_g (lw_at lw_m6 0 rfl) rfl
theorem q1289 : (Jvm.Cond.code ({ cls := "ModeDesk", name := "together", desc := "(IIIII)I" } : Jvm.MethodName) prog_1_method_79_code (9 : Nat) (Option.some Jvm.ClassFile.FieldType.int)) ∈ lw_all := lw_g (lw_at lw_m6 1 rfl) rfl
theorem q1290 : (Jvm.Cond.methodLink "ModeDesk" (353 : Nat) ({ cls := "ModeDesk$Row", name := "adds", desc := "(I)V" } : Jvm.MethodName)) ∈ lw_all := lw_g (lw_at lw_m6 2 rfl) rfl
theorem q1292 : (Jvm.Cond.instanceMethod ({ cls := "ModeDesk", name := "agree", desc := "(III)I" } : Jvm.MethodName)) ∈ lw_all := lw_g (lw_at lw_m6 4 rfl) rfl
theorem q1293 : (Jvm.Cond.selects "ModeDesk" ({ cls := "ModeDesk", name := "agree", desc := "(III)I" } : Jvm.MethodName) ({ cls := "ModeDesk", name := "agree", desc := "(III)I" } : Jvm.MethodName)) ∈ lw_all := lw_g (lw_at lw_m6 5 rfl) rfl
theorem q1294 : (Jvm.Cond.code ({ cls := "ModeDesk", name := "agree", desc := "(III)I" } : Jvm.MethodName) prog_1_method_80_code (4 : Nat) (Option.some Jvm.ClassFile.FieldType.int)) ∈ lw_all := lw_g (lw_at lw_m6 6 rfl) rfl
theorem q1296 : (Jvm.Cond.instanceMethod ({ cls := "ModeDesk", name := "peeled", desc := "(III)I" } : Jvm.MethodName)) ∈ lw_all := lw_g (lw_at lw_m6 8 rfl) rfl
theorem q1297 : (Jvm.Cond.selects "ModeDesk" ({ cls := "ModeDesk", name := "peeled", desc := "(III)I" } : Jvm.MethodName) ({ cls := "ModeDesk", name := "peeled", desc := "(III)I" } : Jvm.MethodName)) ∈ lw_all := lw_g (lw_at lw_m6 9 rfl) rfl
theorem q1298 : (Jvm.Cond.code ({ cls := "ModeDesk", name := "peeled", desc := "(III)I" } : Jvm.MethodName) prog_1_method_81_code (6 : Nat) (Option.some Jvm.ClassFile.FieldType.int)) ∈ lw_all := lw_g (lw_at lw_m6 10 rfl) rfl
theorem q1300 : (Jvm.Cond.instanceMethod ({ cls := "ModeDesk", name := "reign", desc := "(II)I" } : Jvm.MethodName)) ∈ lw_all := lw_g (lw_at lw_m6 12 rfl) rfl
theorem q1301 : (Jvm.Cond.selects "ModeDesk" ({ cls := "ModeDesk", name := "reign", desc := "(II)I" } : Jvm.MethodName) ({ cls := "ModeDesk", name := "reign", desc := "(II)I" } : Jvm.MethodName)) ∈ lw_all := lw_g (lw_at lw_m6 13 rfl) rfl
theorem q1302 : (Jvm.Cond.code ({ cls := "ModeDesk", name := "reign", desc := "(II)I" } : Jvm.MethodName) prog_1_method_82_code (4 : Nat) (Option.some Jvm.ClassFile.FieldType.int)) ∈ lw_all := lw_g (lw_at lw_m6 14 rfl) rfl
theorem q1303 : (Jvm.Cond.classLink "ModeDesk" (354 : Nat) "ModeDesk$7") ∈ lw_all := lw_g (lw_at lw_m6 15 rfl) rfl
theorem q1305 : (Jvm.Cond.methodLink "ModeDesk" (356 : Nat) ({ cls := "ModeDesk$7", name := "<init>", desc := "(LModeDesk;I)V" } : Jvm.MethodName)) ∈ lw_all := lw_g (lw_at lw_m6 17 rfl) rfl
theorem q1317 : (Jvm.Cond.methodLink "ModeDesk" (357 : Nat) ({ cls := "ModeDesk$7", name := "goes", desc := "()LModeDesk$Walk;" } : Jvm.MethodName)) ∈ lw_all := lw_g (lw_at lw_m6 29 rfl) rfl
theorem q1321 : (Jvm.Cond.instanceMethod ({ cls := "ModeDesk", name := "beginnings", desc := "(I)I" } : Jvm.MethodName)) ∈ lw_all := lw_g (lw_at lw_m6 33 rfl) rfl
theorem q1322 : (Jvm.Cond.selects "ModeDesk" ({ cls := "ModeDesk", name := "beginnings", desc := "(I)I" } : Jvm.MethodName) ({ cls := "ModeDesk", name := "beginnings", desc := "(I)I" } : Jvm.MethodName)) ∈ lw_all := lw_g (lw_at lw_m6 34 rfl) rfl
theorem q1323 : (Jvm.Cond.code ({ cls := "ModeDesk", name := "beginnings", desc := "(I)I" } : Jvm.MethodName) prog_1_method_83_code (10 : Nat) (Option.some Jvm.ClassFile.FieldType.int)) ∈ lw_all := lw_g (lw_at lw_m6 35 rfl) rfl
theorem q1324 : (Jvm.Cond.methodLink "ModeDesk" (358 : Nat) ({ cls := "java/lang/Math", name := "max", desc := "(II)I" } : Jvm.MethodName)) ∈ lw_all := lw_g (lw_at lw_m6 36 rfl) rfl
theorem q1326 : (Jvm.Cond.instanceMethod ({ cls := "ModeDesk", name := "since", desc := "(I)I" } : Jvm.MethodName)) ∈ lw_all := lw_g (lw_at lw_m6 38 rfl) rfl
theorem q1327 : (Jvm.Cond.selects "ModeDesk" ({ cls := "ModeDesk", name := "since", desc := "(I)I" } : Jvm.MethodName) ({ cls := "ModeDesk", name := "since", desc := "(I)I" } : Jvm.MethodName)) ∈ lw_all := lw_g (lw_at lw_m6 39 rfl) rfl
theorem q1328 : (Jvm.Cond.code ({ cls := "ModeDesk", name := "since", desc := "(I)I" } : Jvm.MethodName) prog_1_method_84_code (4 : Nat) (Option.some Jvm.ClassFile.FieldType.int)) ∈ lw_all := lw_g (lw_at lw_m6 40 rfl) rfl
theorem q1330 : (Jvm.Cond.instanceMethod ({ cls := "ModeDesk", name := "gap", desc := "(I)I" } : Jvm.MethodName)) ∈ lw_all := lw_g (lw_at lw_m6 42 rfl) rfl
theorem q1331 : (Jvm.Cond.selects "ModeDesk" ({ cls := "ModeDesk", name := "gap", desc := "(I)I" } : Jvm.MethodName) ({ cls := "ModeDesk", name := "gap", desc := "(I)I" } : Jvm.MethodName)) ∈ lw_all := lw_g (lw_at lw_m6 43 rfl) rfl
theorem q1332 : (Jvm.Cond.code ({ cls := "ModeDesk", name := "gap", desc := "(I)I" } : Jvm.MethodName) prog_1_method_85_code (6 : Nat) (Option.some Jvm.ClassFile.FieldType.int)) ∈ lw_all := lw_g (lw_at lw_m6 44 rfl) rfl
theorem q1334 : (Jvm.Cond.instanceMethod ({ cls := "ModeDesk", name := "wide", desc := "(I)I" } : Jvm.MethodName)) ∈ lw_all := lw_g (lw_at lw_m6 46 rfl) rfl
theorem q1335 : (Jvm.Cond.selects "ModeDesk" ({ cls := "ModeDesk", name := "wide", desc := "(I)I" } : Jvm.MethodName) ({ cls := "ModeDesk", name := "wide", desc := "(I)I" } : Jvm.MethodName)) ∈ lw_all := lw_g (lw_at lw_m6 47 rfl) rfl
theorem q1336 : (Jvm.Cond.code ({ cls := "ModeDesk", name := "wide", desc := "(I)I" } : Jvm.MethodName) prog_1_method_87_code (3 : Nat) (Option.some Jvm.ClassFile.FieldType.int)) ∈ lw_all := lw_g (lw_at lw_m6 48 rfl) rfl
theorem q1337 : (Jvm.Cond.methodLink "ModeDesk" (361 : Nat) ({ cls := "ModeDesk", name := "isWide", desc := "(II)Z" } : Jvm.MethodName)) ∈ lw_all := lw_g (lw_at lw_m6 49 rfl) rfl
theorem q1338 : (Jvm.Cond.privateMethod ({ cls := "ModeDesk", name := "isWide", desc := "(II)Z" } : Jvm.MethodName)) ∈ lw_tbl := lw_at lw_m6 50 rfl
theorem q1339 : (Jvm.Cond.instanceMethod ({ cls := "ModeDesk", name := "isWide", desc := "(II)Z" } : Jvm.MethodName)) ∈ lw_all := lw_g (lw_at lw_m6 51 rfl) rfl
theorem q1340 : (Jvm.Cond.code ({ cls := "ModeDesk", name := "isWide", desc := "(II)Z" } : Jvm.MethodName) prog_1_method_86_code (4 : Nat) (Option.some Jvm.ClassFile.FieldType.boolean)) ∈ lw_all := lw_g (lw_at lw_m6 52 rfl) rfl
theorem q1342 : (Jvm.Cond.instanceMethod ({ cls := "ModeDesk", name := "part", desc := "(I)I" } : Jvm.MethodName)) ∈ lw_all := lw_g (lw_at lw_m6 54 rfl) rfl
theorem q1343 : (Jvm.Cond.selects "ModeDesk" ({ cls := "ModeDesk", name := "part", desc := "(I)I" } : Jvm.MethodName) ({ cls := "ModeDesk", name := "part", desc := "(I)I" } : Jvm.MethodName)) ∈ lw_all := lw_g (lw_at lw_m6 55 rfl) rfl
theorem q1344 : (Jvm.Cond.code ({ cls := "ModeDesk", name := "part", desc := "(I)I" } : Jvm.MethodName) prog_1_method_90_code (4 : Nat) (Option.some Jvm.ClassFile.FieldType.int)) ∈ lw_all := lw_g (lw_at lw_m6 56 rfl) rfl
theorem q1345 : (Jvm.Cond.methodLink "ModeDesk" (364 : Nat) ({ cls := "ModeDesk", name := "laysFewest", desc := "()V" } : Jvm.MethodName)) ∈ lw_all := lw_g (lw_at lw_m6 57 rfl) rfl
theorem q1346 : (Jvm.Cond.privateMethod ({ cls := "ModeDesk", name := "laysFewest", desc := "()V" } : Jvm.MethodName)) ∈ lw_tbl := lw_at lw_m6 58 rfl
theorem q1347 : (Jvm.Cond.instanceMethod ({ cls := "ModeDesk", name := "laysFewest", desc := "()V" } : Jvm.MethodName)) ∈ lw_all := lw_g (lw_at lw_m6 59 rfl) rfl
theorem q1348 : (Jvm.Cond.code ({ cls := "ModeDesk", name := "laysFewest", desc := "()V" } : Jvm.MethodName) prog_1_method_88_code (3 : Nat) (Option.none : Option Jvm.ClassFile.FieldType)) ∈ lw_all := lw_g (lw_at lw_m6 60 rfl) rfl
theorem q1349 : (Jvm.Cond.methodLink "ModeDesk" (367 : Nat) ({ cls := "ModeDesk", name := "partEnd", desc := "(I)I" } : Jvm.MethodName)) ∈ lw_all := lw_g (lw_at lw_m6 61 rfl) rfl
theorem q1350 : (Jvm.Cond.privateMethod ({ cls := "ModeDesk", name := "partEnd", desc := "(I)I" } : Jvm.MethodName)) ∈ lw_tbl := lw_at lw_m6 62 rfl
theorem q1351 : (Jvm.Cond.instanceMethod ({ cls := "ModeDesk", name := "partEnd", desc := "(I)I" } : Jvm.MethodName)) ∈ lw_all := lw_g (lw_at lw_m6 63 rfl) rfl
theorem q1352 : (Jvm.Cond.code ({ cls := "ModeDesk", name := "partEnd", desc := "(I)I" } : Jvm.MethodName) prog_1_method_89_code (3 : Nat) (Option.some Jvm.ClassFile.FieldType.int)) ∈ lw_all := lw_g (lw_at lw_m6 64 rfl) rfl
theorem q1354 : (Jvm.Cond.instanceMethod ({ cls := "ModeDesk", name := "count", desc := "(I)I" } : Jvm.MethodName)) ∈ lw_all := lw_g (lw_at lw_m6 66 rfl) rfl
theorem q1355 : (Jvm.Cond.selects "ModeDesk" ({ cls := "ModeDesk", name := "count", desc := "(I)I" } : Jvm.MethodName) ({ cls := "ModeDesk", name := "count", desc := "(I)I" } : Jvm.MethodName)) ∈ lw_all := lw_g (lw_at lw_m6 67 rfl) rfl
theorem q1356 : (Jvm.Cond.code ({ cls := "ModeDesk", name := "count", desc := "(I)I" } : Jvm.MethodName) prog_1_method_92_code (2 : Nat) (Option.some Jvm.ClassFile.FieldType.int)) ∈ lw_all := lw_g (lw_at lw_m6 68 rfl) rfl
theorem q1357 : (Jvm.Cond.methodLink "ModeDesk" (370 : Nat) ({ cls := "ModeDesk", name := "unlike", desc := "(II)I" } : Jvm.MethodName)) ∈ lw_all := lw_g (lw_at lw_m6 69 rfl) rfl
theorem q1358 : (Jvm.Cond.methodLink "ModeDesk" (372 : Nat) ({ cls := "ModeDesk", name := "weights", desc := "()I" } : Jvm.MethodName)) ∈ lw_all := lw_g (lw_at lw_m6 70 rfl) rfl
theorem q1359 : (Jvm.Cond.privateMethod ({ cls := "ModeDesk", name := "weights", desc := "()I" } : Jvm.MethodName)) ∈ lw_tbl := lw_at lw_m6 71 rfl
theorem q1360 : (Jvm.Cond.instanceMethod ({ cls := "ModeDesk", name := "weights", desc := "()I" } : Jvm.MethodName)) ∈ lw_all := lw_g (lw_at lw_m6 72 rfl) rfl
theorem q1361 : (Jvm.Cond.code ({ cls := "ModeDesk", name := "weights", desc := "()I" } : Jvm.MethodName) prog_1_method_91_code (3 : Nat) (Option.some Jvm.ClassFile.FieldType.int)) ∈ lw_all := lw_g (lw_at lw_m6 73 rfl) rfl
theorem q1394 : (Jvm.Cond.instanceMethod ({ cls := "ModeDesk", name := "place", desc := "(II)I" } : Jvm.MethodName)) ∈ lw_all := lw_g (lw_at lw_m6 106 rfl) rfl
theorem q1395 : (Jvm.Cond.selects "ModeDesk" ({ cls := "ModeDesk", name := "place", desc := "(II)I" } : Jvm.MethodName) ({ cls := "ModeDesk", name := "place", desc := "(II)I" } : Jvm.MethodName)) ∈ lw_all := lw_g (lw_at lw_m6 107 rfl) rfl
theorem q1396 : (Jvm.Cond.code ({ cls := "ModeDesk", name := "place", desc := "(II)I" } : Jvm.MethodName) prog_1_method_11_code (5 : Nat) (Option.some Jvm.ClassFile.FieldType.int)) ∈ lw_all := lw_g (lw_at lw_m6 108 rfl) rfl
theorem q1397 : (Jvm.Cond.classLink "ModeDesk" (162 : Nat) "java/lang/IndexOutOfBoundsException") ∈ lw_all := lw_g (lw_at lw_m6 109 rfl) rfl
theorem q1406 : (Jvm.Cond.methodLink "ModeDesk" (164 : Nat) ({ cls := "java/lang/IndexOutOfBoundsException", name := "<init>", desc := "()V" } : Jvm.MethodName)) ∈ lw_all := lw_g (lw_at lw_m6 118 rfl) rfl
theorem q1412 : (Jvm.Cond.classLink "ModeDesk" (179 : Nat) "java/util/NoSuchElementException") ∈ lw_all := lw_g (lw_at lw_m6 124 rfl) rfl
theorem q1413 : (Jvm.Cond.methodLink "ModeDesk" (181 : Nat) ({ cls := "java/util/NoSuchElementException", name := "<init>", desc := "()V" } : Jvm.MethodName)) ∈ lw_all := lw_g (lw_at lw_m6 125 rfl) rfl
theorem q1983 : (Jvm.Cond.castable "ModeDesk" "java/lang/Object") ∈ lw_tbl := lw_at lw_m8 215 rfl
theorem in_X1 : ∀ w ∈ wsX10, w ∈ lw_all := lw_in wsX10 [242, 244, 246, 248, 250, 252, 254, 256, 258, 260, 262, 264, 266, 268, 270, 272, 274, 276, 278, 280, 282, 284, 286, 288, 290] (by decide +kernel) (by decide +kernel)
