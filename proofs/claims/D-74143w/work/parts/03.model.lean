/-! ModeDeskModel -/
set_option maxRecDepth 100000
def RX7 : String := "ModeDeskModel"
def TX7 : u_T := fun k => match k with
  | 0 => ("ModeDeskModel", "thrown", "I", false)
  | 1 => ("ModeDeskModel", "tape", "[I", true)
  | 2 => ("ModeDeskModel", "taped", "I", false)
  | 3 => ("ModeDeskModel", "value", "[I", true)
  | 4 => ("ModeDeskModel", "weight", "[I", true)
  | 5 => ("ModeDeskModel", "many", "I", false)
  | 6 => ("ModeDeskModel", "block", "I", false)
  | 7 => ("ModeDeskModel", "ties", "I", false)
  | 8 => ("ModeDeskModel", "lines", "I", false)
  | 9 => ("ModeDeskModel", "pastValue", "[I", true)
  | 10 => ("ModeDeskModel", "pastWeight", "[I", true)
  | 11 => ("ModeDeskModel", "pastMany", "[I", true)
  | 12 => ("ModeDeskModel", "undos", "I", false)
  | 13 => ("ModeDeskModel", "fresh", "I", false)
  | 14 => ("ModeDeskModel", "newValue", "[I", true)
  | 15 => ("ModeDeskModel", "newWeight", "[I", true)
  | 16 => ("ModeDeskModel", "newMany", "I", false)
  | 17 => ("ModeDeskModel", "newBlock", "I", false)
  | 18 => ("ModeDeskModel", "newTies", "I", false)
  | 19 => ("ModeDeskModel", "newLines", "I", false)
  | 20 => ("ModeDeskModel", "hasBlock", "Z", false)
  | 21 => ("ModeDeskModel", "hasTies", "Z", false)
  | 22 => ("ModeDeskModel", "size", "I", false)
  | 23 => ("ModeDeskModel", "at", "I", false)
  | 24 => ("ModeDeskModel", "place", "I", false)
  | 25 => ("ModeDeskModel", "sort", "I", false)
  | 26 => ("ModeDeskModel", "number", "I", false)
  | 27 => ("ModeDeskModel", "fault", "I", false)
  | 28 => ("ModeDeskModel", "faultPlace", "I", false)
  | 29 => ("ModeDeskModel", "lastFault", "I", false)
  | 30 => ("ModeDeskModel", "lastPlace", "I", false)
  | 31 => ("ModeDeskModel", "toValue", "[I", true)
  | 32 => ("ModeDeskModel", "toWeight", "[I", true)
  | 33 => ("ModeDeskModel", "toMany", "I", false)
  | 34 => ("ModeDeskModel", "often", "[I", true)
  | 35 => ("ModeDeskModel", "firstOf", "[I", true)
  | 36 => ("ModeDeskModel", "lastOf", "[I", true)
  | 37 => ("ModeDeskModel", "unlikes", "[I", true)
  | 38 => ("ModeDeskModel", "unlikeMany", "I", false)
  | 39 => ("ModeDeskModel", "isCandidate", "[Z", true)
  | 40 => ("ModeDeskModel", "modes", "[I", true)
  | _ => ("ModeDeskModel", "fewest", "[I", true)
def tyX7 : Nat → FieldType := fun k => match k with
  | 0 => .int
  | 1 => .array .int
  | 2 => .int
  | 3 => .array .int
  | 4 => .array .int
  | 5 => .int
  | 6 => .int
  | 7 => .int
  | 8 => .int
  | 9 => .array .int
  | 10 => .array .int
  | 11 => .array .int
  | 12 => .int
  | 13 => .int
  | 14 => .array .int
  | 15 => .array .int
  | 16 => .int
  | 17 => .int
  | 18 => .int
  | 19 => .int
  | 20 => .boolean
  | 21 => .boolean
  | 22 => .int
  | 23 => .int
  | 24 => .int
  | 25 => .int
  | 26 => .int
  | 27 => .int
  | 28 => .int
  | 29 => .int
  | 30 => .int
  | 31 => .array .int
  | 32 => .array .int
  | 33 => .int
  | 34 => .array .int
  | 35 => .array .int
  | 36 => .array .int
  | 37 => .array .int
  | 38 => .int
  | 39 => .array .boolean
  | 40 => .array .int
  | _ => .array .int
abbrev wsX70 : List Cond := u_ws RX7 TX7 42
set_option maxRecDepth 100000 in
theorem nmX7 : ∀ a, a < 42 → ∀ b, b < 42 → a ≠ b → (TX7 a).2.1 ≠ (TX7 b).2.1 := by decide +kernel
set_option maxRecDepth 100000 in
theorem tyX7_ok : ∀ k, k < 42 → parseFieldDescriptor (TX7 k).2.2.1 = some (tyX7 k) := by decide +kernel
abbrev cX7_init : ByteArray := prog_19_method_1_code
def yX7_init : MethodName := ⟨RX7, "<init>", "()V"⟩
def dkwX7_init_7 : List UInt8 := [181, 0, 69, 177]
abbrev dktX7_init_7 : List UInt8 := dkwX7_init_7 ++ []
def dkwX7_init_6 : List UInt8 := [181, 0, 59, 42, 17, 3, 232, 188, 10, 181, 0, 63, 42, 16, 121, 188, 10, 181, 0, 66, 42, 16, 8]
abbrev dktX7_init_6 : List UInt8 := dkwX7_init_6 ++ dktX7_init_7
def dkwX7_init_5 : List UInt8 := [17, 3, 232, 188, 10, 181, 0, 53, 42, 16, 120, 188, 10, 181, 0, 56, 42, 17, 3, 232, 188, 4]
abbrev dktX7_init_5 : List UInt8 := dkwX7_init_5 ++ dktX7_init_6
def dkwX7_init_4 : List UInt8 := [181, 0, 44, 42, 17, 3, 232, 188, 10, 181, 0, 47, 42, 17, 3, 232, 188, 10, 181, 0, 50, 42]
abbrev dktX7_init_4 : List UInt8 := dkwX7_init_4 ++ dktX7_init_5
def dkwX7_init_3 : List UInt8 := [188, 10, 181, 0, 35, 42, 2, 181, 0, 38, 42, 16, 121, 188, 10, 181, 0, 41, 42, 16, 121, 188, 10]
abbrev dktX7_init_3 : List UInt8 := dkwX7_init_3 ++ dktX7_init_4
def dkwX7_init_2 : List UInt8 := [16, 12, 188, 10, 181, 0, 25, 42, 16, 254, 181, 0, 28, 42, 16, 120, 188, 10, 181, 0, 32, 42, 16, 120]
abbrev dktX7_init_2 : List UInt8 := dkwX7_init_2 ++ dktX7_init_3
def dkwX7_init_1 : List UInt8 := [188, 10, 181, 0, 16, 42, 17, 5, 160, 188, 10, 181, 0, 19, 42, 17, 5, 160, 188, 10, 181, 0, 22, 42]
abbrev dktX7_init_1 : List UInt8 := dkwX7_init_1 ++ dktX7_init_2
def dkwX7_init_0 : List UInt8 := [42, 183, 0, 1, 42, 17, 3, 132, 188, 10, 181, 0, 7, 42, 16, 120, 188, 10, 181, 0, 13, 42, 16, 120]
abbrev dktX7_init_0 : List UInt8 := dkwX7_init_0 ++ dktX7_init_1
theorem dksX7_init_0 : cX7_init.data.toList.drop 0 = dktX7_init_0 := by decide +kernel
theorem dksX7_init_1 : cX7_init.data.toList.drop 24 = dktX7_init_1 := dk_seg dksX7_init_0 24 rfl rfl
theorem dksX7_init_2 : cX7_init.data.toList.drop 48 = dktX7_init_2 := dk_seg dksX7_init_1 24 rfl rfl
theorem dksX7_init_3 : cX7_init.data.toList.drop 72 = dktX7_init_3 := dk_seg dksX7_init_2 24 rfl rfl
theorem dksX7_init_4 : cX7_init.data.toList.drop 95 = dktX7_init_4 := dk_seg dksX7_init_3 23 rfl rfl
theorem dksX7_init_5 : cX7_init.data.toList.drop 117 = dktX7_init_5 := dk_seg dksX7_init_4 22 rfl rfl
theorem dksX7_init_6 : cX7_init.data.toList.drop 139 = dktX7_init_6 := dk_seg dksX7_init_5 22 rfl rfl
theorem dksX7_init_7 : cX7_init.data.toList.drop 162 = dktX7_init_7 := dk_seg dksX7_init_6 23 rfl rfl
theorem dX7_init_0 : decode cX7_init 0 = .ok (.aload_n 0, 1) := dk_42 (dk_at dksX7_init_0 0 rfl rfl)
theorem dX7_init_1 : decode cX7_init 1 = .ok (.invokespecial 1, 3) := dk_183 0 1 (dk_at dksX7_init_0 1 rfl rfl)
theorem dX7_init_4 : decode cX7_init 4 = .ok (.aload_n 0, 1) := dk_42 (dk_at dksX7_init_0 4 rfl rfl)
theorem dX7_init_5 : decode cX7_init 5 = .ok (.sipush 900, 3) := dk_17 3 132 (dk_at dksX7_init_0 5 rfl rfl)
theorem dX7_init_8 : decode cX7_init 8 = .ok (.newarray .int, 2) := dk_188_10 (dk_at dksX7_init_0 8 rfl rfl)
theorem dX7_init_10 : decode cX7_init 10 = .ok (.putfield 7, 3) := dk_181 0 7 (dk_at dksX7_init_0 10 rfl rfl)
theorem dX7_init_13 : decode cX7_init 13 = .ok (.aload_n 0, 1) := dk_42 (dk_at dksX7_init_0 13 rfl rfl)
theorem dX7_init_14 : decode cX7_init 14 = .ok (.bipush 120, 2) := dk_16 120 (dk_at dksX7_init_0 14 rfl rfl)
theorem dX7_init_16 : decode cX7_init 16 = .ok (.newarray .int, 2) := dk_188_10 (dk_at dksX7_init_0 16 rfl rfl)
theorem dX7_init_18 : decode cX7_init 18 = .ok (.putfield 13, 3) := dk_181 0 13 (dk_at dksX7_init_0 18 rfl rfl)
theorem dX7_init_21 : decode cX7_init 21 = .ok (.aload_n 0, 1) := dk_42 (dk_at dksX7_init_0 21 rfl rfl)
theorem dX7_init_22 : decode cX7_init 22 = .ok (.bipush 120, 2) := dk_16 120 (dk_at dksX7_init_0 22 rfl rfl)
theorem dX7_init_24 : decode cX7_init 24 = .ok (.newarray .int, 2) := dk_188_10 (dk_at dksX7_init_1 0 rfl rfl)
theorem dX7_init_26 : decode cX7_init 26 = .ok (.putfield 16, 3) := dk_181 0 16 (dk_at dksX7_init_1 2 rfl rfl)
theorem dX7_init_29 : decode cX7_init 29 = .ok (.aload_n 0, 1) := dk_42 (dk_at dksX7_init_1 5 rfl rfl)
theorem dX7_init_30 : decode cX7_init 30 = .ok (.sipush 1440, 3) := dk_17 5 160 (dk_at dksX7_init_1 6 rfl rfl)
theorem dX7_init_33 : decode cX7_init 33 = .ok (.newarray .int, 2) := dk_188_10 (dk_at dksX7_init_1 9 rfl rfl)
theorem dX7_init_35 : decode cX7_init 35 = .ok (.putfield 19, 3) := dk_181 0 19 (dk_at dksX7_init_1 11 rfl rfl)
theorem dX7_init_38 : decode cX7_init 38 = .ok (.aload_n 0, 1) := dk_42 (dk_at dksX7_init_1 14 rfl rfl)
theorem dX7_init_39 : decode cX7_init 39 = .ok (.sipush 1440, 3) := dk_17 5 160 (dk_at dksX7_init_1 15 rfl rfl)
theorem dX7_init_42 : decode cX7_init 42 = .ok (.newarray .int, 2) := dk_188_10 (dk_at dksX7_init_1 18 rfl rfl)
theorem dX7_init_44 : decode cX7_init 44 = .ok (.putfield 22, 3) := dk_181 0 22 (dk_at dksX7_init_1 20 rfl rfl)
theorem dX7_init_47 : decode cX7_init 47 = .ok (.aload_n 0, 1) := dk_42 (dk_at dksX7_init_1 23 rfl rfl)
theorem dX7_init_48 : decode cX7_init 48 = .ok (.bipush 12, 2) := dk_16 12 (dk_at dksX7_init_2 0 rfl rfl)
theorem dX7_init_50 : decode cX7_init 50 = .ok (.newarray .int, 2) := dk_188_10 (dk_at dksX7_init_2 2 rfl rfl)
theorem dX7_init_52 : decode cX7_init 52 = .ok (.putfield 25, 3) := dk_181 0 25 (dk_at dksX7_init_2 4 rfl rfl)
theorem dX7_init_55 : decode cX7_init 55 = .ok (.aload_n 0, 1) := dk_42 (dk_at dksX7_init_2 7 rfl rfl)
theorem dX7_init_56 : decode cX7_init 56 = .ok (.bipush (-2), 2) := dk_16 254 (dk_at dksX7_init_2 8 rfl rfl)
theorem dX7_init_58 : decode cX7_init 58 = .ok (.putfield 28, 3) := dk_181 0 28 (dk_at dksX7_init_2 10 rfl rfl)
theorem dX7_init_61 : decode cX7_init 61 = .ok (.aload_n 0, 1) := dk_42 (dk_at dksX7_init_2 13 rfl rfl)
theorem dX7_init_62 : decode cX7_init 62 = .ok (.bipush 120, 2) := dk_16 120 (dk_at dksX7_init_2 14 rfl rfl)
theorem dX7_init_64 : decode cX7_init 64 = .ok (.newarray .int, 2) := dk_188_10 (dk_at dksX7_init_2 16 rfl rfl)
theorem dX7_init_66 : decode cX7_init 66 = .ok (.putfield 32, 3) := dk_181 0 32 (dk_at dksX7_init_2 18 rfl rfl)
theorem dX7_init_69 : decode cX7_init 69 = .ok (.aload_n 0, 1) := dk_42 (dk_at dksX7_init_2 21 rfl rfl)
theorem dX7_init_70 : decode cX7_init 70 = .ok (.bipush 120, 2) := dk_16 120 (dk_at dksX7_init_2 22 rfl rfl)
theorem dX7_init_72 : decode cX7_init 72 = .ok (.newarray .int, 2) := dk_188_10 (dk_at dksX7_init_3 0 rfl rfl)
theorem dX7_init_74 : decode cX7_init 74 = .ok (.putfield 35, 3) := dk_181 0 35 (dk_at dksX7_init_3 2 rfl rfl)
theorem dX7_init_77 : decode cX7_init 77 = .ok (.aload_n 0, 1) := dk_42 (dk_at dksX7_init_3 5 rfl rfl)
theorem dX7_init_78 : decode cX7_init 78 = .ok (.iconst (-1), 1) := dk_2 (dk_at dksX7_init_3 6 rfl rfl)
theorem dX7_init_79 : decode cX7_init 79 = .ok (.putfield 38, 3) := dk_181 0 38 (dk_at dksX7_init_3 7 rfl rfl)
theorem dX7_init_82 : decode cX7_init 82 = .ok (.aload_n 0, 1) := dk_42 (dk_at dksX7_init_3 10 rfl rfl)
theorem dX7_init_83 : decode cX7_init 83 = .ok (.bipush 121, 2) := dk_16 121 (dk_at dksX7_init_3 11 rfl rfl)
theorem dX7_init_85 : decode cX7_init 85 = .ok (.newarray .int, 2) := dk_188_10 (dk_at dksX7_init_3 13 rfl rfl)
theorem dX7_init_87 : decode cX7_init 87 = .ok (.putfield 41, 3) := dk_181 0 41 (dk_at dksX7_init_3 15 rfl rfl)
theorem dX7_init_90 : decode cX7_init 90 = .ok (.aload_n 0, 1) := dk_42 (dk_at dksX7_init_3 18 rfl rfl)
theorem dX7_init_91 : decode cX7_init 91 = .ok (.bipush 121, 2) := dk_16 121 (dk_at dksX7_init_3 19 rfl rfl)
theorem dX7_init_93 : decode cX7_init 93 = .ok (.newarray .int, 2) := dk_188_10 (dk_at dksX7_init_3 21 rfl rfl)
theorem dX7_init_95 : decode cX7_init 95 = .ok (.putfield 44, 3) := dk_181 0 44 (dk_at dksX7_init_4 0 rfl rfl)
theorem dX7_init_98 : decode cX7_init 98 = .ok (.aload_n 0, 1) := dk_42 (dk_at dksX7_init_4 3 rfl rfl)
theorem dX7_init_99 : decode cX7_init 99 = .ok (.sipush 1000, 3) := dk_17 3 232 (dk_at dksX7_init_4 4 rfl rfl)
theorem dX7_init_102 : decode cX7_init 102 = .ok (.newarray .int, 2) := dk_188_10 (dk_at dksX7_init_4 7 rfl rfl)
theorem dX7_init_104 : decode cX7_init 104 = .ok (.putfield 47, 3) := dk_181 0 47 (dk_at dksX7_init_4 9 rfl rfl)
theorem dX7_init_107 : decode cX7_init 107 = .ok (.aload_n 0, 1) := dk_42 (dk_at dksX7_init_4 12 rfl rfl)
theorem dX7_init_108 : decode cX7_init 108 = .ok (.sipush 1000, 3) := dk_17 3 232 (dk_at dksX7_init_4 13 rfl rfl)
theorem dX7_init_111 : decode cX7_init 111 = .ok (.newarray .int, 2) := dk_188_10 (dk_at dksX7_init_4 16 rfl rfl)
theorem dX7_init_113 : decode cX7_init 113 = .ok (.putfield 50, 3) := dk_181 0 50 (dk_at dksX7_init_4 18 rfl rfl)
theorem dX7_init_116 : decode cX7_init 116 = .ok (.aload_n 0, 1) := dk_42 (dk_at dksX7_init_4 21 rfl rfl)
theorem dX7_init_117 : decode cX7_init 117 = .ok (.sipush 1000, 3) := dk_17 3 232 (dk_at dksX7_init_5 0 rfl rfl)
theorem dX7_init_120 : decode cX7_init 120 = .ok (.newarray .int, 2) := dk_188_10 (dk_at dksX7_init_5 3 rfl rfl)
theorem dX7_init_122 : decode cX7_init 122 = .ok (.putfield 53, 3) := dk_181 0 53 (dk_at dksX7_init_5 5 rfl rfl)
theorem dX7_init_125 : decode cX7_init 125 = .ok (.aload_n 0, 1) := dk_42 (dk_at dksX7_init_5 8 rfl rfl)
theorem dX7_init_126 : decode cX7_init 126 = .ok (.bipush 120, 2) := dk_16 120 (dk_at dksX7_init_5 9 rfl rfl)
theorem dX7_init_128 : decode cX7_init 128 = .ok (.newarray .int, 2) := dk_188_10 (dk_at dksX7_init_5 11 rfl rfl)
theorem dX7_init_130 : decode cX7_init 130 = .ok (.putfield 56, 3) := dk_181 0 56 (dk_at dksX7_init_5 13 rfl rfl)
theorem dX7_init_133 : decode cX7_init 133 = .ok (.aload_n 0, 1) := dk_42 (dk_at dksX7_init_5 16 rfl rfl)
theorem dX7_init_134 : decode cX7_init 134 = .ok (.sipush 1000, 3) := dk_17 3 232 (dk_at dksX7_init_5 17 rfl rfl)
theorem dX7_init_137 : decode cX7_init 137 = .ok (.newarray .boolean, 2) := dk_188_4 (dk_at dksX7_init_5 20 rfl rfl)
theorem dX7_init_139 : decode cX7_init 139 = .ok (.putfield 59, 3) := dk_181 0 59 (dk_at dksX7_init_6 0 rfl rfl)
theorem dX7_init_142 : decode cX7_init 142 = .ok (.aload_n 0, 1) := dk_42 (dk_at dksX7_init_6 3 rfl rfl)
theorem dX7_init_143 : decode cX7_init 143 = .ok (.sipush 1000, 3) := dk_17 3 232 (dk_at dksX7_init_6 4 rfl rfl)
theorem dX7_init_146 : decode cX7_init 146 = .ok (.newarray .int, 2) := dk_188_10 (dk_at dksX7_init_6 7 rfl rfl)
theorem dX7_init_148 : decode cX7_init 148 = .ok (.putfield 63, 3) := dk_181 0 63 (dk_at dksX7_init_6 9 rfl rfl)
theorem dX7_init_151 : decode cX7_init 151 = .ok (.aload_n 0, 1) := dk_42 (dk_at dksX7_init_6 12 rfl rfl)
theorem dX7_init_152 : decode cX7_init 152 = .ok (.bipush 121, 2) := dk_16 121 (dk_at dksX7_init_6 13 rfl rfl)
theorem dX7_init_154 : decode cX7_init 154 = .ok (.newarray .int, 2) := dk_188_10 (dk_at dksX7_init_6 15 rfl rfl)
theorem dX7_init_156 : decode cX7_init 156 = .ok (.putfield 66, 3) := dk_181 0 66 (dk_at dksX7_init_6 17 rfl rfl)
theorem dX7_init_159 : decode cX7_init 159 = .ok (.aload_n 0, 1) := dk_42 (dk_at dksX7_init_6 20 rfl rfl)
theorem dX7_init_160 : decode cX7_init 160 = .ok (.bipush 8, 2) := dk_16 8 (dk_at dksX7_init_6 21 rfl rfl)
theorem dX7_init_162 : decode cX7_init 162 = .ok (.putfield 69, 3) := dk_181 0 69 (dk_at dksX7_init_7 0 rfl rfl)
theorem dX7_init_165 : decode cX7_init 165 = .ok (.return_, 1) := dk_177 (dk_at dksX7_init_7 3 rfl rfl)
abbrev cX7_thrown : ByteArray := prog_19_method_2_code
def yX7_thrown : MethodName := ⟨RX7, "thrown", "()I"⟩
theorem dX7_thrown_0 : decode cX7_thrown 0 = .ok (.aload_n 0, 1) := by decide +kernel
theorem dX7_thrown_1 : decode cX7_thrown 1 = .ok (.getfield 72, 3) := by decide +kernel
theorem dX7_thrown_4 : decode cX7_thrown 4 = .ok (.ireturn, 1) := by decide +kernel
abbrev cX7_feed : ByteArray := prog_19_method_3_code
def yX7_feed : MethodName := ⟨RX7, "feed", "(IIIII)I"⟩
def dkwX7_feed_5 : List UInt8 := [181, 0, 75, 42, 180, 0, 75, 172]
abbrev dktX7_feed_5 : List UInt8 := dkwX7_feed_5 ++ []
def dkwX7_feed_4 : List UInt8 := [112, 104, 100, 122, 17, 0, 255, 126, 79, 132, 6, 1, 167, 255, 169, 42, 89, 180, 0, 75, 16, 20, 96]
abbrev dktX7_feed_4 : List UInt8 := dkwX7_feed_4 ++ dktX7_feed_5
def dkwX7_feed_3 : List UInt8 := [21, 5, 54, 7, 42, 180, 0, 7, 42, 180, 0, 75, 21, 6, 96, 21, 7, 16, 24, 16, 8, 21, 6, 7]
abbrev dktX7_feed_3 : List UInt8 := dkwX7_feed_3 ++ dktX7_feed_4
def dkwX7_feed_2 : List UInt8 := [21, 6, 16, 12, 162, 0, 7, 29, 167, 0, 17, 21, 6, 16, 16, 162, 0, 8, 21, 4, 167, 0, 5]
abbrev dktX7_feed_2 : List UInt8 := dkwX7_feed_2 ++ dktX7_feed_3
def dkwX7_feed_1 : List UInt8 := [162, 0, 86, 21, 6, 7, 162, 0, 7, 27, 167, 0, 39, 21, 6, 16, 8, 162, 0, 7, 28, 167, 0, 28]
abbrev dktX7_feed_1 : List UInt8 := dkwX7_feed_1 ++ dktX7_feed_2
def dkwX7_feed_0 : List UInt8 := [42, 3, 181, 0, 72, 42, 180, 0, 75, 17, 3, 112, 164, 0, 5, 2, 172, 3, 54, 6, 21, 6, 16, 20]
abbrev dktX7_feed_0 : List UInt8 := dkwX7_feed_0 ++ dktX7_feed_1
theorem dksX7_feed_0 : cX7_feed.data.toList.drop 0 = dktX7_feed_0 := by decide +kernel
theorem dksX7_feed_1 : cX7_feed.data.toList.drop 24 = dktX7_feed_1 := dk_seg dksX7_feed_0 24 rfl rfl
theorem dksX7_feed_2 : cX7_feed.data.toList.drop 48 = dktX7_feed_2 := dk_seg dksX7_feed_1 24 rfl rfl
theorem dksX7_feed_3 : cX7_feed.data.toList.drop 71 = dktX7_feed_3 := dk_seg dksX7_feed_2 23 rfl rfl
theorem dksX7_feed_4 : cX7_feed.data.toList.drop 95 = dktX7_feed_4 := dk_seg dksX7_feed_3 24 rfl rfl
theorem dksX7_feed_5 : cX7_feed.data.toList.drop 118 = dktX7_feed_5 := dk_seg dksX7_feed_4 23 rfl rfl
theorem dX7_feed_0 : decode cX7_feed 0 = .ok (.aload_n 0, 1) := dk_42 (dk_at dksX7_feed_0 0 rfl rfl)
theorem dX7_feed_1 : decode cX7_feed 1 = .ok (.iconst 0, 1) := dk_3 (dk_at dksX7_feed_0 1 rfl rfl)
theorem dX7_feed_2 : decode cX7_feed 2 = .ok (.putfield 72, 3) := dk_181 0 72 (dk_at dksX7_feed_0 2 rfl rfl)
theorem dX7_feed_5 : decode cX7_feed 5 = .ok (.aload_n 0, 1) := dk_42 (dk_at dksX7_feed_0 5 rfl rfl)
theorem dX7_feed_6 : decode cX7_feed 6 = .ok (.getfield 75, 3) := dk_180 0 75 (dk_at dksX7_feed_0 6 rfl rfl)
theorem dX7_feed_9 : decode cX7_feed 9 = .ok (.sipush 880, 3) := dk_17 3 112 (dk_at dksX7_feed_0 9 rfl rfl)
theorem dX7_feed_12 : decode cX7_feed 12 = .ok (.if_icmp .le 5, 3) := dk_164 0 5 (dk_at dksX7_feed_0 12 rfl rfl)
theorem dX7_feed_15 : decode cX7_feed 15 = .ok (.iconst (-1), 1) := dk_2 (dk_at dksX7_feed_0 15 rfl rfl)
theorem dX7_feed_16 : decode cX7_feed 16 = .ok (.ireturn, 1) := dk_172 (dk_at dksX7_feed_0 16 rfl rfl)
theorem dX7_feed_17 : decode cX7_feed 17 = .ok (.iconst 0, 1) := dk_3 (dk_at dksX7_feed_0 17 rfl rfl)
theorem dX7_feed_18 : decode cX7_feed 18 = .ok (.istore 6, 2) := dk_54 6 (dk_at dksX7_feed_0 18 rfl rfl)
theorem dX7_feed_20 : decode cX7_feed 20 = .ok (.iload 6, 2) := dk_21 6 (dk_at dksX7_feed_0 20 rfl rfl)
theorem dX7_feed_22 : decode cX7_feed 22 = .ok (.bipush 20, 2) := dk_16 20 (dk_at dksX7_feed_0 22 rfl rfl)
theorem dX7_feed_24 : decode cX7_feed 24 = .ok (.if_icmp .ge 86, 3) := dk_162 0 86 (dk_at dksX7_feed_1 0 rfl rfl)
theorem dX7_feed_27 : decode cX7_feed 27 = .ok (.iload 6, 2) := dk_21 6 (dk_at dksX7_feed_1 3 rfl rfl)
theorem dX7_feed_29 : decode cX7_feed 29 = .ok (.iconst 4, 1) := dk_7 (dk_at dksX7_feed_1 5 rfl rfl)
theorem dX7_feed_30 : decode cX7_feed 30 = .ok (.if_icmp .ge 7, 3) := dk_162 0 7 (dk_at dksX7_feed_1 6 rfl rfl)
theorem dX7_feed_33 : decode cX7_feed 33 = .ok (.iload_n 1, 1) := dk_27 (dk_at dksX7_feed_1 9 rfl rfl)
theorem dX7_feed_34 : decode cX7_feed 34 = .ok (.goto 39, 3) := dk_167 0 39 (dk_at dksX7_feed_1 10 rfl rfl)
theorem dX7_feed_37 : decode cX7_feed 37 = .ok (.iload 6, 2) := dk_21 6 (dk_at dksX7_feed_1 13 rfl rfl)
theorem dX7_feed_39 : decode cX7_feed 39 = .ok (.bipush 8, 2) := dk_16 8 (dk_at dksX7_feed_1 15 rfl rfl)
theorem dX7_feed_41 : decode cX7_feed 41 = .ok (.if_icmp .ge 7, 3) := dk_162 0 7 (dk_at dksX7_feed_1 17 rfl rfl)
theorem dX7_feed_44 : decode cX7_feed 44 = .ok (.iload_n 2, 1) := dk_28 (dk_at dksX7_feed_1 20 rfl rfl)
theorem dX7_feed_45 : decode cX7_feed 45 = .ok (.goto 28, 3) := dk_167 0 28 (dk_at dksX7_feed_1 21 rfl rfl)
theorem dX7_feed_48 : decode cX7_feed 48 = .ok (.iload 6, 2) := dk_21 6 (dk_at dksX7_feed_2 0 rfl rfl)
theorem dX7_feed_50 : decode cX7_feed 50 = .ok (.bipush 12, 2) := dk_16 12 (dk_at dksX7_feed_2 2 rfl rfl)
theorem dX7_feed_52 : decode cX7_feed 52 = .ok (.if_icmp .ge 7, 3) := dk_162 0 7 (dk_at dksX7_feed_2 4 rfl rfl)
theorem dX7_feed_55 : decode cX7_feed 55 = .ok (.iload_n 3, 1) := dk_29 (dk_at dksX7_feed_2 7 rfl rfl)
theorem dX7_feed_56 : decode cX7_feed 56 = .ok (.goto 17, 3) := dk_167 0 17 (dk_at dksX7_feed_2 8 rfl rfl)
theorem dX7_feed_59 : decode cX7_feed 59 = .ok (.iload 6, 2) := dk_21 6 (dk_at dksX7_feed_2 11 rfl rfl)
theorem dX7_feed_61 : decode cX7_feed 61 = .ok (.bipush 16, 2) := dk_16 16 (dk_at dksX7_feed_2 13 rfl rfl)
theorem dX7_feed_63 : decode cX7_feed 63 = .ok (.if_icmp .ge 8, 3) := dk_162 0 8 (dk_at dksX7_feed_2 15 rfl rfl)
theorem dX7_feed_66 : decode cX7_feed 66 = .ok (.iload 4, 2) := dk_21 4 (dk_at dksX7_feed_2 18 rfl rfl)
theorem dX7_feed_68 : decode cX7_feed 68 = .ok (.goto 5, 3) := dk_167 0 5 (dk_at dksX7_feed_2 20 rfl rfl)
theorem dX7_feed_71 : decode cX7_feed 71 = .ok (.iload 5, 2) := dk_21 5 (dk_at dksX7_feed_3 0 rfl rfl)
theorem dX7_feed_73 : decode cX7_feed 73 = .ok (.istore 7, 2) := dk_54 7 (dk_at dksX7_feed_3 2 rfl rfl)
theorem dX7_feed_75 : decode cX7_feed 75 = .ok (.aload_n 0, 1) := dk_42 (dk_at dksX7_feed_3 4 rfl rfl)
theorem dX7_feed_76 : decode cX7_feed 76 = .ok (.getfield 7, 3) := dk_180 0 7 (dk_at dksX7_feed_3 5 rfl rfl)
theorem dX7_feed_79 : decode cX7_feed 79 = .ok (.aload_n 0, 1) := dk_42 (dk_at dksX7_feed_3 8 rfl rfl)
theorem dX7_feed_80 : decode cX7_feed 80 = .ok (.getfield 75, 3) := dk_180 0 75 (dk_at dksX7_feed_3 9 rfl rfl)
theorem dX7_feed_83 : decode cX7_feed 83 = .ok (.iload 6, 2) := dk_21 6 (dk_at dksX7_feed_3 12 rfl rfl)
theorem dX7_feed_85 : decode cX7_feed 85 = .ok (.iadd, 1) := dk_96 (dk_at dksX7_feed_3 14 rfl rfl)
theorem dX7_feed_86 : decode cX7_feed 86 = .ok (.iload 7, 2) := dk_21 7 (dk_at dksX7_feed_3 15 rfl rfl)
theorem dX7_feed_88 : decode cX7_feed 88 = .ok (.bipush 24, 2) := dk_16 24 (dk_at dksX7_feed_3 17 rfl rfl)
theorem dX7_feed_90 : decode cX7_feed 90 = .ok (.bipush 8, 2) := dk_16 8 (dk_at dksX7_feed_3 19 rfl rfl)
theorem dX7_feed_92 : decode cX7_feed 92 = .ok (.iload 6, 2) := dk_21 6 (dk_at dksX7_feed_3 21 rfl rfl)
theorem dX7_feed_94 : decode cX7_feed 94 = .ok (.iconst 4, 1) := dk_7 (dk_at dksX7_feed_3 23 rfl rfl)
theorem dX7_feed_95 : decode cX7_feed 95 = .ok (.irem, 1) := dk_112 (dk_at dksX7_feed_4 0 rfl rfl)
theorem dX7_feed_96 : decode cX7_feed 96 = .ok (.imul, 1) := dk_104 (dk_at dksX7_feed_4 1 rfl rfl)
theorem dX7_feed_97 : decode cX7_feed 97 = .ok (.isub, 1) := dk_100 (dk_at dksX7_feed_4 2 rfl rfl)
theorem dX7_feed_98 : decode cX7_feed 98 = .ok (.ishr, 1) := dk_122 (dk_at dksX7_feed_4 3 rfl rfl)
theorem dX7_feed_99 : decode cX7_feed 99 = .ok (.sipush 255, 3) := dk_17 0 255 (dk_at dksX7_feed_4 4 rfl rfl)
theorem dX7_feed_102 : decode cX7_feed 102 = .ok (.iand, 1) := dk_126 (dk_at dksX7_feed_4 7 rfl rfl)
theorem dX7_feed_103 : decode cX7_feed 103 = .ok (.iastore, 1) := dk_79 (dk_at dksX7_feed_4 8 rfl rfl)
theorem dX7_feed_104 : decode cX7_feed 104 = .ok (.iinc 6 1, 3) := dk_132 6 1 (dk_at dksX7_feed_4 9 rfl rfl)
theorem dX7_feed_107 : decode cX7_feed 107 = .ok (.goto (-87), 3) := dk_167 255 169 (dk_at dksX7_feed_4 12 rfl rfl)
theorem dX7_feed_110 : decode cX7_feed 110 = .ok (.aload_n 0, 1) := dk_42 (dk_at dksX7_feed_4 15 rfl rfl)
theorem dX7_feed_111 : decode cX7_feed 111 = .ok (.dup, 1) := dk_89 (dk_at dksX7_feed_4 16 rfl rfl)
theorem dX7_feed_112 : decode cX7_feed 112 = .ok (.getfield 75, 3) := dk_180 0 75 (dk_at dksX7_feed_4 17 rfl rfl)
theorem dX7_feed_115 : decode cX7_feed 115 = .ok (.bipush 20, 2) := dk_16 20 (dk_at dksX7_feed_4 20 rfl rfl)
theorem dX7_feed_117 : decode cX7_feed 117 = .ok (.iadd, 1) := dk_96 (dk_at dksX7_feed_4 22 rfl rfl)
theorem dX7_feed_118 : decode cX7_feed 118 = .ok (.putfield 75, 3) := dk_181 0 75 (dk_at dksX7_feed_5 0 rfl rfl)
theorem dX7_feed_121 : decode cX7_feed 121 = .ok (.aload_n 0, 1) := dk_42 (dk_at dksX7_feed_5 3 rfl rfl)
theorem dX7_feed_122 : decode cX7_feed 122 = .ok (.getfield 75, 3) := dk_180 0 75 (dk_at dksX7_feed_5 4 rfl rfl)
theorem dX7_feed_125 : decode cX7_feed 125 = .ok (.ireturn, 1) := dk_172 (dk_at dksX7_feed_5 7 rfl rfl)
abbrev cX7_text : ByteArray := prog_19_method_17_code
def yX7_text : MethodName := ⟨RX7, "text", "(I)I"⟩
def dkwX7_text_9 : List UInt8 := [42, 16, 254, 181, 0, 28, 42, 180, 0, 181, 172]
abbrev dktX7_text_9 : List UInt8 := dkwX7_text_9 ++ []
def dkwX7_text_8 : List UInt8 := [181, 0, 69, 42, 42, 180, 0, 151, 181, 0, 178, 42, 42, 180, 0, 166, 181, 0, 181, 42, 3, 181, 0, 184]
abbrev dktX7_text_8 : List UInt8 := dkwX7_text_8 ++ dktX7_text_9
def dkwX7_text_7 : List UInt8 := [180, 0, 16, 28, 42, 180, 0, 35, 28, 46, 79, 132, 2, 1, 167, 255, 221, 42, 42, 180, 0, 145]
abbrev dktX7_text_7 : List UInt8 := dkwX7_text_7 ++ dktX7_text_8
def dkwX7_text_6 : List UInt8 := [61, 28, 42, 180, 0, 175, 162, 0, 33, 42, 180, 0, 13, 28, 42, 180, 0, 32, 28, 46, 79, 42]
abbrev dktX7_text_6 : List UInt8 := dkwX7_text_6 ++ dktX7_text_7
def dkwX7_text_5 : List UInt8 := [180, 0, 121, 181, 0, 38, 42, 180, 0, 118, 153, 0, 5, 2, 172, 42, 42, 180, 0, 134, 181, 0, 175, 3]
abbrev dktX7_text_5 : List UInt8 := dkwX7_text_5 ++ dktX7_text_6
def dkwX7_text_4 : List UInt8 := [181, 0, 75, 42, 42, 180, 0, 118, 181, 0, 172, 42, 42, 180, 0, 118, 154, 0, 7, 2, 167, 0, 7, 42]
abbrev dktX7_text_4 : List UInt8 := dkwX7_text_4 ++ dktX7_text_5
def dkwX7_text_3 : List UInt8 := [42, 180, 0, 118, 154, 0, 18, 42, 180, 0, 91, 6, 159, 0, 10, 42, 182, 0, 169, 167, 255, 237, 42, 3]
abbrev dktX7_text_3 : List UInt8 := dkwX7_text_3 ++ dktX7_text_4
def dkwX7_text_2 : List UInt8 := [42, 3, 181, 0, 148, 42, 27, 181, 0, 81, 42, 3, 181, 0, 78, 42, 3, 181, 0, 118, 42, 182, 0, 124]
abbrev dktX7_text_2 : List UInt8 := dkwX7_text_2 ++ dktX7_text_3
def dkwX7_text_1 : List UInt8 := [181, 0, 134, 42, 16, 8, 181, 0, 145, 42, 3, 181, 0, 151, 42, 3, 181, 0, 166, 42, 3, 181, 0, 141]
abbrev dktX7_text_1 : List UInt8 := dkwX7_text_1 ++ dktX7_text_2
def dkwX7_text_0 : List UInt8 := [42, 3, 181, 0, 72, 27, 155, 0, 11, 27, 42, 180, 0, 75, 164, 0, 6, 16, 254, 172, 42, 3]
abbrev dktX7_text_0 : List UInt8 := dkwX7_text_0 ++ dktX7_text_1
theorem dksX7_text_0 : cX7_text.data.toList.drop 0 = dktX7_text_0 := by decide +kernel
theorem dksX7_text_1 : cX7_text.data.toList.drop 22 = dktX7_text_1 := dk_seg dksX7_text_0 22 rfl rfl
theorem dksX7_text_2 : cX7_text.data.toList.drop 46 = dktX7_text_2 := dk_seg dksX7_text_1 24 rfl rfl
theorem dksX7_text_3 : cX7_text.data.toList.drop 70 = dktX7_text_3 := dk_seg dksX7_text_2 24 rfl rfl
theorem dksX7_text_4 : cX7_text.data.toList.drop 94 = dktX7_text_4 := dk_seg dksX7_text_3 24 rfl rfl
theorem dksX7_text_5 : cX7_text.data.toList.drop 118 = dktX7_text_5 := dk_seg dksX7_text_4 24 rfl rfl
theorem dksX7_text_6 : cX7_text.data.toList.drop 142 = dktX7_text_6 := dk_seg dksX7_text_5 24 rfl rfl
theorem dksX7_text_7 : cX7_text.data.toList.drop 164 = dktX7_text_7 := dk_seg dksX7_text_6 22 rfl rfl
theorem dksX7_text_8 : cX7_text.data.toList.drop 186 = dktX7_text_8 := dk_seg dksX7_text_7 22 rfl rfl
theorem dksX7_text_9 : cX7_text.data.toList.drop 210 = dktX7_text_9 := dk_seg dksX7_text_8 24 rfl rfl
theorem dX7_text_0 : decode cX7_text 0 = .ok (.aload_n 0, 1) := dk_42 (dk_at dksX7_text_0 0 rfl rfl)
theorem dX7_text_1 : decode cX7_text 1 = .ok (.iconst 0, 1) := dk_3 (dk_at dksX7_text_0 1 rfl rfl)
theorem dX7_text_2 : decode cX7_text 2 = .ok (.putfield 72, 3) := dk_181 0 72 (dk_at dksX7_text_0 2 rfl rfl)
theorem dX7_text_5 : decode cX7_text 5 = .ok (.iload_n 1, 1) := dk_27 (dk_at dksX7_text_0 5 rfl rfl)
theorem dX7_text_6 : decode cX7_text 6 = .ok (.ifCond .lt 11, 3) := dk_155 0 11 (dk_at dksX7_text_0 6 rfl rfl)
theorem dX7_text_9 : decode cX7_text 9 = .ok (.iload_n 1, 1) := dk_27 (dk_at dksX7_text_0 9 rfl rfl)
theorem dX7_text_10 : decode cX7_text 10 = .ok (.aload_n 0, 1) := dk_42 (dk_at dksX7_text_0 10 rfl rfl)
theorem dX7_text_11 : decode cX7_text 11 = .ok (.getfield 75, 3) := dk_180 0 75 (dk_at dksX7_text_0 11 rfl rfl)
theorem dX7_text_14 : decode cX7_text 14 = .ok (.if_icmp .le 6, 3) := dk_164 0 6 (dk_at dksX7_text_0 14 rfl rfl)
theorem dX7_text_17 : decode cX7_text 17 = .ok (.bipush (-2), 2) := dk_16 254 (dk_at dksX7_text_0 17 rfl rfl)
theorem dX7_text_19 : decode cX7_text 19 = .ok (.ireturn, 1) := dk_172 (dk_at dksX7_text_0 19 rfl rfl)
theorem dX7_text_20 : decode cX7_text 20 = .ok (.aload_n 0, 1) := dk_42 (dk_at dksX7_text_0 20 rfl rfl)
theorem dX7_text_21 : decode cX7_text 21 = .ok (.iconst 0, 1) := dk_3 (dk_at dksX7_text_0 21 rfl rfl)
theorem dX7_text_22 : decode cX7_text 22 = .ok (.putfield 134, 3) := dk_181 0 134 (dk_at dksX7_text_1 0 rfl rfl)
theorem dX7_text_25 : decode cX7_text 25 = .ok (.aload_n 0, 1) := dk_42 (dk_at dksX7_text_1 3 rfl rfl)
theorem dX7_text_26 : decode cX7_text 26 = .ok (.bipush 8, 2) := dk_16 8 (dk_at dksX7_text_1 4 rfl rfl)
theorem dX7_text_28 : decode cX7_text 28 = .ok (.putfield 145, 3) := dk_181 0 145 (dk_at dksX7_text_1 6 rfl rfl)
theorem dX7_text_31 : decode cX7_text 31 = .ok (.aload_n 0, 1) := dk_42 (dk_at dksX7_text_1 9 rfl rfl)
theorem dX7_text_32 : decode cX7_text 32 = .ok (.iconst 0, 1) := dk_3 (dk_at dksX7_text_1 10 rfl rfl)
theorem dX7_text_33 : decode cX7_text 33 = .ok (.putfield 151, 3) := dk_181 0 151 (dk_at dksX7_text_1 11 rfl rfl)
theorem dX7_text_36 : decode cX7_text 36 = .ok (.aload_n 0, 1) := dk_42 (dk_at dksX7_text_1 14 rfl rfl)
theorem dX7_text_37 : decode cX7_text 37 = .ok (.iconst 0, 1) := dk_3 (dk_at dksX7_text_1 15 rfl rfl)
theorem dX7_text_38 : decode cX7_text 38 = .ok (.putfield 166, 3) := dk_181 0 166 (dk_at dksX7_text_1 16 rfl rfl)
theorem dX7_text_41 : decode cX7_text 41 = .ok (.aload_n 0, 1) := dk_42 (dk_at dksX7_text_1 19 rfl rfl)
theorem dX7_text_42 : decode cX7_text 42 = .ok (.iconst 0, 1) := dk_3 (dk_at dksX7_text_1 20 rfl rfl)
theorem dX7_text_43 : decode cX7_text 43 = .ok (.putfield 141, 3) := dk_181 0 141 (dk_at dksX7_text_1 21 rfl rfl)
theorem dX7_text_46 : decode cX7_text 46 = .ok (.aload_n 0, 1) := dk_42 (dk_at dksX7_text_2 0 rfl rfl)
theorem dX7_text_47 : decode cX7_text 47 = .ok (.iconst 0, 1) := dk_3 (dk_at dksX7_text_2 1 rfl rfl)
theorem dX7_text_48 : decode cX7_text 48 = .ok (.putfield 148, 3) := dk_181 0 148 (dk_at dksX7_text_2 2 rfl rfl)
theorem dX7_text_51 : decode cX7_text 51 = .ok (.aload_n 0, 1) := dk_42 (dk_at dksX7_text_2 5 rfl rfl)
theorem dX7_text_52 : decode cX7_text 52 = .ok (.iload_n 1, 1) := dk_27 (dk_at dksX7_text_2 6 rfl rfl)
theorem dX7_text_53 : decode cX7_text 53 = .ok (.putfield 81, 3) := dk_181 0 81 (dk_at dksX7_text_2 7 rfl rfl)
theorem dX7_text_56 : decode cX7_text 56 = .ok (.aload_n 0, 1) := dk_42 (dk_at dksX7_text_2 10 rfl rfl)
theorem dX7_text_57 : decode cX7_text 57 = .ok (.iconst 0, 1) := dk_3 (dk_at dksX7_text_2 11 rfl rfl)
theorem dX7_text_58 : decode cX7_text 58 = .ok (.putfield 78, 3) := dk_181 0 78 (dk_at dksX7_text_2 12 rfl rfl)
theorem dX7_text_61 : decode cX7_text 61 = .ok (.aload_n 0, 1) := dk_42 (dk_at dksX7_text_2 15 rfl rfl)
theorem dX7_text_62 : decode cX7_text 62 = .ok (.iconst 0, 1) := dk_3 (dk_at dksX7_text_2 16 rfl rfl)
theorem dX7_text_63 : decode cX7_text 63 = .ok (.putfield 118, 3) := dk_181 0 118 (dk_at dksX7_text_2 17 rfl rfl)
theorem dX7_text_66 : decode cX7_text 66 = .ok (.aload_n 0, 1) := dk_42 (dk_at dksX7_text_2 20 rfl rfl)
theorem dX7_text_67 : decode cX7_text 67 = .ok (.invokevirtual 124, 3) := dk_182 0 124 (dk_at dksX7_text_2 21 rfl rfl)
theorem dX7_text_70 : decode cX7_text 70 = .ok (.aload_n 0, 1) := dk_42 (dk_at dksX7_text_3 0 rfl rfl)
theorem dX7_text_71 : decode cX7_text 71 = .ok (.getfield 118, 3) := dk_180 0 118 (dk_at dksX7_text_3 1 rfl rfl)
theorem dX7_text_74 : decode cX7_text 74 = .ok (.ifCond .ne 18, 3) := dk_154 0 18 (dk_at dksX7_text_3 4 rfl rfl)
theorem dX7_text_77 : decode cX7_text 77 = .ok (.aload_n 0, 1) := dk_42 (dk_at dksX7_text_3 7 rfl rfl)
theorem dX7_text_78 : decode cX7_text 78 = .ok (.getfield 91, 3) := dk_180 0 91 (dk_at dksX7_text_3 8 rfl rfl)
theorem dX7_text_81 : decode cX7_text 81 = .ok (.iconst 3, 1) := dk_6 (dk_at dksX7_text_3 11 rfl rfl)
theorem dX7_text_82 : decode cX7_text 82 = .ok (.if_icmp .eq 10, 3) := dk_159 0 10 (dk_at dksX7_text_3 12 rfl rfl)
theorem dX7_text_85 : decode cX7_text 85 = .ok (.aload_n 0, 1) := dk_42 (dk_at dksX7_text_3 15 rfl rfl)
theorem dX7_text_86 : decode cX7_text 86 = .ok (.invokevirtual 169, 3) := dk_182 0 169 (dk_at dksX7_text_3 16 rfl rfl)
theorem dX7_text_89 : decode cX7_text 89 = .ok (.goto (-19), 3) := dk_167 255 237 (dk_at dksX7_text_3 19 rfl rfl)
theorem dX7_text_92 : decode cX7_text 92 = .ok (.aload_n 0, 1) := dk_42 (dk_at dksX7_text_3 22 rfl rfl)
theorem dX7_text_93 : decode cX7_text 93 = .ok (.iconst 0, 1) := dk_3 (dk_at dksX7_text_3 23 rfl rfl)
theorem dX7_text_94 : decode cX7_text 94 = .ok (.putfield 75, 3) := dk_181 0 75 (dk_at dksX7_text_4 0 rfl rfl)
theorem dX7_text_97 : decode cX7_text 97 = .ok (.aload_n 0, 1) := dk_42 (dk_at dksX7_text_4 3 rfl rfl)
theorem dX7_text_98 : decode cX7_text 98 = .ok (.aload_n 0, 1) := dk_42 (dk_at dksX7_text_4 4 rfl rfl)
theorem dX7_text_99 : decode cX7_text 99 = .ok (.getfield 118, 3) := dk_180 0 118 (dk_at dksX7_text_4 5 rfl rfl)
theorem dX7_text_102 : decode cX7_text 102 = .ok (.putfield 172, 3) := dk_181 0 172 (dk_at dksX7_text_4 8 rfl rfl)
theorem dX7_text_105 : decode cX7_text 105 = .ok (.aload_n 0, 1) := dk_42 (dk_at dksX7_text_4 11 rfl rfl)
theorem dX7_text_106 : decode cX7_text 106 = .ok (.aload_n 0, 1) := dk_42 (dk_at dksX7_text_4 12 rfl rfl)
theorem dX7_text_107 : decode cX7_text 107 = .ok (.getfield 118, 3) := dk_180 0 118 (dk_at dksX7_text_4 13 rfl rfl)
theorem dX7_text_110 : decode cX7_text 110 = .ok (.ifCond .ne 7, 3) := dk_154 0 7 (dk_at dksX7_text_4 16 rfl rfl)
theorem dX7_text_113 : decode cX7_text 113 = .ok (.iconst (-1), 1) := dk_2 (dk_at dksX7_text_4 19 rfl rfl)
theorem dX7_text_114 : decode cX7_text 114 = .ok (.goto 7, 3) := dk_167 0 7 (dk_at dksX7_text_4 20 rfl rfl)
theorem dX7_text_117 : decode cX7_text 117 = .ok (.aload_n 0, 1) := dk_42 (dk_at dksX7_text_4 23 rfl rfl)
theorem dX7_text_118 : decode cX7_text 118 = .ok (.getfield 121, 3) := dk_180 0 121 (dk_at dksX7_text_5 0 rfl rfl)
theorem dX7_text_121 : decode cX7_text 121 = .ok (.putfield 38, 3) := dk_181 0 38 (dk_at dksX7_text_5 3 rfl rfl)
theorem dX7_text_124 : decode cX7_text 124 = .ok (.aload_n 0, 1) := dk_42 (dk_at dksX7_text_5 6 rfl rfl)
theorem dX7_text_125 : decode cX7_text 125 = .ok (.getfield 118, 3) := dk_180 0 118 (dk_at dksX7_text_5 7 rfl rfl)
theorem dX7_text_128 : decode cX7_text 128 = .ok (.ifCond .eq 5, 3) := dk_153 0 5 (dk_at dksX7_text_5 10 rfl rfl)
theorem dX7_text_131 : decode cX7_text 131 = .ok (.iconst (-1), 1) := dk_2 (dk_at dksX7_text_5 13 rfl rfl)
theorem dX7_text_132 : decode cX7_text 132 = .ok (.ireturn, 1) := dk_172 (dk_at dksX7_text_5 14 rfl rfl)
theorem dX7_text_133 : decode cX7_text 133 = .ok (.aload_n 0, 1) := dk_42 (dk_at dksX7_text_5 15 rfl rfl)
theorem dX7_text_134 : decode cX7_text 134 = .ok (.aload_n 0, 1) := dk_42 (dk_at dksX7_text_5 16 rfl rfl)
theorem dX7_text_135 : decode cX7_text 135 = .ok (.getfield 134, 3) := dk_180 0 134 (dk_at dksX7_text_5 17 rfl rfl)
theorem dX7_text_138 : decode cX7_text 138 = .ok (.putfield 175, 3) := dk_181 0 175 (dk_at dksX7_text_5 20 rfl rfl)
theorem dX7_text_141 : decode cX7_text 141 = .ok (.iconst 0, 1) := dk_3 (dk_at dksX7_text_5 23 rfl rfl)
theorem dX7_text_142 : decode cX7_text 142 = .ok (.istore_n 2, 1) := dk_61 (dk_at dksX7_text_6 0 rfl rfl)
theorem dX7_text_143 : decode cX7_text 143 = .ok (.iload_n 2, 1) := dk_28 (dk_at dksX7_text_6 1 rfl rfl)
theorem dX7_text_144 : decode cX7_text 144 = .ok (.aload_n 0, 1) := dk_42 (dk_at dksX7_text_6 2 rfl rfl)
theorem dX7_text_145 : decode cX7_text 145 = .ok (.getfield 175, 3) := dk_180 0 175 (dk_at dksX7_text_6 3 rfl rfl)
theorem dX7_text_148 : decode cX7_text 148 = .ok (.if_icmp .ge 33, 3) := dk_162 0 33 (dk_at dksX7_text_6 6 rfl rfl)
theorem dX7_text_151 : decode cX7_text 151 = .ok (.aload_n 0, 1) := dk_42 (dk_at dksX7_text_6 9 rfl rfl)
theorem dX7_text_152 : decode cX7_text 152 = .ok (.getfield 13, 3) := dk_180 0 13 (dk_at dksX7_text_6 10 rfl rfl)
theorem dX7_text_155 : decode cX7_text 155 = .ok (.iload_n 2, 1) := dk_28 (dk_at dksX7_text_6 13 rfl rfl)
theorem dX7_text_156 : decode cX7_text 156 = .ok (.aload_n 0, 1) := dk_42 (dk_at dksX7_text_6 14 rfl rfl)
theorem dX7_text_157 : decode cX7_text 157 = .ok (.getfield 32, 3) := dk_180 0 32 (dk_at dksX7_text_6 15 rfl rfl)
theorem dX7_text_160 : decode cX7_text 160 = .ok (.iload_n 2, 1) := dk_28 (dk_at dksX7_text_6 18 rfl rfl)
theorem dX7_text_161 : decode cX7_text 161 = .ok (.iaload, 1) := dk_46 (dk_at dksX7_text_6 19 rfl rfl)
theorem dX7_text_162 : decode cX7_text 162 = .ok (.iastore, 1) := dk_79 (dk_at dksX7_text_6 20 rfl rfl)
theorem dX7_text_163 : decode cX7_text 163 = .ok (.aload_n 0, 1) := dk_42 (dk_at dksX7_text_6 21 rfl rfl)
theorem dX7_text_164 : decode cX7_text 164 = .ok (.getfield 16, 3) := dk_180 0 16 (dk_at dksX7_text_7 0 rfl rfl)
theorem dX7_text_167 : decode cX7_text 167 = .ok (.iload_n 2, 1) := dk_28 (dk_at dksX7_text_7 3 rfl rfl)
theorem dX7_text_168 : decode cX7_text 168 = .ok (.aload_n 0, 1) := dk_42 (dk_at dksX7_text_7 4 rfl rfl)
theorem dX7_text_169 : decode cX7_text 169 = .ok (.getfield 35, 3) := dk_180 0 35 (dk_at dksX7_text_7 5 rfl rfl)
theorem dX7_text_172 : decode cX7_text 172 = .ok (.iload_n 2, 1) := dk_28 (dk_at dksX7_text_7 8 rfl rfl)
theorem dX7_text_173 : decode cX7_text 173 = .ok (.iaload, 1) := dk_46 (dk_at dksX7_text_7 9 rfl rfl)
theorem dX7_text_174 : decode cX7_text 174 = .ok (.iastore, 1) := dk_79 (dk_at dksX7_text_7 10 rfl rfl)
theorem dX7_text_175 : decode cX7_text 175 = .ok (.iinc 2 1, 3) := dk_132 2 1 (dk_at dksX7_text_7 11 rfl rfl)
theorem dX7_text_178 : decode cX7_text 178 = .ok (.goto (-35), 3) := dk_167 255 221 (dk_at dksX7_text_7 14 rfl rfl)
theorem dX7_text_181 : decode cX7_text 181 = .ok (.aload_n 0, 1) := dk_42 (dk_at dksX7_text_7 17 rfl rfl)
theorem dX7_text_182 : decode cX7_text 182 = .ok (.aload_n 0, 1) := dk_42 (dk_at dksX7_text_7 18 rfl rfl)
theorem dX7_text_183 : decode cX7_text 183 = .ok (.getfield 145, 3) := dk_180 0 145 (dk_at dksX7_text_7 19 rfl rfl)
theorem dX7_text_186 : decode cX7_text 186 = .ok (.putfield 69, 3) := dk_181 0 69 (dk_at dksX7_text_8 0 rfl rfl)
theorem dX7_text_189 : decode cX7_text 189 = .ok (.aload_n 0, 1) := dk_42 (dk_at dksX7_text_8 3 rfl rfl)
theorem dX7_text_190 : decode cX7_text 190 = .ok (.aload_n 0, 1) := dk_42 (dk_at dksX7_text_8 4 rfl rfl)
theorem dX7_text_191 : decode cX7_text 191 = .ok (.getfield 151, 3) := dk_180 0 151 (dk_at dksX7_text_8 5 rfl rfl)
theorem dX7_text_194 : decode cX7_text 194 = .ok (.putfield 178, 3) := dk_181 0 178 (dk_at dksX7_text_8 8 rfl rfl)
theorem dX7_text_197 : decode cX7_text 197 = .ok (.aload_n 0, 1) := dk_42 (dk_at dksX7_text_8 11 rfl rfl)
theorem dX7_text_198 : decode cX7_text 198 = .ok (.aload_n 0, 1) := dk_42 (dk_at dksX7_text_8 12 rfl rfl)
theorem dX7_text_199 : decode cX7_text 199 = .ok (.getfield 166, 3) := dk_180 0 166 (dk_at dksX7_text_8 13 rfl rfl)
theorem dX7_text_202 : decode cX7_text 202 = .ok (.putfield 181, 3) := dk_181 0 181 (dk_at dksX7_text_8 16 rfl rfl)
theorem dX7_text_205 : decode cX7_text 205 = .ok (.aload_n 0, 1) := dk_42 (dk_at dksX7_text_8 19 rfl rfl)
theorem dX7_text_206 : decode cX7_text 206 = .ok (.iconst 0, 1) := dk_3 (dk_at dksX7_text_8 20 rfl rfl)
theorem dX7_text_207 : decode cX7_text 207 = .ok (.putfield 184, 3) := dk_181 0 184 (dk_at dksX7_text_8 21 rfl rfl)
theorem dX7_text_210 : decode cX7_text 210 = .ok (.aload_n 0, 1) := dk_42 (dk_at dksX7_text_9 0 rfl rfl)
theorem dX7_text_211 : decode cX7_text 211 = .ok (.bipush (-2), 2) := dk_16 254 (dk_at dksX7_text_9 1 rfl rfl)
theorem dX7_text_213 : decode cX7_text 213 = .ok (.putfield 28, 3) := dk_181 0 28 (dk_at dksX7_text_9 3 rfl rfl)
theorem dX7_text_216 : decode cX7_text 216 = .ok (.aload_n 0, 1) := dk_42 (dk_at dksX7_text_9 6 rfl rfl)
theorem dX7_text_217 : decode cX7_text 217 = .ok (.getfield 181, 3) := dk_180 0 181 (dk_at dksX7_text_9 7 rfl rfl)
theorem dX7_text_220 : decode cX7_text 220 = .ok (.ireturn, 1) := dk_172 (dk_at dksX7_text_9 10 rfl rfl)
abbrev cX7_token : ByteArray := prog_19_method_7_code
def yX7_token : MethodName := ⟨RX7, "token", "()V"⟩
def dkwX7_token_8 : List UInt8 := [5, 167, 0, 4, 7, 181, 0, 91, 42, 89, 180, 0, 78, 4, 96, 181, 0, 78, 177]
abbrev dktX7_token_8 : List UInt8 := dkwX7_token_8 ++ []
def dkwX7_token_7 : List UInt8 := [100, 181, 0, 101, 42, 89, 180, 0, 78, 4, 96, 181, 0, 78, 167, 255, 200, 42, 27, 16, 59, 160, 0, 7]
abbrev dktX7_token_7 : List UInt8 := dkwX7_token_7 ++ dktX7_token_8
def dkwX7_token_6 : List UInt8 := [164, 0, 10, 42, 180, 0, 101, 167, 0, 18, 16, 10, 42, 180, 0, 101, 104, 42, 182, 0, 84, 96, 16, 48]
abbrev dktX7_token_6 : List UInt8 := dkwX7_token_6 ++ dktX7_token_7
def dkwX7_token_5 : List UInt8 := [3, 181, 0, 101, 42, 182, 0, 84, 184, 0, 104, 153, 0, 77, 42, 42, 180, 0, 101, 17, 39, 15]
abbrev dktX7_token_5 : List UInt8 := dkwX7_token_5 ++ dktX7_token_6
def dkwX7_token_4 : List UInt8 := [42, 42, 182, 0, 98, 181, 0, 101, 167, 0, 104, 27, 184, 0, 104, 153, 0, 72, 42, 4, 181, 0, 91, 42]
abbrev dktX7_token_4 : List UInt8 := dkwX7_token_4 ++ dktX7_token_5
def dkwX7_token_3 : List UInt8 := [184, 0, 94, 153, 0, 16, 42, 89, 180, 0, 78, 4, 96, 181, 0, 78, 167, 255, 236, 42, 3, 181, 0, 91]
abbrev dktX7_token_3 : List UInt8 := dkwX7_token_3 ++ dktX7_token_4
def dkwX7_token_2 : List UInt8 := [160, 0, 11, 42, 6, 181, 0, 91, 167, 0, 150, 27, 184, 0, 94, 153, 0, 42, 42, 182, 0, 84]
abbrev dktX7_token_2 : List UInt8 := dkwX7_token_2 ++ dktX7_token_3
def dkwX7_token_1 : List UInt8 := [96, 181, 0, 78, 167, 255, 228, 42, 42, 180, 0, 78, 181, 0, 88, 42, 182, 0, 84, 60, 27, 2]
abbrev dktX7_token_1 : List UInt8 := dkwX7_token_1 ++ dktX7_token_2
def dkwX7_token_0 : List UInt8 := [42, 182, 0, 84, 16, 10, 159, 0, 12, 42, 182, 0, 84, 16, 32, 160, 0, 16, 42, 89, 180, 0, 78, 4]
abbrev dktX7_token_0 : List UInt8 := dkwX7_token_0 ++ dktX7_token_1
theorem dksX7_token_0 : cX7_token.data.toList.drop 0 = dktX7_token_0 := by decide +kernel
theorem dksX7_token_1 : cX7_token.data.toList.drop 24 = dktX7_token_1 := dk_seg dksX7_token_0 24 rfl rfl
theorem dksX7_token_2 : cX7_token.data.toList.drop 46 = dktX7_token_2 := dk_seg dksX7_token_1 22 rfl rfl
theorem dksX7_token_3 : cX7_token.data.toList.drop 68 = dktX7_token_3 := dk_seg dksX7_token_2 22 rfl rfl
theorem dksX7_token_4 : cX7_token.data.toList.drop 92 = dktX7_token_4 := dk_seg dksX7_token_3 24 rfl rfl
theorem dksX7_token_5 : cX7_token.data.toList.drop 116 = dktX7_token_5 := dk_seg dksX7_token_4 24 rfl rfl
theorem dksX7_token_6 : cX7_token.data.toList.drop 138 = dktX7_token_6 := dk_seg dksX7_token_5 22 rfl rfl
theorem dksX7_token_7 : cX7_token.data.toList.drop 162 = dktX7_token_7 := dk_seg dksX7_token_6 24 rfl rfl
theorem dksX7_token_8 : cX7_token.data.toList.drop 186 = dktX7_token_8 := dk_seg dksX7_token_7 24 rfl rfl
theorem dX7_token_0 : decode cX7_token 0 = .ok (.aload_n 0, 1) := dk_42 (dk_at dksX7_token_0 0 rfl rfl)
theorem dX7_token_1 : decode cX7_token 1 = .ok (.invokevirtual 84, 3) := dk_182 0 84 (dk_at dksX7_token_0 1 rfl rfl)
theorem dX7_token_4 : decode cX7_token 4 = .ok (.bipush 10, 2) := dk_16 10 (dk_at dksX7_token_0 4 rfl rfl)
theorem dX7_token_6 : decode cX7_token 6 = .ok (.if_icmp .eq 12, 3) := dk_159 0 12 (dk_at dksX7_token_0 6 rfl rfl)
theorem dX7_token_9 : decode cX7_token 9 = .ok (.aload_n 0, 1) := dk_42 (dk_at dksX7_token_0 9 rfl rfl)
theorem dX7_token_10 : decode cX7_token 10 = .ok (.invokevirtual 84, 3) := dk_182 0 84 (dk_at dksX7_token_0 10 rfl rfl)
theorem dX7_token_13 : decode cX7_token 13 = .ok (.bipush 32, 2) := dk_16 32 (dk_at dksX7_token_0 13 rfl rfl)
theorem dX7_token_15 : decode cX7_token 15 = .ok (.if_icmp .ne 16, 3) := dk_160 0 16 (dk_at dksX7_token_0 15 rfl rfl)
theorem dX7_token_18 : decode cX7_token 18 = .ok (.aload_n 0, 1) := dk_42 (dk_at dksX7_token_0 18 rfl rfl)
theorem dX7_token_19 : decode cX7_token 19 = .ok (.dup, 1) := dk_89 (dk_at dksX7_token_0 19 rfl rfl)
theorem dX7_token_20 : decode cX7_token 20 = .ok (.getfield 78, 3) := dk_180 0 78 (dk_at dksX7_token_0 20 rfl rfl)
theorem dX7_token_23 : decode cX7_token 23 = .ok (.iconst 1, 1) := dk_4 (dk_at dksX7_token_0 23 rfl rfl)
theorem dX7_token_24 : decode cX7_token 24 = .ok (.iadd, 1) := dk_96 (dk_at dksX7_token_1 0 rfl rfl)
theorem dX7_token_25 : decode cX7_token 25 = .ok (.putfield 78, 3) := dk_181 0 78 (dk_at dksX7_token_1 1 rfl rfl)
theorem dX7_token_28 : decode cX7_token 28 = .ok (.goto (-28), 3) := dk_167 255 228 (dk_at dksX7_token_1 4 rfl rfl)
theorem dX7_token_31 : decode cX7_token 31 = .ok (.aload_n 0, 1) := dk_42 (dk_at dksX7_token_1 7 rfl rfl)
theorem dX7_token_32 : decode cX7_token 32 = .ok (.aload_n 0, 1) := dk_42 (dk_at dksX7_token_1 8 rfl rfl)
theorem dX7_token_33 : decode cX7_token 33 = .ok (.getfield 78, 3) := dk_180 0 78 (dk_at dksX7_token_1 9 rfl rfl)
theorem dX7_token_36 : decode cX7_token 36 = .ok (.putfield 88, 3) := dk_181 0 88 (dk_at dksX7_token_1 12 rfl rfl)
theorem dX7_token_39 : decode cX7_token 39 = .ok (.aload_n 0, 1) := dk_42 (dk_at dksX7_token_1 15 rfl rfl)
theorem dX7_token_40 : decode cX7_token 40 = .ok (.invokevirtual 84, 3) := dk_182 0 84 (dk_at dksX7_token_1 16 rfl rfl)
theorem dX7_token_43 : decode cX7_token 43 = .ok (.istore_n 1, 1) := dk_60 (dk_at dksX7_token_1 19 rfl rfl)
theorem dX7_token_44 : decode cX7_token 44 = .ok (.iload_n 1, 1) := dk_27 (dk_at dksX7_token_1 20 rfl rfl)
theorem dX7_token_45 : decode cX7_token 45 = .ok (.iconst (-1), 1) := dk_2 (dk_at dksX7_token_1 21 rfl rfl)
theorem dX7_token_46 : decode cX7_token 46 = .ok (.if_icmp .ne 11, 3) := dk_160 0 11 (dk_at dksX7_token_2 0 rfl rfl)
theorem dX7_token_49 : decode cX7_token 49 = .ok (.aload_n 0, 1) := dk_42 (dk_at dksX7_token_2 3 rfl rfl)
theorem dX7_token_50 : decode cX7_token 50 = .ok (.iconst 3, 1) := dk_6 (dk_at dksX7_token_2 4 rfl rfl)
theorem dX7_token_51 : decode cX7_token 51 = .ok (.putfield 91, 3) := dk_181 0 91 (dk_at dksX7_token_2 5 rfl rfl)
theorem dX7_token_54 : decode cX7_token 54 = .ok (.goto 150, 3) := dk_167 0 150 (dk_at dksX7_token_2 8 rfl rfl)
theorem dX7_token_57 : decode cX7_token 57 = .ok (.iload_n 1, 1) := dk_27 (dk_at dksX7_token_2 11 rfl rfl)
theorem dX7_token_58 : decode cX7_token 58 = .ok (.invokestatic 94, 3) := dk_184 0 94 (dk_at dksX7_token_2 12 rfl rfl)
theorem dX7_token_61 : decode cX7_token 61 = .ok (.ifCond .eq 42, 3) := dk_153 0 42 (dk_at dksX7_token_2 15 rfl rfl)
theorem dX7_token_64 : decode cX7_token 64 = .ok (.aload_n 0, 1) := dk_42 (dk_at dksX7_token_2 18 rfl rfl)
theorem dX7_token_65 : decode cX7_token 65 = .ok (.invokevirtual 84, 3) := dk_182 0 84 (dk_at dksX7_token_2 19 rfl rfl)
theorem dX7_token_68 : decode cX7_token 68 = .ok (.invokestatic 94, 3) := dk_184 0 94 (dk_at dksX7_token_3 0 rfl rfl)
theorem dX7_token_71 : decode cX7_token 71 = .ok (.ifCond .eq 16, 3) := dk_153 0 16 (dk_at dksX7_token_3 3 rfl rfl)
theorem dX7_token_74 : decode cX7_token 74 = .ok (.aload_n 0, 1) := dk_42 (dk_at dksX7_token_3 6 rfl rfl)
theorem dX7_token_75 : decode cX7_token 75 = .ok (.dup, 1) := dk_89 (dk_at dksX7_token_3 7 rfl rfl)
theorem dX7_token_76 : decode cX7_token 76 = .ok (.getfield 78, 3) := dk_180 0 78 (dk_at dksX7_token_3 8 rfl rfl)
theorem dX7_token_79 : decode cX7_token 79 = .ok (.iconst 1, 1) := dk_4 (dk_at dksX7_token_3 11 rfl rfl)
theorem dX7_token_80 : decode cX7_token 80 = .ok (.iadd, 1) := dk_96 (dk_at dksX7_token_3 12 rfl rfl)
theorem dX7_token_81 : decode cX7_token 81 = .ok (.putfield 78, 3) := dk_181 0 78 (dk_at dksX7_token_3 13 rfl rfl)
theorem dX7_token_84 : decode cX7_token 84 = .ok (.goto (-20), 3) := dk_167 255 236 (dk_at dksX7_token_3 16 rfl rfl)
theorem dX7_token_87 : decode cX7_token 87 = .ok (.aload_n 0, 1) := dk_42 (dk_at dksX7_token_3 19 rfl rfl)
theorem dX7_token_88 : decode cX7_token 88 = .ok (.iconst 0, 1) := dk_3 (dk_at dksX7_token_3 20 rfl rfl)
theorem dX7_token_89 : decode cX7_token 89 = .ok (.putfield 91, 3) := dk_181 0 91 (dk_at dksX7_token_3 21 rfl rfl)
theorem dX7_token_92 : decode cX7_token 92 = .ok (.aload_n 0, 1) := dk_42 (dk_at dksX7_token_4 0 rfl rfl)
theorem dX7_token_93 : decode cX7_token 93 = .ok (.aload_n 0, 1) := dk_42 (dk_at dksX7_token_4 1 rfl rfl)
theorem dX7_token_94 : decode cX7_token 94 = .ok (.invokevirtual 98, 3) := dk_182 0 98 (dk_at dksX7_token_4 2 rfl rfl)
theorem dX7_token_97 : decode cX7_token 97 = .ok (.putfield 101, 3) := dk_181 0 101 (dk_at dksX7_token_4 5 rfl rfl)
theorem dX7_token_100 : decode cX7_token 100 = .ok (.goto 104, 3) := dk_167 0 104 (dk_at dksX7_token_4 8 rfl rfl)
theorem dX7_token_103 : decode cX7_token 103 = .ok (.iload_n 1, 1) := dk_27 (dk_at dksX7_token_4 11 rfl rfl)
theorem dX7_token_104 : decode cX7_token 104 = .ok (.invokestatic 104, 3) := dk_184 0 104 (dk_at dksX7_token_4 12 rfl rfl)
theorem dX7_token_107 : decode cX7_token 107 = .ok (.ifCond .eq 72, 3) := dk_153 0 72 (dk_at dksX7_token_4 15 rfl rfl)
theorem dX7_token_110 : decode cX7_token 110 = .ok (.aload_n 0, 1) := dk_42 (dk_at dksX7_token_4 18 rfl rfl)
theorem dX7_token_111 : decode cX7_token 111 = .ok (.iconst 1, 1) := dk_4 (dk_at dksX7_token_4 19 rfl rfl)
theorem dX7_token_112 : decode cX7_token 112 = .ok (.putfield 91, 3) := dk_181 0 91 (dk_at dksX7_token_4 20 rfl rfl)
theorem dX7_token_115 : decode cX7_token 115 = .ok (.aload_n 0, 1) := dk_42 (dk_at dksX7_token_4 23 rfl rfl)
theorem dX7_token_116 : decode cX7_token 116 = .ok (.iconst 0, 1) := dk_3 (dk_at dksX7_token_5 0 rfl rfl)
theorem dX7_token_117 : decode cX7_token 117 = .ok (.putfield 101, 3) := dk_181 0 101 (dk_at dksX7_token_5 1 rfl rfl)
theorem dX7_token_120 : decode cX7_token 120 = .ok (.aload_n 0, 1) := dk_42 (dk_at dksX7_token_5 4 rfl rfl)
theorem dX7_token_121 : decode cX7_token 121 = .ok (.invokevirtual 84, 3) := dk_182 0 84 (dk_at dksX7_token_5 5 rfl rfl)
theorem dX7_token_124 : decode cX7_token 124 = .ok (.invokestatic 104, 3) := dk_184 0 104 (dk_at dksX7_token_5 8 rfl rfl)
theorem dX7_token_127 : decode cX7_token 127 = .ok (.ifCond .eq 77, 3) := dk_153 0 77 (dk_at dksX7_token_5 11 rfl rfl)
theorem dX7_token_130 : decode cX7_token 130 = .ok (.aload_n 0, 1) := dk_42 (dk_at dksX7_token_5 14 rfl rfl)
theorem dX7_token_131 : decode cX7_token 131 = .ok (.aload_n 0, 1) := dk_42 (dk_at dksX7_token_5 15 rfl rfl)
theorem dX7_token_132 : decode cX7_token 132 = .ok (.getfield 101, 3) := dk_180 0 101 (dk_at dksX7_token_5 16 rfl rfl)
theorem dX7_token_135 : decode cX7_token 135 = .ok (.sipush 9999, 3) := dk_17 39 15 (dk_at dksX7_token_5 19 rfl rfl)
theorem dX7_token_138 : decode cX7_token 138 = .ok (.if_icmp .le 10, 3) := dk_164 0 10 (dk_at dksX7_token_6 0 rfl rfl)
theorem dX7_token_141 : decode cX7_token 141 = .ok (.aload_n 0, 1) := dk_42 (dk_at dksX7_token_6 3 rfl rfl)
theorem dX7_token_142 : decode cX7_token 142 = .ok (.getfield 101, 3) := dk_180 0 101 (dk_at dksX7_token_6 4 rfl rfl)
theorem dX7_token_145 : decode cX7_token 145 = .ok (.goto 18, 3) := dk_167 0 18 (dk_at dksX7_token_6 7 rfl rfl)
theorem dX7_token_148 : decode cX7_token 148 = .ok (.bipush 10, 2) := dk_16 10 (dk_at dksX7_token_6 10 rfl rfl)
theorem dX7_token_150 : decode cX7_token 150 = .ok (.aload_n 0, 1) := dk_42 (dk_at dksX7_token_6 12 rfl rfl)
theorem dX7_token_151 : decode cX7_token 151 = .ok (.getfield 101, 3) := dk_180 0 101 (dk_at dksX7_token_6 13 rfl rfl)
theorem dX7_token_154 : decode cX7_token 154 = .ok (.imul, 1) := dk_104 (dk_at dksX7_token_6 16 rfl rfl)
theorem dX7_token_155 : decode cX7_token 155 = .ok (.aload_n 0, 1) := dk_42 (dk_at dksX7_token_6 17 rfl rfl)
theorem dX7_token_156 : decode cX7_token 156 = .ok (.invokevirtual 84, 3) := dk_182 0 84 (dk_at dksX7_token_6 18 rfl rfl)
theorem dX7_token_159 : decode cX7_token 159 = .ok (.iadd, 1) := dk_96 (dk_at dksX7_token_6 21 rfl rfl)
theorem dX7_token_160 : decode cX7_token 160 = .ok (.bipush 48, 2) := dk_16 48 (dk_at dksX7_token_6 22 rfl rfl)
theorem dX7_token_162 : decode cX7_token 162 = .ok (.isub, 1) := dk_100 (dk_at dksX7_token_7 0 rfl rfl)
theorem dX7_token_163 : decode cX7_token 163 = .ok (.putfield 101, 3) := dk_181 0 101 (dk_at dksX7_token_7 1 rfl rfl)
theorem dX7_token_166 : decode cX7_token 166 = .ok (.aload_n 0, 1) := dk_42 (dk_at dksX7_token_7 4 rfl rfl)
theorem dX7_token_167 : decode cX7_token 167 = .ok (.dup, 1) := dk_89 (dk_at dksX7_token_7 5 rfl rfl)
theorem dX7_token_168 : decode cX7_token 168 = .ok (.getfield 78, 3) := dk_180 0 78 (dk_at dksX7_token_7 6 rfl rfl)
theorem dX7_token_171 : decode cX7_token 171 = .ok (.iconst 1, 1) := dk_4 (dk_at dksX7_token_7 9 rfl rfl)
theorem dX7_token_172 : decode cX7_token 172 = .ok (.iadd, 1) := dk_96 (dk_at dksX7_token_7 10 rfl rfl)
theorem dX7_token_173 : decode cX7_token 173 = .ok (.putfield 78, 3) := dk_181 0 78 (dk_at dksX7_token_7 11 rfl rfl)
theorem dX7_token_176 : decode cX7_token 176 = .ok (.goto (-56), 3) := dk_167 255 200 (dk_at dksX7_token_7 14 rfl rfl)
theorem dX7_token_179 : decode cX7_token 179 = .ok (.aload_n 0, 1) := dk_42 (dk_at dksX7_token_7 17 rfl rfl)
theorem dX7_token_180 : decode cX7_token 180 = .ok (.iload_n 1, 1) := dk_27 (dk_at dksX7_token_7 18 rfl rfl)
theorem dX7_token_181 : decode cX7_token 181 = .ok (.bipush 59, 2) := dk_16 59 (dk_at dksX7_token_7 19 rfl rfl)
theorem dX7_token_183 : decode cX7_token 183 = .ok (.if_icmp .ne 7, 3) := dk_160 0 7 (dk_at dksX7_token_7 21 rfl rfl)
theorem dX7_token_186 : decode cX7_token 186 = .ok (.iconst 2, 1) := dk_5 (dk_at dksX7_token_8 0 rfl rfl)
theorem dX7_token_187 : decode cX7_token 187 = .ok (.goto 4, 3) := dk_167 0 4 (dk_at dksX7_token_8 1 rfl rfl)
theorem dX7_token_190 : decode cX7_token 190 = .ok (.iconst 4, 1) := dk_7 (dk_at dksX7_token_8 4 rfl rfl)
theorem dX7_token_191 : decode cX7_token 191 = .ok (.putfield 91, 3) := dk_181 0 91 (dk_at dksX7_token_8 5 rfl rfl)
theorem dX7_token_194 : decode cX7_token 194 = .ok (.aload_n 0, 1) := dk_42 (dk_at dksX7_token_8 8 rfl rfl)
theorem dX7_token_195 : decode cX7_token 195 = .ok (.dup, 1) := dk_89 (dk_at dksX7_token_8 9 rfl rfl)
theorem dX7_token_196 : decode cX7_token 196 = .ok (.getfield 78, 3) := dk_180 0 78 (dk_at dksX7_token_8 10 rfl rfl)
theorem dX7_token_199 : decode cX7_token 199 = .ok (.iconst 1, 1) := dk_4 (dk_at dksX7_token_8 13 rfl rfl)
theorem dX7_token_200 : decode cX7_token 200 = .ok (.iadd, 1) := dk_96 (dk_at dksX7_token_8 14 rfl rfl)
theorem dX7_token_201 : decode cX7_token 201 = .ok (.putfield 78, 3) := dk_181 0 78 (dk_at dksX7_token_8 15 rfl rfl)
theorem dX7_token_204 : decode cX7_token 204 = .ok (.return_, 1) := dk_177 (dk_at dksX7_token_8 18 rfl rfl)
abbrev cX7_here : ByteArray := prog_19_method_4_code
def yX7_here : MethodName := ⟨RX7, "here", "()I"⟩
def dkwX7_here_1 : List UInt8 := [172]
abbrev dktX7_here_1 : List UInt8 := dkwX7_here_1 ++ []
def dkwX7_here_0 : List UInt8 := [42, 180, 0, 78, 42, 180, 0, 81, 162, 0, 15, 42, 180, 0, 7, 42, 180, 0, 78, 46, 167, 0, 4, 2]
abbrev dktX7_here_0 : List UInt8 := dkwX7_here_0 ++ dktX7_here_1
theorem dksX7_here_0 : cX7_here.data.toList.drop 0 = dktX7_here_0 := by decide +kernel
theorem dksX7_here_1 : cX7_here.data.toList.drop 24 = dktX7_here_1 := dk_seg dksX7_here_0 24 rfl rfl
theorem dX7_here_0 : decode cX7_here 0 = .ok (.aload_n 0, 1) := dk_42 (dk_at dksX7_here_0 0 rfl rfl)
theorem dX7_here_1 : decode cX7_here 1 = .ok (.getfield 78, 3) := dk_180 0 78 (dk_at dksX7_here_0 1 rfl rfl)
theorem dX7_here_4 : decode cX7_here 4 = .ok (.aload_n 0, 1) := dk_42 (dk_at dksX7_here_0 4 rfl rfl)
theorem dX7_here_5 : decode cX7_here 5 = .ok (.getfield 81, 3) := dk_180 0 81 (dk_at dksX7_here_0 5 rfl rfl)
theorem dX7_here_8 : decode cX7_here 8 = .ok (.if_icmp .ge 15, 3) := dk_162 0 15 (dk_at dksX7_here_0 8 rfl rfl)
theorem dX7_here_11 : decode cX7_here 11 = .ok (.aload_n 0, 1) := dk_42 (dk_at dksX7_here_0 11 rfl rfl)
theorem dX7_here_12 : decode cX7_here 12 = .ok (.getfield 7, 3) := dk_180 0 7 (dk_at dksX7_here_0 12 rfl rfl)
theorem dX7_here_15 : decode cX7_here 15 = .ok (.aload_n 0, 1) := dk_42 (dk_at dksX7_here_0 15 rfl rfl)
theorem dX7_here_16 : decode cX7_here 16 = .ok (.getfield 78, 3) := dk_180 0 78 (dk_at dksX7_here_0 16 rfl rfl)
theorem dX7_here_19 : decode cX7_here 19 = .ok (.iaload, 1) := dk_46 (dk_at dksX7_here_0 19 rfl rfl)
theorem dX7_here_20 : decode cX7_here 20 = .ok (.goto 4, 3) := dk_167 0 4 (dk_at dksX7_here_0 20 rfl rfl)
theorem dX7_here_23 : decode cX7_here 23 = .ok (.iconst (-1), 1) := dk_2 (dk_at dksX7_here_0 23 rfl rfl)
theorem dX7_here_24 : decode cX7_here 24 = .ok (.ireturn, 1) := dk_172 (dk_at dksX7_here_1 0 rfl rfl)
abbrev cX7_isSmall : ByteArray := prog_19_method_5_code
def yX7_isSmall : MethodName := ⟨RX7, "isSmall", "(I)Z"⟩
def dkwX7_isSmall_0 : List UInt8 := [26, 16, 97, 161, 0, 13, 26, 16, 122, 163, 0, 7, 4, 167, 0, 4, 3, 172]
abbrev dktX7_isSmall_0 : List UInt8 := dkwX7_isSmall_0 ++ []
theorem dksX7_isSmall_0 : cX7_isSmall.data.toList.drop 0 = dktX7_isSmall_0 := by decide +kernel
theorem dX7_isSmall_0 : decode cX7_isSmall 0 = .ok (.iload_n 0, 1) := dk_26 (dk_at dksX7_isSmall_0 0 rfl rfl)
theorem dX7_isSmall_1 : decode cX7_isSmall 1 = .ok (.bipush 97, 2) := dk_16 97 (dk_at dksX7_isSmall_0 1 rfl rfl)
theorem dX7_isSmall_3 : decode cX7_isSmall 3 = .ok (.if_icmp .lt 13, 3) := dk_161 0 13 (dk_at dksX7_isSmall_0 3 rfl rfl)
theorem dX7_isSmall_6 : decode cX7_isSmall 6 = .ok (.iload_n 0, 1) := dk_26 (dk_at dksX7_isSmall_0 6 rfl rfl)
theorem dX7_isSmall_7 : decode cX7_isSmall 7 = .ok (.bipush 122, 2) := dk_16 122 (dk_at dksX7_isSmall_0 7 rfl rfl)
theorem dX7_isSmall_9 : decode cX7_isSmall 9 = .ok (.if_icmp .gt 7, 3) := dk_163 0 7 (dk_at dksX7_isSmall_0 9 rfl rfl)
theorem dX7_isSmall_12 : decode cX7_isSmall 12 = .ok (.iconst 1, 1) := dk_4 (dk_at dksX7_isSmall_0 12 rfl rfl)
theorem dX7_isSmall_13 : decode cX7_isSmall 13 = .ok (.goto 4, 3) := dk_167 0 4 (dk_at dksX7_isSmall_0 13 rfl rfl)
theorem dX7_isSmall_16 : decode cX7_isSmall 16 = .ok (.iconst 0, 1) := dk_3 (dk_at dksX7_isSmall_0 16 rfl rfl)
theorem dX7_isSmall_17 : decode cX7_isSmall 17 = .ok (.ireturn, 1) := dk_172 (dk_at dksX7_isSmall_0 17 rfl rfl)
abbrev cX7_wordHere : ByteArray := prog_19_method_8_code
def yX7_wordHere : MethodName := ⟨RX7, "wordHere", "()I"⟩
def dkwX7_wordHere_5 : List UInt8 := [132, 2, 1, 132, 1, 1, 167, 255, 140, 2, 172]
abbrev dktX7_wordHere_5 : List UInt8 := dkwX7_wordHere_5 ++ []
def dkwX7_wordHere_4 : List UInt8 := [160, 0, 5, 27, 172, 18, 107, 28, 182, 0, 114, 16, 32, 159, 0, 9, 132, 2, 1, 167, 255, 242]
abbrev dktX7_wordHere_4 : List UInt8 := dkwX7_wordHere_4 ++ dktX7_wordHere_5
def dkwX7_wordHere_3 : List UInt8 := [18, 107, 28, 29, 96, 182, 0, 114, 16, 32, 160, 0, 18, 42, 180, 0, 88, 29, 96, 42, 180, 0, 78]
abbrev dktX7_wordHere_3 : List UInt8 := dkwX7_wordHere_3 ++ dktX7_wordHere_4
def dkwX7_wordHere_2 : List UInt8 := [180, 0, 88, 29, 96, 46, 18, 107, 28, 29, 96, 182, 0, 114, 160, 0, 9, 132, 3, 1, 167, 255, 205]
abbrev dktX7_wordHere_2 : List UInt8 := dkwX7_wordHere_2 ++ dktX7_wordHere_3
def dkwX7_wordHere_1 : List UInt8 := [16, 32, 159, 0, 44, 42, 180, 0, 88, 29, 96, 42, 180, 0, 78, 162, 0, 31, 42, 180, 0, 7, 42]
abbrev dktX7_wordHere_1 : List UInt8 := dkwX7_wordHere_1 ++ dktX7_wordHere_2
def dkwX7_wordHere_0 : List UInt8 := [3, 60, 3, 61, 28, 18, 107, 182, 0, 109, 162, 0, 113, 3, 62, 18, 107, 28, 29, 96, 182, 0, 114]
abbrev dktX7_wordHere_0 : List UInt8 := dkwX7_wordHere_0 ++ dktX7_wordHere_1
theorem dksX7_wordHere_0 : cX7_wordHere.data.toList.drop 0 = dktX7_wordHere_0 := by decide +kernel
theorem dksX7_wordHere_1 : cX7_wordHere.data.toList.drop 23 = dktX7_wordHere_1 := dk_seg dksX7_wordHere_0 23 rfl rfl
theorem dksX7_wordHere_2 : cX7_wordHere.data.toList.drop 46 = dktX7_wordHere_2 := dk_seg dksX7_wordHere_1 23 rfl rfl
theorem dksX7_wordHere_3 : cX7_wordHere.data.toList.drop 69 = dktX7_wordHere_3 := dk_seg dksX7_wordHere_2 23 rfl rfl
theorem dksX7_wordHere_4 : cX7_wordHere.data.toList.drop 92 = dktX7_wordHere_4 := dk_seg dksX7_wordHere_3 23 rfl rfl
theorem dksX7_wordHere_5 : cX7_wordHere.data.toList.drop 114 = dktX7_wordHere_5 := dk_seg dksX7_wordHere_4 22 rfl rfl
theorem dX7_wordHere_0 : decode cX7_wordHere 0 = .ok (.iconst 0, 1) := dk_3 (dk_at dksX7_wordHere_0 0 rfl rfl)
theorem dX7_wordHere_1 : decode cX7_wordHere 1 = .ok (.istore_n 1, 1) := dk_60 (dk_at dksX7_wordHere_0 1 rfl rfl)
theorem dX7_wordHere_2 : decode cX7_wordHere 2 = .ok (.iconst 0, 1) := dk_3 (dk_at dksX7_wordHere_0 2 rfl rfl)
theorem dX7_wordHere_3 : decode cX7_wordHere 3 = .ok (.istore_n 2, 1) := dk_61 (dk_at dksX7_wordHere_0 3 rfl rfl)
theorem dX7_wordHere_4 : decode cX7_wordHere 4 = .ok (.iload_n 2, 1) := dk_28 (dk_at dksX7_wordHere_0 4 rfl rfl)
theorem dX7_wordHere_5 : decode cX7_wordHere 5 = .ok (.ldc 107, 2) := dk_18 107 (dk_at dksX7_wordHere_0 5 rfl rfl)
theorem dX7_wordHere_7 : decode cX7_wordHere 7 = .ok (.invokevirtual 109, 3) := dk_182 0 109 (dk_at dksX7_wordHere_0 7 rfl rfl)
theorem dX7_wordHere_10 : decode cX7_wordHere 10 = .ok (.if_icmp .ge 113, 3) := dk_162 0 113 (dk_at dksX7_wordHere_0 10 rfl rfl)
theorem dX7_wordHere_13 : decode cX7_wordHere 13 = .ok (.iconst 0, 1) := dk_3 (dk_at dksX7_wordHere_0 13 rfl rfl)
theorem dX7_wordHere_14 : decode cX7_wordHere 14 = .ok (.istore_n 3, 1) := dk_62 (dk_at dksX7_wordHere_0 14 rfl rfl)
theorem dX7_wordHere_15 : decode cX7_wordHere 15 = .ok (.ldc 107, 2) := dk_18 107 (dk_at dksX7_wordHere_0 15 rfl rfl)
theorem dX7_wordHere_17 : decode cX7_wordHere 17 = .ok (.iload_n 2, 1) := dk_28 (dk_at dksX7_wordHere_0 17 rfl rfl)
theorem dX7_wordHere_18 : decode cX7_wordHere 18 = .ok (.iload_n 3, 1) := dk_29 (dk_at dksX7_wordHere_0 18 rfl rfl)
theorem dX7_wordHere_19 : decode cX7_wordHere 19 = .ok (.iadd, 1) := dk_96 (dk_at dksX7_wordHere_0 19 rfl rfl)
theorem dX7_wordHere_20 : decode cX7_wordHere 20 = .ok (.invokevirtual 114, 3) := dk_182 0 114 (dk_at dksX7_wordHere_0 20 rfl rfl)
theorem dX7_wordHere_23 : decode cX7_wordHere 23 = .ok (.bipush 32, 2) := dk_16 32 (dk_at dksX7_wordHere_1 0 rfl rfl)
theorem dX7_wordHere_25 : decode cX7_wordHere 25 = .ok (.if_icmp .eq 44, 3) := dk_159 0 44 (dk_at dksX7_wordHere_1 2 rfl rfl)
theorem dX7_wordHere_28 : decode cX7_wordHere 28 = .ok (.aload_n 0, 1) := dk_42 (dk_at dksX7_wordHere_1 5 rfl rfl)
theorem dX7_wordHere_29 : decode cX7_wordHere 29 = .ok (.getfield 88, 3) := dk_180 0 88 (dk_at dksX7_wordHere_1 6 rfl rfl)
theorem dX7_wordHere_32 : decode cX7_wordHere 32 = .ok (.iload_n 3, 1) := dk_29 (dk_at dksX7_wordHere_1 9 rfl rfl)
theorem dX7_wordHere_33 : decode cX7_wordHere 33 = .ok (.iadd, 1) := dk_96 (dk_at dksX7_wordHere_1 10 rfl rfl)
theorem dX7_wordHere_34 : decode cX7_wordHere 34 = .ok (.aload_n 0, 1) := dk_42 (dk_at dksX7_wordHere_1 11 rfl rfl)
theorem dX7_wordHere_35 : decode cX7_wordHere 35 = .ok (.getfield 78, 3) := dk_180 0 78 (dk_at dksX7_wordHere_1 12 rfl rfl)
theorem dX7_wordHere_38 : decode cX7_wordHere 38 = .ok (.if_icmp .ge 31, 3) := dk_162 0 31 (dk_at dksX7_wordHere_1 15 rfl rfl)
theorem dX7_wordHere_41 : decode cX7_wordHere 41 = .ok (.aload_n 0, 1) := dk_42 (dk_at dksX7_wordHere_1 18 rfl rfl)
theorem dX7_wordHere_42 : decode cX7_wordHere 42 = .ok (.getfield 7, 3) := dk_180 0 7 (dk_at dksX7_wordHere_1 19 rfl rfl)
theorem dX7_wordHere_45 : decode cX7_wordHere 45 = .ok (.aload_n 0, 1) := dk_42 (dk_at dksX7_wordHere_1 22 rfl rfl)
theorem dX7_wordHere_46 : decode cX7_wordHere 46 = .ok (.getfield 88, 3) := dk_180 0 88 (dk_at dksX7_wordHere_2 0 rfl rfl)
theorem dX7_wordHere_49 : decode cX7_wordHere 49 = .ok (.iload_n 3, 1) := dk_29 (dk_at dksX7_wordHere_2 3 rfl rfl)
theorem dX7_wordHere_50 : decode cX7_wordHere 50 = .ok (.iadd, 1) := dk_96 (dk_at dksX7_wordHere_2 4 rfl rfl)
theorem dX7_wordHere_51 : decode cX7_wordHere 51 = .ok (.iaload, 1) := dk_46 (dk_at dksX7_wordHere_2 5 rfl rfl)
theorem dX7_wordHere_52 : decode cX7_wordHere 52 = .ok (.ldc 107, 2) := dk_18 107 (dk_at dksX7_wordHere_2 6 rfl rfl)
theorem dX7_wordHere_54 : decode cX7_wordHere 54 = .ok (.iload_n 2, 1) := dk_28 (dk_at dksX7_wordHere_2 8 rfl rfl)
theorem dX7_wordHere_55 : decode cX7_wordHere 55 = .ok (.iload_n 3, 1) := dk_29 (dk_at dksX7_wordHere_2 9 rfl rfl)
theorem dX7_wordHere_56 : decode cX7_wordHere 56 = .ok (.iadd, 1) := dk_96 (dk_at dksX7_wordHere_2 10 rfl rfl)
theorem dX7_wordHere_57 : decode cX7_wordHere 57 = .ok (.invokevirtual 114, 3) := dk_182 0 114 (dk_at dksX7_wordHere_2 11 rfl rfl)
theorem dX7_wordHere_60 : decode cX7_wordHere 60 = .ok (.if_icmp .ne 9, 3) := dk_160 0 9 (dk_at dksX7_wordHere_2 14 rfl rfl)
theorem dX7_wordHere_63 : decode cX7_wordHere 63 = .ok (.iinc 3 1, 3) := dk_132 3 1 (dk_at dksX7_wordHere_2 17 rfl rfl)
theorem dX7_wordHere_66 : decode cX7_wordHere 66 = .ok (.goto (-51), 3) := dk_167 255 205 (dk_at dksX7_wordHere_2 20 rfl rfl)
theorem dX7_wordHere_69 : decode cX7_wordHere 69 = .ok (.ldc 107, 2) := dk_18 107 (dk_at dksX7_wordHere_3 0 rfl rfl)
theorem dX7_wordHere_71 : decode cX7_wordHere 71 = .ok (.iload_n 2, 1) := dk_28 (dk_at dksX7_wordHere_3 2 rfl rfl)
theorem dX7_wordHere_72 : decode cX7_wordHere 72 = .ok (.iload_n 3, 1) := dk_29 (dk_at dksX7_wordHere_3 3 rfl rfl)
theorem dX7_wordHere_73 : decode cX7_wordHere 73 = .ok (.iadd, 1) := dk_96 (dk_at dksX7_wordHere_3 4 rfl rfl)
theorem dX7_wordHere_74 : decode cX7_wordHere 74 = .ok (.invokevirtual 114, 3) := dk_182 0 114 (dk_at dksX7_wordHere_3 5 rfl rfl)
theorem dX7_wordHere_77 : decode cX7_wordHere 77 = .ok (.bipush 32, 2) := dk_16 32 (dk_at dksX7_wordHere_3 8 rfl rfl)
theorem dX7_wordHere_79 : decode cX7_wordHere 79 = .ok (.if_icmp .ne 18, 3) := dk_160 0 18 (dk_at dksX7_wordHere_3 10 rfl rfl)
theorem dX7_wordHere_82 : decode cX7_wordHere 82 = .ok (.aload_n 0, 1) := dk_42 (dk_at dksX7_wordHere_3 13 rfl rfl)
theorem dX7_wordHere_83 : decode cX7_wordHere 83 = .ok (.getfield 88, 3) := dk_180 0 88 (dk_at dksX7_wordHere_3 14 rfl rfl)
theorem dX7_wordHere_86 : decode cX7_wordHere 86 = .ok (.iload_n 3, 1) := dk_29 (dk_at dksX7_wordHere_3 17 rfl rfl)
theorem dX7_wordHere_87 : decode cX7_wordHere 87 = .ok (.iadd, 1) := dk_96 (dk_at dksX7_wordHere_3 18 rfl rfl)
theorem dX7_wordHere_88 : decode cX7_wordHere 88 = .ok (.aload_n 0, 1) := dk_42 (dk_at dksX7_wordHere_3 19 rfl rfl)
theorem dX7_wordHere_89 : decode cX7_wordHere 89 = .ok (.getfield 78, 3) := dk_180 0 78 (dk_at dksX7_wordHere_3 20 rfl rfl)
theorem dX7_wordHere_92 : decode cX7_wordHere 92 = .ok (.if_icmp .ne 5, 3) := dk_160 0 5 (dk_at dksX7_wordHere_4 0 rfl rfl)
theorem dX7_wordHere_95 : decode cX7_wordHere 95 = .ok (.iload_n 1, 1) := dk_27 (dk_at dksX7_wordHere_4 3 rfl rfl)
theorem dX7_wordHere_96 : decode cX7_wordHere 96 = .ok (.ireturn, 1) := dk_172 (dk_at dksX7_wordHere_4 4 rfl rfl)
theorem dX7_wordHere_97 : decode cX7_wordHere 97 = .ok (.ldc 107, 2) := dk_18 107 (dk_at dksX7_wordHere_4 5 rfl rfl)
theorem dX7_wordHere_99 : decode cX7_wordHere 99 = .ok (.iload_n 2, 1) := dk_28 (dk_at dksX7_wordHere_4 7 rfl rfl)
theorem dX7_wordHere_100 : decode cX7_wordHere 100 = .ok (.invokevirtual 114, 3) := dk_182 0 114 (dk_at dksX7_wordHere_4 8 rfl rfl)
theorem dX7_wordHere_103 : decode cX7_wordHere 103 = .ok (.bipush 32, 2) := dk_16 32 (dk_at dksX7_wordHere_4 11 rfl rfl)
theorem dX7_wordHere_105 : decode cX7_wordHere 105 = .ok (.if_icmp .eq 9, 3) := dk_159 0 9 (dk_at dksX7_wordHere_4 13 rfl rfl)
theorem dX7_wordHere_108 : decode cX7_wordHere 108 = .ok (.iinc 2 1, 3) := dk_132 2 1 (dk_at dksX7_wordHere_4 16 rfl rfl)
theorem dX7_wordHere_111 : decode cX7_wordHere 111 = .ok (.goto (-14), 3) := dk_167 255 242 (dk_at dksX7_wordHere_4 19 rfl rfl)
theorem dX7_wordHere_114 : decode cX7_wordHere 114 = .ok (.iinc 2 1, 3) := dk_132 2 1 (dk_at dksX7_wordHere_5 0 rfl rfl)
theorem dX7_wordHere_117 : decode cX7_wordHere 117 = .ok (.iinc 1 1, 3) := dk_132 1 1 (dk_at dksX7_wordHere_5 3 rfl rfl)
theorem dX7_wordHere_120 : decode cX7_wordHere 120 = .ok (.goto (-116), 3) := dk_167 255 140 (dk_at dksX7_wordHere_5 6 rfl rfl)
theorem dX7_wordHere_123 : decode cX7_wordHere 123 = .ok (.iconst (-1), 1) := dk_2 (dk_at dksX7_wordHere_5 9 rfl rfl)
theorem dX7_wordHere_124 : decode cX7_wordHere 124 = .ok (.ireturn, 1) := dk_172 (dk_at dksX7_wordHere_5 10 rfl rfl)
abbrev cX7_isDigit : ByteArray := prog_19_method_6_code
def yX7_isDigit : MethodName := ⟨RX7, "isDigit", "(I)Z"⟩
def dkwX7_isDigit_0 : List UInt8 := [26, 16, 48, 161, 0, 13, 26, 16, 57, 163, 0, 7, 4, 167, 0, 4, 3, 172]
abbrev dktX7_isDigit_0 : List UInt8 := dkwX7_isDigit_0 ++ []
theorem dksX7_isDigit_0 : cX7_isDigit.data.toList.drop 0 = dktX7_isDigit_0 := by decide +kernel
theorem dX7_isDigit_0 : decode cX7_isDigit 0 = .ok (.iload_n 0, 1) := dk_26 (dk_at dksX7_isDigit_0 0 rfl rfl)
theorem dX7_isDigit_1 : decode cX7_isDigit 1 = .ok (.bipush 48, 2) := dk_16 48 (dk_at dksX7_isDigit_0 1 rfl rfl)
theorem dX7_isDigit_3 : decode cX7_isDigit 3 = .ok (.if_icmp .lt 13, 3) := dk_161 0 13 (dk_at dksX7_isDigit_0 3 rfl rfl)
theorem dX7_isDigit_6 : decode cX7_isDigit 6 = .ok (.iload_n 0, 1) := dk_26 (dk_at dksX7_isDigit_0 6 rfl rfl)
theorem dX7_isDigit_7 : decode cX7_isDigit 7 = .ok (.bipush 57, 2) := dk_16 57 (dk_at dksX7_isDigit_0 7 rfl rfl)
theorem dX7_isDigit_9 : decode cX7_isDigit 9 = .ok (.if_icmp .gt 7, 3) := dk_163 0 7 (dk_at dksX7_isDigit_0 9 rfl rfl)
theorem dX7_isDigit_12 : decode cX7_isDigit 12 = .ok (.iconst 1, 1) := dk_4 (dk_at dksX7_isDigit_0 12 rfl rfl)
theorem dX7_isDigit_13 : decode cX7_isDigit 13 = .ok (.goto 4, 3) := dk_167 0 4 (dk_at dksX7_isDigit_0 13 rfl rfl)
theorem dX7_isDigit_16 : decode cX7_isDigit 16 = .ok (.iconst 0, 1) := dk_3 (dk_at dksX7_isDigit_0 16 rfl rfl)
theorem dX7_isDigit_17 : decode cX7_isDigit 17 = .ok (.ireturn, 1) := dk_172 (dk_at dksX7_isDigit_0 17 rfl rfl)
abbrev cX7_readLine : ByteArray := prog_19_method_16_code
def yX7_readLine : MethodName := ⟨RX7, "readLine", "()V"⟩
def dkwX7_readLine_4 : List UInt8 := [182, 0, 131, 42, 89, 180, 0, 166, 4, 96, 181, 0, 166, 177]
abbrev dktX7_readLine_4 : List UInt8 := dkwX7_readLine_4 ++ []
def dkwX7_readLine_3 : List UInt8 := [182, 0, 127, 42, 180, 0, 118, 154, 0, 16, 42, 180, 0, 91, 5, 159, 0, 8, 42, 4, 182, 0, 127, 42]
abbrev dktX7_readLine_3 : List UInt8 := dkwX7_readLine_3 ++ dktX7_readLine_4
def dkwX7_readLine_2 : List UInt8 := [42, 182, 0, 160, 167, 0, 21, 27, 16, 7, 160, 0, 10, 42, 182, 0, 163, 167, 0, 8, 42, 4]
abbrev dktX7_readLine_2 : List UInt8 := dkwX7_readLine_2 ++ dktX7_readLine_3
def dkwX7_readLine_1 : List UInt8 := [182, 0, 154, 167, 0, 46, 27, 8, 160, 0, 10, 42, 182, 0, 157, 167, 0, 34, 27, 16, 6, 160, 0, 10]
abbrev dktX7_readLine_1 : List UInt8 := dkwX7_readLine_1 ++ dktX7_readLine_2
def dkwX7_readLine_0 : List UInt8 := [42, 180, 0, 91, 154, 0, 10, 42, 180, 0, 101, 167, 0, 4, 2, 60, 27, 7, 160, 0, 10, 42]
abbrev dktX7_readLine_0 : List UInt8 := dkwX7_readLine_0 ++ dktX7_readLine_1
theorem dksX7_readLine_0 : cX7_readLine.data.toList.drop 0 = dktX7_readLine_0 := by decide +kernel
theorem dksX7_readLine_1 : cX7_readLine.data.toList.drop 22 = dktX7_readLine_1 := dk_seg dksX7_readLine_0 22 rfl rfl
theorem dksX7_readLine_2 : cX7_readLine.data.toList.drop 46 = dktX7_readLine_2 := dk_seg dksX7_readLine_1 24 rfl rfl
theorem dksX7_readLine_3 : cX7_readLine.data.toList.drop 68 = dktX7_readLine_3 := dk_seg dksX7_readLine_2 22 rfl rfl
theorem dksX7_readLine_4 : cX7_readLine.data.toList.drop 92 = dktX7_readLine_4 := dk_seg dksX7_readLine_3 24 rfl rfl
theorem dX7_readLine_0 : decode cX7_readLine 0 = .ok (.aload_n 0, 1) := dk_42 (dk_at dksX7_readLine_0 0 rfl rfl)
theorem dX7_readLine_1 : decode cX7_readLine 1 = .ok (.getfield 91, 3) := dk_180 0 91 (dk_at dksX7_readLine_0 1 rfl rfl)
theorem dX7_readLine_4 : decode cX7_readLine 4 = .ok (.ifCond .ne 10, 3) := dk_154 0 10 (dk_at dksX7_readLine_0 4 rfl rfl)
theorem dX7_readLine_7 : decode cX7_readLine 7 = .ok (.aload_n 0, 1) := dk_42 (dk_at dksX7_readLine_0 7 rfl rfl)
theorem dX7_readLine_8 : decode cX7_readLine 8 = .ok (.getfield 101, 3) := dk_180 0 101 (dk_at dksX7_readLine_0 8 rfl rfl)
theorem dX7_readLine_11 : decode cX7_readLine 11 = .ok (.goto 4, 3) := dk_167 0 4 (dk_at dksX7_readLine_0 11 rfl rfl)
theorem dX7_readLine_14 : decode cX7_readLine 14 = .ok (.iconst (-1), 1) := dk_2 (dk_at dksX7_readLine_0 14 rfl rfl)
theorem dX7_readLine_15 : decode cX7_readLine 15 = .ok (.istore_n 1, 1) := dk_60 (dk_at dksX7_readLine_0 15 rfl rfl)
theorem dX7_readLine_16 : decode cX7_readLine 16 = .ok (.iload_n 1, 1) := dk_27 (dk_at dksX7_readLine_0 16 rfl rfl)
theorem dX7_readLine_17 : decode cX7_readLine 17 = .ok (.iconst 4, 1) := dk_7 (dk_at dksX7_readLine_0 17 rfl rfl)
theorem dX7_readLine_18 : decode cX7_readLine 18 = .ok (.if_icmp .ne 10, 3) := dk_160 0 10 (dk_at dksX7_readLine_0 18 rfl rfl)
theorem dX7_readLine_21 : decode cX7_readLine 21 = .ok (.aload_n 0, 1) := dk_42 (dk_at dksX7_readLine_0 21 rfl rfl)
theorem dX7_readLine_22 : decode cX7_readLine 22 = .ok (.invokevirtual 154, 3) := dk_182 0 154 (dk_at dksX7_readLine_1 0 rfl rfl)
theorem dX7_readLine_25 : decode cX7_readLine 25 = .ok (.goto 46, 3) := dk_167 0 46 (dk_at dksX7_readLine_1 3 rfl rfl)
theorem dX7_readLine_28 : decode cX7_readLine 28 = .ok (.iload_n 1, 1) := dk_27 (dk_at dksX7_readLine_1 6 rfl rfl)
theorem dX7_readLine_29 : decode cX7_readLine 29 = .ok (.iconst 5, 1) := dk_8 (dk_at dksX7_readLine_1 7 rfl rfl)
theorem dX7_readLine_30 : decode cX7_readLine 30 = .ok (.if_icmp .ne 10, 3) := dk_160 0 10 (dk_at dksX7_readLine_1 8 rfl rfl)
theorem dX7_readLine_33 : decode cX7_readLine 33 = .ok (.aload_n 0, 1) := dk_42 (dk_at dksX7_readLine_1 11 rfl rfl)
theorem dX7_readLine_34 : decode cX7_readLine 34 = .ok (.invokevirtual 157, 3) := dk_182 0 157 (dk_at dksX7_readLine_1 12 rfl rfl)
theorem dX7_readLine_37 : decode cX7_readLine 37 = .ok (.goto 34, 3) := dk_167 0 34 (dk_at dksX7_readLine_1 15 rfl rfl)
theorem dX7_readLine_40 : decode cX7_readLine 40 = .ok (.iload_n 1, 1) := dk_27 (dk_at dksX7_readLine_1 18 rfl rfl)
theorem dX7_readLine_41 : decode cX7_readLine 41 = .ok (.bipush 6, 2) := dk_16 6 (dk_at dksX7_readLine_1 19 rfl rfl)
theorem dX7_readLine_43 : decode cX7_readLine 43 = .ok (.if_icmp .ne 10, 3) := dk_160 0 10 (dk_at dksX7_readLine_1 21 rfl rfl)
theorem dX7_readLine_46 : decode cX7_readLine 46 = .ok (.aload_n 0, 1) := dk_42 (dk_at dksX7_readLine_2 0 rfl rfl)
theorem dX7_readLine_47 : decode cX7_readLine 47 = .ok (.invokevirtual 160, 3) := dk_182 0 160 (dk_at dksX7_readLine_2 1 rfl rfl)
theorem dX7_readLine_50 : decode cX7_readLine 50 = .ok (.goto 21, 3) := dk_167 0 21 (dk_at dksX7_readLine_2 4 rfl rfl)
theorem dX7_readLine_53 : decode cX7_readLine 53 = .ok (.iload_n 1, 1) := dk_27 (dk_at dksX7_readLine_2 7 rfl rfl)
theorem dX7_readLine_54 : decode cX7_readLine 54 = .ok (.bipush 7, 2) := dk_16 7 (dk_at dksX7_readLine_2 8 rfl rfl)
theorem dX7_readLine_56 : decode cX7_readLine 56 = .ok (.if_icmp .ne 10, 3) := dk_160 0 10 (dk_at dksX7_readLine_2 10 rfl rfl)
theorem dX7_readLine_59 : decode cX7_readLine 59 = .ok (.aload_n 0, 1) := dk_42 (dk_at dksX7_readLine_2 13 rfl rfl)
theorem dX7_readLine_60 : decode cX7_readLine 60 = .ok (.invokevirtual 163, 3) := dk_182 0 163 (dk_at dksX7_readLine_2 14 rfl rfl)
theorem dX7_readLine_63 : decode cX7_readLine 63 = .ok (.goto 8, 3) := dk_167 0 8 (dk_at dksX7_readLine_2 17 rfl rfl)
theorem dX7_readLine_66 : decode cX7_readLine 66 = .ok (.aload_n 0, 1) := dk_42 (dk_at dksX7_readLine_2 20 rfl rfl)
theorem dX7_readLine_67 : decode cX7_readLine 67 = .ok (.iconst 1, 1) := dk_4 (dk_at dksX7_readLine_2 21 rfl rfl)
theorem dX7_readLine_68 : decode cX7_readLine 68 = .ok (.invokevirtual 127, 3) := dk_182 0 127 (dk_at dksX7_readLine_3 0 rfl rfl)
theorem dX7_readLine_71 : decode cX7_readLine 71 = .ok (.aload_n 0, 1) := dk_42 (dk_at dksX7_readLine_3 3 rfl rfl)
theorem dX7_readLine_72 : decode cX7_readLine 72 = .ok (.getfield 118, 3) := dk_180 0 118 (dk_at dksX7_readLine_3 4 rfl rfl)
theorem dX7_readLine_75 : decode cX7_readLine 75 = .ok (.ifCond .ne 16, 3) := dk_154 0 16 (dk_at dksX7_readLine_3 7 rfl rfl)
theorem dX7_readLine_78 : decode cX7_readLine 78 = .ok (.aload_n 0, 1) := dk_42 (dk_at dksX7_readLine_3 10 rfl rfl)
theorem dX7_readLine_79 : decode cX7_readLine 79 = .ok (.getfield 91, 3) := dk_180 0 91 (dk_at dksX7_readLine_3 11 rfl rfl)
theorem dX7_readLine_82 : decode cX7_readLine 82 = .ok (.iconst 2, 1) := dk_5 (dk_at dksX7_readLine_3 14 rfl rfl)
theorem dX7_readLine_83 : decode cX7_readLine 83 = .ok (.if_icmp .eq 8, 3) := dk_159 0 8 (dk_at dksX7_readLine_3 15 rfl rfl)
theorem dX7_readLine_86 : decode cX7_readLine 86 = .ok (.aload_n 0, 1) := dk_42 (dk_at dksX7_readLine_3 18 rfl rfl)
theorem dX7_readLine_87 : decode cX7_readLine 87 = .ok (.iconst 1, 1) := dk_4 (dk_at dksX7_readLine_3 19 rfl rfl)
theorem dX7_readLine_88 : decode cX7_readLine 88 = .ok (.invokevirtual 127, 3) := dk_182 0 127 (dk_at dksX7_readLine_3 20 rfl rfl)
theorem dX7_readLine_91 : decode cX7_readLine 91 = .ok (.aload_n 0, 1) := dk_42 (dk_at dksX7_readLine_3 23 rfl rfl)
theorem dX7_readLine_92 : decode cX7_readLine 92 = .ok (.invokevirtual 131, 3) := dk_182 0 131 (dk_at dksX7_readLine_4 0 rfl rfl)
theorem dX7_readLine_95 : decode cX7_readLine 95 = .ok (.aload_n 0, 1) := dk_42 (dk_at dksX7_readLine_4 3 rfl rfl)
theorem dX7_readLine_96 : decode cX7_readLine 96 = .ok (.dup, 1) := dk_89 (dk_at dksX7_readLine_4 4 rfl rfl)
theorem dX7_readLine_97 : decode cX7_readLine 97 = .ok (.getfield 166, 3) := dk_180 0 166 (dk_at dksX7_readLine_4 5 rfl rfl)
theorem dX7_readLine_100 : decode cX7_readLine 100 = .ok (.iconst 1, 1) := dk_4 (dk_at dksX7_readLine_4 8 rfl rfl)
theorem dX7_readLine_101 : decode cX7_readLine 101 = .ok (.iadd, 1) := dk_96 (dk_at dksX7_readLine_4 9 rfl rfl)
theorem dX7_readLine_102 : decode cX7_readLine 102 = .ok (.putfield 166, 3) := dk_181 0 166 (dk_at dksX7_readLine_4 10 rfl rfl)
theorem dX7_readLine_105 : decode cX7_readLine 105 = .ok (.return_, 1) := dk_177 (dk_at dksX7_readLine_4 13 rfl rfl)
abbrev cX7_readRow : ByteArray := prog_19_method_12_code
def yX7_readRow : MethodName := ⟨RX7, "readRow", "()V"⟩
def dkwX7_readRow_4 : List UInt8 := [4, 96, 181, 0, 134, 167, 255, 180, 177]
abbrev dktX7_readRow_4 : List UInt8 := dkwX7_readRow_4 ++ []
def dkwX7_readRow_3 : List UInt8 := [180, 0, 32, 42, 180, 0, 134, 27, 79, 42, 180, 0, 35, 42, 180, 0, 134, 4, 79, 42, 89, 180, 0, 134]
abbrev dktX7_readRow_3 : List UInt8 := dkwX7_readRow_3 ++ dktX7_readRow_4
def dkwX7_readRow_2 : List UInt8 := [42, 5, 182, 0, 127, 42, 3, 17, 3, 231, 182, 0, 137, 60, 42, 180, 0, 118, 153, 0, 4, 177, 42]
abbrev dktX7_readRow_2 : List UInt8 := dkwX7_readRow_2 ++ dktX7_readRow_3
def dkwX7_readRow_1 : List UInt8 := [42, 180, 0, 118, 154, 0, 75, 42, 180, 0, 91, 4, 160, 0, 67, 42, 180, 0, 134, 16, 120, 160, 0, 8]
abbrev dktX7_readRow_1 : List UInt8 := dkwX7_readRow_1 ++ dktX7_readRow_2
def dkwX7_readRow_0 : List UInt8 := [42, 182, 0, 131, 42, 180, 0, 118, 154, 0, 16, 42, 180, 0, 91, 4, 159, 0, 8, 42, 4, 182, 0, 127]
abbrev dktX7_readRow_0 : List UInt8 := dkwX7_readRow_0 ++ dktX7_readRow_1
theorem dksX7_readRow_0 : cX7_readRow.data.toList.drop 0 = dktX7_readRow_0 := by decide +kernel
theorem dksX7_readRow_1 : cX7_readRow.data.toList.drop 24 = dktX7_readRow_1 := dk_seg dksX7_readRow_0 24 rfl rfl
theorem dksX7_readRow_2 : cX7_readRow.data.toList.drop 48 = dktX7_readRow_2 := dk_seg dksX7_readRow_1 24 rfl rfl
theorem dksX7_readRow_3 : cX7_readRow.data.toList.drop 71 = dktX7_readRow_3 := dk_seg dksX7_readRow_2 23 rfl rfl
theorem dksX7_readRow_4 : cX7_readRow.data.toList.drop 95 = dktX7_readRow_4 := dk_seg dksX7_readRow_3 24 rfl rfl
theorem dX7_readRow_0 : decode cX7_readRow 0 = .ok (.aload_n 0, 1) := dk_42 (dk_at dksX7_readRow_0 0 rfl rfl)
theorem dX7_readRow_1 : decode cX7_readRow 1 = .ok (.invokevirtual 131, 3) := dk_182 0 131 (dk_at dksX7_readRow_0 1 rfl rfl)
theorem dX7_readRow_4 : decode cX7_readRow 4 = .ok (.aload_n 0, 1) := dk_42 (dk_at dksX7_readRow_0 4 rfl rfl)
theorem dX7_readRow_5 : decode cX7_readRow 5 = .ok (.getfield 118, 3) := dk_180 0 118 (dk_at dksX7_readRow_0 5 rfl rfl)
theorem dX7_readRow_8 : decode cX7_readRow 8 = .ok (.ifCond .ne 16, 3) := dk_154 0 16 (dk_at dksX7_readRow_0 8 rfl rfl)
theorem dX7_readRow_11 : decode cX7_readRow 11 = .ok (.aload_n 0, 1) := dk_42 (dk_at dksX7_readRow_0 11 rfl rfl)
theorem dX7_readRow_12 : decode cX7_readRow 12 = .ok (.getfield 91, 3) := dk_180 0 91 (dk_at dksX7_readRow_0 12 rfl rfl)
theorem dX7_readRow_15 : decode cX7_readRow 15 = .ok (.iconst 1, 1) := dk_4 (dk_at dksX7_readRow_0 15 rfl rfl)
theorem dX7_readRow_16 : decode cX7_readRow 16 = .ok (.if_icmp .eq 8, 3) := dk_159 0 8 (dk_at dksX7_readRow_0 16 rfl rfl)
theorem dX7_readRow_19 : decode cX7_readRow 19 = .ok (.aload_n 0, 1) := dk_42 (dk_at dksX7_readRow_0 19 rfl rfl)
theorem dX7_readRow_20 : decode cX7_readRow 20 = .ok (.iconst 1, 1) := dk_4 (dk_at dksX7_readRow_0 20 rfl rfl)
theorem dX7_readRow_21 : decode cX7_readRow 21 = .ok (.invokevirtual 127, 3) := dk_182 0 127 (dk_at dksX7_readRow_0 21 rfl rfl)
theorem dX7_readRow_24 : decode cX7_readRow 24 = .ok (.aload_n 0, 1) := dk_42 (dk_at dksX7_readRow_1 0 rfl rfl)
theorem dX7_readRow_25 : decode cX7_readRow 25 = .ok (.getfield 118, 3) := dk_180 0 118 (dk_at dksX7_readRow_1 1 rfl rfl)
theorem dX7_readRow_28 : decode cX7_readRow 28 = .ok (.ifCond .ne 75, 3) := dk_154 0 75 (dk_at dksX7_readRow_1 4 rfl rfl)
theorem dX7_readRow_31 : decode cX7_readRow 31 = .ok (.aload_n 0, 1) := dk_42 (dk_at dksX7_readRow_1 7 rfl rfl)
theorem dX7_readRow_32 : decode cX7_readRow 32 = .ok (.getfield 91, 3) := dk_180 0 91 (dk_at dksX7_readRow_1 8 rfl rfl)
theorem dX7_readRow_35 : decode cX7_readRow 35 = .ok (.iconst 1, 1) := dk_4 (dk_at dksX7_readRow_1 11 rfl rfl)
theorem dX7_readRow_36 : decode cX7_readRow 36 = .ok (.if_icmp .ne 67, 3) := dk_160 0 67 (dk_at dksX7_readRow_1 12 rfl rfl)
theorem dX7_readRow_39 : decode cX7_readRow 39 = .ok (.aload_n 0, 1) := dk_42 (dk_at dksX7_readRow_1 15 rfl rfl)
theorem dX7_readRow_40 : decode cX7_readRow 40 = .ok (.getfield 134, 3) := dk_180 0 134 (dk_at dksX7_readRow_1 16 rfl rfl)
theorem dX7_readRow_43 : decode cX7_readRow 43 = .ok (.bipush 120, 2) := dk_16 120 (dk_at dksX7_readRow_1 19 rfl rfl)
theorem dX7_readRow_45 : decode cX7_readRow 45 = .ok (.if_icmp .ne 8, 3) := dk_160 0 8 (dk_at dksX7_readRow_1 21 rfl rfl)
theorem dX7_readRow_48 : decode cX7_readRow 48 = .ok (.aload_n 0, 1) := dk_42 (dk_at dksX7_readRow_2 0 rfl rfl)
theorem dX7_readRow_49 : decode cX7_readRow 49 = .ok (.iconst 2, 1) := dk_5 (dk_at dksX7_readRow_2 1 rfl rfl)
theorem dX7_readRow_50 : decode cX7_readRow 50 = .ok (.invokevirtual 127, 3) := dk_182 0 127 (dk_at dksX7_readRow_2 2 rfl rfl)
theorem dX7_readRow_53 : decode cX7_readRow 53 = .ok (.aload_n 0, 1) := dk_42 (dk_at dksX7_readRow_2 5 rfl rfl)
theorem dX7_readRow_54 : decode cX7_readRow 54 = .ok (.iconst 0, 1) := dk_3 (dk_at dksX7_readRow_2 6 rfl rfl)
theorem dX7_readRow_55 : decode cX7_readRow 55 = .ok (.sipush 999, 3) := dk_17 3 231 (dk_at dksX7_readRow_2 7 rfl rfl)
theorem dX7_readRow_58 : decode cX7_readRow 58 = .ok (.invokevirtual 137, 3) := dk_182 0 137 (dk_at dksX7_readRow_2 10 rfl rfl)
theorem dX7_readRow_61 : decode cX7_readRow 61 = .ok (.istore_n 1, 1) := dk_60 (dk_at dksX7_readRow_2 13 rfl rfl)
theorem dX7_readRow_62 : decode cX7_readRow 62 = .ok (.aload_n 0, 1) := dk_42 (dk_at dksX7_readRow_2 14 rfl rfl)
theorem dX7_readRow_63 : decode cX7_readRow 63 = .ok (.getfield 118, 3) := dk_180 0 118 (dk_at dksX7_readRow_2 15 rfl rfl)
theorem dX7_readRow_66 : decode cX7_readRow 66 = .ok (.ifCond .eq 4, 3) := dk_153 0 4 (dk_at dksX7_readRow_2 18 rfl rfl)
theorem dX7_readRow_69 : decode cX7_readRow 69 = .ok (.return_, 1) := dk_177 (dk_at dksX7_readRow_2 21 rfl rfl)
theorem dX7_readRow_70 : decode cX7_readRow 70 = .ok (.aload_n 0, 1) := dk_42 (dk_at dksX7_readRow_2 22 rfl rfl)
theorem dX7_readRow_71 : decode cX7_readRow 71 = .ok (.getfield 32, 3) := dk_180 0 32 (dk_at dksX7_readRow_3 0 rfl rfl)
theorem dX7_readRow_74 : decode cX7_readRow 74 = .ok (.aload_n 0, 1) := dk_42 (dk_at dksX7_readRow_3 3 rfl rfl)
theorem dX7_readRow_75 : decode cX7_readRow 75 = .ok (.getfield 134, 3) := dk_180 0 134 (dk_at dksX7_readRow_3 4 rfl rfl)
theorem dX7_readRow_78 : decode cX7_readRow 78 = .ok (.iload_n 1, 1) := dk_27 (dk_at dksX7_readRow_3 7 rfl rfl)
theorem dX7_readRow_79 : decode cX7_readRow 79 = .ok (.iastore, 1) := dk_79 (dk_at dksX7_readRow_3 8 rfl rfl)
theorem dX7_readRow_80 : decode cX7_readRow 80 = .ok (.aload_n 0, 1) := dk_42 (dk_at dksX7_readRow_3 9 rfl rfl)
theorem dX7_readRow_81 : decode cX7_readRow 81 = .ok (.getfield 35, 3) := dk_180 0 35 (dk_at dksX7_readRow_3 10 rfl rfl)
theorem dX7_readRow_84 : decode cX7_readRow 84 = .ok (.aload_n 0, 1) := dk_42 (dk_at dksX7_readRow_3 13 rfl rfl)
theorem dX7_readRow_85 : decode cX7_readRow 85 = .ok (.getfield 134, 3) := dk_180 0 134 (dk_at dksX7_readRow_3 14 rfl rfl)
theorem dX7_readRow_88 : decode cX7_readRow 88 = .ok (.iconst 1, 1) := dk_4 (dk_at dksX7_readRow_3 17 rfl rfl)
theorem dX7_readRow_89 : decode cX7_readRow 89 = .ok (.iastore, 1) := dk_79 (dk_at dksX7_readRow_3 18 rfl rfl)
theorem dX7_readRow_90 : decode cX7_readRow 90 = .ok (.aload_n 0, 1) := dk_42 (dk_at dksX7_readRow_3 19 rfl rfl)
theorem dX7_readRow_91 : decode cX7_readRow 91 = .ok (.dup, 1) := dk_89 (dk_at dksX7_readRow_3 20 rfl rfl)
theorem dX7_readRow_92 : decode cX7_readRow 92 = .ok (.getfield 134, 3) := dk_180 0 134 (dk_at dksX7_readRow_3 21 rfl rfl)
theorem dX7_readRow_95 : decode cX7_readRow 95 = .ok (.iconst 1, 1) := dk_4 (dk_at dksX7_readRow_4 0 rfl rfl)
theorem dX7_readRow_96 : decode cX7_readRow 96 = .ok (.iadd, 1) := dk_96 (dk_at dksX7_readRow_4 1 rfl rfl)
theorem dX7_readRow_97 : decode cX7_readRow 97 = .ok (.putfield 134, 3) := dk_181 0 134 (dk_at dksX7_readRow_4 2 rfl rfl)
theorem dX7_readRow_100 : decode cX7_readRow 100 = .ok (.goto (-76), 3) := dk_167 255 180 (dk_at dksX7_readRow_4 5 rfl rfl)
theorem dX7_readRow_103 : decode cX7_readRow 103 = .ok (.return_, 1) := dk_177 (dk_at dksX7_readRow_4 8 rfl rfl)
abbrev cX7_goOn : ByteArray := prog_19_method_10_code
def yX7_goOn : MethodName := ⟨RX7, "goOn", "()V"⟩
def dkwX7_goOn_0 : List UInt8 := [42, 180, 0, 118, 154, 0, 7, 42, 182, 0, 124, 177]
abbrev dktX7_goOn_0 : List UInt8 := dkwX7_goOn_0 ++ []
theorem dksX7_goOn_0 : cX7_goOn.data.toList.drop 0 = dktX7_goOn_0 := by decide +kernel
theorem dX7_goOn_0 : decode cX7_goOn 0 = .ok (.aload_n 0, 1) := dk_42 (dk_at dksX7_goOn_0 0 rfl rfl)
theorem dX7_goOn_1 : decode cX7_goOn 1 = .ok (.getfield 118, 3) := dk_180 0 118 (dk_at dksX7_goOn_0 1 rfl rfl)
theorem dX7_goOn_4 : decode cX7_goOn 4 = .ok (.ifCond .ne 7, 3) := dk_154 0 7 (dk_at dksX7_goOn_0 4 rfl rfl)
theorem dX7_goOn_7 : decode cX7_goOn 7 = .ok (.aload_n 0, 1) := dk_42 (dk_at dksX7_goOn_0 7 rfl rfl)
theorem dX7_goOn_8 : decode cX7_goOn 8 = .ok (.invokevirtual 124, 3) := dk_182 0 124 (dk_at dksX7_goOn_0 8 rfl rfl)
theorem dX7_goOn_11 : decode cX7_goOn 11 = .ok (.return_, 1) := dk_177 (dk_at dksX7_goOn_0 11 rfl rfl)
abbrev cX7_wrong : ByteArray := prog_19_method_9_code
def yX7_wrong : MethodName := ⟨RX7, "wrong", "(I)V"⟩
def dkwX7_wrong_0 : List UInt8 := [42, 180, 0, 118, 153, 0, 4, 177, 42, 27, 181, 0, 118, 42, 42, 180, 0, 88, 181, 0, 121, 177]
abbrev dktX7_wrong_0 : List UInt8 := dkwX7_wrong_0 ++ []
theorem dksX7_wrong_0 : cX7_wrong.data.toList.drop 0 = dktX7_wrong_0 := by decide +kernel
theorem dX7_wrong_0 : decode cX7_wrong 0 = .ok (.aload_n 0, 1) := dk_42 (dk_at dksX7_wrong_0 0 rfl rfl)
theorem dX7_wrong_1 : decode cX7_wrong 1 = .ok (.getfield 118, 3) := dk_180 0 118 (dk_at dksX7_wrong_0 1 rfl rfl)
theorem dX7_wrong_4 : decode cX7_wrong 4 = .ok (.ifCond .eq 4, 3) := dk_153 0 4 (dk_at dksX7_wrong_0 4 rfl rfl)
theorem dX7_wrong_7 : decode cX7_wrong 7 = .ok (.return_, 1) := dk_177 (dk_at dksX7_wrong_0 7 rfl rfl)
theorem dX7_wrong_8 : decode cX7_wrong 8 = .ok (.aload_n 0, 1) := dk_42 (dk_at dksX7_wrong_0 8 rfl rfl)
theorem dX7_wrong_9 : decode cX7_wrong 9 = .ok (.iload_n 1, 1) := dk_27 (dk_at dksX7_wrong_0 9 rfl rfl)
theorem dX7_wrong_10 : decode cX7_wrong 10 = .ok (.putfield 118, 3) := dk_181 0 118 (dk_at dksX7_wrong_0 10 rfl rfl)
theorem dX7_wrong_13 : decode cX7_wrong 13 = .ok (.aload_n 0, 1) := dk_42 (dk_at dksX7_wrong_0 13 rfl rfl)
theorem dX7_wrong_14 : decode cX7_wrong 14 = .ok (.aload_n 0, 1) := dk_42 (dk_at dksX7_wrong_0 14 rfl rfl)
theorem dX7_wrong_15 : decode cX7_wrong 15 = .ok (.getfield 88, 3) := dk_180 0 88 (dk_at dksX7_wrong_0 15 rfl rfl)
theorem dX7_wrong_18 : decode cX7_wrong 18 = .ok (.putfield 121, 3) := dk_181 0 121 (dk_at dksX7_wrong_0 18 rfl rfl)
theorem dX7_wrong_21 : decode cX7_wrong 21 = .ok (.return_, 1) := dk_177 (dk_at dksX7_wrong_0 21 rfl rfl)
abbrev cX7_within : ByteArray := prog_19_method_11_code
def yX7_within : MethodName := ⟨RX7, "within", "(II)I"⟩
def dkwX7_within_2 : List UInt8 := [42, 180, 0, 118, 154, 0, 10, 42, 180, 0, 101, 167, 0, 4, 27, 62, 42, 182, 0, 131, 29, 172]
abbrev dktX7_within_2 : List UInt8 := dkwX7_within_2 ++ []
def dkwX7_within_1 : List UInt8 := [154, 0, 24, 42, 180, 0, 101, 27, 161, 0, 11, 42, 180, 0, 101, 28, 164, 0, 8, 42, 5, 182, 0, 127]
abbrev dktX7_within_1 : List UInt8 := dkwX7_within_1 ++ dktX7_within_2
def dkwX7_within_0 : List UInt8 := [42, 180, 0, 118, 154, 0, 16, 42, 180, 0, 91, 4, 159, 0, 8, 42, 4, 182, 0, 127, 42, 180, 0, 118]
abbrev dktX7_within_0 : List UInt8 := dkwX7_within_0 ++ dktX7_within_1
theorem dksX7_within_0 : cX7_within.data.toList.drop 0 = dktX7_within_0 := by decide +kernel
theorem dksX7_within_1 : cX7_within.data.toList.drop 24 = dktX7_within_1 := dk_seg dksX7_within_0 24 rfl rfl
theorem dksX7_within_2 : cX7_within.data.toList.drop 48 = dktX7_within_2 := dk_seg dksX7_within_1 24 rfl rfl
theorem dX7_within_0 : decode cX7_within 0 = .ok (.aload_n 0, 1) := dk_42 (dk_at dksX7_within_0 0 rfl rfl)
theorem dX7_within_1 : decode cX7_within 1 = .ok (.getfield 118, 3) := dk_180 0 118 (dk_at dksX7_within_0 1 rfl rfl)
theorem dX7_within_4 : decode cX7_within 4 = .ok (.ifCond .ne 16, 3) := dk_154 0 16 (dk_at dksX7_within_0 4 rfl rfl)
theorem dX7_within_7 : decode cX7_within 7 = .ok (.aload_n 0, 1) := dk_42 (dk_at dksX7_within_0 7 rfl rfl)
theorem dX7_within_8 : decode cX7_within 8 = .ok (.getfield 91, 3) := dk_180 0 91 (dk_at dksX7_within_0 8 rfl rfl)
theorem dX7_within_11 : decode cX7_within 11 = .ok (.iconst 1, 1) := dk_4 (dk_at dksX7_within_0 11 rfl rfl)
theorem dX7_within_12 : decode cX7_within 12 = .ok (.if_icmp .eq 8, 3) := dk_159 0 8 (dk_at dksX7_within_0 12 rfl rfl)
theorem dX7_within_15 : decode cX7_within 15 = .ok (.aload_n 0, 1) := dk_42 (dk_at dksX7_within_0 15 rfl rfl)
theorem dX7_within_16 : decode cX7_within 16 = .ok (.iconst 1, 1) := dk_4 (dk_at dksX7_within_0 16 rfl rfl)
theorem dX7_within_17 : decode cX7_within 17 = .ok (.invokevirtual 127, 3) := dk_182 0 127 (dk_at dksX7_within_0 17 rfl rfl)
theorem dX7_within_20 : decode cX7_within 20 = .ok (.aload_n 0, 1) := dk_42 (dk_at dksX7_within_0 20 rfl rfl)
theorem dX7_within_21 : decode cX7_within 21 = .ok (.getfield 118, 3) := dk_180 0 118 (dk_at dksX7_within_0 21 rfl rfl)
theorem dX7_within_24 : decode cX7_within 24 = .ok (.ifCond .ne 24, 3) := dk_154 0 24 (dk_at dksX7_within_1 0 rfl rfl)
theorem dX7_within_27 : decode cX7_within 27 = .ok (.aload_n 0, 1) := dk_42 (dk_at dksX7_within_1 3 rfl rfl)
theorem dX7_within_28 : decode cX7_within 28 = .ok (.getfield 101, 3) := dk_180 0 101 (dk_at dksX7_within_1 4 rfl rfl)
theorem dX7_within_31 : decode cX7_within 31 = .ok (.iload_n 1, 1) := dk_27 (dk_at dksX7_within_1 7 rfl rfl)
theorem dX7_within_32 : decode cX7_within 32 = .ok (.if_icmp .lt 11, 3) := dk_161 0 11 (dk_at dksX7_within_1 8 rfl rfl)
theorem dX7_within_35 : decode cX7_within 35 = .ok (.aload_n 0, 1) := dk_42 (dk_at dksX7_within_1 11 rfl rfl)
theorem dX7_within_36 : decode cX7_within 36 = .ok (.getfield 101, 3) := dk_180 0 101 (dk_at dksX7_within_1 12 rfl rfl)
theorem dX7_within_39 : decode cX7_within 39 = .ok (.iload_n 2, 1) := dk_28 (dk_at dksX7_within_1 15 rfl rfl)
theorem dX7_within_40 : decode cX7_within 40 = .ok (.if_icmp .le 8, 3) := dk_164 0 8 (dk_at dksX7_within_1 16 rfl rfl)
theorem dX7_within_43 : decode cX7_within 43 = .ok (.aload_n 0, 1) := dk_42 (dk_at dksX7_within_1 19 rfl rfl)
theorem dX7_within_44 : decode cX7_within 44 = .ok (.iconst 2, 1) := dk_5 (dk_at dksX7_within_1 20 rfl rfl)
theorem dX7_within_45 : decode cX7_within 45 = .ok (.invokevirtual 127, 3) := dk_182 0 127 (dk_at dksX7_within_1 21 rfl rfl)
theorem dX7_within_48 : decode cX7_within 48 = .ok (.aload_n 0, 1) := dk_42 (dk_at dksX7_within_2 0 rfl rfl)
theorem dX7_within_49 : decode cX7_within 49 = .ok (.getfield 118, 3) := dk_180 0 118 (dk_at dksX7_within_2 1 rfl rfl)
theorem dX7_within_52 : decode cX7_within 52 = .ok (.ifCond .ne 10, 3) := dk_154 0 10 (dk_at dksX7_within_2 4 rfl rfl)
theorem dX7_within_55 : decode cX7_within 55 = .ok (.aload_n 0, 1) := dk_42 (dk_at dksX7_within_2 7 rfl rfl)
theorem dX7_within_56 : decode cX7_within 56 = .ok (.getfield 101, 3) := dk_180 0 101 (dk_at dksX7_within_2 8 rfl rfl)
theorem dX7_within_59 : decode cX7_within 59 = .ok (.goto 4, 3) := dk_167 0 4 (dk_at dksX7_within_2 11 rfl rfl)
theorem dX7_within_62 : decode cX7_within 62 = .ok (.iload_n 1, 1) := dk_27 (dk_at dksX7_within_2 14 rfl rfl)
theorem dX7_within_63 : decode cX7_within 63 = .ok (.istore_n 3, 1) := dk_62 (dk_at dksX7_within_2 15 rfl rfl)
theorem dX7_within_64 : decode cX7_within 64 = .ok (.aload_n 0, 1) := dk_42 (dk_at dksX7_within_2 16 rfl rfl)
theorem dX7_within_65 : decode cX7_within 65 = .ok (.invokevirtual 131, 3) := dk_182 0 131 (dk_at dksX7_within_2 17 rfl rfl)
theorem dX7_within_68 : decode cX7_within 68 = .ok (.iload_n 3, 1) := dk_29 (dk_at dksX7_within_2 20 rfl rfl)
theorem dX7_within_69 : decode cX7_within 69 = .ok (.ireturn, 1) := dk_172 (dk_at dksX7_within_2 21 rfl rfl)
abbrev cX7_readWeight : ByteArray := prog_19_method_13_code
def yX7_readWeight : MethodName := ⟨RX7, "readWeight", "()V"⟩
def dkwX7_readWeight_2 : List UInt8 := [182, 0, 137, 61, 42, 180, 0, 118, 154, 0, 10, 42, 180, 0, 35, 27, 28, 79, 177]
abbrev dktX7_readWeight_2 : List UInt8 := dkwX7_readWeight_2 ++ []
def dkwX7_readWeight_1 : List UInt8 := [180, 0, 134, 161, 0, 8, 42, 4, 182, 0, 127, 42, 180, 0, 101, 60, 42, 182, 0, 131, 42, 4, 16, 9]
abbrev dktX7_readWeight_1 : List UInt8 := dkwX7_readWeight_1 ++ dktX7_readWeight_2
def dkwX7_readWeight_0 : List UInt8 := [42, 182, 0, 131, 42, 180, 0, 118, 154, 0, 27, 42, 180, 0, 91, 4, 160, 0, 14, 42, 180, 0, 101, 42]
abbrev dktX7_readWeight_0 : List UInt8 := dkwX7_readWeight_0 ++ dktX7_readWeight_1
theorem dksX7_readWeight_0 : cX7_readWeight.data.toList.drop 0 = dktX7_readWeight_0 := by decide +kernel
theorem dksX7_readWeight_1 : cX7_readWeight.data.toList.drop 24 = dktX7_readWeight_1 := dk_seg dksX7_readWeight_0 24 rfl rfl
theorem dksX7_readWeight_2 : cX7_readWeight.data.toList.drop 48 = dktX7_readWeight_2 := dk_seg dksX7_readWeight_1 24 rfl rfl
theorem dX7_readWeight_0 : decode cX7_readWeight 0 = .ok (.aload_n 0, 1) := dk_42 (dk_at dksX7_readWeight_0 0 rfl rfl)
theorem dX7_readWeight_1 : decode cX7_readWeight 1 = .ok (.invokevirtual 131, 3) := dk_182 0 131 (dk_at dksX7_readWeight_0 1 rfl rfl)
theorem dX7_readWeight_4 : decode cX7_readWeight 4 = .ok (.aload_n 0, 1) := dk_42 (dk_at dksX7_readWeight_0 4 rfl rfl)
theorem dX7_readWeight_5 : decode cX7_readWeight 5 = .ok (.getfield 118, 3) := dk_180 0 118 (dk_at dksX7_readWeight_0 5 rfl rfl)
theorem dX7_readWeight_8 : decode cX7_readWeight 8 = .ok (.ifCond .ne 27, 3) := dk_154 0 27 (dk_at dksX7_readWeight_0 8 rfl rfl)
theorem dX7_readWeight_11 : decode cX7_readWeight 11 = .ok (.aload_n 0, 1) := dk_42 (dk_at dksX7_readWeight_0 11 rfl rfl)
theorem dX7_readWeight_12 : decode cX7_readWeight 12 = .ok (.getfield 91, 3) := dk_180 0 91 (dk_at dksX7_readWeight_0 12 rfl rfl)
theorem dX7_readWeight_15 : decode cX7_readWeight 15 = .ok (.iconst 1, 1) := dk_4 (dk_at dksX7_readWeight_0 15 rfl rfl)
theorem dX7_readWeight_16 : decode cX7_readWeight 16 = .ok (.if_icmp .ne 14, 3) := dk_160 0 14 (dk_at dksX7_readWeight_0 16 rfl rfl)
theorem dX7_readWeight_19 : decode cX7_readWeight 19 = .ok (.aload_n 0, 1) := dk_42 (dk_at dksX7_readWeight_0 19 rfl rfl)
theorem dX7_readWeight_20 : decode cX7_readWeight 20 = .ok (.getfield 101, 3) := dk_180 0 101 (dk_at dksX7_readWeight_0 20 rfl rfl)
theorem dX7_readWeight_23 : decode cX7_readWeight 23 = .ok (.aload_n 0, 1) := dk_42 (dk_at dksX7_readWeight_0 23 rfl rfl)
theorem dX7_readWeight_24 : decode cX7_readWeight 24 = .ok (.getfield 134, 3) := dk_180 0 134 (dk_at dksX7_readWeight_1 0 rfl rfl)
theorem dX7_readWeight_27 : decode cX7_readWeight 27 = .ok (.if_icmp .lt 8, 3) := dk_161 0 8 (dk_at dksX7_readWeight_1 3 rfl rfl)
theorem dX7_readWeight_30 : decode cX7_readWeight 30 = .ok (.aload_n 0, 1) := dk_42 (dk_at dksX7_readWeight_1 6 rfl rfl)
theorem dX7_readWeight_31 : decode cX7_readWeight 31 = .ok (.iconst 1, 1) := dk_4 (dk_at dksX7_readWeight_1 7 rfl rfl)
theorem dX7_readWeight_32 : decode cX7_readWeight 32 = .ok (.invokevirtual 127, 3) := dk_182 0 127 (dk_at dksX7_readWeight_1 8 rfl rfl)
theorem dX7_readWeight_35 : decode cX7_readWeight 35 = .ok (.aload_n 0, 1) := dk_42 (dk_at dksX7_readWeight_1 11 rfl rfl)
theorem dX7_readWeight_36 : decode cX7_readWeight 36 = .ok (.getfield 101, 3) := dk_180 0 101 (dk_at dksX7_readWeight_1 12 rfl rfl)
theorem dX7_readWeight_39 : decode cX7_readWeight 39 = .ok (.istore_n 1, 1) := dk_60 (dk_at dksX7_readWeight_1 15 rfl rfl)
theorem dX7_readWeight_40 : decode cX7_readWeight 40 = .ok (.aload_n 0, 1) := dk_42 (dk_at dksX7_readWeight_1 16 rfl rfl)
theorem dX7_readWeight_41 : decode cX7_readWeight 41 = .ok (.invokevirtual 131, 3) := dk_182 0 131 (dk_at dksX7_readWeight_1 17 rfl rfl)
theorem dX7_readWeight_44 : decode cX7_readWeight 44 = .ok (.aload_n 0, 1) := dk_42 (dk_at dksX7_readWeight_1 20 rfl rfl)
theorem dX7_readWeight_45 : decode cX7_readWeight 45 = .ok (.iconst 1, 1) := dk_4 (dk_at dksX7_readWeight_1 21 rfl rfl)
theorem dX7_readWeight_46 : decode cX7_readWeight 46 = .ok (.bipush 9, 2) := dk_16 9 (dk_at dksX7_readWeight_1 22 rfl rfl)
theorem dX7_readWeight_48 : decode cX7_readWeight 48 = .ok (.invokevirtual 137, 3) := dk_182 0 137 (dk_at dksX7_readWeight_2 0 rfl rfl)
theorem dX7_readWeight_51 : decode cX7_readWeight 51 = .ok (.istore_n 2, 1) := dk_61 (dk_at dksX7_readWeight_2 3 rfl rfl)
theorem dX7_readWeight_52 : decode cX7_readWeight 52 = .ok (.aload_n 0, 1) := dk_42 (dk_at dksX7_readWeight_2 4 rfl rfl)
theorem dX7_readWeight_53 : decode cX7_readWeight 53 = .ok (.getfield 118, 3) := dk_180 0 118 (dk_at dksX7_readWeight_2 5 rfl rfl)
theorem dX7_readWeight_56 : decode cX7_readWeight 56 = .ok (.ifCond .ne 10, 3) := dk_154 0 10 (dk_at dksX7_readWeight_2 8 rfl rfl)
theorem dX7_readWeight_59 : decode cX7_readWeight 59 = .ok (.aload_n 0, 1) := dk_42 (dk_at dksX7_readWeight_2 11 rfl rfl)
theorem dX7_readWeight_60 : decode cX7_readWeight 60 = .ok (.getfield 35, 3) := dk_180 0 35 (dk_at dksX7_readWeight_2 12 rfl rfl)
theorem dX7_readWeight_63 : decode cX7_readWeight 63 = .ok (.iload_n 1, 1) := dk_27 (dk_at dksX7_readWeight_2 15 rfl rfl)
theorem dX7_readWeight_64 : decode cX7_readWeight 64 = .ok (.iload_n 2, 1) := dk_28 (dk_at dksX7_readWeight_2 16 rfl rfl)
theorem dX7_readWeight_65 : decode cX7_readWeight 65 = .ok (.iastore, 1) := dk_79 (dk_at dksX7_readWeight_2 17 rfl rfl)
theorem dX7_readWeight_66 : decode cX7_readWeight 66 = .ok (.return_, 1) := dk_177 (dk_at dksX7_readWeight_2 18 rfl rfl)
abbrev cX7_readBlock : ByteArray := prog_19_method_14_code
def yX7_readBlock : MethodName := ⟨RX7, "readBlock", "()V"⟩
def dkwX7_readBlock_1 : List UInt8 := [16, 20, 182, 0, 137, 181, 0, 145, 177]
abbrev dktX7_readBlock_1 : List UInt8 := dkwX7_readBlock_1 ++ []
def dkwX7_readBlock_0 : List UInt8 := [42, 180, 0, 141, 153, 0, 8, 42, 6, 182, 0, 127, 42, 4, 181, 0, 141, 42, 182, 0, 131, 42, 42, 5]
abbrev dktX7_readBlock_0 : List UInt8 := dkwX7_readBlock_0 ++ dktX7_readBlock_1
theorem dksX7_readBlock_0 : cX7_readBlock.data.toList.drop 0 = dktX7_readBlock_0 := by decide +kernel
theorem dksX7_readBlock_1 : cX7_readBlock.data.toList.drop 24 = dktX7_readBlock_1 := dk_seg dksX7_readBlock_0 24 rfl rfl
theorem dX7_readBlock_0 : decode cX7_readBlock 0 = .ok (.aload_n 0, 1) := dk_42 (dk_at dksX7_readBlock_0 0 rfl rfl)
theorem dX7_readBlock_1 : decode cX7_readBlock 1 = .ok (.getfield 141, 3) := dk_180 0 141 (dk_at dksX7_readBlock_0 1 rfl rfl)
theorem dX7_readBlock_4 : decode cX7_readBlock 4 = .ok (.ifCond .eq 8, 3) := dk_153 0 8 (dk_at dksX7_readBlock_0 4 rfl rfl)
theorem dX7_readBlock_7 : decode cX7_readBlock 7 = .ok (.aload_n 0, 1) := dk_42 (dk_at dksX7_readBlock_0 7 rfl rfl)
theorem dX7_readBlock_8 : decode cX7_readBlock 8 = .ok (.iconst 3, 1) := dk_6 (dk_at dksX7_readBlock_0 8 rfl rfl)
theorem dX7_readBlock_9 : decode cX7_readBlock 9 = .ok (.invokevirtual 127, 3) := dk_182 0 127 (dk_at dksX7_readBlock_0 9 rfl rfl)
theorem dX7_readBlock_12 : decode cX7_readBlock 12 = .ok (.aload_n 0, 1) := dk_42 (dk_at dksX7_readBlock_0 12 rfl rfl)
theorem dX7_readBlock_13 : decode cX7_readBlock 13 = .ok (.iconst 1, 1) := dk_4 (dk_at dksX7_readBlock_0 13 rfl rfl)
theorem dX7_readBlock_14 : decode cX7_readBlock 14 = .ok (.putfield 141, 3) := dk_181 0 141 (dk_at dksX7_readBlock_0 14 rfl rfl)
theorem dX7_readBlock_17 : decode cX7_readBlock 17 = .ok (.aload_n 0, 1) := dk_42 (dk_at dksX7_readBlock_0 17 rfl rfl)
theorem dX7_readBlock_18 : decode cX7_readBlock 18 = .ok (.invokevirtual 131, 3) := dk_182 0 131 (dk_at dksX7_readBlock_0 18 rfl rfl)
theorem dX7_readBlock_21 : decode cX7_readBlock 21 = .ok (.aload_n 0, 1) := dk_42 (dk_at dksX7_readBlock_0 21 rfl rfl)
theorem dX7_readBlock_22 : decode cX7_readBlock 22 = .ok (.aload_n 0, 1) := dk_42 (dk_at dksX7_readBlock_0 22 rfl rfl)
theorem dX7_readBlock_23 : decode cX7_readBlock 23 = .ok (.iconst 2, 1) := dk_5 (dk_at dksX7_readBlock_0 23 rfl rfl)
theorem dX7_readBlock_24 : decode cX7_readBlock 24 = .ok (.bipush 20, 2) := dk_16 20 (dk_at dksX7_readBlock_1 0 rfl rfl)
theorem dX7_readBlock_26 : decode cX7_readBlock 26 = .ok (.invokevirtual 137, 3) := dk_182 0 137 (dk_at dksX7_readBlock_1 2 rfl rfl)
theorem dX7_readBlock_29 : decode cX7_readBlock 29 = .ok (.putfield 145, 3) := dk_181 0 145 (dk_at dksX7_readBlock_1 5 rfl rfl)
theorem dX7_readBlock_32 : decode cX7_readBlock 32 = .ok (.return_, 1) := dk_177 (dk_at dksX7_readBlock_1 8 rfl rfl)
abbrev cX7_readTies : ByteArray := prog_19_method_15_code
def yX7_readTies : MethodName := ⟨RX7, "readTies", "()V"⟩
def dkwX7_readTies_3 : List UInt8 := [3, 181, 0, 151, 42, 182, 0, 131, 177]
abbrev dktX7_readTies_3 : List UInt8 := dkwX7_readTies_3 ++ []
def dkwX7_readTies_2 : List UInt8 := [6, 164, 0, 8, 42, 4, 182, 0, 127, 42, 42, 180, 0, 118, 154, 0, 10, 42, 180, 0, 101, 167, 0, 4]
abbrev dktX7_readTies_2 : List UInt8 := dkwX7_readTies_2 ++ dktX7_readTies_3
def dkwX7_readTies_1 : List UInt8 := [180, 0, 118, 154, 0, 30, 42, 180, 0, 91, 154, 0, 18, 42, 180, 0, 101, 155, 0, 11, 42, 180, 0, 101]
abbrev dktX7_readTies_1 : List UInt8 := dkwX7_readTies_1 ++ dktX7_readTies_2
def dkwX7_readTies_0 : List UInt8 := [42, 180, 0, 148, 153, 0, 8, 42, 6, 182, 0, 127, 42, 4, 181, 0, 148, 42, 182, 0, 131, 42]
abbrev dktX7_readTies_0 : List UInt8 := dkwX7_readTies_0 ++ dktX7_readTies_1
theorem dksX7_readTies_0 : cX7_readTies.data.toList.drop 0 = dktX7_readTies_0 := by decide +kernel
theorem dksX7_readTies_1 : cX7_readTies.data.toList.drop 22 = dktX7_readTies_1 := dk_seg dksX7_readTies_0 22 rfl rfl
theorem dksX7_readTies_2 : cX7_readTies.data.toList.drop 46 = dktX7_readTies_2 := dk_seg dksX7_readTies_1 24 rfl rfl
theorem dksX7_readTies_3 : cX7_readTies.data.toList.drop 70 = dktX7_readTies_3 := dk_seg dksX7_readTies_2 24 rfl rfl
theorem dX7_readTies_0 : decode cX7_readTies 0 = .ok (.aload_n 0, 1) := dk_42 (dk_at dksX7_readTies_0 0 rfl rfl)
theorem dX7_readTies_1 : decode cX7_readTies 1 = .ok (.getfield 148, 3) := dk_180 0 148 (dk_at dksX7_readTies_0 1 rfl rfl)
theorem dX7_readTies_4 : decode cX7_readTies 4 = .ok (.ifCond .eq 8, 3) := dk_153 0 8 (dk_at dksX7_readTies_0 4 rfl rfl)
theorem dX7_readTies_7 : decode cX7_readTies 7 = .ok (.aload_n 0, 1) := dk_42 (dk_at dksX7_readTies_0 7 rfl rfl)
theorem dX7_readTies_8 : decode cX7_readTies 8 = .ok (.iconst 3, 1) := dk_6 (dk_at dksX7_readTies_0 8 rfl rfl)
theorem dX7_readTies_9 : decode cX7_readTies 9 = .ok (.invokevirtual 127, 3) := dk_182 0 127 (dk_at dksX7_readTies_0 9 rfl rfl)
theorem dX7_readTies_12 : decode cX7_readTies 12 = .ok (.aload_n 0, 1) := dk_42 (dk_at dksX7_readTies_0 12 rfl rfl)
theorem dX7_readTies_13 : decode cX7_readTies 13 = .ok (.iconst 1, 1) := dk_4 (dk_at dksX7_readTies_0 13 rfl rfl)
theorem dX7_readTies_14 : decode cX7_readTies 14 = .ok (.putfield 148, 3) := dk_181 0 148 (dk_at dksX7_readTies_0 14 rfl rfl)
theorem dX7_readTies_17 : decode cX7_readTies 17 = .ok (.aload_n 0, 1) := dk_42 (dk_at dksX7_readTies_0 17 rfl rfl)
theorem dX7_readTies_18 : decode cX7_readTies 18 = .ok (.invokevirtual 131, 3) := dk_182 0 131 (dk_at dksX7_readTies_0 18 rfl rfl)
theorem dX7_readTies_21 : decode cX7_readTies 21 = .ok (.aload_n 0, 1) := dk_42 (dk_at dksX7_readTies_0 21 rfl rfl)
theorem dX7_readTies_22 : decode cX7_readTies 22 = .ok (.getfield 118, 3) := dk_180 0 118 (dk_at dksX7_readTies_1 0 rfl rfl)
theorem dX7_readTies_25 : decode cX7_readTies 25 = .ok (.ifCond .ne 30, 3) := dk_154 0 30 (dk_at dksX7_readTies_1 3 rfl rfl)
theorem dX7_readTies_28 : decode cX7_readTies 28 = .ok (.aload_n 0, 1) := dk_42 (dk_at dksX7_readTies_1 6 rfl rfl)
theorem dX7_readTies_29 : decode cX7_readTies 29 = .ok (.getfield 91, 3) := dk_180 0 91 (dk_at dksX7_readTies_1 7 rfl rfl)
theorem dX7_readTies_32 : decode cX7_readTies 32 = .ok (.ifCond .ne 18, 3) := dk_154 0 18 (dk_at dksX7_readTies_1 10 rfl rfl)
theorem dX7_readTies_35 : decode cX7_readTies 35 = .ok (.aload_n 0, 1) := dk_42 (dk_at dksX7_readTies_1 13 rfl rfl)
theorem dX7_readTies_36 : decode cX7_readTies 36 = .ok (.getfield 101, 3) := dk_180 0 101 (dk_at dksX7_readTies_1 14 rfl rfl)
theorem dX7_readTies_39 : decode cX7_readTies 39 = .ok (.ifCond .lt 11, 3) := dk_155 0 11 (dk_at dksX7_readTies_1 17 rfl rfl)
theorem dX7_readTies_42 : decode cX7_readTies 42 = .ok (.aload_n 0, 1) := dk_42 (dk_at dksX7_readTies_1 20 rfl rfl)
theorem dX7_readTies_43 : decode cX7_readTies 43 = .ok (.getfield 101, 3) := dk_180 0 101 (dk_at dksX7_readTies_1 21 rfl rfl)
theorem dX7_readTies_46 : decode cX7_readTies 46 = .ok (.iconst 3, 1) := dk_6 (dk_at dksX7_readTies_2 0 rfl rfl)
theorem dX7_readTies_47 : decode cX7_readTies 47 = .ok (.if_icmp .le 8, 3) := dk_164 0 8 (dk_at dksX7_readTies_2 1 rfl rfl)
theorem dX7_readTies_50 : decode cX7_readTies 50 = .ok (.aload_n 0, 1) := dk_42 (dk_at dksX7_readTies_2 4 rfl rfl)
theorem dX7_readTies_51 : decode cX7_readTies 51 = .ok (.iconst 1, 1) := dk_4 (dk_at dksX7_readTies_2 5 rfl rfl)
theorem dX7_readTies_52 : decode cX7_readTies 52 = .ok (.invokevirtual 127, 3) := dk_182 0 127 (dk_at dksX7_readTies_2 6 rfl rfl)
theorem dX7_readTies_55 : decode cX7_readTies 55 = .ok (.aload_n 0, 1) := dk_42 (dk_at dksX7_readTies_2 9 rfl rfl)
theorem dX7_readTies_56 : decode cX7_readTies 56 = .ok (.aload_n 0, 1) := dk_42 (dk_at dksX7_readTies_2 10 rfl rfl)
theorem dX7_readTies_57 : decode cX7_readTies 57 = .ok (.getfield 118, 3) := dk_180 0 118 (dk_at dksX7_readTies_2 11 rfl rfl)
theorem dX7_readTies_60 : decode cX7_readTies 60 = .ok (.ifCond .ne 10, 3) := dk_154 0 10 (dk_at dksX7_readTies_2 14 rfl rfl)
theorem dX7_readTies_63 : decode cX7_readTies 63 = .ok (.aload_n 0, 1) := dk_42 (dk_at dksX7_readTies_2 17 rfl rfl)
theorem dX7_readTies_64 : decode cX7_readTies 64 = .ok (.getfield 101, 3) := dk_180 0 101 (dk_at dksX7_readTies_2 18 rfl rfl)
theorem dX7_readTies_67 : decode cX7_readTies 67 = .ok (.goto 4, 3) := dk_167 0 4 (dk_at dksX7_readTies_2 21 rfl rfl)
theorem dX7_readTies_70 : decode cX7_readTies 70 = .ok (.iconst 0, 1) := dk_3 (dk_at dksX7_readTies_3 0 rfl rfl)
theorem dX7_readTies_71 : decode cX7_readTies 71 = .ok (.putfield 151, 3) := dk_181 0 151 (dk_at dksX7_readTies_3 1 rfl rfl)
theorem dX7_readTies_74 : decode cX7_readTies 74 = .ok (.aload_n 0, 1) := dk_42 (dk_at dksX7_readTies_3 4 rfl rfl)
theorem dX7_readTies_75 : decode cX7_readTies 75 = .ok (.invokevirtual 131, 3) := dk_182 0 131 (dk_at dksX7_readTies_3 5 rfl rfl)
theorem dX7_readTies_78 : decode cX7_readTies 78 = .ok (.return_, 1) := dk_177 (dk_at dksX7_readTies_3 8 rfl rfl)
abbrev cX7_fault : ByteArray := prog_19_method_18_code
def yX7_fault : MethodName := ⟨RX7, "fault", "(I)I"⟩
def dkwX7_fault_1 : List UInt8 := [180, 0, 38, 167, 0, 4, 2, 172]
abbrev dktX7_fault_1 : List UInt8 := dkwX7_fault_1 ++ []
def dkwX7_fault_0 : List UInt8 := [42, 3, 181, 0, 72, 27, 154, 0, 10, 42, 180, 0, 172, 167, 0, 16, 27, 4, 160, 0, 10, 42]
abbrev dktX7_fault_0 : List UInt8 := dkwX7_fault_0 ++ dktX7_fault_1
theorem dksX7_fault_0 : cX7_fault.data.toList.drop 0 = dktX7_fault_0 := by decide +kernel
theorem dksX7_fault_1 : cX7_fault.data.toList.drop 22 = dktX7_fault_1 := dk_seg dksX7_fault_0 22 rfl rfl
theorem dX7_fault_0 : decode cX7_fault 0 = .ok (.aload_n 0, 1) := dk_42 (dk_at dksX7_fault_0 0 rfl rfl)
theorem dX7_fault_1 : decode cX7_fault 1 = .ok (.iconst 0, 1) := dk_3 (dk_at dksX7_fault_0 1 rfl rfl)
theorem dX7_fault_2 : decode cX7_fault 2 = .ok (.putfield 72, 3) := dk_181 0 72 (dk_at dksX7_fault_0 2 rfl rfl)
theorem dX7_fault_5 : decode cX7_fault 5 = .ok (.iload_n 1, 1) := dk_27 (dk_at dksX7_fault_0 5 rfl rfl)
theorem dX7_fault_6 : decode cX7_fault 6 = .ok (.ifCond .ne 10, 3) := dk_154 0 10 (dk_at dksX7_fault_0 6 rfl rfl)
theorem dX7_fault_9 : decode cX7_fault 9 = .ok (.aload_n 0, 1) := dk_42 (dk_at dksX7_fault_0 9 rfl rfl)
theorem dX7_fault_10 : decode cX7_fault 10 = .ok (.getfield 172, 3) := dk_180 0 172 (dk_at dksX7_fault_0 10 rfl rfl)
theorem dX7_fault_13 : decode cX7_fault 13 = .ok (.goto 16, 3) := dk_167 0 16 (dk_at dksX7_fault_0 13 rfl rfl)
theorem dX7_fault_16 : decode cX7_fault 16 = .ok (.iload_n 1, 1) := dk_27 (dk_at dksX7_fault_0 16 rfl rfl)
theorem dX7_fault_17 : decode cX7_fault 17 = .ok (.iconst 1, 1) := dk_4 (dk_at dksX7_fault_0 17 rfl rfl)
theorem dX7_fault_18 : decode cX7_fault 18 = .ok (.if_icmp .ne 10, 3) := dk_160 0 10 (dk_at dksX7_fault_0 18 rfl rfl)
theorem dX7_fault_21 : decode cX7_fault 21 = .ok (.aload_n 0, 1) := dk_42 (dk_at dksX7_fault_0 21 rfl rfl)
theorem dX7_fault_22 : decode cX7_fault 22 = .ok (.getfield 38, 3) := dk_180 0 38 (dk_at dksX7_fault_1 0 rfl rfl)
theorem dX7_fault_25 : decode cX7_fault 25 = .ok (.goto 4, 3) := dk_167 0 4 (dk_at dksX7_fault_1 3 rfl rfl)
theorem dX7_fault_28 : decode cX7_fault 28 = .ok (.iconst (-1), 1) := dk_2 (dk_at dksX7_fault_1 6 rfl rfl)
theorem dX7_fault_29 : decode cX7_fault 29 = .ok (.ireturn, 1) := dk_172 (dk_at dksX7_fault_1 7 rfl rfl)
abbrev cX7_place : ByteArray := prog_19_method_24_code
def yX7_place : MethodName := ⟨RX7, "place", "(II)I"⟩
def dkwX7_place_4 : List UInt8 := [182, 0, 194, 172, 42, 5, 181, 0, 72, 3, 172]
abbrev dktX7_place_4 : List UInt8 := dkwX7_place_4 ++ []
def dkwX7_place_3 : List UInt8 := [4, 100, 42, 180, 0, 13, 27, 46, 182, 0, 190, 172, 42, 27, 4, 182, 0, 194, 172, 42, 27, 2]
abbrev dktX7_place_3 : List UInt8 := dkwX7_place_3 ++ dktX7_place_4
def dkwX7_place_2 : List UInt8 := [42, 180, 0, 13, 27, 46, 172, 42, 180, 0, 16, 27, 46, 172, 27, 42, 180, 0, 69, 108, 172, 42, 3, 27]
abbrev dktX7_place_2 : List UInt8 := dkwX7_place_2 ++ dktX7_place_3
def dkwX7_place_1 : List UInt8 := [170, 0, 0, 0, 0, 0, 89, 0, 0, 0, 0, 0, 0, 0, 5, 0, 0, 0, 39, 0, 0, 0, 46, 0, 0, 0, 53, 0, 0, 0, 60, 0, 0, 0, 75, 0, 0, 0, 82]
abbrev dktX7_place_1 : List UInt8 := dkwX7_place_1 ++ dktX7_place_2
def dkwX7_place_0 : List UInt8 := [42, 3, 181, 0, 72, 42, 27, 182, 0, 187, 154, 0, 10, 42, 4, 181, 0, 72, 3, 172, 28]
abbrev dktX7_place_0 : List UInt8 := dkwX7_place_0 ++ dktX7_place_1
theorem dksX7_place_0 : cX7_place.data.toList.drop 0 = dktX7_place_0 := by decide +kernel
theorem dksX7_place_1 : cX7_place.data.toList.drop 21 = dktX7_place_1 := dk_seg dksX7_place_0 21 rfl rfl
theorem dksX7_place_2 : cX7_place.data.toList.drop 60 = dktX7_place_2 := dk_seg dksX7_place_1 39 rfl rfl
theorem dksX7_place_3 : cX7_place.data.toList.drop 84 = dktX7_place_3 := dk_seg dksX7_place_2 24 rfl rfl
theorem dksX7_place_4 : cX7_place.data.toList.drop 106 = dktX7_place_4 := dk_seg dksX7_place_3 22 rfl rfl
theorem dX7_place_0 : decode cX7_place 0 = .ok (.aload_n 0, 1) := dk_42 (dk_at dksX7_place_0 0 rfl rfl)
theorem dX7_place_1 : decode cX7_place 1 = .ok (.iconst 0, 1) := dk_3 (dk_at dksX7_place_0 1 rfl rfl)
theorem dX7_place_2 : decode cX7_place 2 = .ok (.putfield 72, 3) := dk_181 0 72 (dk_at dksX7_place_0 2 rfl rfl)
theorem dX7_place_5 : decode cX7_place 5 = .ok (.aload_n 0, 1) := dk_42 (dk_at dksX7_place_0 5 rfl rfl)
theorem dX7_place_6 : decode cX7_place 6 = .ok (.iload_n 1, 1) := dk_27 (dk_at dksX7_place_0 6 rfl rfl)
theorem dX7_place_7 : decode cX7_place 7 = .ok (.invokevirtual 187, 3) := dk_182 0 187 (dk_at dksX7_place_0 7 rfl rfl)
theorem dX7_place_10 : decode cX7_place 10 = .ok (.ifCond .ne 10, 3) := dk_154 0 10 (dk_at dksX7_place_0 10 rfl rfl)
theorem dX7_place_13 : decode cX7_place 13 = .ok (.aload_n 0, 1) := dk_42 (dk_at dksX7_place_0 13 rfl rfl)
theorem dX7_place_14 : decode cX7_place 14 = .ok (.iconst 1, 1) := dk_4 (dk_at dksX7_place_0 14 rfl rfl)
theorem dX7_place_15 : decode cX7_place 15 = .ok (.putfield 72, 3) := dk_181 0 72 (dk_at dksX7_place_0 15 rfl rfl)
theorem dX7_place_18 : decode cX7_place 18 = .ok (.iconst 0, 1) := dk_3 (dk_at dksX7_place_0 18 rfl rfl)
theorem dX7_place_19 : decode cX7_place 19 = .ok (.ireturn, 1) := dk_172 (dk_at dksX7_place_0 19 rfl rfl)
theorem dX7_place_20 : decode cX7_place 20 = .ok (.iload_n 2, 1) := dk_28 (dk_at dksX7_place_0 20 rfl rfl)
theorem dX7_place_21 : decode cX7_place 21 = .ok (.tableswitch 89 0 5 #[39, 46, 53, 60, 75, 82], 39) := by decide +kernel
theorem dX7_place_60 : decode cX7_place 60 = .ok (.aload_n 0, 1) := dk_42 (dk_at dksX7_place_2 0 rfl rfl)
theorem dX7_place_61 : decode cX7_place 61 = .ok (.getfield 13, 3) := dk_180 0 13 (dk_at dksX7_place_2 1 rfl rfl)
theorem dX7_place_64 : decode cX7_place 64 = .ok (.iload_n 1, 1) := dk_27 (dk_at dksX7_place_2 4 rfl rfl)
theorem dX7_place_65 : decode cX7_place 65 = .ok (.iaload, 1) := dk_46 (dk_at dksX7_place_2 5 rfl rfl)
theorem dX7_place_66 : decode cX7_place 66 = .ok (.ireturn, 1) := dk_172 (dk_at dksX7_place_2 6 rfl rfl)
theorem dX7_place_67 : decode cX7_place 67 = .ok (.aload_n 0, 1) := dk_42 (dk_at dksX7_place_2 7 rfl rfl)
theorem dX7_place_68 : decode cX7_place 68 = .ok (.getfield 16, 3) := dk_180 0 16 (dk_at dksX7_place_2 8 rfl rfl)
theorem dX7_place_71 : decode cX7_place 71 = .ok (.iload_n 1, 1) := dk_27 (dk_at dksX7_place_2 11 rfl rfl)
theorem dX7_place_72 : decode cX7_place 72 = .ok (.iaload, 1) := dk_46 (dk_at dksX7_place_2 12 rfl rfl)
theorem dX7_place_73 : decode cX7_place 73 = .ok (.ireturn, 1) := dk_172 (dk_at dksX7_place_2 13 rfl rfl)
theorem dX7_place_74 : decode cX7_place 74 = .ok (.iload_n 1, 1) := dk_27 (dk_at dksX7_place_2 14 rfl rfl)
theorem dX7_place_75 : decode cX7_place 75 = .ok (.aload_n 0, 1) := dk_42 (dk_at dksX7_place_2 15 rfl rfl)
theorem dX7_place_76 : decode cX7_place 76 = .ok (.getfield 69, 3) := dk_180 0 69 (dk_at dksX7_place_2 16 rfl rfl)
theorem dX7_place_79 : decode cX7_place 79 = .ok (.idiv, 1) := dk_108 (dk_at dksX7_place_2 19 rfl rfl)
theorem dX7_place_80 : decode cX7_place 80 = .ok (.ireturn, 1) := dk_172 (dk_at dksX7_place_2 20 rfl rfl)
theorem dX7_place_81 : decode cX7_place 81 = .ok (.aload_n 0, 1) := dk_42 (dk_at dksX7_place_2 21 rfl rfl)
theorem dX7_place_82 : decode cX7_place 82 = .ok (.iconst 0, 1) := dk_3 (dk_at dksX7_place_2 22 rfl rfl)
theorem dX7_place_83 : decode cX7_place 83 = .ok (.iload_n 1, 1) := dk_27 (dk_at dksX7_place_2 23 rfl rfl)
theorem dX7_place_84 : decode cX7_place 84 = .ok (.iconst 1, 1) := dk_4 (dk_at dksX7_place_3 0 rfl rfl)
theorem dX7_place_85 : decode cX7_place 85 = .ok (.isub, 1) := dk_100 (dk_at dksX7_place_3 1 rfl rfl)
theorem dX7_place_86 : decode cX7_place 86 = .ok (.aload_n 0, 1) := dk_42 (dk_at dksX7_place_3 2 rfl rfl)
theorem dX7_place_87 : decode cX7_place 87 = .ok (.getfield 13, 3) := dk_180 0 13 (dk_at dksX7_place_3 3 rfl rfl)
theorem dX7_place_90 : decode cX7_place 90 = .ok (.iload_n 1, 1) := dk_27 (dk_at dksX7_place_3 6 rfl rfl)
theorem dX7_place_91 : decode cX7_place 91 = .ok (.iaload, 1) := dk_46 (dk_at dksX7_place_3 7 rfl rfl)
theorem dX7_place_92 : decode cX7_place 92 = .ok (.invokevirtual 190, 3) := dk_182 0 190 (dk_at dksX7_place_3 8 rfl rfl)
theorem dX7_place_95 : decode cX7_place 95 = .ok (.ireturn, 1) := dk_172 (dk_at dksX7_place_3 11 rfl rfl)
theorem dX7_place_96 : decode cX7_place 96 = .ok (.aload_n 0, 1) := dk_42 (dk_at dksX7_place_3 12 rfl rfl)
theorem dX7_place_97 : decode cX7_place 97 = .ok (.iload_n 1, 1) := dk_27 (dk_at dksX7_place_3 13 rfl rfl)
theorem dX7_place_98 : decode cX7_place 98 = .ok (.iconst 1, 1) := dk_4 (dk_at dksX7_place_3 14 rfl rfl)
theorem dX7_place_99 : decode cX7_place 99 = .ok (.invokevirtual 194, 3) := dk_182 0 194 (dk_at dksX7_place_3 15 rfl rfl)
theorem dX7_place_102 : decode cX7_place 102 = .ok (.ireturn, 1) := dk_172 (dk_at dksX7_place_3 18 rfl rfl)
theorem dX7_place_103 : decode cX7_place 103 = .ok (.aload_n 0, 1) := dk_42 (dk_at dksX7_place_3 19 rfl rfl)
theorem dX7_place_104 : decode cX7_place 104 = .ok (.iload_n 1, 1) := dk_27 (dk_at dksX7_place_3 20 rfl rfl)
theorem dX7_place_105 : decode cX7_place 105 = .ok (.iconst (-1), 1) := dk_2 (dk_at dksX7_place_3 21 rfl rfl)
theorem dX7_place_106 : decode cX7_place 106 = .ok (.invokevirtual 194, 3) := dk_182 0 194 (dk_at dksX7_place_4 0 rfl rfl)
theorem dX7_place_109 : decode cX7_place 109 = .ok (.ireturn, 1) := dk_172 (dk_at dksX7_place_4 3 rfl rfl)
theorem dX7_place_110 : decode cX7_place 110 = .ok (.aload_n 0, 1) := dk_42 (dk_at dksX7_place_4 4 rfl rfl)
theorem dX7_place_111 : decode cX7_place 111 = .ok (.iconst 2, 1) := dk_5 (dk_at dksX7_place_4 5 rfl rfl)
theorem dX7_place_112 : decode cX7_place 112 = .ok (.putfield 72, 3) := dk_181 0 72 (dk_at dksX7_place_4 6 rfl rfl)
theorem dX7_place_115 : decode cX7_place 115 = .ok (.iconst 0, 1) := dk_3 (dk_at dksX7_place_4 9 rfl rfl)
theorem dX7_place_116 : decode cX7_place 116 = .ok (.ireturn, 1) := dk_172 (dk_at dksX7_place_4 10 rfl rfl)
abbrev cX7_isPlace : ByteArray := prog_19_method_19_code
def yX7_isPlace : MethodName := ⟨RX7, "isPlace", "(I)Z"⟩
def dkwX7_isPlace_0 : List UInt8 := [27, 155, 0, 15, 27, 42, 180, 0, 175, 162, 0, 7, 4, 167, 0, 4, 3, 172]
abbrev dktX7_isPlace_0 : List UInt8 := dkwX7_isPlace_0 ++ []
theorem dksX7_isPlace_0 : cX7_isPlace.data.toList.drop 0 = dktX7_isPlace_0 := by decide +kernel
theorem dX7_isPlace_0 : decode cX7_isPlace 0 = .ok (.iload_n 1, 1) := dk_27 (dk_at dksX7_isPlace_0 0 rfl rfl)
theorem dX7_isPlace_1 : decode cX7_isPlace 1 = .ok (.ifCond .lt 15, 3) := dk_155 0 15 (dk_at dksX7_isPlace_0 1 rfl rfl)
theorem dX7_isPlace_4 : decode cX7_isPlace 4 = .ok (.iload_n 1, 1) := dk_27 (dk_at dksX7_isPlace_0 4 rfl rfl)
theorem dX7_isPlace_5 : decode cX7_isPlace 5 = .ok (.aload_n 0, 1) := dk_42 (dk_at dksX7_isPlace_0 5 rfl rfl)
theorem dX7_isPlace_6 : decode cX7_isPlace 6 = .ok (.getfield 175, 3) := dk_180 0 175 (dk_at dksX7_isPlace_0 6 rfl rfl)
theorem dX7_isPlace_9 : decode cX7_isPlace 9 = .ok (.if_icmp .ge 7, 3) := dk_162 0 7 (dk_at dksX7_isPlace_0 9 rfl rfl)
theorem dX7_isPlace_12 : decode cX7_isPlace 12 = .ok (.iconst 1, 1) := dk_4 (dk_at dksX7_isPlace_0 12 rfl rfl)
theorem dX7_isPlace_13 : decode cX7_isPlace 13 = .ok (.goto 4, 3) := dk_167 0 4 (dk_at dksX7_isPlace_0 13 rfl rfl)
theorem dX7_isPlace_16 : decode cX7_isPlace 16 = .ok (.iconst 0, 1) := dk_3 (dk_at dksX7_isPlace_0 16 rfl rfl)
theorem dX7_isPlace_17 : decode cX7_isPlace 17 = .ok (.ireturn, 1) := dk_172 (dk_at dksX7_isPlace_0 17 rfl rfl)
abbrev cX7_timesIn : ByteArray := prog_19_method_49_code
def yX7_timesIn : MethodName := ⟨RX7, "timesIn", "(III)I"⟩
def dkwX7_timesIn_1 : List UInt8 := [160, 0, 7, 4, 167, 0, 4, 3, 96, 54, 4, 132, 5, 1, 167, 255, 226, 21, 4, 172]
abbrev dktX7_timesIn_1 : List UInt8 := dkwX7_timesIn_1 ++ []
def dkwX7_timesIn_0 : List UInt8 := [3, 54, 4, 27, 54, 5, 21, 5, 28, 163, 0, 30, 21, 4, 42, 180, 0, 13, 21, 5, 46, 29]
abbrev dktX7_timesIn_0 : List UInt8 := dkwX7_timesIn_0 ++ dktX7_timesIn_1
theorem dksX7_timesIn_0 : cX7_timesIn.data.toList.drop 0 = dktX7_timesIn_0 := by decide +kernel
theorem dksX7_timesIn_1 : cX7_timesIn.data.toList.drop 22 = dktX7_timesIn_1 := dk_seg dksX7_timesIn_0 22 rfl rfl
theorem dX7_timesIn_0 : decode cX7_timesIn 0 = .ok (.iconst 0, 1) := dk_3 (dk_at dksX7_timesIn_0 0 rfl rfl)
theorem dX7_timesIn_1 : decode cX7_timesIn 1 = .ok (.istore 4, 2) := dk_54 4 (dk_at dksX7_timesIn_0 1 rfl rfl)
theorem dX7_timesIn_3 : decode cX7_timesIn 3 = .ok (.iload_n 1, 1) := dk_27 (dk_at dksX7_timesIn_0 3 rfl rfl)
theorem dX7_timesIn_4 : decode cX7_timesIn 4 = .ok (.istore 5, 2) := dk_54 5 (dk_at dksX7_timesIn_0 4 rfl rfl)
theorem dX7_timesIn_6 : decode cX7_timesIn 6 = .ok (.iload 5, 2) := dk_21 5 (dk_at dksX7_timesIn_0 6 rfl rfl)
theorem dX7_timesIn_8 : decode cX7_timesIn 8 = .ok (.iload_n 2, 1) := dk_28 (dk_at dksX7_timesIn_0 8 rfl rfl)
theorem dX7_timesIn_9 : decode cX7_timesIn 9 = .ok (.if_icmp .gt 30, 3) := dk_163 0 30 (dk_at dksX7_timesIn_0 9 rfl rfl)
theorem dX7_timesIn_12 : decode cX7_timesIn 12 = .ok (.iload 4, 2) := dk_21 4 (dk_at dksX7_timesIn_0 12 rfl rfl)
theorem dX7_timesIn_14 : decode cX7_timesIn 14 = .ok (.aload_n 0, 1) := dk_42 (dk_at dksX7_timesIn_0 14 rfl rfl)
theorem dX7_timesIn_15 : decode cX7_timesIn 15 = .ok (.getfield 13, 3) := dk_180 0 13 (dk_at dksX7_timesIn_0 15 rfl rfl)
theorem dX7_timesIn_18 : decode cX7_timesIn 18 = .ok (.iload 5, 2) := dk_21 5 (dk_at dksX7_timesIn_0 18 rfl rfl)
theorem dX7_timesIn_20 : decode cX7_timesIn 20 = .ok (.iaload, 1) := dk_46 (dk_at dksX7_timesIn_0 20 rfl rfl)
theorem dX7_timesIn_21 : decode cX7_timesIn 21 = .ok (.iload_n 3, 1) := dk_29 (dk_at dksX7_timesIn_0 21 rfl rfl)
theorem dX7_timesIn_22 : decode cX7_timesIn 22 = .ok (.if_icmp .ne 7, 3) := dk_160 0 7 (dk_at dksX7_timesIn_1 0 rfl rfl)
theorem dX7_timesIn_25 : decode cX7_timesIn 25 = .ok (.iconst 1, 1) := dk_4 (dk_at dksX7_timesIn_1 3 rfl rfl)
theorem dX7_timesIn_26 : decode cX7_timesIn 26 = .ok (.goto 4, 3) := dk_167 0 4 (dk_at dksX7_timesIn_1 4 rfl rfl)
theorem dX7_timesIn_29 : decode cX7_timesIn 29 = .ok (.iconst 0, 1) := dk_3 (dk_at dksX7_timesIn_1 7 rfl rfl)
theorem dX7_timesIn_30 : decode cX7_timesIn 30 = .ok (.iadd, 1) := dk_96 (dk_at dksX7_timesIn_1 8 rfl rfl)
theorem dX7_timesIn_31 : decode cX7_timesIn 31 = .ok (.istore 4, 2) := dk_54 4 (dk_at dksX7_timesIn_1 9 rfl rfl)
theorem dX7_timesIn_33 : decode cX7_timesIn 33 = .ok (.iinc 5 1, 3) := dk_132 5 1 (dk_at dksX7_timesIn_1 11 rfl rfl)
theorem dX7_timesIn_36 : decode cX7_timesIn 36 = .ok (.goto (-30), 3) := dk_167 255 226 (dk_at dksX7_timesIn_1 14 rfl rfl)
theorem dX7_timesIn_39 : decode cX7_timesIn 39 = .ok (.iload 4, 2) := dk_21 4 (dk_at dksX7_timesIn_1 17 rfl rfl)
theorem dX7_timesIn_41 : decode cX7_timesIn 41 = .ok (.ireturn, 1) := dk_172 (dk_at dksX7_timesIn_1 19 rfl rfl)
abbrev cX7_nextTo : ByteArray := prog_19_method_23_code
def yX7_nextTo : MethodName := ⟨RX7, "nextTo", "(II)I"⟩
def dkwX7_nextTo_2 : List UInt8 := [172]
abbrev dktX7_nextTo_2 : List UInt8 := dkwX7_nextTo_2 ++ []
def dkwX7_nextTo_1 : List UInt8 := [159, 0, 10, 29, 28, 96, 62, 167, 255, 229, 42, 29, 182, 0, 187, 153, 0, 7, 29, 167, 0, 5, 16, 254]
abbrev dktX7_nextTo_1 : List UInt8 := dkwX7_nextTo_1 ++ dktX7_nextTo_2
def dkwX7_nextTo_0 : List UInt8 := [27, 28, 96, 62, 42, 29, 182, 0, 187, 153, 0, 25, 42, 180, 0, 13, 29, 46, 42, 180, 0, 13, 27, 46]
abbrev dktX7_nextTo_0 : List UInt8 := dkwX7_nextTo_0 ++ dktX7_nextTo_1
theorem dksX7_nextTo_0 : cX7_nextTo.data.toList.drop 0 = dktX7_nextTo_0 := by decide +kernel
theorem dksX7_nextTo_1 : cX7_nextTo.data.toList.drop 24 = dktX7_nextTo_1 := dk_seg dksX7_nextTo_0 24 rfl rfl
theorem dksX7_nextTo_2 : cX7_nextTo.data.toList.drop 48 = dktX7_nextTo_2 := dk_seg dksX7_nextTo_1 24 rfl rfl
theorem dX7_nextTo_0 : decode cX7_nextTo 0 = .ok (.iload_n 1, 1) := dk_27 (dk_at dksX7_nextTo_0 0 rfl rfl)
theorem dX7_nextTo_1 : decode cX7_nextTo 1 = .ok (.iload_n 2, 1) := dk_28 (dk_at dksX7_nextTo_0 1 rfl rfl)
theorem dX7_nextTo_2 : decode cX7_nextTo 2 = .ok (.iadd, 1) := dk_96 (dk_at dksX7_nextTo_0 2 rfl rfl)
theorem dX7_nextTo_3 : decode cX7_nextTo 3 = .ok (.istore_n 3, 1) := dk_62 (dk_at dksX7_nextTo_0 3 rfl rfl)
theorem dX7_nextTo_4 : decode cX7_nextTo 4 = .ok (.aload_n 0, 1) := dk_42 (dk_at dksX7_nextTo_0 4 rfl rfl)
theorem dX7_nextTo_5 : decode cX7_nextTo 5 = .ok (.iload_n 3, 1) := dk_29 (dk_at dksX7_nextTo_0 5 rfl rfl)
theorem dX7_nextTo_6 : decode cX7_nextTo 6 = .ok (.invokevirtual 187, 3) := dk_182 0 187 (dk_at dksX7_nextTo_0 6 rfl rfl)
theorem dX7_nextTo_9 : decode cX7_nextTo 9 = .ok (.ifCond .eq 25, 3) := dk_153 0 25 (dk_at dksX7_nextTo_0 9 rfl rfl)
theorem dX7_nextTo_12 : decode cX7_nextTo 12 = .ok (.aload_n 0, 1) := dk_42 (dk_at dksX7_nextTo_0 12 rfl rfl)
theorem dX7_nextTo_13 : decode cX7_nextTo 13 = .ok (.getfield 13, 3) := dk_180 0 13 (dk_at dksX7_nextTo_0 13 rfl rfl)
theorem dX7_nextTo_16 : decode cX7_nextTo 16 = .ok (.iload_n 3, 1) := dk_29 (dk_at dksX7_nextTo_0 16 rfl rfl)
theorem dX7_nextTo_17 : decode cX7_nextTo 17 = .ok (.iaload, 1) := dk_46 (dk_at dksX7_nextTo_0 17 rfl rfl)
theorem dX7_nextTo_18 : decode cX7_nextTo 18 = .ok (.aload_n 0, 1) := dk_42 (dk_at dksX7_nextTo_0 18 rfl rfl)
theorem dX7_nextTo_19 : decode cX7_nextTo 19 = .ok (.getfield 13, 3) := dk_180 0 13 (dk_at dksX7_nextTo_0 19 rfl rfl)
theorem dX7_nextTo_22 : decode cX7_nextTo 22 = .ok (.iload_n 1, 1) := dk_27 (dk_at dksX7_nextTo_0 22 rfl rfl)
theorem dX7_nextTo_23 : decode cX7_nextTo 23 = .ok (.iaload, 1) := dk_46 (dk_at dksX7_nextTo_0 23 rfl rfl)
theorem dX7_nextTo_24 : decode cX7_nextTo 24 = .ok (.if_icmp .eq 10, 3) := dk_159 0 10 (dk_at dksX7_nextTo_1 0 rfl rfl)
theorem dX7_nextTo_27 : decode cX7_nextTo 27 = .ok (.iload_n 3, 1) := dk_29 (dk_at dksX7_nextTo_1 3 rfl rfl)
theorem dX7_nextTo_28 : decode cX7_nextTo 28 = .ok (.iload_n 2, 1) := dk_28 (dk_at dksX7_nextTo_1 4 rfl rfl)
theorem dX7_nextTo_29 : decode cX7_nextTo 29 = .ok (.iadd, 1) := dk_96 (dk_at dksX7_nextTo_1 5 rfl rfl)
theorem dX7_nextTo_30 : decode cX7_nextTo 30 = .ok (.istore_n 3, 1) := dk_62 (dk_at dksX7_nextTo_1 6 rfl rfl)
theorem dX7_nextTo_31 : decode cX7_nextTo 31 = .ok (.goto (-27), 3) := dk_167 255 229 (dk_at dksX7_nextTo_1 7 rfl rfl)
theorem dX7_nextTo_34 : decode cX7_nextTo 34 = .ok (.aload_n 0, 1) := dk_42 (dk_at dksX7_nextTo_1 10 rfl rfl)
theorem dX7_nextTo_35 : decode cX7_nextTo 35 = .ok (.iload_n 3, 1) := dk_29 (dk_at dksX7_nextTo_1 11 rfl rfl)
theorem dX7_nextTo_36 : decode cX7_nextTo 36 = .ok (.invokevirtual 187, 3) := dk_182 0 187 (dk_at dksX7_nextTo_1 12 rfl rfl)
theorem dX7_nextTo_39 : decode cX7_nextTo 39 = .ok (.ifCond .eq 7, 3) := dk_153 0 7 (dk_at dksX7_nextTo_1 15 rfl rfl)
theorem dX7_nextTo_42 : decode cX7_nextTo 42 = .ok (.iload_n 3, 1) := dk_29 (dk_at dksX7_nextTo_1 18 rfl rfl)
theorem dX7_nextTo_43 : decode cX7_nextTo 43 = .ok (.goto 5, 3) := dk_167 0 5 (dk_at dksX7_nextTo_1 19 rfl rfl)
theorem dX7_nextTo_46 : decode cX7_nextTo 46 = .ok (.bipush (-2), 2) := dk_16 254 (dk_at dksX7_nextTo_1 22 rfl rfl)
theorem dX7_nextTo_48 : decode cX7_nextTo 48 = .ok (.ireturn, 1) := dk_172 (dk_at dksX7_nextTo_2 0 rfl rfl)
abbrev cX7_undo : ByteArray := prog_19_method_34_code
def yX7_undo : MethodName := ⟨RX7, "undo", "()I"⟩
def dkwX7_undo_4 : List UInt8 := [182, 0, 217, 42, 180, 0, 184, 172]
abbrev dktX7_undo_4 : List UInt8 := dkwX7_undo_4 ++ []
def dkwX7_undo_3 : List UInt8 := [42, 180, 0, 22, 16, 120, 42, 180, 0, 184, 104, 27, 96, 46, 79, 132, 1, 1, 167, 255, 205, 42]
abbrev dktX7_undo_3 : List UInt8 := dkwX7_undo_3 ++ dktX7_undo_4
def dkwX7_undo_2 : List UInt8 := [180, 0, 41, 27, 42, 180, 0, 19, 16, 120, 42, 180, 0, 184, 104, 27, 96, 46, 79, 42, 180, 0, 44, 27]
abbrev dktX7_undo_2 : List UInt8 := dkwX7_undo_2 ++ dktX7_undo_3
def dkwX7_undo_1 : List UInt8 := [42, 42, 180, 0, 25, 42, 180, 0, 184, 46, 181, 0, 197, 3, 60, 27, 42, 180, 0, 197, 162, 0, 49, 42]
abbrev dktX7_undo_1 : List UInt8 := dkwX7_undo_1 ++ dktX7_undo_2
def dkwX7_undo_0 : List UInt8 := [42, 3, 181, 0, 72, 42, 180, 0, 184, 154, 0, 5, 2, 172, 42, 89, 180, 0, 184, 4, 100, 181, 0, 184]
abbrev dktX7_undo_0 : List UInt8 := dkwX7_undo_0 ++ dktX7_undo_1
theorem dksX7_undo_0 : cX7_undo.data.toList.drop 0 = dktX7_undo_0 := by decide +kernel
theorem dksX7_undo_1 : cX7_undo.data.toList.drop 24 = dktX7_undo_1 := dk_seg dksX7_undo_0 24 rfl rfl
theorem dksX7_undo_2 : cX7_undo.data.toList.drop 48 = dktX7_undo_2 := dk_seg dksX7_undo_1 24 rfl rfl
theorem dksX7_undo_3 : cX7_undo.data.toList.drop 72 = dktX7_undo_3 := dk_seg dksX7_undo_2 24 rfl rfl
theorem dksX7_undo_4 : cX7_undo.data.toList.drop 94 = dktX7_undo_4 := dk_seg dksX7_undo_3 22 rfl rfl
theorem dX7_undo_0 : decode cX7_undo 0 = .ok (.aload_n 0, 1) := dk_42 (dk_at dksX7_undo_0 0 rfl rfl)
theorem dX7_undo_1 : decode cX7_undo 1 = .ok (.iconst 0, 1) := dk_3 (dk_at dksX7_undo_0 1 rfl rfl)
theorem dX7_undo_2 : decode cX7_undo 2 = .ok (.putfield 72, 3) := dk_181 0 72 (dk_at dksX7_undo_0 2 rfl rfl)
theorem dX7_undo_5 : decode cX7_undo 5 = .ok (.aload_n 0, 1) := dk_42 (dk_at dksX7_undo_0 5 rfl rfl)
theorem dX7_undo_6 : decode cX7_undo 6 = .ok (.getfield 184, 3) := dk_180 0 184 (dk_at dksX7_undo_0 6 rfl rfl)
theorem dX7_undo_9 : decode cX7_undo 9 = .ok (.ifCond .ne 5, 3) := dk_154 0 5 (dk_at dksX7_undo_0 9 rfl rfl)
theorem dX7_undo_12 : decode cX7_undo 12 = .ok (.iconst (-1), 1) := dk_2 (dk_at dksX7_undo_0 12 rfl rfl)
theorem dX7_undo_13 : decode cX7_undo 13 = .ok (.ireturn, 1) := dk_172 (dk_at dksX7_undo_0 13 rfl rfl)
theorem dX7_undo_14 : decode cX7_undo 14 = .ok (.aload_n 0, 1) := dk_42 (dk_at dksX7_undo_0 14 rfl rfl)
theorem dX7_undo_15 : decode cX7_undo 15 = .ok (.dup, 1) := dk_89 (dk_at dksX7_undo_0 15 rfl rfl)
theorem dX7_undo_16 : decode cX7_undo 16 = .ok (.getfield 184, 3) := dk_180 0 184 (dk_at dksX7_undo_0 16 rfl rfl)
theorem dX7_undo_19 : decode cX7_undo 19 = .ok (.iconst 1, 1) := dk_4 (dk_at dksX7_undo_0 19 rfl rfl)
theorem dX7_undo_20 : decode cX7_undo 20 = .ok (.isub, 1) := dk_100 (dk_at dksX7_undo_0 20 rfl rfl)
theorem dX7_undo_21 : decode cX7_undo 21 = .ok (.putfield 184, 3) := dk_181 0 184 (dk_at dksX7_undo_0 21 rfl rfl)
theorem dX7_undo_24 : decode cX7_undo 24 = .ok (.aload_n 0, 1) := dk_42 (dk_at dksX7_undo_1 0 rfl rfl)
theorem dX7_undo_25 : decode cX7_undo 25 = .ok (.aload_n 0, 1) := dk_42 (dk_at dksX7_undo_1 1 rfl rfl)
theorem dX7_undo_26 : decode cX7_undo 26 = .ok (.getfield 25, 3) := dk_180 0 25 (dk_at dksX7_undo_1 2 rfl rfl)
theorem dX7_undo_29 : decode cX7_undo 29 = .ok (.aload_n 0, 1) := dk_42 (dk_at dksX7_undo_1 5 rfl rfl)
theorem dX7_undo_30 : decode cX7_undo 30 = .ok (.getfield 184, 3) := dk_180 0 184 (dk_at dksX7_undo_1 6 rfl rfl)
theorem dX7_undo_33 : decode cX7_undo 33 = .ok (.iaload, 1) := dk_46 (dk_at dksX7_undo_1 9 rfl rfl)
theorem dX7_undo_34 : decode cX7_undo 34 = .ok (.putfield 197, 3) := dk_181 0 197 (dk_at dksX7_undo_1 10 rfl rfl)
theorem dX7_undo_37 : decode cX7_undo 37 = .ok (.iconst 0, 1) := dk_3 (dk_at dksX7_undo_1 13 rfl rfl)
theorem dX7_undo_38 : decode cX7_undo 38 = .ok (.istore_n 1, 1) := dk_60 (dk_at dksX7_undo_1 14 rfl rfl)
theorem dX7_undo_39 : decode cX7_undo 39 = .ok (.iload_n 1, 1) := dk_27 (dk_at dksX7_undo_1 15 rfl rfl)
theorem dX7_undo_40 : decode cX7_undo 40 = .ok (.aload_n 0, 1) := dk_42 (dk_at dksX7_undo_1 16 rfl rfl)
theorem dX7_undo_41 : decode cX7_undo 41 = .ok (.getfield 197, 3) := dk_180 0 197 (dk_at dksX7_undo_1 17 rfl rfl)
theorem dX7_undo_44 : decode cX7_undo 44 = .ok (.if_icmp .ge 49, 3) := dk_162 0 49 (dk_at dksX7_undo_1 20 rfl rfl)
theorem dX7_undo_47 : decode cX7_undo 47 = .ok (.aload_n 0, 1) := dk_42 (dk_at dksX7_undo_1 23 rfl rfl)
theorem dX7_undo_48 : decode cX7_undo 48 = .ok (.getfield 41, 3) := dk_180 0 41 (dk_at dksX7_undo_2 0 rfl rfl)
theorem dX7_undo_51 : decode cX7_undo 51 = .ok (.iload_n 1, 1) := dk_27 (dk_at dksX7_undo_2 3 rfl rfl)
theorem dX7_undo_52 : decode cX7_undo 52 = .ok (.aload_n 0, 1) := dk_42 (dk_at dksX7_undo_2 4 rfl rfl)
theorem dX7_undo_53 : decode cX7_undo 53 = .ok (.getfield 19, 3) := dk_180 0 19 (dk_at dksX7_undo_2 5 rfl rfl)
theorem dX7_undo_56 : decode cX7_undo 56 = .ok (.bipush 120, 2) := dk_16 120 (dk_at dksX7_undo_2 8 rfl rfl)
theorem dX7_undo_58 : decode cX7_undo 58 = .ok (.aload_n 0, 1) := dk_42 (dk_at dksX7_undo_2 10 rfl rfl)
theorem dX7_undo_59 : decode cX7_undo 59 = .ok (.getfield 184, 3) := dk_180 0 184 (dk_at dksX7_undo_2 11 rfl rfl)
theorem dX7_undo_62 : decode cX7_undo 62 = .ok (.imul, 1) := dk_104 (dk_at dksX7_undo_2 14 rfl rfl)
theorem dX7_undo_63 : decode cX7_undo 63 = .ok (.iload_n 1, 1) := dk_27 (dk_at dksX7_undo_2 15 rfl rfl)
theorem dX7_undo_64 : decode cX7_undo 64 = .ok (.iadd, 1) := dk_96 (dk_at dksX7_undo_2 16 rfl rfl)
theorem dX7_undo_65 : decode cX7_undo 65 = .ok (.iaload, 1) := dk_46 (dk_at dksX7_undo_2 17 rfl rfl)
theorem dX7_undo_66 : decode cX7_undo 66 = .ok (.iastore, 1) := dk_79 (dk_at dksX7_undo_2 18 rfl rfl)
theorem dX7_undo_67 : decode cX7_undo 67 = .ok (.aload_n 0, 1) := dk_42 (dk_at dksX7_undo_2 19 rfl rfl)
theorem dX7_undo_68 : decode cX7_undo 68 = .ok (.getfield 44, 3) := dk_180 0 44 (dk_at dksX7_undo_2 20 rfl rfl)
theorem dX7_undo_71 : decode cX7_undo 71 = .ok (.iload_n 1, 1) := dk_27 (dk_at dksX7_undo_2 23 rfl rfl)
theorem dX7_undo_72 : decode cX7_undo 72 = .ok (.aload_n 0, 1) := dk_42 (dk_at dksX7_undo_3 0 rfl rfl)
theorem dX7_undo_73 : decode cX7_undo 73 = .ok (.getfield 22, 3) := dk_180 0 22 (dk_at dksX7_undo_3 1 rfl rfl)
theorem dX7_undo_76 : decode cX7_undo 76 = .ok (.bipush 120, 2) := dk_16 120 (dk_at dksX7_undo_3 4 rfl rfl)
theorem dX7_undo_78 : decode cX7_undo 78 = .ok (.aload_n 0, 1) := dk_42 (dk_at dksX7_undo_3 6 rfl rfl)
theorem dX7_undo_79 : decode cX7_undo 79 = .ok (.getfield 184, 3) := dk_180 0 184 (dk_at dksX7_undo_3 7 rfl rfl)
theorem dX7_undo_82 : decode cX7_undo 82 = .ok (.imul, 1) := dk_104 (dk_at dksX7_undo_3 10 rfl rfl)
theorem dX7_undo_83 : decode cX7_undo 83 = .ok (.iload_n 1, 1) := dk_27 (dk_at dksX7_undo_3 11 rfl rfl)
theorem dX7_undo_84 : decode cX7_undo 84 = .ok (.iadd, 1) := dk_96 (dk_at dksX7_undo_3 12 rfl rfl)
theorem dX7_undo_85 : decode cX7_undo 85 = .ok (.iaload, 1) := dk_46 (dk_at dksX7_undo_3 13 rfl rfl)
theorem dX7_undo_86 : decode cX7_undo 86 = .ok (.iastore, 1) := dk_79 (dk_at dksX7_undo_3 14 rfl rfl)
theorem dX7_undo_87 : decode cX7_undo 87 = .ok (.iinc 1 1, 3) := dk_132 1 1 (dk_at dksX7_undo_3 15 rfl rfl)
theorem dX7_undo_90 : decode cX7_undo 90 = .ok (.goto (-51), 3) := dk_167 255 205 (dk_at dksX7_undo_3 18 rfl rfl)
theorem dX7_undo_93 : decode cX7_undo 93 = .ok (.aload_n 0, 1) := dk_42 (dk_at dksX7_undo_3 21 rfl rfl)
theorem dX7_undo_94 : decode cX7_undo 94 = .ok (.invokevirtual 217, 3) := dk_182 0 217 (dk_at dksX7_undo_4 0 rfl rfl)
theorem dX7_undo_97 : decode cX7_undo 97 = .ok (.aload_n 0, 1) := dk_42 (dk_at dksX7_undo_4 3 rfl rfl)
theorem dX7_undo_98 : decode cX7_undo 98 = .ok (.getfield 184, 3) := dk_180 0 184 (dk_at dksX7_undo_4 4 rfl rfl)
theorem dX7_undo_101 : decode cX7_undo 101 = .ok (.ireturn, 1) := dk_172 (dk_at dksX7_undo_4 7 rfl rfl)
abbrev cX7_becomes : ByteArray := prog_19_method_31_code
def yX7_becomes : MethodName := ⟨RX7, "becomes", "()V"⟩
def dkwX7_becomes_2 : List UInt8 := [27, 46, 79, 132, 1, 1, 167, 255, 221, 177]
abbrev dktX7_becomes_2 : List UInt8 := dkwX7_becomes_2 ++ []
def dkwX7_becomes_1 : List UInt8 := [162, 0, 33, 42, 180, 0, 13, 27, 42, 180, 0, 41, 27, 46, 79, 42, 180, 0, 16, 27, 42, 180, 0, 44]
abbrev dktX7_becomes_1 : List UInt8 := dkwX7_becomes_1 ++ dktX7_becomes_2
def dkwX7_becomes_0 : List UInt8 := [42, 42, 182, 0, 206, 181, 0, 28, 42, 42, 180, 0, 197, 181, 0, 175, 3, 60, 27, 42, 180, 0, 175]
abbrev dktX7_becomes_0 : List UInt8 := dkwX7_becomes_0 ++ dktX7_becomes_1
theorem dksX7_becomes_0 : cX7_becomes.data.toList.drop 0 = dktX7_becomes_0 := by decide +kernel
theorem dksX7_becomes_1 : cX7_becomes.data.toList.drop 23 = dktX7_becomes_1 := dk_seg dksX7_becomes_0 23 rfl rfl
theorem dksX7_becomes_2 : cX7_becomes.data.toList.drop 47 = dktX7_becomes_2 := dk_seg dksX7_becomes_1 24 rfl rfl
theorem dX7_becomes_0 : decode cX7_becomes 0 = .ok (.aload_n 0, 1) := dk_42 (dk_at dksX7_becomes_0 0 rfl rfl)
theorem dX7_becomes_1 : decode cX7_becomes 1 = .ok (.aload_n 0, 1) := dk_42 (dk_at dksX7_becomes_0 1 rfl rfl)
theorem dX7_becomes_2 : decode cX7_becomes 2 = .ok (.invokevirtual 206, 3) := dk_182 0 206 (dk_at dksX7_becomes_0 2 rfl rfl)
theorem dX7_becomes_5 : decode cX7_becomes 5 = .ok (.putfield 28, 3) := dk_181 0 28 (dk_at dksX7_becomes_0 5 rfl rfl)
theorem dX7_becomes_8 : decode cX7_becomes 8 = .ok (.aload_n 0, 1) := dk_42 (dk_at dksX7_becomes_0 8 rfl rfl)
theorem dX7_becomes_9 : decode cX7_becomes 9 = .ok (.aload_n 0, 1) := dk_42 (dk_at dksX7_becomes_0 9 rfl rfl)
theorem dX7_becomes_10 : decode cX7_becomes 10 = .ok (.getfield 197, 3) := dk_180 0 197 (dk_at dksX7_becomes_0 10 rfl rfl)
theorem dX7_becomes_13 : decode cX7_becomes 13 = .ok (.putfield 175, 3) := dk_181 0 175 (dk_at dksX7_becomes_0 13 rfl rfl)
theorem dX7_becomes_16 : decode cX7_becomes 16 = .ok (.iconst 0, 1) := dk_3 (dk_at dksX7_becomes_0 16 rfl rfl)
theorem dX7_becomes_17 : decode cX7_becomes 17 = .ok (.istore_n 1, 1) := dk_60 (dk_at dksX7_becomes_0 17 rfl rfl)
theorem dX7_becomes_18 : decode cX7_becomes 18 = .ok (.iload_n 1, 1) := dk_27 (dk_at dksX7_becomes_0 18 rfl rfl)
theorem dX7_becomes_19 : decode cX7_becomes 19 = .ok (.aload_n 0, 1) := dk_42 (dk_at dksX7_becomes_0 19 rfl rfl)
theorem dX7_becomes_20 : decode cX7_becomes 20 = .ok (.getfield 175, 3) := dk_180 0 175 (dk_at dksX7_becomes_0 20 rfl rfl)
theorem dX7_becomes_23 : decode cX7_becomes 23 = .ok (.if_icmp .ge 33, 3) := dk_162 0 33 (dk_at dksX7_becomes_1 0 rfl rfl)
theorem dX7_becomes_26 : decode cX7_becomes 26 = .ok (.aload_n 0, 1) := dk_42 (dk_at dksX7_becomes_1 3 rfl rfl)
theorem dX7_becomes_27 : decode cX7_becomes 27 = .ok (.getfield 13, 3) := dk_180 0 13 (dk_at dksX7_becomes_1 4 rfl rfl)
theorem dX7_becomes_30 : decode cX7_becomes 30 = .ok (.iload_n 1, 1) := dk_27 (dk_at dksX7_becomes_1 7 rfl rfl)
theorem dX7_becomes_31 : decode cX7_becomes 31 = .ok (.aload_n 0, 1) := dk_42 (dk_at dksX7_becomes_1 8 rfl rfl)
theorem dX7_becomes_32 : decode cX7_becomes 32 = .ok (.getfield 41, 3) := dk_180 0 41 (dk_at dksX7_becomes_1 9 rfl rfl)
theorem dX7_becomes_35 : decode cX7_becomes 35 = .ok (.iload_n 1, 1) := dk_27 (dk_at dksX7_becomes_1 12 rfl rfl)
theorem dX7_becomes_36 : decode cX7_becomes 36 = .ok (.iaload, 1) := dk_46 (dk_at dksX7_becomes_1 13 rfl rfl)
theorem dX7_becomes_37 : decode cX7_becomes 37 = .ok (.iastore, 1) := dk_79 (dk_at dksX7_becomes_1 14 rfl rfl)
theorem dX7_becomes_38 : decode cX7_becomes 38 = .ok (.aload_n 0, 1) := dk_42 (dk_at dksX7_becomes_1 15 rfl rfl)
theorem dX7_becomes_39 : decode cX7_becomes 39 = .ok (.getfield 16, 3) := dk_180 0 16 (dk_at dksX7_becomes_1 16 rfl rfl)
theorem dX7_becomes_42 : decode cX7_becomes 42 = .ok (.iload_n 1, 1) := dk_27 (dk_at dksX7_becomes_1 19 rfl rfl)
theorem dX7_becomes_43 : decode cX7_becomes 43 = .ok (.aload_n 0, 1) := dk_42 (dk_at dksX7_becomes_1 20 rfl rfl)
theorem dX7_becomes_44 : decode cX7_becomes 44 = .ok (.getfield 44, 3) := dk_180 0 44 (dk_at dksX7_becomes_1 21 rfl rfl)
theorem dX7_becomes_47 : decode cX7_becomes 47 = .ok (.iload_n 1, 1) := dk_27 (dk_at dksX7_becomes_2 0 rfl rfl)
theorem dX7_becomes_48 : decode cX7_becomes 48 = .ok (.iaload, 1) := dk_46 (dk_at dksX7_becomes_2 1 rfl rfl)
theorem dX7_becomes_49 : decode cX7_becomes 49 = .ok (.iastore, 1) := dk_79 (dk_at dksX7_becomes_2 2 rfl rfl)
theorem dX7_becomes_50 : decode cX7_becomes 50 = .ok (.iinc 1 1, 3) := dk_132 1 1 (dk_at dksX7_becomes_2 3 rfl rfl)
theorem dX7_becomes_53 : decode cX7_becomes 53 = .ok (.goto (-35), 3) := dk_167 255 221 (dk_at dksX7_becomes_2 6 rfl rfl)
theorem dX7_becomes_56 : decode cX7_becomes 56 = .ok (.return_, 1) := dk_177 (dk_at dksX7_becomes_2 9 rfl rfl)
abbrev cX7_freshPairs : ByteArray := prog_19_method_30_code
def yX7_freshPairs : MethodName := ⟨RX7, "freshPairs", "()I"⟩
def dkwX7_freshPairs_3 : List UInt8 := [96, 61, 132, 5, 1, 167, 255, 213, 132, 3, 1, 167, 255, 196, 28, 172]
abbrev dktX7_freshPairs_3 : List UInt8 := dkwX7_freshPairs_3 ++ []
def dkwX7_freshPairs_2 : List UInt8 := [182, 0, 203, 153, 0, 7, 4, 167, 0, 4, 3, 54, 4, 28, 21, 4, 153, 0, 7, 4, 167, 0, 4, 3]
abbrev dktX7_freshPairs_2 : List UInt8 := dkwX7_freshPairs_2 ++ dktX7_freshPairs_3
def dkwX7_freshPairs_1 : List UInt8 := [162, 0, 61, 3, 54, 4, 29, 54, 5, 21, 5, 27, 162, 0, 43, 21, 4, 154, 0, 12, 42, 21, 5]
abbrev dktX7_freshPairs_1 : List UInt8 := dkwX7_freshPairs_1 ++ dktX7_freshPairs_2
def dkwX7_freshPairs_0 : List UInt8 := [42, 180, 0, 197, 42, 180, 0, 69, 96, 4, 100, 42, 180, 0, 69, 108, 60, 3, 61, 3, 62, 29, 27]
abbrev dktX7_freshPairs_0 : List UInt8 := dkwX7_freshPairs_0 ++ dktX7_freshPairs_1
theorem dksX7_freshPairs_0 : cX7_freshPairs.data.toList.drop 0 = dktX7_freshPairs_0 := by decide +kernel
theorem dksX7_freshPairs_1 : cX7_freshPairs.data.toList.drop 23 = dktX7_freshPairs_1 := dk_seg dksX7_freshPairs_0 23 rfl rfl
theorem dksX7_freshPairs_2 : cX7_freshPairs.data.toList.drop 46 = dktX7_freshPairs_2 := dk_seg dksX7_freshPairs_1 23 rfl rfl
theorem dksX7_freshPairs_3 : cX7_freshPairs.data.toList.drop 70 = dktX7_freshPairs_3 := dk_seg dksX7_freshPairs_2 24 rfl rfl
theorem dX7_freshPairs_0 : decode cX7_freshPairs 0 = .ok (.aload_n 0, 1) := dk_42 (dk_at dksX7_freshPairs_0 0 rfl rfl)
theorem dX7_freshPairs_1 : decode cX7_freshPairs 1 = .ok (.getfield 197, 3) := dk_180 0 197 (dk_at dksX7_freshPairs_0 1 rfl rfl)
theorem dX7_freshPairs_4 : decode cX7_freshPairs 4 = .ok (.aload_n 0, 1) := dk_42 (dk_at dksX7_freshPairs_0 4 rfl rfl)
theorem dX7_freshPairs_5 : decode cX7_freshPairs 5 = .ok (.getfield 69, 3) := dk_180 0 69 (dk_at dksX7_freshPairs_0 5 rfl rfl)
theorem dX7_freshPairs_8 : decode cX7_freshPairs 8 = .ok (.iadd, 1) := dk_96 (dk_at dksX7_freshPairs_0 8 rfl rfl)
theorem dX7_freshPairs_9 : decode cX7_freshPairs 9 = .ok (.iconst 1, 1) := dk_4 (dk_at dksX7_freshPairs_0 9 rfl rfl)
theorem dX7_freshPairs_10 : decode cX7_freshPairs 10 = .ok (.isub, 1) := dk_100 (dk_at dksX7_freshPairs_0 10 rfl rfl)
theorem dX7_freshPairs_11 : decode cX7_freshPairs 11 = .ok (.aload_n 0, 1) := dk_42 (dk_at dksX7_freshPairs_0 11 rfl rfl)
theorem dX7_freshPairs_12 : decode cX7_freshPairs 12 = .ok (.getfield 69, 3) := dk_180 0 69 (dk_at dksX7_freshPairs_0 12 rfl rfl)
theorem dX7_freshPairs_15 : decode cX7_freshPairs 15 = .ok (.idiv, 1) := dk_108 (dk_at dksX7_freshPairs_0 15 rfl rfl)
theorem dX7_freshPairs_16 : decode cX7_freshPairs 16 = .ok (.istore_n 1, 1) := dk_60 (dk_at dksX7_freshPairs_0 16 rfl rfl)
theorem dX7_freshPairs_17 : decode cX7_freshPairs 17 = .ok (.iconst 0, 1) := dk_3 (dk_at dksX7_freshPairs_0 17 rfl rfl)
theorem dX7_freshPairs_18 : decode cX7_freshPairs 18 = .ok (.istore_n 2, 1) := dk_61 (dk_at dksX7_freshPairs_0 18 rfl rfl)
theorem dX7_freshPairs_19 : decode cX7_freshPairs 19 = .ok (.iconst 0, 1) := dk_3 (dk_at dksX7_freshPairs_0 19 rfl rfl)
theorem dX7_freshPairs_20 : decode cX7_freshPairs 20 = .ok (.istore_n 3, 1) := dk_62 (dk_at dksX7_freshPairs_0 20 rfl rfl)
theorem dX7_freshPairs_21 : decode cX7_freshPairs 21 = .ok (.iload_n 3, 1) := dk_29 (dk_at dksX7_freshPairs_0 21 rfl rfl)
theorem dX7_freshPairs_22 : decode cX7_freshPairs 22 = .ok (.iload_n 1, 1) := dk_27 (dk_at dksX7_freshPairs_0 22 rfl rfl)
theorem dX7_freshPairs_23 : decode cX7_freshPairs 23 = .ok (.if_icmp .ge 61, 3) := dk_162 0 61 (dk_at dksX7_freshPairs_1 0 rfl rfl)
theorem dX7_freshPairs_26 : decode cX7_freshPairs 26 = .ok (.iconst 0, 1) := dk_3 (dk_at dksX7_freshPairs_1 3 rfl rfl)
theorem dX7_freshPairs_27 : decode cX7_freshPairs 27 = .ok (.istore 4, 2) := dk_54 4 (dk_at dksX7_freshPairs_1 4 rfl rfl)
theorem dX7_freshPairs_29 : decode cX7_freshPairs 29 = .ok (.iload_n 3, 1) := dk_29 (dk_at dksX7_freshPairs_1 6 rfl rfl)
theorem dX7_freshPairs_30 : decode cX7_freshPairs 30 = .ok (.istore 5, 2) := dk_54 5 (dk_at dksX7_freshPairs_1 7 rfl rfl)
theorem dX7_freshPairs_32 : decode cX7_freshPairs 32 = .ok (.iload 5, 2) := dk_21 5 (dk_at dksX7_freshPairs_1 9 rfl rfl)
theorem dX7_freshPairs_34 : decode cX7_freshPairs 34 = .ok (.iload_n 1, 1) := dk_27 (dk_at dksX7_freshPairs_1 11 rfl rfl)
theorem dX7_freshPairs_35 : decode cX7_freshPairs 35 = .ok (.if_icmp .ge 43, 3) := dk_162 0 43 (dk_at dksX7_freshPairs_1 12 rfl rfl)
theorem dX7_freshPairs_38 : decode cX7_freshPairs 38 = .ok (.iload 4, 2) := dk_21 4 (dk_at dksX7_freshPairs_1 15 rfl rfl)
theorem dX7_freshPairs_40 : decode cX7_freshPairs 40 = .ok (.ifCond .ne 12, 3) := dk_154 0 12 (dk_at dksX7_freshPairs_1 17 rfl rfl)
theorem dX7_freshPairs_43 : decode cX7_freshPairs 43 = .ok (.aload_n 0, 1) := dk_42 (dk_at dksX7_freshPairs_1 20 rfl rfl)
theorem dX7_freshPairs_44 : decode cX7_freshPairs 44 = .ok (.iload 5, 2) := dk_21 5 (dk_at dksX7_freshPairs_1 21 rfl rfl)
theorem dX7_freshPairs_46 : decode cX7_freshPairs 46 = .ok (.invokevirtual 203, 3) := dk_182 0 203 (dk_at dksX7_freshPairs_2 0 rfl rfl)
theorem dX7_freshPairs_49 : decode cX7_freshPairs 49 = .ok (.ifCond .eq 7, 3) := dk_153 0 7 (dk_at dksX7_freshPairs_2 3 rfl rfl)
theorem dX7_freshPairs_52 : decode cX7_freshPairs 52 = .ok (.iconst 1, 1) := dk_4 (dk_at dksX7_freshPairs_2 6 rfl rfl)
theorem dX7_freshPairs_53 : decode cX7_freshPairs 53 = .ok (.goto 4, 3) := dk_167 0 4 (dk_at dksX7_freshPairs_2 7 rfl rfl)
theorem dX7_freshPairs_56 : decode cX7_freshPairs 56 = .ok (.iconst 0, 1) := dk_3 (dk_at dksX7_freshPairs_2 10 rfl rfl)
theorem dX7_freshPairs_57 : decode cX7_freshPairs 57 = .ok (.istore 4, 2) := dk_54 4 (dk_at dksX7_freshPairs_2 11 rfl rfl)
theorem dX7_freshPairs_59 : decode cX7_freshPairs 59 = .ok (.iload_n 2, 1) := dk_28 (dk_at dksX7_freshPairs_2 13 rfl rfl)
theorem dX7_freshPairs_60 : decode cX7_freshPairs 60 = .ok (.iload 4, 2) := dk_21 4 (dk_at dksX7_freshPairs_2 14 rfl rfl)
theorem dX7_freshPairs_62 : decode cX7_freshPairs 62 = .ok (.ifCond .eq 7, 3) := dk_153 0 7 (dk_at dksX7_freshPairs_2 16 rfl rfl)
theorem dX7_freshPairs_65 : decode cX7_freshPairs 65 = .ok (.iconst 1, 1) := dk_4 (dk_at dksX7_freshPairs_2 19 rfl rfl)
theorem dX7_freshPairs_66 : decode cX7_freshPairs 66 = .ok (.goto 4, 3) := dk_167 0 4 (dk_at dksX7_freshPairs_2 20 rfl rfl)
theorem dX7_freshPairs_69 : decode cX7_freshPairs 69 = .ok (.iconst 0, 1) := dk_3 (dk_at dksX7_freshPairs_2 23 rfl rfl)
theorem dX7_freshPairs_70 : decode cX7_freshPairs 70 = .ok (.iadd, 1) := dk_96 (dk_at dksX7_freshPairs_3 0 rfl rfl)
theorem dX7_freshPairs_71 : decode cX7_freshPairs 71 = .ok (.istore_n 2, 1) := dk_61 (dk_at dksX7_freshPairs_3 1 rfl rfl)
theorem dX7_freshPairs_72 : decode cX7_freshPairs 72 = .ok (.iinc 5 1, 3) := dk_132 5 1 (dk_at dksX7_freshPairs_3 2 rfl rfl)
theorem dX7_freshPairs_75 : decode cX7_freshPairs 75 = .ok (.goto (-43), 3) := dk_167 255 213 (dk_at dksX7_freshPairs_3 5 rfl rfl)
theorem dX7_freshPairs_78 : decode cX7_freshPairs 78 = .ok (.iinc 3 1, 3) := dk_132 3 1 (dk_at dksX7_freshPairs_3 8 rfl rfl)
theorem dX7_freshPairs_81 : decode cX7_freshPairs 81 = .ok (.goto (-60), 3) := dk_167 255 196 (dk_at dksX7_freshPairs_3 11 rfl rfl)
theorem dX7_freshPairs_84 : decode cX7_freshPairs 84 = .ok (.iload_n 2, 1) := dk_28 (dk_at dksX7_freshPairs_3 14 rfl rfl)
theorem dX7_freshPairs_85 : decode cX7_freshPairs 85 = .ok (.ireturn, 1) := dk_172 (dk_at dksX7_freshPairs_3 15 rfl rfl)
abbrev cX7_isFresh : ByteArray := prog_19_method_29_code
def yX7_isFresh : MethodName := ⟨RX7, "isFresh", "(I)Z"⟩
def dkwX7_isFresh_3 : List UInt8 := [28, 46, 159, 0, 5, 4, 172, 132, 2, 1, 167, 255, 205, 3, 172]
abbrev dktX7_isFresh_3 : List UInt8 := dkwX7_isFresh_3 ++ []
def dkwX7_isFresh_2 : List UInt8 := [180, 0, 197, 162, 0, 34, 28, 42, 180, 0, 175, 162, 0, 18, 42, 180, 0, 41, 28, 46, 42, 180, 0, 13]
abbrev dktX7_isFresh_2 : List UInt8 := dkwX7_isFresh_2 ++ dktX7_isFresh_3
def dkwX7_isFresh_1 : List UInt8 := [180, 0, 69, 27, 104, 61, 28, 42, 180, 0, 69, 27, 104, 42, 180, 0, 69, 96, 162, 0, 42, 28, 42]
abbrev dktX7_isFresh_1 : List UInt8 := dkwX7_isFresh_1 ++ dktX7_isFresh_2
def dkwX7_isFresh_0 : List UInt8 := [42, 27, 42, 180, 0, 197, 182, 0, 200, 42, 27, 42, 180, 0, 175, 182, 0, 200, 162, 0, 5, 4, 172, 42]
abbrev dktX7_isFresh_0 : List UInt8 := dkwX7_isFresh_0 ++ dktX7_isFresh_1
theorem dksX7_isFresh_0 : cX7_isFresh.data.toList.drop 0 = dktX7_isFresh_0 := by decide +kernel
theorem dksX7_isFresh_1 : cX7_isFresh.data.toList.drop 24 = dktX7_isFresh_1 := dk_seg dksX7_isFresh_0 24 rfl rfl
theorem dksX7_isFresh_2 : cX7_isFresh.data.toList.drop 47 = dktX7_isFresh_2 := dk_seg dksX7_isFresh_1 23 rfl rfl
theorem dksX7_isFresh_3 : cX7_isFresh.data.toList.drop 71 = dktX7_isFresh_3 := dk_seg dksX7_isFresh_2 24 rfl rfl
theorem dX7_isFresh_0 : decode cX7_isFresh 0 = .ok (.aload_n 0, 1) := dk_42 (dk_at dksX7_isFresh_0 0 rfl rfl)
theorem dX7_isFresh_1 : decode cX7_isFresh 1 = .ok (.iload_n 1, 1) := dk_27 (dk_at dksX7_isFresh_0 1 rfl rfl)
theorem dX7_isFresh_2 : decode cX7_isFresh 2 = .ok (.aload_n 0, 1) := dk_42 (dk_at dksX7_isFresh_0 2 rfl rfl)
theorem dX7_isFresh_3 : decode cX7_isFresh 3 = .ok (.getfield 197, 3) := dk_180 0 197 (dk_at dksX7_isFresh_0 3 rfl rfl)
theorem dX7_isFresh_6 : decode cX7_isFresh 6 = .ok (.invokevirtual 200, 3) := dk_182 0 200 (dk_at dksX7_isFresh_0 6 rfl rfl)
theorem dX7_isFresh_9 : decode cX7_isFresh 9 = .ok (.aload_n 0, 1) := dk_42 (dk_at dksX7_isFresh_0 9 rfl rfl)
theorem dX7_isFresh_10 : decode cX7_isFresh 10 = .ok (.iload_n 1, 1) := dk_27 (dk_at dksX7_isFresh_0 10 rfl rfl)
theorem dX7_isFresh_11 : decode cX7_isFresh 11 = .ok (.aload_n 0, 1) := dk_42 (dk_at dksX7_isFresh_0 11 rfl rfl)
theorem dX7_isFresh_12 : decode cX7_isFresh 12 = .ok (.getfield 175, 3) := dk_180 0 175 (dk_at dksX7_isFresh_0 12 rfl rfl)
theorem dX7_isFresh_15 : decode cX7_isFresh 15 = .ok (.invokevirtual 200, 3) := dk_182 0 200 (dk_at dksX7_isFresh_0 15 rfl rfl)
theorem dX7_isFresh_18 : decode cX7_isFresh 18 = .ok (.if_icmp .ge 5, 3) := dk_162 0 5 (dk_at dksX7_isFresh_0 18 rfl rfl)
theorem dX7_isFresh_21 : decode cX7_isFresh 21 = .ok (.iconst 1, 1) := dk_4 (dk_at dksX7_isFresh_0 21 rfl rfl)
theorem dX7_isFresh_22 : decode cX7_isFresh 22 = .ok (.ireturn, 1) := dk_172 (dk_at dksX7_isFresh_0 22 rfl rfl)
theorem dX7_isFresh_23 : decode cX7_isFresh 23 = .ok (.aload_n 0, 1) := dk_42 (dk_at dksX7_isFresh_0 23 rfl rfl)
theorem dX7_isFresh_24 : decode cX7_isFresh 24 = .ok (.getfield 69, 3) := dk_180 0 69 (dk_at dksX7_isFresh_1 0 rfl rfl)
theorem dX7_isFresh_27 : decode cX7_isFresh 27 = .ok (.iload_n 1, 1) := dk_27 (dk_at dksX7_isFresh_1 3 rfl rfl)
theorem dX7_isFresh_28 : decode cX7_isFresh 28 = .ok (.imul, 1) := dk_104 (dk_at dksX7_isFresh_1 4 rfl rfl)
theorem dX7_isFresh_29 : decode cX7_isFresh 29 = .ok (.istore_n 2, 1) := dk_61 (dk_at dksX7_isFresh_1 5 rfl rfl)
theorem dX7_isFresh_30 : decode cX7_isFresh 30 = .ok (.iload_n 2, 1) := dk_28 (dk_at dksX7_isFresh_1 6 rfl rfl)
theorem dX7_isFresh_31 : decode cX7_isFresh 31 = .ok (.aload_n 0, 1) := dk_42 (dk_at dksX7_isFresh_1 7 rfl rfl)
theorem dX7_isFresh_32 : decode cX7_isFresh 32 = .ok (.getfield 69, 3) := dk_180 0 69 (dk_at dksX7_isFresh_1 8 rfl rfl)
theorem dX7_isFresh_35 : decode cX7_isFresh 35 = .ok (.iload_n 1, 1) := dk_27 (dk_at dksX7_isFresh_1 11 rfl rfl)
theorem dX7_isFresh_36 : decode cX7_isFresh 36 = .ok (.imul, 1) := dk_104 (dk_at dksX7_isFresh_1 12 rfl rfl)
theorem dX7_isFresh_37 : decode cX7_isFresh 37 = .ok (.aload_n 0, 1) := dk_42 (dk_at dksX7_isFresh_1 13 rfl rfl)
theorem dX7_isFresh_38 : decode cX7_isFresh 38 = .ok (.getfield 69, 3) := dk_180 0 69 (dk_at dksX7_isFresh_1 14 rfl rfl)
theorem dX7_isFresh_41 : decode cX7_isFresh 41 = .ok (.iadd, 1) := dk_96 (dk_at dksX7_isFresh_1 17 rfl rfl)
theorem dX7_isFresh_42 : decode cX7_isFresh 42 = .ok (.if_icmp .ge 42, 3) := dk_162 0 42 (dk_at dksX7_isFresh_1 18 rfl rfl)
theorem dX7_isFresh_45 : decode cX7_isFresh 45 = .ok (.iload_n 2, 1) := dk_28 (dk_at dksX7_isFresh_1 21 rfl rfl)
theorem dX7_isFresh_46 : decode cX7_isFresh 46 = .ok (.aload_n 0, 1) := dk_42 (dk_at dksX7_isFresh_1 22 rfl rfl)
theorem dX7_isFresh_47 : decode cX7_isFresh 47 = .ok (.getfield 197, 3) := dk_180 0 197 (dk_at dksX7_isFresh_2 0 rfl rfl)
theorem dX7_isFresh_50 : decode cX7_isFresh 50 = .ok (.if_icmp .ge 34, 3) := dk_162 0 34 (dk_at dksX7_isFresh_2 3 rfl rfl)
theorem dX7_isFresh_53 : decode cX7_isFresh 53 = .ok (.iload_n 2, 1) := dk_28 (dk_at dksX7_isFresh_2 6 rfl rfl)
theorem dX7_isFresh_54 : decode cX7_isFresh 54 = .ok (.aload_n 0, 1) := dk_42 (dk_at dksX7_isFresh_2 7 rfl rfl)
theorem dX7_isFresh_55 : decode cX7_isFresh 55 = .ok (.getfield 175, 3) := dk_180 0 175 (dk_at dksX7_isFresh_2 8 rfl rfl)
theorem dX7_isFresh_58 : decode cX7_isFresh 58 = .ok (.if_icmp .ge 18, 3) := dk_162 0 18 (dk_at dksX7_isFresh_2 11 rfl rfl)
theorem dX7_isFresh_61 : decode cX7_isFresh 61 = .ok (.aload_n 0, 1) := dk_42 (dk_at dksX7_isFresh_2 14 rfl rfl)
theorem dX7_isFresh_62 : decode cX7_isFresh 62 = .ok (.getfield 41, 3) := dk_180 0 41 (dk_at dksX7_isFresh_2 15 rfl rfl)
theorem dX7_isFresh_65 : decode cX7_isFresh 65 = .ok (.iload_n 2, 1) := dk_28 (dk_at dksX7_isFresh_2 18 rfl rfl)
theorem dX7_isFresh_66 : decode cX7_isFresh 66 = .ok (.iaload, 1) := dk_46 (dk_at dksX7_isFresh_2 19 rfl rfl)
theorem dX7_isFresh_67 : decode cX7_isFresh 67 = .ok (.aload_n 0, 1) := dk_42 (dk_at dksX7_isFresh_2 20 rfl rfl)
theorem dX7_isFresh_68 : decode cX7_isFresh 68 = .ok (.getfield 13, 3) := dk_180 0 13 (dk_at dksX7_isFresh_2 21 rfl rfl)
theorem dX7_isFresh_71 : decode cX7_isFresh 71 = .ok (.iload_n 2, 1) := dk_28 (dk_at dksX7_isFresh_3 0 rfl rfl)
theorem dX7_isFresh_72 : decode cX7_isFresh 72 = .ok (.iaload, 1) := dk_46 (dk_at dksX7_isFresh_3 1 rfl rfl)
theorem dX7_isFresh_73 : decode cX7_isFresh 73 = .ok (.if_icmp .eq 5, 3) := dk_159 0 5 (dk_at dksX7_isFresh_3 2 rfl rfl)
theorem dX7_isFresh_76 : decode cX7_isFresh 76 = .ok (.iconst 1, 1) := dk_4 (dk_at dksX7_isFresh_3 5 rfl rfl)
theorem dX7_isFresh_77 : decode cX7_isFresh 77 = .ok (.ireturn, 1) := dk_172 (dk_at dksX7_isFresh_3 6 rfl rfl)
theorem dX7_isFresh_78 : decode cX7_isFresh 78 = .ok (.iinc 2 1, 3) := dk_132 2 1 (dk_at dksX7_isFresh_3 7 rfl rfl)
theorem dX7_isFresh_81 : decode cX7_isFresh 81 = .ok (.goto (-51), 3) := dk_167 255 205 (dk_at dksX7_isFresh_3 10 rfl rfl)
theorem dX7_isFresh_84 : decode cX7_isFresh 84 = .ok (.iconst 0, 1) := dk_3 (dk_at dksX7_isFresh_3 13 rfl rfl)
theorem dX7_isFresh_85 : decode cX7_isFresh 85 = .ok (.ireturn, 1) := dk_172 (dk_at dksX7_isFresh_3 14 rfl rfl)
abbrev cX7_placesOf : ByteArray := prog_19_method_28_code
def yX7_placesOf : MethodName := ⟨RX7, "placesOf", "(II)I"⟩
def dkwX7_placesOf_1 : List UInt8 := [29, 156, 0, 7, 3, 167, 0, 4, 29, 172]
abbrev dktX7_placesOf_1 : List UInt8 := dkwX7_placesOf_1 ++ []
def dkwX7_placesOf_0 : List UInt8 := [28, 42, 180, 0, 69, 27, 104, 100, 62, 29, 42, 180, 0, 69, 164, 0, 10, 42, 180, 0, 69, 167, 0, 12]
abbrev dktX7_placesOf_0 : List UInt8 := dkwX7_placesOf_0 ++ dktX7_placesOf_1
theorem dksX7_placesOf_0 : cX7_placesOf.data.toList.drop 0 = dktX7_placesOf_0 := by decide +kernel
theorem dksX7_placesOf_1 : cX7_placesOf.data.toList.drop 24 = dktX7_placesOf_1 := dk_seg dksX7_placesOf_0 24 rfl rfl
theorem dX7_placesOf_0 : decode cX7_placesOf 0 = .ok (.iload_n 2, 1) := dk_28 (dk_at dksX7_placesOf_0 0 rfl rfl)
theorem dX7_placesOf_1 : decode cX7_placesOf 1 = .ok (.aload_n 0, 1) := dk_42 (dk_at dksX7_placesOf_0 1 rfl rfl)
theorem dX7_placesOf_2 : decode cX7_placesOf 2 = .ok (.getfield 69, 3) := dk_180 0 69 (dk_at dksX7_placesOf_0 2 rfl rfl)
theorem dX7_placesOf_5 : decode cX7_placesOf 5 = .ok (.iload_n 1, 1) := dk_27 (dk_at dksX7_placesOf_0 5 rfl rfl)
theorem dX7_placesOf_6 : decode cX7_placesOf 6 = .ok (.imul, 1) := dk_104 (dk_at dksX7_placesOf_0 6 rfl rfl)
theorem dX7_placesOf_7 : decode cX7_placesOf 7 = .ok (.isub, 1) := dk_100 (dk_at dksX7_placesOf_0 7 rfl rfl)
theorem dX7_placesOf_8 : decode cX7_placesOf 8 = .ok (.istore_n 3, 1) := dk_62 (dk_at dksX7_placesOf_0 8 rfl rfl)
theorem dX7_placesOf_9 : decode cX7_placesOf 9 = .ok (.iload_n 3, 1) := dk_29 (dk_at dksX7_placesOf_0 9 rfl rfl)
theorem dX7_placesOf_10 : decode cX7_placesOf 10 = .ok (.aload_n 0, 1) := dk_42 (dk_at dksX7_placesOf_0 10 rfl rfl)
theorem dX7_placesOf_11 : decode cX7_placesOf 11 = .ok (.getfield 69, 3) := dk_180 0 69 (dk_at dksX7_placesOf_0 11 rfl rfl)
theorem dX7_placesOf_14 : decode cX7_placesOf 14 = .ok (.if_icmp .le 10, 3) := dk_164 0 10 (dk_at dksX7_placesOf_0 14 rfl rfl)
theorem dX7_placesOf_17 : decode cX7_placesOf 17 = .ok (.aload_n 0, 1) := dk_42 (dk_at dksX7_placesOf_0 17 rfl rfl)
theorem dX7_placesOf_18 : decode cX7_placesOf 18 = .ok (.getfield 69, 3) := dk_180 0 69 (dk_at dksX7_placesOf_0 18 rfl rfl)
theorem dX7_placesOf_21 : decode cX7_placesOf 21 = .ok (.goto 12, 3) := dk_167 0 12 (dk_at dksX7_placesOf_0 21 rfl rfl)
theorem dX7_placesOf_24 : decode cX7_placesOf 24 = .ok (.iload_n 3, 1) := dk_29 (dk_at dksX7_placesOf_1 0 rfl rfl)
theorem dX7_placesOf_25 : decode cX7_placesOf 25 = .ok (.ifCond .ge 7, 3) := dk_156 0 7 (dk_at dksX7_placesOf_1 1 rfl rfl)
theorem dX7_placesOf_28 : decode cX7_placesOf 28 = .ok (.iconst 0, 1) := dk_3 (dk_at dksX7_placesOf_1 4 rfl rfl)
theorem dX7_placesOf_29 : decode cX7_placesOf 29 = .ok (.goto 4, 3) := dk_167 0 4 (dk_at dksX7_placesOf_1 5 rfl rfl)
theorem dX7_placesOf_32 : decode cX7_placesOf 32 = .ok (.iload_n 3, 1) := dk_29 (dk_at dksX7_placesOf_1 8 rfl rfl)
theorem dX7_placesOf_33 : decode cX7_placesOf 33 = .ok (.ireturn, 1) := dk_172 (dk_at dksX7_placesOf_1 9 rfl rfl)
abbrev cX7_set : ByteArray := prog_19_method_35_code
def yX7_set : MethodName := ⟨RX7, "set", "(II)I"⟩
def dkwX7_set_1 : List UInt8 := [180, 0, 13, 27, 46, 62, 42, 182, 0, 223, 42, 180, 0, 41, 27, 28, 79, 42, 182, 0, 226, 29, 172]
abbrev dktX7_set_1 : List UInt8 := dkwX7_set_1 ++ []
def dkwX7_set_0 : List UInt8 := [42, 3, 181, 0, 72, 42, 27, 182, 0, 187, 153, 0, 10, 28, 184, 0, 220, 154, 0, 5, 2, 172, 42]
abbrev dktX7_set_0 : List UInt8 := dkwX7_set_0 ++ dktX7_set_1
theorem dksX7_set_0 : cX7_set.data.toList.drop 0 = dktX7_set_0 := by decide +kernel
theorem dksX7_set_1 : cX7_set.data.toList.drop 23 = dktX7_set_1 := dk_seg dksX7_set_0 23 rfl rfl
theorem dX7_set_0 : decode cX7_set 0 = .ok (.aload_n 0, 1) := dk_42 (dk_at dksX7_set_0 0 rfl rfl)
theorem dX7_set_1 : decode cX7_set 1 = .ok (.iconst 0, 1) := dk_3 (dk_at dksX7_set_0 1 rfl rfl)
theorem dX7_set_2 : decode cX7_set 2 = .ok (.putfield 72, 3) := dk_181 0 72 (dk_at dksX7_set_0 2 rfl rfl)
theorem dX7_set_5 : decode cX7_set 5 = .ok (.aload_n 0, 1) := dk_42 (dk_at dksX7_set_0 5 rfl rfl)
theorem dX7_set_6 : decode cX7_set 6 = .ok (.iload_n 1, 1) := dk_27 (dk_at dksX7_set_0 6 rfl rfl)
theorem dX7_set_7 : decode cX7_set 7 = .ok (.invokevirtual 187, 3) := dk_182 0 187 (dk_at dksX7_set_0 7 rfl rfl)
theorem dX7_set_10 : decode cX7_set 10 = .ok (.ifCond .eq 10, 3) := dk_153 0 10 (dk_at dksX7_set_0 10 rfl rfl)
theorem dX7_set_13 : decode cX7_set 13 = .ok (.iload_n 2, 1) := dk_28 (dk_at dksX7_set_0 13 rfl rfl)
theorem dX7_set_14 : decode cX7_set 14 = .ok (.invokestatic 220, 3) := dk_184 0 220 (dk_at dksX7_set_0 14 rfl rfl)
theorem dX7_set_17 : decode cX7_set 17 = .ok (.ifCond .ne 5, 3) := dk_154 0 5 (dk_at dksX7_set_0 17 rfl rfl)
theorem dX7_set_20 : decode cX7_set 20 = .ok (.iconst (-1), 1) := dk_2 (dk_at dksX7_set_0 20 rfl rfl)
theorem dX7_set_21 : decode cX7_set 21 = .ok (.ireturn, 1) := dk_172 (dk_at dksX7_set_0 21 rfl rfl)
theorem dX7_set_22 : decode cX7_set 22 = .ok (.aload_n 0, 1) := dk_42 (dk_at dksX7_set_0 22 rfl rfl)
theorem dX7_set_23 : decode cX7_set 23 = .ok (.getfield 13, 3) := dk_180 0 13 (dk_at dksX7_set_1 0 rfl rfl)
theorem dX7_set_26 : decode cX7_set 26 = .ok (.iload_n 1, 1) := dk_27 (dk_at dksX7_set_1 3 rfl rfl)
theorem dX7_set_27 : decode cX7_set 27 = .ok (.iaload, 1) := dk_46 (dk_at dksX7_set_1 4 rfl rfl)
theorem dX7_set_28 : decode cX7_set 28 = .ok (.istore_n 3, 1) := dk_62 (dk_at dksX7_set_1 5 rfl rfl)
theorem dX7_set_29 : decode cX7_set 29 = .ok (.aload_n 0, 1) := dk_42 (dk_at dksX7_set_1 6 rfl rfl)
theorem dX7_set_30 : decode cX7_set 30 = .ok (.invokevirtual 223, 3) := dk_182 0 223 (dk_at dksX7_set_1 7 rfl rfl)
theorem dX7_set_33 : decode cX7_set 33 = .ok (.aload_n 0, 1) := dk_42 (dk_at dksX7_set_1 10 rfl rfl)
theorem dX7_set_34 : decode cX7_set 34 = .ok (.getfield 41, 3) := dk_180 0 41 (dk_at dksX7_set_1 11 rfl rfl)
theorem dX7_set_37 : decode cX7_set 37 = .ok (.iload_n 1, 1) := dk_27 (dk_at dksX7_set_1 14 rfl rfl)
theorem dX7_set_38 : decode cX7_set 38 = .ok (.iload_n 2, 1) := dk_28 (dk_at dksX7_set_1 15 rfl rfl)
theorem dX7_set_39 : decode cX7_set 39 = .ok (.iastore, 1) := dk_79 (dk_at dksX7_set_1 16 rfl rfl)
theorem dX7_set_40 : decode cX7_set 40 = .ok (.aload_n 0, 1) := dk_42 (dk_at dksX7_set_1 17 rfl rfl)
theorem dX7_set_41 : decode cX7_set 41 = .ok (.invokevirtual 226, 3) := dk_182 0 226 (dk_at dksX7_set_1 18 rfl rfl)
theorem dX7_set_44 : decode cX7_set 44 = .ok (.iload_n 3, 1) := dk_29 (dk_at dksX7_set_1 21 rfl rfl)
theorem dX7_set_45 : decode cX7_set 45 = .ok (.ireturn, 1) := dk_172 (dk_at dksX7_set_1 22 rfl rfl)
abbrev cX7_isValue : ByteArray := prog_19_method_21_code
def yX7_isValue : MethodName := ⟨RX7, "isValue", "(I)Z"⟩
def dkwX7_isValue_0 : List UInt8 := [26, 155, 0, 14, 26, 17, 3, 232, 162, 0, 7, 4, 167, 0, 4, 3, 172]
abbrev dktX7_isValue_0 : List UInt8 := dkwX7_isValue_0 ++ []
theorem dksX7_isValue_0 : cX7_isValue.data.toList.drop 0 = dktX7_isValue_0 := by decide +kernel
theorem dX7_isValue_0 : decode cX7_isValue 0 = .ok (.iload_n 0, 1) := dk_26 (dk_at dksX7_isValue_0 0 rfl rfl)
theorem dX7_isValue_1 : decode cX7_isValue 1 = .ok (.ifCond .lt 14, 3) := dk_155 0 14 (dk_at dksX7_isValue_0 1 rfl rfl)
theorem dX7_isValue_4 : decode cX7_isValue 4 = .ok (.iload_n 0, 1) := dk_26 (dk_at dksX7_isValue_0 4 rfl rfl)
theorem dX7_isValue_5 : decode cX7_isValue 5 = .ok (.sipush 1000, 3) := dk_17 3 232 (dk_at dksX7_isValue_0 5 rfl rfl)
theorem dX7_isValue_8 : decode cX7_isValue 8 = .ok (.if_icmp .ge 7, 3) := dk_162 0 7 (dk_at dksX7_isValue_0 8 rfl rfl)
theorem dX7_isValue_11 : decode cX7_isValue 11 = .ok (.iconst 1, 1) := dk_4 (dk_at dksX7_isValue_0 11 rfl rfl)
theorem dX7_isValue_12 : decode cX7_isValue 12 = .ok (.goto 4, 3) := dk_167 0 4 (dk_at dksX7_isValue_0 12 rfl rfl)
theorem dX7_isValue_15 : decode cX7_isValue 15 = .ok (.iconst 0, 1) := dk_3 (dk_at dksX7_isValue_0 15 rfl rfl)
theorem dX7_isValue_16 : decode cX7_isValue 16 = .ok (.ireturn, 1) := dk_172 (dk_at dksX7_isValue_0 16 rfl rfl)
abbrev cX7_begins : ByteArray := prog_19_method_25_code
def yX7_begins : MethodName := ⟨RX7, "begins", "()V"⟩
def dkwX7_begins_2 : List UInt8 := [177]
abbrev dktX7_begins_2 : List UInt8 := dkwX7_begins_2 ++ []
def dkwX7_begins_1 : List UInt8 := [180, 0, 13, 27, 46, 79, 42, 180, 0, 44, 27, 42, 180, 0, 16, 27, 46, 79, 132, 1, 1, 167, 255, 221]
abbrev dktX7_begins_1 : List UInt8 := dkwX7_begins_1 ++ dktX7_begins_2
def dkwX7_begins_0 : List UInt8 := [42, 42, 180, 0, 175, 181, 0, 197, 3, 60, 27, 42, 180, 0, 175, 162, 0, 33, 42, 180, 0, 41, 27, 42]
abbrev dktX7_begins_0 : List UInt8 := dkwX7_begins_0 ++ dktX7_begins_1
theorem dksX7_begins_0 : cX7_begins.data.toList.drop 0 = dktX7_begins_0 := by decide +kernel
theorem dksX7_begins_1 : cX7_begins.data.toList.drop 24 = dktX7_begins_1 := dk_seg dksX7_begins_0 24 rfl rfl
theorem dksX7_begins_2 : cX7_begins.data.toList.drop 48 = dktX7_begins_2 := dk_seg dksX7_begins_1 24 rfl rfl
theorem dX7_begins_0 : decode cX7_begins 0 = .ok (.aload_n 0, 1) := dk_42 (dk_at dksX7_begins_0 0 rfl rfl)
theorem dX7_begins_1 : decode cX7_begins 1 = .ok (.aload_n 0, 1) := dk_42 (dk_at dksX7_begins_0 1 rfl rfl)
theorem dX7_begins_2 : decode cX7_begins 2 = .ok (.getfield 175, 3) := dk_180 0 175 (dk_at dksX7_begins_0 2 rfl rfl)
theorem dX7_begins_5 : decode cX7_begins 5 = .ok (.putfield 197, 3) := dk_181 0 197 (dk_at dksX7_begins_0 5 rfl rfl)
theorem dX7_begins_8 : decode cX7_begins 8 = .ok (.iconst 0, 1) := dk_3 (dk_at dksX7_begins_0 8 rfl rfl)
theorem dX7_begins_9 : decode cX7_begins 9 = .ok (.istore_n 1, 1) := dk_60 (dk_at dksX7_begins_0 9 rfl rfl)
theorem dX7_begins_10 : decode cX7_begins 10 = .ok (.iload_n 1, 1) := dk_27 (dk_at dksX7_begins_0 10 rfl rfl)
theorem dX7_begins_11 : decode cX7_begins 11 = .ok (.aload_n 0, 1) := dk_42 (dk_at dksX7_begins_0 11 rfl rfl)
theorem dX7_begins_12 : decode cX7_begins 12 = .ok (.getfield 175, 3) := dk_180 0 175 (dk_at dksX7_begins_0 12 rfl rfl)
theorem dX7_begins_15 : decode cX7_begins 15 = .ok (.if_icmp .ge 33, 3) := dk_162 0 33 (dk_at dksX7_begins_0 15 rfl rfl)
theorem dX7_begins_18 : decode cX7_begins 18 = .ok (.aload_n 0, 1) := dk_42 (dk_at dksX7_begins_0 18 rfl rfl)
theorem dX7_begins_19 : decode cX7_begins 19 = .ok (.getfield 41, 3) := dk_180 0 41 (dk_at dksX7_begins_0 19 rfl rfl)
theorem dX7_begins_22 : decode cX7_begins 22 = .ok (.iload_n 1, 1) := dk_27 (dk_at dksX7_begins_0 22 rfl rfl)
theorem dX7_begins_23 : decode cX7_begins 23 = .ok (.aload_n 0, 1) := dk_42 (dk_at dksX7_begins_0 23 rfl rfl)
theorem dX7_begins_24 : decode cX7_begins 24 = .ok (.getfield 13, 3) := dk_180 0 13 (dk_at dksX7_begins_1 0 rfl rfl)
theorem dX7_begins_27 : decode cX7_begins 27 = .ok (.iload_n 1, 1) := dk_27 (dk_at dksX7_begins_1 3 rfl rfl)
theorem dX7_begins_28 : decode cX7_begins 28 = .ok (.iaload, 1) := dk_46 (dk_at dksX7_begins_1 4 rfl rfl)
theorem dX7_begins_29 : decode cX7_begins 29 = .ok (.iastore, 1) := dk_79 (dk_at dksX7_begins_1 5 rfl rfl)
theorem dX7_begins_30 : decode cX7_begins 30 = .ok (.aload_n 0, 1) := dk_42 (dk_at dksX7_begins_1 6 rfl rfl)
theorem dX7_begins_31 : decode cX7_begins 31 = .ok (.getfield 44, 3) := dk_180 0 44 (dk_at dksX7_begins_1 7 rfl rfl)
theorem dX7_begins_34 : decode cX7_begins 34 = .ok (.iload_n 1, 1) := dk_27 (dk_at dksX7_begins_1 10 rfl rfl)
theorem dX7_begins_35 : decode cX7_begins 35 = .ok (.aload_n 0, 1) := dk_42 (dk_at dksX7_begins_1 11 rfl rfl)
theorem dX7_begins_36 : decode cX7_begins 36 = .ok (.getfield 16, 3) := dk_180 0 16 (dk_at dksX7_begins_1 12 rfl rfl)
theorem dX7_begins_39 : decode cX7_begins 39 = .ok (.iload_n 1, 1) := dk_27 (dk_at dksX7_begins_1 15 rfl rfl)
theorem dX7_begins_40 : decode cX7_begins 40 = .ok (.iaload, 1) := dk_46 (dk_at dksX7_begins_1 16 rfl rfl)
theorem dX7_begins_41 : decode cX7_begins 41 = .ok (.iastore, 1) := dk_79 (dk_at dksX7_begins_1 17 rfl rfl)
theorem dX7_begins_42 : decode cX7_begins 42 = .ok (.iinc 1 1, 3) := dk_132 1 1 (dk_at dksX7_begins_1 18 rfl rfl)
theorem dX7_begins_45 : decode cX7_begins 45 = .ok (.goto (-35), 3) := dk_167 255 221 (dk_at dksX7_begins_1 21 rfl rfl)
theorem dX7_begins_48 : decode cX7_begins 48 = .ok (.return_, 1) := dk_177 (dk_at dksX7_begins_2 0 rfl rfl)
abbrev cX7_edits : ByteArray := prog_19_method_32_code
def yX7_edits : MethodName := ⟨RX7, "edits", "()V"⟩
def dkwX7_edits_5 : List UInt8 := [79, 42, 89, 180, 0, 184, 4, 96, 181, 0, 184, 42, 182, 0, 217, 177]
abbrev dktX7_edits_5 : List UInt8 := dkwX7_edits_5 ++ []
def dkwX7_edits_4 : List UInt8 := [180, 0, 16, 27, 46, 79, 132, 1, 1, 167, 255, 205, 42, 180, 0, 25, 42, 180, 0, 184, 42, 180, 0, 175]
abbrev dktX7_edits_4 : List UInt8 := dkwX7_edits_4 ++ dktX7_edits_5
def dkwX7_edits_3 : List UInt8 := [27, 96, 42, 180, 0, 13, 27, 46, 79, 42, 180, 0, 22, 16, 120, 42, 180, 0, 184, 104, 27, 96, 42]
abbrev dktX7_edits_3 : List UInt8 := dkwX7_edits_3 ++ dktX7_edits_4
def dkwX7_edits_2 : List UInt8 := [181, 0, 184, 3, 60, 27, 42, 180, 0, 175, 162, 0, 49, 42, 180, 0, 19, 16, 120, 42, 180, 0, 184, 104]
abbrev dktX7_edits_2 : List UInt8 := dkwX7_edits_2 ++ dktX7_edits_3
def dkwX7_edits_1 : List UInt8 := [162, 0, 17, 42, 27, 27, 4, 100, 182, 0, 213, 132, 1, 1, 167, 255, 239, 42, 89, 180, 0, 184, 4, 100]
abbrev dktX7_edits_1 : List UInt8 := dkwX7_edits_1 ++ dktX7_edits_2
def dkwX7_edits_0 : List UInt8 := [42, 182, 0, 209, 154, 0, 4, 177, 42, 180, 0, 184, 16, 12, 160, 0, 35, 4, 60, 27, 16, 12]
abbrev dktX7_edits_0 : List UInt8 := dkwX7_edits_0 ++ dktX7_edits_1
theorem dksX7_edits_0 : cX7_edits.data.toList.drop 0 = dktX7_edits_0 := by decide +kernel
theorem dksX7_edits_1 : cX7_edits.data.toList.drop 22 = dktX7_edits_1 := dk_seg dksX7_edits_0 22 rfl rfl
theorem dksX7_edits_2 : cX7_edits.data.toList.drop 46 = dktX7_edits_2 := dk_seg dksX7_edits_1 24 rfl rfl
theorem dksX7_edits_3 : cX7_edits.data.toList.drop 70 = dktX7_edits_3 := dk_seg dksX7_edits_2 24 rfl rfl
theorem dksX7_edits_4 : cX7_edits.data.toList.drop 93 = dktX7_edits_4 := dk_seg dksX7_edits_3 23 rfl rfl
theorem dksX7_edits_5 : cX7_edits.data.toList.drop 117 = dktX7_edits_5 := dk_seg dksX7_edits_4 24 rfl rfl
theorem dX7_edits_0 : decode cX7_edits 0 = .ok (.aload_n 0, 1) := dk_42 (dk_at dksX7_edits_0 0 rfl rfl)
theorem dX7_edits_1 : decode cX7_edits 1 = .ok (.invokevirtual 209, 3) := dk_182 0 209 (dk_at dksX7_edits_0 1 rfl rfl)
theorem dX7_edits_4 : decode cX7_edits 4 = .ok (.ifCond .ne 4, 3) := dk_154 0 4 (dk_at dksX7_edits_0 4 rfl rfl)
theorem dX7_edits_7 : decode cX7_edits 7 = .ok (.return_, 1) := dk_177 (dk_at dksX7_edits_0 7 rfl rfl)
theorem dX7_edits_8 : decode cX7_edits 8 = .ok (.aload_n 0, 1) := dk_42 (dk_at dksX7_edits_0 8 rfl rfl)
theorem dX7_edits_9 : decode cX7_edits 9 = .ok (.getfield 184, 3) := dk_180 0 184 (dk_at dksX7_edits_0 9 rfl rfl)
theorem dX7_edits_12 : decode cX7_edits 12 = .ok (.bipush 12, 2) := dk_16 12 (dk_at dksX7_edits_0 12 rfl rfl)
theorem dX7_edits_14 : decode cX7_edits 14 = .ok (.if_icmp .ne 35, 3) := dk_160 0 35 (dk_at dksX7_edits_0 14 rfl rfl)
theorem dX7_edits_17 : decode cX7_edits 17 = .ok (.iconst 1, 1) := dk_4 (dk_at dksX7_edits_0 17 rfl rfl)
theorem dX7_edits_18 : decode cX7_edits 18 = .ok (.istore_n 1, 1) := dk_60 (dk_at dksX7_edits_0 18 rfl rfl)
theorem dX7_edits_19 : decode cX7_edits 19 = .ok (.iload_n 1, 1) := dk_27 (dk_at dksX7_edits_0 19 rfl rfl)
theorem dX7_edits_20 : decode cX7_edits 20 = .ok (.bipush 12, 2) := dk_16 12 (dk_at dksX7_edits_0 20 rfl rfl)
theorem dX7_edits_22 : decode cX7_edits 22 = .ok (.if_icmp .ge 17, 3) := dk_162 0 17 (dk_at dksX7_edits_1 0 rfl rfl)
theorem dX7_edits_25 : decode cX7_edits 25 = .ok (.aload_n 0, 1) := dk_42 (dk_at dksX7_edits_1 3 rfl rfl)
theorem dX7_edits_26 : decode cX7_edits 26 = .ok (.iload_n 1, 1) := dk_27 (dk_at dksX7_edits_1 4 rfl rfl)
theorem dX7_edits_27 : decode cX7_edits 27 = .ok (.iload_n 1, 1) := dk_27 (dk_at dksX7_edits_1 5 rfl rfl)
theorem dX7_edits_28 : decode cX7_edits 28 = .ok (.iconst 1, 1) := dk_4 (dk_at dksX7_edits_1 6 rfl rfl)
theorem dX7_edits_29 : decode cX7_edits 29 = .ok (.isub, 1) := dk_100 (dk_at dksX7_edits_1 7 rfl rfl)
theorem dX7_edits_30 : decode cX7_edits 30 = .ok (.invokevirtual 213, 3) := dk_182 0 213 (dk_at dksX7_edits_1 8 rfl rfl)
theorem dX7_edits_33 : decode cX7_edits 33 = .ok (.iinc 1 1, 3) := dk_132 1 1 (dk_at dksX7_edits_1 11 rfl rfl)
theorem dX7_edits_36 : decode cX7_edits 36 = .ok (.goto (-17), 3) := dk_167 255 239 (dk_at dksX7_edits_1 14 rfl rfl)
theorem dX7_edits_39 : decode cX7_edits 39 = .ok (.aload_n 0, 1) := dk_42 (dk_at dksX7_edits_1 17 rfl rfl)
theorem dX7_edits_40 : decode cX7_edits 40 = .ok (.dup, 1) := dk_89 (dk_at dksX7_edits_1 18 rfl rfl)
theorem dX7_edits_41 : decode cX7_edits 41 = .ok (.getfield 184, 3) := dk_180 0 184 (dk_at dksX7_edits_1 19 rfl rfl)
theorem dX7_edits_44 : decode cX7_edits 44 = .ok (.iconst 1, 1) := dk_4 (dk_at dksX7_edits_1 22 rfl rfl)
theorem dX7_edits_45 : decode cX7_edits 45 = .ok (.isub, 1) := dk_100 (dk_at dksX7_edits_1 23 rfl rfl)
theorem dX7_edits_46 : decode cX7_edits 46 = .ok (.putfield 184, 3) := dk_181 0 184 (dk_at dksX7_edits_2 0 rfl rfl)
theorem dX7_edits_49 : decode cX7_edits 49 = .ok (.iconst 0, 1) := dk_3 (dk_at dksX7_edits_2 3 rfl rfl)
theorem dX7_edits_50 : decode cX7_edits 50 = .ok (.istore_n 1, 1) := dk_60 (dk_at dksX7_edits_2 4 rfl rfl)
theorem dX7_edits_51 : decode cX7_edits 51 = .ok (.iload_n 1, 1) := dk_27 (dk_at dksX7_edits_2 5 rfl rfl)
theorem dX7_edits_52 : decode cX7_edits 52 = .ok (.aload_n 0, 1) := dk_42 (dk_at dksX7_edits_2 6 rfl rfl)
theorem dX7_edits_53 : decode cX7_edits 53 = .ok (.getfield 175, 3) := dk_180 0 175 (dk_at dksX7_edits_2 7 rfl rfl)
theorem dX7_edits_56 : decode cX7_edits 56 = .ok (.if_icmp .ge 49, 3) := dk_162 0 49 (dk_at dksX7_edits_2 10 rfl rfl)
theorem dX7_edits_59 : decode cX7_edits 59 = .ok (.aload_n 0, 1) := dk_42 (dk_at dksX7_edits_2 13 rfl rfl)
theorem dX7_edits_60 : decode cX7_edits 60 = .ok (.getfield 19, 3) := dk_180 0 19 (dk_at dksX7_edits_2 14 rfl rfl)
theorem dX7_edits_63 : decode cX7_edits 63 = .ok (.bipush 120, 2) := dk_16 120 (dk_at dksX7_edits_2 17 rfl rfl)
theorem dX7_edits_65 : decode cX7_edits 65 = .ok (.aload_n 0, 1) := dk_42 (dk_at dksX7_edits_2 19 rfl rfl)
theorem dX7_edits_66 : decode cX7_edits 66 = .ok (.getfield 184, 3) := dk_180 0 184 (dk_at dksX7_edits_2 20 rfl rfl)
theorem dX7_edits_69 : decode cX7_edits 69 = .ok (.imul, 1) := dk_104 (dk_at dksX7_edits_2 23 rfl rfl)
theorem dX7_edits_70 : decode cX7_edits 70 = .ok (.iload_n 1, 1) := dk_27 (dk_at dksX7_edits_3 0 rfl rfl)
theorem dX7_edits_71 : decode cX7_edits 71 = .ok (.iadd, 1) := dk_96 (dk_at dksX7_edits_3 1 rfl rfl)
theorem dX7_edits_72 : decode cX7_edits 72 = .ok (.aload_n 0, 1) := dk_42 (dk_at dksX7_edits_3 2 rfl rfl)
theorem dX7_edits_73 : decode cX7_edits 73 = .ok (.getfield 13, 3) := dk_180 0 13 (dk_at dksX7_edits_3 3 rfl rfl)
theorem dX7_edits_76 : decode cX7_edits 76 = .ok (.iload_n 1, 1) := dk_27 (dk_at dksX7_edits_3 6 rfl rfl)
theorem dX7_edits_77 : decode cX7_edits 77 = .ok (.iaload, 1) := dk_46 (dk_at dksX7_edits_3 7 rfl rfl)
theorem dX7_edits_78 : decode cX7_edits 78 = .ok (.iastore, 1) := dk_79 (dk_at dksX7_edits_3 8 rfl rfl)
theorem dX7_edits_79 : decode cX7_edits 79 = .ok (.aload_n 0, 1) := dk_42 (dk_at dksX7_edits_3 9 rfl rfl)
theorem dX7_edits_80 : decode cX7_edits 80 = .ok (.getfield 22, 3) := dk_180 0 22 (dk_at dksX7_edits_3 10 rfl rfl)
theorem dX7_edits_83 : decode cX7_edits 83 = .ok (.bipush 120, 2) := dk_16 120 (dk_at dksX7_edits_3 13 rfl rfl)
theorem dX7_edits_85 : decode cX7_edits 85 = .ok (.aload_n 0, 1) := dk_42 (dk_at dksX7_edits_3 15 rfl rfl)
theorem dX7_edits_86 : decode cX7_edits 86 = .ok (.getfield 184, 3) := dk_180 0 184 (dk_at dksX7_edits_3 16 rfl rfl)
theorem dX7_edits_89 : decode cX7_edits 89 = .ok (.imul, 1) := dk_104 (dk_at dksX7_edits_3 19 rfl rfl)
theorem dX7_edits_90 : decode cX7_edits 90 = .ok (.iload_n 1, 1) := dk_27 (dk_at dksX7_edits_3 20 rfl rfl)
theorem dX7_edits_91 : decode cX7_edits 91 = .ok (.iadd, 1) := dk_96 (dk_at dksX7_edits_3 21 rfl rfl)
theorem dX7_edits_92 : decode cX7_edits 92 = .ok (.aload_n 0, 1) := dk_42 (dk_at dksX7_edits_3 22 rfl rfl)
theorem dX7_edits_93 : decode cX7_edits 93 = .ok (.getfield 16, 3) := dk_180 0 16 (dk_at dksX7_edits_4 0 rfl rfl)
theorem dX7_edits_96 : decode cX7_edits 96 = .ok (.iload_n 1, 1) := dk_27 (dk_at dksX7_edits_4 3 rfl rfl)
theorem dX7_edits_97 : decode cX7_edits 97 = .ok (.iaload, 1) := dk_46 (dk_at dksX7_edits_4 4 rfl rfl)
theorem dX7_edits_98 : decode cX7_edits 98 = .ok (.iastore, 1) := dk_79 (dk_at dksX7_edits_4 5 rfl rfl)
theorem dX7_edits_99 : decode cX7_edits 99 = .ok (.iinc 1 1, 3) := dk_132 1 1 (dk_at dksX7_edits_4 6 rfl rfl)
theorem dX7_edits_102 : decode cX7_edits 102 = .ok (.goto (-51), 3) := dk_167 255 205 (dk_at dksX7_edits_4 9 rfl rfl)
theorem dX7_edits_105 : decode cX7_edits 105 = .ok (.aload_n 0, 1) := dk_42 (dk_at dksX7_edits_4 12 rfl rfl)
theorem dX7_edits_106 : decode cX7_edits 106 = .ok (.getfield 25, 3) := dk_180 0 25 (dk_at dksX7_edits_4 13 rfl rfl)
theorem dX7_edits_109 : decode cX7_edits 109 = .ok (.aload_n 0, 1) := dk_42 (dk_at dksX7_edits_4 16 rfl rfl)
theorem dX7_edits_110 : decode cX7_edits 110 = .ok (.getfield 184, 3) := dk_180 0 184 (dk_at dksX7_edits_4 17 rfl rfl)
theorem dX7_edits_113 : decode cX7_edits 113 = .ok (.aload_n 0, 1) := dk_42 (dk_at dksX7_edits_4 20 rfl rfl)
theorem dX7_edits_114 : decode cX7_edits 114 = .ok (.getfield 175, 3) := dk_180 0 175 (dk_at dksX7_edits_4 21 rfl rfl)
theorem dX7_edits_117 : decode cX7_edits 117 = .ok (.iastore, 1) := dk_79 (dk_at dksX7_edits_5 0 rfl rfl)
theorem dX7_edits_118 : decode cX7_edits 118 = .ok (.aload_n 0, 1) := dk_42 (dk_at dksX7_edits_5 1 rfl rfl)
theorem dX7_edits_119 : decode cX7_edits 119 = .ok (.dup, 1) := dk_89 (dk_at dksX7_edits_5 2 rfl rfl)
theorem dX7_edits_120 : decode cX7_edits 120 = .ok (.getfield 184, 3) := dk_180 0 184 (dk_at dksX7_edits_5 3 rfl rfl)
theorem dX7_edits_123 : decode cX7_edits 123 = .ok (.iconst 1, 1) := dk_4 (dk_at dksX7_edits_5 6 rfl rfl)
theorem dX7_edits_124 : decode cX7_edits 124 = .ok (.iadd, 1) := dk_96 (dk_at dksX7_edits_5 7 rfl rfl)
theorem dX7_edits_125 : decode cX7_edits 125 = .ok (.putfield 184, 3) := dk_181 0 184 (dk_at dksX7_edits_5 8 rfl rfl)
theorem dX7_edits_128 : decode cX7_edits 128 = .ok (.aload_n 0, 1) := dk_42 (dk_at dksX7_edits_5 11 rfl rfl)
theorem dX7_edits_129 : decode cX7_edits 129 = .ok (.invokevirtual 217, 3) := dk_182 0 217 (dk_at dksX7_edits_5 12 rfl rfl)
theorem dX7_edits_132 : decode cX7_edits 132 = .ok (.return_, 1) := dk_177 (dk_at dksX7_edits_5 15 rfl rfl)
abbrev cX7_isOther : ByteArray := prog_19_method_27_code
def yX7_isOther : MethodName := ⟨RX7, "isOther", "()Z"⟩
def dkwX7_isOther_2 : List UInt8 := [27, 46, 159, 0, 5, 4, 172, 132, 1, 1, 167, 255, 213, 3, 172]
abbrev dktX7_isOther_2 : List UInt8 := dkwX7_isOther_2 ++ []
def dkwX7_isOther_1 : List UInt8 := [180, 0, 41, 27, 46, 42, 180, 0, 13, 27, 46, 160, 0, 18, 42, 180, 0, 44, 27, 46, 42, 180, 0, 16]
abbrev dktX7_isOther_1 : List UInt8 := dkwX7_isOther_1 ++ dktX7_isOther_2
def dkwX7_isOther_0 : List UInt8 := [42, 180, 0, 197, 42, 180, 0, 175, 159, 0, 5, 4, 172, 3, 60, 27, 42, 180, 0, 175, 162, 0, 41, 42]
abbrev dktX7_isOther_0 : List UInt8 := dkwX7_isOther_0 ++ dktX7_isOther_1
theorem dksX7_isOther_0 : cX7_isOther.data.toList.drop 0 = dktX7_isOther_0 := by decide +kernel
theorem dksX7_isOther_1 : cX7_isOther.data.toList.drop 24 = dktX7_isOther_1 := dk_seg dksX7_isOther_0 24 rfl rfl
theorem dksX7_isOther_2 : cX7_isOther.data.toList.drop 48 = dktX7_isOther_2 := dk_seg dksX7_isOther_1 24 rfl rfl
theorem dX7_isOther_0 : decode cX7_isOther 0 = .ok (.aload_n 0, 1) := dk_42 (dk_at dksX7_isOther_0 0 rfl rfl)
theorem dX7_isOther_1 : decode cX7_isOther 1 = .ok (.getfield 197, 3) := dk_180 0 197 (dk_at dksX7_isOther_0 1 rfl rfl)
theorem dX7_isOther_4 : decode cX7_isOther 4 = .ok (.aload_n 0, 1) := dk_42 (dk_at dksX7_isOther_0 4 rfl rfl)
theorem dX7_isOther_5 : decode cX7_isOther 5 = .ok (.getfield 175, 3) := dk_180 0 175 (dk_at dksX7_isOther_0 5 rfl rfl)
theorem dX7_isOther_8 : decode cX7_isOther 8 = .ok (.if_icmp .eq 5, 3) := dk_159 0 5 (dk_at dksX7_isOther_0 8 rfl rfl)
theorem dX7_isOther_11 : decode cX7_isOther 11 = .ok (.iconst 1, 1) := dk_4 (dk_at dksX7_isOther_0 11 rfl rfl)
theorem dX7_isOther_12 : decode cX7_isOther 12 = .ok (.ireturn, 1) := dk_172 (dk_at dksX7_isOther_0 12 rfl rfl)
theorem dX7_isOther_13 : decode cX7_isOther 13 = .ok (.iconst 0, 1) := dk_3 (dk_at dksX7_isOther_0 13 rfl rfl)
theorem dX7_isOther_14 : decode cX7_isOther 14 = .ok (.istore_n 1, 1) := dk_60 (dk_at dksX7_isOther_0 14 rfl rfl)
theorem dX7_isOther_15 : decode cX7_isOther 15 = .ok (.iload_n 1, 1) := dk_27 (dk_at dksX7_isOther_0 15 rfl rfl)
theorem dX7_isOther_16 : decode cX7_isOther 16 = .ok (.aload_n 0, 1) := dk_42 (dk_at dksX7_isOther_0 16 rfl rfl)
theorem dX7_isOther_17 : decode cX7_isOther 17 = .ok (.getfield 175, 3) := dk_180 0 175 (dk_at dksX7_isOther_0 17 rfl rfl)
theorem dX7_isOther_20 : decode cX7_isOther 20 = .ok (.if_icmp .ge 41, 3) := dk_162 0 41 (dk_at dksX7_isOther_0 20 rfl rfl)
theorem dX7_isOther_23 : decode cX7_isOther 23 = .ok (.aload_n 0, 1) := dk_42 (dk_at dksX7_isOther_0 23 rfl rfl)
theorem dX7_isOther_24 : decode cX7_isOther 24 = .ok (.getfield 41, 3) := dk_180 0 41 (dk_at dksX7_isOther_1 0 rfl rfl)
theorem dX7_isOther_27 : decode cX7_isOther 27 = .ok (.iload_n 1, 1) := dk_27 (dk_at dksX7_isOther_1 3 rfl rfl)
theorem dX7_isOther_28 : decode cX7_isOther 28 = .ok (.iaload, 1) := dk_46 (dk_at dksX7_isOther_1 4 rfl rfl)
theorem dX7_isOther_29 : decode cX7_isOther 29 = .ok (.aload_n 0, 1) := dk_42 (dk_at dksX7_isOther_1 5 rfl rfl)
theorem dX7_isOther_30 : decode cX7_isOther 30 = .ok (.getfield 13, 3) := dk_180 0 13 (dk_at dksX7_isOther_1 6 rfl rfl)
theorem dX7_isOther_33 : decode cX7_isOther 33 = .ok (.iload_n 1, 1) := dk_27 (dk_at dksX7_isOther_1 9 rfl rfl)
theorem dX7_isOther_34 : decode cX7_isOther 34 = .ok (.iaload, 1) := dk_46 (dk_at dksX7_isOther_1 10 rfl rfl)
theorem dX7_isOther_35 : decode cX7_isOther 35 = .ok (.if_icmp .ne 18, 3) := dk_160 0 18 (dk_at dksX7_isOther_1 11 rfl rfl)
theorem dX7_isOther_38 : decode cX7_isOther 38 = .ok (.aload_n 0, 1) := dk_42 (dk_at dksX7_isOther_1 14 rfl rfl)
theorem dX7_isOther_39 : decode cX7_isOther 39 = .ok (.getfield 44, 3) := dk_180 0 44 (dk_at dksX7_isOther_1 15 rfl rfl)
theorem dX7_isOther_42 : decode cX7_isOther 42 = .ok (.iload_n 1, 1) := dk_27 (dk_at dksX7_isOther_1 18 rfl rfl)
theorem dX7_isOther_43 : decode cX7_isOther 43 = .ok (.iaload, 1) := dk_46 (dk_at dksX7_isOther_1 19 rfl rfl)
theorem dX7_isOther_44 : decode cX7_isOther 44 = .ok (.aload_n 0, 1) := dk_42 (dk_at dksX7_isOther_1 20 rfl rfl)
theorem dX7_isOther_45 : decode cX7_isOther 45 = .ok (.getfield 16, 3) := dk_180 0 16 (dk_at dksX7_isOther_1 21 rfl rfl)
theorem dX7_isOther_48 : decode cX7_isOther 48 = .ok (.iload_n 1, 1) := dk_27 (dk_at dksX7_isOther_2 0 rfl rfl)
theorem dX7_isOther_49 : decode cX7_isOther 49 = .ok (.iaload, 1) := dk_46 (dk_at dksX7_isOther_2 1 rfl rfl)
theorem dX7_isOther_50 : decode cX7_isOther 50 = .ok (.if_icmp .eq 5, 3) := dk_159 0 5 (dk_at dksX7_isOther_2 2 rfl rfl)
theorem dX7_isOther_53 : decode cX7_isOther 53 = .ok (.iconst 1, 1) := dk_4 (dk_at dksX7_isOther_2 5 rfl rfl)
theorem dX7_isOther_54 : decode cX7_isOther 54 = .ok (.ireturn, 1) := dk_172 (dk_at dksX7_isOther_2 6 rfl rfl)
theorem dX7_isOther_55 : decode cX7_isOther 55 = .ok (.iinc 1 1, 3) := dk_132 1 1 (dk_at dksX7_isOther_2 7 rfl rfl)
theorem dX7_isOther_58 : decode cX7_isOther 58 = .ok (.goto (-43), 3) := dk_167 255 213 (dk_at dksX7_isOther_2 10 rfl rfl)
theorem dX7_isOther_61 : decode cX7_isOther 61 = .ok (.iconst 0, 1) := dk_3 (dk_at dksX7_isOther_2 13 rfl rfl)
theorem dX7_isOther_62 : decode cX7_isOther 62 = .ok (.ireturn, 1) := dk_172 (dk_at dksX7_isOther_2 14 rfl rfl)
abbrev cX7_copies : ByteArray := prog_19_method_33_code
def yX7_copies : MethodName := ⟨RX7, "copies", "(II)V"⟩
def dkwX7_copies_2 : List UInt8 := [29, 96, 46, 79, 132, 3, 1, 167, 255, 203, 42, 180, 0, 25, 28, 42, 180, 0, 25, 27, 46, 79, 177]
abbrev dktX7_copies_2 : List UInt8 := dkwX7_copies_2 ++ []
def dkwX7_copies_1 : List UInt8 := [27, 104, 29, 96, 46, 79, 42, 180, 0, 22, 16, 120, 28, 104, 29, 96, 42, 180, 0, 22, 16, 120, 27, 104]
abbrev dktX7_copies_1 : List UInt8 := dkwX7_copies_1 ++ dktX7_copies_2
def dkwX7_copies_0 : List UInt8 := [3, 62, 29, 16, 120, 162, 0, 53, 42, 180, 0, 19, 16, 120, 28, 104, 29, 96, 42, 180, 0, 19, 16, 120]
abbrev dktX7_copies_0 : List UInt8 := dkwX7_copies_0 ++ dktX7_copies_1
theorem dksX7_copies_0 : cX7_copies.data.toList.drop 0 = dktX7_copies_0 := by decide +kernel
theorem dksX7_copies_1 : cX7_copies.data.toList.drop 24 = dktX7_copies_1 := dk_seg dksX7_copies_0 24 rfl rfl
theorem dksX7_copies_2 : cX7_copies.data.toList.drop 48 = dktX7_copies_2 := dk_seg dksX7_copies_1 24 rfl rfl
theorem dX7_copies_0 : decode cX7_copies 0 = .ok (.iconst 0, 1) := dk_3 (dk_at dksX7_copies_0 0 rfl rfl)
theorem dX7_copies_1 : decode cX7_copies 1 = .ok (.istore_n 3, 1) := dk_62 (dk_at dksX7_copies_0 1 rfl rfl)
theorem dX7_copies_2 : decode cX7_copies 2 = .ok (.iload_n 3, 1) := dk_29 (dk_at dksX7_copies_0 2 rfl rfl)
theorem dX7_copies_3 : decode cX7_copies 3 = .ok (.bipush 120, 2) := dk_16 120 (dk_at dksX7_copies_0 3 rfl rfl)
theorem dX7_copies_5 : decode cX7_copies 5 = .ok (.if_icmp .ge 53, 3) := dk_162 0 53 (dk_at dksX7_copies_0 5 rfl rfl)
theorem dX7_copies_8 : decode cX7_copies 8 = .ok (.aload_n 0, 1) := dk_42 (dk_at dksX7_copies_0 8 rfl rfl)
theorem dX7_copies_9 : decode cX7_copies 9 = .ok (.getfield 19, 3) := dk_180 0 19 (dk_at dksX7_copies_0 9 rfl rfl)
theorem dX7_copies_12 : decode cX7_copies 12 = .ok (.bipush 120, 2) := dk_16 120 (dk_at dksX7_copies_0 12 rfl rfl)
theorem dX7_copies_14 : decode cX7_copies 14 = .ok (.iload_n 2, 1) := dk_28 (dk_at dksX7_copies_0 14 rfl rfl)
theorem dX7_copies_15 : decode cX7_copies 15 = .ok (.imul, 1) := dk_104 (dk_at dksX7_copies_0 15 rfl rfl)
theorem dX7_copies_16 : decode cX7_copies 16 = .ok (.iload_n 3, 1) := dk_29 (dk_at dksX7_copies_0 16 rfl rfl)
theorem dX7_copies_17 : decode cX7_copies 17 = .ok (.iadd, 1) := dk_96 (dk_at dksX7_copies_0 17 rfl rfl)
theorem dX7_copies_18 : decode cX7_copies 18 = .ok (.aload_n 0, 1) := dk_42 (dk_at dksX7_copies_0 18 rfl rfl)
theorem dX7_copies_19 : decode cX7_copies 19 = .ok (.getfield 19, 3) := dk_180 0 19 (dk_at dksX7_copies_0 19 rfl rfl)
theorem dX7_copies_22 : decode cX7_copies 22 = .ok (.bipush 120, 2) := dk_16 120 (dk_at dksX7_copies_0 22 rfl rfl)
theorem dX7_copies_24 : decode cX7_copies 24 = .ok (.iload_n 1, 1) := dk_27 (dk_at dksX7_copies_1 0 rfl rfl)
theorem dX7_copies_25 : decode cX7_copies 25 = .ok (.imul, 1) := dk_104 (dk_at dksX7_copies_1 1 rfl rfl)
theorem dX7_copies_26 : decode cX7_copies 26 = .ok (.iload_n 3, 1) := dk_29 (dk_at dksX7_copies_1 2 rfl rfl)
theorem dX7_copies_27 : decode cX7_copies 27 = .ok (.iadd, 1) := dk_96 (dk_at dksX7_copies_1 3 rfl rfl)
theorem dX7_copies_28 : decode cX7_copies 28 = .ok (.iaload, 1) := dk_46 (dk_at dksX7_copies_1 4 rfl rfl)
theorem dX7_copies_29 : decode cX7_copies 29 = .ok (.iastore, 1) := dk_79 (dk_at dksX7_copies_1 5 rfl rfl)
theorem dX7_copies_30 : decode cX7_copies 30 = .ok (.aload_n 0, 1) := dk_42 (dk_at dksX7_copies_1 6 rfl rfl)
theorem dX7_copies_31 : decode cX7_copies 31 = .ok (.getfield 22, 3) := dk_180 0 22 (dk_at dksX7_copies_1 7 rfl rfl)
theorem dX7_copies_34 : decode cX7_copies 34 = .ok (.bipush 120, 2) := dk_16 120 (dk_at dksX7_copies_1 10 rfl rfl)
theorem dX7_copies_36 : decode cX7_copies 36 = .ok (.iload_n 2, 1) := dk_28 (dk_at dksX7_copies_1 12 rfl rfl)
theorem dX7_copies_37 : decode cX7_copies 37 = .ok (.imul, 1) := dk_104 (dk_at dksX7_copies_1 13 rfl rfl)
theorem dX7_copies_38 : decode cX7_copies 38 = .ok (.iload_n 3, 1) := dk_29 (dk_at dksX7_copies_1 14 rfl rfl)
theorem dX7_copies_39 : decode cX7_copies 39 = .ok (.iadd, 1) := dk_96 (dk_at dksX7_copies_1 15 rfl rfl)
theorem dX7_copies_40 : decode cX7_copies 40 = .ok (.aload_n 0, 1) := dk_42 (dk_at dksX7_copies_1 16 rfl rfl)
theorem dX7_copies_41 : decode cX7_copies 41 = .ok (.getfield 22, 3) := dk_180 0 22 (dk_at dksX7_copies_1 17 rfl rfl)
theorem dX7_copies_44 : decode cX7_copies 44 = .ok (.bipush 120, 2) := dk_16 120 (dk_at dksX7_copies_1 20 rfl rfl)
theorem dX7_copies_46 : decode cX7_copies 46 = .ok (.iload_n 1, 1) := dk_27 (dk_at dksX7_copies_1 22 rfl rfl)
theorem dX7_copies_47 : decode cX7_copies 47 = .ok (.imul, 1) := dk_104 (dk_at dksX7_copies_1 23 rfl rfl)
theorem dX7_copies_48 : decode cX7_copies 48 = .ok (.iload_n 3, 1) := dk_29 (dk_at dksX7_copies_2 0 rfl rfl)
theorem dX7_copies_49 : decode cX7_copies 49 = .ok (.iadd, 1) := dk_96 (dk_at dksX7_copies_2 1 rfl rfl)
theorem dX7_copies_50 : decode cX7_copies 50 = .ok (.iaload, 1) := dk_46 (dk_at dksX7_copies_2 2 rfl rfl)
theorem dX7_copies_51 : decode cX7_copies 51 = .ok (.iastore, 1) := dk_79 (dk_at dksX7_copies_2 3 rfl rfl)
theorem dX7_copies_52 : decode cX7_copies 52 = .ok (.iinc 3 1, 3) := dk_132 3 1 (dk_at dksX7_copies_2 4 rfl rfl)
theorem dX7_copies_55 : decode cX7_copies 55 = .ok (.goto (-53), 3) := dk_167 255 203 (dk_at dksX7_copies_2 7 rfl rfl)
theorem dX7_copies_58 : decode cX7_copies 58 = .ok (.aload_n 0, 1) := dk_42 (dk_at dksX7_copies_2 10 rfl rfl)
theorem dX7_copies_59 : decode cX7_copies 59 = .ok (.getfield 25, 3) := dk_180 0 25 (dk_at dksX7_copies_2 11 rfl rfl)
theorem dX7_copies_62 : decode cX7_copies 62 = .ok (.iload_n 2, 1) := dk_28 (dk_at dksX7_copies_2 14 rfl rfl)
theorem dX7_copies_63 : decode cX7_copies 63 = .ok (.aload_n 0, 1) := dk_42 (dk_at dksX7_copies_2 15 rfl rfl)
theorem dX7_copies_64 : decode cX7_copies 64 = .ok (.getfield 25, 3) := dk_180 0 25 (dk_at dksX7_copies_2 16 rfl rfl)
theorem dX7_copies_67 : decode cX7_copies 67 = .ok (.iload_n 1, 1) := dk_27 (dk_at dksX7_copies_2 19 rfl rfl)
theorem dX7_copies_68 : decode cX7_copies 68 = .ok (.iaload, 1) := dk_46 (dk_at dksX7_copies_2 20 rfl rfl)
theorem dX7_copies_69 : decode cX7_copies 69 = .ok (.iastore, 1) := dk_79 (dk_at dksX7_copies_2 21 rfl rfl)
theorem dX7_copies_70 : decode cX7_copies 70 = .ok (.return_, 1) := dk_177 (dk_at dksX7_copies_2 22 rfl rfl)
abbrev cX7_weigh : ByteArray := prog_19_method_36_code
def yX7_weigh : MethodName := ⟨RX7, "weigh", "(II)I"⟩
def dkwX7_weigh_2 : List UInt8 := [29, 172]
abbrev dktX7_weigh_2 : List UInt8 := dkwX7_weigh_2 ++ []
def dkwX7_weigh_1 : List UInt8 := [2, 172, 42, 180, 0, 16, 27, 46, 62, 42, 182, 0, 223, 42, 180, 0, 44, 27, 28, 79, 42, 182, 0, 226]
abbrev dktX7_weigh_1 : List UInt8 := dkwX7_weigh_1 ++ dktX7_weigh_2
def dkwX7_weigh_0 : List UInt8 := [42, 3, 181, 0, 72, 42, 27, 182, 0, 187, 153, 0, 14, 28, 4, 161, 0, 9, 28, 16, 9, 164, 0, 5]
abbrev dktX7_weigh_0 : List UInt8 := dkwX7_weigh_0 ++ dktX7_weigh_1
theorem dksX7_weigh_0 : cX7_weigh.data.toList.drop 0 = dktX7_weigh_0 := by decide +kernel
theorem dksX7_weigh_1 : cX7_weigh.data.toList.drop 24 = dktX7_weigh_1 := dk_seg dksX7_weigh_0 24 rfl rfl
theorem dksX7_weigh_2 : cX7_weigh.data.toList.drop 48 = dktX7_weigh_2 := dk_seg dksX7_weigh_1 24 rfl rfl
theorem dX7_weigh_0 : decode cX7_weigh 0 = .ok (.aload_n 0, 1) := dk_42 (dk_at dksX7_weigh_0 0 rfl rfl)
theorem dX7_weigh_1 : decode cX7_weigh 1 = .ok (.iconst 0, 1) := dk_3 (dk_at dksX7_weigh_0 1 rfl rfl)
theorem dX7_weigh_2 : decode cX7_weigh 2 = .ok (.putfield 72, 3) := dk_181 0 72 (dk_at dksX7_weigh_0 2 rfl rfl)
theorem dX7_weigh_5 : decode cX7_weigh 5 = .ok (.aload_n 0, 1) := dk_42 (dk_at dksX7_weigh_0 5 rfl rfl)
theorem dX7_weigh_6 : decode cX7_weigh 6 = .ok (.iload_n 1, 1) := dk_27 (dk_at dksX7_weigh_0 6 rfl rfl)
theorem dX7_weigh_7 : decode cX7_weigh 7 = .ok (.invokevirtual 187, 3) := dk_182 0 187 (dk_at dksX7_weigh_0 7 rfl rfl)
theorem dX7_weigh_10 : decode cX7_weigh 10 = .ok (.ifCond .eq 14, 3) := dk_153 0 14 (dk_at dksX7_weigh_0 10 rfl rfl)
theorem dX7_weigh_13 : decode cX7_weigh 13 = .ok (.iload_n 2, 1) := dk_28 (dk_at dksX7_weigh_0 13 rfl rfl)
theorem dX7_weigh_14 : decode cX7_weigh 14 = .ok (.iconst 1, 1) := dk_4 (dk_at dksX7_weigh_0 14 rfl rfl)
theorem dX7_weigh_15 : decode cX7_weigh 15 = .ok (.if_icmp .lt 9, 3) := dk_161 0 9 (dk_at dksX7_weigh_0 15 rfl rfl)
theorem dX7_weigh_18 : decode cX7_weigh 18 = .ok (.iload_n 2, 1) := dk_28 (dk_at dksX7_weigh_0 18 rfl rfl)
theorem dX7_weigh_19 : decode cX7_weigh 19 = .ok (.bipush 9, 2) := dk_16 9 (dk_at dksX7_weigh_0 19 rfl rfl)
theorem dX7_weigh_21 : decode cX7_weigh 21 = .ok (.if_icmp .le 5, 3) := dk_164 0 5 (dk_at dksX7_weigh_0 21 rfl rfl)
theorem dX7_weigh_24 : decode cX7_weigh 24 = .ok (.iconst (-1), 1) := dk_2 (dk_at dksX7_weigh_1 0 rfl rfl)
theorem dX7_weigh_25 : decode cX7_weigh 25 = .ok (.ireturn, 1) := dk_172 (dk_at dksX7_weigh_1 1 rfl rfl)
theorem dX7_weigh_26 : decode cX7_weigh 26 = .ok (.aload_n 0, 1) := dk_42 (dk_at dksX7_weigh_1 2 rfl rfl)
theorem dX7_weigh_27 : decode cX7_weigh 27 = .ok (.getfield 16, 3) := dk_180 0 16 (dk_at dksX7_weigh_1 3 rfl rfl)
theorem dX7_weigh_30 : decode cX7_weigh 30 = .ok (.iload_n 1, 1) := dk_27 (dk_at dksX7_weigh_1 6 rfl rfl)
theorem dX7_weigh_31 : decode cX7_weigh 31 = .ok (.iaload, 1) := dk_46 (dk_at dksX7_weigh_1 7 rfl rfl)
theorem dX7_weigh_32 : decode cX7_weigh 32 = .ok (.istore_n 3, 1) := dk_62 (dk_at dksX7_weigh_1 8 rfl rfl)
theorem dX7_weigh_33 : decode cX7_weigh 33 = .ok (.aload_n 0, 1) := dk_42 (dk_at dksX7_weigh_1 9 rfl rfl)
theorem dX7_weigh_34 : decode cX7_weigh 34 = .ok (.invokevirtual 223, 3) := dk_182 0 223 (dk_at dksX7_weigh_1 10 rfl rfl)
theorem dX7_weigh_37 : decode cX7_weigh 37 = .ok (.aload_n 0, 1) := dk_42 (dk_at dksX7_weigh_1 13 rfl rfl)
theorem dX7_weigh_38 : decode cX7_weigh 38 = .ok (.getfield 44, 3) := dk_180 0 44 (dk_at dksX7_weigh_1 14 rfl rfl)
theorem dX7_weigh_41 : decode cX7_weigh 41 = .ok (.iload_n 1, 1) := dk_27 (dk_at dksX7_weigh_1 17 rfl rfl)
theorem dX7_weigh_42 : decode cX7_weigh 42 = .ok (.iload_n 2, 1) := dk_28 (dk_at dksX7_weigh_1 18 rfl rfl)
theorem dX7_weigh_43 : decode cX7_weigh 43 = .ok (.iastore, 1) := dk_79 (dk_at dksX7_weigh_1 19 rfl rfl)
theorem dX7_weigh_44 : decode cX7_weigh 44 = .ok (.aload_n 0, 1) := dk_42 (dk_at dksX7_weigh_1 20 rfl rfl)
theorem dX7_weigh_45 : decode cX7_weigh 45 = .ok (.invokevirtual 226, 3) := dk_182 0 226 (dk_at dksX7_weigh_1 21 rfl rfl)
theorem dX7_weigh_48 : decode cX7_weigh 48 = .ok (.iload_n 3, 1) := dk_29 (dk_at dksX7_weigh_2 0 rfl rfl)
theorem dX7_weigh_49 : decode cX7_weigh 49 = .ok (.ireturn, 1) := dk_172 (dk_at dksX7_weigh_2 1 rfl rfl)
abbrev cX7_insert : ByteArray := prog_19_method_37_code
def yX7_insert : MethodName := ⟨RX7, "insert", "(II)I"⟩
def dkwX7_insert_5 : List UInt8 := [172]
abbrev dktX7_insert_5 : List UInt8 := dkwX7_insert_5 ++ []
def dkwX7_insert_4 : List UInt8 := [180, 0, 44, 27, 4, 79, 42, 89, 180, 0, 197, 4, 96, 181, 0, 197, 42, 182, 0, 226, 42, 180, 0, 175]
abbrev dktX7_insert_4 : List UInt8 := dkwX7_insert_4 ++ dktX7_insert_5
def dkwX7_insert_3 : List UInt8 := [180, 0, 44, 29, 4, 100, 46, 79, 132, 3, 255, 167, 255, 220, 42, 180, 0, 41, 27, 28, 79, 42]
abbrev dktX7_insert_3 : List UInt8 := dkwX7_insert_3 ++ dktX7_insert_4
def dkwX7_insert_2 : List UInt8 := [164, 0, 37, 42, 180, 0, 41, 29, 42, 180, 0, 41, 29, 4, 100, 46, 79, 42, 180, 0, 44, 29, 42]
abbrev dktX7_insert_2 : List UInt8 := dkwX7_insert_2 ++ dktX7_insert_3
def dkwX7_insert_1 : List UInt8 := [42, 180, 0, 175, 16, 120, 160, 0, 5, 2, 172, 42, 182, 0, 223, 42, 180, 0, 175, 62, 29, 27]
abbrev dktX7_insert_1 : List UInt8 := dkwX7_insert_1 ++ dktX7_insert_2
def dkwX7_insert_0 : List UInt8 := [42, 3, 181, 0, 72, 27, 155, 0, 27, 27, 42, 180, 0, 175, 163, 0, 19, 28, 184, 0, 220, 153, 0, 12]
abbrev dktX7_insert_0 : List UInt8 := dkwX7_insert_0 ++ dktX7_insert_1
theorem dksX7_insert_0 : cX7_insert.data.toList.drop 0 = dktX7_insert_0 := by decide +kernel
theorem dksX7_insert_1 : cX7_insert.data.toList.drop 24 = dktX7_insert_1 := dk_seg dksX7_insert_0 24 rfl rfl
theorem dksX7_insert_2 : cX7_insert.data.toList.drop 46 = dktX7_insert_2 := dk_seg dksX7_insert_1 22 rfl rfl
theorem dksX7_insert_3 : cX7_insert.data.toList.drop 69 = dktX7_insert_3 := dk_seg dksX7_insert_2 23 rfl rfl
theorem dksX7_insert_4 : cX7_insert.data.toList.drop 91 = dktX7_insert_4 := dk_seg dksX7_insert_3 22 rfl rfl
theorem dksX7_insert_5 : cX7_insert.data.toList.drop 115 = dktX7_insert_5 := dk_seg dksX7_insert_4 24 rfl rfl
theorem dX7_insert_0 : decode cX7_insert 0 = .ok (.aload_n 0, 1) := dk_42 (dk_at dksX7_insert_0 0 rfl rfl)
theorem dX7_insert_1 : decode cX7_insert 1 = .ok (.iconst 0, 1) := dk_3 (dk_at dksX7_insert_0 1 rfl rfl)
theorem dX7_insert_2 : decode cX7_insert 2 = .ok (.putfield 72, 3) := dk_181 0 72 (dk_at dksX7_insert_0 2 rfl rfl)
theorem dX7_insert_5 : decode cX7_insert 5 = .ok (.iload_n 1, 1) := dk_27 (dk_at dksX7_insert_0 5 rfl rfl)
theorem dX7_insert_6 : decode cX7_insert 6 = .ok (.ifCond .lt 27, 3) := dk_155 0 27 (dk_at dksX7_insert_0 6 rfl rfl)
theorem dX7_insert_9 : decode cX7_insert 9 = .ok (.iload_n 1, 1) := dk_27 (dk_at dksX7_insert_0 9 rfl rfl)
theorem dX7_insert_10 : decode cX7_insert 10 = .ok (.aload_n 0, 1) := dk_42 (dk_at dksX7_insert_0 10 rfl rfl)
theorem dX7_insert_11 : decode cX7_insert 11 = .ok (.getfield 175, 3) := dk_180 0 175 (dk_at dksX7_insert_0 11 rfl rfl)
theorem dX7_insert_14 : decode cX7_insert 14 = .ok (.if_icmp .gt 19, 3) := dk_163 0 19 (dk_at dksX7_insert_0 14 rfl rfl)
theorem dX7_insert_17 : decode cX7_insert 17 = .ok (.iload_n 2, 1) := dk_28 (dk_at dksX7_insert_0 17 rfl rfl)
theorem dX7_insert_18 : decode cX7_insert 18 = .ok (.invokestatic 220, 3) := dk_184 0 220 (dk_at dksX7_insert_0 18 rfl rfl)
theorem dX7_insert_21 : decode cX7_insert 21 = .ok (.ifCond .eq 12, 3) := dk_153 0 12 (dk_at dksX7_insert_0 21 rfl rfl)
theorem dX7_insert_24 : decode cX7_insert 24 = .ok (.aload_n 0, 1) := dk_42 (dk_at dksX7_insert_1 0 rfl rfl)
theorem dX7_insert_25 : decode cX7_insert 25 = .ok (.getfield 175, 3) := dk_180 0 175 (dk_at dksX7_insert_1 1 rfl rfl)
theorem dX7_insert_28 : decode cX7_insert 28 = .ok (.bipush 120, 2) := dk_16 120 (dk_at dksX7_insert_1 4 rfl rfl)
theorem dX7_insert_30 : decode cX7_insert 30 = .ok (.if_icmp .ne 5, 3) := dk_160 0 5 (dk_at dksX7_insert_1 6 rfl rfl)
theorem dX7_insert_33 : decode cX7_insert 33 = .ok (.iconst (-1), 1) := dk_2 (dk_at dksX7_insert_1 9 rfl rfl)
theorem dX7_insert_34 : decode cX7_insert 34 = .ok (.ireturn, 1) := dk_172 (dk_at dksX7_insert_1 10 rfl rfl)
theorem dX7_insert_35 : decode cX7_insert 35 = .ok (.aload_n 0, 1) := dk_42 (dk_at dksX7_insert_1 11 rfl rfl)
theorem dX7_insert_36 : decode cX7_insert 36 = .ok (.invokevirtual 223, 3) := dk_182 0 223 (dk_at dksX7_insert_1 12 rfl rfl)
theorem dX7_insert_39 : decode cX7_insert 39 = .ok (.aload_n 0, 1) := dk_42 (dk_at dksX7_insert_1 15 rfl rfl)
theorem dX7_insert_40 : decode cX7_insert 40 = .ok (.getfield 175, 3) := dk_180 0 175 (dk_at dksX7_insert_1 16 rfl rfl)
theorem dX7_insert_43 : decode cX7_insert 43 = .ok (.istore_n 3, 1) := dk_62 (dk_at dksX7_insert_1 19 rfl rfl)
theorem dX7_insert_44 : decode cX7_insert 44 = .ok (.iload_n 3, 1) := dk_29 (dk_at dksX7_insert_1 20 rfl rfl)
theorem dX7_insert_45 : decode cX7_insert 45 = .ok (.iload_n 1, 1) := dk_27 (dk_at dksX7_insert_1 21 rfl rfl)
theorem dX7_insert_46 : decode cX7_insert 46 = .ok (.if_icmp .le 37, 3) := dk_164 0 37 (dk_at dksX7_insert_2 0 rfl rfl)
theorem dX7_insert_49 : decode cX7_insert 49 = .ok (.aload_n 0, 1) := dk_42 (dk_at dksX7_insert_2 3 rfl rfl)
theorem dX7_insert_50 : decode cX7_insert 50 = .ok (.getfield 41, 3) := dk_180 0 41 (dk_at dksX7_insert_2 4 rfl rfl)
theorem dX7_insert_53 : decode cX7_insert 53 = .ok (.iload_n 3, 1) := dk_29 (dk_at dksX7_insert_2 7 rfl rfl)
theorem dX7_insert_54 : decode cX7_insert 54 = .ok (.aload_n 0, 1) := dk_42 (dk_at dksX7_insert_2 8 rfl rfl)
theorem dX7_insert_55 : decode cX7_insert 55 = .ok (.getfield 41, 3) := dk_180 0 41 (dk_at dksX7_insert_2 9 rfl rfl)
theorem dX7_insert_58 : decode cX7_insert 58 = .ok (.iload_n 3, 1) := dk_29 (dk_at dksX7_insert_2 12 rfl rfl)
theorem dX7_insert_59 : decode cX7_insert 59 = .ok (.iconst 1, 1) := dk_4 (dk_at dksX7_insert_2 13 rfl rfl)
theorem dX7_insert_60 : decode cX7_insert 60 = .ok (.isub, 1) := dk_100 (dk_at dksX7_insert_2 14 rfl rfl)
theorem dX7_insert_61 : decode cX7_insert 61 = .ok (.iaload, 1) := dk_46 (dk_at dksX7_insert_2 15 rfl rfl)
theorem dX7_insert_62 : decode cX7_insert 62 = .ok (.iastore, 1) := dk_79 (dk_at dksX7_insert_2 16 rfl rfl)
theorem dX7_insert_63 : decode cX7_insert 63 = .ok (.aload_n 0, 1) := dk_42 (dk_at dksX7_insert_2 17 rfl rfl)
theorem dX7_insert_64 : decode cX7_insert 64 = .ok (.getfield 44, 3) := dk_180 0 44 (dk_at dksX7_insert_2 18 rfl rfl)
theorem dX7_insert_67 : decode cX7_insert 67 = .ok (.iload_n 3, 1) := dk_29 (dk_at dksX7_insert_2 21 rfl rfl)
theorem dX7_insert_68 : decode cX7_insert 68 = .ok (.aload_n 0, 1) := dk_42 (dk_at dksX7_insert_2 22 rfl rfl)
theorem dX7_insert_69 : decode cX7_insert 69 = .ok (.getfield 44, 3) := dk_180 0 44 (dk_at dksX7_insert_3 0 rfl rfl)
theorem dX7_insert_72 : decode cX7_insert 72 = .ok (.iload_n 3, 1) := dk_29 (dk_at dksX7_insert_3 3 rfl rfl)
theorem dX7_insert_73 : decode cX7_insert 73 = .ok (.iconst 1, 1) := dk_4 (dk_at dksX7_insert_3 4 rfl rfl)
theorem dX7_insert_74 : decode cX7_insert 74 = .ok (.isub, 1) := dk_100 (dk_at dksX7_insert_3 5 rfl rfl)
theorem dX7_insert_75 : decode cX7_insert 75 = .ok (.iaload, 1) := dk_46 (dk_at dksX7_insert_3 6 rfl rfl)
theorem dX7_insert_76 : decode cX7_insert 76 = .ok (.iastore, 1) := dk_79 (dk_at dksX7_insert_3 7 rfl rfl)
theorem dX7_insert_77 : decode cX7_insert 77 = .ok (.iinc 3 (-1), 3) := dk_132 3 255 (dk_at dksX7_insert_3 8 rfl rfl)
theorem dX7_insert_80 : decode cX7_insert 80 = .ok (.goto (-36), 3) := dk_167 255 220 (dk_at dksX7_insert_3 11 rfl rfl)
theorem dX7_insert_83 : decode cX7_insert 83 = .ok (.aload_n 0, 1) := dk_42 (dk_at dksX7_insert_3 14 rfl rfl)
theorem dX7_insert_84 : decode cX7_insert 84 = .ok (.getfield 41, 3) := dk_180 0 41 (dk_at dksX7_insert_3 15 rfl rfl)
theorem dX7_insert_87 : decode cX7_insert 87 = .ok (.iload_n 1, 1) := dk_27 (dk_at dksX7_insert_3 18 rfl rfl)
theorem dX7_insert_88 : decode cX7_insert 88 = .ok (.iload_n 2, 1) := dk_28 (dk_at dksX7_insert_3 19 rfl rfl)
theorem dX7_insert_89 : decode cX7_insert 89 = .ok (.iastore, 1) := dk_79 (dk_at dksX7_insert_3 20 rfl rfl)
theorem dX7_insert_90 : decode cX7_insert 90 = .ok (.aload_n 0, 1) := dk_42 (dk_at dksX7_insert_3 21 rfl rfl)
theorem dX7_insert_91 : decode cX7_insert 91 = .ok (.getfield 44, 3) := dk_180 0 44 (dk_at dksX7_insert_4 0 rfl rfl)
theorem dX7_insert_94 : decode cX7_insert 94 = .ok (.iload_n 1, 1) := dk_27 (dk_at dksX7_insert_4 3 rfl rfl)
theorem dX7_insert_95 : decode cX7_insert 95 = .ok (.iconst 1, 1) := dk_4 (dk_at dksX7_insert_4 4 rfl rfl)
theorem dX7_insert_96 : decode cX7_insert 96 = .ok (.iastore, 1) := dk_79 (dk_at dksX7_insert_4 5 rfl rfl)
theorem dX7_insert_97 : decode cX7_insert 97 = .ok (.aload_n 0, 1) := dk_42 (dk_at dksX7_insert_4 6 rfl rfl)
theorem dX7_insert_98 : decode cX7_insert 98 = .ok (.dup, 1) := dk_89 (dk_at dksX7_insert_4 7 rfl rfl)
theorem dX7_insert_99 : decode cX7_insert 99 = .ok (.getfield 197, 3) := dk_180 0 197 (dk_at dksX7_insert_4 8 rfl rfl)
theorem dX7_insert_102 : decode cX7_insert 102 = .ok (.iconst 1, 1) := dk_4 (dk_at dksX7_insert_4 11 rfl rfl)
theorem dX7_insert_103 : decode cX7_insert 103 = .ok (.iadd, 1) := dk_96 (dk_at dksX7_insert_4 12 rfl rfl)
theorem dX7_insert_104 : decode cX7_insert 104 = .ok (.putfield 197, 3) := dk_181 0 197 (dk_at dksX7_insert_4 13 rfl rfl)
theorem dX7_insert_107 : decode cX7_insert 107 = .ok (.aload_n 0, 1) := dk_42 (dk_at dksX7_insert_4 16 rfl rfl)
theorem dX7_insert_108 : decode cX7_insert 108 = .ok (.invokevirtual 226, 3) := dk_182 0 226 (dk_at dksX7_insert_4 17 rfl rfl)
theorem dX7_insert_111 : decode cX7_insert 111 = .ok (.aload_n 0, 1) := dk_42 (dk_at dksX7_insert_4 20 rfl rfl)
theorem dX7_insert_112 : decode cX7_insert 112 = .ok (.getfield 175, 3) := dk_180 0 175 (dk_at dksX7_insert_4 21 rfl rfl)
theorem dX7_insert_115 : decode cX7_insert 115 = .ok (.ireturn, 1) := dk_172 (dk_at dksX7_insert_5 0 rfl rfl)
abbrev cX7_remove : ByteArray := prog_19_method_38_code
def yX7_remove : MethodName := ⟨RX7, "remove", "(I)I"⟩
def dkwX7_remove_3 : List UInt8 := [167, 255, 215, 42, 89, 180, 0, 197, 4, 100, 181, 0, 197, 42, 182, 0, 226, 28, 172]
abbrev dktX7_remove_3 : List UInt8 := dkwX7_remove_3 ++ []
def dkwX7_remove_2 : List UInt8 := [29, 4, 96, 46, 79, 42, 180, 0, 44, 29, 42, 180, 0, 44, 29, 4, 96, 46, 79, 132, 3, 1]
abbrev dktX7_remove_2 : List UInt8 := dkwX7_remove_2 ++ dktX7_remove_3
def dkwX7_remove_1 : List UInt8 := [182, 0, 223, 27, 62, 29, 4, 96, 42, 180, 0, 175, 162, 0, 37, 42, 180, 0, 41, 29, 42, 180, 0, 41]
abbrev dktX7_remove_1 : List UInt8 := dkwX7_remove_1 ++ dktX7_remove_2
def dkwX7_remove_0 : List UInt8 := [42, 3, 181, 0, 72, 42, 27, 182, 0, 187, 154, 0, 5, 2, 172, 42, 180, 0, 13, 27, 46, 61, 42]
abbrev dktX7_remove_0 : List UInt8 := dkwX7_remove_0 ++ dktX7_remove_1
theorem dksX7_remove_0 : cX7_remove.data.toList.drop 0 = dktX7_remove_0 := by decide +kernel
theorem dksX7_remove_1 : cX7_remove.data.toList.drop 23 = dktX7_remove_1 := dk_seg dksX7_remove_0 23 rfl rfl
theorem dksX7_remove_2 : cX7_remove.data.toList.drop 47 = dktX7_remove_2 := dk_seg dksX7_remove_1 24 rfl rfl
theorem dksX7_remove_3 : cX7_remove.data.toList.drop 69 = dktX7_remove_3 := dk_seg dksX7_remove_2 22 rfl rfl
theorem dX7_remove_0 : decode cX7_remove 0 = .ok (.aload_n 0, 1) := dk_42 (dk_at dksX7_remove_0 0 rfl rfl)
theorem dX7_remove_1 : decode cX7_remove 1 = .ok (.iconst 0, 1) := dk_3 (dk_at dksX7_remove_0 1 rfl rfl)
theorem dX7_remove_2 : decode cX7_remove 2 = .ok (.putfield 72, 3) := dk_181 0 72 (dk_at dksX7_remove_0 2 rfl rfl)
theorem dX7_remove_5 : decode cX7_remove 5 = .ok (.aload_n 0, 1) := dk_42 (dk_at dksX7_remove_0 5 rfl rfl)
theorem dX7_remove_6 : decode cX7_remove 6 = .ok (.iload_n 1, 1) := dk_27 (dk_at dksX7_remove_0 6 rfl rfl)
theorem dX7_remove_7 : decode cX7_remove 7 = .ok (.invokevirtual 187, 3) := dk_182 0 187 (dk_at dksX7_remove_0 7 rfl rfl)
theorem dX7_remove_10 : decode cX7_remove 10 = .ok (.ifCond .ne 5, 3) := dk_154 0 5 (dk_at dksX7_remove_0 10 rfl rfl)
theorem dX7_remove_13 : decode cX7_remove 13 = .ok (.iconst (-1), 1) := dk_2 (dk_at dksX7_remove_0 13 rfl rfl)
theorem dX7_remove_14 : decode cX7_remove 14 = .ok (.ireturn, 1) := dk_172 (dk_at dksX7_remove_0 14 rfl rfl)
theorem dX7_remove_15 : decode cX7_remove 15 = .ok (.aload_n 0, 1) := dk_42 (dk_at dksX7_remove_0 15 rfl rfl)
theorem dX7_remove_16 : decode cX7_remove 16 = .ok (.getfield 13, 3) := dk_180 0 13 (dk_at dksX7_remove_0 16 rfl rfl)
theorem dX7_remove_19 : decode cX7_remove 19 = .ok (.iload_n 1, 1) := dk_27 (dk_at dksX7_remove_0 19 rfl rfl)
theorem dX7_remove_20 : decode cX7_remove 20 = .ok (.iaload, 1) := dk_46 (dk_at dksX7_remove_0 20 rfl rfl)
theorem dX7_remove_21 : decode cX7_remove 21 = .ok (.istore_n 2, 1) := dk_61 (dk_at dksX7_remove_0 21 rfl rfl)
theorem dX7_remove_22 : decode cX7_remove 22 = .ok (.aload_n 0, 1) := dk_42 (dk_at dksX7_remove_0 22 rfl rfl)
theorem dX7_remove_23 : decode cX7_remove 23 = .ok (.invokevirtual 223, 3) := dk_182 0 223 (dk_at dksX7_remove_1 0 rfl rfl)
theorem dX7_remove_26 : decode cX7_remove 26 = .ok (.iload_n 1, 1) := dk_27 (dk_at dksX7_remove_1 3 rfl rfl)
theorem dX7_remove_27 : decode cX7_remove 27 = .ok (.istore_n 3, 1) := dk_62 (dk_at dksX7_remove_1 4 rfl rfl)
theorem dX7_remove_28 : decode cX7_remove 28 = .ok (.iload_n 3, 1) := dk_29 (dk_at dksX7_remove_1 5 rfl rfl)
theorem dX7_remove_29 : decode cX7_remove 29 = .ok (.iconst 1, 1) := dk_4 (dk_at dksX7_remove_1 6 rfl rfl)
theorem dX7_remove_30 : decode cX7_remove 30 = .ok (.iadd, 1) := dk_96 (dk_at dksX7_remove_1 7 rfl rfl)
theorem dX7_remove_31 : decode cX7_remove 31 = .ok (.aload_n 0, 1) := dk_42 (dk_at dksX7_remove_1 8 rfl rfl)
theorem dX7_remove_32 : decode cX7_remove 32 = .ok (.getfield 175, 3) := dk_180 0 175 (dk_at dksX7_remove_1 9 rfl rfl)
theorem dX7_remove_35 : decode cX7_remove 35 = .ok (.if_icmp .ge 37, 3) := dk_162 0 37 (dk_at dksX7_remove_1 12 rfl rfl)
theorem dX7_remove_38 : decode cX7_remove 38 = .ok (.aload_n 0, 1) := dk_42 (dk_at dksX7_remove_1 15 rfl rfl)
theorem dX7_remove_39 : decode cX7_remove 39 = .ok (.getfield 41, 3) := dk_180 0 41 (dk_at dksX7_remove_1 16 rfl rfl)
theorem dX7_remove_42 : decode cX7_remove 42 = .ok (.iload_n 3, 1) := dk_29 (dk_at dksX7_remove_1 19 rfl rfl)
theorem dX7_remove_43 : decode cX7_remove 43 = .ok (.aload_n 0, 1) := dk_42 (dk_at dksX7_remove_1 20 rfl rfl)
theorem dX7_remove_44 : decode cX7_remove 44 = .ok (.getfield 41, 3) := dk_180 0 41 (dk_at dksX7_remove_1 21 rfl rfl)
theorem dX7_remove_47 : decode cX7_remove 47 = .ok (.iload_n 3, 1) := dk_29 (dk_at dksX7_remove_2 0 rfl rfl)
theorem dX7_remove_48 : decode cX7_remove 48 = .ok (.iconst 1, 1) := dk_4 (dk_at dksX7_remove_2 1 rfl rfl)
theorem dX7_remove_49 : decode cX7_remove 49 = .ok (.iadd, 1) := dk_96 (dk_at dksX7_remove_2 2 rfl rfl)
theorem dX7_remove_50 : decode cX7_remove 50 = .ok (.iaload, 1) := dk_46 (dk_at dksX7_remove_2 3 rfl rfl)
theorem dX7_remove_51 : decode cX7_remove 51 = .ok (.iastore, 1) := dk_79 (dk_at dksX7_remove_2 4 rfl rfl)
theorem dX7_remove_52 : decode cX7_remove 52 = .ok (.aload_n 0, 1) := dk_42 (dk_at dksX7_remove_2 5 rfl rfl)
theorem dX7_remove_53 : decode cX7_remove 53 = .ok (.getfield 44, 3) := dk_180 0 44 (dk_at dksX7_remove_2 6 rfl rfl)
theorem dX7_remove_56 : decode cX7_remove 56 = .ok (.iload_n 3, 1) := dk_29 (dk_at dksX7_remove_2 9 rfl rfl)
theorem dX7_remove_57 : decode cX7_remove 57 = .ok (.aload_n 0, 1) := dk_42 (dk_at dksX7_remove_2 10 rfl rfl)
theorem dX7_remove_58 : decode cX7_remove 58 = .ok (.getfield 44, 3) := dk_180 0 44 (dk_at dksX7_remove_2 11 rfl rfl)
theorem dX7_remove_61 : decode cX7_remove 61 = .ok (.iload_n 3, 1) := dk_29 (dk_at dksX7_remove_2 14 rfl rfl)
theorem dX7_remove_62 : decode cX7_remove 62 = .ok (.iconst 1, 1) := dk_4 (dk_at dksX7_remove_2 15 rfl rfl)
theorem dX7_remove_63 : decode cX7_remove 63 = .ok (.iadd, 1) := dk_96 (dk_at dksX7_remove_2 16 rfl rfl)
theorem dX7_remove_64 : decode cX7_remove 64 = .ok (.iaload, 1) := dk_46 (dk_at dksX7_remove_2 17 rfl rfl)
theorem dX7_remove_65 : decode cX7_remove 65 = .ok (.iastore, 1) := dk_79 (dk_at dksX7_remove_2 18 rfl rfl)
theorem dX7_remove_66 : decode cX7_remove 66 = .ok (.iinc 3 1, 3) := dk_132 3 1 (dk_at dksX7_remove_2 19 rfl rfl)
theorem dX7_remove_69 : decode cX7_remove 69 = .ok (.goto (-41), 3) := dk_167 255 215 (dk_at dksX7_remove_3 0 rfl rfl)
theorem dX7_remove_72 : decode cX7_remove 72 = .ok (.aload_n 0, 1) := dk_42 (dk_at dksX7_remove_3 3 rfl rfl)
theorem dX7_remove_73 : decode cX7_remove 73 = .ok (.dup, 1) := dk_89 (dk_at dksX7_remove_3 4 rfl rfl)
theorem dX7_remove_74 : decode cX7_remove 74 = .ok (.getfield 197, 3) := dk_180 0 197 (dk_at dksX7_remove_3 5 rfl rfl)
theorem dX7_remove_77 : decode cX7_remove 77 = .ok (.iconst 1, 1) := dk_4 (dk_at dksX7_remove_3 8 rfl rfl)
theorem dX7_remove_78 : decode cX7_remove 78 = .ok (.isub, 1) := dk_100 (dk_at dksX7_remove_3 9 rfl rfl)
theorem dX7_remove_79 : decode cX7_remove 79 = .ok (.putfield 197, 3) := dk_181 0 197 (dk_at dksX7_remove_3 10 rfl rfl)
theorem dX7_remove_82 : decode cX7_remove 82 = .ok (.aload_n 0, 1) := dk_42 (dk_at dksX7_remove_3 13 rfl rfl)
theorem dX7_remove_83 : decode cX7_remove 83 = .ok (.invokevirtual 226, 3) := dk_182 0 226 (dk_at dksX7_remove_3 14 rfl rfl)
theorem dX7_remove_86 : decode cX7_remove 86 = .ok (.iload_n 2, 1) := dk_28 (dk_at dksX7_remove_3 17 rfl rfl)
theorem dX7_remove_87 : decode cX7_remove 87 = .ok (.ireturn, 1) := dk_172 (dk_at dksX7_remove_3 18 rfl rfl)
abbrev cX7_fill : ByteArray := prog_19_method_40_code
def yX7_fill : MethodName := ⟨RX7, "fill", "(III)I"⟩
def dkwX7_fill_2 : List UInt8 := [167, 255, 239, 42, 182, 0, 236, 172]
abbrev dktX7_fill_2 : List UInt8 := dkwX7_fill_2 ++ []
def dkwX7_fill_1 : List UInt8 := [182, 0, 223, 27, 54, 4, 21, 4, 28, 163, 0, 17, 42, 180, 0, 41, 21, 4, 29, 79, 132, 4, 1]
abbrev dktX7_fill_1 : List UInt8 := dkwX7_fill_1 ++ dktX7_fill_2
def dkwX7_fill_0 : List UInt8 := [42, 3, 181, 0, 72, 42, 27, 28, 182, 0, 232, 153, 0, 10, 29, 184, 0, 220, 154, 0, 5, 2, 172, 42]
abbrev dktX7_fill_0 : List UInt8 := dkwX7_fill_0 ++ dktX7_fill_1
theorem dksX7_fill_0 : cX7_fill.data.toList.drop 0 = dktX7_fill_0 := by decide +kernel
theorem dksX7_fill_1 : cX7_fill.data.toList.drop 24 = dktX7_fill_1 := dk_seg dksX7_fill_0 24 rfl rfl
theorem dksX7_fill_2 : cX7_fill.data.toList.drop 47 = dktX7_fill_2 := dk_seg dksX7_fill_1 23 rfl rfl
theorem dX7_fill_0 : decode cX7_fill 0 = .ok (.aload_n 0, 1) := dk_42 (dk_at dksX7_fill_0 0 rfl rfl)
theorem dX7_fill_1 : decode cX7_fill 1 = .ok (.iconst 0, 1) := dk_3 (dk_at dksX7_fill_0 1 rfl rfl)
theorem dX7_fill_2 : decode cX7_fill 2 = .ok (.putfield 72, 3) := dk_181 0 72 (dk_at dksX7_fill_0 2 rfl rfl)
theorem dX7_fill_5 : decode cX7_fill 5 = .ok (.aload_n 0, 1) := dk_42 (dk_at dksX7_fill_0 5 rfl rfl)
theorem dX7_fill_6 : decode cX7_fill 6 = .ok (.iload_n 1, 1) := dk_27 (dk_at dksX7_fill_0 6 rfl rfl)
theorem dX7_fill_7 : decode cX7_fill 7 = .ok (.iload_n 2, 1) := dk_28 (dk_at dksX7_fill_0 7 rfl rfl)
theorem dX7_fill_8 : decode cX7_fill 8 = .ok (.invokevirtual 232, 3) := dk_182 0 232 (dk_at dksX7_fill_0 8 rfl rfl)
theorem dX7_fill_11 : decode cX7_fill 11 = .ok (.ifCond .eq 10, 3) := dk_153 0 10 (dk_at dksX7_fill_0 11 rfl rfl)
theorem dX7_fill_14 : decode cX7_fill 14 = .ok (.iload_n 3, 1) := dk_29 (dk_at dksX7_fill_0 14 rfl rfl)
theorem dX7_fill_15 : decode cX7_fill 15 = .ok (.invokestatic 220, 3) := dk_184 0 220 (dk_at dksX7_fill_0 15 rfl rfl)
theorem dX7_fill_18 : decode cX7_fill 18 = .ok (.ifCond .ne 5, 3) := dk_154 0 5 (dk_at dksX7_fill_0 18 rfl rfl)
theorem dX7_fill_21 : decode cX7_fill 21 = .ok (.iconst (-1), 1) := dk_2 (dk_at dksX7_fill_0 21 rfl rfl)
theorem dX7_fill_22 : decode cX7_fill 22 = .ok (.ireturn, 1) := dk_172 (dk_at dksX7_fill_0 22 rfl rfl)
theorem dX7_fill_23 : decode cX7_fill 23 = .ok (.aload_n 0, 1) := dk_42 (dk_at dksX7_fill_0 23 rfl rfl)
theorem dX7_fill_24 : decode cX7_fill 24 = .ok (.invokevirtual 223, 3) := dk_182 0 223 (dk_at dksX7_fill_1 0 rfl rfl)
theorem dX7_fill_27 : decode cX7_fill 27 = .ok (.iload_n 1, 1) := dk_27 (dk_at dksX7_fill_1 3 rfl rfl)
theorem dX7_fill_28 : decode cX7_fill 28 = .ok (.istore 4, 2) := dk_54 4 (dk_at dksX7_fill_1 4 rfl rfl)
theorem dX7_fill_30 : decode cX7_fill 30 = .ok (.iload 4, 2) := dk_21 4 (dk_at dksX7_fill_1 6 rfl rfl)
theorem dX7_fill_32 : decode cX7_fill 32 = .ok (.iload_n 2, 1) := dk_28 (dk_at dksX7_fill_1 8 rfl rfl)
theorem dX7_fill_33 : decode cX7_fill 33 = .ok (.if_icmp .gt 17, 3) := dk_163 0 17 (dk_at dksX7_fill_1 9 rfl rfl)
theorem dX7_fill_36 : decode cX7_fill 36 = .ok (.aload_n 0, 1) := dk_42 (dk_at dksX7_fill_1 12 rfl rfl)
theorem dX7_fill_37 : decode cX7_fill 37 = .ok (.getfield 41, 3) := dk_180 0 41 (dk_at dksX7_fill_1 13 rfl rfl)
theorem dX7_fill_40 : decode cX7_fill 40 = .ok (.iload 4, 2) := dk_21 4 (dk_at dksX7_fill_1 16 rfl rfl)
theorem dX7_fill_42 : decode cX7_fill 42 = .ok (.iload_n 3, 1) := dk_29 (dk_at dksX7_fill_1 18 rfl rfl)
theorem dX7_fill_43 : decode cX7_fill 43 = .ok (.iastore, 1) := dk_79 (dk_at dksX7_fill_1 19 rfl rfl)
theorem dX7_fill_44 : decode cX7_fill 44 = .ok (.iinc 4 1, 3) := dk_132 4 1 (dk_at dksX7_fill_1 20 rfl rfl)
theorem dX7_fill_47 : decode cX7_fill 47 = .ok (.goto (-17), 3) := dk_167 255 239 (dk_at dksX7_fill_2 0 rfl rfl)
theorem dX7_fill_50 : decode cX7_fill 50 = .ok (.aload_n 0, 1) := dk_42 (dk_at dksX7_fill_2 3 rfl rfl)
theorem dX7_fill_51 : decode cX7_fill 51 = .ok (.invokevirtual 236, 3) := dk_182 0 236 (dk_at dksX7_fill_2 4 rfl rfl)
theorem dX7_fill_54 : decode cX7_fill 54 = .ok (.ireturn, 1) := dk_172 (dk_at dksX7_fill_2 7 rfl rfl)
abbrev cX7_isSpan : ByteArray := prog_19_method_20_code
def yX7_isSpan : MethodName := ⟨RX7, "isSpan", "(II)Z"⟩
def dkwX7_isSpan_0 : List UInt8 := [27, 155, 0, 20, 27, 28, 163, 0, 15, 28, 42, 180, 0, 175, 162, 0, 7, 4, 167, 0, 4, 3, 172]
abbrev dktX7_isSpan_0 : List UInt8 := dkwX7_isSpan_0 ++ []
theorem dksX7_isSpan_0 : cX7_isSpan.data.toList.drop 0 = dktX7_isSpan_0 := by decide +kernel
theorem dX7_isSpan_0 : decode cX7_isSpan 0 = .ok (.iload_n 1, 1) := dk_27 (dk_at dksX7_isSpan_0 0 rfl rfl)
theorem dX7_isSpan_1 : decode cX7_isSpan 1 = .ok (.ifCond .lt 20, 3) := dk_155 0 20 (dk_at dksX7_isSpan_0 1 rfl rfl)
theorem dX7_isSpan_4 : decode cX7_isSpan 4 = .ok (.iload_n 1, 1) := dk_27 (dk_at dksX7_isSpan_0 4 rfl rfl)
theorem dX7_isSpan_5 : decode cX7_isSpan 5 = .ok (.iload_n 2, 1) := dk_28 (dk_at dksX7_isSpan_0 5 rfl rfl)
theorem dX7_isSpan_6 : decode cX7_isSpan 6 = .ok (.if_icmp .gt 15, 3) := dk_163 0 15 (dk_at dksX7_isSpan_0 6 rfl rfl)
theorem dX7_isSpan_9 : decode cX7_isSpan 9 = .ok (.iload_n 2, 1) := dk_28 (dk_at dksX7_isSpan_0 9 rfl rfl)
theorem dX7_isSpan_10 : decode cX7_isSpan 10 = .ok (.aload_n 0, 1) := dk_42 (dk_at dksX7_isSpan_0 10 rfl rfl)
theorem dX7_isSpan_11 : decode cX7_isSpan 11 = .ok (.getfield 175, 3) := dk_180 0 175 (dk_at dksX7_isSpan_0 11 rfl rfl)
theorem dX7_isSpan_14 : decode cX7_isSpan 14 = .ok (.if_icmp .ge 7, 3) := dk_162 0 7 (dk_at dksX7_isSpan_0 14 rfl rfl)
theorem dX7_isSpan_17 : decode cX7_isSpan 17 = .ok (.iconst 1, 1) := dk_4 (dk_at dksX7_isSpan_0 17 rfl rfl)
theorem dX7_isSpan_18 : decode cX7_isSpan 18 = .ok (.goto 4, 3) := dk_167 0 4 (dk_at dksX7_isSpan_0 18 rfl rfl)
theorem dX7_isSpan_21 : decode cX7_isSpan 21 = .ok (.iconst 0, 1) := dk_3 (dk_at dksX7_isSpan_0 21 rfl rfl)
theorem dX7_isSpan_22 : decode cX7_isSpan 22 = .ok (.ireturn, 1) := dk_172 (dk_at dksX7_isSpan_0 22 rfl rfl)
abbrev cX7_done : ByteArray := prog_19_method_39_code
def yX7_done : MethodName := ⟨RX7, "done", "()I"⟩
def dkwX7_done_0 : List UInt8 := [42, 182, 0, 229, 60, 42, 182, 0, 226, 27, 172]
abbrev dktX7_done_0 : List UInt8 := dkwX7_done_0 ++ []
theorem dksX7_done_0 : cX7_done.data.toList.drop 0 = dktX7_done_0 := by decide +kernel
theorem dX7_done_0 : decode cX7_done 0 = .ok (.aload_n 0, 1) := dk_42 (dk_at dksX7_done_0 0 rfl rfl)
theorem dX7_done_1 : decode cX7_done 1 = .ok (.invokevirtual 229, 3) := dk_182 0 229 (dk_at dksX7_done_0 1 rfl rfl)
theorem dX7_done_4 : decode cX7_done 4 = .ok (.istore_n 1, 1) := dk_60 (dk_at dksX7_done_0 4 rfl rfl)
theorem dX7_done_5 : decode cX7_done 5 = .ok (.aload_n 0, 1) := dk_42 (dk_at dksX7_done_0 5 rfl rfl)
theorem dX7_done_6 : decode cX7_done 6 = .ok (.invokevirtual 226, 3) := dk_182 0 226 (dk_at dksX7_done_0 6 rfl rfl)
theorem dX7_done_9 : decode cX7_done 9 = .ok (.iload_n 1, 1) := dk_27 (dk_at dksX7_done_0 9 rfl rfl)
theorem dX7_done_10 : decode cX7_done 10 = .ok (.ireturn, 1) := dk_172 (dk_at dksX7_done_0 10 rfl rfl)
abbrev cX7_others : ByteArray := prog_19_method_26_code
def yX7_others : MethodName := ⟨RX7, "others", "()I"⟩
def dkwX7_others_1 : List UInt8 := [46, 160, 0, 7, 3, 167, 0, 4, 4, 96, 60, 132, 2, 1, 167, 255, 222, 27, 172]
abbrev dktX7_others_1 : List UInt8 := dkwX7_others_1 ++ []
def dkwX7_others_0 : List UInt8 := [3, 60, 3, 61, 28, 42, 180, 0, 175, 162, 0, 32, 27, 42, 180, 0, 41, 28, 46, 42, 180, 0, 13, 28]
abbrev dktX7_others_0 : List UInt8 := dkwX7_others_0 ++ dktX7_others_1
theorem dksX7_others_0 : cX7_others.data.toList.drop 0 = dktX7_others_0 := by decide +kernel
theorem dksX7_others_1 : cX7_others.data.toList.drop 24 = dktX7_others_1 := dk_seg dksX7_others_0 24 rfl rfl
theorem dX7_others_0 : decode cX7_others 0 = .ok (.iconst 0, 1) := dk_3 (dk_at dksX7_others_0 0 rfl rfl)
theorem dX7_others_1 : decode cX7_others 1 = .ok (.istore_n 1, 1) := dk_60 (dk_at dksX7_others_0 1 rfl rfl)
theorem dX7_others_2 : decode cX7_others 2 = .ok (.iconst 0, 1) := dk_3 (dk_at dksX7_others_0 2 rfl rfl)
theorem dX7_others_3 : decode cX7_others 3 = .ok (.istore_n 2, 1) := dk_61 (dk_at dksX7_others_0 3 rfl rfl)
theorem dX7_others_4 : decode cX7_others 4 = .ok (.iload_n 2, 1) := dk_28 (dk_at dksX7_others_0 4 rfl rfl)
theorem dX7_others_5 : decode cX7_others 5 = .ok (.aload_n 0, 1) := dk_42 (dk_at dksX7_others_0 5 rfl rfl)
theorem dX7_others_6 : decode cX7_others 6 = .ok (.getfield 175, 3) := dk_180 0 175 (dk_at dksX7_others_0 6 rfl rfl)
theorem dX7_others_9 : decode cX7_others 9 = .ok (.if_icmp .ge 32, 3) := dk_162 0 32 (dk_at dksX7_others_0 9 rfl rfl)
theorem dX7_others_12 : decode cX7_others 12 = .ok (.iload_n 1, 1) := dk_27 (dk_at dksX7_others_0 12 rfl rfl)
theorem dX7_others_13 : decode cX7_others 13 = .ok (.aload_n 0, 1) := dk_42 (dk_at dksX7_others_0 13 rfl rfl)
theorem dX7_others_14 : decode cX7_others 14 = .ok (.getfield 41, 3) := dk_180 0 41 (dk_at dksX7_others_0 14 rfl rfl)
theorem dX7_others_17 : decode cX7_others 17 = .ok (.iload_n 2, 1) := dk_28 (dk_at dksX7_others_0 17 rfl rfl)
theorem dX7_others_18 : decode cX7_others 18 = .ok (.iaload, 1) := dk_46 (dk_at dksX7_others_0 18 rfl rfl)
theorem dX7_others_19 : decode cX7_others 19 = .ok (.aload_n 0, 1) := dk_42 (dk_at dksX7_others_0 19 rfl rfl)
theorem dX7_others_20 : decode cX7_others 20 = .ok (.getfield 13, 3) := dk_180 0 13 (dk_at dksX7_others_0 20 rfl rfl)
theorem dX7_others_23 : decode cX7_others 23 = .ok (.iload_n 2, 1) := dk_28 (dk_at dksX7_others_0 23 rfl rfl)
theorem dX7_others_24 : decode cX7_others 24 = .ok (.iaload, 1) := dk_46 (dk_at dksX7_others_1 0 rfl rfl)
theorem dX7_others_25 : decode cX7_others 25 = .ok (.if_icmp .ne 7, 3) := dk_160 0 7 (dk_at dksX7_others_1 1 rfl rfl)
theorem dX7_others_28 : decode cX7_others 28 = .ok (.iconst 0, 1) := dk_3 (dk_at dksX7_others_1 4 rfl rfl)
theorem dX7_others_29 : decode cX7_others 29 = .ok (.goto 4, 3) := dk_167 0 4 (dk_at dksX7_others_1 5 rfl rfl)
theorem dX7_others_32 : decode cX7_others 32 = .ok (.iconst 1, 1) := dk_4 (dk_at dksX7_others_1 8 rfl rfl)
theorem dX7_others_33 : decode cX7_others 33 = .ok (.iadd, 1) := dk_96 (dk_at dksX7_others_1 9 rfl rfl)
theorem dX7_others_34 : decode cX7_others 34 = .ok (.istore_n 1, 1) := dk_60 (dk_at dksX7_others_1 10 rfl rfl)
theorem dX7_others_35 : decode cX7_others 35 = .ok (.iinc 2 1, 3) := dk_132 2 1 (dk_at dksX7_others_1 11 rfl rfl)
theorem dX7_others_38 : decode cX7_others 38 = .ok (.goto (-34), 3) := dk_167 255 222 (dk_at dksX7_others_1 14 rfl rfl)
theorem dX7_others_41 : decode cX7_others 41 = .ok (.iload_n 1, 1) := dk_27 (dk_at dksX7_others_1 17 rfl rfl)
theorem dX7_others_42 : decode cX7_others 42 = .ok (.ireturn, 1) := dk_172 (dk_at dksX7_others_1 18 rfl rfl)
abbrev cX7_swap : ByteArray := prog_19_method_42_code
def yX7_swap : MethodName := ⟨RX7, "swap", "(II)Z"⟩
def dkwX7_swap_2 : List UInt8 := [182, 0, 226, 4, 172]
abbrev dktX7_swap_2 : List UInt8 := dkwX7_swap_2 ++ []
def dkwX7_swap_1 : List UInt8 := [160, 0, 5, 3, 172, 42, 182, 0, 223, 42, 27, 28, 182, 0, 239, 42, 28, 27, 182, 0, 239, 42]
abbrev dktX7_swap_1 : List UInt8 := dkwX7_swap_1 ++ dktX7_swap_2
def dkwX7_swap_0 : List UInt8 := [42, 3, 181, 0, 72, 42, 27, 182, 0, 187, 153, 0, 16, 42, 28, 182, 0, 187, 153, 0, 8, 27, 28]
abbrev dktX7_swap_0 : List UInt8 := dkwX7_swap_0 ++ dktX7_swap_1
theorem dksX7_swap_0 : cX7_swap.data.toList.drop 0 = dktX7_swap_0 := by decide +kernel
theorem dksX7_swap_1 : cX7_swap.data.toList.drop 23 = dktX7_swap_1 := dk_seg dksX7_swap_0 23 rfl rfl
theorem dksX7_swap_2 : cX7_swap.data.toList.drop 45 = dktX7_swap_2 := dk_seg dksX7_swap_1 22 rfl rfl
theorem dX7_swap_0 : decode cX7_swap 0 = .ok (.aload_n 0, 1) := dk_42 (dk_at dksX7_swap_0 0 rfl rfl)
theorem dX7_swap_1 : decode cX7_swap 1 = .ok (.iconst 0, 1) := dk_3 (dk_at dksX7_swap_0 1 rfl rfl)
theorem dX7_swap_2 : decode cX7_swap 2 = .ok (.putfield 72, 3) := dk_181 0 72 (dk_at dksX7_swap_0 2 rfl rfl)
theorem dX7_swap_5 : decode cX7_swap 5 = .ok (.aload_n 0, 1) := dk_42 (dk_at dksX7_swap_0 5 rfl rfl)
theorem dX7_swap_6 : decode cX7_swap 6 = .ok (.iload_n 1, 1) := dk_27 (dk_at dksX7_swap_0 6 rfl rfl)
theorem dX7_swap_7 : decode cX7_swap 7 = .ok (.invokevirtual 187, 3) := dk_182 0 187 (dk_at dksX7_swap_0 7 rfl rfl)
theorem dX7_swap_10 : decode cX7_swap 10 = .ok (.ifCond .eq 16, 3) := dk_153 0 16 (dk_at dksX7_swap_0 10 rfl rfl)
theorem dX7_swap_13 : decode cX7_swap 13 = .ok (.aload_n 0, 1) := dk_42 (dk_at dksX7_swap_0 13 rfl rfl)
theorem dX7_swap_14 : decode cX7_swap 14 = .ok (.iload_n 2, 1) := dk_28 (dk_at dksX7_swap_0 14 rfl rfl)
theorem dX7_swap_15 : decode cX7_swap 15 = .ok (.invokevirtual 187, 3) := dk_182 0 187 (dk_at dksX7_swap_0 15 rfl rfl)
theorem dX7_swap_18 : decode cX7_swap 18 = .ok (.ifCond .eq 8, 3) := dk_153 0 8 (dk_at dksX7_swap_0 18 rfl rfl)
theorem dX7_swap_21 : decode cX7_swap 21 = .ok (.iload_n 1, 1) := dk_27 (dk_at dksX7_swap_0 21 rfl rfl)
theorem dX7_swap_22 : decode cX7_swap 22 = .ok (.iload_n 2, 1) := dk_28 (dk_at dksX7_swap_0 22 rfl rfl)
theorem dX7_swap_23 : decode cX7_swap 23 = .ok (.if_icmp .ne 5, 3) := dk_160 0 5 (dk_at dksX7_swap_1 0 rfl rfl)
theorem dX7_swap_26 : decode cX7_swap 26 = .ok (.iconst 0, 1) := dk_3 (dk_at dksX7_swap_1 3 rfl rfl)
theorem dX7_swap_27 : decode cX7_swap 27 = .ok (.ireturn, 1) := dk_172 (dk_at dksX7_swap_1 4 rfl rfl)
theorem dX7_swap_28 : decode cX7_swap 28 = .ok (.aload_n 0, 1) := dk_42 (dk_at dksX7_swap_1 5 rfl rfl)
theorem dX7_swap_29 : decode cX7_swap 29 = .ok (.invokevirtual 223, 3) := dk_182 0 223 (dk_at dksX7_swap_1 6 rfl rfl)
theorem dX7_swap_32 : decode cX7_swap 32 = .ok (.aload_n 0, 1) := dk_42 (dk_at dksX7_swap_1 9 rfl rfl)
theorem dX7_swap_33 : decode cX7_swap 33 = .ok (.iload_n 1, 1) := dk_27 (dk_at dksX7_swap_1 10 rfl rfl)
theorem dX7_swap_34 : decode cX7_swap 34 = .ok (.iload_n 2, 1) := dk_28 (dk_at dksX7_swap_1 11 rfl rfl)
theorem dX7_swap_35 : decode cX7_swap 35 = .ok (.invokevirtual 239, 3) := dk_182 0 239 (dk_at dksX7_swap_1 12 rfl rfl)
theorem dX7_swap_38 : decode cX7_swap 38 = .ok (.aload_n 0, 1) := dk_42 (dk_at dksX7_swap_1 15 rfl rfl)
theorem dX7_swap_39 : decode cX7_swap 39 = .ok (.iload_n 2, 1) := dk_28 (dk_at dksX7_swap_1 16 rfl rfl)
theorem dX7_swap_40 : decode cX7_swap 40 = .ok (.iload_n 1, 1) := dk_27 (dk_at dksX7_swap_1 17 rfl rfl)
theorem dX7_swap_41 : decode cX7_swap 41 = .ok (.invokevirtual 239, 3) := dk_182 0 239 (dk_at dksX7_swap_1 18 rfl rfl)
theorem dX7_swap_44 : decode cX7_swap 44 = .ok (.aload_n 0, 1) := dk_42 (dk_at dksX7_swap_1 21 rfl rfl)
theorem dX7_swap_45 : decode cX7_swap 45 = .ok (.invokevirtual 226, 3) := dk_182 0 226 (dk_at dksX7_swap_2 0 rfl rfl)
theorem dX7_swap_48 : decode cX7_swap 48 = .ok (.iconst 1, 1) := dk_4 (dk_at dksX7_swap_2 3 rfl rfl)
theorem dX7_swap_49 : decode cX7_swap 49 = .ok (.ireturn, 1) := dk_172 (dk_at dksX7_swap_2 4 rfl rfl)
abbrev cX7_lies : ByteArray := prog_19_method_41_code
def yX7_lies : MethodName := ⟨RX7, "lies", "(II)V"⟩
def dkwX7_lies_1 : List UInt8 := [177]
abbrev dktX7_lies_1 : List UInt8 := dkwX7_lies_1 ++ []
def dkwX7_lies_0 : List UInt8 := [42, 180, 0, 41, 28, 42, 180, 0, 13, 27, 46, 79, 42, 180, 0, 44, 28, 42, 180, 0, 16, 27, 46, 79]
abbrev dktX7_lies_0 : List UInt8 := dkwX7_lies_0 ++ dktX7_lies_1
theorem dksX7_lies_0 : cX7_lies.data.toList.drop 0 = dktX7_lies_0 := by decide +kernel
theorem dksX7_lies_1 : cX7_lies.data.toList.drop 24 = dktX7_lies_1 := dk_seg dksX7_lies_0 24 rfl rfl
theorem dX7_lies_0 : decode cX7_lies 0 = .ok (.aload_n 0, 1) := dk_42 (dk_at dksX7_lies_0 0 rfl rfl)
theorem dX7_lies_1 : decode cX7_lies 1 = .ok (.getfield 41, 3) := dk_180 0 41 (dk_at dksX7_lies_0 1 rfl rfl)
theorem dX7_lies_4 : decode cX7_lies 4 = .ok (.iload_n 2, 1) := dk_28 (dk_at dksX7_lies_0 4 rfl rfl)
theorem dX7_lies_5 : decode cX7_lies 5 = .ok (.aload_n 0, 1) := dk_42 (dk_at dksX7_lies_0 5 rfl rfl)
theorem dX7_lies_6 : decode cX7_lies 6 = .ok (.getfield 13, 3) := dk_180 0 13 (dk_at dksX7_lies_0 6 rfl rfl)
theorem dX7_lies_9 : decode cX7_lies 9 = .ok (.iload_n 1, 1) := dk_27 (dk_at dksX7_lies_0 9 rfl rfl)
theorem dX7_lies_10 : decode cX7_lies 10 = .ok (.iaload, 1) := dk_46 (dk_at dksX7_lies_0 10 rfl rfl)
theorem dX7_lies_11 : decode cX7_lies 11 = .ok (.iastore, 1) := dk_79 (dk_at dksX7_lies_0 11 rfl rfl)
theorem dX7_lies_12 : decode cX7_lies 12 = .ok (.aload_n 0, 1) := dk_42 (dk_at dksX7_lies_0 12 rfl rfl)
theorem dX7_lies_13 : decode cX7_lies 13 = .ok (.getfield 44, 3) := dk_180 0 44 (dk_at dksX7_lies_0 13 rfl rfl)
theorem dX7_lies_16 : decode cX7_lies 16 = .ok (.iload_n 2, 1) := dk_28 (dk_at dksX7_lies_0 16 rfl rfl)
theorem dX7_lies_17 : decode cX7_lies 17 = .ok (.aload_n 0, 1) := dk_42 (dk_at dksX7_lies_0 17 rfl rfl)
theorem dX7_lies_18 : decode cX7_lies 18 = .ok (.getfield 16, 3) := dk_180 0 16 (dk_at dksX7_lies_0 18 rfl rfl)
theorem dX7_lies_21 : decode cX7_lies 21 = .ok (.iload_n 1, 1) := dk_27 (dk_at dksX7_lies_0 21 rfl rfl)
theorem dX7_lies_22 : decode cX7_lies 22 = .ok (.iaload, 1) := dk_46 (dk_at dksX7_lies_0 22 rfl rfl)
theorem dX7_lies_23 : decode cX7_lies 23 = .ok (.iastore, 1) := dk_79 (dk_at dksX7_lies_0 23 rfl rfl)
theorem dX7_lies_24 : decode cX7_lies 24 = .ok (.return_, 1) := dk_177 (dk_at dksX7_lies_1 0 rfl rfl)
abbrev cX7_flip : ByteArray := prog_19_method_43_code
def yX7_flip : MethodName := ⟨RX7, "flip", "(II)I"⟩
def dkwX7_flip_1 : List UInt8 := [163, 0, 19, 42, 29, 27, 28, 96, 29, 100, 182, 0, 239, 132, 3, 1, 167, 255, 238, 42, 182, 0, 236, 172]
abbrev dktX7_flip_1 : List UInt8 := dkwX7_flip_1 ++ []
def dkwX7_flip_0 : List UInt8 := [42, 3, 181, 0, 72, 42, 27, 28, 182, 0, 232, 154, 0, 5, 2, 172, 42, 182, 0, 223, 27, 62, 29, 28]
abbrev dktX7_flip_0 : List UInt8 := dkwX7_flip_0 ++ dktX7_flip_1
theorem dksX7_flip_0 : cX7_flip.data.toList.drop 0 = dktX7_flip_0 := by decide +kernel
theorem dksX7_flip_1 : cX7_flip.data.toList.drop 24 = dktX7_flip_1 := dk_seg dksX7_flip_0 24 rfl rfl
theorem dX7_flip_0 : decode cX7_flip 0 = .ok (.aload_n 0, 1) := dk_42 (dk_at dksX7_flip_0 0 rfl rfl)
theorem dX7_flip_1 : decode cX7_flip 1 = .ok (.iconst 0, 1) := dk_3 (dk_at dksX7_flip_0 1 rfl rfl)
theorem dX7_flip_2 : decode cX7_flip 2 = .ok (.putfield 72, 3) := dk_181 0 72 (dk_at dksX7_flip_0 2 rfl rfl)
theorem dX7_flip_5 : decode cX7_flip 5 = .ok (.aload_n 0, 1) := dk_42 (dk_at dksX7_flip_0 5 rfl rfl)
theorem dX7_flip_6 : decode cX7_flip 6 = .ok (.iload_n 1, 1) := dk_27 (dk_at dksX7_flip_0 6 rfl rfl)
theorem dX7_flip_7 : decode cX7_flip 7 = .ok (.iload_n 2, 1) := dk_28 (dk_at dksX7_flip_0 7 rfl rfl)
theorem dX7_flip_8 : decode cX7_flip 8 = .ok (.invokevirtual 232, 3) := dk_182 0 232 (dk_at dksX7_flip_0 8 rfl rfl)
theorem dX7_flip_11 : decode cX7_flip 11 = .ok (.ifCond .ne 5, 3) := dk_154 0 5 (dk_at dksX7_flip_0 11 rfl rfl)
theorem dX7_flip_14 : decode cX7_flip 14 = .ok (.iconst (-1), 1) := dk_2 (dk_at dksX7_flip_0 14 rfl rfl)
theorem dX7_flip_15 : decode cX7_flip 15 = .ok (.ireturn, 1) := dk_172 (dk_at dksX7_flip_0 15 rfl rfl)
theorem dX7_flip_16 : decode cX7_flip 16 = .ok (.aload_n 0, 1) := dk_42 (dk_at dksX7_flip_0 16 rfl rfl)
theorem dX7_flip_17 : decode cX7_flip 17 = .ok (.invokevirtual 223, 3) := dk_182 0 223 (dk_at dksX7_flip_0 17 rfl rfl)
theorem dX7_flip_20 : decode cX7_flip 20 = .ok (.iload_n 1, 1) := dk_27 (dk_at dksX7_flip_0 20 rfl rfl)
theorem dX7_flip_21 : decode cX7_flip 21 = .ok (.istore_n 3, 1) := dk_62 (dk_at dksX7_flip_0 21 rfl rfl)
theorem dX7_flip_22 : decode cX7_flip 22 = .ok (.iload_n 3, 1) := dk_29 (dk_at dksX7_flip_0 22 rfl rfl)
theorem dX7_flip_23 : decode cX7_flip 23 = .ok (.iload_n 2, 1) := dk_28 (dk_at dksX7_flip_0 23 rfl rfl)
theorem dX7_flip_24 : decode cX7_flip 24 = .ok (.if_icmp .gt 19, 3) := dk_163 0 19 (dk_at dksX7_flip_1 0 rfl rfl)
theorem dX7_flip_27 : decode cX7_flip 27 = .ok (.aload_n 0, 1) := dk_42 (dk_at dksX7_flip_1 3 rfl rfl)
theorem dX7_flip_28 : decode cX7_flip 28 = .ok (.iload_n 3, 1) := dk_29 (dk_at dksX7_flip_1 4 rfl rfl)
theorem dX7_flip_29 : decode cX7_flip 29 = .ok (.iload_n 1, 1) := dk_27 (dk_at dksX7_flip_1 5 rfl rfl)
theorem dX7_flip_30 : decode cX7_flip 30 = .ok (.iload_n 2, 1) := dk_28 (dk_at dksX7_flip_1 6 rfl rfl)
theorem dX7_flip_31 : decode cX7_flip 31 = .ok (.iadd, 1) := dk_96 (dk_at dksX7_flip_1 7 rfl rfl)
theorem dX7_flip_32 : decode cX7_flip 32 = .ok (.iload_n 3, 1) := dk_29 (dk_at dksX7_flip_1 8 rfl rfl)
theorem dX7_flip_33 : decode cX7_flip 33 = .ok (.isub, 1) := dk_100 (dk_at dksX7_flip_1 9 rfl rfl)
theorem dX7_flip_34 : decode cX7_flip 34 = .ok (.invokevirtual 239, 3) := dk_182 0 239 (dk_at dksX7_flip_1 10 rfl rfl)
theorem dX7_flip_37 : decode cX7_flip 37 = .ok (.iinc 3 1, 3) := dk_132 3 1 (dk_at dksX7_flip_1 13 rfl rfl)
theorem dX7_flip_40 : decode cX7_flip 40 = .ok (.goto (-18), 3) := dk_167 255 238 (dk_at dksX7_flip_1 16 rfl rfl)
theorem dX7_flip_43 : decode cX7_flip 43 = .ok (.aload_n 0, 1) := dk_42 (dk_at dksX7_flip_1 19 rfl rfl)
theorem dX7_flip_44 : decode cX7_flip 44 = .ok (.invokevirtual 236, 3) := dk_182 0 236 (dk_at dksX7_flip_1 20 rfl rfl)
theorem dX7_flip_47 : decode cX7_flip 47 = .ok (.ireturn, 1) := dk_172 (dk_at dksX7_flip_1 23 rfl rfl)
abbrev cX7_shift : ByteArray := prog_19_method_44_code
def yX7_shift : MethodName := ⟨RX7, "shift", "(III)I"⟩
def dkwX7_shift_3 : List UInt8 := [172]
abbrev dktX7_shift_3 : List UInt8 := dkwX7_shift_3 ++ []
def dkwX7_shift_2 : List UInt8 := [27, 100, 29, 96, 28, 27, 100, 4, 96, 112, 96, 182, 0, 239, 132, 4, 1, 167, 255, 227, 42, 182, 0, 236]
abbrev dktX7_shift_2 : List UInt8 := dkwX7_shift_2 ++ dktX7_shift_3
def dkwX7_shift_1 : List UInt8 := [164, 0, 5, 2, 172, 42, 182, 0, 223, 27, 54, 4, 21, 4, 28, 163, 0, 29, 42, 21, 4, 27, 21, 4]
abbrev dktX7_shift_1 : List UInt8 := dkwX7_shift_1 ++ dktX7_shift_2
def dkwX7_shift_0 : List UInt8 := [42, 3, 181, 0, 72, 42, 27, 28, 182, 0, 232, 153, 0, 16, 29, 155, 0, 12, 29, 28, 27, 100, 4, 96]
abbrev dktX7_shift_0 : List UInt8 := dkwX7_shift_0 ++ dktX7_shift_1
theorem dksX7_shift_0 : cX7_shift.data.toList.drop 0 = dktX7_shift_0 := by decide +kernel
theorem dksX7_shift_1 : cX7_shift.data.toList.drop 24 = dktX7_shift_1 := dk_seg dksX7_shift_0 24 rfl rfl
theorem dksX7_shift_2 : cX7_shift.data.toList.drop 48 = dktX7_shift_2 := dk_seg dksX7_shift_1 24 rfl rfl
theorem dksX7_shift_3 : cX7_shift.data.toList.drop 72 = dktX7_shift_3 := dk_seg dksX7_shift_2 24 rfl rfl
theorem dX7_shift_0 : decode cX7_shift 0 = .ok (.aload_n 0, 1) := dk_42 (dk_at dksX7_shift_0 0 rfl rfl)
theorem dX7_shift_1 : decode cX7_shift 1 = .ok (.iconst 0, 1) := dk_3 (dk_at dksX7_shift_0 1 rfl rfl)
theorem dX7_shift_2 : decode cX7_shift 2 = .ok (.putfield 72, 3) := dk_181 0 72 (dk_at dksX7_shift_0 2 rfl rfl)
theorem dX7_shift_5 : decode cX7_shift 5 = .ok (.aload_n 0, 1) := dk_42 (dk_at dksX7_shift_0 5 rfl rfl)
theorem dX7_shift_6 : decode cX7_shift 6 = .ok (.iload_n 1, 1) := dk_27 (dk_at dksX7_shift_0 6 rfl rfl)
theorem dX7_shift_7 : decode cX7_shift 7 = .ok (.iload_n 2, 1) := dk_28 (dk_at dksX7_shift_0 7 rfl rfl)
theorem dX7_shift_8 : decode cX7_shift 8 = .ok (.invokevirtual 232, 3) := dk_182 0 232 (dk_at dksX7_shift_0 8 rfl rfl)
theorem dX7_shift_11 : decode cX7_shift 11 = .ok (.ifCond .eq 16, 3) := dk_153 0 16 (dk_at dksX7_shift_0 11 rfl rfl)
theorem dX7_shift_14 : decode cX7_shift 14 = .ok (.iload_n 3, 1) := dk_29 (dk_at dksX7_shift_0 14 rfl rfl)
theorem dX7_shift_15 : decode cX7_shift 15 = .ok (.ifCond .lt 12, 3) := dk_155 0 12 (dk_at dksX7_shift_0 15 rfl rfl)
theorem dX7_shift_18 : decode cX7_shift 18 = .ok (.iload_n 3, 1) := dk_29 (dk_at dksX7_shift_0 18 rfl rfl)
theorem dX7_shift_19 : decode cX7_shift 19 = .ok (.iload_n 2, 1) := dk_28 (dk_at dksX7_shift_0 19 rfl rfl)
theorem dX7_shift_20 : decode cX7_shift 20 = .ok (.iload_n 1, 1) := dk_27 (dk_at dksX7_shift_0 20 rfl rfl)
theorem dX7_shift_21 : decode cX7_shift 21 = .ok (.isub, 1) := dk_100 (dk_at dksX7_shift_0 21 rfl rfl)
theorem dX7_shift_22 : decode cX7_shift 22 = .ok (.iconst 1, 1) := dk_4 (dk_at dksX7_shift_0 22 rfl rfl)
theorem dX7_shift_23 : decode cX7_shift 23 = .ok (.iadd, 1) := dk_96 (dk_at dksX7_shift_0 23 rfl rfl)
theorem dX7_shift_24 : decode cX7_shift 24 = .ok (.if_icmp .le 5, 3) := dk_164 0 5 (dk_at dksX7_shift_1 0 rfl rfl)
theorem dX7_shift_27 : decode cX7_shift 27 = .ok (.iconst (-1), 1) := dk_2 (dk_at dksX7_shift_1 3 rfl rfl)
theorem dX7_shift_28 : decode cX7_shift 28 = .ok (.ireturn, 1) := dk_172 (dk_at dksX7_shift_1 4 rfl rfl)
theorem dX7_shift_29 : decode cX7_shift 29 = .ok (.aload_n 0, 1) := dk_42 (dk_at dksX7_shift_1 5 rfl rfl)
theorem dX7_shift_30 : decode cX7_shift 30 = .ok (.invokevirtual 223, 3) := dk_182 0 223 (dk_at dksX7_shift_1 6 rfl rfl)
theorem dX7_shift_33 : decode cX7_shift 33 = .ok (.iload_n 1, 1) := dk_27 (dk_at dksX7_shift_1 9 rfl rfl)
theorem dX7_shift_34 : decode cX7_shift 34 = .ok (.istore 4, 2) := dk_54 4 (dk_at dksX7_shift_1 10 rfl rfl)
theorem dX7_shift_36 : decode cX7_shift 36 = .ok (.iload 4, 2) := dk_21 4 (dk_at dksX7_shift_1 12 rfl rfl)
theorem dX7_shift_38 : decode cX7_shift 38 = .ok (.iload_n 2, 1) := dk_28 (dk_at dksX7_shift_1 14 rfl rfl)
theorem dX7_shift_39 : decode cX7_shift 39 = .ok (.if_icmp .gt 29, 3) := dk_163 0 29 (dk_at dksX7_shift_1 15 rfl rfl)
theorem dX7_shift_42 : decode cX7_shift 42 = .ok (.aload_n 0, 1) := dk_42 (dk_at dksX7_shift_1 18 rfl rfl)
theorem dX7_shift_43 : decode cX7_shift 43 = .ok (.iload 4, 2) := dk_21 4 (dk_at dksX7_shift_1 19 rfl rfl)
theorem dX7_shift_45 : decode cX7_shift 45 = .ok (.iload_n 1, 1) := dk_27 (dk_at dksX7_shift_1 21 rfl rfl)
theorem dX7_shift_46 : decode cX7_shift 46 = .ok (.iload 4, 2) := dk_21 4 (dk_at dksX7_shift_1 22 rfl rfl)
theorem dX7_shift_48 : decode cX7_shift 48 = .ok (.iload_n 1, 1) := dk_27 (dk_at dksX7_shift_2 0 rfl rfl)
theorem dX7_shift_49 : decode cX7_shift 49 = .ok (.isub, 1) := dk_100 (dk_at dksX7_shift_2 1 rfl rfl)
theorem dX7_shift_50 : decode cX7_shift 50 = .ok (.iload_n 3, 1) := dk_29 (dk_at dksX7_shift_2 2 rfl rfl)
theorem dX7_shift_51 : decode cX7_shift 51 = .ok (.iadd, 1) := dk_96 (dk_at dksX7_shift_2 3 rfl rfl)
theorem dX7_shift_52 : decode cX7_shift 52 = .ok (.iload_n 2, 1) := dk_28 (dk_at dksX7_shift_2 4 rfl rfl)
theorem dX7_shift_53 : decode cX7_shift 53 = .ok (.iload_n 1, 1) := dk_27 (dk_at dksX7_shift_2 5 rfl rfl)
theorem dX7_shift_54 : decode cX7_shift 54 = .ok (.isub, 1) := dk_100 (dk_at dksX7_shift_2 6 rfl rfl)
theorem dX7_shift_55 : decode cX7_shift 55 = .ok (.iconst 1, 1) := dk_4 (dk_at dksX7_shift_2 7 rfl rfl)
theorem dX7_shift_56 : decode cX7_shift 56 = .ok (.iadd, 1) := dk_96 (dk_at dksX7_shift_2 8 rfl rfl)
theorem dX7_shift_57 : decode cX7_shift 57 = .ok (.irem, 1) := dk_112 (dk_at dksX7_shift_2 9 rfl rfl)
theorem dX7_shift_58 : decode cX7_shift 58 = .ok (.iadd, 1) := dk_96 (dk_at dksX7_shift_2 10 rfl rfl)
theorem dX7_shift_59 : decode cX7_shift 59 = .ok (.invokevirtual 239, 3) := dk_182 0 239 (dk_at dksX7_shift_2 11 rfl rfl)
theorem dX7_shift_62 : decode cX7_shift 62 = .ok (.iinc 4 1, 3) := dk_132 4 1 (dk_at dksX7_shift_2 14 rfl rfl)
theorem dX7_shift_65 : decode cX7_shift 65 = .ok (.goto (-29), 3) := dk_167 255 227 (dk_at dksX7_shift_2 17 rfl rfl)
theorem dX7_shift_68 : decode cX7_shift 68 = .ok (.aload_n 0, 1) := dk_42 (dk_at dksX7_shift_2 20 rfl rfl)
theorem dX7_shift_69 : decode cX7_shift 69 = .ok (.invokevirtual 236, 3) := dk_182 0 236 (dk_at dksX7_shift_2 21 rfl rfl)
theorem dX7_shift_72 : decode cX7_shift 72 = .ok (.ireturn, 1) := dk_172 (dk_at dksX7_shift_3 0 rfl rfl)
abbrev cX7_replace : ByteArray := prog_19_method_45_code
def yX7_replace : MethodName := ⟨RX7, "replace", "(II)I"⟩
def dkwX7_replace_2 : List UInt8 := [180, 0, 41, 29, 28, 79, 132, 3, 1, 167, 255, 228, 42, 182, 0, 236, 172]
abbrev dktX7_replace_2 : List UInt8 := dkwX7_replace_2 ++ []
def dkwX7_replace_1 : List UInt8 := [182, 0, 223, 3, 62, 29, 42, 180, 0, 175, 162, 0, 26, 42, 180, 0, 13, 29, 46, 27, 160, 0, 10, 42]
abbrev dktX7_replace_1 : List UInt8 := dkwX7_replace_1 ++ dktX7_replace_2
def dkwX7_replace_0 : List UInt8 := [42, 3, 181, 0, 72, 27, 184, 0, 220, 153, 0, 10, 28, 184, 0, 220, 154, 0, 5, 2, 172, 42]
abbrev dktX7_replace_0 : List UInt8 := dkwX7_replace_0 ++ dktX7_replace_1
theorem dksX7_replace_0 : cX7_replace.data.toList.drop 0 = dktX7_replace_0 := by decide +kernel
theorem dksX7_replace_1 : cX7_replace.data.toList.drop 22 = dktX7_replace_1 := dk_seg dksX7_replace_0 22 rfl rfl
theorem dksX7_replace_2 : cX7_replace.data.toList.drop 46 = dktX7_replace_2 := dk_seg dksX7_replace_1 24 rfl rfl
theorem dX7_replace_0 : decode cX7_replace 0 = .ok (.aload_n 0, 1) := dk_42 (dk_at dksX7_replace_0 0 rfl rfl)
theorem dX7_replace_1 : decode cX7_replace 1 = .ok (.iconst 0, 1) := dk_3 (dk_at dksX7_replace_0 1 rfl rfl)
theorem dX7_replace_2 : decode cX7_replace 2 = .ok (.putfield 72, 3) := dk_181 0 72 (dk_at dksX7_replace_0 2 rfl rfl)
theorem dX7_replace_5 : decode cX7_replace 5 = .ok (.iload_n 1, 1) := dk_27 (dk_at dksX7_replace_0 5 rfl rfl)
theorem dX7_replace_6 : decode cX7_replace 6 = .ok (.invokestatic 220, 3) := dk_184 0 220 (dk_at dksX7_replace_0 6 rfl rfl)
theorem dX7_replace_9 : decode cX7_replace 9 = .ok (.ifCond .eq 10, 3) := dk_153 0 10 (dk_at dksX7_replace_0 9 rfl rfl)
theorem dX7_replace_12 : decode cX7_replace 12 = .ok (.iload_n 2, 1) := dk_28 (dk_at dksX7_replace_0 12 rfl rfl)
theorem dX7_replace_13 : decode cX7_replace 13 = .ok (.invokestatic 220, 3) := dk_184 0 220 (dk_at dksX7_replace_0 13 rfl rfl)
theorem dX7_replace_16 : decode cX7_replace 16 = .ok (.ifCond .ne 5, 3) := dk_154 0 5 (dk_at dksX7_replace_0 16 rfl rfl)
theorem dX7_replace_19 : decode cX7_replace 19 = .ok (.iconst (-1), 1) := dk_2 (dk_at dksX7_replace_0 19 rfl rfl)
theorem dX7_replace_20 : decode cX7_replace 20 = .ok (.ireturn, 1) := dk_172 (dk_at dksX7_replace_0 20 rfl rfl)
theorem dX7_replace_21 : decode cX7_replace 21 = .ok (.aload_n 0, 1) := dk_42 (dk_at dksX7_replace_0 21 rfl rfl)
theorem dX7_replace_22 : decode cX7_replace 22 = .ok (.invokevirtual 223, 3) := dk_182 0 223 (dk_at dksX7_replace_1 0 rfl rfl)
theorem dX7_replace_25 : decode cX7_replace 25 = .ok (.iconst 0, 1) := dk_3 (dk_at dksX7_replace_1 3 rfl rfl)
theorem dX7_replace_26 : decode cX7_replace 26 = .ok (.istore_n 3, 1) := dk_62 (dk_at dksX7_replace_1 4 rfl rfl)
theorem dX7_replace_27 : decode cX7_replace 27 = .ok (.iload_n 3, 1) := dk_29 (dk_at dksX7_replace_1 5 rfl rfl)
theorem dX7_replace_28 : decode cX7_replace 28 = .ok (.aload_n 0, 1) := dk_42 (dk_at dksX7_replace_1 6 rfl rfl)
theorem dX7_replace_29 : decode cX7_replace 29 = .ok (.getfield 175, 3) := dk_180 0 175 (dk_at dksX7_replace_1 7 rfl rfl)
theorem dX7_replace_32 : decode cX7_replace 32 = .ok (.if_icmp .ge 26, 3) := dk_162 0 26 (dk_at dksX7_replace_1 10 rfl rfl)
theorem dX7_replace_35 : decode cX7_replace 35 = .ok (.aload_n 0, 1) := dk_42 (dk_at dksX7_replace_1 13 rfl rfl)
theorem dX7_replace_36 : decode cX7_replace 36 = .ok (.getfield 13, 3) := dk_180 0 13 (dk_at dksX7_replace_1 14 rfl rfl)
theorem dX7_replace_39 : decode cX7_replace 39 = .ok (.iload_n 3, 1) := dk_29 (dk_at dksX7_replace_1 17 rfl rfl)
theorem dX7_replace_40 : decode cX7_replace 40 = .ok (.iaload, 1) := dk_46 (dk_at dksX7_replace_1 18 rfl rfl)
theorem dX7_replace_41 : decode cX7_replace 41 = .ok (.iload_n 1, 1) := dk_27 (dk_at dksX7_replace_1 19 rfl rfl)
theorem dX7_replace_42 : decode cX7_replace 42 = .ok (.if_icmp .ne 10, 3) := dk_160 0 10 (dk_at dksX7_replace_1 20 rfl rfl)
theorem dX7_replace_45 : decode cX7_replace 45 = .ok (.aload_n 0, 1) := dk_42 (dk_at dksX7_replace_1 23 rfl rfl)
theorem dX7_replace_46 : decode cX7_replace 46 = .ok (.getfield 41, 3) := dk_180 0 41 (dk_at dksX7_replace_2 0 rfl rfl)
theorem dX7_replace_49 : decode cX7_replace 49 = .ok (.iload_n 3, 1) := dk_29 (dk_at dksX7_replace_2 3 rfl rfl)
theorem dX7_replace_50 : decode cX7_replace 50 = .ok (.iload_n 2, 1) := dk_28 (dk_at dksX7_replace_2 4 rfl rfl)
theorem dX7_replace_51 : decode cX7_replace 51 = .ok (.iastore, 1) := dk_79 (dk_at dksX7_replace_2 5 rfl rfl)
theorem dX7_replace_52 : decode cX7_replace 52 = .ok (.iinc 3 1, 3) := dk_132 3 1 (dk_at dksX7_replace_2 6 rfl rfl)
theorem dX7_replace_55 : decode cX7_replace 55 = .ok (.goto (-28), 3) := dk_167 255 228 (dk_at dksX7_replace_2 9 rfl rfl)
theorem dX7_replace_58 : decode cX7_replace 58 = .ok (.aload_n 0, 1) := dk_42 (dk_at dksX7_replace_2 12 rfl rfl)
theorem dX7_replace_59 : decode cX7_replace 59 = .ok (.invokevirtual 236, 3) := dk_182 0 236 (dk_at dksX7_replace_2 13 rfl rfl)
theorem dX7_replace_62 : decode cX7_replace 62 = .ok (.ireturn, 1) := dk_172 (dk_at dksX7_replace_2 16 rfl rfl)
abbrev cX7_sort : ByteArray := prog_19_method_46_code
def yX7_sort : MethodName := ⟨RX7, "sort", "(IIZ)I"⟩
def dkwX7_sort_6 : List UInt8 := [27, 21, 5, 96, 182, 0, 239, 132, 4, 1, 167, 255, 127, 42, 182, 0, 236, 172]
abbrev dktX7_sort_6 : List UInt8 := dkwX7_sort_6 ++ []
def dkwX7_sort_5 : List UInt8 := [21, 6, 21, 4, 162, 0, 7, 4, 167, 0, 4, 3, 96, 54, 5, 132, 6, 1, 167, 255, 155, 42, 21, 4]
abbrev dktX7_sort_5 : List UInt8 := dkwX7_sort_5 ++ dktX7_sort_6
def dkwX7_sort_4 : List UInt8 := [21, 5, 21, 7, 154, 0, 27, 42, 180, 0, 13, 21, 6, 46, 42, 180, 0, 13, 21, 4, 46, 160, 0, 14]
abbrev dktX7_sort_4 : List UInt8 := dkwX7_sort_4 ++ dktX7_sort_5
def dkwX7_sort_3 : List UInt8 := [42, 180, 0, 13, 21, 6, 46, 42, 180, 0, 13, 21, 4, 46, 164, 0, 7, 4, 167, 0, 4, 3, 54, 7]
abbrev dktX7_sort_3 : List UInt8 := dkwX7_sort_3 ++ dktX7_sort_4
def dkwX7_sort_2 : List UInt8 := [180, 0, 13, 21, 6, 46, 42, 180, 0, 13, 21, 4, 46, 162, 0, 7, 4, 167, 0, 29, 3, 167, 0, 25]
abbrev dktX7_sort_2 : List UInt8 := dkwX7_sort_2 ++ dktX7_sort_3
def dkwX7_sort_1 : List UInt8 := [21, 4, 28, 163, 0, 129, 3, 54, 5, 27, 54, 6, 21, 6, 28, 163, 0, 101, 29, 153, 0, 28, 42]
abbrev dktX7_sort_1 : List UInt8 := dkwX7_sort_1 ++ dktX7_sort_2
def dkwX7_sort_0 : List UInt8 := [42, 3, 181, 0, 72, 42, 27, 28, 182, 0, 232, 154, 0, 5, 2, 172, 42, 182, 0, 223, 27, 54, 4]
abbrev dktX7_sort_0 : List UInt8 := dkwX7_sort_0 ++ dktX7_sort_1
theorem dksX7_sort_0 : cX7_sort.data.toList.drop 0 = dktX7_sort_0 := by decide +kernel
theorem dksX7_sort_1 : cX7_sort.data.toList.drop 23 = dktX7_sort_1 := dk_seg dksX7_sort_0 23 rfl rfl
theorem dksX7_sort_2 : cX7_sort.data.toList.drop 46 = dktX7_sort_2 := dk_seg dksX7_sort_1 23 rfl rfl
theorem dksX7_sort_3 : cX7_sort.data.toList.drop 70 = dktX7_sort_3 := dk_seg dksX7_sort_2 24 rfl rfl
theorem dksX7_sort_4 : cX7_sort.data.toList.drop 94 = dktX7_sort_4 := dk_seg dksX7_sort_3 24 rfl rfl
theorem dksX7_sort_5 : cX7_sort.data.toList.drop 118 = dktX7_sort_5 := dk_seg dksX7_sort_4 24 rfl rfl
theorem dksX7_sort_6 : cX7_sort.data.toList.drop 142 = dktX7_sort_6 := dk_seg dksX7_sort_5 24 rfl rfl
theorem dX7_sort_0 : decode cX7_sort 0 = .ok (.aload_n 0, 1) := dk_42 (dk_at dksX7_sort_0 0 rfl rfl)
theorem dX7_sort_1 : decode cX7_sort 1 = .ok (.iconst 0, 1) := dk_3 (dk_at dksX7_sort_0 1 rfl rfl)
theorem dX7_sort_2 : decode cX7_sort 2 = .ok (.putfield 72, 3) := dk_181 0 72 (dk_at dksX7_sort_0 2 rfl rfl)
theorem dX7_sort_5 : decode cX7_sort 5 = .ok (.aload_n 0, 1) := dk_42 (dk_at dksX7_sort_0 5 rfl rfl)
theorem dX7_sort_6 : decode cX7_sort 6 = .ok (.iload_n 1, 1) := dk_27 (dk_at dksX7_sort_0 6 rfl rfl)
theorem dX7_sort_7 : decode cX7_sort 7 = .ok (.iload_n 2, 1) := dk_28 (dk_at dksX7_sort_0 7 rfl rfl)
theorem dX7_sort_8 : decode cX7_sort 8 = .ok (.invokevirtual 232, 3) := dk_182 0 232 (dk_at dksX7_sort_0 8 rfl rfl)
theorem dX7_sort_11 : decode cX7_sort 11 = .ok (.ifCond .ne 5, 3) := dk_154 0 5 (dk_at dksX7_sort_0 11 rfl rfl)
theorem dX7_sort_14 : decode cX7_sort 14 = .ok (.iconst (-1), 1) := dk_2 (dk_at dksX7_sort_0 14 rfl rfl)
theorem dX7_sort_15 : decode cX7_sort 15 = .ok (.ireturn, 1) := dk_172 (dk_at dksX7_sort_0 15 rfl rfl)
theorem dX7_sort_16 : decode cX7_sort 16 = .ok (.aload_n 0, 1) := dk_42 (dk_at dksX7_sort_0 16 rfl rfl)
theorem dX7_sort_17 : decode cX7_sort 17 = .ok (.invokevirtual 223, 3) := dk_182 0 223 (dk_at dksX7_sort_0 17 rfl rfl)
theorem dX7_sort_20 : decode cX7_sort 20 = .ok (.iload_n 1, 1) := dk_27 (dk_at dksX7_sort_0 20 rfl rfl)
theorem dX7_sort_21 : decode cX7_sort 21 = .ok (.istore 4, 2) := dk_54 4 (dk_at dksX7_sort_0 21 rfl rfl)
theorem dX7_sort_23 : decode cX7_sort 23 = .ok (.iload 4, 2) := dk_21 4 (dk_at dksX7_sort_1 0 rfl rfl)
theorem dX7_sort_25 : decode cX7_sort 25 = .ok (.iload_n 2, 1) := dk_28 (dk_at dksX7_sort_1 2 rfl rfl)
theorem dX7_sort_26 : decode cX7_sort 26 = .ok (.if_icmp .gt 129, 3) := dk_163 0 129 (dk_at dksX7_sort_1 3 rfl rfl)
theorem dX7_sort_29 : decode cX7_sort 29 = .ok (.iconst 0, 1) := dk_3 (dk_at dksX7_sort_1 6 rfl rfl)
theorem dX7_sort_30 : decode cX7_sort 30 = .ok (.istore 5, 2) := dk_54 5 (dk_at dksX7_sort_1 7 rfl rfl)
theorem dX7_sort_32 : decode cX7_sort 32 = .ok (.iload_n 1, 1) := dk_27 (dk_at dksX7_sort_1 9 rfl rfl)
theorem dX7_sort_33 : decode cX7_sort 33 = .ok (.istore 6, 2) := dk_54 6 (dk_at dksX7_sort_1 10 rfl rfl)
theorem dX7_sort_35 : decode cX7_sort 35 = .ok (.iload 6, 2) := dk_21 6 (dk_at dksX7_sort_1 12 rfl rfl)
theorem dX7_sort_37 : decode cX7_sort 37 = .ok (.iload_n 2, 1) := dk_28 (dk_at dksX7_sort_1 14 rfl rfl)
theorem dX7_sort_38 : decode cX7_sort 38 = .ok (.if_icmp .gt 101, 3) := dk_163 0 101 (dk_at dksX7_sort_1 15 rfl rfl)
theorem dX7_sort_41 : decode cX7_sort 41 = .ok (.iload_n 3, 1) := dk_29 (dk_at dksX7_sort_1 18 rfl rfl)
theorem dX7_sort_42 : decode cX7_sort 42 = .ok (.ifCond .eq 28, 3) := dk_153 0 28 (dk_at dksX7_sort_1 19 rfl rfl)
theorem dX7_sort_45 : decode cX7_sort 45 = .ok (.aload_n 0, 1) := dk_42 (dk_at dksX7_sort_1 22 rfl rfl)
theorem dX7_sort_46 : decode cX7_sort 46 = .ok (.getfield 13, 3) := dk_180 0 13 (dk_at dksX7_sort_2 0 rfl rfl)
theorem dX7_sort_49 : decode cX7_sort 49 = .ok (.iload 6, 2) := dk_21 6 (dk_at dksX7_sort_2 3 rfl rfl)
theorem dX7_sort_51 : decode cX7_sort 51 = .ok (.iaload, 1) := dk_46 (dk_at dksX7_sort_2 5 rfl rfl)
theorem dX7_sort_52 : decode cX7_sort 52 = .ok (.aload_n 0, 1) := dk_42 (dk_at dksX7_sort_2 6 rfl rfl)
theorem dX7_sort_53 : decode cX7_sort 53 = .ok (.getfield 13, 3) := dk_180 0 13 (dk_at dksX7_sort_2 7 rfl rfl)
theorem dX7_sort_56 : decode cX7_sort 56 = .ok (.iload 4, 2) := dk_21 4 (dk_at dksX7_sort_2 10 rfl rfl)
theorem dX7_sort_58 : decode cX7_sort 58 = .ok (.iaload, 1) := dk_46 (dk_at dksX7_sort_2 12 rfl rfl)
theorem dX7_sort_59 : decode cX7_sort 59 = .ok (.if_icmp .ge 7, 3) := dk_162 0 7 (dk_at dksX7_sort_2 13 rfl rfl)
theorem dX7_sort_62 : decode cX7_sort 62 = .ok (.iconst 1, 1) := dk_4 (dk_at dksX7_sort_2 16 rfl rfl)
theorem dX7_sort_63 : decode cX7_sort 63 = .ok (.goto 29, 3) := dk_167 0 29 (dk_at dksX7_sort_2 17 rfl rfl)
theorem dX7_sort_66 : decode cX7_sort 66 = .ok (.iconst 0, 1) := dk_3 (dk_at dksX7_sort_2 20 rfl rfl)
theorem dX7_sort_67 : decode cX7_sort 67 = .ok (.goto 25, 3) := dk_167 0 25 (dk_at dksX7_sort_2 21 rfl rfl)
theorem dX7_sort_70 : decode cX7_sort 70 = .ok (.aload_n 0, 1) := dk_42 (dk_at dksX7_sort_3 0 rfl rfl)
theorem dX7_sort_71 : decode cX7_sort 71 = .ok (.getfield 13, 3) := dk_180 0 13 (dk_at dksX7_sort_3 1 rfl rfl)
theorem dX7_sort_74 : decode cX7_sort 74 = .ok (.iload 6, 2) := dk_21 6 (dk_at dksX7_sort_3 4 rfl rfl)
theorem dX7_sort_76 : decode cX7_sort 76 = .ok (.iaload, 1) := dk_46 (dk_at dksX7_sort_3 6 rfl rfl)
theorem dX7_sort_77 : decode cX7_sort 77 = .ok (.aload_n 0, 1) := dk_42 (dk_at dksX7_sort_3 7 rfl rfl)
theorem dX7_sort_78 : decode cX7_sort 78 = .ok (.getfield 13, 3) := dk_180 0 13 (dk_at dksX7_sort_3 8 rfl rfl)
theorem dX7_sort_81 : decode cX7_sort 81 = .ok (.iload 4, 2) := dk_21 4 (dk_at dksX7_sort_3 11 rfl rfl)
theorem dX7_sort_83 : decode cX7_sort 83 = .ok (.iaload, 1) := dk_46 (dk_at dksX7_sort_3 13 rfl rfl)
theorem dX7_sort_84 : decode cX7_sort 84 = .ok (.if_icmp .le 7, 3) := dk_164 0 7 (dk_at dksX7_sort_3 14 rfl rfl)
theorem dX7_sort_87 : decode cX7_sort 87 = .ok (.iconst 1, 1) := dk_4 (dk_at dksX7_sort_3 17 rfl rfl)
theorem dX7_sort_88 : decode cX7_sort 88 = .ok (.goto 4, 3) := dk_167 0 4 (dk_at dksX7_sort_3 18 rfl rfl)
theorem dX7_sort_91 : decode cX7_sort 91 = .ok (.iconst 0, 1) := dk_3 (dk_at dksX7_sort_3 21 rfl rfl)
theorem dX7_sort_92 : decode cX7_sort 92 = .ok (.istore 7, 2) := dk_54 7 (dk_at dksX7_sort_3 22 rfl rfl)
theorem dX7_sort_94 : decode cX7_sort 94 = .ok (.iload 5, 2) := dk_21 5 (dk_at dksX7_sort_4 0 rfl rfl)
theorem dX7_sort_96 : decode cX7_sort 96 = .ok (.iload 7, 2) := dk_21 7 (dk_at dksX7_sort_4 2 rfl rfl)
theorem dX7_sort_98 : decode cX7_sort 98 = .ok (.ifCond .ne 27, 3) := dk_154 0 27 (dk_at dksX7_sort_4 4 rfl rfl)
theorem dX7_sort_101 : decode cX7_sort 101 = .ok (.aload_n 0, 1) := dk_42 (dk_at dksX7_sort_4 7 rfl rfl)
theorem dX7_sort_102 : decode cX7_sort 102 = .ok (.getfield 13, 3) := dk_180 0 13 (dk_at dksX7_sort_4 8 rfl rfl)
theorem dX7_sort_105 : decode cX7_sort 105 = .ok (.iload 6, 2) := dk_21 6 (dk_at dksX7_sort_4 11 rfl rfl)
theorem dX7_sort_107 : decode cX7_sort 107 = .ok (.iaload, 1) := dk_46 (dk_at dksX7_sort_4 13 rfl rfl)
theorem dX7_sort_108 : decode cX7_sort 108 = .ok (.aload_n 0, 1) := dk_42 (dk_at dksX7_sort_4 14 rfl rfl)
theorem dX7_sort_109 : decode cX7_sort 109 = .ok (.getfield 13, 3) := dk_180 0 13 (dk_at dksX7_sort_4 15 rfl rfl)
theorem dX7_sort_112 : decode cX7_sort 112 = .ok (.iload 4, 2) := dk_21 4 (dk_at dksX7_sort_4 18 rfl rfl)
theorem dX7_sort_114 : decode cX7_sort 114 = .ok (.iaload, 1) := dk_46 (dk_at dksX7_sort_4 20 rfl rfl)
theorem dX7_sort_115 : decode cX7_sort 115 = .ok (.if_icmp .ne 14, 3) := dk_160 0 14 (dk_at dksX7_sort_4 21 rfl rfl)
theorem dX7_sort_118 : decode cX7_sort 118 = .ok (.iload 6, 2) := dk_21 6 (dk_at dksX7_sort_5 0 rfl rfl)
theorem dX7_sort_120 : decode cX7_sort 120 = .ok (.iload 4, 2) := dk_21 4 (dk_at dksX7_sort_5 2 rfl rfl)
theorem dX7_sort_122 : decode cX7_sort 122 = .ok (.if_icmp .ge 7, 3) := dk_162 0 7 (dk_at dksX7_sort_5 4 rfl rfl)
theorem dX7_sort_125 : decode cX7_sort 125 = .ok (.iconst 1, 1) := dk_4 (dk_at dksX7_sort_5 7 rfl rfl)
theorem dX7_sort_126 : decode cX7_sort 126 = .ok (.goto 4, 3) := dk_167 0 4 (dk_at dksX7_sort_5 8 rfl rfl)
theorem dX7_sort_129 : decode cX7_sort 129 = .ok (.iconst 0, 1) := dk_3 (dk_at dksX7_sort_5 11 rfl rfl)
theorem dX7_sort_130 : decode cX7_sort 130 = .ok (.iadd, 1) := dk_96 (dk_at dksX7_sort_5 12 rfl rfl)
theorem dX7_sort_131 : decode cX7_sort 131 = .ok (.istore 5, 2) := dk_54 5 (dk_at dksX7_sort_5 13 rfl rfl)
theorem dX7_sort_133 : decode cX7_sort 133 = .ok (.iinc 6 1, 3) := dk_132 6 1 (dk_at dksX7_sort_5 15 rfl rfl)
theorem dX7_sort_136 : decode cX7_sort 136 = .ok (.goto (-101), 3) := dk_167 255 155 (dk_at dksX7_sort_5 18 rfl rfl)
theorem dX7_sort_139 : decode cX7_sort 139 = .ok (.aload_n 0, 1) := dk_42 (dk_at dksX7_sort_5 21 rfl rfl)
theorem dX7_sort_140 : decode cX7_sort 140 = .ok (.iload 4, 2) := dk_21 4 (dk_at dksX7_sort_5 22 rfl rfl)
theorem dX7_sort_142 : decode cX7_sort 142 = .ok (.iload_n 1, 1) := dk_27 (dk_at dksX7_sort_6 0 rfl rfl)
theorem dX7_sort_143 : decode cX7_sort 143 = .ok (.iload 5, 2) := dk_21 5 (dk_at dksX7_sort_6 1 rfl rfl)
theorem dX7_sort_145 : decode cX7_sort 145 = .ok (.iadd, 1) := dk_96 (dk_at dksX7_sort_6 3 rfl rfl)
theorem dX7_sort_146 : decode cX7_sort 146 = .ok (.invokevirtual 239, 3) := dk_182 0 239 (dk_at dksX7_sort_6 4 rfl rfl)
theorem dX7_sort_149 : decode cX7_sort 149 = .ok (.iinc 4 1, 3) := dk_132 4 1 (dk_at dksX7_sort_6 7 rfl rfl)
theorem dX7_sort_152 : decode cX7_sort 152 = .ok (.goto (-129), 3) := dk_167 255 127 (dk_at dksX7_sort_6 10 rfl rfl)
theorem dX7_sort_155 : decode cX7_sort 155 = .ok (.aload_n 0, 1) := dk_42 (dk_at dksX7_sort_6 13 rfl rfl)
theorem dX7_sort_156 : decode cX7_sort 156 = .ok (.invokevirtual 236, 3) := dk_182 0 236 (dk_at dksX7_sort_6 14 rfl rfl)
theorem dX7_sort_159 : decode cX7_sort 159 = .ok (.ireturn, 1) := dk_172 (dk_at dksX7_sort_6 17 rfl rfl)
abbrev cX7_refreshed : ByteArray := prog_19_method_47_code
def yX7_refreshed : MethodName := ⟨RX7, "refreshed", "()I"⟩
def dkwX7_refreshed_0 : List UInt8 := [42, 3, 181, 0, 72, 42, 180, 0, 28, 172]
abbrev dktX7_refreshed_0 : List UInt8 := dkwX7_refreshed_0 ++ []
theorem dksX7_refreshed_0 : cX7_refreshed.data.toList.drop 0 = dktX7_refreshed_0 := by decide +kernel
theorem dX7_refreshed_0 : decode cX7_refreshed 0 = .ok (.aload_n 0, 1) := dk_42 (dk_at dksX7_refreshed_0 0 rfl rfl)
theorem dX7_refreshed_1 : decode cX7_refreshed 1 = .ok (.iconst 0, 1) := dk_3 (dk_at dksX7_refreshed_0 1 rfl rfl)
theorem dX7_refreshed_2 : decode cX7_refreshed 2 = .ok (.putfield 72, 3) := dk_181 0 72 (dk_at dksX7_refreshed_0 2 rfl rfl)
theorem dX7_refreshed_5 : decode cX7_refreshed 5 = .ok (.aload_n 0, 1) := dk_42 (dk_at dksX7_refreshed_0 5 rfl rfl)
theorem dX7_refreshed_6 : decode cX7_refreshed 6 = .ok (.getfield 28, 3) := dk_180 0 28 (dk_at dksX7_refreshed_0 6 rfl rfl)
theorem dX7_refreshed_9 : decode cX7_refreshed 9 = .ok (.ireturn, 1) := dk_172 (dk_at dksX7_refreshed_0 9 rfl rfl)
abbrev cX7_was : ByteArray := prog_19_method_48_code
def yX7_was : MethodName := ⟨RX7, "was", "(II)I"⟩
def dkwX7_was_3 : List UInt8 := [28, 96, 46, 167, 0, 5, 16, 254, 172]
abbrev dktX7_was_3 : List UInt8 := dkwX7_was_3 ++ []
def dkwX7_was_2 : List UInt8 := [180, 0, 184, 27, 100, 62, 28, 42, 180, 0, 25, 29, 46, 162, 0, 17, 42, 180, 0, 19, 16, 120, 29, 104]
abbrev dktX7_was_2 : List UInt8 := dkwX7_was_2 ++ dktX7_was_3
def dkwX7_was_1 : List UInt8 := [154, 0, 23, 28, 42, 180, 0, 175, 162, 0, 12, 42, 180, 0, 13, 28, 46, 167, 0, 5, 16, 254, 172, 42]
abbrev dktX7_was_1 : List UInt8 := dkwX7_was_1 ++ dktX7_was_2
def dkwX7_was_0 : List UInt8 := [42, 3, 181, 0, 72, 27, 155, 0, 15, 27, 42, 180, 0, 184, 163, 0, 7, 28, 156, 0, 5, 2, 172, 27]
abbrev dktX7_was_0 : List UInt8 := dkwX7_was_0 ++ dktX7_was_1
theorem dksX7_was_0 : cX7_was.data.toList.drop 0 = dktX7_was_0 := by decide +kernel
theorem dksX7_was_1 : cX7_was.data.toList.drop 24 = dktX7_was_1 := dk_seg dksX7_was_0 24 rfl rfl
theorem dksX7_was_2 : cX7_was.data.toList.drop 48 = dktX7_was_2 := dk_seg dksX7_was_1 24 rfl rfl
theorem dksX7_was_3 : cX7_was.data.toList.drop 72 = dktX7_was_3 := dk_seg dksX7_was_2 24 rfl rfl
theorem dX7_was_0 : decode cX7_was 0 = .ok (.aload_n 0, 1) := dk_42 (dk_at dksX7_was_0 0 rfl rfl)
theorem dX7_was_1 : decode cX7_was 1 = .ok (.iconst 0, 1) := dk_3 (dk_at dksX7_was_0 1 rfl rfl)
theorem dX7_was_2 : decode cX7_was 2 = .ok (.putfield 72, 3) := dk_181 0 72 (dk_at dksX7_was_0 2 rfl rfl)
theorem dX7_was_5 : decode cX7_was 5 = .ok (.iload_n 1, 1) := dk_27 (dk_at dksX7_was_0 5 rfl rfl)
theorem dX7_was_6 : decode cX7_was 6 = .ok (.ifCond .lt 15, 3) := dk_155 0 15 (dk_at dksX7_was_0 6 rfl rfl)
theorem dX7_was_9 : decode cX7_was 9 = .ok (.iload_n 1, 1) := dk_27 (dk_at dksX7_was_0 9 rfl rfl)
theorem dX7_was_10 : decode cX7_was 10 = .ok (.aload_n 0, 1) := dk_42 (dk_at dksX7_was_0 10 rfl rfl)
theorem dX7_was_11 : decode cX7_was 11 = .ok (.getfield 184, 3) := dk_180 0 184 (dk_at dksX7_was_0 11 rfl rfl)
theorem dX7_was_14 : decode cX7_was 14 = .ok (.if_icmp .gt 7, 3) := dk_163 0 7 (dk_at dksX7_was_0 14 rfl rfl)
theorem dX7_was_17 : decode cX7_was 17 = .ok (.iload_n 2, 1) := dk_28 (dk_at dksX7_was_0 17 rfl rfl)
theorem dX7_was_18 : decode cX7_was 18 = .ok (.ifCond .ge 5, 3) := dk_156 0 5 (dk_at dksX7_was_0 18 rfl rfl)
theorem dX7_was_21 : decode cX7_was 21 = .ok (.iconst (-1), 1) := dk_2 (dk_at dksX7_was_0 21 rfl rfl)
theorem dX7_was_22 : decode cX7_was 22 = .ok (.ireturn, 1) := dk_172 (dk_at dksX7_was_0 22 rfl rfl)
theorem dX7_was_23 : decode cX7_was 23 = .ok (.iload_n 1, 1) := dk_27 (dk_at dksX7_was_0 23 rfl rfl)
theorem dX7_was_24 : decode cX7_was 24 = .ok (.ifCond .ne 23, 3) := dk_154 0 23 (dk_at dksX7_was_1 0 rfl rfl)
theorem dX7_was_27 : decode cX7_was 27 = .ok (.iload_n 2, 1) := dk_28 (dk_at dksX7_was_1 3 rfl rfl)
theorem dX7_was_28 : decode cX7_was 28 = .ok (.aload_n 0, 1) := dk_42 (dk_at dksX7_was_1 4 rfl rfl)
theorem dX7_was_29 : decode cX7_was 29 = .ok (.getfield 175, 3) := dk_180 0 175 (dk_at dksX7_was_1 5 rfl rfl)
theorem dX7_was_32 : decode cX7_was 32 = .ok (.if_icmp .ge 12, 3) := dk_162 0 12 (dk_at dksX7_was_1 8 rfl rfl)
theorem dX7_was_35 : decode cX7_was 35 = .ok (.aload_n 0, 1) := dk_42 (dk_at dksX7_was_1 11 rfl rfl)
theorem dX7_was_36 : decode cX7_was 36 = .ok (.getfield 13, 3) := dk_180 0 13 (dk_at dksX7_was_1 12 rfl rfl)
theorem dX7_was_39 : decode cX7_was 39 = .ok (.iload_n 2, 1) := dk_28 (dk_at dksX7_was_1 15 rfl rfl)
theorem dX7_was_40 : decode cX7_was 40 = .ok (.iaload, 1) := dk_46 (dk_at dksX7_was_1 16 rfl rfl)
theorem dX7_was_41 : decode cX7_was 41 = .ok (.goto 5, 3) := dk_167 0 5 (dk_at dksX7_was_1 17 rfl rfl)
theorem dX7_was_44 : decode cX7_was 44 = .ok (.bipush (-2), 2) := dk_16 254 (dk_at dksX7_was_1 20 rfl rfl)
theorem dX7_was_46 : decode cX7_was 46 = .ok (.ireturn, 1) := dk_172 (dk_at dksX7_was_1 22 rfl rfl)
theorem dX7_was_47 : decode cX7_was 47 = .ok (.aload_n 0, 1) := dk_42 (dk_at dksX7_was_1 23 rfl rfl)
theorem dX7_was_48 : decode cX7_was 48 = .ok (.getfield 184, 3) := dk_180 0 184 (dk_at dksX7_was_2 0 rfl rfl)
theorem dX7_was_51 : decode cX7_was 51 = .ok (.iload_n 1, 1) := dk_27 (dk_at dksX7_was_2 3 rfl rfl)
theorem dX7_was_52 : decode cX7_was 52 = .ok (.isub, 1) := dk_100 (dk_at dksX7_was_2 4 rfl rfl)
theorem dX7_was_53 : decode cX7_was 53 = .ok (.istore_n 3, 1) := dk_62 (dk_at dksX7_was_2 5 rfl rfl)
theorem dX7_was_54 : decode cX7_was 54 = .ok (.iload_n 2, 1) := dk_28 (dk_at dksX7_was_2 6 rfl rfl)
theorem dX7_was_55 : decode cX7_was 55 = .ok (.aload_n 0, 1) := dk_42 (dk_at dksX7_was_2 7 rfl rfl)
theorem dX7_was_56 : decode cX7_was 56 = .ok (.getfield 25, 3) := dk_180 0 25 (dk_at dksX7_was_2 8 rfl rfl)
theorem dX7_was_59 : decode cX7_was 59 = .ok (.iload_n 3, 1) := dk_29 (dk_at dksX7_was_2 11 rfl rfl)
theorem dX7_was_60 : decode cX7_was 60 = .ok (.iaload, 1) := dk_46 (dk_at dksX7_was_2 12 rfl rfl)
theorem dX7_was_61 : decode cX7_was 61 = .ok (.if_icmp .ge 17, 3) := dk_162 0 17 (dk_at dksX7_was_2 13 rfl rfl)
theorem dX7_was_64 : decode cX7_was 64 = .ok (.aload_n 0, 1) := dk_42 (dk_at dksX7_was_2 16 rfl rfl)
theorem dX7_was_65 : decode cX7_was 65 = .ok (.getfield 19, 3) := dk_180 0 19 (dk_at dksX7_was_2 17 rfl rfl)
theorem dX7_was_68 : decode cX7_was 68 = .ok (.bipush 120, 2) := dk_16 120 (dk_at dksX7_was_2 20 rfl rfl)
theorem dX7_was_70 : decode cX7_was 70 = .ok (.iload_n 3, 1) := dk_29 (dk_at dksX7_was_2 22 rfl rfl)
theorem dX7_was_71 : decode cX7_was 71 = .ok (.imul, 1) := dk_104 (dk_at dksX7_was_2 23 rfl rfl)
theorem dX7_was_72 : decode cX7_was 72 = .ok (.iload_n 2, 1) := dk_28 (dk_at dksX7_was_3 0 rfl rfl)
theorem dX7_was_73 : decode cX7_was 73 = .ok (.iadd, 1) := dk_96 (dk_at dksX7_was_3 1 rfl rfl)
theorem dX7_was_74 : decode cX7_was 74 = .ok (.iaload, 1) := dk_46 (dk_at dksX7_was_3 2 rfl rfl)
theorem dX7_was_75 : decode cX7_was 75 = .ok (.goto 5, 3) := dk_167 0 5 (dk_at dksX7_was_3 3 rfl rfl)
theorem dX7_was_78 : decode cX7_was 78 = .ok (.bipush (-2), 2) := dk_16 254 (dk_at dksX7_was_3 6 rfl rfl)
theorem dX7_was_80 : decode cX7_was 80 = .ok (.ireturn, 1) := dk_172 (dk_at dksX7_was_3 8 rfl rfl)
abbrev cX7_mode : ByteArray := prog_19_method_57_code
def yX7_mode : MethodName := ⟨RX7, "mode", "(III)I"⟩
def dkwX7_mode_1 : List UInt8 := [167, 0, 14, 42, 42, 27, 28, 182, 1, 4, 29, 182, 1, 7, 172]
abbrev dktX7_mode_1 : List UInt8 := dkwX7_mode_1 ++ []
def dkwX7_mode_0 : List UInt8 := [42, 3, 181, 0, 72, 42, 27, 28, 182, 0, 232, 153, 0, 12, 29, 155, 0, 8, 29, 6, 164, 0, 7, 2]
abbrev dktX7_mode_0 : List UInt8 := dkwX7_mode_0 ++ dktX7_mode_1
theorem dksX7_mode_0 : cX7_mode.data.toList.drop 0 = dktX7_mode_0 := by decide +kernel
theorem dksX7_mode_1 : cX7_mode.data.toList.drop 24 = dktX7_mode_1 := dk_seg dksX7_mode_0 24 rfl rfl
theorem dX7_mode_0 : decode cX7_mode 0 = .ok (.aload_n 0, 1) := dk_42 (dk_at dksX7_mode_0 0 rfl rfl)
theorem dX7_mode_1 : decode cX7_mode 1 = .ok (.iconst 0, 1) := dk_3 (dk_at dksX7_mode_0 1 rfl rfl)
theorem dX7_mode_2 : decode cX7_mode 2 = .ok (.putfield 72, 3) := dk_181 0 72 (dk_at dksX7_mode_0 2 rfl rfl)
theorem dX7_mode_5 : decode cX7_mode 5 = .ok (.aload_n 0, 1) := dk_42 (dk_at dksX7_mode_0 5 rfl rfl)
theorem dX7_mode_6 : decode cX7_mode 6 = .ok (.iload_n 1, 1) := dk_27 (dk_at dksX7_mode_0 6 rfl rfl)
theorem dX7_mode_7 : decode cX7_mode 7 = .ok (.iload_n 2, 1) := dk_28 (dk_at dksX7_mode_0 7 rfl rfl)
theorem dX7_mode_8 : decode cX7_mode 8 = .ok (.invokevirtual 232, 3) := dk_182 0 232 (dk_at dksX7_mode_0 8 rfl rfl)
theorem dX7_mode_11 : decode cX7_mode 11 = .ok (.ifCond .eq 12, 3) := dk_153 0 12 (dk_at dksX7_mode_0 11 rfl rfl)
theorem dX7_mode_14 : decode cX7_mode 14 = .ok (.iload_n 3, 1) := dk_29 (dk_at dksX7_mode_0 14 rfl rfl)
theorem dX7_mode_15 : decode cX7_mode 15 = .ok (.ifCond .lt 8, 3) := dk_155 0 8 (dk_at dksX7_mode_0 15 rfl rfl)
theorem dX7_mode_18 : decode cX7_mode 18 = .ok (.iload_n 3, 1) := dk_29 (dk_at dksX7_mode_0 18 rfl rfl)
theorem dX7_mode_19 : decode cX7_mode 19 = .ok (.iconst 3, 1) := dk_6 (dk_at dksX7_mode_0 19 rfl rfl)
theorem dX7_mode_20 : decode cX7_mode 20 = .ok (.if_icmp .le 7, 3) := dk_164 0 7 (dk_at dksX7_mode_0 20 rfl rfl)
theorem dX7_mode_23 : decode cX7_mode 23 = .ok (.iconst (-1), 1) := dk_2 (dk_at dksX7_mode_0 23 rfl rfl)
theorem dX7_mode_24 : decode cX7_mode 24 = .ok (.goto 14, 3) := dk_167 0 14 (dk_at dksX7_mode_1 0 rfl rfl)
theorem dX7_mode_27 : decode cX7_mode 27 = .ok (.aload_n 0, 1) := dk_42 (dk_at dksX7_mode_1 3 rfl rfl)
theorem dX7_mode_28 : decode cX7_mode 28 = .ok (.aload_n 0, 1) := dk_42 (dk_at dksX7_mode_1 4 rfl rfl)
theorem dX7_mode_29 : decode cX7_mode 29 = .ok (.iload_n 1, 1) := dk_27 (dk_at dksX7_mode_1 5 rfl rfl)
theorem dX7_mode_30 : decode cX7_mode 30 = .ok (.iload_n 2, 1) := dk_28 (dk_at dksX7_mode_1 6 rfl rfl)
theorem dX7_mode_31 : decode cX7_mode 31 = .ok (.invokevirtual 260, 3) := dk_182 1 4 (dk_at dksX7_mode_1 7 rfl rfl)
theorem dX7_mode_34 : decode cX7_mode 34 = .ok (.iload_n 3, 1) := dk_29 (dk_at dksX7_mode_1 10 rfl rfl)
theorem dX7_mode_35 : decode cX7_mode 35 = .ok (.invokevirtual 263, 3) := dk_182 1 7 (dk_at dksX7_mode_1 11 rfl rfl)
theorem dX7_mode_38 : decode cX7_mode 38 = .ok (.ireturn, 1) := dk_172 (dk_at dksX7_mode_1 14 rfl rfl)
abbrev cX7_modeOf : ByteArray := prog_19_method_55_code
def yX7_modeOf : MethodName := ⟨RX7, "modeOf", "(II)I"⟩
def dkwX7_modeOf_0 : List UInt8 := [42, 27, 28, 2, 182, 0, 252, 42, 42, 180, 0, 178, 182, 1, 0, 172]
abbrev dktX7_modeOf_0 : List UInt8 := dkwX7_modeOf_0 ++ []
theorem dksX7_modeOf_0 : cX7_modeOf.data.toList.drop 0 = dktX7_modeOf_0 := by decide +kernel
theorem dX7_modeOf_0 : decode cX7_modeOf 0 = .ok (.aload_n 0, 1) := dk_42 (dk_at dksX7_modeOf_0 0 rfl rfl)
theorem dX7_modeOf_1 : decode cX7_modeOf 1 = .ok (.iload_n 1, 1) := dk_27 (dk_at dksX7_modeOf_0 1 rfl rfl)
theorem dX7_modeOf_2 : decode cX7_modeOf 2 = .ok (.iload_n 2, 1) := dk_28 (dk_at dksX7_modeOf_0 2 rfl rfl)
theorem dX7_modeOf_3 : decode cX7_modeOf 3 = .ok (.iconst (-1), 1) := dk_2 (dk_at dksX7_modeOf_0 3 rfl rfl)
theorem dX7_modeOf_4 : decode cX7_modeOf 4 = .ok (.invokevirtual 252, 3) := dk_182 0 252 (dk_at dksX7_modeOf_0 4 rfl rfl)
theorem dX7_modeOf_7 : decode cX7_modeOf 7 = .ok (.aload_n 0, 1) := dk_42 (dk_at dksX7_modeOf_0 7 rfl rfl)
theorem dX7_modeOf_8 : decode cX7_modeOf 8 = .ok (.aload_n 0, 1) := dk_42 (dk_at dksX7_modeOf_0 8 rfl rfl)
theorem dX7_modeOf_9 : decode cX7_modeOf 9 = .ok (.getfield 178, 3) := dk_180 0 178 (dk_at dksX7_modeOf_0 9 rfl rfl)
theorem dX7_modeOf_12 : decode cX7_modeOf 12 = .ok (.invokevirtual 256, 3) := dk_182 1 0 (dk_at dksX7_modeOf_0 12 rfl rfl)
theorem dX7_modeOf_15 : decode cX7_modeOf 15 = .ok (.ireturn, 1) := dk_172 (dk_at dksX7_modeOf_0 15 rfl rfl)
abbrev cX7_counts : ByteArray := prog_19_method_50_code
def yX7_counts : MethodName := ⟨RX7, "counts", "(III)V"⟩
def dkwX7_counts_5 : List UInt8 := [79, 132, 4, 1, 167, 255, 169, 177]
abbrev dktX7_counts_5 : List UInt8 := dkwX7_counts_5 ++ []
def dkwX7_counts_4 : List UInt8 := [4, 96, 181, 0, 242, 42, 180, 0, 53, 21, 5, 21, 4, 79, 42, 180, 0, 47, 21, 5, 92, 46, 4, 96]
abbrev dktX7_counts_4 : List UInt8 := dkwX7_counts_4 ++ dktX7_counts_5
def dkwX7_counts_3 : List UInt8 := [180, 0, 50, 21, 5, 21, 4, 79, 42, 180, 0, 56, 42, 180, 0, 242, 21, 5, 79, 42, 89, 180, 0, 242]
abbrev dktX7_counts_3 : List UInt8 := dkwX7_counts_3 ++ dktX7_counts_4
def dkwX7_counts_2 : List UInt8 := [167, 0, 72, 42, 180, 0, 13, 21, 4, 46, 54, 5, 42, 180, 0, 47, 21, 5, 46, 154, 0, 33, 42]
abbrev dktX7_counts_2 : List UInt8 := dkwX7_counts_2 ++ dktX7_counts_3
def dkwX7_counts_1 : List UInt8 := [167, 255, 237, 42, 3, 181, 0, 242, 27, 54, 4, 21, 4, 28, 163, 0, 87, 21, 4, 29, 160, 0, 6]
abbrev dktX7_counts_1 : List UInt8 := dkwX7_counts_1 ++ dktX7_counts_2
def dkwX7_counts_0 : List UInt8 := [3, 54, 4, 21, 4, 17, 3, 232, 162, 0, 17, 42, 180, 0, 47, 21, 4, 3, 79, 132, 4, 1]
abbrev dktX7_counts_0 : List UInt8 := dkwX7_counts_0 ++ dktX7_counts_1
theorem dksX7_counts_0 : cX7_counts.data.toList.drop 0 = dktX7_counts_0 := by decide +kernel
theorem dksX7_counts_1 : cX7_counts.data.toList.drop 22 = dktX7_counts_1 := dk_seg dksX7_counts_0 22 rfl rfl
theorem dksX7_counts_2 : cX7_counts.data.toList.drop 45 = dktX7_counts_2 := dk_seg dksX7_counts_1 23 rfl rfl
theorem dksX7_counts_3 : cX7_counts.data.toList.drop 68 = dktX7_counts_3 := dk_seg dksX7_counts_2 23 rfl rfl
theorem dksX7_counts_4 : cX7_counts.data.toList.drop 92 = dktX7_counts_4 := dk_seg dksX7_counts_3 24 rfl rfl
theorem dksX7_counts_5 : cX7_counts.data.toList.drop 116 = dktX7_counts_5 := dk_seg dksX7_counts_4 24 rfl rfl
theorem dX7_counts_0 : decode cX7_counts 0 = .ok (.iconst 0, 1) := dk_3 (dk_at dksX7_counts_0 0 rfl rfl)
theorem dX7_counts_1 : decode cX7_counts 1 = .ok (.istore 4, 2) := dk_54 4 (dk_at dksX7_counts_0 1 rfl rfl)
theorem dX7_counts_3 : decode cX7_counts 3 = .ok (.iload 4, 2) := dk_21 4 (dk_at dksX7_counts_0 3 rfl rfl)
theorem dX7_counts_5 : decode cX7_counts 5 = .ok (.sipush 1000, 3) := dk_17 3 232 (dk_at dksX7_counts_0 5 rfl rfl)
theorem dX7_counts_8 : decode cX7_counts 8 = .ok (.if_icmp .ge 17, 3) := dk_162 0 17 (dk_at dksX7_counts_0 8 rfl rfl)
theorem dX7_counts_11 : decode cX7_counts 11 = .ok (.aload_n 0, 1) := dk_42 (dk_at dksX7_counts_0 11 rfl rfl)
theorem dX7_counts_12 : decode cX7_counts 12 = .ok (.getfield 47, 3) := dk_180 0 47 (dk_at dksX7_counts_0 12 rfl rfl)
theorem dX7_counts_15 : decode cX7_counts 15 = .ok (.iload 4, 2) := dk_21 4 (dk_at dksX7_counts_0 15 rfl rfl)
theorem dX7_counts_17 : decode cX7_counts 17 = .ok (.iconst 0, 1) := dk_3 (dk_at dksX7_counts_0 17 rfl rfl)
theorem dX7_counts_18 : decode cX7_counts 18 = .ok (.iastore, 1) := dk_79 (dk_at dksX7_counts_0 18 rfl rfl)
theorem dX7_counts_19 : decode cX7_counts 19 = .ok (.iinc 4 1, 3) := dk_132 4 1 (dk_at dksX7_counts_0 19 rfl rfl)
theorem dX7_counts_22 : decode cX7_counts 22 = .ok (.goto (-19), 3) := dk_167 255 237 (dk_at dksX7_counts_1 0 rfl rfl)
theorem dX7_counts_25 : decode cX7_counts 25 = .ok (.aload_n 0, 1) := dk_42 (dk_at dksX7_counts_1 3 rfl rfl)
theorem dX7_counts_26 : decode cX7_counts 26 = .ok (.iconst 0, 1) := dk_3 (dk_at dksX7_counts_1 4 rfl rfl)
theorem dX7_counts_27 : decode cX7_counts 27 = .ok (.putfield 242, 3) := dk_181 0 242 (dk_at dksX7_counts_1 5 rfl rfl)
theorem dX7_counts_30 : decode cX7_counts 30 = .ok (.iload_n 1, 1) := dk_27 (dk_at dksX7_counts_1 8 rfl rfl)
theorem dX7_counts_31 : decode cX7_counts 31 = .ok (.istore 4, 2) := dk_54 4 (dk_at dksX7_counts_1 9 rfl rfl)
theorem dX7_counts_33 : decode cX7_counts 33 = .ok (.iload 4, 2) := dk_21 4 (dk_at dksX7_counts_1 11 rfl rfl)
theorem dX7_counts_35 : decode cX7_counts 35 = .ok (.iload_n 2, 1) := dk_28 (dk_at dksX7_counts_1 13 rfl rfl)
theorem dX7_counts_36 : decode cX7_counts 36 = .ok (.if_icmp .gt 87, 3) := dk_163 0 87 (dk_at dksX7_counts_1 14 rfl rfl)
theorem dX7_counts_39 : decode cX7_counts 39 = .ok (.iload 4, 2) := dk_21 4 (dk_at dksX7_counts_1 17 rfl rfl)
theorem dX7_counts_41 : decode cX7_counts 41 = .ok (.iload_n 3, 1) := dk_29 (dk_at dksX7_counts_1 19 rfl rfl)
theorem dX7_counts_42 : decode cX7_counts 42 = .ok (.if_icmp .ne 6, 3) := dk_160 0 6 (dk_at dksX7_counts_1 20 rfl rfl)
theorem dX7_counts_45 : decode cX7_counts 45 = .ok (.goto 72, 3) := dk_167 0 72 (dk_at dksX7_counts_2 0 rfl rfl)
theorem dX7_counts_48 : decode cX7_counts 48 = .ok (.aload_n 0, 1) := dk_42 (dk_at dksX7_counts_2 3 rfl rfl)
theorem dX7_counts_49 : decode cX7_counts 49 = .ok (.getfield 13, 3) := dk_180 0 13 (dk_at dksX7_counts_2 4 rfl rfl)
theorem dX7_counts_52 : decode cX7_counts 52 = .ok (.iload 4, 2) := dk_21 4 (dk_at dksX7_counts_2 7 rfl rfl)
theorem dX7_counts_54 : decode cX7_counts 54 = .ok (.iaload, 1) := dk_46 (dk_at dksX7_counts_2 9 rfl rfl)
theorem dX7_counts_55 : decode cX7_counts 55 = .ok (.istore 5, 2) := dk_54 5 (dk_at dksX7_counts_2 10 rfl rfl)
theorem dX7_counts_57 : decode cX7_counts 57 = .ok (.aload_n 0, 1) := dk_42 (dk_at dksX7_counts_2 12 rfl rfl)
theorem dX7_counts_58 : decode cX7_counts 58 = .ok (.getfield 47, 3) := dk_180 0 47 (dk_at dksX7_counts_2 13 rfl rfl)
theorem dX7_counts_61 : decode cX7_counts 61 = .ok (.iload 5, 2) := dk_21 5 (dk_at dksX7_counts_2 16 rfl rfl)
theorem dX7_counts_63 : decode cX7_counts 63 = .ok (.iaload, 1) := dk_46 (dk_at dksX7_counts_2 18 rfl rfl)
theorem dX7_counts_64 : decode cX7_counts 64 = .ok (.ifCond .ne 33, 3) := dk_154 0 33 (dk_at dksX7_counts_2 19 rfl rfl)
theorem dX7_counts_67 : decode cX7_counts 67 = .ok (.aload_n 0, 1) := dk_42 (dk_at dksX7_counts_2 22 rfl rfl)
theorem dX7_counts_68 : decode cX7_counts 68 = .ok (.getfield 50, 3) := dk_180 0 50 (dk_at dksX7_counts_3 0 rfl rfl)
theorem dX7_counts_71 : decode cX7_counts 71 = .ok (.iload 5, 2) := dk_21 5 (dk_at dksX7_counts_3 3 rfl rfl)
theorem dX7_counts_73 : decode cX7_counts 73 = .ok (.iload 4, 2) := dk_21 4 (dk_at dksX7_counts_3 5 rfl rfl)
theorem dX7_counts_75 : decode cX7_counts 75 = .ok (.iastore, 1) := dk_79 (dk_at dksX7_counts_3 7 rfl rfl)
theorem dX7_counts_76 : decode cX7_counts 76 = .ok (.aload_n 0, 1) := dk_42 (dk_at dksX7_counts_3 8 rfl rfl)
theorem dX7_counts_77 : decode cX7_counts 77 = .ok (.getfield 56, 3) := dk_180 0 56 (dk_at dksX7_counts_3 9 rfl rfl)
theorem dX7_counts_80 : decode cX7_counts 80 = .ok (.aload_n 0, 1) := dk_42 (dk_at dksX7_counts_3 12 rfl rfl)
theorem dX7_counts_81 : decode cX7_counts 81 = .ok (.getfield 242, 3) := dk_180 0 242 (dk_at dksX7_counts_3 13 rfl rfl)
theorem dX7_counts_84 : decode cX7_counts 84 = .ok (.iload 5, 2) := dk_21 5 (dk_at dksX7_counts_3 16 rfl rfl)
theorem dX7_counts_86 : decode cX7_counts 86 = .ok (.iastore, 1) := dk_79 (dk_at dksX7_counts_3 18 rfl rfl)
theorem dX7_counts_87 : decode cX7_counts 87 = .ok (.aload_n 0, 1) := dk_42 (dk_at dksX7_counts_3 19 rfl rfl)
theorem dX7_counts_88 : decode cX7_counts 88 = .ok (.dup, 1) := dk_89 (dk_at dksX7_counts_3 20 rfl rfl)
theorem dX7_counts_89 : decode cX7_counts 89 = .ok (.getfield 242, 3) := dk_180 0 242 (dk_at dksX7_counts_3 21 rfl rfl)
theorem dX7_counts_92 : decode cX7_counts 92 = .ok (.iconst 1, 1) := dk_4 (dk_at dksX7_counts_4 0 rfl rfl)
theorem dX7_counts_93 : decode cX7_counts 93 = .ok (.iadd, 1) := dk_96 (dk_at dksX7_counts_4 1 rfl rfl)
theorem dX7_counts_94 : decode cX7_counts 94 = .ok (.putfield 242, 3) := dk_181 0 242 (dk_at dksX7_counts_4 2 rfl rfl)
theorem dX7_counts_97 : decode cX7_counts 97 = .ok (.aload_n 0, 1) := dk_42 (dk_at dksX7_counts_4 5 rfl rfl)
theorem dX7_counts_98 : decode cX7_counts 98 = .ok (.getfield 53, 3) := dk_180 0 53 (dk_at dksX7_counts_4 6 rfl rfl)
theorem dX7_counts_101 : decode cX7_counts 101 = .ok (.iload 5, 2) := dk_21 5 (dk_at dksX7_counts_4 9 rfl rfl)
theorem dX7_counts_103 : decode cX7_counts 103 = .ok (.iload 4, 2) := dk_21 4 (dk_at dksX7_counts_4 11 rfl rfl)
theorem dX7_counts_105 : decode cX7_counts 105 = .ok (.iastore, 1) := dk_79 (dk_at dksX7_counts_4 13 rfl rfl)
theorem dX7_counts_106 : decode cX7_counts 106 = .ok (.aload_n 0, 1) := dk_42 (dk_at dksX7_counts_4 14 rfl rfl)
theorem dX7_counts_107 : decode cX7_counts 107 = .ok (.getfield 47, 3) := dk_180 0 47 (dk_at dksX7_counts_4 15 rfl rfl)
theorem dX7_counts_110 : decode cX7_counts 110 = .ok (.iload 5, 2) := dk_21 5 (dk_at dksX7_counts_4 18 rfl rfl)
theorem dX7_counts_112 : decode cX7_counts 112 = .ok (.dup2, 1) := dk_92 (dk_at dksX7_counts_4 20 rfl rfl)
theorem dX7_counts_113 : decode cX7_counts 113 = .ok (.iaload, 1) := dk_46 (dk_at dksX7_counts_4 21 rfl rfl)
theorem dX7_counts_114 : decode cX7_counts 114 = .ok (.iconst 1, 1) := dk_4 (dk_at dksX7_counts_4 22 rfl rfl)
theorem dX7_counts_115 : decode cX7_counts 115 = .ok (.iadd, 1) := dk_96 (dk_at dksX7_counts_4 23 rfl rfl)
theorem dX7_counts_116 : decode cX7_counts 116 = .ok (.iastore, 1) := dk_79 (dk_at dksX7_counts_5 0 rfl rfl)
theorem dX7_counts_117 : decode cX7_counts 117 = .ok (.iinc 4 1, 3) := dk_132 4 1 (dk_at dksX7_counts_5 1 rfl rfl)
theorem dX7_counts_120 : decode cX7_counts 120 = .ok (.goto (-87), 3) := dk_167 255 169 (dk_at dksX7_counts_5 4 rfl rfl)
theorem dX7_counts_123 : decode cX7_counts 123 = .ok (.return_, 1) := dk_177 (dk_at dksX7_counts_5 7 rfl rfl)
abbrev cX7_modeBy : ByteArray := prog_19_method_54_code
def yX7_modeBy : MethodName := ⟨RX7, "modeBy", "(I)I"⟩
def dkwX7_modeBy_1 : List UInt8 := [28, 27, 182, 0, 245, 153, 0, 10, 42, 180, 0, 56, 29, 46, 61, 132, 3, 1, 167, 255, 218, 28, 172]
abbrev dktX7_modeBy_1 : List UInt8 := dkwX7_modeBy_1 ++ []
def dkwX7_modeBy_0 : List UInt8 := [2, 61, 3, 62, 29, 42, 180, 0, 242, 162, 0, 36, 28, 2, 159, 0, 18, 42, 42, 180, 0, 56, 29, 46]
abbrev dktX7_modeBy_0 : List UInt8 := dkwX7_modeBy_0 ++ dktX7_modeBy_1
theorem dksX7_modeBy_0 : cX7_modeBy.data.toList.drop 0 = dktX7_modeBy_0 := by decide +kernel
theorem dksX7_modeBy_1 : cX7_modeBy.data.toList.drop 24 = dktX7_modeBy_1 := dk_seg dksX7_modeBy_0 24 rfl rfl
theorem dX7_modeBy_0 : decode cX7_modeBy 0 = .ok (.iconst (-1), 1) := dk_2 (dk_at dksX7_modeBy_0 0 rfl rfl)
theorem dX7_modeBy_1 : decode cX7_modeBy 1 = .ok (.istore_n 2, 1) := dk_61 (dk_at dksX7_modeBy_0 1 rfl rfl)
theorem dX7_modeBy_2 : decode cX7_modeBy 2 = .ok (.iconst 0, 1) := dk_3 (dk_at dksX7_modeBy_0 2 rfl rfl)
theorem dX7_modeBy_3 : decode cX7_modeBy 3 = .ok (.istore_n 3, 1) := dk_62 (dk_at dksX7_modeBy_0 3 rfl rfl)
theorem dX7_modeBy_4 : decode cX7_modeBy 4 = .ok (.iload_n 3, 1) := dk_29 (dk_at dksX7_modeBy_0 4 rfl rfl)
theorem dX7_modeBy_5 : decode cX7_modeBy 5 = .ok (.aload_n 0, 1) := dk_42 (dk_at dksX7_modeBy_0 5 rfl rfl)
theorem dX7_modeBy_6 : decode cX7_modeBy 6 = .ok (.getfield 242, 3) := dk_180 0 242 (dk_at dksX7_modeBy_0 6 rfl rfl)
theorem dX7_modeBy_9 : decode cX7_modeBy 9 = .ok (.if_icmp .ge 36, 3) := dk_162 0 36 (dk_at dksX7_modeBy_0 9 rfl rfl)
theorem dX7_modeBy_12 : decode cX7_modeBy 12 = .ok (.iload_n 2, 1) := dk_28 (dk_at dksX7_modeBy_0 12 rfl rfl)
theorem dX7_modeBy_13 : decode cX7_modeBy 13 = .ok (.iconst (-1), 1) := dk_2 (dk_at dksX7_modeBy_0 13 rfl rfl)
theorem dX7_modeBy_14 : decode cX7_modeBy 14 = .ok (.if_icmp .eq 18, 3) := dk_159 0 18 (dk_at dksX7_modeBy_0 14 rfl rfl)
theorem dX7_modeBy_17 : decode cX7_modeBy 17 = .ok (.aload_n 0, 1) := dk_42 (dk_at dksX7_modeBy_0 17 rfl rfl)
theorem dX7_modeBy_18 : decode cX7_modeBy 18 = .ok (.aload_n 0, 1) := dk_42 (dk_at dksX7_modeBy_0 18 rfl rfl)
theorem dX7_modeBy_19 : decode cX7_modeBy 19 = .ok (.getfield 56, 3) := dk_180 0 56 (dk_at dksX7_modeBy_0 19 rfl rfl)
theorem dX7_modeBy_22 : decode cX7_modeBy 22 = .ok (.iload_n 3, 1) := dk_29 (dk_at dksX7_modeBy_0 22 rfl rfl)
theorem dX7_modeBy_23 : decode cX7_modeBy 23 = .ok (.iaload, 1) := dk_46 (dk_at dksX7_modeBy_0 23 rfl rfl)
theorem dX7_modeBy_24 : decode cX7_modeBy 24 = .ok (.iload_n 2, 1) := dk_28 (dk_at dksX7_modeBy_1 0 rfl rfl)
theorem dX7_modeBy_25 : decode cX7_modeBy 25 = .ok (.iload_n 1, 1) := dk_27 (dk_at dksX7_modeBy_1 1 rfl rfl)
theorem dX7_modeBy_26 : decode cX7_modeBy 26 = .ok (.invokevirtual 245, 3) := dk_182 0 245 (dk_at dksX7_modeBy_1 2 rfl rfl)
theorem dX7_modeBy_29 : decode cX7_modeBy 29 = .ok (.ifCond .eq 10, 3) := dk_153 0 10 (dk_at dksX7_modeBy_1 5 rfl rfl)
theorem dX7_modeBy_32 : decode cX7_modeBy 32 = .ok (.aload_n 0, 1) := dk_42 (dk_at dksX7_modeBy_1 8 rfl rfl)
theorem dX7_modeBy_33 : decode cX7_modeBy 33 = .ok (.getfield 56, 3) := dk_180 0 56 (dk_at dksX7_modeBy_1 9 rfl rfl)
theorem dX7_modeBy_36 : decode cX7_modeBy 36 = .ok (.iload_n 3, 1) := dk_29 (dk_at dksX7_modeBy_1 12 rfl rfl)
theorem dX7_modeBy_37 : decode cX7_modeBy 37 = .ok (.iaload, 1) := dk_46 (dk_at dksX7_modeBy_1 13 rfl rfl)
theorem dX7_modeBy_38 : decode cX7_modeBy 38 = .ok (.istore_n 2, 1) := dk_61 (dk_at dksX7_modeBy_1 14 rfl rfl)
theorem dX7_modeBy_39 : decode cX7_modeBy 39 = .ok (.iinc 3 1, 3) := dk_132 3 1 (dk_at dksX7_modeBy_1 15 rfl rfl)
theorem dX7_modeBy_42 : decode cX7_modeBy 42 = .ok (.goto (-38), 3) := dk_167 255 218 (dk_at dksX7_modeBy_1 18 rfl rfl)
theorem dX7_modeBy_45 : decode cX7_modeBy 45 = .ok (.iload_n 2, 1) := dk_28 (dk_at dksX7_modeBy_1 21 rfl rfl)
theorem dX7_modeBy_46 : decode cX7_modeBy 46 = .ok (.ireturn, 1) := dk_172 (dk_at dksX7_modeBy_1 22 rfl rfl)
abbrev cX7_isAhead : ByteArray := prog_19_method_51_code
def yX7_isAhead : MethodName := ⟨RX7, "isAhead", "(III)Z"⟩
def dkwX7_isAhead_5 : List UInt8 := [162, 0, 7, 4, 167, 0, 4, 3, 172, 27, 28, 164, 0, 7, 4, 167, 0, 4, 3, 172]
abbrev dktX7_isAhead_5 : List UInt8 := dkwX7_isAhead_5 ++ []
def dkwX7_isAhead_4 : List UInt8 := [180, 0, 53, 27, 46, 42, 180, 0, 53, 28, 46, 164, 0, 7, 4, 167, 0, 4, 3, 172, 27, 28]
abbrev dktX7_isAhead_4 : List UInt8 := dkwX7_isAhead_4 ++ dktX7_isAhead_5
def dkwX7_isAhead_3 : List UInt8 := [42, 180, 0, 50, 27, 46, 42, 180, 0, 50, 28, 46, 162, 0, 7, 4, 167, 0, 4, 3, 172, 42]
abbrev dktX7_isAhead_3 : List UInt8 := dkwX7_isAhead_3 ++ dktX7_isAhead_4
def dkwX7_isAhead_2 : List UInt8 := [170, 0, 0, 0, 0, 0, 80, 0, 0, 0, 0, 0, 0, 0, 2, 0, 0, 0, 27, 0, 0, 0, 48, 0, 0, 0, 69]
abbrev dktX7_isAhead_2 : List UInt8 := dkwX7_isAhead_2 ++ dktX7_isAhead_3
def dkwX7_isAhead_1 : List UInt8 := [180, 0, 47, 28, 46, 164, 0, 7, 4, 167, 0, 4, 3, 172, 29]
abbrev dktX7_isAhead_1 : List UInt8 := dkwX7_isAhead_1 ++ dktX7_isAhead_2
def dkwX7_isAhead_0 : List UInt8 := [42, 180, 0, 47, 27, 46, 42, 180, 0, 47, 28, 46, 159, 0, 24, 42, 180, 0, 47, 27, 46, 42]
abbrev dktX7_isAhead_0 : List UInt8 := dkwX7_isAhead_0 ++ dktX7_isAhead_1
theorem dksX7_isAhead_0 : cX7_isAhead.data.toList.drop 0 = dktX7_isAhead_0 := by decide +kernel
theorem dksX7_isAhead_1 : cX7_isAhead.data.toList.drop 22 = dktX7_isAhead_1 := dk_seg dksX7_isAhead_0 22 rfl rfl
theorem dksX7_isAhead_2 : cX7_isAhead.data.toList.drop 37 = dktX7_isAhead_2 := dk_seg dksX7_isAhead_1 15 rfl rfl
theorem dksX7_isAhead_3 : cX7_isAhead.data.toList.drop 64 = dktX7_isAhead_3 := dk_seg dksX7_isAhead_2 27 rfl rfl
theorem dksX7_isAhead_4 : cX7_isAhead.data.toList.drop 86 = dktX7_isAhead_4 := dk_seg dksX7_isAhead_3 22 rfl rfl
theorem dksX7_isAhead_5 : cX7_isAhead.data.toList.drop 108 = dktX7_isAhead_5 := dk_seg dksX7_isAhead_4 22 rfl rfl
theorem dX7_isAhead_0 : decode cX7_isAhead 0 = .ok (.aload_n 0, 1) := dk_42 (dk_at dksX7_isAhead_0 0 rfl rfl)
theorem dX7_isAhead_1 : decode cX7_isAhead 1 = .ok (.getfield 47, 3) := dk_180 0 47 (dk_at dksX7_isAhead_0 1 rfl rfl)
theorem dX7_isAhead_4 : decode cX7_isAhead 4 = .ok (.iload_n 1, 1) := dk_27 (dk_at dksX7_isAhead_0 4 rfl rfl)
theorem dX7_isAhead_5 : decode cX7_isAhead 5 = .ok (.iaload, 1) := dk_46 (dk_at dksX7_isAhead_0 5 rfl rfl)
theorem dX7_isAhead_6 : decode cX7_isAhead 6 = .ok (.aload_n 0, 1) := dk_42 (dk_at dksX7_isAhead_0 6 rfl rfl)
theorem dX7_isAhead_7 : decode cX7_isAhead 7 = .ok (.getfield 47, 3) := dk_180 0 47 (dk_at dksX7_isAhead_0 7 rfl rfl)
theorem dX7_isAhead_10 : decode cX7_isAhead 10 = .ok (.iload_n 2, 1) := dk_28 (dk_at dksX7_isAhead_0 10 rfl rfl)
theorem dX7_isAhead_11 : decode cX7_isAhead 11 = .ok (.iaload, 1) := dk_46 (dk_at dksX7_isAhead_0 11 rfl rfl)
theorem dX7_isAhead_12 : decode cX7_isAhead 12 = .ok (.if_icmp .eq 24, 3) := dk_159 0 24 (dk_at dksX7_isAhead_0 12 rfl rfl)
theorem dX7_isAhead_15 : decode cX7_isAhead 15 = .ok (.aload_n 0, 1) := dk_42 (dk_at dksX7_isAhead_0 15 rfl rfl)
theorem dX7_isAhead_16 : decode cX7_isAhead 16 = .ok (.getfield 47, 3) := dk_180 0 47 (dk_at dksX7_isAhead_0 16 rfl rfl)
theorem dX7_isAhead_19 : decode cX7_isAhead 19 = .ok (.iload_n 1, 1) := dk_27 (dk_at dksX7_isAhead_0 19 rfl rfl)
theorem dX7_isAhead_20 : decode cX7_isAhead 20 = .ok (.iaload, 1) := dk_46 (dk_at dksX7_isAhead_0 20 rfl rfl)
theorem dX7_isAhead_21 : decode cX7_isAhead 21 = .ok (.aload_n 0, 1) := dk_42 (dk_at dksX7_isAhead_0 21 rfl rfl)
theorem dX7_isAhead_22 : decode cX7_isAhead 22 = .ok (.getfield 47, 3) := dk_180 0 47 (dk_at dksX7_isAhead_1 0 rfl rfl)
theorem dX7_isAhead_25 : decode cX7_isAhead 25 = .ok (.iload_n 2, 1) := dk_28 (dk_at dksX7_isAhead_1 3 rfl rfl)
theorem dX7_isAhead_26 : decode cX7_isAhead 26 = .ok (.iaload, 1) := dk_46 (dk_at dksX7_isAhead_1 4 rfl rfl)
theorem dX7_isAhead_27 : decode cX7_isAhead 27 = .ok (.if_icmp .le 7, 3) := dk_164 0 7 (dk_at dksX7_isAhead_1 5 rfl rfl)
theorem dX7_isAhead_30 : decode cX7_isAhead 30 = .ok (.iconst 1, 1) := dk_4 (dk_at dksX7_isAhead_1 8 rfl rfl)
theorem dX7_isAhead_31 : decode cX7_isAhead 31 = .ok (.goto 4, 3) := dk_167 0 4 (dk_at dksX7_isAhead_1 9 rfl rfl)
theorem dX7_isAhead_34 : decode cX7_isAhead 34 = .ok (.iconst 0, 1) := dk_3 (dk_at dksX7_isAhead_1 12 rfl rfl)
theorem dX7_isAhead_35 : decode cX7_isAhead 35 = .ok (.ireturn, 1) := dk_172 (dk_at dksX7_isAhead_1 13 rfl rfl)
theorem dX7_isAhead_36 : decode cX7_isAhead 36 = .ok (.iload_n 3, 1) := dk_29 (dk_at dksX7_isAhead_1 14 rfl rfl)
theorem dX7_isAhead_37 : decode cX7_isAhead 37 = .ok (.tableswitch 80 0 2 #[27, 48, 69], 27) := by decide +kernel
theorem dX7_isAhead_64 : decode cX7_isAhead 64 = .ok (.aload_n 0, 1) := dk_42 (dk_at dksX7_isAhead_3 0 rfl rfl)
theorem dX7_isAhead_65 : decode cX7_isAhead 65 = .ok (.getfield 50, 3) := dk_180 0 50 (dk_at dksX7_isAhead_3 1 rfl rfl)
theorem dX7_isAhead_68 : decode cX7_isAhead 68 = .ok (.iload_n 1, 1) := dk_27 (dk_at dksX7_isAhead_3 4 rfl rfl)
theorem dX7_isAhead_69 : decode cX7_isAhead 69 = .ok (.iaload, 1) := dk_46 (dk_at dksX7_isAhead_3 5 rfl rfl)
theorem dX7_isAhead_70 : decode cX7_isAhead 70 = .ok (.aload_n 0, 1) := dk_42 (dk_at dksX7_isAhead_3 6 rfl rfl)
theorem dX7_isAhead_71 : decode cX7_isAhead 71 = .ok (.getfield 50, 3) := dk_180 0 50 (dk_at dksX7_isAhead_3 7 rfl rfl)
theorem dX7_isAhead_74 : decode cX7_isAhead 74 = .ok (.iload_n 2, 1) := dk_28 (dk_at dksX7_isAhead_3 10 rfl rfl)
theorem dX7_isAhead_75 : decode cX7_isAhead 75 = .ok (.iaload, 1) := dk_46 (dk_at dksX7_isAhead_3 11 rfl rfl)
theorem dX7_isAhead_76 : decode cX7_isAhead 76 = .ok (.if_icmp .ge 7, 3) := dk_162 0 7 (dk_at dksX7_isAhead_3 12 rfl rfl)
theorem dX7_isAhead_79 : decode cX7_isAhead 79 = .ok (.iconst 1, 1) := dk_4 (dk_at dksX7_isAhead_3 15 rfl rfl)
theorem dX7_isAhead_80 : decode cX7_isAhead 80 = .ok (.goto 4, 3) := dk_167 0 4 (dk_at dksX7_isAhead_3 16 rfl rfl)
theorem dX7_isAhead_83 : decode cX7_isAhead 83 = .ok (.iconst 0, 1) := dk_3 (dk_at dksX7_isAhead_3 19 rfl rfl)
theorem dX7_isAhead_84 : decode cX7_isAhead 84 = .ok (.ireturn, 1) := dk_172 (dk_at dksX7_isAhead_3 20 rfl rfl)
theorem dX7_isAhead_85 : decode cX7_isAhead 85 = .ok (.aload_n 0, 1) := dk_42 (dk_at dksX7_isAhead_3 21 rfl rfl)
theorem dX7_isAhead_86 : decode cX7_isAhead 86 = .ok (.getfield 53, 3) := dk_180 0 53 (dk_at dksX7_isAhead_4 0 rfl rfl)
theorem dX7_isAhead_89 : decode cX7_isAhead 89 = .ok (.iload_n 1, 1) := dk_27 (dk_at dksX7_isAhead_4 3 rfl rfl)
theorem dX7_isAhead_90 : decode cX7_isAhead 90 = .ok (.iaload, 1) := dk_46 (dk_at dksX7_isAhead_4 4 rfl rfl)
theorem dX7_isAhead_91 : decode cX7_isAhead 91 = .ok (.aload_n 0, 1) := dk_42 (dk_at dksX7_isAhead_4 5 rfl rfl)
theorem dX7_isAhead_92 : decode cX7_isAhead 92 = .ok (.getfield 53, 3) := dk_180 0 53 (dk_at dksX7_isAhead_4 6 rfl rfl)
theorem dX7_isAhead_95 : decode cX7_isAhead 95 = .ok (.iload_n 2, 1) := dk_28 (dk_at dksX7_isAhead_4 9 rfl rfl)
theorem dX7_isAhead_96 : decode cX7_isAhead 96 = .ok (.iaload, 1) := dk_46 (dk_at dksX7_isAhead_4 10 rfl rfl)
theorem dX7_isAhead_97 : decode cX7_isAhead 97 = .ok (.if_icmp .le 7, 3) := dk_164 0 7 (dk_at dksX7_isAhead_4 11 rfl rfl)
theorem dX7_isAhead_100 : decode cX7_isAhead 100 = .ok (.iconst 1, 1) := dk_4 (dk_at dksX7_isAhead_4 14 rfl rfl)
theorem dX7_isAhead_101 : decode cX7_isAhead 101 = .ok (.goto 4, 3) := dk_167 0 4 (dk_at dksX7_isAhead_4 15 rfl rfl)
theorem dX7_isAhead_104 : decode cX7_isAhead 104 = .ok (.iconst 0, 1) := dk_3 (dk_at dksX7_isAhead_4 18 rfl rfl)
theorem dX7_isAhead_105 : decode cX7_isAhead 105 = .ok (.ireturn, 1) := dk_172 (dk_at dksX7_isAhead_4 19 rfl rfl)
theorem dX7_isAhead_106 : decode cX7_isAhead 106 = .ok (.iload_n 1, 1) := dk_27 (dk_at dksX7_isAhead_4 20 rfl rfl)
theorem dX7_isAhead_107 : decode cX7_isAhead 107 = .ok (.iload_n 2, 1) := dk_28 (dk_at dksX7_isAhead_4 21 rfl rfl)
theorem dX7_isAhead_108 : decode cX7_isAhead 108 = .ok (.if_icmp .ge 7, 3) := dk_162 0 7 (dk_at dksX7_isAhead_5 0 rfl rfl)
theorem dX7_isAhead_111 : decode cX7_isAhead 111 = .ok (.iconst 1, 1) := dk_4 (dk_at dksX7_isAhead_5 3 rfl rfl)
theorem dX7_isAhead_112 : decode cX7_isAhead 112 = .ok (.goto 4, 3) := dk_167 0 4 (dk_at dksX7_isAhead_5 4 rfl rfl)
theorem dX7_isAhead_115 : decode cX7_isAhead 115 = .ok (.iconst 0, 1) := dk_3 (dk_at dksX7_isAhead_5 7 rfl rfl)
theorem dX7_isAhead_116 : decode cX7_isAhead 116 = .ok (.ireturn, 1) := dk_172 (dk_at dksX7_isAhead_5 8 rfl rfl)
theorem dX7_isAhead_117 : decode cX7_isAhead 117 = .ok (.iload_n 1, 1) := dk_27 (dk_at dksX7_isAhead_5 9 rfl rfl)
theorem dX7_isAhead_118 : decode cX7_isAhead 118 = .ok (.iload_n 2, 1) := dk_28 (dk_at dksX7_isAhead_5 10 rfl rfl)
theorem dX7_isAhead_119 : decode cX7_isAhead 119 = .ok (.if_icmp .le 7, 3) := dk_164 0 7 (dk_at dksX7_isAhead_5 11 rfl rfl)
theorem dX7_isAhead_122 : decode cX7_isAhead 122 = .ok (.iconst 1, 1) := dk_4 (dk_at dksX7_isAhead_5 14 rfl rfl)
theorem dX7_isAhead_123 : decode cX7_isAhead 123 = .ok (.goto 4, 3) := dk_167 0 4 (dk_at dksX7_isAhead_5 15 rfl rfl)
theorem dX7_isAhead_126 : decode cX7_isAhead 126 = .ok (.iconst 0, 1) := dk_3 (dk_at dksX7_isAhead_5 18 rfl rfl)
theorem dX7_isAhead_127 : decode cX7_isAhead 127 = .ok (.ireturn, 1) := dk_172 (dk_at dksX7_isAhead_5 19 rfl rfl)
abbrev cX7_told : ByteArray := prog_19_method_56_code
def yX7_told : MethodName := ⟨RX7, "told", "(II)I"⟩
def dkwX7_told_1 : List UInt8 := [160, 0, 12, 42, 180, 0, 50, 27, 46, 167, 0, 9, 42, 180, 0, 53, 27, 46, 172]
abbrev dktX7_told_1 : List UInt8 := dkwX7_told_1 ++ []
def dkwX7_told_0 : List UInt8 := [28, 154, 0, 7, 27, 167, 0, 37, 28, 4, 160, 0, 12, 42, 180, 0, 47, 27, 46, 167, 0, 23, 28, 5]
abbrev dktX7_told_0 : List UInt8 := dkwX7_told_0 ++ dktX7_told_1
theorem dksX7_told_0 : cX7_told.data.toList.drop 0 = dktX7_told_0 := by decide +kernel
theorem dksX7_told_1 : cX7_told.data.toList.drop 24 = dktX7_told_1 := dk_seg dksX7_told_0 24 rfl rfl
theorem dX7_told_0 : decode cX7_told 0 = .ok (.iload_n 2, 1) := dk_28 (dk_at dksX7_told_0 0 rfl rfl)
theorem dX7_told_1 : decode cX7_told 1 = .ok (.ifCond .ne 7, 3) := dk_154 0 7 (dk_at dksX7_told_0 1 rfl rfl)
theorem dX7_told_4 : decode cX7_told 4 = .ok (.iload_n 1, 1) := dk_27 (dk_at dksX7_told_0 4 rfl rfl)
theorem dX7_told_5 : decode cX7_told 5 = .ok (.goto 37, 3) := dk_167 0 37 (dk_at dksX7_told_0 5 rfl rfl)
theorem dX7_told_8 : decode cX7_told 8 = .ok (.iload_n 2, 1) := dk_28 (dk_at dksX7_told_0 8 rfl rfl)
theorem dX7_told_9 : decode cX7_told 9 = .ok (.iconst 1, 1) := dk_4 (dk_at dksX7_told_0 9 rfl rfl)
theorem dX7_told_10 : decode cX7_told 10 = .ok (.if_icmp .ne 12, 3) := dk_160 0 12 (dk_at dksX7_told_0 10 rfl rfl)
theorem dX7_told_13 : decode cX7_told 13 = .ok (.aload_n 0, 1) := dk_42 (dk_at dksX7_told_0 13 rfl rfl)
theorem dX7_told_14 : decode cX7_told 14 = .ok (.getfield 47, 3) := dk_180 0 47 (dk_at dksX7_told_0 14 rfl rfl)
theorem dX7_told_17 : decode cX7_told 17 = .ok (.iload_n 1, 1) := dk_27 (dk_at dksX7_told_0 17 rfl rfl)
theorem dX7_told_18 : decode cX7_told 18 = .ok (.iaload, 1) := dk_46 (dk_at dksX7_told_0 18 rfl rfl)
theorem dX7_told_19 : decode cX7_told 19 = .ok (.goto 23, 3) := dk_167 0 23 (dk_at dksX7_told_0 19 rfl rfl)
theorem dX7_told_22 : decode cX7_told 22 = .ok (.iload_n 2, 1) := dk_28 (dk_at dksX7_told_0 22 rfl rfl)
theorem dX7_told_23 : decode cX7_told 23 = .ok (.iconst 2, 1) := dk_5 (dk_at dksX7_told_0 23 rfl rfl)
theorem dX7_told_24 : decode cX7_told 24 = .ok (.if_icmp .ne 12, 3) := dk_160 0 12 (dk_at dksX7_told_1 0 rfl rfl)
theorem dX7_told_27 : decode cX7_told 27 = .ok (.aload_n 0, 1) := dk_42 (dk_at dksX7_told_1 3 rfl rfl)
theorem dX7_told_28 : decode cX7_told 28 = .ok (.getfield 50, 3) := dk_180 0 50 (dk_at dksX7_told_1 4 rfl rfl)
theorem dX7_told_31 : decode cX7_told 31 = .ok (.iload_n 1, 1) := dk_27 (dk_at dksX7_told_1 7 rfl rfl)
theorem dX7_told_32 : decode cX7_told 32 = .ok (.iaload, 1) := dk_46 (dk_at dksX7_told_1 8 rfl rfl)
theorem dX7_told_33 : decode cX7_told 33 = .ok (.goto 9, 3) := dk_167 0 9 (dk_at dksX7_told_1 9 rfl rfl)
theorem dX7_told_36 : decode cX7_told 36 = .ok (.aload_n 0, 1) := dk_42 (dk_at dksX7_told_1 12 rfl rfl)
theorem dX7_told_37 : decode cX7_told 37 = .ok (.getfield 53, 3) := dk_180 0 53 (dk_at dksX7_told_1 13 rfl rfl)
theorem dX7_told_40 : decode cX7_told 40 = .ok (.iload_n 1, 1) := dk_27 (dk_at dksX7_told_1 16 rfl rfl)
theorem dX7_told_41 : decode cX7_told 41 = .ok (.iaload, 1) := dk_46 (dk_at dksX7_told_1 17 rfl rfl)
theorem dX7_told_42 : decode cX7_told 42 = .ok (.ireturn, 1) := dk_172 (dk_at dksX7_told_1 18 rfl rfl)
abbrev cX7_ranked : ByteArray := prog_19_method_58_code
def yX7_ranked : MethodName := ⟨RX7, "ranked", "(IIII)I"⟩
def dkwX7_ranked_2 : List UInt8 := [54, 5, 21, 5, 2, 160, 0, 8, 16, 254, 167, 0, 11, 42, 21, 5, 21, 4, 182, 1, 7, 172]
abbrev dktX7_ranked_2 : List UInt8 := dkwX7_ranked_2 ++ []
def dkwX7_ranked_1 : List UInt8 := [21, 4, 6, 164, 0, 5, 2, 172, 42, 27, 28, 2, 182, 0, 252, 42, 29, 42, 180, 0, 178, 182, 1, 10]
abbrev dktX7_ranked_1 : List UInt8 := dkwX7_ranked_1 ++ dktX7_ranked_2
def dkwX7_ranked_0 : List UInt8 := [42, 3, 181, 0, 72, 42, 27, 28, 182, 0, 232, 153, 0, 18, 29, 155, 0, 14, 21, 4, 155, 0, 9]
abbrev dktX7_ranked_0 : List UInt8 := dkwX7_ranked_0 ++ dktX7_ranked_1
theorem dksX7_ranked_0 : cX7_ranked.data.toList.drop 0 = dktX7_ranked_0 := by decide +kernel
theorem dksX7_ranked_1 : cX7_ranked.data.toList.drop 23 = dktX7_ranked_1 := dk_seg dksX7_ranked_0 23 rfl rfl
theorem dksX7_ranked_2 : cX7_ranked.data.toList.drop 47 = dktX7_ranked_2 := dk_seg dksX7_ranked_1 24 rfl rfl
theorem dX7_ranked_0 : decode cX7_ranked 0 = .ok (.aload_n 0, 1) := dk_42 (dk_at dksX7_ranked_0 0 rfl rfl)
theorem dX7_ranked_1 : decode cX7_ranked 1 = .ok (.iconst 0, 1) := dk_3 (dk_at dksX7_ranked_0 1 rfl rfl)
theorem dX7_ranked_2 : decode cX7_ranked 2 = .ok (.putfield 72, 3) := dk_181 0 72 (dk_at dksX7_ranked_0 2 rfl rfl)
theorem dX7_ranked_5 : decode cX7_ranked 5 = .ok (.aload_n 0, 1) := dk_42 (dk_at dksX7_ranked_0 5 rfl rfl)
theorem dX7_ranked_6 : decode cX7_ranked 6 = .ok (.iload_n 1, 1) := dk_27 (dk_at dksX7_ranked_0 6 rfl rfl)
theorem dX7_ranked_7 : decode cX7_ranked 7 = .ok (.iload_n 2, 1) := dk_28 (dk_at dksX7_ranked_0 7 rfl rfl)
theorem dX7_ranked_8 : decode cX7_ranked 8 = .ok (.invokevirtual 232, 3) := dk_182 0 232 (dk_at dksX7_ranked_0 8 rfl rfl)
theorem dX7_ranked_11 : decode cX7_ranked 11 = .ok (.ifCond .eq 18, 3) := dk_153 0 18 (dk_at dksX7_ranked_0 11 rfl rfl)
theorem dX7_ranked_14 : decode cX7_ranked 14 = .ok (.iload_n 3, 1) := dk_29 (dk_at dksX7_ranked_0 14 rfl rfl)
theorem dX7_ranked_15 : decode cX7_ranked 15 = .ok (.ifCond .lt 14, 3) := dk_155 0 14 (dk_at dksX7_ranked_0 15 rfl rfl)
theorem dX7_ranked_18 : decode cX7_ranked 18 = .ok (.iload 4, 2) := dk_21 4 (dk_at dksX7_ranked_0 18 rfl rfl)
theorem dX7_ranked_20 : decode cX7_ranked 20 = .ok (.ifCond .lt 9, 3) := dk_155 0 9 (dk_at dksX7_ranked_0 20 rfl rfl)
theorem dX7_ranked_23 : decode cX7_ranked 23 = .ok (.iload 4, 2) := dk_21 4 (dk_at dksX7_ranked_1 0 rfl rfl)
theorem dX7_ranked_25 : decode cX7_ranked 25 = .ok (.iconst 3, 1) := dk_6 (dk_at dksX7_ranked_1 2 rfl rfl)
theorem dX7_ranked_26 : decode cX7_ranked 26 = .ok (.if_icmp .le 5, 3) := dk_164 0 5 (dk_at dksX7_ranked_1 3 rfl rfl)
theorem dX7_ranked_29 : decode cX7_ranked 29 = .ok (.iconst (-1), 1) := dk_2 (dk_at dksX7_ranked_1 6 rfl rfl)
theorem dX7_ranked_30 : decode cX7_ranked 30 = .ok (.ireturn, 1) := dk_172 (dk_at dksX7_ranked_1 7 rfl rfl)
theorem dX7_ranked_31 : decode cX7_ranked 31 = .ok (.aload_n 0, 1) := dk_42 (dk_at dksX7_ranked_1 8 rfl rfl)
theorem dX7_ranked_32 : decode cX7_ranked 32 = .ok (.iload_n 1, 1) := dk_27 (dk_at dksX7_ranked_1 9 rfl rfl)
theorem dX7_ranked_33 : decode cX7_ranked 33 = .ok (.iload_n 2, 1) := dk_28 (dk_at dksX7_ranked_1 10 rfl rfl)
theorem dX7_ranked_34 : decode cX7_ranked 34 = .ok (.iconst (-1), 1) := dk_2 (dk_at dksX7_ranked_1 11 rfl rfl)
theorem dX7_ranked_35 : decode cX7_ranked 35 = .ok (.invokevirtual 252, 3) := dk_182 0 252 (dk_at dksX7_ranked_1 12 rfl rfl)
theorem dX7_ranked_38 : decode cX7_ranked 38 = .ok (.aload_n 0, 1) := dk_42 (dk_at dksX7_ranked_1 15 rfl rfl)
theorem dX7_ranked_39 : decode cX7_ranked 39 = .ok (.iload_n 3, 1) := dk_29 (dk_at dksX7_ranked_1 16 rfl rfl)
theorem dX7_ranked_40 : decode cX7_ranked 40 = .ok (.aload_n 0, 1) := dk_42 (dk_at dksX7_ranked_1 17 rfl rfl)
theorem dX7_ranked_41 : decode cX7_ranked 41 = .ok (.getfield 178, 3) := dk_180 0 178 (dk_at dksX7_ranked_1 18 rfl rfl)
theorem dX7_ranked_44 : decode cX7_ranked 44 = .ok (.invokevirtual 266, 3) := dk_182 1 10 (dk_at dksX7_ranked_1 21 rfl rfl)
theorem dX7_ranked_47 : decode cX7_ranked 47 = .ok (.istore 5, 2) := dk_54 5 (dk_at dksX7_ranked_2 0 rfl rfl)
theorem dX7_ranked_49 : decode cX7_ranked 49 = .ok (.iload 5, 2) := dk_21 5 (dk_at dksX7_ranked_2 2 rfl rfl)
theorem dX7_ranked_51 : decode cX7_ranked 51 = .ok (.iconst (-1), 1) := dk_2 (dk_at dksX7_ranked_2 4 rfl rfl)
theorem dX7_ranked_52 : decode cX7_ranked 52 = .ok (.if_icmp .ne 8, 3) := dk_160 0 8 (dk_at dksX7_ranked_2 5 rfl rfl)
theorem dX7_ranked_55 : decode cX7_ranked 55 = .ok (.bipush (-2), 2) := dk_16 254 (dk_at dksX7_ranked_2 8 rfl rfl)
theorem dX7_ranked_57 : decode cX7_ranked 57 = .ok (.goto 11, 3) := dk_167 0 11 (dk_at dksX7_ranked_2 10 rfl rfl)
theorem dX7_ranked_60 : decode cX7_ranked 60 = .ok (.aload_n 0, 1) := dk_42 (dk_at dksX7_ranked_2 13 rfl rfl)
theorem dX7_ranked_61 : decode cX7_ranked 61 = .ok (.iload 5, 2) := dk_21 5 (dk_at dksX7_ranked_2 14 rfl rfl)
theorem dX7_ranked_63 : decode cX7_ranked 63 = .ok (.iload 4, 2) := dk_21 4 (dk_at dksX7_ranked_2 16 rfl rfl)
theorem dX7_ranked_65 : decode cX7_ranked 65 = .ok (.invokevirtual 263, 3) := dk_182 1 7 (dk_at dksX7_ranked_2 18 rfl rfl)
theorem dX7_ranked_68 : decode cX7_ranked 68 = .ok (.ireturn, 1) := dk_172 (dk_at dksX7_ranked_2 21 rfl rfl)
abbrev cX7_ofRank : ByteArray := prog_19_method_53_code
def yX7_ofRank : MethodName := ⟨RX7, "ofRank", "(II)I"⟩
def dkwX7_ofRank_1 : List UInt8 := [160, 0, 10, 42, 180, 0, 56, 29, 46, 172, 132, 3, 1, 167, 255, 223, 2, 172]
abbrev dktX7_ofRank_1 : List UInt8 := dkwX7_ofRank_1 ++ []
def dkwX7_ofRank_0 : List UInt8 := [3, 62, 29, 42, 180, 0, 242, 162, 0, 31, 42, 42, 180, 0, 56, 29, 46, 28, 182, 0, 249, 27]
abbrev dktX7_ofRank_0 : List UInt8 := dkwX7_ofRank_0 ++ dktX7_ofRank_1
theorem dksX7_ofRank_0 : cX7_ofRank.data.toList.drop 0 = dktX7_ofRank_0 := by decide +kernel
theorem dksX7_ofRank_1 : cX7_ofRank.data.toList.drop 22 = dktX7_ofRank_1 := dk_seg dksX7_ofRank_0 22 rfl rfl
theorem dX7_ofRank_0 : decode cX7_ofRank 0 = .ok (.iconst 0, 1) := dk_3 (dk_at dksX7_ofRank_0 0 rfl rfl)
theorem dX7_ofRank_1 : decode cX7_ofRank 1 = .ok (.istore_n 3, 1) := dk_62 (dk_at dksX7_ofRank_0 1 rfl rfl)
theorem dX7_ofRank_2 : decode cX7_ofRank 2 = .ok (.iload_n 3, 1) := dk_29 (dk_at dksX7_ofRank_0 2 rfl rfl)
theorem dX7_ofRank_3 : decode cX7_ofRank 3 = .ok (.aload_n 0, 1) := dk_42 (dk_at dksX7_ofRank_0 3 rfl rfl)
theorem dX7_ofRank_4 : decode cX7_ofRank 4 = .ok (.getfield 242, 3) := dk_180 0 242 (dk_at dksX7_ofRank_0 4 rfl rfl)
theorem dX7_ofRank_7 : decode cX7_ofRank 7 = .ok (.if_icmp .ge 31, 3) := dk_162 0 31 (dk_at dksX7_ofRank_0 7 rfl rfl)
theorem dX7_ofRank_10 : decode cX7_ofRank 10 = .ok (.aload_n 0, 1) := dk_42 (dk_at dksX7_ofRank_0 10 rfl rfl)
theorem dX7_ofRank_11 : decode cX7_ofRank 11 = .ok (.aload_n 0, 1) := dk_42 (dk_at dksX7_ofRank_0 11 rfl rfl)
theorem dX7_ofRank_12 : decode cX7_ofRank 12 = .ok (.getfield 56, 3) := dk_180 0 56 (dk_at dksX7_ofRank_0 12 rfl rfl)
theorem dX7_ofRank_15 : decode cX7_ofRank 15 = .ok (.iload_n 3, 1) := dk_29 (dk_at dksX7_ofRank_0 15 rfl rfl)
theorem dX7_ofRank_16 : decode cX7_ofRank 16 = .ok (.iaload, 1) := dk_46 (dk_at dksX7_ofRank_0 16 rfl rfl)
theorem dX7_ofRank_17 : decode cX7_ofRank 17 = .ok (.iload_n 2, 1) := dk_28 (dk_at dksX7_ofRank_0 17 rfl rfl)
theorem dX7_ofRank_18 : decode cX7_ofRank 18 = .ok (.invokevirtual 249, 3) := dk_182 0 249 (dk_at dksX7_ofRank_0 18 rfl rfl)
theorem dX7_ofRank_21 : decode cX7_ofRank 21 = .ok (.iload_n 1, 1) := dk_27 (dk_at dksX7_ofRank_0 21 rfl rfl)
theorem dX7_ofRank_22 : decode cX7_ofRank 22 = .ok (.if_icmp .ne 10, 3) := dk_160 0 10 (dk_at dksX7_ofRank_1 0 rfl rfl)
theorem dX7_ofRank_25 : decode cX7_ofRank 25 = .ok (.aload_n 0, 1) := dk_42 (dk_at dksX7_ofRank_1 3 rfl rfl)
theorem dX7_ofRank_26 : decode cX7_ofRank 26 = .ok (.getfield 56, 3) := dk_180 0 56 (dk_at dksX7_ofRank_1 4 rfl rfl)
theorem dX7_ofRank_29 : decode cX7_ofRank 29 = .ok (.iload_n 3, 1) := dk_29 (dk_at dksX7_ofRank_1 7 rfl rfl)
theorem dX7_ofRank_30 : decode cX7_ofRank 30 = .ok (.iaload, 1) := dk_46 (dk_at dksX7_ofRank_1 8 rfl rfl)
theorem dX7_ofRank_31 : decode cX7_ofRank 31 = .ok (.ireturn, 1) := dk_172 (dk_at dksX7_ofRank_1 9 rfl rfl)
theorem dX7_ofRank_32 : decode cX7_ofRank 32 = .ok (.iinc 3 1, 3) := dk_132 3 1 (dk_at dksX7_ofRank_1 10 rfl rfl)
theorem dX7_ofRank_35 : decode cX7_ofRank 35 = .ok (.goto (-33), 3) := dk_167 255 223 (dk_at dksX7_ofRank_1 13 rfl rfl)
theorem dX7_ofRank_38 : decode cX7_ofRank 38 = .ok (.iconst (-1), 1) := dk_2 (dk_at dksX7_ofRank_1 16 rfl rfl)
theorem dX7_ofRank_39 : decode cX7_ofRank 39 = .ok (.ireturn, 1) := dk_172 (dk_at dksX7_ofRank_1 17 rfl rfl)
abbrev cX7_rankOf : ByteArray := prog_19_method_52_code
def yX7_rankOf : MethodName := ⟨RX7, "rankOf", "(II)I"⟩
def dkwX7_rankOf_2 : List UInt8 := [96, 62, 132, 4, 1, 167, 255, 209, 29, 172]
abbrev dktX7_rankOf_2 : List UInt8 := dkwX7_rankOf_2 ++ []
def dkwX7_rankOf_1 : List UInt8 := [159, 0, 23, 42, 42, 180, 0, 56, 21, 4, 46, 27, 28, 182, 0, 245, 153, 0, 7, 4, 167, 0, 4, 3]
abbrev dktX7_rankOf_1 : List UInt8 := dkwX7_rankOf_1 ++ dktX7_rankOf_2
def dkwX7_rankOf_0 : List UInt8 := [3, 62, 3, 54, 4, 21, 4, 42, 180, 0, 242, 162, 0, 44, 29, 42, 180, 0, 56, 21, 4, 46, 27]
abbrev dktX7_rankOf_0 : List UInt8 := dkwX7_rankOf_0 ++ dktX7_rankOf_1
theorem dksX7_rankOf_0 : cX7_rankOf.data.toList.drop 0 = dktX7_rankOf_0 := by decide +kernel
theorem dksX7_rankOf_1 : cX7_rankOf.data.toList.drop 23 = dktX7_rankOf_1 := dk_seg dksX7_rankOf_0 23 rfl rfl
theorem dksX7_rankOf_2 : cX7_rankOf.data.toList.drop 47 = dktX7_rankOf_2 := dk_seg dksX7_rankOf_1 24 rfl rfl
theorem dX7_rankOf_0 : decode cX7_rankOf 0 = .ok (.iconst 0, 1) := dk_3 (dk_at dksX7_rankOf_0 0 rfl rfl)
theorem dX7_rankOf_1 : decode cX7_rankOf 1 = .ok (.istore_n 3, 1) := dk_62 (dk_at dksX7_rankOf_0 1 rfl rfl)
theorem dX7_rankOf_2 : decode cX7_rankOf 2 = .ok (.iconst 0, 1) := dk_3 (dk_at dksX7_rankOf_0 2 rfl rfl)
theorem dX7_rankOf_3 : decode cX7_rankOf 3 = .ok (.istore 4, 2) := dk_54 4 (dk_at dksX7_rankOf_0 3 rfl rfl)
theorem dX7_rankOf_5 : decode cX7_rankOf 5 = .ok (.iload 4, 2) := dk_21 4 (dk_at dksX7_rankOf_0 5 rfl rfl)
theorem dX7_rankOf_7 : decode cX7_rankOf 7 = .ok (.aload_n 0, 1) := dk_42 (dk_at dksX7_rankOf_0 7 rfl rfl)
theorem dX7_rankOf_8 : decode cX7_rankOf 8 = .ok (.getfield 242, 3) := dk_180 0 242 (dk_at dksX7_rankOf_0 8 rfl rfl)
theorem dX7_rankOf_11 : decode cX7_rankOf 11 = .ok (.if_icmp .ge 44, 3) := dk_162 0 44 (dk_at dksX7_rankOf_0 11 rfl rfl)
theorem dX7_rankOf_14 : decode cX7_rankOf 14 = .ok (.iload_n 3, 1) := dk_29 (dk_at dksX7_rankOf_0 14 rfl rfl)
theorem dX7_rankOf_15 : decode cX7_rankOf 15 = .ok (.aload_n 0, 1) := dk_42 (dk_at dksX7_rankOf_0 15 rfl rfl)
theorem dX7_rankOf_16 : decode cX7_rankOf 16 = .ok (.getfield 56, 3) := dk_180 0 56 (dk_at dksX7_rankOf_0 16 rfl rfl)
theorem dX7_rankOf_19 : decode cX7_rankOf 19 = .ok (.iload 4, 2) := dk_21 4 (dk_at dksX7_rankOf_0 19 rfl rfl)
theorem dX7_rankOf_21 : decode cX7_rankOf 21 = .ok (.iaload, 1) := dk_46 (dk_at dksX7_rankOf_0 21 rfl rfl)
theorem dX7_rankOf_22 : decode cX7_rankOf 22 = .ok (.iload_n 1, 1) := dk_27 (dk_at dksX7_rankOf_0 22 rfl rfl)
theorem dX7_rankOf_23 : decode cX7_rankOf 23 = .ok (.if_icmp .eq 23, 3) := dk_159 0 23 (dk_at dksX7_rankOf_1 0 rfl rfl)
theorem dX7_rankOf_26 : decode cX7_rankOf 26 = .ok (.aload_n 0, 1) := dk_42 (dk_at dksX7_rankOf_1 3 rfl rfl)
theorem dX7_rankOf_27 : decode cX7_rankOf 27 = .ok (.aload_n 0, 1) := dk_42 (dk_at dksX7_rankOf_1 4 rfl rfl)
theorem dX7_rankOf_28 : decode cX7_rankOf 28 = .ok (.getfield 56, 3) := dk_180 0 56 (dk_at dksX7_rankOf_1 5 rfl rfl)
theorem dX7_rankOf_31 : decode cX7_rankOf 31 = .ok (.iload 4, 2) := dk_21 4 (dk_at dksX7_rankOf_1 8 rfl rfl)
theorem dX7_rankOf_33 : decode cX7_rankOf 33 = .ok (.iaload, 1) := dk_46 (dk_at dksX7_rankOf_1 10 rfl rfl)
theorem dX7_rankOf_34 : decode cX7_rankOf 34 = .ok (.iload_n 1, 1) := dk_27 (dk_at dksX7_rankOf_1 11 rfl rfl)
theorem dX7_rankOf_35 : decode cX7_rankOf 35 = .ok (.iload_n 2, 1) := dk_28 (dk_at dksX7_rankOf_1 12 rfl rfl)
theorem dX7_rankOf_36 : decode cX7_rankOf 36 = .ok (.invokevirtual 245, 3) := dk_182 0 245 (dk_at dksX7_rankOf_1 13 rfl rfl)
theorem dX7_rankOf_39 : decode cX7_rankOf 39 = .ok (.ifCond .eq 7, 3) := dk_153 0 7 (dk_at dksX7_rankOf_1 16 rfl rfl)
theorem dX7_rankOf_42 : decode cX7_rankOf 42 = .ok (.iconst 1, 1) := dk_4 (dk_at dksX7_rankOf_1 19 rfl rfl)
theorem dX7_rankOf_43 : decode cX7_rankOf 43 = .ok (.goto 4, 3) := dk_167 0 4 (dk_at dksX7_rankOf_1 20 rfl rfl)
theorem dX7_rankOf_46 : decode cX7_rankOf 46 = .ok (.iconst 0, 1) := dk_3 (dk_at dksX7_rankOf_1 23 rfl rfl)
theorem dX7_rankOf_47 : decode cX7_rankOf 47 = .ok (.iadd, 1) := dk_96 (dk_at dksX7_rankOf_2 0 rfl rfl)
theorem dX7_rankOf_48 : decode cX7_rankOf 48 = .ok (.istore_n 3, 1) := dk_62 (dk_at dksX7_rankOf_2 1 rfl rfl)
theorem dX7_rankOf_49 : decode cX7_rankOf 49 = .ok (.iinc 4 1, 3) := dk_132 4 1 (dk_at dksX7_rankOf_2 2 rfl rfl)
theorem dX7_rankOf_52 : decode cX7_rankOf 52 = .ok (.goto (-47), 3) := dk_167 255 209 (dk_at dksX7_rankOf_2 5 rfl rfl)
theorem dX7_rankOf_55 : decode cX7_rankOf 55 = .ok (.iload_n 3, 1) := dk_29 (dk_at dksX7_rankOf_2 8 rfl rfl)
theorem dX7_rankOf_56 : decode cX7_rankOf 56 = .ok (.ireturn, 1) := dk_172 (dk_at dksX7_rankOf_2 9 rfl rfl)
abbrev cX7_rank : ByteArray := prog_19_method_59_code
def yX7_rank : MethodName := ⟨RX7, "rank", "(III)I"⟩
def dkwX7_rank_2 : List UInt8 := [180, 0, 178, 182, 0, 249, 172]
abbrev dktX7_rank_2 : List UInt8 := dkwX7_rank_2 ++ []
def dkwX7_rank_1 : List UInt8 := [27, 28, 2, 182, 0, 252, 42, 180, 0, 47, 29, 46, 154, 0, 8, 16, 254, 167, 0, 12, 42, 29, 42]
abbrev dktX7_rank_1 : List UInt8 := dkwX7_rank_1 ++ dktX7_rank_2
def dkwX7_rank_0 : List UInt8 := [42, 3, 181, 0, 72, 42, 27, 28, 182, 0, 232, 153, 0, 10, 29, 184, 0, 220, 154, 0, 5, 2, 172, 42]
abbrev dktX7_rank_0 : List UInt8 := dkwX7_rank_0 ++ dktX7_rank_1
theorem dksX7_rank_0 : cX7_rank.data.toList.drop 0 = dktX7_rank_0 := by decide +kernel
theorem dksX7_rank_1 : cX7_rank.data.toList.drop 24 = dktX7_rank_1 := dk_seg dksX7_rank_0 24 rfl rfl
theorem dksX7_rank_2 : cX7_rank.data.toList.drop 47 = dktX7_rank_2 := dk_seg dksX7_rank_1 23 rfl rfl
theorem dX7_rank_0 : decode cX7_rank 0 = .ok (.aload_n 0, 1) := dk_42 (dk_at dksX7_rank_0 0 rfl rfl)
theorem dX7_rank_1 : decode cX7_rank 1 = .ok (.iconst 0, 1) := dk_3 (dk_at dksX7_rank_0 1 rfl rfl)
theorem dX7_rank_2 : decode cX7_rank 2 = .ok (.putfield 72, 3) := dk_181 0 72 (dk_at dksX7_rank_0 2 rfl rfl)
theorem dX7_rank_5 : decode cX7_rank 5 = .ok (.aload_n 0, 1) := dk_42 (dk_at dksX7_rank_0 5 rfl rfl)
theorem dX7_rank_6 : decode cX7_rank 6 = .ok (.iload_n 1, 1) := dk_27 (dk_at dksX7_rank_0 6 rfl rfl)
theorem dX7_rank_7 : decode cX7_rank 7 = .ok (.iload_n 2, 1) := dk_28 (dk_at dksX7_rank_0 7 rfl rfl)
theorem dX7_rank_8 : decode cX7_rank 8 = .ok (.invokevirtual 232, 3) := dk_182 0 232 (dk_at dksX7_rank_0 8 rfl rfl)
theorem dX7_rank_11 : decode cX7_rank 11 = .ok (.ifCond .eq 10, 3) := dk_153 0 10 (dk_at dksX7_rank_0 11 rfl rfl)
theorem dX7_rank_14 : decode cX7_rank 14 = .ok (.iload_n 3, 1) := dk_29 (dk_at dksX7_rank_0 14 rfl rfl)
theorem dX7_rank_15 : decode cX7_rank 15 = .ok (.invokestatic 220, 3) := dk_184 0 220 (dk_at dksX7_rank_0 15 rfl rfl)
theorem dX7_rank_18 : decode cX7_rank 18 = .ok (.ifCond .ne 5, 3) := dk_154 0 5 (dk_at dksX7_rank_0 18 rfl rfl)
theorem dX7_rank_21 : decode cX7_rank 21 = .ok (.iconst (-1), 1) := dk_2 (dk_at dksX7_rank_0 21 rfl rfl)
theorem dX7_rank_22 : decode cX7_rank 22 = .ok (.ireturn, 1) := dk_172 (dk_at dksX7_rank_0 22 rfl rfl)
theorem dX7_rank_23 : decode cX7_rank 23 = .ok (.aload_n 0, 1) := dk_42 (dk_at dksX7_rank_0 23 rfl rfl)
theorem dX7_rank_24 : decode cX7_rank 24 = .ok (.iload_n 1, 1) := dk_27 (dk_at dksX7_rank_1 0 rfl rfl)
theorem dX7_rank_25 : decode cX7_rank 25 = .ok (.iload_n 2, 1) := dk_28 (dk_at dksX7_rank_1 1 rfl rfl)
theorem dX7_rank_26 : decode cX7_rank 26 = .ok (.iconst (-1), 1) := dk_2 (dk_at dksX7_rank_1 2 rfl rfl)
theorem dX7_rank_27 : decode cX7_rank 27 = .ok (.invokevirtual 252, 3) := dk_182 0 252 (dk_at dksX7_rank_1 3 rfl rfl)
theorem dX7_rank_30 : decode cX7_rank 30 = .ok (.aload_n 0, 1) := dk_42 (dk_at dksX7_rank_1 6 rfl rfl)
theorem dX7_rank_31 : decode cX7_rank 31 = .ok (.getfield 47, 3) := dk_180 0 47 (dk_at dksX7_rank_1 7 rfl rfl)
theorem dX7_rank_34 : decode cX7_rank 34 = .ok (.iload_n 3, 1) := dk_29 (dk_at dksX7_rank_1 10 rfl rfl)
theorem dX7_rank_35 : decode cX7_rank 35 = .ok (.iaload, 1) := dk_46 (dk_at dksX7_rank_1 11 rfl rfl)
theorem dX7_rank_36 : decode cX7_rank 36 = .ok (.ifCond .ne 8, 3) := dk_154 0 8 (dk_at dksX7_rank_1 12 rfl rfl)
theorem dX7_rank_39 : decode cX7_rank 39 = .ok (.bipush (-2), 2) := dk_16 254 (dk_at dksX7_rank_1 15 rfl rfl)
theorem dX7_rank_41 : decode cX7_rank 41 = .ok (.goto 12, 3) := dk_167 0 12 (dk_at dksX7_rank_1 17 rfl rfl)
theorem dX7_rank_44 : decode cX7_rank 44 = .ok (.aload_n 0, 1) := dk_42 (dk_at dksX7_rank_1 20 rfl rfl)
theorem dX7_rank_45 : decode cX7_rank 45 = .ok (.iload_n 3, 1) := dk_29 (dk_at dksX7_rank_1 21 rfl rfl)
theorem dX7_rank_46 : decode cX7_rank 46 = .ok (.aload_n 0, 1) := dk_42 (dk_at dksX7_rank_1 22 rfl rfl)
theorem dX7_rank_47 : decode cX7_rank 47 = .ok (.getfield 178, 3) := dk_180 0 178 (dk_at dksX7_rank_2 0 rfl rfl)
theorem dX7_rank_50 : decode cX7_rank 50 = .ok (.invokevirtual 249, 3) := dk_182 0 249 (dk_at dksX7_rank_2 3 rfl rfl)
theorem dX7_rank_53 : decode cX7_rank 53 = .ok (.ireturn, 1) := dk_172 (dk_at dksX7_rank_2 6 rfl rfl)
abbrev cX7_often : ByteArray := prog_19_method_60_code
def yX7_often : MethodName := ⟨RX7, "often", "(III)I"⟩
def dkwX7_often_1 : List UInt8 := [167, 0, 10, 42, 27, 28, 29, 182, 0, 190, 172]
abbrev dktX7_often_1 : List UInt8 := dkwX7_often_1 ++ []
def dkwX7_often_0 : List UInt8 := [42, 3, 181, 0, 72, 42, 27, 28, 182, 0, 232, 153, 0, 10, 29, 184, 0, 220, 154, 0, 7, 2]
abbrev dktX7_often_0 : List UInt8 := dkwX7_often_0 ++ dktX7_often_1
theorem dksX7_often_0 : cX7_often.data.toList.drop 0 = dktX7_often_0 := by decide +kernel
theorem dksX7_often_1 : cX7_often.data.toList.drop 22 = dktX7_often_1 := dk_seg dksX7_often_0 22 rfl rfl
theorem dX7_often_0 : decode cX7_often 0 = .ok (.aload_n 0, 1) := dk_42 (dk_at dksX7_often_0 0 rfl rfl)
theorem dX7_often_1 : decode cX7_often 1 = .ok (.iconst 0, 1) := dk_3 (dk_at dksX7_often_0 1 rfl rfl)
theorem dX7_often_2 : decode cX7_often 2 = .ok (.putfield 72, 3) := dk_181 0 72 (dk_at dksX7_often_0 2 rfl rfl)
theorem dX7_often_5 : decode cX7_often 5 = .ok (.aload_n 0, 1) := dk_42 (dk_at dksX7_often_0 5 rfl rfl)
theorem dX7_often_6 : decode cX7_often 6 = .ok (.iload_n 1, 1) := dk_27 (dk_at dksX7_often_0 6 rfl rfl)
theorem dX7_often_7 : decode cX7_often 7 = .ok (.iload_n 2, 1) := dk_28 (dk_at dksX7_often_0 7 rfl rfl)
theorem dX7_often_8 : decode cX7_often 8 = .ok (.invokevirtual 232, 3) := dk_182 0 232 (dk_at dksX7_often_0 8 rfl rfl)
theorem dX7_often_11 : decode cX7_often 11 = .ok (.ifCond .eq 10, 3) := dk_153 0 10 (dk_at dksX7_often_0 11 rfl rfl)
theorem dX7_often_14 : decode cX7_often 14 = .ok (.iload_n 3, 1) := dk_29 (dk_at dksX7_often_0 14 rfl rfl)
theorem dX7_often_15 : decode cX7_often 15 = .ok (.invokestatic 220, 3) := dk_184 0 220 (dk_at dksX7_often_0 15 rfl rfl)
theorem dX7_often_18 : decode cX7_often 18 = .ok (.ifCond .ne 7, 3) := dk_154 0 7 (dk_at dksX7_often_0 18 rfl rfl)
theorem dX7_often_21 : decode cX7_often 21 = .ok (.iconst (-1), 1) := dk_2 (dk_at dksX7_often_0 21 rfl rfl)
theorem dX7_often_22 : decode cX7_often 22 = .ok (.goto 10, 3) := dk_167 0 10 (dk_at dksX7_often_1 0 rfl rfl)
theorem dX7_often_25 : decode cX7_often 25 = .ok (.aload_n 0, 1) := dk_42 (dk_at dksX7_often_1 3 rfl rfl)
theorem dX7_often_26 : decode cX7_often 26 = .ok (.iload_n 1, 1) := dk_27 (dk_at dksX7_often_1 4 rfl rfl)
theorem dX7_often_27 : decode cX7_often 27 = .ok (.iload_n 2, 1) := dk_28 (dk_at dksX7_often_1 5 rfl rfl)
theorem dX7_often_28 : decode cX7_often 28 = .ok (.iload_n 3, 1) := dk_29 (dk_at dksX7_often_1 6 rfl rfl)
theorem dX7_often_29 : decode cX7_often 29 = .ok (.invokevirtual 190, 3) := dk_182 0 190 (dk_at dksX7_often_1 7 rfl rfl)
theorem dX7_often_32 : decode cX7_often 32 = .ok (.ireturn, 1) := dk_172 (dk_at dksX7_often_1 10 rfl rfl)
abbrev cX7_at : ByteArray := prog_19_method_61_code
def yX7_at : MethodName := ⟨RX7, "at", "(II)I"⟩
def dkwX7_at_2 : List UInt8 := [154, 0, 6, 21, 4, 172, 132, 3, 255, 132, 4, 1, 167, 255, 220, 16, 254, 172]
abbrev dktX7_at_2 : List UInt8 := dkwX7_at_2 ++ []
def dkwX7_at_1 : List UInt8 := [21, 4, 42, 180, 0, 175, 162, 0, 33, 42, 180, 0, 13, 21, 4, 46, 27, 159, 0, 6, 167, 0, 13, 29]
abbrev dktX7_at_1 : List UInt8 := dkwX7_at_1 ++ dktX7_at_2
def dkwX7_at_0 : List UInt8 := [42, 3, 181, 0, 72, 27, 184, 0, 220, 153, 0, 7, 28, 156, 0, 5, 2, 172, 28, 62, 3, 54, 4]
abbrev dktX7_at_0 : List UInt8 := dkwX7_at_0 ++ dktX7_at_1
theorem dksX7_at_0 : cX7_at.data.toList.drop 0 = dktX7_at_0 := by decide +kernel
theorem dksX7_at_1 : cX7_at.data.toList.drop 23 = dktX7_at_1 := dk_seg dksX7_at_0 23 rfl rfl
theorem dksX7_at_2 : cX7_at.data.toList.drop 47 = dktX7_at_2 := dk_seg dksX7_at_1 24 rfl rfl
theorem dX7_at_0 : decode cX7_at 0 = .ok (.aload_n 0, 1) := dk_42 (dk_at dksX7_at_0 0 rfl rfl)
theorem dX7_at_1 : decode cX7_at 1 = .ok (.iconst 0, 1) := dk_3 (dk_at dksX7_at_0 1 rfl rfl)
theorem dX7_at_2 : decode cX7_at 2 = .ok (.putfield 72, 3) := dk_181 0 72 (dk_at dksX7_at_0 2 rfl rfl)
theorem dX7_at_5 : decode cX7_at 5 = .ok (.iload_n 1, 1) := dk_27 (dk_at dksX7_at_0 5 rfl rfl)
theorem dX7_at_6 : decode cX7_at 6 = .ok (.invokestatic 220, 3) := dk_184 0 220 (dk_at dksX7_at_0 6 rfl rfl)
theorem dX7_at_9 : decode cX7_at 9 = .ok (.ifCond .eq 7, 3) := dk_153 0 7 (dk_at dksX7_at_0 9 rfl rfl)
theorem dX7_at_12 : decode cX7_at 12 = .ok (.iload_n 2, 1) := dk_28 (dk_at dksX7_at_0 12 rfl rfl)
theorem dX7_at_13 : decode cX7_at 13 = .ok (.ifCond .ge 5, 3) := dk_156 0 5 (dk_at dksX7_at_0 13 rfl rfl)
theorem dX7_at_16 : decode cX7_at 16 = .ok (.iconst (-1), 1) := dk_2 (dk_at dksX7_at_0 16 rfl rfl)
theorem dX7_at_17 : decode cX7_at 17 = .ok (.ireturn, 1) := dk_172 (dk_at dksX7_at_0 17 rfl rfl)
theorem dX7_at_18 : decode cX7_at 18 = .ok (.iload_n 2, 1) := dk_28 (dk_at dksX7_at_0 18 rfl rfl)
theorem dX7_at_19 : decode cX7_at 19 = .ok (.istore_n 3, 1) := dk_62 (dk_at dksX7_at_0 19 rfl rfl)
theorem dX7_at_20 : decode cX7_at 20 = .ok (.iconst 0, 1) := dk_3 (dk_at dksX7_at_0 20 rfl rfl)
theorem dX7_at_21 : decode cX7_at 21 = .ok (.istore 4, 2) := dk_54 4 (dk_at dksX7_at_0 21 rfl rfl)
theorem dX7_at_23 : decode cX7_at 23 = .ok (.iload 4, 2) := dk_21 4 (dk_at dksX7_at_1 0 rfl rfl)
theorem dX7_at_25 : decode cX7_at 25 = .ok (.aload_n 0, 1) := dk_42 (dk_at dksX7_at_1 2 rfl rfl)
theorem dX7_at_26 : decode cX7_at 26 = .ok (.getfield 175, 3) := dk_180 0 175 (dk_at dksX7_at_1 3 rfl rfl)
theorem dX7_at_29 : decode cX7_at 29 = .ok (.if_icmp .ge 33, 3) := dk_162 0 33 (dk_at dksX7_at_1 6 rfl rfl)
theorem dX7_at_32 : decode cX7_at 32 = .ok (.aload_n 0, 1) := dk_42 (dk_at dksX7_at_1 9 rfl rfl)
theorem dX7_at_33 : decode cX7_at 33 = .ok (.getfield 13, 3) := dk_180 0 13 (dk_at dksX7_at_1 10 rfl rfl)
theorem dX7_at_36 : decode cX7_at 36 = .ok (.iload 4, 2) := dk_21 4 (dk_at dksX7_at_1 13 rfl rfl)
theorem dX7_at_38 : decode cX7_at 38 = .ok (.iaload, 1) := dk_46 (dk_at dksX7_at_1 15 rfl rfl)
theorem dX7_at_39 : decode cX7_at 39 = .ok (.iload_n 1, 1) := dk_27 (dk_at dksX7_at_1 16 rfl rfl)
theorem dX7_at_40 : decode cX7_at 40 = .ok (.if_icmp .eq 6, 3) := dk_159 0 6 (dk_at dksX7_at_1 17 rfl rfl)
theorem dX7_at_43 : decode cX7_at 43 = .ok (.goto 13, 3) := dk_167 0 13 (dk_at dksX7_at_1 20 rfl rfl)
theorem dX7_at_46 : decode cX7_at 46 = .ok (.iload_n 3, 1) := dk_29 (dk_at dksX7_at_1 23 rfl rfl)
theorem dX7_at_47 : decode cX7_at 47 = .ok (.ifCond .ne 6, 3) := dk_154 0 6 (dk_at dksX7_at_2 0 rfl rfl)
theorem dX7_at_50 : decode cX7_at 50 = .ok (.iload 4, 2) := dk_21 4 (dk_at dksX7_at_2 3 rfl rfl)
theorem dX7_at_52 : decode cX7_at 52 = .ok (.ireturn, 1) := dk_172 (dk_at dksX7_at_2 5 rfl rfl)
theorem dX7_at_53 : decode cX7_at 53 = .ok (.iinc 3 (-1), 3) := dk_132 3 255 (dk_at dksX7_at_2 6 rfl rfl)
theorem dX7_at_56 : decode cX7_at 56 = .ok (.iinc 4 1, 3) := dk_132 4 1 (dk_at dksX7_at_2 9 rfl rfl)
theorem dX7_at_59 : decode cX7_at 59 = .ok (.goto (-36), 3) := dk_167 255 220 (dk_at dksX7_at_2 12 rfl rfl)
theorem dX7_at_62 : decode cX7_at 62 = .ok (.bipush (-2), 2) := dk_16 254 (dk_at dksX7_at_2 15 rfl rfl)
theorem dX7_at_64 : decode cX7_at 64 = .ok (.ireturn, 1) := dk_172 (dk_at dksX7_at_2 17 rfl rfl)
abbrev cX7_unlike : ByteArray := prog_19_method_62_code
def yX7_unlike : MethodName := ⟨RX7, "unlike", "(II)I"⟩
def dkwX7_unlike_1 : List UInt8 := [180, 0, 242, 172]
abbrev dktX7_unlike_1 : List UInt8 := dkwX7_unlike_1 ++ []
def dkwX7_unlike_0 : List UInt8 := [42, 3, 181, 0, 72, 42, 27, 28, 182, 0, 232, 154, 0, 5, 2, 172, 42, 27, 28, 2, 182, 0, 252, 42]
abbrev dktX7_unlike_0 : List UInt8 := dkwX7_unlike_0 ++ dktX7_unlike_1
theorem dksX7_unlike_0 : cX7_unlike.data.toList.drop 0 = dktX7_unlike_0 := by decide +kernel
theorem dksX7_unlike_1 : cX7_unlike.data.toList.drop 24 = dktX7_unlike_1 := dk_seg dksX7_unlike_0 24 rfl rfl
theorem dX7_unlike_0 : decode cX7_unlike 0 = .ok (.aload_n 0, 1) := dk_42 (dk_at dksX7_unlike_0 0 rfl rfl)
theorem dX7_unlike_1 : decode cX7_unlike 1 = .ok (.iconst 0, 1) := dk_3 (dk_at dksX7_unlike_0 1 rfl rfl)
theorem dX7_unlike_2 : decode cX7_unlike 2 = .ok (.putfield 72, 3) := dk_181 0 72 (dk_at dksX7_unlike_0 2 rfl rfl)
theorem dX7_unlike_5 : decode cX7_unlike 5 = .ok (.aload_n 0, 1) := dk_42 (dk_at dksX7_unlike_0 5 rfl rfl)
theorem dX7_unlike_6 : decode cX7_unlike 6 = .ok (.iload_n 1, 1) := dk_27 (dk_at dksX7_unlike_0 6 rfl rfl)
theorem dX7_unlike_7 : decode cX7_unlike 7 = .ok (.iload_n 2, 1) := dk_28 (dk_at dksX7_unlike_0 7 rfl rfl)
theorem dX7_unlike_8 : decode cX7_unlike 8 = .ok (.invokevirtual 232, 3) := dk_182 0 232 (dk_at dksX7_unlike_0 8 rfl rfl)
theorem dX7_unlike_11 : decode cX7_unlike 11 = .ok (.ifCond .ne 5, 3) := dk_154 0 5 (dk_at dksX7_unlike_0 11 rfl rfl)
theorem dX7_unlike_14 : decode cX7_unlike 14 = .ok (.iconst (-1), 1) := dk_2 (dk_at dksX7_unlike_0 14 rfl rfl)
theorem dX7_unlike_15 : decode cX7_unlike 15 = .ok (.ireturn, 1) := dk_172 (dk_at dksX7_unlike_0 15 rfl rfl)
theorem dX7_unlike_16 : decode cX7_unlike 16 = .ok (.aload_n 0, 1) := dk_42 (dk_at dksX7_unlike_0 16 rfl rfl)
theorem dX7_unlike_17 : decode cX7_unlike 17 = .ok (.iload_n 1, 1) := dk_27 (dk_at dksX7_unlike_0 17 rfl rfl)
theorem dX7_unlike_18 : decode cX7_unlike 18 = .ok (.iload_n 2, 1) := dk_28 (dk_at dksX7_unlike_0 18 rfl rfl)
theorem dX7_unlike_19 : decode cX7_unlike 19 = .ok (.iconst (-1), 1) := dk_2 (dk_at dksX7_unlike_0 19 rfl rfl)
theorem dX7_unlike_20 : decode cX7_unlike 20 = .ok (.invokevirtual 252, 3) := dk_182 0 252 (dk_at dksX7_unlike_0 20 rfl rfl)
theorem dX7_unlike_23 : decode cX7_unlike 23 = .ok (.aload_n 0, 1) := dk_42 (dk_at dksX7_unlike_0 23 rfl rfl)
theorem dX7_unlike_24 : decode cX7_unlike 24 = .ok (.getfield 242, 3) := dk_180 0 242 (dk_at dksX7_unlike_1 0 rfl rfl)
theorem dX7_unlike_27 : decode cX7_unlike 27 = .ok (.ireturn, 1) := dk_172 (dk_at dksX7_unlike_1 3 rfl rfl)
abbrev cX7_times : ByteArray := prog_19_method_63_code
def yX7_times : MethodName := ⟨RX7, "times", "(III)I"⟩
def dkwX7_times_3 : List UInt8 := [132, 5, 1, 167, 255, 218, 21, 4, 172]
abbrev dktX7_times_3 : List UInt8 := dkwX7_times_3 ++ []
def dkwX7_times_2 : List UInt8 := [180, 0, 47, 42, 180, 0, 56, 21, 5, 46, 46, 29, 160, 0, 7, 4, 167, 0, 4, 3, 96, 54, 4]
abbrev dktX7_times_2 : List UInt8 := dkwX7_times_2 ++ dktX7_times_3
def dkwX7_times_1 : List UInt8 := [2, 182, 0, 252, 3, 54, 4, 3, 54, 5, 21, 5, 42, 180, 0, 242, 162, 0, 35, 21, 4, 42]
abbrev dktX7_times_1 : List UInt8 := dkwX7_times_1 ++ dktX7_times_2
def dkwX7_times_0 : List UInt8 := [42, 3, 181, 0, 72, 42, 27, 28, 182, 0, 232, 153, 0, 8, 29, 4, 162, 0, 5, 2, 172, 42, 27, 28]
abbrev dktX7_times_0 : List UInt8 := dkwX7_times_0 ++ dktX7_times_1
theorem dksX7_times_0 : cX7_times.data.toList.drop 0 = dktX7_times_0 := by decide +kernel
theorem dksX7_times_1 : cX7_times.data.toList.drop 24 = dktX7_times_1 := dk_seg dksX7_times_0 24 rfl rfl
theorem dksX7_times_2 : cX7_times.data.toList.drop 46 = dktX7_times_2 := dk_seg dksX7_times_1 22 rfl rfl
theorem dksX7_times_3 : cX7_times.data.toList.drop 69 = dktX7_times_3 := dk_seg dksX7_times_2 23 rfl rfl
theorem dX7_times_0 : decode cX7_times 0 = .ok (.aload_n 0, 1) := dk_42 (dk_at dksX7_times_0 0 rfl rfl)
theorem dX7_times_1 : decode cX7_times 1 = .ok (.iconst 0, 1) := dk_3 (dk_at dksX7_times_0 1 rfl rfl)
theorem dX7_times_2 : decode cX7_times 2 = .ok (.putfield 72, 3) := dk_181 0 72 (dk_at dksX7_times_0 2 rfl rfl)
theorem dX7_times_5 : decode cX7_times 5 = .ok (.aload_n 0, 1) := dk_42 (dk_at dksX7_times_0 5 rfl rfl)
theorem dX7_times_6 : decode cX7_times 6 = .ok (.iload_n 1, 1) := dk_27 (dk_at dksX7_times_0 6 rfl rfl)
theorem dX7_times_7 : decode cX7_times 7 = .ok (.iload_n 2, 1) := dk_28 (dk_at dksX7_times_0 7 rfl rfl)
theorem dX7_times_8 : decode cX7_times 8 = .ok (.invokevirtual 232, 3) := dk_182 0 232 (dk_at dksX7_times_0 8 rfl rfl)
theorem dX7_times_11 : decode cX7_times 11 = .ok (.ifCond .eq 8, 3) := dk_153 0 8 (dk_at dksX7_times_0 11 rfl rfl)
theorem dX7_times_14 : decode cX7_times 14 = .ok (.iload_n 3, 1) := dk_29 (dk_at dksX7_times_0 14 rfl rfl)
theorem dX7_times_15 : decode cX7_times 15 = .ok (.iconst 1, 1) := dk_4 (dk_at dksX7_times_0 15 rfl rfl)
theorem dX7_times_16 : decode cX7_times 16 = .ok (.if_icmp .ge 5, 3) := dk_162 0 5 (dk_at dksX7_times_0 16 rfl rfl)
theorem dX7_times_19 : decode cX7_times 19 = .ok (.iconst (-1), 1) := dk_2 (dk_at dksX7_times_0 19 rfl rfl)
theorem dX7_times_20 : decode cX7_times 20 = .ok (.ireturn, 1) := dk_172 (dk_at dksX7_times_0 20 rfl rfl)
theorem dX7_times_21 : decode cX7_times 21 = .ok (.aload_n 0, 1) := dk_42 (dk_at dksX7_times_0 21 rfl rfl)
theorem dX7_times_22 : decode cX7_times 22 = .ok (.iload_n 1, 1) := dk_27 (dk_at dksX7_times_0 22 rfl rfl)
theorem dX7_times_23 : decode cX7_times 23 = .ok (.iload_n 2, 1) := dk_28 (dk_at dksX7_times_0 23 rfl rfl)
theorem dX7_times_24 : decode cX7_times 24 = .ok (.iconst (-1), 1) := dk_2 (dk_at dksX7_times_1 0 rfl rfl)
theorem dX7_times_25 : decode cX7_times 25 = .ok (.invokevirtual 252, 3) := dk_182 0 252 (dk_at dksX7_times_1 1 rfl rfl)
theorem dX7_times_28 : decode cX7_times 28 = .ok (.iconst 0, 1) := dk_3 (dk_at dksX7_times_1 4 rfl rfl)
theorem dX7_times_29 : decode cX7_times 29 = .ok (.istore 4, 2) := dk_54 4 (dk_at dksX7_times_1 5 rfl rfl)
theorem dX7_times_31 : decode cX7_times 31 = .ok (.iconst 0, 1) := dk_3 (dk_at dksX7_times_1 7 rfl rfl)
theorem dX7_times_32 : decode cX7_times 32 = .ok (.istore 5, 2) := dk_54 5 (dk_at dksX7_times_1 8 rfl rfl)
theorem dX7_times_34 : decode cX7_times 34 = .ok (.iload 5, 2) := dk_21 5 (dk_at dksX7_times_1 10 rfl rfl)
theorem dX7_times_36 : decode cX7_times 36 = .ok (.aload_n 0, 1) := dk_42 (dk_at dksX7_times_1 12 rfl rfl)
theorem dX7_times_37 : decode cX7_times 37 = .ok (.getfield 242, 3) := dk_180 0 242 (dk_at dksX7_times_1 13 rfl rfl)
theorem dX7_times_40 : decode cX7_times 40 = .ok (.if_icmp .ge 35, 3) := dk_162 0 35 (dk_at dksX7_times_1 16 rfl rfl)
theorem dX7_times_43 : decode cX7_times 43 = .ok (.iload 4, 2) := dk_21 4 (dk_at dksX7_times_1 19 rfl rfl)
theorem dX7_times_45 : decode cX7_times 45 = .ok (.aload_n 0, 1) := dk_42 (dk_at dksX7_times_1 21 rfl rfl)
theorem dX7_times_46 : decode cX7_times 46 = .ok (.getfield 47, 3) := dk_180 0 47 (dk_at dksX7_times_2 0 rfl rfl)
theorem dX7_times_49 : decode cX7_times 49 = .ok (.aload_n 0, 1) := dk_42 (dk_at dksX7_times_2 3 rfl rfl)
theorem dX7_times_50 : decode cX7_times 50 = .ok (.getfield 56, 3) := dk_180 0 56 (dk_at dksX7_times_2 4 rfl rfl)
theorem dX7_times_53 : decode cX7_times 53 = .ok (.iload 5, 2) := dk_21 5 (dk_at dksX7_times_2 7 rfl rfl)
theorem dX7_times_55 : decode cX7_times 55 = .ok (.iaload, 1) := dk_46 (dk_at dksX7_times_2 9 rfl rfl)
theorem dX7_times_56 : decode cX7_times 56 = .ok (.iaload, 1) := dk_46 (dk_at dksX7_times_2 10 rfl rfl)
theorem dX7_times_57 : decode cX7_times 57 = .ok (.iload_n 3, 1) := dk_29 (dk_at dksX7_times_2 11 rfl rfl)
theorem dX7_times_58 : decode cX7_times 58 = .ok (.if_icmp .ne 7, 3) := dk_160 0 7 (dk_at dksX7_times_2 12 rfl rfl)
theorem dX7_times_61 : decode cX7_times 61 = .ok (.iconst 1, 1) := dk_4 (dk_at dksX7_times_2 15 rfl rfl)
theorem dX7_times_62 : decode cX7_times 62 = .ok (.goto 4, 3) := dk_167 0 4 (dk_at dksX7_times_2 16 rfl rfl)
theorem dX7_times_65 : decode cX7_times 65 = .ok (.iconst 0, 1) := dk_3 (dk_at dksX7_times_2 19 rfl rfl)
theorem dX7_times_66 : decode cX7_times 66 = .ok (.iadd, 1) := dk_96 (dk_at dksX7_times_2 20 rfl rfl)
theorem dX7_times_67 : decode cX7_times 67 = .ok (.istore 4, 2) := dk_54 4 (dk_at dksX7_times_2 21 rfl rfl)
theorem dX7_times_69 : decode cX7_times 69 = .ok (.iinc 5 1, 3) := dk_132 5 1 (dk_at dksX7_times_3 0 rfl rfl)
theorem dX7_times_72 : decode cX7_times 72 = .ok (.goto (-38), 3) := dk_167 255 218 (dk_at dksX7_times_3 3 rfl rfl)
theorem dX7_times_75 : decode cX7_times 75 = .ok (.iload 4, 2) := dk_21 4 (dk_at dksX7_times_3 6 rfl rfl)
theorem dX7_times_77 : decode cX7_times 77 = .ok (.ireturn, 1) := dk_172 (dk_at dksX7_times_3 8 rfl rfl)
abbrev cX7_majority : ByteArray := prog_19_method_65_code
def yX7_majority : MethodName := ⟨RX7, "majority", "(II)I"⟩
def dkwX7_majority_1 : List UInt8 := [2, 160, 0, 8, 16, 254, 167, 0, 4, 29, 172]
abbrev dktX7_majority_1 : List UInt8 := dkwX7_majority_1 ++ []
def dkwX7_majority_0 : List UInt8 := [42, 3, 181, 0, 72, 42, 27, 28, 182, 0, 232, 154, 0, 5, 2, 172, 42, 27, 28, 182, 1, 13, 62, 29]
abbrev dktX7_majority_0 : List UInt8 := dkwX7_majority_0 ++ dktX7_majority_1
theorem dksX7_majority_0 : cX7_majority.data.toList.drop 0 = dktX7_majority_0 := by decide +kernel
theorem dksX7_majority_1 : cX7_majority.data.toList.drop 24 = dktX7_majority_1 := dk_seg dksX7_majority_0 24 rfl rfl
theorem dX7_majority_0 : decode cX7_majority 0 = .ok (.aload_n 0, 1) := dk_42 (dk_at dksX7_majority_0 0 rfl rfl)
theorem dX7_majority_1 : decode cX7_majority 1 = .ok (.iconst 0, 1) := dk_3 (dk_at dksX7_majority_0 1 rfl rfl)
theorem dX7_majority_2 : decode cX7_majority 2 = .ok (.putfield 72, 3) := dk_181 0 72 (dk_at dksX7_majority_0 2 rfl rfl)
theorem dX7_majority_5 : decode cX7_majority 5 = .ok (.aload_n 0, 1) := dk_42 (dk_at dksX7_majority_0 5 rfl rfl)
theorem dX7_majority_6 : decode cX7_majority 6 = .ok (.iload_n 1, 1) := dk_27 (dk_at dksX7_majority_0 6 rfl rfl)
theorem dX7_majority_7 : decode cX7_majority 7 = .ok (.iload_n 2, 1) := dk_28 (dk_at dksX7_majority_0 7 rfl rfl)
theorem dX7_majority_8 : decode cX7_majority 8 = .ok (.invokevirtual 232, 3) := dk_182 0 232 (dk_at dksX7_majority_0 8 rfl rfl)
theorem dX7_majority_11 : decode cX7_majority 11 = .ok (.ifCond .ne 5, 3) := dk_154 0 5 (dk_at dksX7_majority_0 11 rfl rfl)
theorem dX7_majority_14 : decode cX7_majority 14 = .ok (.iconst (-1), 1) := dk_2 (dk_at dksX7_majority_0 14 rfl rfl)
theorem dX7_majority_15 : decode cX7_majority 15 = .ok (.ireturn, 1) := dk_172 (dk_at dksX7_majority_0 15 rfl rfl)
theorem dX7_majority_16 : decode cX7_majority 16 = .ok (.aload_n 0, 1) := dk_42 (dk_at dksX7_majority_0 16 rfl rfl)
theorem dX7_majority_17 : decode cX7_majority 17 = .ok (.iload_n 1, 1) := dk_27 (dk_at dksX7_majority_0 17 rfl rfl)
theorem dX7_majority_18 : decode cX7_majority 18 = .ok (.iload_n 2, 1) := dk_28 (dk_at dksX7_majority_0 18 rfl rfl)
theorem dX7_majority_19 : decode cX7_majority 19 = .ok (.invokevirtual 269, 3) := dk_182 1 13 (dk_at dksX7_majority_0 19 rfl rfl)
theorem dX7_majority_22 : decode cX7_majority 22 = .ok (.istore_n 3, 1) := dk_62 (dk_at dksX7_majority_0 22 rfl rfl)
theorem dX7_majority_23 : decode cX7_majority 23 = .ok (.iload_n 3, 1) := dk_29 (dk_at dksX7_majority_0 23 rfl rfl)
theorem dX7_majority_24 : decode cX7_majority 24 = .ok (.iconst (-1), 1) := dk_2 (dk_at dksX7_majority_1 0 rfl rfl)
theorem dX7_majority_25 : decode cX7_majority 25 = .ok (.if_icmp .ne 8, 3) := dk_160 0 8 (dk_at dksX7_majority_1 1 rfl rfl)
theorem dX7_majority_28 : decode cX7_majority 28 = .ok (.bipush (-2), 2) := dk_16 254 (dk_at dksX7_majority_1 4 rfl rfl)
theorem dX7_majority_30 : decode cX7_majority 30 = .ok (.goto 4, 3) := dk_167 0 4 (dk_at dksX7_majority_1 6 rfl rfl)
theorem dX7_majority_33 : decode cX7_majority 33 = .ok (.iload_n 3, 1) := dk_29 (dk_at dksX7_majority_1 9 rfl rfl)
theorem dX7_majority_34 : decode cX7_majority 34 = .ok (.ireturn, 1) := dk_172 (dk_at dksX7_majority_1 10 rfl rfl)
abbrev cX7_majorityOf : ByteArray := prog_19_method_64_code
def yX7_majorityOf : MethodName := ⟨RX7, "majorityOf", "(II)I"⟩
def dkwX7_majorityOf_1 : List UInt8 := [167, 0, 4, 2, 172]
abbrev dktX7_majorityOf_1 : List UInt8 := dkwX7_majorityOf_1 ++ []
def dkwX7_majorityOf_0 : List UInt8 := [42, 27, 28, 182, 1, 4, 62, 5, 42, 180, 0, 47, 29, 46, 104, 28, 27, 100, 4, 96, 164, 0, 7, 29]
abbrev dktX7_majorityOf_0 : List UInt8 := dkwX7_majorityOf_0 ++ dktX7_majorityOf_1
theorem dksX7_majorityOf_0 : cX7_majorityOf.data.toList.drop 0 = dktX7_majorityOf_0 := by decide +kernel
theorem dksX7_majorityOf_1 : cX7_majorityOf.data.toList.drop 24 = dktX7_majorityOf_1 := dk_seg dksX7_majorityOf_0 24 rfl rfl
theorem dX7_majorityOf_0 : decode cX7_majorityOf 0 = .ok (.aload_n 0, 1) := dk_42 (dk_at dksX7_majorityOf_0 0 rfl rfl)
theorem dX7_majorityOf_1 : decode cX7_majorityOf 1 = .ok (.iload_n 1, 1) := dk_27 (dk_at dksX7_majorityOf_0 1 rfl rfl)
theorem dX7_majorityOf_2 : decode cX7_majorityOf 2 = .ok (.iload_n 2, 1) := dk_28 (dk_at dksX7_majorityOf_0 2 rfl rfl)
theorem dX7_majorityOf_3 : decode cX7_majorityOf 3 = .ok (.invokevirtual 260, 3) := dk_182 1 4 (dk_at dksX7_majorityOf_0 3 rfl rfl)
theorem dX7_majorityOf_6 : decode cX7_majorityOf 6 = .ok (.istore_n 3, 1) := dk_62 (dk_at dksX7_majorityOf_0 6 rfl rfl)
theorem dX7_majorityOf_7 : decode cX7_majorityOf 7 = .ok (.iconst 2, 1) := dk_5 (dk_at dksX7_majorityOf_0 7 rfl rfl)
theorem dX7_majorityOf_8 : decode cX7_majorityOf 8 = .ok (.aload_n 0, 1) := dk_42 (dk_at dksX7_majorityOf_0 8 rfl rfl)
theorem dX7_majorityOf_9 : decode cX7_majorityOf 9 = .ok (.getfield 47, 3) := dk_180 0 47 (dk_at dksX7_majorityOf_0 9 rfl rfl)
theorem dX7_majorityOf_12 : decode cX7_majorityOf 12 = .ok (.iload_n 3, 1) := dk_29 (dk_at dksX7_majorityOf_0 12 rfl rfl)
theorem dX7_majorityOf_13 : decode cX7_majorityOf 13 = .ok (.iaload, 1) := dk_46 (dk_at dksX7_majorityOf_0 13 rfl rfl)
theorem dX7_majorityOf_14 : decode cX7_majorityOf 14 = .ok (.imul, 1) := dk_104 (dk_at dksX7_majorityOf_0 14 rfl rfl)
theorem dX7_majorityOf_15 : decode cX7_majorityOf 15 = .ok (.iload_n 2, 1) := dk_28 (dk_at dksX7_majorityOf_0 15 rfl rfl)
theorem dX7_majorityOf_16 : decode cX7_majorityOf 16 = .ok (.iload_n 1, 1) := dk_27 (dk_at dksX7_majorityOf_0 16 rfl rfl)
theorem dX7_majorityOf_17 : decode cX7_majorityOf 17 = .ok (.isub, 1) := dk_100 (dk_at dksX7_majorityOf_0 17 rfl rfl)
theorem dX7_majorityOf_18 : decode cX7_majorityOf 18 = .ok (.iconst 1, 1) := dk_4 (dk_at dksX7_majorityOf_0 18 rfl rfl)
theorem dX7_majorityOf_19 : decode cX7_majorityOf 19 = .ok (.iadd, 1) := dk_96 (dk_at dksX7_majorityOf_0 19 rfl rfl)
theorem dX7_majorityOf_20 : decode cX7_majorityOf 20 = .ok (.if_icmp .le 7, 3) := dk_164 0 7 (dk_at dksX7_majorityOf_0 20 rfl rfl)
theorem dX7_majorityOf_23 : decode cX7_majorityOf 23 = .ok (.iload_n 3, 1) := dk_29 (dk_at dksX7_majorityOf_0 23 rfl rfl)
theorem dX7_majorityOf_24 : decode cX7_majorityOf 24 = .ok (.goto 4, 3) := dk_167 0 4 (dk_at dksX7_majorityOf_1 0 rfl rfl)
theorem dX7_majorityOf_27 : decode cX7_majorityOf 27 = .ok (.iconst (-1), 1) := dk_2 (dk_at dksX7_majorityOf_1 3 rfl rfl)
theorem dX7_majorityOf_28 : decode cX7_majorityOf 28 = .ok (.ireturn, 1) := dk_172 (dk_at dksX7_majorityOf_1 4 rfl rfl)
abbrev cX7_heaviest : ByteArray := prog_19_method_67_code
def yX7_heaviest : MethodName := ⟨RX7, "heaviest", "(III)I"⟩
def dkwX7_heaviest_6 : List UInt8 := [21, 5, 172]
abbrev dktX7_heaviest_6 : List UInt8 := dkwX7_heaviest_6 ++ []
def dkwX7_heaviest_5 : List UInt8 := [21, 7, 54, 4, 21, 8, 54, 5, 132, 6, 1, 167, 255, 167, 29, 154, 0, 8, 21, 4, 167, 0, 5]
abbrev dktX7_heaviest_5 : List UInt8 := dkwX7_heaviest_5 ++ dktX7_heaviest_6
def dkwX7_heaviest_4 : List UInt8 := [180, 0, 178, 182, 0, 245, 153, 0, 7, 4, 167, 0, 4, 3, 54, 9, 21, 9, 154, 0, 6, 167, 0, 11]
abbrev dktX7_heaviest_4 : List UInt8 := dkwX7_heaviest_4 ++ dktX7_heaviest_5
def dkwX7_heaviest_3 : List UInt8 := [2, 159, 0, 32, 21, 8, 21, 5, 163, 0, 25, 21, 8, 21, 5, 160, 0, 22, 42, 21, 7, 21, 4, 42]
abbrev dktX7_heaviest_3 : List UInt8 := dkwX7_heaviest_3 ++ dktX7_heaviest_4
def dkwX7_heaviest_2 : List UInt8 := [162, 0, 86, 42, 180, 0, 56, 21, 6, 46, 54, 7, 42, 27, 28, 21, 7, 182, 1, 16, 54, 8, 21, 4]
abbrev dktX7_heaviest_2 : List UInt8 := dkwX7_heaviest_2 ++ dktX7_heaviest_3
def dkwX7_heaviest_1 : List UInt8 := [172, 42, 27, 28, 2, 182, 0, 252, 2, 54, 4, 3, 54, 5, 3, 54, 6, 21, 6, 42, 180, 0, 242]
abbrev dktX7_heaviest_1 : List UInt8 := dkwX7_heaviest_1 ++ dktX7_heaviest_2
def dkwX7_heaviest_0 : List UInt8 := [42, 3, 181, 0, 72, 42, 27, 28, 182, 0, 232, 153, 0, 12, 29, 155, 0, 8, 29, 4, 164, 0, 5, 2]
abbrev dktX7_heaviest_0 : List UInt8 := dkwX7_heaviest_0 ++ dktX7_heaviest_1
theorem dksX7_heaviest_0 : cX7_heaviest.data.toList.drop 0 = dktX7_heaviest_0 := by decide +kernel
theorem dksX7_heaviest_1 : cX7_heaviest.data.toList.drop 24 = dktX7_heaviest_1 := dk_seg dksX7_heaviest_0 24 rfl rfl
theorem dksX7_heaviest_2 : cX7_heaviest.data.toList.drop 47 = dktX7_heaviest_2 := dk_seg dksX7_heaviest_1 23 rfl rfl
theorem dksX7_heaviest_3 : cX7_heaviest.data.toList.drop 71 = dktX7_heaviest_3 := dk_seg dksX7_heaviest_2 24 rfl rfl
theorem dksX7_heaviest_4 : cX7_heaviest.data.toList.drop 95 = dktX7_heaviest_4 := dk_seg dksX7_heaviest_3 24 rfl rfl
theorem dksX7_heaviest_5 : cX7_heaviest.data.toList.drop 119 = dktX7_heaviest_5 := dk_seg dksX7_heaviest_4 24 rfl rfl
theorem dksX7_heaviest_6 : cX7_heaviest.data.toList.drop 142 = dktX7_heaviest_6 := dk_seg dksX7_heaviest_5 23 rfl rfl
theorem dX7_heaviest_0 : decode cX7_heaviest 0 = .ok (.aload_n 0, 1) := dk_42 (dk_at dksX7_heaviest_0 0 rfl rfl)
theorem dX7_heaviest_1 : decode cX7_heaviest 1 = .ok (.iconst 0, 1) := dk_3 (dk_at dksX7_heaviest_0 1 rfl rfl)
theorem dX7_heaviest_2 : decode cX7_heaviest 2 = .ok (.putfield 72, 3) := dk_181 0 72 (dk_at dksX7_heaviest_0 2 rfl rfl)
theorem dX7_heaviest_5 : decode cX7_heaviest 5 = .ok (.aload_n 0, 1) := dk_42 (dk_at dksX7_heaviest_0 5 rfl rfl)
theorem dX7_heaviest_6 : decode cX7_heaviest 6 = .ok (.iload_n 1, 1) := dk_27 (dk_at dksX7_heaviest_0 6 rfl rfl)
theorem dX7_heaviest_7 : decode cX7_heaviest 7 = .ok (.iload_n 2, 1) := dk_28 (dk_at dksX7_heaviest_0 7 rfl rfl)
theorem dX7_heaviest_8 : decode cX7_heaviest 8 = .ok (.invokevirtual 232, 3) := dk_182 0 232 (dk_at dksX7_heaviest_0 8 rfl rfl)
theorem dX7_heaviest_11 : decode cX7_heaviest 11 = .ok (.ifCond .eq 12, 3) := dk_153 0 12 (dk_at dksX7_heaviest_0 11 rfl rfl)
theorem dX7_heaviest_14 : decode cX7_heaviest 14 = .ok (.iload_n 3, 1) := dk_29 (dk_at dksX7_heaviest_0 14 rfl rfl)
theorem dX7_heaviest_15 : decode cX7_heaviest 15 = .ok (.ifCond .lt 8, 3) := dk_155 0 8 (dk_at dksX7_heaviest_0 15 rfl rfl)
theorem dX7_heaviest_18 : decode cX7_heaviest 18 = .ok (.iload_n 3, 1) := dk_29 (dk_at dksX7_heaviest_0 18 rfl rfl)
theorem dX7_heaviest_19 : decode cX7_heaviest 19 = .ok (.iconst 1, 1) := dk_4 (dk_at dksX7_heaviest_0 19 rfl rfl)
theorem dX7_heaviest_20 : decode cX7_heaviest 20 = .ok (.if_icmp .le 5, 3) := dk_164 0 5 (dk_at dksX7_heaviest_0 20 rfl rfl)
theorem dX7_heaviest_23 : decode cX7_heaviest 23 = .ok (.iconst (-1), 1) := dk_2 (dk_at dksX7_heaviest_0 23 rfl rfl)
theorem dX7_heaviest_24 : decode cX7_heaviest 24 = .ok (.ireturn, 1) := dk_172 (dk_at dksX7_heaviest_1 0 rfl rfl)
theorem dX7_heaviest_25 : decode cX7_heaviest 25 = .ok (.aload_n 0, 1) := dk_42 (dk_at dksX7_heaviest_1 1 rfl rfl)
theorem dX7_heaviest_26 : decode cX7_heaviest 26 = .ok (.iload_n 1, 1) := dk_27 (dk_at dksX7_heaviest_1 2 rfl rfl)
theorem dX7_heaviest_27 : decode cX7_heaviest 27 = .ok (.iload_n 2, 1) := dk_28 (dk_at dksX7_heaviest_1 3 rfl rfl)
theorem dX7_heaviest_28 : decode cX7_heaviest 28 = .ok (.iconst (-1), 1) := dk_2 (dk_at dksX7_heaviest_1 4 rfl rfl)
theorem dX7_heaviest_29 : decode cX7_heaviest 29 = .ok (.invokevirtual 252, 3) := dk_182 0 252 (dk_at dksX7_heaviest_1 5 rfl rfl)
theorem dX7_heaviest_32 : decode cX7_heaviest 32 = .ok (.iconst (-1), 1) := dk_2 (dk_at dksX7_heaviest_1 8 rfl rfl)
theorem dX7_heaviest_33 : decode cX7_heaviest 33 = .ok (.istore 4, 2) := dk_54 4 (dk_at dksX7_heaviest_1 9 rfl rfl)
theorem dX7_heaviest_35 : decode cX7_heaviest 35 = .ok (.iconst 0, 1) := dk_3 (dk_at dksX7_heaviest_1 11 rfl rfl)
theorem dX7_heaviest_36 : decode cX7_heaviest 36 = .ok (.istore 5, 2) := dk_54 5 (dk_at dksX7_heaviest_1 12 rfl rfl)
theorem dX7_heaviest_38 : decode cX7_heaviest 38 = .ok (.iconst 0, 1) := dk_3 (dk_at dksX7_heaviest_1 14 rfl rfl)
theorem dX7_heaviest_39 : decode cX7_heaviest 39 = .ok (.istore 6, 2) := dk_54 6 (dk_at dksX7_heaviest_1 15 rfl rfl)
theorem dX7_heaviest_41 : decode cX7_heaviest 41 = .ok (.iload 6, 2) := dk_21 6 (dk_at dksX7_heaviest_1 17 rfl rfl)
theorem dX7_heaviest_43 : decode cX7_heaviest 43 = .ok (.aload_n 0, 1) := dk_42 (dk_at dksX7_heaviest_1 19 rfl rfl)
theorem dX7_heaviest_44 : decode cX7_heaviest 44 = .ok (.getfield 242, 3) := dk_180 0 242 (dk_at dksX7_heaviest_1 20 rfl rfl)
theorem dX7_heaviest_47 : decode cX7_heaviest 47 = .ok (.if_icmp .ge 86, 3) := dk_162 0 86 (dk_at dksX7_heaviest_2 0 rfl rfl)
theorem dX7_heaviest_50 : decode cX7_heaviest 50 = .ok (.aload_n 0, 1) := dk_42 (dk_at dksX7_heaviest_2 3 rfl rfl)
theorem dX7_heaviest_51 : decode cX7_heaviest 51 = .ok (.getfield 56, 3) := dk_180 0 56 (dk_at dksX7_heaviest_2 4 rfl rfl)
theorem dX7_heaviest_54 : decode cX7_heaviest 54 = .ok (.iload 6, 2) := dk_21 6 (dk_at dksX7_heaviest_2 7 rfl rfl)
theorem dX7_heaviest_56 : decode cX7_heaviest 56 = .ok (.iaload, 1) := dk_46 (dk_at dksX7_heaviest_2 9 rfl rfl)
theorem dX7_heaviest_57 : decode cX7_heaviest 57 = .ok (.istore 7, 2) := dk_54 7 (dk_at dksX7_heaviest_2 10 rfl rfl)
theorem dX7_heaviest_59 : decode cX7_heaviest 59 = .ok (.aload_n 0, 1) := dk_42 (dk_at dksX7_heaviest_2 12 rfl rfl)
theorem dX7_heaviest_60 : decode cX7_heaviest 60 = .ok (.iload_n 1, 1) := dk_27 (dk_at dksX7_heaviest_2 13 rfl rfl)
theorem dX7_heaviest_61 : decode cX7_heaviest 61 = .ok (.iload_n 2, 1) := dk_28 (dk_at dksX7_heaviest_2 14 rfl rfl)
theorem dX7_heaviest_62 : decode cX7_heaviest 62 = .ok (.iload 7, 2) := dk_21 7 (dk_at dksX7_heaviest_2 15 rfl rfl)
theorem dX7_heaviest_64 : decode cX7_heaviest 64 = .ok (.invokevirtual 272, 3) := dk_182 1 16 (dk_at dksX7_heaviest_2 17 rfl rfl)
theorem dX7_heaviest_67 : decode cX7_heaviest 67 = .ok (.istore 8, 2) := dk_54 8 (dk_at dksX7_heaviest_2 20 rfl rfl)
theorem dX7_heaviest_69 : decode cX7_heaviest 69 = .ok (.iload 4, 2) := dk_21 4 (dk_at dksX7_heaviest_2 22 rfl rfl)
theorem dX7_heaviest_71 : decode cX7_heaviest 71 = .ok (.iconst (-1), 1) := dk_2 (dk_at dksX7_heaviest_3 0 rfl rfl)
theorem dX7_heaviest_72 : decode cX7_heaviest 72 = .ok (.if_icmp .eq 32, 3) := dk_159 0 32 (dk_at dksX7_heaviest_3 1 rfl rfl)
theorem dX7_heaviest_75 : decode cX7_heaviest 75 = .ok (.iload 8, 2) := dk_21 8 (dk_at dksX7_heaviest_3 4 rfl rfl)
theorem dX7_heaviest_77 : decode cX7_heaviest 77 = .ok (.iload 5, 2) := dk_21 5 (dk_at dksX7_heaviest_3 6 rfl rfl)
theorem dX7_heaviest_79 : decode cX7_heaviest 79 = .ok (.if_icmp .gt 25, 3) := dk_163 0 25 (dk_at dksX7_heaviest_3 8 rfl rfl)
theorem dX7_heaviest_82 : decode cX7_heaviest 82 = .ok (.iload 8, 2) := dk_21 8 (dk_at dksX7_heaviest_3 11 rfl rfl)
theorem dX7_heaviest_84 : decode cX7_heaviest 84 = .ok (.iload 5, 2) := dk_21 5 (dk_at dksX7_heaviest_3 13 rfl rfl)
theorem dX7_heaviest_86 : decode cX7_heaviest 86 = .ok (.if_icmp .ne 22, 3) := dk_160 0 22 (dk_at dksX7_heaviest_3 15 rfl rfl)
theorem dX7_heaviest_89 : decode cX7_heaviest 89 = .ok (.aload_n 0, 1) := dk_42 (dk_at dksX7_heaviest_3 18 rfl rfl)
theorem dX7_heaviest_90 : decode cX7_heaviest 90 = .ok (.iload 7, 2) := dk_21 7 (dk_at dksX7_heaviest_3 19 rfl rfl)
theorem dX7_heaviest_92 : decode cX7_heaviest 92 = .ok (.iload 4, 2) := dk_21 4 (dk_at dksX7_heaviest_3 21 rfl rfl)
theorem dX7_heaviest_94 : decode cX7_heaviest 94 = .ok (.aload_n 0, 1) := dk_42 (dk_at dksX7_heaviest_3 23 rfl rfl)
theorem dX7_heaviest_95 : decode cX7_heaviest 95 = .ok (.getfield 178, 3) := dk_180 0 178 (dk_at dksX7_heaviest_4 0 rfl rfl)
theorem dX7_heaviest_98 : decode cX7_heaviest 98 = .ok (.invokevirtual 245, 3) := dk_182 0 245 (dk_at dksX7_heaviest_4 3 rfl rfl)
theorem dX7_heaviest_101 : decode cX7_heaviest 101 = .ok (.ifCond .eq 7, 3) := dk_153 0 7 (dk_at dksX7_heaviest_4 6 rfl rfl)
theorem dX7_heaviest_104 : decode cX7_heaviest 104 = .ok (.iconst 1, 1) := dk_4 (dk_at dksX7_heaviest_4 9 rfl rfl)
theorem dX7_heaviest_105 : decode cX7_heaviest 105 = .ok (.goto 4, 3) := dk_167 0 4 (dk_at dksX7_heaviest_4 10 rfl rfl)
theorem dX7_heaviest_108 : decode cX7_heaviest 108 = .ok (.iconst 0, 1) := dk_3 (dk_at dksX7_heaviest_4 13 rfl rfl)
theorem dX7_heaviest_109 : decode cX7_heaviest 109 = .ok (.istore 9, 2) := dk_54 9 (dk_at dksX7_heaviest_4 14 rfl rfl)
theorem dX7_heaviest_111 : decode cX7_heaviest 111 = .ok (.iload 9, 2) := dk_21 9 (dk_at dksX7_heaviest_4 16 rfl rfl)
theorem dX7_heaviest_113 : decode cX7_heaviest 113 = .ok (.ifCond .ne 6, 3) := dk_154 0 6 (dk_at dksX7_heaviest_4 18 rfl rfl)
theorem dX7_heaviest_116 : decode cX7_heaviest 116 = .ok (.goto 11, 3) := dk_167 0 11 (dk_at dksX7_heaviest_4 21 rfl rfl)
theorem dX7_heaviest_119 : decode cX7_heaviest 119 = .ok (.iload 7, 2) := dk_21 7 (dk_at dksX7_heaviest_5 0 rfl rfl)
theorem dX7_heaviest_121 : decode cX7_heaviest 121 = .ok (.istore 4, 2) := dk_54 4 (dk_at dksX7_heaviest_5 2 rfl rfl)
theorem dX7_heaviest_123 : decode cX7_heaviest 123 = .ok (.iload 8, 2) := dk_21 8 (dk_at dksX7_heaviest_5 4 rfl rfl)
theorem dX7_heaviest_125 : decode cX7_heaviest 125 = .ok (.istore 5, 2) := dk_54 5 (dk_at dksX7_heaviest_5 6 rfl rfl)
theorem dX7_heaviest_127 : decode cX7_heaviest 127 = .ok (.iinc 6 1, 3) := dk_132 6 1 (dk_at dksX7_heaviest_5 8 rfl rfl)
theorem dX7_heaviest_130 : decode cX7_heaviest 130 = .ok (.goto (-89), 3) := dk_167 255 167 (dk_at dksX7_heaviest_5 11 rfl rfl)
theorem dX7_heaviest_133 : decode cX7_heaviest 133 = .ok (.iload_n 3, 1) := dk_29 (dk_at dksX7_heaviest_5 14 rfl rfl)
theorem dX7_heaviest_134 : decode cX7_heaviest 134 = .ok (.ifCond .ne 8, 3) := dk_154 0 8 (dk_at dksX7_heaviest_5 15 rfl rfl)
theorem dX7_heaviest_137 : decode cX7_heaviest 137 = .ok (.iload 4, 2) := dk_21 4 (dk_at dksX7_heaviest_5 18 rfl rfl)
theorem dX7_heaviest_139 : decode cX7_heaviest 139 = .ok (.goto 5, 3) := dk_167 0 5 (dk_at dksX7_heaviest_5 20 rfl rfl)
theorem dX7_heaviest_142 : decode cX7_heaviest 142 = .ok (.iload 5, 2) := dk_21 5 (dk_at dksX7_heaviest_6 0 rfl rfl)
theorem dX7_heaviest_144 : decode cX7_heaviest 144 = .ok (.ireturn, 1) := dk_172 (dk_at dksX7_heaviest_6 2 rfl rfl)
abbrev cX7_weightsOf : ByteArray := prog_19_method_66_code
def yX7_weightsOf : MethodName := ⟨RX7, "weightsOf", "(III)I"⟩
def dkwX7_weightsOf_2 : List UInt8 := [21, 4, 172]
abbrev dktX7_weightsOf_2 : List UInt8 := dkwX7_weightsOf_2 ++ []
def dkwX7_weightsOf_1 : List UInt8 := [160, 0, 13, 42, 180, 0, 16, 21, 5, 46, 167, 0, 4, 3, 96, 54, 4, 132, 5, 1, 167, 255, 220]
abbrev dktX7_weightsOf_1 : List UInt8 := dkwX7_weightsOf_1 ++ dktX7_weightsOf_2
def dkwX7_weightsOf_0 : List UInt8 := [3, 54, 4, 27, 54, 5, 21, 5, 28, 163, 0, 36, 21, 4, 42, 180, 0, 13, 21, 5, 46, 29]
abbrev dktX7_weightsOf_0 : List UInt8 := dkwX7_weightsOf_0 ++ dktX7_weightsOf_1
theorem dksX7_weightsOf_0 : cX7_weightsOf.data.toList.drop 0 = dktX7_weightsOf_0 := by decide +kernel
theorem dksX7_weightsOf_1 : cX7_weightsOf.data.toList.drop 22 = dktX7_weightsOf_1 := dk_seg dksX7_weightsOf_0 22 rfl rfl
theorem dksX7_weightsOf_2 : cX7_weightsOf.data.toList.drop 45 = dktX7_weightsOf_2 := dk_seg dksX7_weightsOf_1 23 rfl rfl
theorem dX7_weightsOf_0 : decode cX7_weightsOf 0 = .ok (.iconst 0, 1) := dk_3 (dk_at dksX7_weightsOf_0 0 rfl rfl)
theorem dX7_weightsOf_1 : decode cX7_weightsOf 1 = .ok (.istore 4, 2) := dk_54 4 (dk_at dksX7_weightsOf_0 1 rfl rfl)
theorem dX7_weightsOf_3 : decode cX7_weightsOf 3 = .ok (.iload_n 1, 1) := dk_27 (dk_at dksX7_weightsOf_0 3 rfl rfl)
theorem dX7_weightsOf_4 : decode cX7_weightsOf 4 = .ok (.istore 5, 2) := dk_54 5 (dk_at dksX7_weightsOf_0 4 rfl rfl)
theorem dX7_weightsOf_6 : decode cX7_weightsOf 6 = .ok (.iload 5, 2) := dk_21 5 (dk_at dksX7_weightsOf_0 6 rfl rfl)
theorem dX7_weightsOf_8 : decode cX7_weightsOf 8 = .ok (.iload_n 2, 1) := dk_28 (dk_at dksX7_weightsOf_0 8 rfl rfl)
theorem dX7_weightsOf_9 : decode cX7_weightsOf 9 = .ok (.if_icmp .gt 36, 3) := dk_163 0 36 (dk_at dksX7_weightsOf_0 9 rfl rfl)
theorem dX7_weightsOf_12 : decode cX7_weightsOf 12 = .ok (.iload 4, 2) := dk_21 4 (dk_at dksX7_weightsOf_0 12 rfl rfl)
theorem dX7_weightsOf_14 : decode cX7_weightsOf 14 = .ok (.aload_n 0, 1) := dk_42 (dk_at dksX7_weightsOf_0 14 rfl rfl)
theorem dX7_weightsOf_15 : decode cX7_weightsOf 15 = .ok (.getfield 13, 3) := dk_180 0 13 (dk_at dksX7_weightsOf_0 15 rfl rfl)
theorem dX7_weightsOf_18 : decode cX7_weightsOf 18 = .ok (.iload 5, 2) := dk_21 5 (dk_at dksX7_weightsOf_0 18 rfl rfl)
theorem dX7_weightsOf_20 : decode cX7_weightsOf 20 = .ok (.iaload, 1) := dk_46 (dk_at dksX7_weightsOf_0 20 rfl rfl)
theorem dX7_weightsOf_21 : decode cX7_weightsOf 21 = .ok (.iload_n 3, 1) := dk_29 (dk_at dksX7_weightsOf_0 21 rfl rfl)
theorem dX7_weightsOf_22 : decode cX7_weightsOf 22 = .ok (.if_icmp .ne 13, 3) := dk_160 0 13 (dk_at dksX7_weightsOf_1 0 rfl rfl)
theorem dX7_weightsOf_25 : decode cX7_weightsOf 25 = .ok (.aload_n 0, 1) := dk_42 (dk_at dksX7_weightsOf_1 3 rfl rfl)
theorem dX7_weightsOf_26 : decode cX7_weightsOf 26 = .ok (.getfield 16, 3) := dk_180 0 16 (dk_at dksX7_weightsOf_1 4 rfl rfl)
theorem dX7_weightsOf_29 : decode cX7_weightsOf 29 = .ok (.iload 5, 2) := dk_21 5 (dk_at dksX7_weightsOf_1 7 rfl rfl)
theorem dX7_weightsOf_31 : decode cX7_weightsOf 31 = .ok (.iaload, 1) := dk_46 (dk_at dksX7_weightsOf_1 9 rfl rfl)
theorem dX7_weightsOf_32 : decode cX7_weightsOf 32 = .ok (.goto 4, 3) := dk_167 0 4 (dk_at dksX7_weightsOf_1 10 rfl rfl)
theorem dX7_weightsOf_35 : decode cX7_weightsOf 35 = .ok (.iconst 0, 1) := dk_3 (dk_at dksX7_weightsOf_1 13 rfl rfl)
theorem dX7_weightsOf_36 : decode cX7_weightsOf 36 = .ok (.iadd, 1) := dk_96 (dk_at dksX7_weightsOf_1 14 rfl rfl)
theorem dX7_weightsOf_37 : decode cX7_weightsOf 37 = .ok (.istore 4, 2) := dk_54 4 (dk_at dksX7_weightsOf_1 15 rfl rfl)
theorem dX7_weightsOf_39 : decode cX7_weightsOf 39 = .ok (.iinc 5 1, 3) := dk_132 5 1 (dk_at dksX7_weightsOf_1 17 rfl rfl)
theorem dX7_weightsOf_42 : decode cX7_weightsOf 42 = .ok (.goto (-36), 3) := dk_167 255 220 (dk_at dksX7_weightsOf_1 20 rfl rfl)
theorem dX7_weightsOf_45 : decode cX7_weightsOf 45 = .ok (.iload 4, 2) := dk_21 4 (dk_at dksX7_weightsOf_2 0 rfl rfl)
theorem dX7_weightsOf_47 : decode cX7_weightsOf 47 = .ok (.ireturn, 1) := dk_172 (dk_at dksX7_weightsOf_2 2 rfl rfl)
abbrev cX7_pair : ByteArray := prog_19_method_69_code
def yX7_pair : MethodName := ⟨RX7, "pair", "(III)I"⟩
def dkwX7_pair_2 : List UInt8 := [182, 1, 4, 29, 182, 1, 7, 172]
abbrev dktX7_pair_2 : List UInt8 := dkwX7_pair_2 ++ []
def dkwX7_pair_1 : List UInt8 := [155, 0, 8, 29, 4, 164, 0, 5, 2, 172, 42, 42, 42, 180, 0, 69, 27, 104, 42, 28, 182, 1, 22]
abbrev dktX7_pair_1 : List UInt8 := dkwX7_pair_1 ++ dktX7_pair_2
def dkwX7_pair_0 : List UInt8 := [42, 3, 181, 0, 72, 27, 155, 0, 25, 28, 27, 161, 0, 20, 28, 42, 182, 1, 19, 162, 0, 12, 29]
abbrev dktX7_pair_0 : List UInt8 := dkwX7_pair_0 ++ dktX7_pair_1
theorem dksX7_pair_0 : cX7_pair.data.toList.drop 0 = dktX7_pair_0 := by decide +kernel
theorem dksX7_pair_1 : cX7_pair.data.toList.drop 23 = dktX7_pair_1 := dk_seg dksX7_pair_0 23 rfl rfl
theorem dksX7_pair_2 : cX7_pair.data.toList.drop 46 = dktX7_pair_2 := dk_seg dksX7_pair_1 23 rfl rfl
theorem dX7_pair_0 : decode cX7_pair 0 = .ok (.aload_n 0, 1) := dk_42 (dk_at dksX7_pair_0 0 rfl rfl)
theorem dX7_pair_1 : decode cX7_pair 1 = .ok (.iconst 0, 1) := dk_3 (dk_at dksX7_pair_0 1 rfl rfl)
theorem dX7_pair_2 : decode cX7_pair 2 = .ok (.putfield 72, 3) := dk_181 0 72 (dk_at dksX7_pair_0 2 rfl rfl)
theorem dX7_pair_5 : decode cX7_pair 5 = .ok (.iload_n 1, 1) := dk_27 (dk_at dksX7_pair_0 5 rfl rfl)
theorem dX7_pair_6 : decode cX7_pair 6 = .ok (.ifCond .lt 25, 3) := dk_155 0 25 (dk_at dksX7_pair_0 6 rfl rfl)
theorem dX7_pair_9 : decode cX7_pair 9 = .ok (.iload_n 2, 1) := dk_28 (dk_at dksX7_pair_0 9 rfl rfl)
theorem dX7_pair_10 : decode cX7_pair 10 = .ok (.iload_n 1, 1) := dk_27 (dk_at dksX7_pair_0 10 rfl rfl)
theorem dX7_pair_11 : decode cX7_pair 11 = .ok (.if_icmp .lt 20, 3) := dk_161 0 20 (dk_at dksX7_pair_0 11 rfl rfl)
theorem dX7_pair_14 : decode cX7_pair 14 = .ok (.iload_n 2, 1) := dk_28 (dk_at dksX7_pair_0 14 rfl rfl)
theorem dX7_pair_15 : decode cX7_pair 15 = .ok (.aload_n 0, 1) := dk_42 (dk_at dksX7_pair_0 15 rfl rfl)
theorem dX7_pair_16 : decode cX7_pair 16 = .ok (.invokevirtual 275, 3) := dk_182 1 19 (dk_at dksX7_pair_0 16 rfl rfl)
theorem dX7_pair_19 : decode cX7_pair 19 = .ok (.if_icmp .ge 12, 3) := dk_162 0 12 (dk_at dksX7_pair_0 19 rfl rfl)
theorem dX7_pair_22 : decode cX7_pair 22 = .ok (.iload_n 3, 1) := dk_29 (dk_at dksX7_pair_0 22 rfl rfl)
theorem dX7_pair_23 : decode cX7_pair 23 = .ok (.ifCond .lt 8, 3) := dk_155 0 8 (dk_at dksX7_pair_1 0 rfl rfl)
theorem dX7_pair_26 : decode cX7_pair 26 = .ok (.iload_n 3, 1) := dk_29 (dk_at dksX7_pair_1 3 rfl rfl)
theorem dX7_pair_27 : decode cX7_pair 27 = .ok (.iconst 1, 1) := dk_4 (dk_at dksX7_pair_1 4 rfl rfl)
theorem dX7_pair_28 : decode cX7_pair 28 = .ok (.if_icmp .le 5, 3) := dk_164 0 5 (dk_at dksX7_pair_1 5 rfl rfl)
theorem dX7_pair_31 : decode cX7_pair 31 = .ok (.iconst (-1), 1) := dk_2 (dk_at dksX7_pair_1 8 rfl rfl)
theorem dX7_pair_32 : decode cX7_pair 32 = .ok (.ireturn, 1) := dk_172 (dk_at dksX7_pair_1 9 rfl rfl)
theorem dX7_pair_33 : decode cX7_pair 33 = .ok (.aload_n 0, 1) := dk_42 (dk_at dksX7_pair_1 10 rfl rfl)
theorem dX7_pair_34 : decode cX7_pair 34 = .ok (.aload_n 0, 1) := dk_42 (dk_at dksX7_pair_1 11 rfl rfl)
theorem dX7_pair_35 : decode cX7_pair 35 = .ok (.aload_n 0, 1) := dk_42 (dk_at dksX7_pair_1 12 rfl rfl)
theorem dX7_pair_36 : decode cX7_pair 36 = .ok (.getfield 69, 3) := dk_180 0 69 (dk_at dksX7_pair_1 13 rfl rfl)
theorem dX7_pair_39 : decode cX7_pair 39 = .ok (.iload_n 1, 1) := dk_27 (dk_at dksX7_pair_1 16 rfl rfl)
theorem dX7_pair_40 : decode cX7_pair 40 = .ok (.imul, 1) := dk_104 (dk_at dksX7_pair_1 17 rfl rfl)
theorem dX7_pair_41 : decode cX7_pair 41 = .ok (.aload_n 0, 1) := dk_42 (dk_at dksX7_pair_1 18 rfl rfl)
theorem dX7_pair_42 : decode cX7_pair 42 = .ok (.iload_n 2, 1) := dk_28 (dk_at dksX7_pair_1 19 rfl rfl)
theorem dX7_pair_43 : decode cX7_pair 43 = .ok (.invokevirtual 278, 3) := dk_182 1 22 (dk_at dksX7_pair_1 20 rfl rfl)
theorem dX7_pair_46 : decode cX7_pair 46 = .ok (.invokevirtual 260, 3) := dk_182 1 4 (dk_at dksX7_pair_2 0 rfl rfl)
theorem dX7_pair_49 : decode cX7_pair 49 = .ok (.iload_n 3, 1) := dk_29 (dk_at dksX7_pair_2 3 rfl rfl)
theorem dX7_pair_50 : decode cX7_pair 50 = .ok (.invokevirtual 263, 3) := dk_182 1 7 (dk_at dksX7_pair_2 4 rfl rfl)
theorem dX7_pair_53 : decode cX7_pair 53 = .ok (.ireturn, 1) := dk_172 (dk_at dksX7_pair_2 7 rfl rfl)
abbrev cX7_blocks : ByteArray := prog_19_method_22_code
def yX7_blocks : MethodName := ⟨RX7, "blocks", "()I"⟩
def dkwX7_blocks_0 : List UInt8 := [42, 180, 0, 175, 42, 180, 0, 69, 96, 4, 100, 42, 180, 0, 69, 108, 172]
abbrev dktX7_blocks_0 : List UInt8 := dkwX7_blocks_0 ++ []
theorem dksX7_blocks_0 : cX7_blocks.data.toList.drop 0 = dktX7_blocks_0 := by decide +kernel
theorem dX7_blocks_0 : decode cX7_blocks 0 = .ok (.aload_n 0, 1) := dk_42 (dk_at dksX7_blocks_0 0 rfl rfl)
theorem dX7_blocks_1 : decode cX7_blocks 1 = .ok (.getfield 175, 3) := dk_180 0 175 (dk_at dksX7_blocks_0 1 rfl rfl)
theorem dX7_blocks_4 : decode cX7_blocks 4 = .ok (.aload_n 0, 1) := dk_42 (dk_at dksX7_blocks_0 4 rfl rfl)
theorem dX7_blocks_5 : decode cX7_blocks 5 = .ok (.getfield 69, 3) := dk_180 0 69 (dk_at dksX7_blocks_0 5 rfl rfl)
theorem dX7_blocks_8 : decode cX7_blocks 8 = .ok (.iadd, 1) := dk_96 (dk_at dksX7_blocks_0 8 rfl rfl)
theorem dX7_blocks_9 : decode cX7_blocks 9 = .ok (.iconst 1, 1) := dk_4 (dk_at dksX7_blocks_0 9 rfl rfl)
theorem dX7_blocks_10 : decode cX7_blocks 10 = .ok (.isub, 1) := dk_100 (dk_at dksX7_blocks_0 10 rfl rfl)
theorem dX7_blocks_11 : decode cX7_blocks 11 = .ok (.aload_n 0, 1) := dk_42 (dk_at dksX7_blocks_0 11 rfl rfl)
theorem dX7_blocks_12 : decode cX7_blocks 12 = .ok (.getfield 69, 3) := dk_180 0 69 (dk_at dksX7_blocks_0 12 rfl rfl)
theorem dX7_blocks_15 : decode cX7_blocks 15 = .ok (.idiv, 1) := dk_108 (dk_at dksX7_blocks_0 15 rfl rfl)
theorem dX7_blocks_16 : decode cX7_blocks 16 = .ok (.ireturn, 1) := dk_172 (dk_at dksX7_blocks_0 16 rfl rfl)
abbrev cX7_endOf : ByteArray := prog_19_method_68_code
def yX7_endOf : MethodName := ⟨RX7, "endOf", "(I)I"⟩
def dkwX7_endOf_0 : List UInt8 := [42, 180, 0, 69, 27, 104, 42, 27, 42, 180, 0, 175, 182, 0, 200, 96, 4, 100, 172]
abbrev dktX7_endOf_0 : List UInt8 := dkwX7_endOf_0 ++ []
theorem dksX7_endOf_0 : cX7_endOf.data.toList.drop 0 = dktX7_endOf_0 := by decide +kernel
theorem dX7_endOf_0 : decode cX7_endOf 0 = .ok (.aload_n 0, 1) := dk_42 (dk_at dksX7_endOf_0 0 rfl rfl)
theorem dX7_endOf_1 : decode cX7_endOf 1 = .ok (.getfield 69, 3) := dk_180 0 69 (dk_at dksX7_endOf_0 1 rfl rfl)
theorem dX7_endOf_4 : decode cX7_endOf 4 = .ok (.iload_n 1, 1) := dk_27 (dk_at dksX7_endOf_0 4 rfl rfl)
theorem dX7_endOf_5 : decode cX7_endOf 5 = .ok (.imul, 1) := dk_104 (dk_at dksX7_endOf_0 5 rfl rfl)
theorem dX7_endOf_6 : decode cX7_endOf 6 = .ok (.aload_n 0, 1) := dk_42 (dk_at dksX7_endOf_0 6 rfl rfl)
theorem dX7_endOf_7 : decode cX7_endOf 7 = .ok (.iload_n 1, 1) := dk_27 (dk_at dksX7_endOf_0 7 rfl rfl)
theorem dX7_endOf_8 : decode cX7_endOf 8 = .ok (.aload_n 0, 1) := dk_42 (dk_at dksX7_endOf_0 8 rfl rfl)
theorem dX7_endOf_9 : decode cX7_endOf 9 = .ok (.getfield 175, 3) := dk_180 0 175 (dk_at dksX7_endOf_0 9 rfl rfl)
theorem dX7_endOf_12 : decode cX7_endOf 12 = .ok (.invokevirtual 200, 3) := dk_182 0 200 (dk_at dksX7_endOf_0 12 rfl rfl)
theorem dX7_endOf_15 : decode cX7_endOf 15 = .ok (.iadd, 1) := dk_96 (dk_at dksX7_endOf_0 15 rfl rfl)
theorem dX7_endOf_16 : decode cX7_endOf 16 = .ok (.iconst 1, 1) := dk_4 (dk_at dksX7_endOf_0 16 rfl rfl)
theorem dX7_endOf_17 : decode cX7_endOf 17 = .ok (.isub, 1) := dk_100 (dk_at dksX7_endOf_0 17 rfl rfl)
theorem dX7_endOf_18 : decode cX7_endOf 18 = .ok (.ireturn, 1) := dk_172 (dk_at dksX7_endOf_0 18 rfl rfl)
abbrev cX7_candidate : ByteArray := prog_19_method_70_code
def yX7_candidate : MethodName := ⟨RX7, "candidate", "(III)I"⟩
def dkwX7_candidate_11 : List UInt8 := [167, 255, 207, 29, 2, 160, 0, 8, 21, 7, 167, 0, 5, 16, 254, 172]
abbrev dktX7_candidate_11 : List UInt8 := dkwX7_candidate_11 ++ []
def dkwX7_candidate_10 : List UInt8 := [21, 9, 51, 154, 0, 6, 167, 0, 15, 21, 7, 29, 160, 0, 6, 21, 9, 172, 132, 7, 1, 132, 8, 1]
abbrev dktX7_candidate_10 : List UInt8 := dkwX7_candidate_10 ++ dktX7_candidate_11
def dkwX7_candidate_9 : List UInt8 := [42, 180, 0, 242, 162, 0, 46, 42, 21, 8, 42, 180, 0, 178, 182, 1, 10, 54, 9, 42, 180, 0, 59]
abbrev dktX7_candidate_9 : List UInt8 := dkwX7_candidate_9 ++ dktX7_candidate_10
def dkwX7_candidate_8 : List UInt8 := [46, 4, 84, 132, 7, 1, 167, 255, 206, 42, 27, 28, 2, 182, 0, 252, 3, 54, 7, 3, 54, 8, 21, 8]
abbrev dktX7_candidate_8 : List UInt8 := dkwX7_candidate_8 ++ dktX7_candidate_9
def dkwX7_candidate_7 : List UInt8 := [161, 0, 14, 21, 7, 42, 21, 5, 182, 1, 22, 164, 0, 16, 42, 180, 0, 59, 42, 180, 0, 13, 21, 7]
abbrev dktX7_candidate_7 : List UInt8 := dkwX7_candidate_7 ++ dktX7_candidate_8
def dkwX7_candidate_6 : List UInt8 := [54, 7, 21, 7, 28, 163, 0, 50, 21, 6, 153, 0, 26, 21, 7, 42, 180, 0, 69, 21, 4, 104]
abbrev dktX7_candidate_6 : List UInt8 := dkwX7_candidate_6 ++ dktX7_candidate_7
def dkwX7_candidate_5 : List UInt8 := [180, 0, 59, 42, 42, 180, 0, 69, 21, 4, 104, 42, 21, 5, 182, 1, 22, 182, 1, 4, 4, 84, 27]
abbrev dktX7_candidate_5 : List UInt8 := dkwX7_candidate_5 ++ dktX7_candidate_6
def dkwX7_candidate_4 : List UInt8 := [167, 255, 237, 21, 5, 21, 4, 161, 0, 7, 4, 167, 0, 4, 3, 54, 6, 21, 6, 153, 0, 26, 42]
abbrev dktX7_candidate_4 : List UInt8 := dkwX7_candidate_4 ++ dktX7_candidate_5
def dkwX7_candidate_3 : List UInt8 := [3, 54, 6, 21, 6, 17, 3, 232, 162, 0, 17, 42, 180, 0, 59, 21, 6, 3, 84, 132, 6, 1]
abbrev dktX7_candidate_3 : List UInt8 := dkwX7_candidate_3 ++ dktX7_candidate_4
def dkwX7_candidate_2 : List UInt8 := [182, 1, 19, 162, 0, 21, 42, 21, 5, 4, 96, 182, 1, 22, 28, 163, 0, 9, 132, 5, 1, 167, 255, 230]
abbrev dktX7_candidate_2 : List UInt8 := dkwX7_candidate_2 ++ dktX7_candidate_3
def dkwX7_candidate_1 : List UInt8 := [180, 0, 69, 96, 4, 100, 42, 180, 0, 69, 108, 54, 4, 21, 4, 4, 100, 54, 5, 21, 5, 4, 96, 42]
abbrev dktX7_candidate_1 : List UInt8 := dkwX7_candidate_1 ++ dktX7_candidate_2
def dkwX7_candidate_0 : List UInt8 := [42, 3, 181, 0, 72, 42, 27, 28, 182, 0, 232, 153, 0, 8, 29, 2, 162, 0, 5, 2, 172, 27, 42]
abbrev dktX7_candidate_0 : List UInt8 := dkwX7_candidate_0 ++ dktX7_candidate_1
theorem dksX7_candidate_0 : cX7_candidate.data.toList.drop 0 = dktX7_candidate_0 := by decide +kernel
theorem dksX7_candidate_1 : cX7_candidate.data.toList.drop 23 = dktX7_candidate_1 := dk_seg dksX7_candidate_0 23 rfl rfl
theorem dksX7_candidate_2 : cX7_candidate.data.toList.drop 47 = dktX7_candidate_2 := dk_seg dksX7_candidate_1 24 rfl rfl
theorem dksX7_candidate_3 : cX7_candidate.data.toList.drop 71 = dktX7_candidate_3 := dk_seg dksX7_candidate_2 24 rfl rfl
theorem dksX7_candidate_4 : cX7_candidate.data.toList.drop 93 = dktX7_candidate_4 := dk_seg dksX7_candidate_3 22 rfl rfl
theorem dksX7_candidate_5 : cX7_candidate.data.toList.drop 116 = dktX7_candidate_5 := dk_seg dksX7_candidate_4 23 rfl rfl
theorem dksX7_candidate_6 : cX7_candidate.data.toList.drop 139 = dktX7_candidate_6 := dk_seg dksX7_candidate_5 23 rfl rfl
theorem dksX7_candidate_7 : cX7_candidate.data.toList.drop 161 = dktX7_candidate_7 := dk_seg dksX7_candidate_6 22 rfl rfl
theorem dksX7_candidate_8 : cX7_candidate.data.toList.drop 185 = dktX7_candidate_8 := dk_seg dksX7_candidate_7 24 rfl rfl
theorem dksX7_candidate_9 : cX7_candidate.data.toList.drop 209 = dktX7_candidate_9 := dk_seg dksX7_candidate_8 24 rfl rfl
theorem dksX7_candidate_10 : cX7_candidate.data.toList.drop 232 = dktX7_candidate_10 := dk_seg dksX7_candidate_9 23 rfl rfl
theorem dksX7_candidate_11 : cX7_candidate.data.toList.drop 256 = dktX7_candidate_11 := dk_seg dksX7_candidate_10 24 rfl rfl
theorem dX7_candidate_0 : decode cX7_candidate 0 = .ok (.aload_n 0, 1) := dk_42 (dk_at dksX7_candidate_0 0 rfl rfl)
theorem dX7_candidate_1 : decode cX7_candidate 1 = .ok (.iconst 0, 1) := dk_3 (dk_at dksX7_candidate_0 1 rfl rfl)
theorem dX7_candidate_2 : decode cX7_candidate 2 = .ok (.putfield 72, 3) := dk_181 0 72 (dk_at dksX7_candidate_0 2 rfl rfl)
theorem dX7_candidate_5 : decode cX7_candidate 5 = .ok (.aload_n 0, 1) := dk_42 (dk_at dksX7_candidate_0 5 rfl rfl)
theorem dX7_candidate_6 : decode cX7_candidate 6 = .ok (.iload_n 1, 1) := dk_27 (dk_at dksX7_candidate_0 6 rfl rfl)
theorem dX7_candidate_7 : decode cX7_candidate 7 = .ok (.iload_n 2, 1) := dk_28 (dk_at dksX7_candidate_0 7 rfl rfl)
theorem dX7_candidate_8 : decode cX7_candidate 8 = .ok (.invokevirtual 232, 3) := dk_182 0 232 (dk_at dksX7_candidate_0 8 rfl rfl)
theorem dX7_candidate_11 : decode cX7_candidate 11 = .ok (.ifCond .eq 8, 3) := dk_153 0 8 (dk_at dksX7_candidate_0 11 rfl rfl)
theorem dX7_candidate_14 : decode cX7_candidate 14 = .ok (.iload_n 3, 1) := dk_29 (dk_at dksX7_candidate_0 14 rfl rfl)
theorem dX7_candidate_15 : decode cX7_candidate 15 = .ok (.iconst (-1), 1) := dk_2 (dk_at dksX7_candidate_0 15 rfl rfl)
theorem dX7_candidate_16 : decode cX7_candidate 16 = .ok (.if_icmp .ge 5, 3) := dk_162 0 5 (dk_at dksX7_candidate_0 16 rfl rfl)
theorem dX7_candidate_19 : decode cX7_candidate 19 = .ok (.iconst (-1), 1) := dk_2 (dk_at dksX7_candidate_0 19 rfl rfl)
theorem dX7_candidate_20 : decode cX7_candidate 20 = .ok (.ireturn, 1) := dk_172 (dk_at dksX7_candidate_0 20 rfl rfl)
theorem dX7_candidate_21 : decode cX7_candidate 21 = .ok (.iload_n 1, 1) := dk_27 (dk_at dksX7_candidate_0 21 rfl rfl)
theorem dX7_candidate_22 : decode cX7_candidate 22 = .ok (.aload_n 0, 1) := dk_42 (dk_at dksX7_candidate_0 22 rfl rfl)
theorem dX7_candidate_23 : decode cX7_candidate 23 = .ok (.getfield 69, 3) := dk_180 0 69 (dk_at dksX7_candidate_1 0 rfl rfl)
theorem dX7_candidate_26 : decode cX7_candidate 26 = .ok (.iadd, 1) := dk_96 (dk_at dksX7_candidate_1 3 rfl rfl)
theorem dX7_candidate_27 : decode cX7_candidate 27 = .ok (.iconst 1, 1) := dk_4 (dk_at dksX7_candidate_1 4 rfl rfl)
theorem dX7_candidate_28 : decode cX7_candidate 28 = .ok (.isub, 1) := dk_100 (dk_at dksX7_candidate_1 5 rfl rfl)
theorem dX7_candidate_29 : decode cX7_candidate 29 = .ok (.aload_n 0, 1) := dk_42 (dk_at dksX7_candidate_1 6 rfl rfl)
theorem dX7_candidate_30 : decode cX7_candidate 30 = .ok (.getfield 69, 3) := dk_180 0 69 (dk_at dksX7_candidate_1 7 rfl rfl)
theorem dX7_candidate_33 : decode cX7_candidate 33 = .ok (.idiv, 1) := dk_108 (dk_at dksX7_candidate_1 10 rfl rfl)
theorem dX7_candidate_34 : decode cX7_candidate 34 = .ok (.istore 4, 2) := dk_54 4 (dk_at dksX7_candidate_1 11 rfl rfl)
theorem dX7_candidate_36 : decode cX7_candidate 36 = .ok (.iload 4, 2) := dk_21 4 (dk_at dksX7_candidate_1 13 rfl rfl)
theorem dX7_candidate_38 : decode cX7_candidate 38 = .ok (.iconst 1, 1) := dk_4 (dk_at dksX7_candidate_1 15 rfl rfl)
theorem dX7_candidate_39 : decode cX7_candidate 39 = .ok (.isub, 1) := dk_100 (dk_at dksX7_candidate_1 16 rfl rfl)
theorem dX7_candidate_40 : decode cX7_candidate 40 = .ok (.istore 5, 2) := dk_54 5 (dk_at dksX7_candidate_1 17 rfl rfl)
theorem dX7_candidate_42 : decode cX7_candidate 42 = .ok (.iload 5, 2) := dk_21 5 (dk_at dksX7_candidate_1 19 rfl rfl)
theorem dX7_candidate_44 : decode cX7_candidate 44 = .ok (.iconst 1, 1) := dk_4 (dk_at dksX7_candidate_1 21 rfl rfl)
theorem dX7_candidate_45 : decode cX7_candidate 45 = .ok (.iadd, 1) := dk_96 (dk_at dksX7_candidate_1 22 rfl rfl)
theorem dX7_candidate_46 : decode cX7_candidate 46 = .ok (.aload_n 0, 1) := dk_42 (dk_at dksX7_candidate_1 23 rfl rfl)
theorem dX7_candidate_47 : decode cX7_candidate 47 = .ok (.invokevirtual 275, 3) := dk_182 1 19 (dk_at dksX7_candidate_2 0 rfl rfl)
theorem dX7_candidate_50 : decode cX7_candidate 50 = .ok (.if_icmp .ge 21, 3) := dk_162 0 21 (dk_at dksX7_candidate_2 3 rfl rfl)
theorem dX7_candidate_53 : decode cX7_candidate 53 = .ok (.aload_n 0, 1) := dk_42 (dk_at dksX7_candidate_2 6 rfl rfl)
theorem dX7_candidate_54 : decode cX7_candidate 54 = .ok (.iload 5, 2) := dk_21 5 (dk_at dksX7_candidate_2 7 rfl rfl)
theorem dX7_candidate_56 : decode cX7_candidate 56 = .ok (.iconst 1, 1) := dk_4 (dk_at dksX7_candidate_2 9 rfl rfl)
theorem dX7_candidate_57 : decode cX7_candidate 57 = .ok (.iadd, 1) := dk_96 (dk_at dksX7_candidate_2 10 rfl rfl)
theorem dX7_candidate_58 : decode cX7_candidate 58 = .ok (.invokevirtual 278, 3) := dk_182 1 22 (dk_at dksX7_candidate_2 11 rfl rfl)
theorem dX7_candidate_61 : decode cX7_candidate 61 = .ok (.iload_n 2, 1) := dk_28 (dk_at dksX7_candidate_2 14 rfl rfl)
theorem dX7_candidate_62 : decode cX7_candidate 62 = .ok (.if_icmp .gt 9, 3) := dk_163 0 9 (dk_at dksX7_candidate_2 15 rfl rfl)
theorem dX7_candidate_65 : decode cX7_candidate 65 = .ok (.iinc 5 1, 3) := dk_132 5 1 (dk_at dksX7_candidate_2 18 rfl rfl)
theorem dX7_candidate_68 : decode cX7_candidate 68 = .ok (.goto (-26), 3) := dk_167 255 230 (dk_at dksX7_candidate_2 21 rfl rfl)
theorem dX7_candidate_71 : decode cX7_candidate 71 = .ok (.iconst 0, 1) := dk_3 (dk_at dksX7_candidate_3 0 rfl rfl)
theorem dX7_candidate_72 : decode cX7_candidate 72 = .ok (.istore 6, 2) := dk_54 6 (dk_at dksX7_candidate_3 1 rfl rfl)
theorem dX7_candidate_74 : decode cX7_candidate 74 = .ok (.iload 6, 2) := dk_21 6 (dk_at dksX7_candidate_3 3 rfl rfl)
theorem dX7_candidate_76 : decode cX7_candidate 76 = .ok (.sipush 1000, 3) := dk_17 3 232 (dk_at dksX7_candidate_3 5 rfl rfl)
theorem dX7_candidate_79 : decode cX7_candidate 79 = .ok (.if_icmp .ge 17, 3) := dk_162 0 17 (dk_at dksX7_candidate_3 8 rfl rfl)
theorem dX7_candidate_82 : decode cX7_candidate 82 = .ok (.aload_n 0, 1) := dk_42 (dk_at dksX7_candidate_3 11 rfl rfl)
theorem dX7_candidate_83 : decode cX7_candidate 83 = .ok (.getfield 59, 3) := dk_180 0 59 (dk_at dksX7_candidate_3 12 rfl rfl)
theorem dX7_candidate_86 : decode cX7_candidate 86 = .ok (.iload 6, 2) := dk_21 6 (dk_at dksX7_candidate_3 15 rfl rfl)
theorem dX7_candidate_88 : decode cX7_candidate 88 = .ok (.iconst 0, 1) := dk_3 (dk_at dksX7_candidate_3 17 rfl rfl)
theorem dX7_candidate_89 : decode cX7_candidate 89 = .ok (.bastore, 1) := dk_84 (dk_at dksX7_candidate_3 18 rfl rfl)
theorem dX7_candidate_90 : decode cX7_candidate 90 = .ok (.iinc 6 1, 3) := dk_132 6 1 (dk_at dksX7_candidate_3 19 rfl rfl)
theorem dX7_candidate_93 : decode cX7_candidate 93 = .ok (.goto (-19), 3) := dk_167 255 237 (dk_at dksX7_candidate_4 0 rfl rfl)
theorem dX7_candidate_96 : decode cX7_candidate 96 = .ok (.iload 5, 2) := dk_21 5 (dk_at dksX7_candidate_4 3 rfl rfl)
theorem dX7_candidate_98 : decode cX7_candidate 98 = .ok (.iload 4, 2) := dk_21 4 (dk_at dksX7_candidate_4 5 rfl rfl)
theorem dX7_candidate_100 : decode cX7_candidate 100 = .ok (.if_icmp .lt 7, 3) := dk_161 0 7 (dk_at dksX7_candidate_4 7 rfl rfl)
theorem dX7_candidate_103 : decode cX7_candidate 103 = .ok (.iconst 1, 1) := dk_4 (dk_at dksX7_candidate_4 10 rfl rfl)
theorem dX7_candidate_104 : decode cX7_candidate 104 = .ok (.goto 4, 3) := dk_167 0 4 (dk_at dksX7_candidate_4 11 rfl rfl)
theorem dX7_candidate_107 : decode cX7_candidate 107 = .ok (.iconst 0, 1) := dk_3 (dk_at dksX7_candidate_4 14 rfl rfl)
theorem dX7_candidate_108 : decode cX7_candidate 108 = .ok (.istore 6, 2) := dk_54 6 (dk_at dksX7_candidate_4 15 rfl rfl)
theorem dX7_candidate_110 : decode cX7_candidate 110 = .ok (.iload 6, 2) := dk_21 6 (dk_at dksX7_candidate_4 17 rfl rfl)
theorem dX7_candidate_112 : decode cX7_candidate 112 = .ok (.ifCond .eq 26, 3) := dk_153 0 26 (dk_at dksX7_candidate_4 19 rfl rfl)
theorem dX7_candidate_115 : decode cX7_candidate 115 = .ok (.aload_n 0, 1) := dk_42 (dk_at dksX7_candidate_4 22 rfl rfl)
theorem dX7_candidate_116 : decode cX7_candidate 116 = .ok (.getfield 59, 3) := dk_180 0 59 (dk_at dksX7_candidate_5 0 rfl rfl)
theorem dX7_candidate_119 : decode cX7_candidate 119 = .ok (.aload_n 0, 1) := dk_42 (dk_at dksX7_candidate_5 3 rfl rfl)
theorem dX7_candidate_120 : decode cX7_candidate 120 = .ok (.aload_n 0, 1) := dk_42 (dk_at dksX7_candidate_5 4 rfl rfl)
theorem dX7_candidate_121 : decode cX7_candidate 121 = .ok (.getfield 69, 3) := dk_180 0 69 (dk_at dksX7_candidate_5 5 rfl rfl)
theorem dX7_candidate_124 : decode cX7_candidate 124 = .ok (.iload 4, 2) := dk_21 4 (dk_at dksX7_candidate_5 8 rfl rfl)
theorem dX7_candidate_126 : decode cX7_candidate 126 = .ok (.imul, 1) := dk_104 (dk_at dksX7_candidate_5 10 rfl rfl)
theorem dX7_candidate_127 : decode cX7_candidate 127 = .ok (.aload_n 0, 1) := dk_42 (dk_at dksX7_candidate_5 11 rfl rfl)
theorem dX7_candidate_128 : decode cX7_candidate 128 = .ok (.iload 5, 2) := dk_21 5 (dk_at dksX7_candidate_5 12 rfl rfl)
theorem dX7_candidate_130 : decode cX7_candidate 130 = .ok (.invokevirtual 278, 3) := dk_182 1 22 (dk_at dksX7_candidate_5 14 rfl rfl)
theorem dX7_candidate_133 : decode cX7_candidate 133 = .ok (.invokevirtual 260, 3) := dk_182 1 4 (dk_at dksX7_candidate_5 17 rfl rfl)
theorem dX7_candidate_136 : decode cX7_candidate 136 = .ok (.iconst 1, 1) := dk_4 (dk_at dksX7_candidate_5 20 rfl rfl)
theorem dX7_candidate_137 : decode cX7_candidate 137 = .ok (.bastore, 1) := dk_84 (dk_at dksX7_candidate_5 21 rfl rfl)
theorem dX7_candidate_138 : decode cX7_candidate 138 = .ok (.iload_n 1, 1) := dk_27 (dk_at dksX7_candidate_5 22 rfl rfl)
theorem dX7_candidate_139 : decode cX7_candidate 139 = .ok (.istore 7, 2) := dk_54 7 (dk_at dksX7_candidate_6 0 rfl rfl)
theorem dX7_candidate_141 : decode cX7_candidate 141 = .ok (.iload 7, 2) := dk_21 7 (dk_at dksX7_candidate_6 2 rfl rfl)
theorem dX7_candidate_143 : decode cX7_candidate 143 = .ok (.iload_n 2, 1) := dk_28 (dk_at dksX7_candidate_6 4 rfl rfl)
theorem dX7_candidate_144 : decode cX7_candidate 144 = .ok (.if_icmp .gt 50, 3) := dk_163 0 50 (dk_at dksX7_candidate_6 5 rfl rfl)
theorem dX7_candidate_147 : decode cX7_candidate 147 = .ok (.iload 6, 2) := dk_21 6 (dk_at dksX7_candidate_6 8 rfl rfl)
theorem dX7_candidate_149 : decode cX7_candidate 149 = .ok (.ifCond .eq 26, 3) := dk_153 0 26 (dk_at dksX7_candidate_6 10 rfl rfl)
theorem dX7_candidate_152 : decode cX7_candidate 152 = .ok (.iload 7, 2) := dk_21 7 (dk_at dksX7_candidate_6 13 rfl rfl)
theorem dX7_candidate_154 : decode cX7_candidate 154 = .ok (.aload_n 0, 1) := dk_42 (dk_at dksX7_candidate_6 15 rfl rfl)
theorem dX7_candidate_155 : decode cX7_candidate 155 = .ok (.getfield 69, 3) := dk_180 0 69 (dk_at dksX7_candidate_6 16 rfl rfl)
theorem dX7_candidate_158 : decode cX7_candidate 158 = .ok (.iload 4, 2) := dk_21 4 (dk_at dksX7_candidate_6 19 rfl rfl)
theorem dX7_candidate_160 : decode cX7_candidate 160 = .ok (.imul, 1) := dk_104 (dk_at dksX7_candidate_6 21 rfl rfl)
theorem dX7_candidate_161 : decode cX7_candidate 161 = .ok (.if_icmp .lt 14, 3) := dk_161 0 14 (dk_at dksX7_candidate_7 0 rfl rfl)
theorem dX7_candidate_164 : decode cX7_candidate 164 = .ok (.iload 7, 2) := dk_21 7 (dk_at dksX7_candidate_7 3 rfl rfl)
theorem dX7_candidate_166 : decode cX7_candidate 166 = .ok (.aload_n 0, 1) := dk_42 (dk_at dksX7_candidate_7 5 rfl rfl)
theorem dX7_candidate_167 : decode cX7_candidate 167 = .ok (.iload 5, 2) := dk_21 5 (dk_at dksX7_candidate_7 6 rfl rfl)
theorem dX7_candidate_169 : decode cX7_candidate 169 = .ok (.invokevirtual 278, 3) := dk_182 1 22 (dk_at dksX7_candidate_7 8 rfl rfl)
theorem dX7_candidate_172 : decode cX7_candidate 172 = .ok (.if_icmp .le 16, 3) := dk_164 0 16 (dk_at dksX7_candidate_7 11 rfl rfl)
theorem dX7_candidate_175 : decode cX7_candidate 175 = .ok (.aload_n 0, 1) := dk_42 (dk_at dksX7_candidate_7 14 rfl rfl)
theorem dX7_candidate_176 : decode cX7_candidate 176 = .ok (.getfield 59, 3) := dk_180 0 59 (dk_at dksX7_candidate_7 15 rfl rfl)
theorem dX7_candidate_179 : decode cX7_candidate 179 = .ok (.aload_n 0, 1) := dk_42 (dk_at dksX7_candidate_7 18 rfl rfl)
theorem dX7_candidate_180 : decode cX7_candidate 180 = .ok (.getfield 13, 3) := dk_180 0 13 (dk_at dksX7_candidate_7 19 rfl rfl)
theorem dX7_candidate_183 : decode cX7_candidate 183 = .ok (.iload 7, 2) := dk_21 7 (dk_at dksX7_candidate_7 22 rfl rfl)
theorem dX7_candidate_185 : decode cX7_candidate 185 = .ok (.iaload, 1) := dk_46 (dk_at dksX7_candidate_8 0 rfl rfl)
theorem dX7_candidate_186 : decode cX7_candidate 186 = .ok (.iconst 1, 1) := dk_4 (dk_at dksX7_candidate_8 1 rfl rfl)
theorem dX7_candidate_187 : decode cX7_candidate 187 = .ok (.bastore, 1) := dk_84 (dk_at dksX7_candidate_8 2 rfl rfl)
theorem dX7_candidate_188 : decode cX7_candidate 188 = .ok (.iinc 7 1, 3) := dk_132 7 1 (dk_at dksX7_candidate_8 3 rfl rfl)
theorem dX7_candidate_191 : decode cX7_candidate 191 = .ok (.goto (-50), 3) := dk_167 255 206 (dk_at dksX7_candidate_8 6 rfl rfl)
theorem dX7_candidate_194 : decode cX7_candidate 194 = .ok (.aload_n 0, 1) := dk_42 (dk_at dksX7_candidate_8 9 rfl rfl)
theorem dX7_candidate_195 : decode cX7_candidate 195 = .ok (.iload_n 1, 1) := dk_27 (dk_at dksX7_candidate_8 10 rfl rfl)
theorem dX7_candidate_196 : decode cX7_candidate 196 = .ok (.iload_n 2, 1) := dk_28 (dk_at dksX7_candidate_8 11 rfl rfl)
theorem dX7_candidate_197 : decode cX7_candidate 197 = .ok (.iconst (-1), 1) := dk_2 (dk_at dksX7_candidate_8 12 rfl rfl)
theorem dX7_candidate_198 : decode cX7_candidate 198 = .ok (.invokevirtual 252, 3) := dk_182 0 252 (dk_at dksX7_candidate_8 13 rfl rfl)
theorem dX7_candidate_201 : decode cX7_candidate 201 = .ok (.iconst 0, 1) := dk_3 (dk_at dksX7_candidate_8 16 rfl rfl)
theorem dX7_candidate_202 : decode cX7_candidate 202 = .ok (.istore 7, 2) := dk_54 7 (dk_at dksX7_candidate_8 17 rfl rfl)
theorem dX7_candidate_204 : decode cX7_candidate 204 = .ok (.iconst 0, 1) := dk_3 (dk_at dksX7_candidate_8 19 rfl rfl)
theorem dX7_candidate_205 : decode cX7_candidate 205 = .ok (.istore 8, 2) := dk_54 8 (dk_at dksX7_candidate_8 20 rfl rfl)
theorem dX7_candidate_207 : decode cX7_candidate 207 = .ok (.iload 8, 2) := dk_21 8 (dk_at dksX7_candidate_8 22 rfl rfl)
theorem dX7_candidate_209 : decode cX7_candidate 209 = .ok (.aload_n 0, 1) := dk_42 (dk_at dksX7_candidate_9 0 rfl rfl)
theorem dX7_candidate_210 : decode cX7_candidate 210 = .ok (.getfield 242, 3) := dk_180 0 242 (dk_at dksX7_candidate_9 1 rfl rfl)
theorem dX7_candidate_213 : decode cX7_candidate 213 = .ok (.if_icmp .ge 46, 3) := dk_162 0 46 (dk_at dksX7_candidate_9 4 rfl rfl)
theorem dX7_candidate_216 : decode cX7_candidate 216 = .ok (.aload_n 0, 1) := dk_42 (dk_at dksX7_candidate_9 7 rfl rfl)
theorem dX7_candidate_217 : decode cX7_candidate 217 = .ok (.iload 8, 2) := dk_21 8 (dk_at dksX7_candidate_9 8 rfl rfl)
theorem dX7_candidate_219 : decode cX7_candidate 219 = .ok (.aload_n 0, 1) := dk_42 (dk_at dksX7_candidate_9 10 rfl rfl)
theorem dX7_candidate_220 : decode cX7_candidate 220 = .ok (.getfield 178, 3) := dk_180 0 178 (dk_at dksX7_candidate_9 11 rfl rfl)
theorem dX7_candidate_223 : decode cX7_candidate 223 = .ok (.invokevirtual 266, 3) := dk_182 1 10 (dk_at dksX7_candidate_9 14 rfl rfl)
theorem dX7_candidate_226 : decode cX7_candidate 226 = .ok (.istore 9, 2) := dk_54 9 (dk_at dksX7_candidate_9 17 rfl rfl)
theorem dX7_candidate_228 : decode cX7_candidate 228 = .ok (.aload_n 0, 1) := dk_42 (dk_at dksX7_candidate_9 19 rfl rfl)
theorem dX7_candidate_229 : decode cX7_candidate 229 = .ok (.getfield 59, 3) := dk_180 0 59 (dk_at dksX7_candidate_9 20 rfl rfl)
theorem dX7_candidate_232 : decode cX7_candidate 232 = .ok (.iload 9, 2) := dk_21 9 (dk_at dksX7_candidate_10 0 rfl rfl)
theorem dX7_candidate_234 : decode cX7_candidate 234 = .ok (.baload, 1) := dk_51 (dk_at dksX7_candidate_10 2 rfl rfl)
theorem dX7_candidate_235 : decode cX7_candidate 235 = .ok (.ifCond .ne 6, 3) := dk_154 0 6 (dk_at dksX7_candidate_10 3 rfl rfl)
theorem dX7_candidate_238 : decode cX7_candidate 238 = .ok (.goto 15, 3) := dk_167 0 15 (dk_at dksX7_candidate_10 6 rfl rfl)
theorem dX7_candidate_241 : decode cX7_candidate 241 = .ok (.iload 7, 2) := dk_21 7 (dk_at dksX7_candidate_10 9 rfl rfl)
theorem dX7_candidate_243 : decode cX7_candidate 243 = .ok (.iload_n 3, 1) := dk_29 (dk_at dksX7_candidate_10 11 rfl rfl)
theorem dX7_candidate_244 : decode cX7_candidate 244 = .ok (.if_icmp .ne 6, 3) := dk_160 0 6 (dk_at dksX7_candidate_10 12 rfl rfl)
theorem dX7_candidate_247 : decode cX7_candidate 247 = .ok (.iload 9, 2) := dk_21 9 (dk_at dksX7_candidate_10 15 rfl rfl)
theorem dX7_candidate_249 : decode cX7_candidate 249 = .ok (.ireturn, 1) := dk_172 (dk_at dksX7_candidate_10 17 rfl rfl)
theorem dX7_candidate_250 : decode cX7_candidate 250 = .ok (.iinc 7 1, 3) := dk_132 7 1 (dk_at dksX7_candidate_10 18 rfl rfl)
theorem dX7_candidate_253 : decode cX7_candidate 253 = .ok (.iinc 8 1, 3) := dk_132 8 1 (dk_at dksX7_candidate_10 21 rfl rfl)
theorem dX7_candidate_256 : decode cX7_candidate 256 = .ok (.goto (-49), 3) := dk_167 255 207 (dk_at dksX7_candidate_11 0 rfl rfl)
theorem dX7_candidate_259 : decode cX7_candidate 259 = .ok (.iload_n 3, 1) := dk_29 (dk_at dksX7_candidate_11 3 rfl rfl)
theorem dX7_candidate_260 : decode cX7_candidate 260 = .ok (.iconst (-1), 1) := dk_2 (dk_at dksX7_candidate_11 4 rfl rfl)
theorem dX7_candidate_261 : decode cX7_candidate 261 = .ok (.if_icmp .ne 8, 3) := dk_160 0 8 (dk_at dksX7_candidate_11 5 rfl rfl)
theorem dX7_candidate_264 : decode cX7_candidate 264 = .ok (.iload 7, 2) := dk_21 7 (dk_at dksX7_candidate_11 8 rfl rfl)
theorem dX7_candidate_266 : decode cX7_candidate 266 = .ok (.goto 5, 3) := dk_167 0 5 (dk_at dksX7_candidate_11 10 rfl rfl)
theorem dX7_candidate_269 : decode cX7_candidate 269 = .ok (.bipush (-2), 2) := dk_16 254 (dk_at dksX7_candidate_11 13 rfl rfl)
theorem dX7_candidate_271 : decode cX7_candidate 271 = .ok (.ireturn, 1) := dk_172 (dk_at dksX7_candidate_11 15 rfl rfl)
abbrev cX7_median : ByteArray := prog_19_method_71_code
def yX7_median : MethodName := ⟨RX7, "median", "(II)I"⟩
def dkwX7_median_2 : List UInt8 := [21, 4, 46, 100, 62, 132, 4, 1, 167, 255, 232, 21, 4, 172]
abbrev dktX7_median_2 : List UInt8 := dkwX7_median_2 ++ []
def dkwX7_median_1 : List UInt8 := [28, 2, 182, 0, 252, 3, 54, 4, 42, 180, 0, 47, 21, 4, 46, 29, 163, 0, 19, 29, 42, 180, 0, 47]
abbrev dktX7_median_1 : List UInt8 := dkwX7_median_1 ++ dktX7_median_2
def dkwX7_median_0 : List UInt8 := [42, 3, 181, 0, 72, 42, 27, 28, 182, 0, 232, 154, 0, 5, 2, 172, 28, 27, 100, 5, 108, 62, 42, 27]
abbrev dktX7_median_0 : List UInt8 := dkwX7_median_0 ++ dktX7_median_1
theorem dksX7_median_0 : cX7_median.data.toList.drop 0 = dktX7_median_0 := by decide +kernel
theorem dksX7_median_1 : cX7_median.data.toList.drop 24 = dktX7_median_1 := dk_seg dksX7_median_0 24 rfl rfl
theorem dksX7_median_2 : cX7_median.data.toList.drop 48 = dktX7_median_2 := dk_seg dksX7_median_1 24 rfl rfl
theorem dX7_median_0 : decode cX7_median 0 = .ok (.aload_n 0, 1) := dk_42 (dk_at dksX7_median_0 0 rfl rfl)
theorem dX7_median_1 : decode cX7_median 1 = .ok (.iconst 0, 1) := dk_3 (dk_at dksX7_median_0 1 rfl rfl)
theorem dX7_median_2 : decode cX7_median 2 = .ok (.putfield 72, 3) := dk_181 0 72 (dk_at dksX7_median_0 2 rfl rfl)
theorem dX7_median_5 : decode cX7_median 5 = .ok (.aload_n 0, 1) := dk_42 (dk_at dksX7_median_0 5 rfl rfl)
theorem dX7_median_6 : decode cX7_median 6 = .ok (.iload_n 1, 1) := dk_27 (dk_at dksX7_median_0 6 rfl rfl)
theorem dX7_median_7 : decode cX7_median 7 = .ok (.iload_n 2, 1) := dk_28 (dk_at dksX7_median_0 7 rfl rfl)
theorem dX7_median_8 : decode cX7_median 8 = .ok (.invokevirtual 232, 3) := dk_182 0 232 (dk_at dksX7_median_0 8 rfl rfl)
theorem dX7_median_11 : decode cX7_median 11 = .ok (.ifCond .ne 5, 3) := dk_154 0 5 (dk_at dksX7_median_0 11 rfl rfl)
theorem dX7_median_14 : decode cX7_median 14 = .ok (.iconst (-1), 1) := dk_2 (dk_at dksX7_median_0 14 rfl rfl)
theorem dX7_median_15 : decode cX7_median 15 = .ok (.ireturn, 1) := dk_172 (dk_at dksX7_median_0 15 rfl rfl)
theorem dX7_median_16 : decode cX7_median 16 = .ok (.iload_n 2, 1) := dk_28 (dk_at dksX7_median_0 16 rfl rfl)
theorem dX7_median_17 : decode cX7_median 17 = .ok (.iload_n 1, 1) := dk_27 (dk_at dksX7_median_0 17 rfl rfl)
theorem dX7_median_18 : decode cX7_median 18 = .ok (.isub, 1) := dk_100 (dk_at dksX7_median_0 18 rfl rfl)
theorem dX7_median_19 : decode cX7_median 19 = .ok (.iconst 2, 1) := dk_5 (dk_at dksX7_median_0 19 rfl rfl)
theorem dX7_median_20 : decode cX7_median 20 = .ok (.idiv, 1) := dk_108 (dk_at dksX7_median_0 20 rfl rfl)
theorem dX7_median_21 : decode cX7_median 21 = .ok (.istore_n 3, 1) := dk_62 (dk_at dksX7_median_0 21 rfl rfl)
theorem dX7_median_22 : decode cX7_median 22 = .ok (.aload_n 0, 1) := dk_42 (dk_at dksX7_median_0 22 rfl rfl)
theorem dX7_median_23 : decode cX7_median 23 = .ok (.iload_n 1, 1) := dk_27 (dk_at dksX7_median_0 23 rfl rfl)
theorem dX7_median_24 : decode cX7_median 24 = .ok (.iload_n 2, 1) := dk_28 (dk_at dksX7_median_1 0 rfl rfl)
theorem dX7_median_25 : decode cX7_median 25 = .ok (.iconst (-1), 1) := dk_2 (dk_at dksX7_median_1 1 rfl rfl)
theorem dX7_median_26 : decode cX7_median 26 = .ok (.invokevirtual 252, 3) := dk_182 0 252 (dk_at dksX7_median_1 2 rfl rfl)
theorem dX7_median_29 : decode cX7_median 29 = .ok (.iconst 0, 1) := dk_3 (dk_at dksX7_median_1 5 rfl rfl)
theorem dX7_median_30 : decode cX7_median 30 = .ok (.istore 4, 2) := dk_54 4 (dk_at dksX7_median_1 6 rfl rfl)
theorem dX7_median_32 : decode cX7_median 32 = .ok (.aload_n 0, 1) := dk_42 (dk_at dksX7_median_1 8 rfl rfl)
theorem dX7_median_33 : decode cX7_median 33 = .ok (.getfield 47, 3) := dk_180 0 47 (dk_at dksX7_median_1 9 rfl rfl)
theorem dX7_median_36 : decode cX7_median 36 = .ok (.iload 4, 2) := dk_21 4 (dk_at dksX7_median_1 12 rfl rfl)
theorem dX7_median_38 : decode cX7_median 38 = .ok (.iaload, 1) := dk_46 (dk_at dksX7_median_1 14 rfl rfl)
theorem dX7_median_39 : decode cX7_median 39 = .ok (.iload_n 3, 1) := dk_29 (dk_at dksX7_median_1 15 rfl rfl)
theorem dX7_median_40 : decode cX7_median 40 = .ok (.if_icmp .gt 19, 3) := dk_163 0 19 (dk_at dksX7_median_1 16 rfl rfl)
theorem dX7_median_43 : decode cX7_median 43 = .ok (.iload_n 3, 1) := dk_29 (dk_at dksX7_median_1 19 rfl rfl)
theorem dX7_median_44 : decode cX7_median 44 = .ok (.aload_n 0, 1) := dk_42 (dk_at dksX7_median_1 20 rfl rfl)
theorem dX7_median_45 : decode cX7_median 45 = .ok (.getfield 47, 3) := dk_180 0 47 (dk_at dksX7_median_1 21 rfl rfl)
theorem dX7_median_48 : decode cX7_median 48 = .ok (.iload 4, 2) := dk_21 4 (dk_at dksX7_median_2 0 rfl rfl)
theorem dX7_median_50 : decode cX7_median 50 = .ok (.iaload, 1) := dk_46 (dk_at dksX7_median_2 2 rfl rfl)
theorem dX7_median_51 : decode cX7_median 51 = .ok (.isub, 1) := dk_100 (dk_at dksX7_median_2 3 rfl rfl)
theorem dX7_median_52 : decode cX7_median 52 = .ok (.istore_n 3, 1) := dk_62 (dk_at dksX7_median_2 4 rfl rfl)
theorem dX7_median_53 : decode cX7_median 53 = .ok (.iinc 4 1, 3) := dk_132 4 1 (dk_at dksX7_median_2 5 rfl rfl)
theorem dX7_median_56 : decode cX7_median 56 = .ok (.goto (-24), 3) := dk_167 255 232 (dk_at dksX7_median_2 8 rfl rfl)
theorem dX7_median_59 : decode cX7_median 59 = .ok (.iload 4, 2) := dk_21 4 (dk_at dksX7_median_2 11 rfl rfl)
theorem dX7_median_61 : decode cX7_median 61 = .ok (.ireturn, 1) := dk_172 (dk_at dksX7_median_2 13 rfl rfl)
abbrev cX7_twisted : ByteArray := prog_19_method_72_code
def yX7_twisted : MethodName := ⟨RX7, "twisted", "(II)I"⟩
def dkwX7_twisted_3 : List UInt8 := [132, 4, 1, 167, 255, 204, 29, 172]
abbrev dktX7_twisted_3 : List UInt8 := dkwX7_twisted_3 ++ []
def dkwX7_twisted_2 : List UInt8 := [180, 0, 13, 21, 5, 46, 164, 0, 7, 4, 167, 0, 4, 3, 96, 62, 132, 5, 1, 167, 255, 222]
abbrev dktX7_twisted_2 : List UInt8 := dkwX7_twisted_2 ++ dktX7_twisted_3
def dkwX7_twisted_1 : List UInt8 := [163, 0, 52, 21, 4, 4, 96, 54, 5, 21, 5, 28, 163, 0, 34, 29, 42, 180, 0, 13, 21, 4, 46, 42]
abbrev dktX7_twisted_1 : List UInt8 := dkwX7_twisted_1 ++ dktX7_twisted_2
def dkwX7_twisted_0 : List UInt8 := [42, 3, 181, 0, 72, 42, 27, 28, 182, 0, 232, 154, 0, 5, 2, 172, 3, 62, 27, 54, 4, 21, 4, 28]
abbrev dktX7_twisted_0 : List UInt8 := dkwX7_twisted_0 ++ dktX7_twisted_1
theorem dksX7_twisted_0 : cX7_twisted.data.toList.drop 0 = dktX7_twisted_0 := by decide +kernel
theorem dksX7_twisted_1 : cX7_twisted.data.toList.drop 24 = dktX7_twisted_1 := dk_seg dksX7_twisted_0 24 rfl rfl
theorem dksX7_twisted_2 : cX7_twisted.data.toList.drop 48 = dktX7_twisted_2 := dk_seg dksX7_twisted_1 24 rfl rfl
theorem dksX7_twisted_3 : cX7_twisted.data.toList.drop 70 = dktX7_twisted_3 := dk_seg dksX7_twisted_2 22 rfl rfl
theorem dX7_twisted_0 : decode cX7_twisted 0 = .ok (.aload_n 0, 1) := dk_42 (dk_at dksX7_twisted_0 0 rfl rfl)
theorem dX7_twisted_1 : decode cX7_twisted 1 = .ok (.iconst 0, 1) := dk_3 (dk_at dksX7_twisted_0 1 rfl rfl)
theorem dX7_twisted_2 : decode cX7_twisted 2 = .ok (.putfield 72, 3) := dk_181 0 72 (dk_at dksX7_twisted_0 2 rfl rfl)
theorem dX7_twisted_5 : decode cX7_twisted 5 = .ok (.aload_n 0, 1) := dk_42 (dk_at dksX7_twisted_0 5 rfl rfl)
theorem dX7_twisted_6 : decode cX7_twisted 6 = .ok (.iload_n 1, 1) := dk_27 (dk_at dksX7_twisted_0 6 rfl rfl)
theorem dX7_twisted_7 : decode cX7_twisted 7 = .ok (.iload_n 2, 1) := dk_28 (dk_at dksX7_twisted_0 7 rfl rfl)
theorem dX7_twisted_8 : decode cX7_twisted 8 = .ok (.invokevirtual 232, 3) := dk_182 0 232 (dk_at dksX7_twisted_0 8 rfl rfl)
theorem dX7_twisted_11 : decode cX7_twisted 11 = .ok (.ifCond .ne 5, 3) := dk_154 0 5 (dk_at dksX7_twisted_0 11 rfl rfl)
theorem dX7_twisted_14 : decode cX7_twisted 14 = .ok (.iconst (-1), 1) := dk_2 (dk_at dksX7_twisted_0 14 rfl rfl)
theorem dX7_twisted_15 : decode cX7_twisted 15 = .ok (.ireturn, 1) := dk_172 (dk_at dksX7_twisted_0 15 rfl rfl)
theorem dX7_twisted_16 : decode cX7_twisted 16 = .ok (.iconst 0, 1) := dk_3 (dk_at dksX7_twisted_0 16 rfl rfl)
theorem dX7_twisted_17 : decode cX7_twisted 17 = .ok (.istore_n 3, 1) := dk_62 (dk_at dksX7_twisted_0 17 rfl rfl)
theorem dX7_twisted_18 : decode cX7_twisted 18 = .ok (.iload_n 1, 1) := dk_27 (dk_at dksX7_twisted_0 18 rfl rfl)
theorem dX7_twisted_19 : decode cX7_twisted 19 = .ok (.istore 4, 2) := dk_54 4 (dk_at dksX7_twisted_0 19 rfl rfl)
theorem dX7_twisted_21 : decode cX7_twisted 21 = .ok (.iload 4, 2) := dk_21 4 (dk_at dksX7_twisted_0 21 rfl rfl)
theorem dX7_twisted_23 : decode cX7_twisted 23 = .ok (.iload_n 2, 1) := dk_28 (dk_at dksX7_twisted_0 23 rfl rfl)
theorem dX7_twisted_24 : decode cX7_twisted 24 = .ok (.if_icmp .gt 52, 3) := dk_163 0 52 (dk_at dksX7_twisted_1 0 rfl rfl)
theorem dX7_twisted_27 : decode cX7_twisted 27 = .ok (.iload 4, 2) := dk_21 4 (dk_at dksX7_twisted_1 3 rfl rfl)
theorem dX7_twisted_29 : decode cX7_twisted 29 = .ok (.iconst 1, 1) := dk_4 (dk_at dksX7_twisted_1 5 rfl rfl)
theorem dX7_twisted_30 : decode cX7_twisted 30 = .ok (.iadd, 1) := dk_96 (dk_at dksX7_twisted_1 6 rfl rfl)
theorem dX7_twisted_31 : decode cX7_twisted 31 = .ok (.istore 5, 2) := dk_54 5 (dk_at dksX7_twisted_1 7 rfl rfl)
theorem dX7_twisted_33 : decode cX7_twisted 33 = .ok (.iload 5, 2) := dk_21 5 (dk_at dksX7_twisted_1 9 rfl rfl)
theorem dX7_twisted_35 : decode cX7_twisted 35 = .ok (.iload_n 2, 1) := dk_28 (dk_at dksX7_twisted_1 11 rfl rfl)
theorem dX7_twisted_36 : decode cX7_twisted 36 = .ok (.if_icmp .gt 34, 3) := dk_163 0 34 (dk_at dksX7_twisted_1 12 rfl rfl)
theorem dX7_twisted_39 : decode cX7_twisted 39 = .ok (.iload_n 3, 1) := dk_29 (dk_at dksX7_twisted_1 15 rfl rfl)
theorem dX7_twisted_40 : decode cX7_twisted 40 = .ok (.aload_n 0, 1) := dk_42 (dk_at dksX7_twisted_1 16 rfl rfl)
theorem dX7_twisted_41 : decode cX7_twisted 41 = .ok (.getfield 13, 3) := dk_180 0 13 (dk_at dksX7_twisted_1 17 rfl rfl)
theorem dX7_twisted_44 : decode cX7_twisted 44 = .ok (.iload 4, 2) := dk_21 4 (dk_at dksX7_twisted_1 20 rfl rfl)
theorem dX7_twisted_46 : decode cX7_twisted 46 = .ok (.iaload, 1) := dk_46 (dk_at dksX7_twisted_1 22 rfl rfl)
theorem dX7_twisted_47 : decode cX7_twisted 47 = .ok (.aload_n 0, 1) := dk_42 (dk_at dksX7_twisted_1 23 rfl rfl)
theorem dX7_twisted_48 : decode cX7_twisted 48 = .ok (.getfield 13, 3) := dk_180 0 13 (dk_at dksX7_twisted_2 0 rfl rfl)
theorem dX7_twisted_51 : decode cX7_twisted 51 = .ok (.iload 5, 2) := dk_21 5 (dk_at dksX7_twisted_2 3 rfl rfl)
theorem dX7_twisted_53 : decode cX7_twisted 53 = .ok (.iaload, 1) := dk_46 (dk_at dksX7_twisted_2 5 rfl rfl)
theorem dX7_twisted_54 : decode cX7_twisted 54 = .ok (.if_icmp .le 7, 3) := dk_164 0 7 (dk_at dksX7_twisted_2 6 rfl rfl)
theorem dX7_twisted_57 : decode cX7_twisted 57 = .ok (.iconst 1, 1) := dk_4 (dk_at dksX7_twisted_2 9 rfl rfl)
theorem dX7_twisted_58 : decode cX7_twisted 58 = .ok (.goto 4, 3) := dk_167 0 4 (dk_at dksX7_twisted_2 10 rfl rfl)
theorem dX7_twisted_61 : decode cX7_twisted 61 = .ok (.iconst 0, 1) := dk_3 (dk_at dksX7_twisted_2 13 rfl rfl)
theorem dX7_twisted_62 : decode cX7_twisted 62 = .ok (.iadd, 1) := dk_96 (dk_at dksX7_twisted_2 14 rfl rfl)
theorem dX7_twisted_63 : decode cX7_twisted 63 = .ok (.istore_n 3, 1) := dk_62 (dk_at dksX7_twisted_2 15 rfl rfl)
theorem dX7_twisted_64 : decode cX7_twisted 64 = .ok (.iinc 5 1, 3) := dk_132 5 1 (dk_at dksX7_twisted_2 16 rfl rfl)
theorem dX7_twisted_67 : decode cX7_twisted 67 = .ok (.goto (-34), 3) := dk_167 255 222 (dk_at dksX7_twisted_2 19 rfl rfl)
theorem dX7_twisted_70 : decode cX7_twisted 70 = .ok (.iinc 4 1, 3) := dk_132 4 1 (dk_at dksX7_twisted_3 0 rfl rfl)
theorem dX7_twisted_73 : decode cX7_twisted 73 = .ok (.goto (-52), 3) := dk_167 255 204 (dk_at dksX7_twisted_3 3 rfl rfl)
theorem dX7_twisted_76 : decode cX7_twisted 76 = .ok (.iload_n 3, 1) := dk_29 (dk_at dksX7_twisted_3 6 rfl rfl)
theorem dX7_twisted_77 : decode cX7_twisted 77 = .ok (.ireturn, 1) := dk_172 (dk_at dksX7_twisted_3 7 rfl rfl)
abbrev cX7_run : ByteArray := prog_19_method_73_code
def yX7_run : MethodName := ⟨RX7, "run", "(III)I"⟩
def dkwX7_run_6 : List UInt8 := [46, 172]
abbrev dktX7_run_6 : List UInt8 := dkwX7_run_6 ++ []
def dkwX7_run_5 : List UInt8 := [167, 0, 25, 29, 4, 160, 0, 13, 21, 4, 21, 5, 96, 4, 100, 167, 0, 10, 42, 180, 0, 13, 21, 4]
abbrev dktX7_run_5 : List UInt8 := dkwX7_run_5 ++ dktX7_run_6
def dkwX7_run_4 : List UInt8 := [54, 4, 21, 7, 21, 6, 100, 4, 96, 54, 5, 132, 6, 1, 167, 255, 184, 29, 154, 0, 8, 21, 4]
abbrev dktX7_run_4 : List UInt8 := dkwX7_run_4 ++ dktX7_run_5
def dkwX7_run_3 : List UInt8 := [132, 7, 1, 167, 255, 228, 21, 7, 21, 6, 100, 4, 96, 21, 5, 163, 0, 6, 167, 0, 16, 21, 6]
abbrev dktX7_run_3 : List UInt8 := dkwX7_run_3 ++ dktX7_run_4
def dkwX7_run_2 : List UInt8 := [162, 0, 28, 42, 180, 0, 13, 21, 7, 4, 96, 46, 42, 180, 0, 13, 21, 6, 46, 160, 0, 9]
abbrev dktX7_run_2 : List UInt8 := dkwX7_run_2 ++ dktX7_run_3
def dkwX7_run_1 : List UInt8 := [172, 27, 54, 4, 3, 54, 5, 27, 54, 6, 21, 6, 28, 163, 0, 72, 21, 6, 54, 7, 21, 7, 28]
abbrev dktX7_run_1 : List UInt8 := dkwX7_run_1 ++ dktX7_run_2
def dkwX7_run_0 : List UInt8 := [42, 3, 181, 0, 72, 42, 27, 28, 182, 0, 232, 153, 0, 12, 29, 155, 0, 8, 29, 5, 164, 0, 5, 2]
abbrev dktX7_run_0 : List UInt8 := dkwX7_run_0 ++ dktX7_run_1
theorem dksX7_run_0 : cX7_run.data.toList.drop 0 = dktX7_run_0 := by decide +kernel
theorem dksX7_run_1 : cX7_run.data.toList.drop 24 = dktX7_run_1 := dk_seg dksX7_run_0 24 rfl rfl
theorem dksX7_run_2 : cX7_run.data.toList.drop 47 = dktX7_run_2 := dk_seg dksX7_run_1 23 rfl rfl
theorem dksX7_run_3 : cX7_run.data.toList.drop 69 = dktX7_run_3 := dk_seg dksX7_run_2 22 rfl rfl
theorem dksX7_run_4 : cX7_run.data.toList.drop 92 = dktX7_run_4 := dk_seg dksX7_run_3 23 rfl rfl
theorem dksX7_run_5 : cX7_run.data.toList.drop 115 = dktX7_run_5 := dk_seg dksX7_run_4 23 rfl rfl
theorem dksX7_run_6 : cX7_run.data.toList.drop 139 = dktX7_run_6 := dk_seg dksX7_run_5 24 rfl rfl
theorem dX7_run_0 : decode cX7_run 0 = .ok (.aload_n 0, 1) := dk_42 (dk_at dksX7_run_0 0 rfl rfl)
theorem dX7_run_1 : decode cX7_run 1 = .ok (.iconst 0, 1) := dk_3 (dk_at dksX7_run_0 1 rfl rfl)
theorem dX7_run_2 : decode cX7_run 2 = .ok (.putfield 72, 3) := dk_181 0 72 (dk_at dksX7_run_0 2 rfl rfl)
theorem dX7_run_5 : decode cX7_run 5 = .ok (.aload_n 0, 1) := dk_42 (dk_at dksX7_run_0 5 rfl rfl)
theorem dX7_run_6 : decode cX7_run 6 = .ok (.iload_n 1, 1) := dk_27 (dk_at dksX7_run_0 6 rfl rfl)
theorem dX7_run_7 : decode cX7_run 7 = .ok (.iload_n 2, 1) := dk_28 (dk_at dksX7_run_0 7 rfl rfl)
theorem dX7_run_8 : decode cX7_run 8 = .ok (.invokevirtual 232, 3) := dk_182 0 232 (dk_at dksX7_run_0 8 rfl rfl)
theorem dX7_run_11 : decode cX7_run 11 = .ok (.ifCond .eq 12, 3) := dk_153 0 12 (dk_at dksX7_run_0 11 rfl rfl)
theorem dX7_run_14 : decode cX7_run 14 = .ok (.iload_n 3, 1) := dk_29 (dk_at dksX7_run_0 14 rfl rfl)
theorem dX7_run_15 : decode cX7_run 15 = .ok (.ifCond .lt 8, 3) := dk_155 0 8 (dk_at dksX7_run_0 15 rfl rfl)
theorem dX7_run_18 : decode cX7_run 18 = .ok (.iload_n 3, 1) := dk_29 (dk_at dksX7_run_0 18 rfl rfl)
theorem dX7_run_19 : decode cX7_run 19 = .ok (.iconst 2, 1) := dk_5 (dk_at dksX7_run_0 19 rfl rfl)
theorem dX7_run_20 : decode cX7_run 20 = .ok (.if_icmp .le 5, 3) := dk_164 0 5 (dk_at dksX7_run_0 20 rfl rfl)
theorem dX7_run_23 : decode cX7_run 23 = .ok (.iconst (-1), 1) := dk_2 (dk_at dksX7_run_0 23 rfl rfl)
theorem dX7_run_24 : decode cX7_run 24 = .ok (.ireturn, 1) := dk_172 (dk_at dksX7_run_1 0 rfl rfl)
theorem dX7_run_25 : decode cX7_run 25 = .ok (.iload_n 1, 1) := dk_27 (dk_at dksX7_run_1 1 rfl rfl)
theorem dX7_run_26 : decode cX7_run 26 = .ok (.istore 4, 2) := dk_54 4 (dk_at dksX7_run_1 2 rfl rfl)
theorem dX7_run_28 : decode cX7_run 28 = .ok (.iconst 0, 1) := dk_3 (dk_at dksX7_run_1 4 rfl rfl)
theorem dX7_run_29 : decode cX7_run 29 = .ok (.istore 5, 2) := dk_54 5 (dk_at dksX7_run_1 5 rfl rfl)
theorem dX7_run_31 : decode cX7_run 31 = .ok (.iload_n 1, 1) := dk_27 (dk_at dksX7_run_1 7 rfl rfl)
theorem dX7_run_32 : decode cX7_run 32 = .ok (.istore 6, 2) := dk_54 6 (dk_at dksX7_run_1 8 rfl rfl)
theorem dX7_run_34 : decode cX7_run 34 = .ok (.iload 6, 2) := dk_21 6 (dk_at dksX7_run_1 10 rfl rfl)
theorem dX7_run_36 : decode cX7_run 36 = .ok (.iload_n 2, 1) := dk_28 (dk_at dksX7_run_1 12 rfl rfl)
theorem dX7_run_37 : decode cX7_run 37 = .ok (.if_icmp .gt 72, 3) := dk_163 0 72 (dk_at dksX7_run_1 13 rfl rfl)
theorem dX7_run_40 : decode cX7_run 40 = .ok (.iload 6, 2) := dk_21 6 (dk_at dksX7_run_1 16 rfl rfl)
theorem dX7_run_42 : decode cX7_run 42 = .ok (.istore 7, 2) := dk_54 7 (dk_at dksX7_run_1 18 rfl rfl)
theorem dX7_run_44 : decode cX7_run 44 = .ok (.iload 7, 2) := dk_21 7 (dk_at dksX7_run_1 20 rfl rfl)
theorem dX7_run_46 : decode cX7_run 46 = .ok (.iload_n 2, 1) := dk_28 (dk_at dksX7_run_1 22 rfl rfl)
theorem dX7_run_47 : decode cX7_run 47 = .ok (.if_icmp .ge 28, 3) := dk_162 0 28 (dk_at dksX7_run_2 0 rfl rfl)
theorem dX7_run_50 : decode cX7_run 50 = .ok (.aload_n 0, 1) := dk_42 (dk_at dksX7_run_2 3 rfl rfl)
theorem dX7_run_51 : decode cX7_run 51 = .ok (.getfield 13, 3) := dk_180 0 13 (dk_at dksX7_run_2 4 rfl rfl)
theorem dX7_run_54 : decode cX7_run 54 = .ok (.iload 7, 2) := dk_21 7 (dk_at dksX7_run_2 7 rfl rfl)
theorem dX7_run_56 : decode cX7_run 56 = .ok (.iconst 1, 1) := dk_4 (dk_at dksX7_run_2 9 rfl rfl)
theorem dX7_run_57 : decode cX7_run 57 = .ok (.iadd, 1) := dk_96 (dk_at dksX7_run_2 10 rfl rfl)
theorem dX7_run_58 : decode cX7_run 58 = .ok (.iaload, 1) := dk_46 (dk_at dksX7_run_2 11 rfl rfl)
theorem dX7_run_59 : decode cX7_run 59 = .ok (.aload_n 0, 1) := dk_42 (dk_at dksX7_run_2 12 rfl rfl)
theorem dX7_run_60 : decode cX7_run 60 = .ok (.getfield 13, 3) := dk_180 0 13 (dk_at dksX7_run_2 13 rfl rfl)
theorem dX7_run_63 : decode cX7_run 63 = .ok (.iload 6, 2) := dk_21 6 (dk_at dksX7_run_2 16 rfl rfl)
theorem dX7_run_65 : decode cX7_run 65 = .ok (.iaload, 1) := dk_46 (dk_at dksX7_run_2 18 rfl rfl)
theorem dX7_run_66 : decode cX7_run 66 = .ok (.if_icmp .ne 9, 3) := dk_160 0 9 (dk_at dksX7_run_2 19 rfl rfl)
theorem dX7_run_69 : decode cX7_run 69 = .ok (.iinc 7 1, 3) := dk_132 7 1 (dk_at dksX7_run_3 0 rfl rfl)
theorem dX7_run_72 : decode cX7_run 72 = .ok (.goto (-28), 3) := dk_167 255 228 (dk_at dksX7_run_3 3 rfl rfl)
theorem dX7_run_75 : decode cX7_run 75 = .ok (.iload 7, 2) := dk_21 7 (dk_at dksX7_run_3 6 rfl rfl)
theorem dX7_run_77 : decode cX7_run 77 = .ok (.iload 6, 2) := dk_21 6 (dk_at dksX7_run_3 8 rfl rfl)
theorem dX7_run_79 : decode cX7_run 79 = .ok (.isub, 1) := dk_100 (dk_at dksX7_run_3 10 rfl rfl)
theorem dX7_run_80 : decode cX7_run 80 = .ok (.iconst 1, 1) := dk_4 (dk_at dksX7_run_3 11 rfl rfl)
theorem dX7_run_81 : decode cX7_run 81 = .ok (.iadd, 1) := dk_96 (dk_at dksX7_run_3 12 rfl rfl)
theorem dX7_run_82 : decode cX7_run 82 = .ok (.iload 5, 2) := dk_21 5 (dk_at dksX7_run_3 13 rfl rfl)
theorem dX7_run_84 : decode cX7_run 84 = .ok (.if_icmp .gt 6, 3) := dk_163 0 6 (dk_at dksX7_run_3 15 rfl rfl)
theorem dX7_run_87 : decode cX7_run 87 = .ok (.goto 16, 3) := dk_167 0 16 (dk_at dksX7_run_3 18 rfl rfl)
theorem dX7_run_90 : decode cX7_run 90 = .ok (.iload 6, 2) := dk_21 6 (dk_at dksX7_run_3 21 rfl rfl)
theorem dX7_run_92 : decode cX7_run 92 = .ok (.istore 4, 2) := dk_54 4 (dk_at dksX7_run_4 0 rfl rfl)
theorem dX7_run_94 : decode cX7_run 94 = .ok (.iload 7, 2) := dk_21 7 (dk_at dksX7_run_4 2 rfl rfl)
theorem dX7_run_96 : decode cX7_run 96 = .ok (.iload 6, 2) := dk_21 6 (dk_at dksX7_run_4 4 rfl rfl)
theorem dX7_run_98 : decode cX7_run 98 = .ok (.isub, 1) := dk_100 (dk_at dksX7_run_4 6 rfl rfl)
theorem dX7_run_99 : decode cX7_run 99 = .ok (.iconst 1, 1) := dk_4 (dk_at dksX7_run_4 7 rfl rfl)
theorem dX7_run_100 : decode cX7_run 100 = .ok (.iadd, 1) := dk_96 (dk_at dksX7_run_4 8 rfl rfl)
theorem dX7_run_101 : decode cX7_run 101 = .ok (.istore 5, 2) := dk_54 5 (dk_at dksX7_run_4 9 rfl rfl)
theorem dX7_run_103 : decode cX7_run 103 = .ok (.iinc 6 1, 3) := dk_132 6 1 (dk_at dksX7_run_4 11 rfl rfl)
theorem dX7_run_106 : decode cX7_run 106 = .ok (.goto (-72), 3) := dk_167 255 184 (dk_at dksX7_run_4 14 rfl rfl)
theorem dX7_run_109 : decode cX7_run 109 = .ok (.iload_n 3, 1) := dk_29 (dk_at dksX7_run_4 17 rfl rfl)
theorem dX7_run_110 : decode cX7_run 110 = .ok (.ifCond .ne 8, 3) := dk_154 0 8 (dk_at dksX7_run_4 18 rfl rfl)
theorem dX7_run_113 : decode cX7_run 113 = .ok (.iload 4, 2) := dk_21 4 (dk_at dksX7_run_4 21 rfl rfl)
theorem dX7_run_115 : decode cX7_run 115 = .ok (.goto 25, 3) := dk_167 0 25 (dk_at dksX7_run_5 0 rfl rfl)
theorem dX7_run_118 : decode cX7_run 118 = .ok (.iload_n 3, 1) := dk_29 (dk_at dksX7_run_5 3 rfl rfl)
theorem dX7_run_119 : decode cX7_run 119 = .ok (.iconst 1, 1) := dk_4 (dk_at dksX7_run_5 4 rfl rfl)
theorem dX7_run_120 : decode cX7_run 120 = .ok (.if_icmp .ne 13, 3) := dk_160 0 13 (dk_at dksX7_run_5 5 rfl rfl)
theorem dX7_run_123 : decode cX7_run 123 = .ok (.iload 4, 2) := dk_21 4 (dk_at dksX7_run_5 8 rfl rfl)
theorem dX7_run_125 : decode cX7_run 125 = .ok (.iload 5, 2) := dk_21 5 (dk_at dksX7_run_5 10 rfl rfl)
theorem dX7_run_127 : decode cX7_run 127 = .ok (.iadd, 1) := dk_96 (dk_at dksX7_run_5 12 rfl rfl)
theorem dX7_run_128 : decode cX7_run 128 = .ok (.iconst 1, 1) := dk_4 (dk_at dksX7_run_5 13 rfl rfl)
theorem dX7_run_129 : decode cX7_run 129 = .ok (.isub, 1) := dk_100 (dk_at dksX7_run_5 14 rfl rfl)
theorem dX7_run_130 : decode cX7_run 130 = .ok (.goto 10, 3) := dk_167 0 10 (dk_at dksX7_run_5 15 rfl rfl)
theorem dX7_run_133 : decode cX7_run 133 = .ok (.aload_n 0, 1) := dk_42 (dk_at dksX7_run_5 18 rfl rfl)
theorem dX7_run_134 : decode cX7_run 134 = .ok (.getfield 13, 3) := dk_180 0 13 (dk_at dksX7_run_5 19 rfl rfl)
theorem dX7_run_137 : decode cX7_run 137 = .ok (.iload 4, 2) := dk_21 4 (dk_at dksX7_run_5 22 rfl rfl)
theorem dX7_run_139 : decode cX7_run 139 = .ok (.iaload, 1) := dk_46 (dk_at dksX7_run_6 0 rfl rfl)
theorem dX7_run_140 : decode cX7_run 140 = .ok (.ireturn, 1) := dk_172 (dk_at dksX7_run_6 1 rfl rfl)
abbrev cX7_common : ByteArray := prog_19_method_74_code
def yX7_common : MethodName := ⟨RX7, "common", "(III)I"⟩
def dkwX7_common_5 : List UInt8 := [21, 4, 172]
abbrev dktX7_common_5 : List UInt8 := dkwX7_common_5 ++ []
def dkwX7_common_4 : List UInt8 := [167, 0, 15, 42, 180, 0, 47, 42, 180, 0, 56, 21, 5, 46, 46, 96, 54, 4, 132, 5, 1, 167, 255, 186]
abbrev dktX7_common_4 : List UInt8 := dkwX7_common_4 ++ dktX7_common_5
def dkwX7_common_3 : List UInt8 := [54, 6, 21, 4, 21, 6, 42, 180, 0, 47, 42, 180, 0, 56, 21, 5, 46, 46, 162, 0, 8, 21, 6]
abbrev dktX7_common_3 : List UInt8 := dkwX7_common_3 ++ dktX7_common_4
def dkwX7_common_2 : List UInt8 := [180, 0, 242, 162, 0, 67, 42, 29, 29, 28, 96, 27, 100, 42, 180, 0, 56, 21, 5, 46, 182, 0, 190]
abbrev dktX7_common_2 : List UInt8 := dkwX7_common_2 ++ dktX7_common_3
def dkwX7_common_1 : List UInt8 := [27, 100, 100, 161, 0, 5, 2, 172, 42, 27, 28, 2, 182, 0, 252, 3, 54, 4, 3, 54, 5, 21, 5, 42]
abbrev dktX7_common_1 : List UInt8 := dkwX7_common_1 ++ dktX7_common_2
def dkwX7_common_0 : List UInt8 := [42, 3, 181, 0, 72, 42, 27, 28, 182, 0, 232, 153, 0, 19, 29, 155, 0, 15, 29, 42, 180, 0, 175, 28]
abbrev dktX7_common_0 : List UInt8 := dkwX7_common_0 ++ dktX7_common_1
theorem dksX7_common_0 : cX7_common.data.toList.drop 0 = dktX7_common_0 := by decide +kernel
theorem dksX7_common_1 : cX7_common.data.toList.drop 24 = dktX7_common_1 := dk_seg dksX7_common_0 24 rfl rfl
theorem dksX7_common_2 : cX7_common.data.toList.drop 48 = dktX7_common_2 := dk_seg dksX7_common_1 24 rfl rfl
theorem dksX7_common_3 : cX7_common.data.toList.drop 71 = dktX7_common_3 := dk_seg dksX7_common_2 23 rfl rfl
theorem dksX7_common_4 : cX7_common.data.toList.drop 94 = dktX7_common_4 := dk_seg dksX7_common_3 23 rfl rfl
theorem dksX7_common_5 : cX7_common.data.toList.drop 118 = dktX7_common_5 := dk_seg dksX7_common_4 24 rfl rfl
theorem dX7_common_0 : decode cX7_common 0 = .ok (.aload_n 0, 1) := dk_42 (dk_at dksX7_common_0 0 rfl rfl)
theorem dX7_common_1 : decode cX7_common 1 = .ok (.iconst 0, 1) := dk_3 (dk_at dksX7_common_0 1 rfl rfl)
theorem dX7_common_2 : decode cX7_common 2 = .ok (.putfield 72, 3) := dk_181 0 72 (dk_at dksX7_common_0 2 rfl rfl)
theorem dX7_common_5 : decode cX7_common 5 = .ok (.aload_n 0, 1) := dk_42 (dk_at dksX7_common_0 5 rfl rfl)
theorem dX7_common_6 : decode cX7_common 6 = .ok (.iload_n 1, 1) := dk_27 (dk_at dksX7_common_0 6 rfl rfl)
theorem dX7_common_7 : decode cX7_common 7 = .ok (.iload_n 2, 1) := dk_28 (dk_at dksX7_common_0 7 rfl rfl)
theorem dX7_common_8 : decode cX7_common 8 = .ok (.invokevirtual 232, 3) := dk_182 0 232 (dk_at dksX7_common_0 8 rfl rfl)
theorem dX7_common_11 : decode cX7_common 11 = .ok (.ifCond .eq 19, 3) := dk_153 0 19 (dk_at dksX7_common_0 11 rfl rfl)
theorem dX7_common_14 : decode cX7_common 14 = .ok (.iload_n 3, 1) := dk_29 (dk_at dksX7_common_0 14 rfl rfl)
theorem dX7_common_15 : decode cX7_common 15 = .ok (.ifCond .lt 15, 3) := dk_155 0 15 (dk_at dksX7_common_0 15 rfl rfl)
theorem dX7_common_18 : decode cX7_common 18 = .ok (.iload_n 3, 1) := dk_29 (dk_at dksX7_common_0 18 rfl rfl)
theorem dX7_common_19 : decode cX7_common 19 = .ok (.aload_n 0, 1) := dk_42 (dk_at dksX7_common_0 19 rfl rfl)
theorem dX7_common_20 : decode cX7_common 20 = .ok (.getfield 175, 3) := dk_180 0 175 (dk_at dksX7_common_0 20 rfl rfl)
theorem dX7_common_23 : decode cX7_common 23 = .ok (.iload_n 2, 1) := dk_28 (dk_at dksX7_common_0 23 rfl rfl)
theorem dX7_common_24 : decode cX7_common 24 = .ok (.iload_n 1, 1) := dk_27 (dk_at dksX7_common_1 0 rfl rfl)
theorem dX7_common_25 : decode cX7_common 25 = .ok (.isub, 1) := dk_100 (dk_at dksX7_common_1 1 rfl rfl)
theorem dX7_common_26 : decode cX7_common 26 = .ok (.isub, 1) := dk_100 (dk_at dksX7_common_1 2 rfl rfl)
theorem dX7_common_27 : decode cX7_common 27 = .ok (.if_icmp .lt 5, 3) := dk_161 0 5 (dk_at dksX7_common_1 3 rfl rfl)
theorem dX7_common_30 : decode cX7_common 30 = .ok (.iconst (-1), 1) := dk_2 (dk_at dksX7_common_1 6 rfl rfl)
theorem dX7_common_31 : decode cX7_common 31 = .ok (.ireturn, 1) := dk_172 (dk_at dksX7_common_1 7 rfl rfl)
theorem dX7_common_32 : decode cX7_common 32 = .ok (.aload_n 0, 1) := dk_42 (dk_at dksX7_common_1 8 rfl rfl)
theorem dX7_common_33 : decode cX7_common 33 = .ok (.iload_n 1, 1) := dk_27 (dk_at dksX7_common_1 9 rfl rfl)
theorem dX7_common_34 : decode cX7_common 34 = .ok (.iload_n 2, 1) := dk_28 (dk_at dksX7_common_1 10 rfl rfl)
theorem dX7_common_35 : decode cX7_common 35 = .ok (.iconst (-1), 1) := dk_2 (dk_at dksX7_common_1 11 rfl rfl)
theorem dX7_common_36 : decode cX7_common 36 = .ok (.invokevirtual 252, 3) := dk_182 0 252 (dk_at dksX7_common_1 12 rfl rfl)
theorem dX7_common_39 : decode cX7_common 39 = .ok (.iconst 0, 1) := dk_3 (dk_at dksX7_common_1 15 rfl rfl)
theorem dX7_common_40 : decode cX7_common 40 = .ok (.istore 4, 2) := dk_54 4 (dk_at dksX7_common_1 16 rfl rfl)
theorem dX7_common_42 : decode cX7_common 42 = .ok (.iconst 0, 1) := dk_3 (dk_at dksX7_common_1 18 rfl rfl)
theorem dX7_common_43 : decode cX7_common 43 = .ok (.istore 5, 2) := dk_54 5 (dk_at dksX7_common_1 19 rfl rfl)
theorem dX7_common_45 : decode cX7_common 45 = .ok (.iload 5, 2) := dk_21 5 (dk_at dksX7_common_1 21 rfl rfl)
theorem dX7_common_47 : decode cX7_common 47 = .ok (.aload_n 0, 1) := dk_42 (dk_at dksX7_common_1 23 rfl rfl)
theorem dX7_common_48 : decode cX7_common 48 = .ok (.getfield 242, 3) := dk_180 0 242 (dk_at dksX7_common_2 0 rfl rfl)
theorem dX7_common_51 : decode cX7_common 51 = .ok (.if_icmp .ge 67, 3) := dk_162 0 67 (dk_at dksX7_common_2 3 rfl rfl)
theorem dX7_common_54 : decode cX7_common 54 = .ok (.aload_n 0, 1) := dk_42 (dk_at dksX7_common_2 6 rfl rfl)
theorem dX7_common_55 : decode cX7_common 55 = .ok (.iload_n 3, 1) := dk_29 (dk_at dksX7_common_2 7 rfl rfl)
theorem dX7_common_56 : decode cX7_common 56 = .ok (.iload_n 3, 1) := dk_29 (dk_at dksX7_common_2 8 rfl rfl)
theorem dX7_common_57 : decode cX7_common 57 = .ok (.iload_n 2, 1) := dk_28 (dk_at dksX7_common_2 9 rfl rfl)
theorem dX7_common_58 : decode cX7_common 58 = .ok (.iadd, 1) := dk_96 (dk_at dksX7_common_2 10 rfl rfl)
theorem dX7_common_59 : decode cX7_common 59 = .ok (.iload_n 1, 1) := dk_27 (dk_at dksX7_common_2 11 rfl rfl)
theorem dX7_common_60 : decode cX7_common 60 = .ok (.isub, 1) := dk_100 (dk_at dksX7_common_2 12 rfl rfl)
theorem dX7_common_61 : decode cX7_common 61 = .ok (.aload_n 0, 1) := dk_42 (dk_at dksX7_common_2 13 rfl rfl)
theorem dX7_common_62 : decode cX7_common 62 = .ok (.getfield 56, 3) := dk_180 0 56 (dk_at dksX7_common_2 14 rfl rfl)
theorem dX7_common_65 : decode cX7_common 65 = .ok (.iload 5, 2) := dk_21 5 (dk_at dksX7_common_2 17 rfl rfl)
theorem dX7_common_67 : decode cX7_common 67 = .ok (.iaload, 1) := dk_46 (dk_at dksX7_common_2 19 rfl rfl)
theorem dX7_common_68 : decode cX7_common 68 = .ok (.invokevirtual 190, 3) := dk_182 0 190 (dk_at dksX7_common_2 20 rfl rfl)
theorem dX7_common_71 : decode cX7_common 71 = .ok (.istore 6, 2) := dk_54 6 (dk_at dksX7_common_3 0 rfl rfl)
theorem dX7_common_73 : decode cX7_common 73 = .ok (.iload 4, 2) := dk_21 4 (dk_at dksX7_common_3 2 rfl rfl)
theorem dX7_common_75 : decode cX7_common 75 = .ok (.iload 6, 2) := dk_21 6 (dk_at dksX7_common_3 4 rfl rfl)
theorem dX7_common_77 : decode cX7_common 77 = .ok (.aload_n 0, 1) := dk_42 (dk_at dksX7_common_3 6 rfl rfl)
theorem dX7_common_78 : decode cX7_common 78 = .ok (.getfield 47, 3) := dk_180 0 47 (dk_at dksX7_common_3 7 rfl rfl)
theorem dX7_common_81 : decode cX7_common 81 = .ok (.aload_n 0, 1) := dk_42 (dk_at dksX7_common_3 10 rfl rfl)
theorem dX7_common_82 : decode cX7_common 82 = .ok (.getfield 56, 3) := dk_180 0 56 (dk_at dksX7_common_3 11 rfl rfl)
theorem dX7_common_85 : decode cX7_common 85 = .ok (.iload 5, 2) := dk_21 5 (dk_at dksX7_common_3 14 rfl rfl)
theorem dX7_common_87 : decode cX7_common 87 = .ok (.iaload, 1) := dk_46 (dk_at dksX7_common_3 16 rfl rfl)
theorem dX7_common_88 : decode cX7_common 88 = .ok (.iaload, 1) := dk_46 (dk_at dksX7_common_3 17 rfl rfl)
theorem dX7_common_89 : decode cX7_common 89 = .ok (.if_icmp .ge 8, 3) := dk_162 0 8 (dk_at dksX7_common_3 18 rfl rfl)
theorem dX7_common_92 : decode cX7_common 92 = .ok (.iload 6, 2) := dk_21 6 (dk_at dksX7_common_3 21 rfl rfl)
theorem dX7_common_94 : decode cX7_common 94 = .ok (.goto 15, 3) := dk_167 0 15 (dk_at dksX7_common_4 0 rfl rfl)
theorem dX7_common_97 : decode cX7_common 97 = .ok (.aload_n 0, 1) := dk_42 (dk_at dksX7_common_4 3 rfl rfl)
theorem dX7_common_98 : decode cX7_common 98 = .ok (.getfield 47, 3) := dk_180 0 47 (dk_at dksX7_common_4 4 rfl rfl)
theorem dX7_common_101 : decode cX7_common 101 = .ok (.aload_n 0, 1) := dk_42 (dk_at dksX7_common_4 7 rfl rfl)
theorem dX7_common_102 : decode cX7_common 102 = .ok (.getfield 56, 3) := dk_180 0 56 (dk_at dksX7_common_4 8 rfl rfl)
theorem dX7_common_105 : decode cX7_common 105 = .ok (.iload 5, 2) := dk_21 5 (dk_at dksX7_common_4 11 rfl rfl)
theorem dX7_common_107 : decode cX7_common 107 = .ok (.iaload, 1) := dk_46 (dk_at dksX7_common_4 13 rfl rfl)
theorem dX7_common_108 : decode cX7_common 108 = .ok (.iaload, 1) := dk_46 (dk_at dksX7_common_4 14 rfl rfl)
theorem dX7_common_109 : decode cX7_common 109 = .ok (.iadd, 1) := dk_96 (dk_at dksX7_common_4 15 rfl rfl)
theorem dX7_common_110 : decode cX7_common 110 = .ok (.istore 4, 2) := dk_54 4 (dk_at dksX7_common_4 16 rfl rfl)
theorem dX7_common_112 : decode cX7_common 112 = .ok (.iinc 5 1, 3) := dk_132 5 1 (dk_at dksX7_common_4 18 rfl rfl)
theorem dX7_common_115 : decode cX7_common 115 = .ok (.goto (-70), 3) := dk_167 255 186 (dk_at dksX7_common_4 21 rfl rfl)
theorem dX7_common_118 : decode cX7_common 118 = .ok (.iload 4, 2) := dk_21 4 (dk_at dksX7_common_5 0 rfl rfl)
theorem dX7_common_120 : decode cX7_common 120 = .ok (.ireturn, 1) := dk_172 (dk_at dksX7_common_5 2 rfl rfl)
abbrev cX7_window : ByteArray := prog_19_method_75_code
def yX7_window : MethodName := ⟨RX7, "window", "(II)I"⟩
def dkwX7_window_2 : List UInt8 := [182, 1, 4, 172]
abbrev dktX7_window_2 : List UInt8 := dkwX7_window_2 ++ []
def dkwX7_window_1 : List UInt8 := [28, 42, 180, 0, 175, 27, 100, 164, 0, 8, 16, 254, 167, 0, 13, 42, 28, 28, 27, 96, 4, 100]
abbrev dktX7_window_1 : List UInt8 := dkwX7_window_1 ++ dktX7_window_2
def dkwX7_window_0 : List UInt8 := [42, 3, 181, 0, 72, 27, 4, 161, 0, 15, 27, 42, 180, 0, 175, 163, 0, 7, 28, 156, 0, 5, 2, 172]
abbrev dktX7_window_0 : List UInt8 := dkwX7_window_0 ++ dktX7_window_1
theorem dksX7_window_0 : cX7_window.data.toList.drop 0 = dktX7_window_0 := by decide +kernel
theorem dksX7_window_1 : cX7_window.data.toList.drop 24 = dktX7_window_1 := dk_seg dksX7_window_0 24 rfl rfl
theorem dksX7_window_2 : cX7_window.data.toList.drop 46 = dktX7_window_2 := dk_seg dksX7_window_1 22 rfl rfl
theorem dX7_window_0 : decode cX7_window 0 = .ok (.aload_n 0, 1) := dk_42 (dk_at dksX7_window_0 0 rfl rfl)
theorem dX7_window_1 : decode cX7_window 1 = .ok (.iconst 0, 1) := dk_3 (dk_at dksX7_window_0 1 rfl rfl)
theorem dX7_window_2 : decode cX7_window 2 = .ok (.putfield 72, 3) := dk_181 0 72 (dk_at dksX7_window_0 2 rfl rfl)
theorem dX7_window_5 : decode cX7_window 5 = .ok (.iload_n 1, 1) := dk_27 (dk_at dksX7_window_0 5 rfl rfl)
theorem dX7_window_6 : decode cX7_window 6 = .ok (.iconst 1, 1) := dk_4 (dk_at dksX7_window_0 6 rfl rfl)
theorem dX7_window_7 : decode cX7_window 7 = .ok (.if_icmp .lt 15, 3) := dk_161 0 15 (dk_at dksX7_window_0 7 rfl rfl)
theorem dX7_window_10 : decode cX7_window 10 = .ok (.iload_n 1, 1) := dk_27 (dk_at dksX7_window_0 10 rfl rfl)
theorem dX7_window_11 : decode cX7_window 11 = .ok (.aload_n 0, 1) := dk_42 (dk_at dksX7_window_0 11 rfl rfl)
theorem dX7_window_12 : decode cX7_window 12 = .ok (.getfield 175, 3) := dk_180 0 175 (dk_at dksX7_window_0 12 rfl rfl)
theorem dX7_window_15 : decode cX7_window 15 = .ok (.if_icmp .gt 7, 3) := dk_163 0 7 (dk_at dksX7_window_0 15 rfl rfl)
theorem dX7_window_18 : decode cX7_window 18 = .ok (.iload_n 2, 1) := dk_28 (dk_at dksX7_window_0 18 rfl rfl)
theorem dX7_window_19 : decode cX7_window 19 = .ok (.ifCond .ge 5, 3) := dk_156 0 5 (dk_at dksX7_window_0 19 rfl rfl)
theorem dX7_window_22 : decode cX7_window 22 = .ok (.iconst (-1), 1) := dk_2 (dk_at dksX7_window_0 22 rfl rfl)
theorem dX7_window_23 : decode cX7_window 23 = .ok (.ireturn, 1) := dk_172 (dk_at dksX7_window_0 23 rfl rfl)
theorem dX7_window_24 : decode cX7_window 24 = .ok (.iload_n 2, 1) := dk_28 (dk_at dksX7_window_1 0 rfl rfl)
theorem dX7_window_25 : decode cX7_window 25 = .ok (.aload_n 0, 1) := dk_42 (dk_at dksX7_window_1 1 rfl rfl)
theorem dX7_window_26 : decode cX7_window 26 = .ok (.getfield 175, 3) := dk_180 0 175 (dk_at dksX7_window_1 2 rfl rfl)
theorem dX7_window_29 : decode cX7_window 29 = .ok (.iload_n 1, 1) := dk_27 (dk_at dksX7_window_1 5 rfl rfl)
theorem dX7_window_30 : decode cX7_window 30 = .ok (.isub, 1) := dk_100 (dk_at dksX7_window_1 6 rfl rfl)
theorem dX7_window_31 : decode cX7_window 31 = .ok (.if_icmp .le 8, 3) := dk_164 0 8 (dk_at dksX7_window_1 7 rfl rfl)
theorem dX7_window_34 : decode cX7_window 34 = .ok (.bipush (-2), 2) := dk_16 254 (dk_at dksX7_window_1 10 rfl rfl)
theorem dX7_window_36 : decode cX7_window 36 = .ok (.goto 13, 3) := dk_167 0 13 (dk_at dksX7_window_1 12 rfl rfl)
theorem dX7_window_39 : decode cX7_window 39 = .ok (.aload_n 0, 1) := dk_42 (dk_at dksX7_window_1 15 rfl rfl)
theorem dX7_window_40 : decode cX7_window 40 = .ok (.iload_n 2, 1) := dk_28 (dk_at dksX7_window_1 16 rfl rfl)
theorem dX7_window_41 : decode cX7_window 41 = .ok (.iload_n 2, 1) := dk_28 (dk_at dksX7_window_1 17 rfl rfl)
theorem dX7_window_42 : decode cX7_window 42 = .ok (.iload_n 1, 1) := dk_27 (dk_at dksX7_window_1 18 rfl rfl)
theorem dX7_window_43 : decode cX7_window 43 = .ok (.iadd, 1) := dk_96 (dk_at dksX7_window_1 19 rfl rfl)
theorem dX7_window_44 : decode cX7_window 44 = .ok (.iconst 1, 1) := dk_4 (dk_at dksX7_window_1 20 rfl rfl)
theorem dX7_window_45 : decode cX7_window 45 = .ok (.isub, 1) := dk_100 (dk_at dksX7_window_1 21 rfl rfl)
theorem dX7_window_46 : decode cX7_window 46 = .ok (.invokevirtual 260, 3) := dk_182 1 4 (dk_at dksX7_window_2 0 rfl rfl)
theorem dX7_window_49 : decode cX7_window 49 = .ok (.ireturn, 1) := dk_172 (dk_at dksX7_window_2 3 rfl rfl)
abbrev cX7_windows : ByteArray := prog_19_method_76_code
def yX7_windows : MethodName := ⟨RX7, "windows", "(II)I"⟩
def dkwX7_windows_9 : List UInt8 := [160, 0, 8, 21, 5, 167, 0, 5, 21, 6, 172]
abbrev dktX7_windows_9 : List UInt8 := dkwX7_windows_9 ++ []
def dkwX7_windows_8 : List UInt8 := [164, 0, 7, 21, 7, 54, 6, 132, 7, 1, 167, 255, 194, 28, 154, 0, 7, 29, 167, 0, 15, 28, 4]
abbrev dktX7_windows_8 : List UInt8 := dkwX7_windows_8 ++ dktX7_windows_9
def dkwX7_windows_7 : List UInt8 := [180, 0, 63, 21, 7, 46, 21, 6, 2, 160, 0, 7, 3, 167, 0, 10, 42, 180, 0, 63, 21, 6, 46]
abbrev dktX7_windows_7 : List UInt8 := dkwX7_windows_7 ++ dktX7_windows_8
def dkwX7_windows_6 : List UInt8 := [162, 0, 60, 21, 5, 42, 180, 0, 63, 21, 7, 46, 158, 0, 7, 4, 167, 0, 4, 3, 96, 54, 5, 42]
abbrev dktX7_windows_6 : List UInt8 := dkwX7_windows_6 ++ dktX7_windows_7
def dkwX7_windows_5 : List UInt8 := [54, 4, 132, 5, 1, 167, 255, 193, 3, 54, 5, 2, 54, 6, 3, 54, 7, 21, 7, 17, 3, 232]
abbrev dktX7_windows_5 : List UInt8 := dkwX7_windows_5 ++ dktX7_windows_6
def dkwX7_windows_4 : List UInt8 := [159, 0, 7, 4, 167, 0, 4, 3, 96, 62, 42, 180, 0, 63, 21, 6, 92, 46, 4, 96, 79, 21, 6]
abbrev dktX7_windows_4 : List UInt8 := dkwX7_windows_4 ++ dktX7_windows_5
def dkwX7_windows_3 : List UInt8 := [21, 5, 21, 5, 27, 96, 4, 100, 182, 1, 4, 54, 6, 29, 21, 5, 158, 0, 14, 21, 6, 21, 4]
abbrev dktX7_windows_3 : List UInt8 := dkwX7_windows_3 ++ dktX7_windows_4
def dkwX7_windows_2 : List UInt8 := [167, 255, 239, 3, 62, 2, 54, 4, 3, 54, 5, 21, 5, 27, 96, 42, 180, 0, 175, 163, 0, 58, 42]
abbrev dktX7_windows_2 : List UInt8 := dkwX7_windows_2 ++ dktX7_windows_3
def dkwX7_windows_1 : List UInt8 := [164, 0, 5, 2, 172, 3, 62, 29, 17, 3, 232, 162, 0, 16, 42, 180, 0, 63, 29, 3, 79, 132, 3, 1]
abbrev dktX7_windows_1 : List UInt8 := dkwX7_windows_1 ++ dktX7_windows_2
def dkwX7_windows_0 : List UInt8 := [42, 3, 181, 0, 72, 27, 4, 161, 0, 20, 27, 42, 180, 0, 175, 163, 0, 12, 28, 155, 0, 8, 28, 5]
abbrev dktX7_windows_0 : List UInt8 := dkwX7_windows_0 ++ dktX7_windows_1
theorem dksX7_windows_0 : cX7_windows.data.toList.drop 0 = dktX7_windows_0 := by decide +kernel
theorem dksX7_windows_1 : cX7_windows.data.toList.drop 24 = dktX7_windows_1 := dk_seg dksX7_windows_0 24 rfl rfl
theorem dksX7_windows_2 : cX7_windows.data.toList.drop 48 = dktX7_windows_2 := dk_seg dksX7_windows_1 24 rfl rfl
theorem dksX7_windows_3 : cX7_windows.data.toList.drop 71 = dktX7_windows_3 := dk_seg dksX7_windows_2 23 rfl rfl
theorem dksX7_windows_4 : cX7_windows.data.toList.drop 94 = dktX7_windows_4 := dk_seg dksX7_windows_3 23 rfl rfl
theorem dksX7_windows_5 : cX7_windows.data.toList.drop 117 = dktX7_windows_5 := dk_seg dksX7_windows_4 23 rfl rfl
theorem dksX7_windows_6 : cX7_windows.data.toList.drop 139 = dktX7_windows_6 := dk_seg dksX7_windows_5 22 rfl rfl
theorem dksX7_windows_7 : cX7_windows.data.toList.drop 163 = dktX7_windows_7 := dk_seg dksX7_windows_6 24 rfl rfl
theorem dksX7_windows_8 : cX7_windows.data.toList.drop 186 = dktX7_windows_8 := dk_seg dksX7_windows_7 23 rfl rfl
theorem dksX7_windows_9 : cX7_windows.data.toList.drop 209 = dktX7_windows_9 := dk_seg dksX7_windows_8 23 rfl rfl
theorem dX7_windows_0 : decode cX7_windows 0 = .ok (.aload_n 0, 1) := dk_42 (dk_at dksX7_windows_0 0 rfl rfl)
theorem dX7_windows_1 : decode cX7_windows 1 = .ok (.iconst 0, 1) := dk_3 (dk_at dksX7_windows_0 1 rfl rfl)
theorem dX7_windows_2 : decode cX7_windows 2 = .ok (.putfield 72, 3) := dk_181 0 72 (dk_at dksX7_windows_0 2 rfl rfl)
theorem dX7_windows_5 : decode cX7_windows 5 = .ok (.iload_n 1, 1) := dk_27 (dk_at dksX7_windows_0 5 rfl rfl)
theorem dX7_windows_6 : decode cX7_windows 6 = .ok (.iconst 1, 1) := dk_4 (dk_at dksX7_windows_0 6 rfl rfl)
theorem dX7_windows_7 : decode cX7_windows 7 = .ok (.if_icmp .lt 20, 3) := dk_161 0 20 (dk_at dksX7_windows_0 7 rfl rfl)
theorem dX7_windows_10 : decode cX7_windows 10 = .ok (.iload_n 1, 1) := dk_27 (dk_at dksX7_windows_0 10 rfl rfl)
theorem dX7_windows_11 : decode cX7_windows 11 = .ok (.aload_n 0, 1) := dk_42 (dk_at dksX7_windows_0 11 rfl rfl)
theorem dX7_windows_12 : decode cX7_windows 12 = .ok (.getfield 175, 3) := dk_180 0 175 (dk_at dksX7_windows_0 12 rfl rfl)
theorem dX7_windows_15 : decode cX7_windows 15 = .ok (.if_icmp .gt 12, 3) := dk_163 0 12 (dk_at dksX7_windows_0 15 rfl rfl)
theorem dX7_windows_18 : decode cX7_windows 18 = .ok (.iload_n 2, 1) := dk_28 (dk_at dksX7_windows_0 18 rfl rfl)
theorem dX7_windows_19 : decode cX7_windows 19 = .ok (.ifCond .lt 8, 3) := dk_155 0 8 (dk_at dksX7_windows_0 19 rfl rfl)
theorem dX7_windows_22 : decode cX7_windows 22 = .ok (.iload_n 2, 1) := dk_28 (dk_at dksX7_windows_0 22 rfl rfl)
theorem dX7_windows_23 : decode cX7_windows 23 = .ok (.iconst 2, 1) := dk_5 (dk_at dksX7_windows_0 23 rfl rfl)
theorem dX7_windows_24 : decode cX7_windows 24 = .ok (.if_icmp .le 5, 3) := dk_164 0 5 (dk_at dksX7_windows_1 0 rfl rfl)
theorem dX7_windows_27 : decode cX7_windows 27 = .ok (.iconst (-1), 1) := dk_2 (dk_at dksX7_windows_1 3 rfl rfl)
theorem dX7_windows_28 : decode cX7_windows 28 = .ok (.ireturn, 1) := dk_172 (dk_at dksX7_windows_1 4 rfl rfl)
theorem dX7_windows_29 : decode cX7_windows 29 = .ok (.iconst 0, 1) := dk_3 (dk_at dksX7_windows_1 5 rfl rfl)
theorem dX7_windows_30 : decode cX7_windows 30 = .ok (.istore_n 3, 1) := dk_62 (dk_at dksX7_windows_1 6 rfl rfl)
theorem dX7_windows_31 : decode cX7_windows 31 = .ok (.iload_n 3, 1) := dk_29 (dk_at dksX7_windows_1 7 rfl rfl)
theorem dX7_windows_32 : decode cX7_windows 32 = .ok (.sipush 1000, 3) := dk_17 3 232 (dk_at dksX7_windows_1 8 rfl rfl)
theorem dX7_windows_35 : decode cX7_windows 35 = .ok (.if_icmp .ge 16, 3) := dk_162 0 16 (dk_at dksX7_windows_1 11 rfl rfl)
theorem dX7_windows_38 : decode cX7_windows 38 = .ok (.aload_n 0, 1) := dk_42 (dk_at dksX7_windows_1 14 rfl rfl)
theorem dX7_windows_39 : decode cX7_windows 39 = .ok (.getfield 63, 3) := dk_180 0 63 (dk_at dksX7_windows_1 15 rfl rfl)
theorem dX7_windows_42 : decode cX7_windows 42 = .ok (.iload_n 3, 1) := dk_29 (dk_at dksX7_windows_1 18 rfl rfl)
theorem dX7_windows_43 : decode cX7_windows 43 = .ok (.iconst 0, 1) := dk_3 (dk_at dksX7_windows_1 19 rfl rfl)
theorem dX7_windows_44 : decode cX7_windows 44 = .ok (.iastore, 1) := dk_79 (dk_at dksX7_windows_1 20 rfl rfl)
theorem dX7_windows_45 : decode cX7_windows 45 = .ok (.iinc 3 1, 3) := dk_132 3 1 (dk_at dksX7_windows_1 21 rfl rfl)
theorem dX7_windows_48 : decode cX7_windows 48 = .ok (.goto (-17), 3) := dk_167 255 239 (dk_at dksX7_windows_2 0 rfl rfl)
theorem dX7_windows_51 : decode cX7_windows 51 = .ok (.iconst 0, 1) := dk_3 (dk_at dksX7_windows_2 3 rfl rfl)
theorem dX7_windows_52 : decode cX7_windows 52 = .ok (.istore_n 3, 1) := dk_62 (dk_at dksX7_windows_2 4 rfl rfl)
theorem dX7_windows_53 : decode cX7_windows 53 = .ok (.iconst (-1), 1) := dk_2 (dk_at dksX7_windows_2 5 rfl rfl)
theorem dX7_windows_54 : decode cX7_windows 54 = .ok (.istore 4, 2) := dk_54 4 (dk_at dksX7_windows_2 6 rfl rfl)
theorem dX7_windows_56 : decode cX7_windows 56 = .ok (.iconst 0, 1) := dk_3 (dk_at dksX7_windows_2 8 rfl rfl)
theorem dX7_windows_57 : decode cX7_windows 57 = .ok (.istore 5, 2) := dk_54 5 (dk_at dksX7_windows_2 9 rfl rfl)
theorem dX7_windows_59 : decode cX7_windows 59 = .ok (.iload 5, 2) := dk_21 5 (dk_at dksX7_windows_2 11 rfl rfl)
theorem dX7_windows_61 : decode cX7_windows 61 = .ok (.iload_n 1, 1) := dk_27 (dk_at dksX7_windows_2 13 rfl rfl)
theorem dX7_windows_62 : decode cX7_windows 62 = .ok (.iadd, 1) := dk_96 (dk_at dksX7_windows_2 14 rfl rfl)
theorem dX7_windows_63 : decode cX7_windows 63 = .ok (.aload_n 0, 1) := dk_42 (dk_at dksX7_windows_2 15 rfl rfl)
theorem dX7_windows_64 : decode cX7_windows 64 = .ok (.getfield 175, 3) := dk_180 0 175 (dk_at dksX7_windows_2 16 rfl rfl)
theorem dX7_windows_67 : decode cX7_windows 67 = .ok (.if_icmp .gt 58, 3) := dk_163 0 58 (dk_at dksX7_windows_2 19 rfl rfl)
theorem dX7_windows_70 : decode cX7_windows 70 = .ok (.aload_n 0, 1) := dk_42 (dk_at dksX7_windows_2 22 rfl rfl)
theorem dX7_windows_71 : decode cX7_windows 71 = .ok (.iload 5, 2) := dk_21 5 (dk_at dksX7_windows_3 0 rfl rfl)
theorem dX7_windows_73 : decode cX7_windows 73 = .ok (.iload 5, 2) := dk_21 5 (dk_at dksX7_windows_3 2 rfl rfl)
theorem dX7_windows_75 : decode cX7_windows 75 = .ok (.iload_n 1, 1) := dk_27 (dk_at dksX7_windows_3 4 rfl rfl)
theorem dX7_windows_76 : decode cX7_windows 76 = .ok (.iadd, 1) := dk_96 (dk_at dksX7_windows_3 5 rfl rfl)
theorem dX7_windows_77 : decode cX7_windows 77 = .ok (.iconst 1, 1) := dk_4 (dk_at dksX7_windows_3 6 rfl rfl)
theorem dX7_windows_78 : decode cX7_windows 78 = .ok (.isub, 1) := dk_100 (dk_at dksX7_windows_3 7 rfl rfl)
theorem dX7_windows_79 : decode cX7_windows 79 = .ok (.invokevirtual 260, 3) := dk_182 1 4 (dk_at dksX7_windows_3 8 rfl rfl)
theorem dX7_windows_82 : decode cX7_windows 82 = .ok (.istore 6, 2) := dk_54 6 (dk_at dksX7_windows_3 11 rfl rfl)
theorem dX7_windows_84 : decode cX7_windows 84 = .ok (.iload_n 3, 1) := dk_29 (dk_at dksX7_windows_3 13 rfl rfl)
theorem dX7_windows_85 : decode cX7_windows 85 = .ok (.iload 5, 2) := dk_21 5 (dk_at dksX7_windows_3 14 rfl rfl)
theorem dX7_windows_87 : decode cX7_windows 87 = .ok (.ifCond .le 14, 3) := dk_158 0 14 (dk_at dksX7_windows_3 16 rfl rfl)
theorem dX7_windows_90 : decode cX7_windows 90 = .ok (.iload 6, 2) := dk_21 6 (dk_at dksX7_windows_3 19 rfl rfl)
theorem dX7_windows_92 : decode cX7_windows 92 = .ok (.iload 4, 2) := dk_21 4 (dk_at dksX7_windows_3 21 rfl rfl)
theorem dX7_windows_94 : decode cX7_windows 94 = .ok (.if_icmp .eq 7, 3) := dk_159 0 7 (dk_at dksX7_windows_4 0 rfl rfl)
theorem dX7_windows_97 : decode cX7_windows 97 = .ok (.iconst 1, 1) := dk_4 (dk_at dksX7_windows_4 3 rfl rfl)
theorem dX7_windows_98 : decode cX7_windows 98 = .ok (.goto 4, 3) := dk_167 0 4 (dk_at dksX7_windows_4 4 rfl rfl)
theorem dX7_windows_101 : decode cX7_windows 101 = .ok (.iconst 0, 1) := dk_3 (dk_at dksX7_windows_4 7 rfl rfl)
theorem dX7_windows_102 : decode cX7_windows 102 = .ok (.iadd, 1) := dk_96 (dk_at dksX7_windows_4 8 rfl rfl)
theorem dX7_windows_103 : decode cX7_windows 103 = .ok (.istore_n 3, 1) := dk_62 (dk_at dksX7_windows_4 9 rfl rfl)
theorem dX7_windows_104 : decode cX7_windows 104 = .ok (.aload_n 0, 1) := dk_42 (dk_at dksX7_windows_4 10 rfl rfl)
theorem dX7_windows_105 : decode cX7_windows 105 = .ok (.getfield 63, 3) := dk_180 0 63 (dk_at dksX7_windows_4 11 rfl rfl)
theorem dX7_windows_108 : decode cX7_windows 108 = .ok (.iload 6, 2) := dk_21 6 (dk_at dksX7_windows_4 14 rfl rfl)
theorem dX7_windows_110 : decode cX7_windows 110 = .ok (.dup2, 1) := dk_92 (dk_at dksX7_windows_4 16 rfl rfl)
theorem dX7_windows_111 : decode cX7_windows 111 = .ok (.iaload, 1) := dk_46 (dk_at dksX7_windows_4 17 rfl rfl)
theorem dX7_windows_112 : decode cX7_windows 112 = .ok (.iconst 1, 1) := dk_4 (dk_at dksX7_windows_4 18 rfl rfl)
theorem dX7_windows_113 : decode cX7_windows 113 = .ok (.iadd, 1) := dk_96 (dk_at dksX7_windows_4 19 rfl rfl)
theorem dX7_windows_114 : decode cX7_windows 114 = .ok (.iastore, 1) := dk_79 (dk_at dksX7_windows_4 20 rfl rfl)
theorem dX7_windows_115 : decode cX7_windows 115 = .ok (.iload 6, 2) := dk_21 6 (dk_at dksX7_windows_4 21 rfl rfl)
theorem dX7_windows_117 : decode cX7_windows 117 = .ok (.istore 4, 2) := dk_54 4 (dk_at dksX7_windows_5 0 rfl rfl)
theorem dX7_windows_119 : decode cX7_windows 119 = .ok (.iinc 5 1, 3) := dk_132 5 1 (dk_at dksX7_windows_5 2 rfl rfl)
theorem dX7_windows_122 : decode cX7_windows 122 = .ok (.goto (-63), 3) := dk_167 255 193 (dk_at dksX7_windows_5 5 rfl rfl)
theorem dX7_windows_125 : decode cX7_windows 125 = .ok (.iconst 0, 1) := dk_3 (dk_at dksX7_windows_5 8 rfl rfl)
theorem dX7_windows_126 : decode cX7_windows 126 = .ok (.istore 5, 2) := dk_54 5 (dk_at dksX7_windows_5 9 rfl rfl)
theorem dX7_windows_128 : decode cX7_windows 128 = .ok (.iconst (-1), 1) := dk_2 (dk_at dksX7_windows_5 11 rfl rfl)
theorem dX7_windows_129 : decode cX7_windows 129 = .ok (.istore 6, 2) := dk_54 6 (dk_at dksX7_windows_5 12 rfl rfl)
theorem dX7_windows_131 : decode cX7_windows 131 = .ok (.iconst 0, 1) := dk_3 (dk_at dksX7_windows_5 14 rfl rfl)
theorem dX7_windows_132 : decode cX7_windows 132 = .ok (.istore 7, 2) := dk_54 7 (dk_at dksX7_windows_5 15 rfl rfl)
theorem dX7_windows_134 : decode cX7_windows 134 = .ok (.iload 7, 2) := dk_21 7 (dk_at dksX7_windows_5 17 rfl rfl)
theorem dX7_windows_136 : decode cX7_windows 136 = .ok (.sipush 1000, 3) := dk_17 3 232 (dk_at dksX7_windows_5 19 rfl rfl)
theorem dX7_windows_139 : decode cX7_windows 139 = .ok (.if_icmp .ge 60, 3) := dk_162 0 60 (dk_at dksX7_windows_6 0 rfl rfl)
theorem dX7_windows_142 : decode cX7_windows 142 = .ok (.iload 5, 2) := dk_21 5 (dk_at dksX7_windows_6 3 rfl rfl)
theorem dX7_windows_144 : decode cX7_windows 144 = .ok (.aload_n 0, 1) := dk_42 (dk_at dksX7_windows_6 5 rfl rfl)
theorem dX7_windows_145 : decode cX7_windows 145 = .ok (.getfield 63, 3) := dk_180 0 63 (dk_at dksX7_windows_6 6 rfl rfl)
theorem dX7_windows_148 : decode cX7_windows 148 = .ok (.iload 7, 2) := dk_21 7 (dk_at dksX7_windows_6 9 rfl rfl)
theorem dX7_windows_150 : decode cX7_windows 150 = .ok (.iaload, 1) := dk_46 (dk_at dksX7_windows_6 11 rfl rfl)
theorem dX7_windows_151 : decode cX7_windows 151 = .ok (.ifCond .le 7, 3) := dk_158 0 7 (dk_at dksX7_windows_6 12 rfl rfl)
theorem dX7_windows_154 : decode cX7_windows 154 = .ok (.iconst 1, 1) := dk_4 (dk_at dksX7_windows_6 15 rfl rfl)
theorem dX7_windows_155 : decode cX7_windows 155 = .ok (.goto 4, 3) := dk_167 0 4 (dk_at dksX7_windows_6 16 rfl rfl)
theorem dX7_windows_158 : decode cX7_windows 158 = .ok (.iconst 0, 1) := dk_3 (dk_at dksX7_windows_6 19 rfl rfl)
theorem dX7_windows_159 : decode cX7_windows 159 = .ok (.iadd, 1) := dk_96 (dk_at dksX7_windows_6 20 rfl rfl)
theorem dX7_windows_160 : decode cX7_windows 160 = .ok (.istore 5, 2) := dk_54 5 (dk_at dksX7_windows_6 21 rfl rfl)
theorem dX7_windows_162 : decode cX7_windows 162 = .ok (.aload_n 0, 1) := dk_42 (dk_at dksX7_windows_6 23 rfl rfl)
theorem dX7_windows_163 : decode cX7_windows 163 = .ok (.getfield 63, 3) := dk_180 0 63 (dk_at dksX7_windows_7 0 rfl rfl)
theorem dX7_windows_166 : decode cX7_windows 166 = .ok (.iload 7, 2) := dk_21 7 (dk_at dksX7_windows_7 3 rfl rfl)
theorem dX7_windows_168 : decode cX7_windows 168 = .ok (.iaload, 1) := dk_46 (dk_at dksX7_windows_7 5 rfl rfl)
theorem dX7_windows_169 : decode cX7_windows 169 = .ok (.iload 6, 2) := dk_21 6 (dk_at dksX7_windows_7 6 rfl rfl)
theorem dX7_windows_171 : decode cX7_windows 171 = .ok (.iconst (-1), 1) := dk_2 (dk_at dksX7_windows_7 8 rfl rfl)
theorem dX7_windows_172 : decode cX7_windows 172 = .ok (.if_icmp .ne 7, 3) := dk_160 0 7 (dk_at dksX7_windows_7 9 rfl rfl)
theorem dX7_windows_175 : decode cX7_windows 175 = .ok (.iconst 0, 1) := dk_3 (dk_at dksX7_windows_7 12 rfl rfl)
theorem dX7_windows_176 : decode cX7_windows 176 = .ok (.goto 10, 3) := dk_167 0 10 (dk_at dksX7_windows_7 13 rfl rfl)
theorem dX7_windows_179 : decode cX7_windows 179 = .ok (.aload_n 0, 1) := dk_42 (dk_at dksX7_windows_7 16 rfl rfl)
theorem dX7_windows_180 : decode cX7_windows 180 = .ok (.getfield 63, 3) := dk_180 0 63 (dk_at dksX7_windows_7 17 rfl rfl)
theorem dX7_windows_183 : decode cX7_windows 183 = .ok (.iload 6, 2) := dk_21 6 (dk_at dksX7_windows_7 20 rfl rfl)
theorem dX7_windows_185 : decode cX7_windows 185 = .ok (.iaload, 1) := dk_46 (dk_at dksX7_windows_7 22 rfl rfl)
theorem dX7_windows_186 : decode cX7_windows 186 = .ok (.if_icmp .le 7, 3) := dk_164 0 7 (dk_at dksX7_windows_8 0 rfl rfl)
theorem dX7_windows_189 : decode cX7_windows 189 = .ok (.iload 7, 2) := dk_21 7 (dk_at dksX7_windows_8 3 rfl rfl)
theorem dX7_windows_191 : decode cX7_windows 191 = .ok (.istore 6, 2) := dk_54 6 (dk_at dksX7_windows_8 5 rfl rfl)
theorem dX7_windows_193 : decode cX7_windows 193 = .ok (.iinc 7 1, 3) := dk_132 7 1 (dk_at dksX7_windows_8 7 rfl rfl)
theorem dX7_windows_196 : decode cX7_windows 196 = .ok (.goto (-62), 3) := dk_167 255 194 (dk_at dksX7_windows_8 10 rfl rfl)
theorem dX7_windows_199 : decode cX7_windows 199 = .ok (.iload_n 2, 1) := dk_28 (dk_at dksX7_windows_8 13 rfl rfl)
theorem dX7_windows_200 : decode cX7_windows 200 = .ok (.ifCond .ne 7, 3) := dk_154 0 7 (dk_at dksX7_windows_8 14 rfl rfl)
theorem dX7_windows_203 : decode cX7_windows 203 = .ok (.iload_n 3, 1) := dk_29 (dk_at dksX7_windows_8 17 rfl rfl)
theorem dX7_windows_204 : decode cX7_windows 204 = .ok (.goto 15, 3) := dk_167 0 15 (dk_at dksX7_windows_8 18 rfl rfl)
theorem dX7_windows_207 : decode cX7_windows 207 = .ok (.iload_n 2, 1) := dk_28 (dk_at dksX7_windows_8 21 rfl rfl)
theorem dX7_windows_208 : decode cX7_windows 208 = .ok (.iconst 1, 1) := dk_4 (dk_at dksX7_windows_8 22 rfl rfl)
theorem dX7_windows_209 : decode cX7_windows 209 = .ok (.if_icmp .ne 8, 3) := dk_160 0 8 (dk_at dksX7_windows_9 0 rfl rfl)
theorem dX7_windows_212 : decode cX7_windows 212 = .ok (.iload 5, 2) := dk_21 5 (dk_at dksX7_windows_9 3 rfl rfl)
theorem dX7_windows_214 : decode cX7_windows 214 = .ok (.goto 5, 3) := dk_167 0 5 (dk_at dksX7_windows_9 5 rfl rfl)
theorem dX7_windows_217 : decode cX7_windows 217 = .ok (.iload 6, 2) := dk_21 6 (dk_at dksX7_windows_9 8 rfl rfl)
theorem dX7_windows_219 : decode cX7_windows 219 = .ok (.ireturn, 1) := dk_172 (dk_at dksX7_windows_9 10 rfl rfl)
abbrev cX7_spans : ByteArray := prog_19_method_78_code
def yX7_spans : MethodName := ⟨RX7, "spans", "(I)I"⟩
def dkwX7_spans_2 : List UInt8 := [160, 0, 7, 4, 167, 0, 4, 3, 96, 61, 132, 4, 1, 167, 255, 225, 132, 3, 1, 167, 255, 208, 28, 172]
abbrev dktX7_spans_2 : List UInt8 := dkwX7_spans_2 ++ []
def dkwX7_spans_1 : List UInt8 := [162, 0, 46, 29, 54, 4, 21, 4, 42, 180, 0, 175, 162, 0, 28, 28, 42, 29, 21, 4, 182, 1, 28, 27]
abbrev dktX7_spans_1 : List UInt8 := dkwX7_spans_1 ++ dktX7_spans_2
def dkwX7_spans_0 : List UInt8 := [42, 3, 181, 0, 72, 27, 184, 0, 220, 154, 0, 5, 2, 172, 3, 61, 3, 62, 29, 42, 180, 0, 175]
abbrev dktX7_spans_0 : List UInt8 := dkwX7_spans_0 ++ dktX7_spans_1
theorem dksX7_spans_0 : cX7_spans.data.toList.drop 0 = dktX7_spans_0 := by decide +kernel
theorem dksX7_spans_1 : cX7_spans.data.toList.drop 23 = dktX7_spans_1 := dk_seg dksX7_spans_0 23 rfl rfl
theorem dksX7_spans_2 : cX7_spans.data.toList.drop 47 = dktX7_spans_2 := dk_seg dksX7_spans_1 24 rfl rfl
theorem dX7_spans_0 : decode cX7_spans 0 = .ok (.aload_n 0, 1) := dk_42 (dk_at dksX7_spans_0 0 rfl rfl)
theorem dX7_spans_1 : decode cX7_spans 1 = .ok (.iconst 0, 1) := dk_3 (dk_at dksX7_spans_0 1 rfl rfl)
theorem dX7_spans_2 : decode cX7_spans 2 = .ok (.putfield 72, 3) := dk_181 0 72 (dk_at dksX7_spans_0 2 rfl rfl)
theorem dX7_spans_5 : decode cX7_spans 5 = .ok (.iload_n 1, 1) := dk_27 (dk_at dksX7_spans_0 5 rfl rfl)
theorem dX7_spans_6 : decode cX7_spans 6 = .ok (.invokestatic 220, 3) := dk_184 0 220 (dk_at dksX7_spans_0 6 rfl rfl)
theorem dX7_spans_9 : decode cX7_spans 9 = .ok (.ifCond .ne 5, 3) := dk_154 0 5 (dk_at dksX7_spans_0 9 rfl rfl)
theorem dX7_spans_12 : decode cX7_spans 12 = .ok (.iconst (-1), 1) := dk_2 (dk_at dksX7_spans_0 12 rfl rfl)
theorem dX7_spans_13 : decode cX7_spans 13 = .ok (.ireturn, 1) := dk_172 (dk_at dksX7_spans_0 13 rfl rfl)
theorem dX7_spans_14 : decode cX7_spans 14 = .ok (.iconst 0, 1) := dk_3 (dk_at dksX7_spans_0 14 rfl rfl)
theorem dX7_spans_15 : decode cX7_spans 15 = .ok (.istore_n 2, 1) := dk_61 (dk_at dksX7_spans_0 15 rfl rfl)
theorem dX7_spans_16 : decode cX7_spans 16 = .ok (.iconst 0, 1) := dk_3 (dk_at dksX7_spans_0 16 rfl rfl)
theorem dX7_spans_17 : decode cX7_spans 17 = .ok (.istore_n 3, 1) := dk_62 (dk_at dksX7_spans_0 17 rfl rfl)
theorem dX7_spans_18 : decode cX7_spans 18 = .ok (.iload_n 3, 1) := dk_29 (dk_at dksX7_spans_0 18 rfl rfl)
theorem dX7_spans_19 : decode cX7_spans 19 = .ok (.aload_n 0, 1) := dk_42 (dk_at dksX7_spans_0 19 rfl rfl)
theorem dX7_spans_20 : decode cX7_spans 20 = .ok (.getfield 175, 3) := dk_180 0 175 (dk_at dksX7_spans_0 20 rfl rfl)
theorem dX7_spans_23 : decode cX7_spans 23 = .ok (.if_icmp .ge 46, 3) := dk_162 0 46 (dk_at dksX7_spans_1 0 rfl rfl)
theorem dX7_spans_26 : decode cX7_spans 26 = .ok (.iload_n 3, 1) := dk_29 (dk_at dksX7_spans_1 3 rfl rfl)
theorem dX7_spans_27 : decode cX7_spans 27 = .ok (.istore 4, 2) := dk_54 4 (dk_at dksX7_spans_1 4 rfl rfl)
theorem dX7_spans_29 : decode cX7_spans 29 = .ok (.iload 4, 2) := dk_21 4 (dk_at dksX7_spans_1 6 rfl rfl)
theorem dX7_spans_31 : decode cX7_spans 31 = .ok (.aload_n 0, 1) := dk_42 (dk_at dksX7_spans_1 8 rfl rfl)
theorem dX7_spans_32 : decode cX7_spans 32 = .ok (.getfield 175, 3) := dk_180 0 175 (dk_at dksX7_spans_1 9 rfl rfl)
theorem dX7_spans_35 : decode cX7_spans 35 = .ok (.if_icmp .ge 28, 3) := dk_162 0 28 (dk_at dksX7_spans_1 12 rfl rfl)
theorem dX7_spans_38 : decode cX7_spans 38 = .ok (.iload_n 2, 1) := dk_28 (dk_at dksX7_spans_1 15 rfl rfl)
theorem dX7_spans_39 : decode cX7_spans 39 = .ok (.aload_n 0, 1) := dk_42 (dk_at dksX7_spans_1 16 rfl rfl)
theorem dX7_spans_40 : decode cX7_spans 40 = .ok (.iload_n 3, 1) := dk_29 (dk_at dksX7_spans_1 17 rfl rfl)
theorem dX7_spans_41 : decode cX7_spans 41 = .ok (.iload 4, 2) := dk_21 4 (dk_at dksX7_spans_1 18 rfl rfl)
theorem dX7_spans_43 : decode cX7_spans 43 = .ok (.invokevirtual 284, 3) := dk_182 1 28 (dk_at dksX7_spans_1 20 rfl rfl)
theorem dX7_spans_46 : decode cX7_spans 46 = .ok (.iload_n 1, 1) := dk_27 (dk_at dksX7_spans_1 23 rfl rfl)
theorem dX7_spans_47 : decode cX7_spans 47 = .ok (.if_icmp .ne 7, 3) := dk_160 0 7 (dk_at dksX7_spans_2 0 rfl rfl)
theorem dX7_spans_50 : decode cX7_spans 50 = .ok (.iconst 1, 1) := dk_4 (dk_at dksX7_spans_2 3 rfl rfl)
theorem dX7_spans_51 : decode cX7_spans 51 = .ok (.goto 4, 3) := dk_167 0 4 (dk_at dksX7_spans_2 4 rfl rfl)
theorem dX7_spans_54 : decode cX7_spans 54 = .ok (.iconst 0, 1) := dk_3 (dk_at dksX7_spans_2 7 rfl rfl)
theorem dX7_spans_55 : decode cX7_spans 55 = .ok (.iadd, 1) := dk_96 (dk_at dksX7_spans_2 8 rfl rfl)
theorem dX7_spans_56 : decode cX7_spans 56 = .ok (.istore_n 2, 1) := dk_61 (dk_at dksX7_spans_2 9 rfl rfl)
theorem dX7_spans_57 : decode cX7_spans 57 = .ok (.iinc 4 1, 3) := dk_132 4 1 (dk_at dksX7_spans_2 10 rfl rfl)
theorem dX7_spans_60 : decode cX7_spans 60 = .ok (.goto (-31), 3) := dk_167 255 225 (dk_at dksX7_spans_2 13 rfl rfl)
theorem dX7_spans_63 : decode cX7_spans 63 = .ok (.iinc 3 1, 3) := dk_132 3 1 (dk_at dksX7_spans_2 16 rfl rfl)
theorem dX7_spans_66 : decode cX7_spans 66 = .ok (.goto (-48), 3) := dk_167 255 208 (dk_at dksX7_spans_2 19 rfl rfl)
theorem dX7_spans_69 : decode cX7_spans 69 = .ok (.iload_n 2, 1) := dk_28 (dk_at dksX7_spans_2 22 rfl rfl)
theorem dX7_spans_70 : decode cX7_spans 70 = .ok (.ireturn, 1) := dk_172 (dk_at dksX7_spans_2 23 rfl rfl)
abbrev cX7_longer : ByteArray := prog_19_method_77_code
def yX7_longer : MethodName := ⟨RX7, "longer", "(II)I"⟩
def dkwX7_longer_1 : List UInt8 := [182, 1, 25, 42, 42, 180, 0, 178, 182, 1, 0, 172]
abbrev dktX7_longer_1 : List UInt8 := dkwX7_longer_1 ++ []
def dkwX7_longer_0 : List UInt8 := [27, 28, 160, 0, 13, 42, 27, 28, 2, 182, 0, 252, 167, 0, 14, 42, 42, 180, 0, 13, 28, 46, 28]
abbrev dktX7_longer_0 : List UInt8 := dkwX7_longer_0 ++ dktX7_longer_1
theorem dksX7_longer_0 : cX7_longer.data.toList.drop 0 = dktX7_longer_0 := by decide +kernel
theorem dksX7_longer_1 : cX7_longer.data.toList.drop 23 = dktX7_longer_1 := dk_seg dksX7_longer_0 23 rfl rfl
theorem dX7_longer_0 : decode cX7_longer 0 = .ok (.iload_n 1, 1) := dk_27 (dk_at dksX7_longer_0 0 rfl rfl)
theorem dX7_longer_1 : decode cX7_longer 1 = .ok (.iload_n 2, 1) := dk_28 (dk_at dksX7_longer_0 1 rfl rfl)
theorem dX7_longer_2 : decode cX7_longer 2 = .ok (.if_icmp .ne 13, 3) := dk_160 0 13 (dk_at dksX7_longer_0 2 rfl rfl)
theorem dX7_longer_5 : decode cX7_longer 5 = .ok (.aload_n 0, 1) := dk_42 (dk_at dksX7_longer_0 5 rfl rfl)
theorem dX7_longer_6 : decode cX7_longer 6 = .ok (.iload_n 1, 1) := dk_27 (dk_at dksX7_longer_0 6 rfl rfl)
theorem dX7_longer_7 : decode cX7_longer 7 = .ok (.iload_n 2, 1) := dk_28 (dk_at dksX7_longer_0 7 rfl rfl)
theorem dX7_longer_8 : decode cX7_longer 8 = .ok (.iconst (-1), 1) := dk_2 (dk_at dksX7_longer_0 8 rfl rfl)
theorem dX7_longer_9 : decode cX7_longer 9 = .ok (.invokevirtual 252, 3) := dk_182 0 252 (dk_at dksX7_longer_0 9 rfl rfl)
theorem dX7_longer_12 : decode cX7_longer 12 = .ok (.goto 14, 3) := dk_167 0 14 (dk_at dksX7_longer_0 12 rfl rfl)
theorem dX7_longer_15 : decode cX7_longer 15 = .ok (.aload_n 0, 1) := dk_42 (dk_at dksX7_longer_0 15 rfl rfl)
theorem dX7_longer_16 : decode cX7_longer 16 = .ok (.aload_n 0, 1) := dk_42 (dk_at dksX7_longer_0 16 rfl rfl)
theorem dX7_longer_17 : decode cX7_longer 17 = .ok (.getfield 13, 3) := dk_180 0 13 (dk_at dksX7_longer_0 17 rfl rfl)
theorem dX7_longer_20 : decode cX7_longer 20 = .ok (.iload_n 2, 1) := dk_28 (dk_at dksX7_longer_0 20 rfl rfl)
theorem dX7_longer_21 : decode cX7_longer 21 = .ok (.iaload, 1) := dk_46 (dk_at dksX7_longer_0 21 rfl rfl)
theorem dX7_longer_22 : decode cX7_longer 22 = .ok (.iload_n 2, 1) := dk_28 (dk_at dksX7_longer_0 22 rfl rfl)
theorem dX7_longer_23 : decode cX7_longer 23 = .ok (.invokevirtual 281, 3) := dk_182 1 25 (dk_at dksX7_longer_1 0 rfl rfl)
theorem dX7_longer_26 : decode cX7_longer 26 = .ok (.aload_n 0, 1) := dk_42 (dk_at dksX7_longer_1 3 rfl rfl)
theorem dX7_longer_27 : decode cX7_longer 27 = .ok (.aload_n 0, 1) := dk_42 (dk_at dksX7_longer_1 4 rfl rfl)
theorem dX7_longer_28 : decode cX7_longer 28 = .ok (.getfield 178, 3) := dk_180 0 178 (dk_at dksX7_longer_1 5 rfl rfl)
theorem dX7_longer_31 : decode cX7_longer 31 = .ok (.invokevirtual 256, 3) := dk_182 1 0 (dk_at dksX7_longer_1 8 rfl rfl)
theorem dX7_longer_34 : decode cX7_longer 34 = .ok (.ireturn, 1) := dk_172 (dk_at dksX7_longer_1 11 rfl rfl)
abbrev cX7_stands : ByteArray := prog_19_method_87_code
def yX7_stands : MethodName := ⟨RX7, "stands", "(II)V"⟩
def dkwX7_stands_2 : List UInt8 := [92, 46, 4, 96, 79, 177]
abbrev dktX7_stands_2 : List UInt8 := dkwX7_stands_2 ++ []
def dkwX7_stands_1 : List UInt8 := [27, 79, 42, 89, 180, 0, 242, 4, 96, 181, 0, 242, 42, 180, 0, 53, 27, 28, 79, 42, 180, 0, 47, 27]
abbrev dktX7_stands_1 : List UInt8 := dkwX7_stands_1 ++ dktX7_stands_2
def dkwX7_stands_0 : List UInt8 := [42, 180, 0, 47, 27, 46, 154, 0, 30, 42, 180, 0, 50, 27, 28, 79, 42, 180, 0, 56, 42, 180, 0, 242]
abbrev dktX7_stands_0 : List UInt8 := dkwX7_stands_0 ++ dktX7_stands_1
theorem dksX7_stands_0 : cX7_stands.data.toList.drop 0 = dktX7_stands_0 := by decide +kernel
theorem dksX7_stands_1 : cX7_stands.data.toList.drop 24 = dktX7_stands_1 := dk_seg dksX7_stands_0 24 rfl rfl
theorem dksX7_stands_2 : cX7_stands.data.toList.drop 48 = dktX7_stands_2 := dk_seg dksX7_stands_1 24 rfl rfl
theorem dX7_stands_0 : decode cX7_stands 0 = .ok (.aload_n 0, 1) := dk_42 (dk_at dksX7_stands_0 0 rfl rfl)
theorem dX7_stands_1 : decode cX7_stands 1 = .ok (.getfield 47, 3) := dk_180 0 47 (dk_at dksX7_stands_0 1 rfl rfl)
theorem dX7_stands_4 : decode cX7_stands 4 = .ok (.iload_n 1, 1) := dk_27 (dk_at dksX7_stands_0 4 rfl rfl)
theorem dX7_stands_5 : decode cX7_stands 5 = .ok (.iaload, 1) := dk_46 (dk_at dksX7_stands_0 5 rfl rfl)
theorem dX7_stands_6 : decode cX7_stands 6 = .ok (.ifCond .ne 30, 3) := dk_154 0 30 (dk_at dksX7_stands_0 6 rfl rfl)
theorem dX7_stands_9 : decode cX7_stands 9 = .ok (.aload_n 0, 1) := dk_42 (dk_at dksX7_stands_0 9 rfl rfl)
theorem dX7_stands_10 : decode cX7_stands 10 = .ok (.getfield 50, 3) := dk_180 0 50 (dk_at dksX7_stands_0 10 rfl rfl)
theorem dX7_stands_13 : decode cX7_stands 13 = .ok (.iload_n 1, 1) := dk_27 (dk_at dksX7_stands_0 13 rfl rfl)
theorem dX7_stands_14 : decode cX7_stands 14 = .ok (.iload_n 2, 1) := dk_28 (dk_at dksX7_stands_0 14 rfl rfl)
theorem dX7_stands_15 : decode cX7_stands 15 = .ok (.iastore, 1) := dk_79 (dk_at dksX7_stands_0 15 rfl rfl)
theorem dX7_stands_16 : decode cX7_stands 16 = .ok (.aload_n 0, 1) := dk_42 (dk_at dksX7_stands_0 16 rfl rfl)
theorem dX7_stands_17 : decode cX7_stands 17 = .ok (.getfield 56, 3) := dk_180 0 56 (dk_at dksX7_stands_0 17 rfl rfl)
theorem dX7_stands_20 : decode cX7_stands 20 = .ok (.aload_n 0, 1) := dk_42 (dk_at dksX7_stands_0 20 rfl rfl)
theorem dX7_stands_21 : decode cX7_stands 21 = .ok (.getfield 242, 3) := dk_180 0 242 (dk_at dksX7_stands_0 21 rfl rfl)
theorem dX7_stands_24 : decode cX7_stands 24 = .ok (.iload_n 1, 1) := dk_27 (dk_at dksX7_stands_1 0 rfl rfl)
theorem dX7_stands_25 : decode cX7_stands 25 = .ok (.iastore, 1) := dk_79 (dk_at dksX7_stands_1 1 rfl rfl)
theorem dX7_stands_26 : decode cX7_stands 26 = .ok (.aload_n 0, 1) := dk_42 (dk_at dksX7_stands_1 2 rfl rfl)
theorem dX7_stands_27 : decode cX7_stands 27 = .ok (.dup, 1) := dk_89 (dk_at dksX7_stands_1 3 rfl rfl)
theorem dX7_stands_28 : decode cX7_stands 28 = .ok (.getfield 242, 3) := dk_180 0 242 (dk_at dksX7_stands_1 4 rfl rfl)
theorem dX7_stands_31 : decode cX7_stands 31 = .ok (.iconst 1, 1) := dk_4 (dk_at dksX7_stands_1 7 rfl rfl)
theorem dX7_stands_32 : decode cX7_stands 32 = .ok (.iadd, 1) := dk_96 (dk_at dksX7_stands_1 8 rfl rfl)
theorem dX7_stands_33 : decode cX7_stands 33 = .ok (.putfield 242, 3) := dk_181 0 242 (dk_at dksX7_stands_1 9 rfl rfl)
theorem dX7_stands_36 : decode cX7_stands 36 = .ok (.aload_n 0, 1) := dk_42 (dk_at dksX7_stands_1 12 rfl rfl)
theorem dX7_stands_37 : decode cX7_stands 37 = .ok (.getfield 53, 3) := dk_180 0 53 (dk_at dksX7_stands_1 13 rfl rfl)
theorem dX7_stands_40 : decode cX7_stands 40 = .ok (.iload_n 1, 1) := dk_27 (dk_at dksX7_stands_1 16 rfl rfl)
theorem dX7_stands_41 : decode cX7_stands 41 = .ok (.iload_n 2, 1) := dk_28 (dk_at dksX7_stands_1 17 rfl rfl)
theorem dX7_stands_42 : decode cX7_stands 42 = .ok (.iastore, 1) := dk_79 (dk_at dksX7_stands_1 18 rfl rfl)
theorem dX7_stands_43 : decode cX7_stands 43 = .ok (.aload_n 0, 1) := dk_42 (dk_at dksX7_stands_1 19 rfl rfl)
theorem dX7_stands_44 : decode cX7_stands 44 = .ok (.getfield 47, 3) := dk_180 0 47 (dk_at dksX7_stands_1 20 rfl rfl)
theorem dX7_stands_47 : decode cX7_stands 47 = .ok (.iload_n 1, 1) := dk_27 (dk_at dksX7_stands_1 23 rfl rfl)
theorem dX7_stands_48 : decode cX7_stands 48 = .ok (.dup2, 1) := dk_92 (dk_at dksX7_stands_2 0 rfl rfl)
theorem dX7_stands_49 : decode cX7_stands 49 = .ok (.iaload, 1) := dk_46 (dk_at dksX7_stands_2 1 rfl rfl)
theorem dX7_stands_50 : decode cX7_stands 50 = .ok (.iconst 1, 1) := dk_4 (dk_at dksX7_stands_2 2 rfl rfl)
theorem dX7_stands_51 : decode cX7_stands 51 = .ok (.iadd, 1) := dk_96 (dk_at dksX7_stands_2 3 rfl rfl)
theorem dX7_stands_52 : decode cX7_stands 52 = .ok (.iastore, 1) := dk_79 (dk_at dksX7_stands_2 4 rfl rfl)
theorem dX7_stands_53 : decode cX7_stands 53 = .ok (.return_, 1) := dk_177 (dk_at dksX7_stands_2 5 rfl rfl)
abbrev cX7_longest : ByteArray := prog_19_method_79_code
def yX7_longest : MethodName := ⟨RX7, "longest", "(II)I"⟩
def dkwX7_longest_5 : List UInt8 := [167, 0, 9, 29, 21, 4, 96, 4, 100, 172]
abbrev dktX7_longest_5 : List UInt8 := dkwX7_longest_5 ++ []
def dkwX7_longest_4 : List UInt8 := [132, 6, 1, 167, 255, 205, 132, 5, 1, 167, 255, 186, 29, 16, 254, 159, 0, 7, 28, 154, 0, 7, 29]
abbrev dktX7_longest_4 : List UInt8 := dkwX7_longest_4 ++ dktX7_longest_5
def dkwX7_longest_3 : List UInt8 := [4, 96, 21, 4, 163, 0, 6, 167, 0, 15, 21, 5, 62, 21, 6, 21, 5, 100, 4, 96, 54, 4]
abbrev dktX7_longest_3 : List UInt8 := dkwX7_longest_3 ++ dktX7_longest_4
def dkwX7_longest_2 : List UInt8 := [42, 180, 0, 175, 162, 0, 48, 42, 21, 5, 21, 6, 182, 1, 28, 27, 160, 0, 30, 21, 6, 21, 5, 100]
abbrev dktX7_longest_2 : List UInt8 := dkwX7_longest_2 ++ dktX7_longest_3
def dkwX7_longest_1 : List UInt8 := [16, 254, 62, 3, 54, 4, 3, 54, 5, 21, 5, 42, 180, 0, 175, 162, 0, 67, 21, 5, 54, 6, 21, 6]
abbrev dktX7_longest_1 : List UInt8 := dkwX7_longest_1 ++ dktX7_longest_2
def dkwX7_longest_0 : List UInt8 := [42, 3, 181, 0, 72, 27, 184, 0, 220, 153, 0, 12, 28, 155, 0, 8, 28, 4, 164, 0, 5, 2, 172]
abbrev dktX7_longest_0 : List UInt8 := dkwX7_longest_0 ++ dktX7_longest_1
theorem dksX7_longest_0 : cX7_longest.data.toList.drop 0 = dktX7_longest_0 := by decide +kernel
theorem dksX7_longest_1 : cX7_longest.data.toList.drop 23 = dktX7_longest_1 := dk_seg dksX7_longest_0 23 rfl rfl
theorem dksX7_longest_2 : cX7_longest.data.toList.drop 47 = dktX7_longest_2 := dk_seg dksX7_longest_1 24 rfl rfl
theorem dksX7_longest_3 : cX7_longest.data.toList.drop 71 = dktX7_longest_3 := dk_seg dksX7_longest_2 24 rfl rfl
theorem dksX7_longest_4 : cX7_longest.data.toList.drop 93 = dktX7_longest_4 := dk_seg dksX7_longest_3 22 rfl rfl
theorem dksX7_longest_5 : cX7_longest.data.toList.drop 116 = dktX7_longest_5 := dk_seg dksX7_longest_4 23 rfl rfl
theorem dX7_longest_0 : decode cX7_longest 0 = .ok (.aload_n 0, 1) := dk_42 (dk_at dksX7_longest_0 0 rfl rfl)
theorem dX7_longest_1 : decode cX7_longest 1 = .ok (.iconst 0, 1) := dk_3 (dk_at dksX7_longest_0 1 rfl rfl)
theorem dX7_longest_2 : decode cX7_longest 2 = .ok (.putfield 72, 3) := dk_181 0 72 (dk_at dksX7_longest_0 2 rfl rfl)
theorem dX7_longest_5 : decode cX7_longest 5 = .ok (.iload_n 1, 1) := dk_27 (dk_at dksX7_longest_0 5 rfl rfl)
theorem dX7_longest_6 : decode cX7_longest 6 = .ok (.invokestatic 220, 3) := dk_184 0 220 (dk_at dksX7_longest_0 6 rfl rfl)
theorem dX7_longest_9 : decode cX7_longest 9 = .ok (.ifCond .eq 12, 3) := dk_153 0 12 (dk_at dksX7_longest_0 9 rfl rfl)
theorem dX7_longest_12 : decode cX7_longest 12 = .ok (.iload_n 2, 1) := dk_28 (dk_at dksX7_longest_0 12 rfl rfl)
theorem dX7_longest_13 : decode cX7_longest 13 = .ok (.ifCond .lt 8, 3) := dk_155 0 8 (dk_at dksX7_longest_0 13 rfl rfl)
theorem dX7_longest_16 : decode cX7_longest 16 = .ok (.iload_n 2, 1) := dk_28 (dk_at dksX7_longest_0 16 rfl rfl)
theorem dX7_longest_17 : decode cX7_longest 17 = .ok (.iconst 1, 1) := dk_4 (dk_at dksX7_longest_0 17 rfl rfl)
theorem dX7_longest_18 : decode cX7_longest 18 = .ok (.if_icmp .le 5, 3) := dk_164 0 5 (dk_at dksX7_longest_0 18 rfl rfl)
theorem dX7_longest_21 : decode cX7_longest 21 = .ok (.iconst (-1), 1) := dk_2 (dk_at dksX7_longest_0 21 rfl rfl)
theorem dX7_longest_22 : decode cX7_longest 22 = .ok (.ireturn, 1) := dk_172 (dk_at dksX7_longest_0 22 rfl rfl)
theorem dX7_longest_23 : decode cX7_longest 23 = .ok (.bipush (-2), 2) := dk_16 254 (dk_at dksX7_longest_1 0 rfl rfl)
theorem dX7_longest_25 : decode cX7_longest 25 = .ok (.istore_n 3, 1) := dk_62 (dk_at dksX7_longest_1 2 rfl rfl)
theorem dX7_longest_26 : decode cX7_longest 26 = .ok (.iconst 0, 1) := dk_3 (dk_at dksX7_longest_1 3 rfl rfl)
theorem dX7_longest_27 : decode cX7_longest 27 = .ok (.istore 4, 2) := dk_54 4 (dk_at dksX7_longest_1 4 rfl rfl)
theorem dX7_longest_29 : decode cX7_longest 29 = .ok (.iconst 0, 1) := dk_3 (dk_at dksX7_longest_1 6 rfl rfl)
theorem dX7_longest_30 : decode cX7_longest 30 = .ok (.istore 5, 2) := dk_54 5 (dk_at dksX7_longest_1 7 rfl rfl)
theorem dX7_longest_32 : decode cX7_longest 32 = .ok (.iload 5, 2) := dk_21 5 (dk_at dksX7_longest_1 9 rfl rfl)
theorem dX7_longest_34 : decode cX7_longest 34 = .ok (.aload_n 0, 1) := dk_42 (dk_at dksX7_longest_1 11 rfl rfl)
theorem dX7_longest_35 : decode cX7_longest 35 = .ok (.getfield 175, 3) := dk_180 0 175 (dk_at dksX7_longest_1 12 rfl rfl)
theorem dX7_longest_38 : decode cX7_longest 38 = .ok (.if_icmp .ge 67, 3) := dk_162 0 67 (dk_at dksX7_longest_1 15 rfl rfl)
theorem dX7_longest_41 : decode cX7_longest 41 = .ok (.iload 5, 2) := dk_21 5 (dk_at dksX7_longest_1 18 rfl rfl)
theorem dX7_longest_43 : decode cX7_longest 43 = .ok (.istore 6, 2) := dk_54 6 (dk_at dksX7_longest_1 20 rfl rfl)
theorem dX7_longest_45 : decode cX7_longest 45 = .ok (.iload 6, 2) := dk_21 6 (dk_at dksX7_longest_1 22 rfl rfl)
theorem dX7_longest_47 : decode cX7_longest 47 = .ok (.aload_n 0, 1) := dk_42 (dk_at dksX7_longest_2 0 rfl rfl)
theorem dX7_longest_48 : decode cX7_longest 48 = .ok (.getfield 175, 3) := dk_180 0 175 (dk_at dksX7_longest_2 1 rfl rfl)
theorem dX7_longest_51 : decode cX7_longest 51 = .ok (.if_icmp .ge 48, 3) := dk_162 0 48 (dk_at dksX7_longest_2 4 rfl rfl)
theorem dX7_longest_54 : decode cX7_longest 54 = .ok (.aload_n 0, 1) := dk_42 (dk_at dksX7_longest_2 7 rfl rfl)
theorem dX7_longest_55 : decode cX7_longest 55 = .ok (.iload 5, 2) := dk_21 5 (dk_at dksX7_longest_2 8 rfl rfl)
theorem dX7_longest_57 : decode cX7_longest 57 = .ok (.iload 6, 2) := dk_21 6 (dk_at dksX7_longest_2 10 rfl rfl)
theorem dX7_longest_59 : decode cX7_longest 59 = .ok (.invokevirtual 284, 3) := dk_182 1 28 (dk_at dksX7_longest_2 12 rfl rfl)
theorem dX7_longest_62 : decode cX7_longest 62 = .ok (.iload_n 1, 1) := dk_27 (dk_at dksX7_longest_2 15 rfl rfl)
theorem dX7_longest_63 : decode cX7_longest 63 = .ok (.if_icmp .ne 30, 3) := dk_160 0 30 (dk_at dksX7_longest_2 16 rfl rfl)
theorem dX7_longest_66 : decode cX7_longest 66 = .ok (.iload 6, 2) := dk_21 6 (dk_at dksX7_longest_2 19 rfl rfl)
theorem dX7_longest_68 : decode cX7_longest 68 = .ok (.iload 5, 2) := dk_21 5 (dk_at dksX7_longest_2 21 rfl rfl)
theorem dX7_longest_70 : decode cX7_longest 70 = .ok (.isub, 1) := dk_100 (dk_at dksX7_longest_2 23 rfl rfl)
theorem dX7_longest_71 : decode cX7_longest 71 = .ok (.iconst 1, 1) := dk_4 (dk_at dksX7_longest_3 0 rfl rfl)
theorem dX7_longest_72 : decode cX7_longest 72 = .ok (.iadd, 1) := dk_96 (dk_at dksX7_longest_3 1 rfl rfl)
theorem dX7_longest_73 : decode cX7_longest 73 = .ok (.iload 4, 2) := dk_21 4 (dk_at dksX7_longest_3 2 rfl rfl)
theorem dX7_longest_75 : decode cX7_longest 75 = .ok (.if_icmp .gt 6, 3) := dk_163 0 6 (dk_at dksX7_longest_3 4 rfl rfl)
theorem dX7_longest_78 : decode cX7_longest 78 = .ok (.goto 15, 3) := dk_167 0 15 (dk_at dksX7_longest_3 7 rfl rfl)
theorem dX7_longest_81 : decode cX7_longest 81 = .ok (.iload 5, 2) := dk_21 5 (dk_at dksX7_longest_3 10 rfl rfl)
theorem dX7_longest_83 : decode cX7_longest 83 = .ok (.istore_n 3, 1) := dk_62 (dk_at dksX7_longest_3 12 rfl rfl)
theorem dX7_longest_84 : decode cX7_longest 84 = .ok (.iload 6, 2) := dk_21 6 (dk_at dksX7_longest_3 13 rfl rfl)
theorem dX7_longest_86 : decode cX7_longest 86 = .ok (.iload 5, 2) := dk_21 5 (dk_at dksX7_longest_3 15 rfl rfl)
theorem dX7_longest_88 : decode cX7_longest 88 = .ok (.isub, 1) := dk_100 (dk_at dksX7_longest_3 17 rfl rfl)
theorem dX7_longest_89 : decode cX7_longest 89 = .ok (.iconst 1, 1) := dk_4 (dk_at dksX7_longest_3 18 rfl rfl)
theorem dX7_longest_90 : decode cX7_longest 90 = .ok (.iadd, 1) := dk_96 (dk_at dksX7_longest_3 19 rfl rfl)
theorem dX7_longest_91 : decode cX7_longest 91 = .ok (.istore 4, 2) := dk_54 4 (dk_at dksX7_longest_3 20 rfl rfl)
theorem dX7_longest_93 : decode cX7_longest 93 = .ok (.iinc 6 1, 3) := dk_132 6 1 (dk_at dksX7_longest_4 0 rfl rfl)
theorem dX7_longest_96 : decode cX7_longest 96 = .ok (.goto (-51), 3) := dk_167 255 205 (dk_at dksX7_longest_4 3 rfl rfl)
theorem dX7_longest_99 : decode cX7_longest 99 = .ok (.iinc 5 1, 3) := dk_132 5 1 (dk_at dksX7_longest_4 6 rfl rfl)
theorem dX7_longest_102 : decode cX7_longest 102 = .ok (.goto (-70), 3) := dk_167 255 186 (dk_at dksX7_longest_4 9 rfl rfl)
theorem dX7_longest_105 : decode cX7_longest 105 = .ok (.iload_n 3, 1) := dk_29 (dk_at dksX7_longest_4 12 rfl rfl)
theorem dX7_longest_106 : decode cX7_longest 106 = .ok (.bipush (-2), 2) := dk_16 254 (dk_at dksX7_longest_4 13 rfl rfl)
theorem dX7_longest_108 : decode cX7_longest 108 = .ok (.if_icmp .eq 7, 3) := dk_159 0 7 (dk_at dksX7_longest_4 15 rfl rfl)
theorem dX7_longest_111 : decode cX7_longest 111 = .ok (.iload_n 2, 1) := dk_28 (dk_at dksX7_longest_4 18 rfl rfl)
theorem dX7_longest_112 : decode cX7_longest 112 = .ok (.ifCond .ne 7, 3) := dk_154 0 7 (dk_at dksX7_longest_4 19 rfl rfl)
theorem dX7_longest_115 : decode cX7_longest 115 = .ok (.iload_n 3, 1) := dk_29 (dk_at dksX7_longest_4 22 rfl rfl)
theorem dX7_longest_116 : decode cX7_longest 116 = .ok (.goto 9, 3) := dk_167 0 9 (dk_at dksX7_longest_5 0 rfl rfl)
theorem dX7_longest_119 : decode cX7_longest 119 = .ok (.iload_n 3, 1) := dk_29 (dk_at dksX7_longest_5 3 rfl rfl)
theorem dX7_longest_120 : decode cX7_longest 120 = .ok (.iload 4, 2) := dk_21 4 (dk_at dksX7_longest_5 4 rfl rfl)
theorem dX7_longest_122 : decode cX7_longest 122 = .ok (.iadd, 1) := dk_96 (dk_at dksX7_longest_5 6 rfl rfl)
theorem dX7_longest_123 : decode cX7_longest 123 = .ok (.iconst 1, 1) := dk_4 (dk_at dksX7_longest_5 7 rfl rfl)
theorem dX7_longest_124 : decode cX7_longest 124 = .ok (.isub, 1) := dk_100 (dk_at dksX7_longest_5 8 rfl rfl)
theorem dX7_longest_125 : decode cX7_longest 125 = .ok (.ireturn, 1) := dk_172 (dk_at dksX7_longest_5 9 rfl rfl)
abbrev cX7_tightest : ByteArray := prog_19_method_80_code
def yX7_tightest : MethodName := ⟨RX7, "tightest", "(II)I"⟩
def dkwX7_tightest_6 : List UInt8 := [167, 0, 23, 28, 4, 160, 0, 12, 29, 21, 4, 96, 4, 100, 167, 0, 9, 42, 180, 0, 13, 29, 46, 172]
abbrev dktX7_tightest_6 : List UInt8 := dkwX7_tightest_6 ++ []
def dkwX7_tightest_5 : List UInt8 := [21, 5, 100, 54, 4, 132, 5, 1, 167, 255, 160, 29, 16, 254, 159, 0, 7, 28, 154, 0, 7, 29]
abbrev dktX7_tightest_5 : List UInt8 := dkwX7_tightest_5 ++ dktX7_tightest_6
def dkwX7_tightest_4 : List UInt8 := [21, 6, 27, 161, 0, 26, 21, 7, 21, 5, 100, 21, 4, 161, 0, 6, 167, 0, 13, 21, 5, 62, 21, 7]
abbrev dktX7_tightest_4 : List UInt8 := dkwX7_tightest_4 ++ dktX7_tightest_5
def dkwX7_tightest_3 : List UInt8 := [42, 180, 0, 13, 21, 5, 46, 160, 0, 7, 4, 167, 0, 4, 3, 96, 54, 6, 132, 7, 1, 167, 255, 211]
abbrev dktX7_tightest_3 : List UInt8 := dkwX7_tightest_3 ++ dktX7_tightest_4
def dkwX7_tightest_2 : List UInt8 := [21, 7, 42, 180, 0, 175, 162, 0, 42, 21, 6, 27, 162, 0, 36, 21, 6, 42, 180, 0, 13, 21, 7, 46]
abbrev dktX7_tightest_2 : List UInt8 := dkwX7_tightest_2 ++ dktX7_tightest_3
def dkwX7_tightest_1 : List UInt8 := [16, 121, 54, 4, 3, 54, 5, 21, 5, 42, 180, 0, 175, 162, 0, 93, 3, 54, 6, 21, 5, 54, 7]
abbrev dktX7_tightest_1 : List UInt8 := dkwX7_tightest_1 ++ dktX7_tightest_2
def dkwX7_tightest_0 : List UInt8 := [42, 3, 181, 0, 72, 27, 4, 161, 0, 12, 28, 155, 0, 8, 28, 5, 164, 0, 5, 2, 172, 16, 254, 62]
abbrev dktX7_tightest_0 : List UInt8 := dkwX7_tightest_0 ++ dktX7_tightest_1
theorem dksX7_tightest_0 : cX7_tightest.data.toList.drop 0 = dktX7_tightest_0 := by decide +kernel
theorem dksX7_tightest_1 : cX7_tightest.data.toList.drop 24 = dktX7_tightest_1 := dk_seg dksX7_tightest_0 24 rfl rfl
theorem dksX7_tightest_2 : cX7_tightest.data.toList.drop 47 = dktX7_tightest_2 := dk_seg dksX7_tightest_1 23 rfl rfl
theorem dksX7_tightest_3 : cX7_tightest.data.toList.drop 71 = dktX7_tightest_3 := dk_seg dksX7_tightest_2 24 rfl rfl
theorem dksX7_tightest_4 : cX7_tightest.data.toList.drop 95 = dktX7_tightest_4 := dk_seg dksX7_tightest_3 24 rfl rfl
theorem dksX7_tightest_5 : cX7_tightest.data.toList.drop 119 = dktX7_tightest_5 := dk_seg dksX7_tightest_4 24 rfl rfl
theorem dksX7_tightest_6 : cX7_tightest.data.toList.drop 141 = dktX7_tightest_6 := dk_seg dksX7_tightest_5 22 rfl rfl
theorem dX7_tightest_0 : decode cX7_tightest 0 = .ok (.aload_n 0, 1) := dk_42 (dk_at dksX7_tightest_0 0 rfl rfl)
theorem dX7_tightest_1 : decode cX7_tightest 1 = .ok (.iconst 0, 1) := dk_3 (dk_at dksX7_tightest_0 1 rfl rfl)
theorem dX7_tightest_2 : decode cX7_tightest 2 = .ok (.putfield 72, 3) := dk_181 0 72 (dk_at dksX7_tightest_0 2 rfl rfl)
theorem dX7_tightest_5 : decode cX7_tightest 5 = .ok (.iload_n 1, 1) := dk_27 (dk_at dksX7_tightest_0 5 rfl rfl)
theorem dX7_tightest_6 : decode cX7_tightest 6 = .ok (.iconst 1, 1) := dk_4 (dk_at dksX7_tightest_0 6 rfl rfl)
theorem dX7_tightest_7 : decode cX7_tightest 7 = .ok (.if_icmp .lt 12, 3) := dk_161 0 12 (dk_at dksX7_tightest_0 7 rfl rfl)
theorem dX7_tightest_10 : decode cX7_tightest 10 = .ok (.iload_n 2, 1) := dk_28 (dk_at dksX7_tightest_0 10 rfl rfl)
theorem dX7_tightest_11 : decode cX7_tightest 11 = .ok (.ifCond .lt 8, 3) := dk_155 0 8 (dk_at dksX7_tightest_0 11 rfl rfl)
theorem dX7_tightest_14 : decode cX7_tightest 14 = .ok (.iload_n 2, 1) := dk_28 (dk_at dksX7_tightest_0 14 rfl rfl)
theorem dX7_tightest_15 : decode cX7_tightest 15 = .ok (.iconst 2, 1) := dk_5 (dk_at dksX7_tightest_0 15 rfl rfl)
theorem dX7_tightest_16 : decode cX7_tightest 16 = .ok (.if_icmp .le 5, 3) := dk_164 0 5 (dk_at dksX7_tightest_0 16 rfl rfl)
theorem dX7_tightest_19 : decode cX7_tightest 19 = .ok (.iconst (-1), 1) := dk_2 (dk_at dksX7_tightest_0 19 rfl rfl)
theorem dX7_tightest_20 : decode cX7_tightest 20 = .ok (.ireturn, 1) := dk_172 (dk_at dksX7_tightest_0 20 rfl rfl)
theorem dX7_tightest_21 : decode cX7_tightest 21 = .ok (.bipush (-2), 2) := dk_16 254 (dk_at dksX7_tightest_0 21 rfl rfl)
theorem dX7_tightest_23 : decode cX7_tightest 23 = .ok (.istore_n 3, 1) := dk_62 (dk_at dksX7_tightest_0 23 rfl rfl)
theorem dX7_tightest_24 : decode cX7_tightest 24 = .ok (.bipush 121, 2) := dk_16 121 (dk_at dksX7_tightest_1 0 rfl rfl)
theorem dX7_tightest_26 : decode cX7_tightest 26 = .ok (.istore 4, 2) := dk_54 4 (dk_at dksX7_tightest_1 2 rfl rfl)
theorem dX7_tightest_28 : decode cX7_tightest 28 = .ok (.iconst 0, 1) := dk_3 (dk_at dksX7_tightest_1 4 rfl rfl)
theorem dX7_tightest_29 : decode cX7_tightest 29 = .ok (.istore 5, 2) := dk_54 5 (dk_at dksX7_tightest_1 5 rfl rfl)
theorem dX7_tightest_31 : decode cX7_tightest 31 = .ok (.iload 5, 2) := dk_21 5 (dk_at dksX7_tightest_1 7 rfl rfl)
theorem dX7_tightest_33 : decode cX7_tightest 33 = .ok (.aload_n 0, 1) := dk_42 (dk_at dksX7_tightest_1 9 rfl rfl)
theorem dX7_tightest_34 : decode cX7_tightest 34 = .ok (.getfield 175, 3) := dk_180 0 175 (dk_at dksX7_tightest_1 10 rfl rfl)
theorem dX7_tightest_37 : decode cX7_tightest 37 = .ok (.if_icmp .ge 93, 3) := dk_162 0 93 (dk_at dksX7_tightest_1 13 rfl rfl)
theorem dX7_tightest_40 : decode cX7_tightest 40 = .ok (.iconst 0, 1) := dk_3 (dk_at dksX7_tightest_1 16 rfl rfl)
theorem dX7_tightest_41 : decode cX7_tightest 41 = .ok (.istore 6, 2) := dk_54 6 (dk_at dksX7_tightest_1 17 rfl rfl)
theorem dX7_tightest_43 : decode cX7_tightest 43 = .ok (.iload 5, 2) := dk_21 5 (dk_at dksX7_tightest_1 19 rfl rfl)
theorem dX7_tightest_45 : decode cX7_tightest 45 = .ok (.istore 7, 2) := dk_54 7 (dk_at dksX7_tightest_1 21 rfl rfl)
theorem dX7_tightest_47 : decode cX7_tightest 47 = .ok (.iload 7, 2) := dk_21 7 (dk_at dksX7_tightest_2 0 rfl rfl)
theorem dX7_tightest_49 : decode cX7_tightest 49 = .ok (.aload_n 0, 1) := dk_42 (dk_at dksX7_tightest_2 2 rfl rfl)
theorem dX7_tightest_50 : decode cX7_tightest 50 = .ok (.getfield 175, 3) := dk_180 0 175 (dk_at dksX7_tightest_2 3 rfl rfl)
theorem dX7_tightest_53 : decode cX7_tightest 53 = .ok (.if_icmp .ge 42, 3) := dk_162 0 42 (dk_at dksX7_tightest_2 6 rfl rfl)
theorem dX7_tightest_56 : decode cX7_tightest 56 = .ok (.iload 6, 2) := dk_21 6 (dk_at dksX7_tightest_2 9 rfl rfl)
theorem dX7_tightest_58 : decode cX7_tightest 58 = .ok (.iload_n 1, 1) := dk_27 (dk_at dksX7_tightest_2 11 rfl rfl)
theorem dX7_tightest_59 : decode cX7_tightest 59 = .ok (.if_icmp .ge 36, 3) := dk_162 0 36 (dk_at dksX7_tightest_2 12 rfl rfl)
theorem dX7_tightest_62 : decode cX7_tightest 62 = .ok (.iload 6, 2) := dk_21 6 (dk_at dksX7_tightest_2 15 rfl rfl)
theorem dX7_tightest_64 : decode cX7_tightest 64 = .ok (.aload_n 0, 1) := dk_42 (dk_at dksX7_tightest_2 17 rfl rfl)
theorem dX7_tightest_65 : decode cX7_tightest 65 = .ok (.getfield 13, 3) := dk_180 0 13 (dk_at dksX7_tightest_2 18 rfl rfl)
theorem dX7_tightest_68 : decode cX7_tightest 68 = .ok (.iload 7, 2) := dk_21 7 (dk_at dksX7_tightest_2 21 rfl rfl)
theorem dX7_tightest_70 : decode cX7_tightest 70 = .ok (.iaload, 1) := dk_46 (dk_at dksX7_tightest_2 23 rfl rfl)
theorem dX7_tightest_71 : decode cX7_tightest 71 = .ok (.aload_n 0, 1) := dk_42 (dk_at dksX7_tightest_3 0 rfl rfl)
theorem dX7_tightest_72 : decode cX7_tightest 72 = .ok (.getfield 13, 3) := dk_180 0 13 (dk_at dksX7_tightest_3 1 rfl rfl)
theorem dX7_tightest_75 : decode cX7_tightest 75 = .ok (.iload 5, 2) := dk_21 5 (dk_at dksX7_tightest_3 4 rfl rfl)
theorem dX7_tightest_77 : decode cX7_tightest 77 = .ok (.iaload, 1) := dk_46 (dk_at dksX7_tightest_3 6 rfl rfl)
theorem dX7_tightest_78 : decode cX7_tightest 78 = .ok (.if_icmp .ne 7, 3) := dk_160 0 7 (dk_at dksX7_tightest_3 7 rfl rfl)
theorem dX7_tightest_81 : decode cX7_tightest 81 = .ok (.iconst 1, 1) := dk_4 (dk_at dksX7_tightest_3 10 rfl rfl)
theorem dX7_tightest_82 : decode cX7_tightest 82 = .ok (.goto 4, 3) := dk_167 0 4 (dk_at dksX7_tightest_3 11 rfl rfl)
theorem dX7_tightest_85 : decode cX7_tightest 85 = .ok (.iconst 0, 1) := dk_3 (dk_at dksX7_tightest_3 14 rfl rfl)
theorem dX7_tightest_86 : decode cX7_tightest 86 = .ok (.iadd, 1) := dk_96 (dk_at dksX7_tightest_3 15 rfl rfl)
theorem dX7_tightest_87 : decode cX7_tightest 87 = .ok (.istore 6, 2) := dk_54 6 (dk_at dksX7_tightest_3 16 rfl rfl)
theorem dX7_tightest_89 : decode cX7_tightest 89 = .ok (.iinc 7 1, 3) := dk_132 7 1 (dk_at dksX7_tightest_3 18 rfl rfl)
theorem dX7_tightest_92 : decode cX7_tightest 92 = .ok (.goto (-45), 3) := dk_167 255 211 (dk_at dksX7_tightest_3 21 rfl rfl)
theorem dX7_tightest_95 : decode cX7_tightest 95 = .ok (.iload 6, 2) := dk_21 6 (dk_at dksX7_tightest_4 0 rfl rfl)
theorem dX7_tightest_97 : decode cX7_tightest 97 = .ok (.iload_n 1, 1) := dk_27 (dk_at dksX7_tightest_4 2 rfl rfl)
theorem dX7_tightest_98 : decode cX7_tightest 98 = .ok (.if_icmp .lt 26, 3) := dk_161 0 26 (dk_at dksX7_tightest_4 3 rfl rfl)
theorem dX7_tightest_101 : decode cX7_tightest 101 = .ok (.iload 7, 2) := dk_21 7 (dk_at dksX7_tightest_4 6 rfl rfl)
theorem dX7_tightest_103 : decode cX7_tightest 103 = .ok (.iload 5, 2) := dk_21 5 (dk_at dksX7_tightest_4 8 rfl rfl)
theorem dX7_tightest_105 : decode cX7_tightest 105 = .ok (.isub, 1) := dk_100 (dk_at dksX7_tightest_4 10 rfl rfl)
theorem dX7_tightest_106 : decode cX7_tightest 106 = .ok (.iload 4, 2) := dk_21 4 (dk_at dksX7_tightest_4 11 rfl rfl)
theorem dX7_tightest_108 : decode cX7_tightest 108 = .ok (.if_icmp .lt 6, 3) := dk_161 0 6 (dk_at dksX7_tightest_4 13 rfl rfl)
theorem dX7_tightest_111 : decode cX7_tightest 111 = .ok (.goto 13, 3) := dk_167 0 13 (dk_at dksX7_tightest_4 16 rfl rfl)
theorem dX7_tightest_114 : decode cX7_tightest 114 = .ok (.iload 5, 2) := dk_21 5 (dk_at dksX7_tightest_4 19 rfl rfl)
theorem dX7_tightest_116 : decode cX7_tightest 116 = .ok (.istore_n 3, 1) := dk_62 (dk_at dksX7_tightest_4 21 rfl rfl)
theorem dX7_tightest_117 : decode cX7_tightest 117 = .ok (.iload 7, 2) := dk_21 7 (dk_at dksX7_tightest_4 22 rfl rfl)
theorem dX7_tightest_119 : decode cX7_tightest 119 = .ok (.iload 5, 2) := dk_21 5 (dk_at dksX7_tightest_5 0 rfl rfl)
theorem dX7_tightest_121 : decode cX7_tightest 121 = .ok (.isub, 1) := dk_100 (dk_at dksX7_tightest_5 2 rfl rfl)
theorem dX7_tightest_122 : decode cX7_tightest 122 = .ok (.istore 4, 2) := dk_54 4 (dk_at dksX7_tightest_5 3 rfl rfl)
theorem dX7_tightest_124 : decode cX7_tightest 124 = .ok (.iinc 5 1, 3) := dk_132 5 1 (dk_at dksX7_tightest_5 5 rfl rfl)
theorem dX7_tightest_127 : decode cX7_tightest 127 = .ok (.goto (-96), 3) := dk_167 255 160 (dk_at dksX7_tightest_5 8 rfl rfl)
theorem dX7_tightest_130 : decode cX7_tightest 130 = .ok (.iload_n 3, 1) := dk_29 (dk_at dksX7_tightest_5 11 rfl rfl)
theorem dX7_tightest_131 : decode cX7_tightest 131 = .ok (.bipush (-2), 2) := dk_16 254 (dk_at dksX7_tightest_5 12 rfl rfl)
theorem dX7_tightest_133 : decode cX7_tightest 133 = .ok (.if_icmp .eq 7, 3) := dk_159 0 7 (dk_at dksX7_tightest_5 14 rfl rfl)
theorem dX7_tightest_136 : decode cX7_tightest 136 = .ok (.iload_n 2, 1) := dk_28 (dk_at dksX7_tightest_5 17 rfl rfl)
theorem dX7_tightest_137 : decode cX7_tightest 137 = .ok (.ifCond .ne 7, 3) := dk_154 0 7 (dk_at dksX7_tightest_5 18 rfl rfl)
theorem dX7_tightest_140 : decode cX7_tightest 140 = .ok (.iload_n 3, 1) := dk_29 (dk_at dksX7_tightest_5 21 rfl rfl)
theorem dX7_tightest_141 : decode cX7_tightest 141 = .ok (.goto 23, 3) := dk_167 0 23 (dk_at dksX7_tightest_6 0 rfl rfl)
theorem dX7_tightest_144 : decode cX7_tightest 144 = .ok (.iload_n 2, 1) := dk_28 (dk_at dksX7_tightest_6 3 rfl rfl)
theorem dX7_tightest_145 : decode cX7_tightest 145 = .ok (.iconst 1, 1) := dk_4 (dk_at dksX7_tightest_6 4 rfl rfl)
theorem dX7_tightest_146 : decode cX7_tightest 146 = .ok (.if_icmp .ne 12, 3) := dk_160 0 12 (dk_at dksX7_tightest_6 5 rfl rfl)
theorem dX7_tightest_149 : decode cX7_tightest 149 = .ok (.iload_n 3, 1) := dk_29 (dk_at dksX7_tightest_6 8 rfl rfl)
theorem dX7_tightest_150 : decode cX7_tightest 150 = .ok (.iload 4, 2) := dk_21 4 (dk_at dksX7_tightest_6 9 rfl rfl)
theorem dX7_tightest_152 : decode cX7_tightest 152 = .ok (.iadd, 1) := dk_96 (dk_at dksX7_tightest_6 11 rfl rfl)
theorem dX7_tightest_153 : decode cX7_tightest 153 = .ok (.iconst 1, 1) := dk_4 (dk_at dksX7_tightest_6 12 rfl rfl)
theorem dX7_tightest_154 : decode cX7_tightest 154 = .ok (.isub, 1) := dk_100 (dk_at dksX7_tightest_6 13 rfl rfl)
theorem dX7_tightest_155 : decode cX7_tightest 155 = .ok (.goto 9, 3) := dk_167 0 9 (dk_at dksX7_tightest_6 14 rfl rfl)
theorem dX7_tightest_158 : decode cX7_tightest 158 = .ok (.aload_n 0, 1) := dk_42 (dk_at dksX7_tightest_6 17 rfl rfl)
theorem dX7_tightest_159 : decode cX7_tightest 159 = .ok (.getfield 13, 3) := dk_180 0 13 (dk_at dksX7_tightest_6 18 rfl rfl)
theorem dX7_tightest_162 : decode cX7_tightest 162 = .ok (.iload_n 3, 1) := dk_29 (dk_at dksX7_tightest_6 21 rfl rfl)
theorem dX7_tightest_163 : decode cX7_tightest 163 = .ok (.iaload, 1) := dk_46 (dk_at dksX7_tightest_6 22 rfl rfl)
theorem dX7_tightest_164 : decode cX7_tightest 164 = .ok (.ireturn, 1) := dk_172 (dk_at dksX7_tightest_6 23 rfl rfl)
abbrev cX7_needed : ByteArray := prog_19_method_81_code
def yX7_needed : MethodName := ⟨RX7, "needed", "(III)I"⟩
def dkwX7_needed_2 : List UInt8 := [182, 1, 31, 21, 4, 164, 0, 9, 132, 4, 1, 167, 255, 232, 21, 4, 172]
abbrev dktX7_needed_2 : List UInt8 := dkwX7_needed_2 ++ []
def dkwX7_needed_1 : List UInt8 := [27, 28, 2, 182, 0, 252, 3, 54, 4, 42, 42, 180, 0, 47, 29, 46, 21, 4, 96, 4, 100, 29]
abbrev dktX7_needed_1 : List UInt8 := dkwX7_needed_1 ++ dktX7_needed_2
def dkwX7_needed_0 : List UInt8 := [42, 3, 181, 0, 72, 42, 27, 28, 182, 0, 232, 153, 0, 10, 29, 184, 0, 220, 154, 0, 5, 2, 172, 42]
abbrev dktX7_needed_0 : List UInt8 := dkwX7_needed_0 ++ dktX7_needed_1
theorem dksX7_needed_0 : cX7_needed.data.toList.drop 0 = dktX7_needed_0 := by decide +kernel
theorem dksX7_needed_1 : cX7_needed.data.toList.drop 24 = dktX7_needed_1 := dk_seg dksX7_needed_0 24 rfl rfl
theorem dksX7_needed_2 : cX7_needed.data.toList.drop 46 = dktX7_needed_2 := dk_seg dksX7_needed_1 22 rfl rfl
theorem dX7_needed_0 : decode cX7_needed 0 = .ok (.aload_n 0, 1) := dk_42 (dk_at dksX7_needed_0 0 rfl rfl)
theorem dX7_needed_1 : decode cX7_needed 1 = .ok (.iconst 0, 1) := dk_3 (dk_at dksX7_needed_0 1 rfl rfl)
theorem dX7_needed_2 : decode cX7_needed 2 = .ok (.putfield 72, 3) := dk_181 0 72 (dk_at dksX7_needed_0 2 rfl rfl)
theorem dX7_needed_5 : decode cX7_needed 5 = .ok (.aload_n 0, 1) := dk_42 (dk_at dksX7_needed_0 5 rfl rfl)
theorem dX7_needed_6 : decode cX7_needed 6 = .ok (.iload_n 1, 1) := dk_27 (dk_at dksX7_needed_0 6 rfl rfl)
theorem dX7_needed_7 : decode cX7_needed 7 = .ok (.iload_n 2, 1) := dk_28 (dk_at dksX7_needed_0 7 rfl rfl)
theorem dX7_needed_8 : decode cX7_needed 8 = .ok (.invokevirtual 232, 3) := dk_182 0 232 (dk_at dksX7_needed_0 8 rfl rfl)
theorem dX7_needed_11 : decode cX7_needed 11 = .ok (.ifCond .eq 10, 3) := dk_153 0 10 (dk_at dksX7_needed_0 11 rfl rfl)
theorem dX7_needed_14 : decode cX7_needed 14 = .ok (.iload_n 3, 1) := dk_29 (dk_at dksX7_needed_0 14 rfl rfl)
theorem dX7_needed_15 : decode cX7_needed 15 = .ok (.invokestatic 220, 3) := dk_184 0 220 (dk_at dksX7_needed_0 15 rfl rfl)
theorem dX7_needed_18 : decode cX7_needed 18 = .ok (.ifCond .ne 5, 3) := dk_154 0 5 (dk_at dksX7_needed_0 18 rfl rfl)
theorem dX7_needed_21 : decode cX7_needed 21 = .ok (.iconst (-1), 1) := dk_2 (dk_at dksX7_needed_0 21 rfl rfl)
theorem dX7_needed_22 : decode cX7_needed 22 = .ok (.ireturn, 1) := dk_172 (dk_at dksX7_needed_0 22 rfl rfl)
theorem dX7_needed_23 : decode cX7_needed 23 = .ok (.aload_n 0, 1) := dk_42 (dk_at dksX7_needed_0 23 rfl rfl)
theorem dX7_needed_24 : decode cX7_needed 24 = .ok (.iload_n 1, 1) := dk_27 (dk_at dksX7_needed_1 0 rfl rfl)
theorem dX7_needed_25 : decode cX7_needed 25 = .ok (.iload_n 2, 1) := dk_28 (dk_at dksX7_needed_1 1 rfl rfl)
theorem dX7_needed_26 : decode cX7_needed 26 = .ok (.iconst (-1), 1) := dk_2 (dk_at dksX7_needed_1 2 rfl rfl)
theorem dX7_needed_27 : decode cX7_needed 27 = .ok (.invokevirtual 252, 3) := dk_182 0 252 (dk_at dksX7_needed_1 3 rfl rfl)
theorem dX7_needed_30 : decode cX7_needed 30 = .ok (.iconst 0, 1) := dk_3 (dk_at dksX7_needed_1 6 rfl rfl)
theorem dX7_needed_31 : decode cX7_needed 31 = .ok (.istore 4, 2) := dk_54 4 (dk_at dksX7_needed_1 7 rfl rfl)
theorem dX7_needed_33 : decode cX7_needed 33 = .ok (.aload_n 0, 1) := dk_42 (dk_at dksX7_needed_1 9 rfl rfl)
theorem dX7_needed_34 : decode cX7_needed 34 = .ok (.aload_n 0, 1) := dk_42 (dk_at dksX7_needed_1 10 rfl rfl)
theorem dX7_needed_35 : decode cX7_needed 35 = .ok (.getfield 47, 3) := dk_180 0 47 (dk_at dksX7_needed_1 11 rfl rfl)
theorem dX7_needed_38 : decode cX7_needed 38 = .ok (.iload_n 3, 1) := dk_29 (dk_at dksX7_needed_1 14 rfl rfl)
theorem dX7_needed_39 : decode cX7_needed 39 = .ok (.iaload, 1) := dk_46 (dk_at dksX7_needed_1 15 rfl rfl)
theorem dX7_needed_40 : decode cX7_needed 40 = .ok (.iload 4, 2) := dk_21 4 (dk_at dksX7_needed_1 16 rfl rfl)
theorem dX7_needed_42 : decode cX7_needed 42 = .ok (.iadd, 1) := dk_96 (dk_at dksX7_needed_1 18 rfl rfl)
theorem dX7_needed_43 : decode cX7_needed 43 = .ok (.iconst 1, 1) := dk_4 (dk_at dksX7_needed_1 19 rfl rfl)
theorem dX7_needed_44 : decode cX7_needed 44 = .ok (.isub, 1) := dk_100 (dk_at dksX7_needed_1 20 rfl rfl)
theorem dX7_needed_45 : decode cX7_needed 45 = .ok (.iload_n 3, 1) := dk_29 (dk_at dksX7_needed_1 21 rfl rfl)
theorem dX7_needed_46 : decode cX7_needed 46 = .ok (.invokevirtual 287, 3) := dk_182 1 31 (dk_at dksX7_needed_2 0 rfl rfl)
theorem dX7_needed_49 : decode cX7_needed 49 = .ok (.iload 4, 2) := dk_21 4 (dk_at dksX7_needed_2 3 rfl rfl)
theorem dX7_needed_51 : decode cX7_needed 51 = .ok (.if_icmp .le 9, 3) := dk_164 0 9 (dk_at dksX7_needed_2 5 rfl rfl)
theorem dX7_needed_54 : decode cX7_needed 54 = .ok (.iinc 4 1, 3) := dk_132 4 1 (dk_at dksX7_needed_2 8 rfl rfl)
theorem dX7_needed_57 : decode cX7_needed 57 = .ok (.goto (-24), 3) := dk_167 255 232 (dk_at dksX7_needed_2 11 rfl rfl)
theorem dX7_needed_60 : decode cX7_needed 60 = .ok (.iload 4, 2) := dk_21 4 (dk_at dksX7_needed_2 14 rfl rfl)
theorem dX7_needed_62 : decode cX7_needed 62 = .ok (.ireturn, 1) := dk_172 (dk_at dksX7_needed_2 16 rfl rfl)
abbrev cX7_over : ByteArray := prog_19_method_82_code
def yX7_over : MethodName := ⟨RX7, "over", "(II)I"⟩
def dkwX7_over_2 : List UInt8 := [27, 100, 167, 0, 4, 3, 96, 62, 132, 4, 1, 167, 255, 202, 29, 172]
abbrev dktX7_over_2 : List UInt8 := dkwX7_over_2 ++ []
def dkwX7_over_1 : List UInt8 := [21, 5, 28, 159, 0, 26, 42, 180, 0, 47, 21, 5, 46, 27, 164, 0, 15, 42, 180, 0, 47, 21, 5, 46]
abbrev dktX7_over_1 : List UInt8 := dkwX7_over_1 ++ dktX7_over_2
def dkwX7_over_0 : List UInt8 := [3, 62, 3, 54, 4, 21, 4, 42, 180, 0, 242, 162, 0, 51, 42, 180, 0, 56, 21, 4, 46, 54, 5, 29]
abbrev dktX7_over_0 : List UInt8 := dkwX7_over_0 ++ dktX7_over_1
theorem dksX7_over_0 : cX7_over.data.toList.drop 0 = dktX7_over_0 := by decide +kernel
theorem dksX7_over_1 : cX7_over.data.toList.drop 24 = dktX7_over_1 := dk_seg dksX7_over_0 24 rfl rfl
theorem dksX7_over_2 : cX7_over.data.toList.drop 48 = dktX7_over_2 := dk_seg dksX7_over_1 24 rfl rfl
theorem dX7_over_0 : decode cX7_over 0 = .ok (.iconst 0, 1) := dk_3 (dk_at dksX7_over_0 0 rfl rfl)
theorem dX7_over_1 : decode cX7_over 1 = .ok (.istore_n 3, 1) := dk_62 (dk_at dksX7_over_0 1 rfl rfl)
theorem dX7_over_2 : decode cX7_over 2 = .ok (.iconst 0, 1) := dk_3 (dk_at dksX7_over_0 2 rfl rfl)
theorem dX7_over_3 : decode cX7_over 3 = .ok (.istore 4, 2) := dk_54 4 (dk_at dksX7_over_0 3 rfl rfl)
theorem dX7_over_5 : decode cX7_over 5 = .ok (.iload 4, 2) := dk_21 4 (dk_at dksX7_over_0 5 rfl rfl)
theorem dX7_over_7 : decode cX7_over 7 = .ok (.aload_n 0, 1) := dk_42 (dk_at dksX7_over_0 7 rfl rfl)
theorem dX7_over_8 : decode cX7_over 8 = .ok (.getfield 242, 3) := dk_180 0 242 (dk_at dksX7_over_0 8 rfl rfl)
theorem dX7_over_11 : decode cX7_over 11 = .ok (.if_icmp .ge 51, 3) := dk_162 0 51 (dk_at dksX7_over_0 11 rfl rfl)
theorem dX7_over_14 : decode cX7_over 14 = .ok (.aload_n 0, 1) := dk_42 (dk_at dksX7_over_0 14 rfl rfl)
theorem dX7_over_15 : decode cX7_over 15 = .ok (.getfield 56, 3) := dk_180 0 56 (dk_at dksX7_over_0 15 rfl rfl)
theorem dX7_over_18 : decode cX7_over 18 = .ok (.iload 4, 2) := dk_21 4 (dk_at dksX7_over_0 18 rfl rfl)
theorem dX7_over_20 : decode cX7_over 20 = .ok (.iaload, 1) := dk_46 (dk_at dksX7_over_0 20 rfl rfl)
theorem dX7_over_21 : decode cX7_over 21 = .ok (.istore 5, 2) := dk_54 5 (dk_at dksX7_over_0 21 rfl rfl)
theorem dX7_over_23 : decode cX7_over 23 = .ok (.iload_n 3, 1) := dk_29 (dk_at dksX7_over_0 23 rfl rfl)
theorem dX7_over_24 : decode cX7_over 24 = .ok (.iload 5, 2) := dk_21 5 (dk_at dksX7_over_1 0 rfl rfl)
theorem dX7_over_26 : decode cX7_over 26 = .ok (.iload_n 2, 1) := dk_28 (dk_at dksX7_over_1 2 rfl rfl)
theorem dX7_over_27 : decode cX7_over 27 = .ok (.if_icmp .eq 26, 3) := dk_159 0 26 (dk_at dksX7_over_1 3 rfl rfl)
theorem dX7_over_30 : decode cX7_over 30 = .ok (.aload_n 0, 1) := dk_42 (dk_at dksX7_over_1 6 rfl rfl)
theorem dX7_over_31 : decode cX7_over 31 = .ok (.getfield 47, 3) := dk_180 0 47 (dk_at dksX7_over_1 7 rfl rfl)
theorem dX7_over_34 : decode cX7_over 34 = .ok (.iload 5, 2) := dk_21 5 (dk_at dksX7_over_1 10 rfl rfl)
theorem dX7_over_36 : decode cX7_over 36 = .ok (.iaload, 1) := dk_46 (dk_at dksX7_over_1 12 rfl rfl)
theorem dX7_over_37 : decode cX7_over 37 = .ok (.iload_n 1, 1) := dk_27 (dk_at dksX7_over_1 13 rfl rfl)
theorem dX7_over_38 : decode cX7_over 38 = .ok (.if_icmp .le 15, 3) := dk_164 0 15 (dk_at dksX7_over_1 14 rfl rfl)
theorem dX7_over_41 : decode cX7_over 41 = .ok (.aload_n 0, 1) := dk_42 (dk_at dksX7_over_1 17 rfl rfl)
theorem dX7_over_42 : decode cX7_over 42 = .ok (.getfield 47, 3) := dk_180 0 47 (dk_at dksX7_over_1 18 rfl rfl)
theorem dX7_over_45 : decode cX7_over 45 = .ok (.iload 5, 2) := dk_21 5 (dk_at dksX7_over_1 21 rfl rfl)
theorem dX7_over_47 : decode cX7_over 47 = .ok (.iaload, 1) := dk_46 (dk_at dksX7_over_1 23 rfl rfl)
theorem dX7_over_48 : decode cX7_over 48 = .ok (.iload_n 1, 1) := dk_27 (dk_at dksX7_over_2 0 rfl rfl)
theorem dX7_over_49 : decode cX7_over 49 = .ok (.isub, 1) := dk_100 (dk_at dksX7_over_2 1 rfl rfl)
theorem dX7_over_50 : decode cX7_over 50 = .ok (.goto 4, 3) := dk_167 0 4 (dk_at dksX7_over_2 2 rfl rfl)
theorem dX7_over_53 : decode cX7_over 53 = .ok (.iconst 0, 1) := dk_3 (dk_at dksX7_over_2 5 rfl rfl)
theorem dX7_over_54 : decode cX7_over 54 = .ok (.iadd, 1) := dk_96 (dk_at dksX7_over_2 6 rfl rfl)
theorem dX7_over_55 : decode cX7_over 55 = .ok (.istore_n 3, 1) := dk_62 (dk_at dksX7_over_2 7 rfl rfl)
theorem dX7_over_56 : decode cX7_over 56 = .ok (.iinc 4 1, 3) := dk_132 4 1 (dk_at dksX7_over_2 8 rfl rfl)
theorem dX7_over_59 : decode cX7_over 59 = .ok (.goto (-54), 3) := dk_167 255 202 (dk_at dksX7_over_2 11 rfl rfl)
theorem dX7_over_62 : decode cX7_over 62 = .ok (.iload_n 3, 1) := dk_29 (dk_at dksX7_over_2 14 rfl rfl)
theorem dX7_over_63 : decode cX7_over 63 = .ok (.ireturn, 1) := dk_172 (dk_at dksX7_over_2 15 rfl rfl)
abbrev cX7_lead : ByteArray := prog_19_method_83_code
def yX7_lead : MethodName := ⟨RX7, "lead", "(II)I"⟩
def dkwX7_lead_2 : List UInt8 := [2, 160, 0, 7, 3, 167, 0, 9, 42, 180, 0, 47, 29, 46, 100, 172]
abbrev dktX7_lead_2 : List UInt8 := dkwX7_lead_2 ++ []
def dkwX7_lead_1 : List UInt8 := [4, 42, 180, 0, 178, 182, 1, 10, 62, 42, 180, 0, 47, 42, 3, 42, 180, 0, 178, 182, 1, 10, 46, 29]
abbrev dktX7_lead_1 : List UInt8 := dkwX7_lead_1 ++ dktX7_lead_2
def dkwX7_lead_0 : List UInt8 := [42, 3, 181, 0, 72, 42, 27, 28, 182, 0, 232, 154, 0, 5, 2, 172, 42, 27, 28, 2, 182, 0, 252, 42]
abbrev dktX7_lead_0 : List UInt8 := dkwX7_lead_0 ++ dktX7_lead_1
theorem dksX7_lead_0 : cX7_lead.data.toList.drop 0 = dktX7_lead_0 := by decide +kernel
theorem dksX7_lead_1 : cX7_lead.data.toList.drop 24 = dktX7_lead_1 := dk_seg dksX7_lead_0 24 rfl rfl
theorem dksX7_lead_2 : cX7_lead.data.toList.drop 48 = dktX7_lead_2 := dk_seg dksX7_lead_1 24 rfl rfl
theorem dX7_lead_0 : decode cX7_lead 0 = .ok (.aload_n 0, 1) := dk_42 (dk_at dksX7_lead_0 0 rfl rfl)
theorem dX7_lead_1 : decode cX7_lead 1 = .ok (.iconst 0, 1) := dk_3 (dk_at dksX7_lead_0 1 rfl rfl)
theorem dX7_lead_2 : decode cX7_lead 2 = .ok (.putfield 72, 3) := dk_181 0 72 (dk_at dksX7_lead_0 2 rfl rfl)
theorem dX7_lead_5 : decode cX7_lead 5 = .ok (.aload_n 0, 1) := dk_42 (dk_at dksX7_lead_0 5 rfl rfl)
theorem dX7_lead_6 : decode cX7_lead 6 = .ok (.iload_n 1, 1) := dk_27 (dk_at dksX7_lead_0 6 rfl rfl)
theorem dX7_lead_7 : decode cX7_lead 7 = .ok (.iload_n 2, 1) := dk_28 (dk_at dksX7_lead_0 7 rfl rfl)
theorem dX7_lead_8 : decode cX7_lead 8 = .ok (.invokevirtual 232, 3) := dk_182 0 232 (dk_at dksX7_lead_0 8 rfl rfl)
theorem dX7_lead_11 : decode cX7_lead 11 = .ok (.ifCond .ne 5, 3) := dk_154 0 5 (dk_at dksX7_lead_0 11 rfl rfl)
theorem dX7_lead_14 : decode cX7_lead 14 = .ok (.iconst (-1), 1) := dk_2 (dk_at dksX7_lead_0 14 rfl rfl)
theorem dX7_lead_15 : decode cX7_lead 15 = .ok (.ireturn, 1) := dk_172 (dk_at dksX7_lead_0 15 rfl rfl)
theorem dX7_lead_16 : decode cX7_lead 16 = .ok (.aload_n 0, 1) := dk_42 (dk_at dksX7_lead_0 16 rfl rfl)
theorem dX7_lead_17 : decode cX7_lead 17 = .ok (.iload_n 1, 1) := dk_27 (dk_at dksX7_lead_0 17 rfl rfl)
theorem dX7_lead_18 : decode cX7_lead 18 = .ok (.iload_n 2, 1) := dk_28 (dk_at dksX7_lead_0 18 rfl rfl)
theorem dX7_lead_19 : decode cX7_lead 19 = .ok (.iconst (-1), 1) := dk_2 (dk_at dksX7_lead_0 19 rfl rfl)
theorem dX7_lead_20 : decode cX7_lead 20 = .ok (.invokevirtual 252, 3) := dk_182 0 252 (dk_at dksX7_lead_0 20 rfl rfl)
theorem dX7_lead_23 : decode cX7_lead 23 = .ok (.aload_n 0, 1) := dk_42 (dk_at dksX7_lead_0 23 rfl rfl)
theorem dX7_lead_24 : decode cX7_lead 24 = .ok (.iconst 1, 1) := dk_4 (dk_at dksX7_lead_1 0 rfl rfl)
theorem dX7_lead_25 : decode cX7_lead 25 = .ok (.aload_n 0, 1) := dk_42 (dk_at dksX7_lead_1 1 rfl rfl)
theorem dX7_lead_26 : decode cX7_lead 26 = .ok (.getfield 178, 3) := dk_180 0 178 (dk_at dksX7_lead_1 2 rfl rfl)
theorem dX7_lead_29 : decode cX7_lead 29 = .ok (.invokevirtual 266, 3) := dk_182 1 10 (dk_at dksX7_lead_1 5 rfl rfl)
theorem dX7_lead_32 : decode cX7_lead 32 = .ok (.istore_n 3, 1) := dk_62 (dk_at dksX7_lead_1 8 rfl rfl)
theorem dX7_lead_33 : decode cX7_lead 33 = .ok (.aload_n 0, 1) := dk_42 (dk_at dksX7_lead_1 9 rfl rfl)
theorem dX7_lead_34 : decode cX7_lead 34 = .ok (.getfield 47, 3) := dk_180 0 47 (dk_at dksX7_lead_1 10 rfl rfl)
theorem dX7_lead_37 : decode cX7_lead 37 = .ok (.aload_n 0, 1) := dk_42 (dk_at dksX7_lead_1 13 rfl rfl)
theorem dX7_lead_38 : decode cX7_lead 38 = .ok (.iconst 0, 1) := dk_3 (dk_at dksX7_lead_1 14 rfl rfl)
theorem dX7_lead_39 : decode cX7_lead 39 = .ok (.aload_n 0, 1) := dk_42 (dk_at dksX7_lead_1 15 rfl rfl)
theorem dX7_lead_40 : decode cX7_lead 40 = .ok (.getfield 178, 3) := dk_180 0 178 (dk_at dksX7_lead_1 16 rfl rfl)
theorem dX7_lead_43 : decode cX7_lead 43 = .ok (.invokevirtual 266, 3) := dk_182 1 10 (dk_at dksX7_lead_1 19 rfl rfl)
theorem dX7_lead_46 : decode cX7_lead 46 = .ok (.iaload, 1) := dk_46 (dk_at dksX7_lead_1 22 rfl rfl)
theorem dX7_lead_47 : decode cX7_lead 47 = .ok (.iload_n 3, 1) := dk_29 (dk_at dksX7_lead_1 23 rfl rfl)
theorem dX7_lead_48 : decode cX7_lead 48 = .ok (.iconst (-1), 1) := dk_2 (dk_at dksX7_lead_2 0 rfl rfl)
theorem dX7_lead_49 : decode cX7_lead 49 = .ok (.if_icmp .ne 7, 3) := dk_160 0 7 (dk_at dksX7_lead_2 1 rfl rfl)
theorem dX7_lead_52 : decode cX7_lead 52 = .ok (.iconst 0, 1) := dk_3 (dk_at dksX7_lead_2 4 rfl rfl)
theorem dX7_lead_53 : decode cX7_lead 53 = .ok (.goto 9, 3) := dk_167 0 9 (dk_at dksX7_lead_2 5 rfl rfl)
theorem dX7_lead_56 : decode cX7_lead 56 = .ok (.aload_n 0, 1) := dk_42 (dk_at dksX7_lead_2 8 rfl rfl)
theorem dX7_lead_57 : decode cX7_lead 57 = .ok (.getfield 47, 3) := dk_180 0 47 (dk_at dksX7_lead_2 9 rfl rfl)
theorem dX7_lead_60 : decode cX7_lead 60 = .ok (.iload_n 3, 1) := dk_29 (dk_at dksX7_lead_2 12 rfl rfl)
theorem dX7_lead_61 : decode cX7_lead 61 = .ok (.iaload, 1) := dk_46 (dk_at dksX7_lead_2 13 rfl rfl)
theorem dX7_lead_62 : decode cX7_lead 62 = .ok (.isub, 1) := dk_100 (dk_at dksX7_lead_2 14 rfl rfl)
theorem dX7_lead_63 : decode cX7_lead 63 = .ok (.ireturn, 1) := dk_172 (dk_at dksX7_lead_2 15 rfl rfl)
abbrev cX7_rarest : ByteArray := prog_19_method_84_code
def yX7_rarest : MethodName := ⟨RX7, "rarest", "(III)I"⟩
def dkwX7_rarest_2 : List UInt8 := [182, 1, 7, 172]
abbrev dktX7_rarest_2 : List UInt8 := dkwX7_rarest_2 ++ []
def dkwX7_rarest_1 : List UInt8 := [172, 42, 27, 28, 2, 182, 0, 252, 42, 42, 42, 180, 0, 242, 4, 100, 42, 180, 0, 178, 182, 1, 10, 29]
abbrev dktX7_rarest_1 : List UInt8 := dkwX7_rarest_1 ++ dktX7_rarest_2
def dkwX7_rarest_0 : List UInt8 := [42, 3, 181, 0, 72, 42, 27, 28, 182, 0, 232, 153, 0, 12, 29, 155, 0, 8, 29, 6, 164, 0, 5, 2]
abbrev dktX7_rarest_0 : List UInt8 := dkwX7_rarest_0 ++ dktX7_rarest_1
theorem dksX7_rarest_0 : cX7_rarest.data.toList.drop 0 = dktX7_rarest_0 := by decide +kernel
theorem dksX7_rarest_1 : cX7_rarest.data.toList.drop 24 = dktX7_rarest_1 := dk_seg dksX7_rarest_0 24 rfl rfl
theorem dksX7_rarest_2 : cX7_rarest.data.toList.drop 48 = dktX7_rarest_2 := dk_seg dksX7_rarest_1 24 rfl rfl
theorem dX7_rarest_0 : decode cX7_rarest 0 = .ok (.aload_n 0, 1) := dk_42 (dk_at dksX7_rarest_0 0 rfl rfl)
theorem dX7_rarest_1 : decode cX7_rarest 1 = .ok (.iconst 0, 1) := dk_3 (dk_at dksX7_rarest_0 1 rfl rfl)
theorem dX7_rarest_2 : decode cX7_rarest 2 = .ok (.putfield 72, 3) := dk_181 0 72 (dk_at dksX7_rarest_0 2 rfl rfl)
theorem dX7_rarest_5 : decode cX7_rarest 5 = .ok (.aload_n 0, 1) := dk_42 (dk_at dksX7_rarest_0 5 rfl rfl)
theorem dX7_rarest_6 : decode cX7_rarest 6 = .ok (.iload_n 1, 1) := dk_27 (dk_at dksX7_rarest_0 6 rfl rfl)
theorem dX7_rarest_7 : decode cX7_rarest 7 = .ok (.iload_n 2, 1) := dk_28 (dk_at dksX7_rarest_0 7 rfl rfl)
theorem dX7_rarest_8 : decode cX7_rarest 8 = .ok (.invokevirtual 232, 3) := dk_182 0 232 (dk_at dksX7_rarest_0 8 rfl rfl)
theorem dX7_rarest_11 : decode cX7_rarest 11 = .ok (.ifCond .eq 12, 3) := dk_153 0 12 (dk_at dksX7_rarest_0 11 rfl rfl)
theorem dX7_rarest_14 : decode cX7_rarest 14 = .ok (.iload_n 3, 1) := dk_29 (dk_at dksX7_rarest_0 14 rfl rfl)
theorem dX7_rarest_15 : decode cX7_rarest 15 = .ok (.ifCond .lt 8, 3) := dk_155 0 8 (dk_at dksX7_rarest_0 15 rfl rfl)
theorem dX7_rarest_18 : decode cX7_rarest 18 = .ok (.iload_n 3, 1) := dk_29 (dk_at dksX7_rarest_0 18 rfl rfl)
theorem dX7_rarest_19 : decode cX7_rarest 19 = .ok (.iconst 3, 1) := dk_6 (dk_at dksX7_rarest_0 19 rfl rfl)
theorem dX7_rarest_20 : decode cX7_rarest 20 = .ok (.if_icmp .le 5, 3) := dk_164 0 5 (dk_at dksX7_rarest_0 20 rfl rfl)
theorem dX7_rarest_23 : decode cX7_rarest 23 = .ok (.iconst (-1), 1) := dk_2 (dk_at dksX7_rarest_0 23 rfl rfl)
theorem dX7_rarest_24 : decode cX7_rarest 24 = .ok (.ireturn, 1) := dk_172 (dk_at dksX7_rarest_1 0 rfl rfl)
theorem dX7_rarest_25 : decode cX7_rarest 25 = .ok (.aload_n 0, 1) := dk_42 (dk_at dksX7_rarest_1 1 rfl rfl)
theorem dX7_rarest_26 : decode cX7_rarest 26 = .ok (.iload_n 1, 1) := dk_27 (dk_at dksX7_rarest_1 2 rfl rfl)
theorem dX7_rarest_27 : decode cX7_rarest 27 = .ok (.iload_n 2, 1) := dk_28 (dk_at dksX7_rarest_1 3 rfl rfl)
theorem dX7_rarest_28 : decode cX7_rarest 28 = .ok (.iconst (-1), 1) := dk_2 (dk_at dksX7_rarest_1 4 rfl rfl)
theorem dX7_rarest_29 : decode cX7_rarest 29 = .ok (.invokevirtual 252, 3) := dk_182 0 252 (dk_at dksX7_rarest_1 5 rfl rfl)
theorem dX7_rarest_32 : decode cX7_rarest 32 = .ok (.aload_n 0, 1) := dk_42 (dk_at dksX7_rarest_1 8 rfl rfl)
theorem dX7_rarest_33 : decode cX7_rarest 33 = .ok (.aload_n 0, 1) := dk_42 (dk_at dksX7_rarest_1 9 rfl rfl)
theorem dX7_rarest_34 : decode cX7_rarest 34 = .ok (.aload_n 0, 1) := dk_42 (dk_at dksX7_rarest_1 10 rfl rfl)
theorem dX7_rarest_35 : decode cX7_rarest 35 = .ok (.getfield 242, 3) := dk_180 0 242 (dk_at dksX7_rarest_1 11 rfl rfl)
theorem dX7_rarest_38 : decode cX7_rarest 38 = .ok (.iconst 1, 1) := dk_4 (dk_at dksX7_rarest_1 14 rfl rfl)
theorem dX7_rarest_39 : decode cX7_rarest 39 = .ok (.isub, 1) := dk_100 (dk_at dksX7_rarest_1 15 rfl rfl)
theorem dX7_rarest_40 : decode cX7_rarest 40 = .ok (.aload_n 0, 1) := dk_42 (dk_at dksX7_rarest_1 16 rfl rfl)
theorem dX7_rarest_41 : decode cX7_rarest 41 = .ok (.getfield 178, 3) := dk_180 0 178 (dk_at dksX7_rarest_1 17 rfl rfl)
theorem dX7_rarest_44 : decode cX7_rarest 44 = .ok (.invokevirtual 266, 3) := dk_182 1 10 (dk_at dksX7_rarest_1 20 rfl rfl)
theorem dX7_rarest_47 : decode cX7_rarest 47 = .ok (.iload_n 3, 1) := dk_29 (dk_at dksX7_rarest_1 23 rfl rfl)
theorem dX7_rarest_48 : decode cX7_rarest 48 = .ok (.invokevirtual 263, 3) := dk_182 1 7 (dk_at dksX7_rarest_2 0 rfl rfl)
theorem dX7_rarest_51 : decode cX7_rarest 51 = .ok (.ireturn, 1) := dk_172 (dk_at dksX7_rarest_2 3 rfl rfl)
abbrev cX7_follow : ByteArray := prog_19_method_85_code
def yX7_follow : MethodName := ⟨RX7, "follow", "(IIZ)I"⟩
def dkwX7_follow_3 : List UInt8 := [21, 4, 167, 0, 5, 16, 254, 172]
abbrev dktX7_follow_3 : List UInt8 := dkwX7_follow_3 ++ []
def dkwX7_follow_2 : List UInt8 := [29, 153, 0, 7, 2, 167, 0, 4, 4, 96, 54, 4, 167, 255, 222, 42, 21, 4, 182, 0, 187, 153, 0, 8]
abbrev dktX7_follow_2 : List UInt8 := dkwX7_follow_2 ++ dktX7_follow_3
def dkwX7_follow_1 : List UInt8 := [54, 4, 42, 21, 4, 182, 0, 187, 153, 0, 31, 42, 180, 0, 13, 21, 4, 46, 27, 159, 0, 20, 21, 4]
abbrev dktX7_follow_1 : List UInt8 := dkwX7_follow_1 ++ dktX7_follow_2
def dkwX7_follow_0 : List UInt8 := [42, 3, 181, 0, 72, 27, 184, 0, 220, 153, 0, 11, 42, 28, 182, 0, 187, 154, 0, 5, 2, 172, 28]
abbrev dktX7_follow_0 : List UInt8 := dkwX7_follow_0 ++ dktX7_follow_1
theorem dksX7_follow_0 : cX7_follow.data.toList.drop 0 = dktX7_follow_0 := by decide +kernel
theorem dksX7_follow_1 : cX7_follow.data.toList.drop 23 = dktX7_follow_1 := dk_seg dksX7_follow_0 23 rfl rfl
theorem dksX7_follow_2 : cX7_follow.data.toList.drop 47 = dktX7_follow_2 := dk_seg dksX7_follow_1 24 rfl rfl
theorem dksX7_follow_3 : cX7_follow.data.toList.drop 71 = dktX7_follow_3 := dk_seg dksX7_follow_2 24 rfl rfl
theorem dX7_follow_0 : decode cX7_follow 0 = .ok (.aload_n 0, 1) := dk_42 (dk_at dksX7_follow_0 0 rfl rfl)
theorem dX7_follow_1 : decode cX7_follow 1 = .ok (.iconst 0, 1) := dk_3 (dk_at dksX7_follow_0 1 rfl rfl)
theorem dX7_follow_2 : decode cX7_follow 2 = .ok (.putfield 72, 3) := dk_181 0 72 (dk_at dksX7_follow_0 2 rfl rfl)
theorem dX7_follow_5 : decode cX7_follow 5 = .ok (.iload_n 1, 1) := dk_27 (dk_at dksX7_follow_0 5 rfl rfl)
theorem dX7_follow_6 : decode cX7_follow 6 = .ok (.invokestatic 220, 3) := dk_184 0 220 (dk_at dksX7_follow_0 6 rfl rfl)
theorem dX7_follow_9 : decode cX7_follow 9 = .ok (.ifCond .eq 11, 3) := dk_153 0 11 (dk_at dksX7_follow_0 9 rfl rfl)
theorem dX7_follow_12 : decode cX7_follow 12 = .ok (.aload_n 0, 1) := dk_42 (dk_at dksX7_follow_0 12 rfl rfl)
theorem dX7_follow_13 : decode cX7_follow 13 = .ok (.iload_n 2, 1) := dk_28 (dk_at dksX7_follow_0 13 rfl rfl)
theorem dX7_follow_14 : decode cX7_follow 14 = .ok (.invokevirtual 187, 3) := dk_182 0 187 (dk_at dksX7_follow_0 14 rfl rfl)
theorem dX7_follow_17 : decode cX7_follow 17 = .ok (.ifCond .ne 5, 3) := dk_154 0 5 (dk_at dksX7_follow_0 17 rfl rfl)
theorem dX7_follow_20 : decode cX7_follow 20 = .ok (.iconst (-1), 1) := dk_2 (dk_at dksX7_follow_0 20 rfl rfl)
theorem dX7_follow_21 : decode cX7_follow 21 = .ok (.ireturn, 1) := dk_172 (dk_at dksX7_follow_0 21 rfl rfl)
theorem dX7_follow_22 : decode cX7_follow 22 = .ok (.iload_n 2, 1) := dk_28 (dk_at dksX7_follow_0 22 rfl rfl)
theorem dX7_follow_23 : decode cX7_follow 23 = .ok (.istore 4, 2) := dk_54 4 (dk_at dksX7_follow_1 0 rfl rfl)
theorem dX7_follow_25 : decode cX7_follow 25 = .ok (.aload_n 0, 1) := dk_42 (dk_at dksX7_follow_1 2 rfl rfl)
theorem dX7_follow_26 : decode cX7_follow 26 = .ok (.iload 4, 2) := dk_21 4 (dk_at dksX7_follow_1 3 rfl rfl)
theorem dX7_follow_28 : decode cX7_follow 28 = .ok (.invokevirtual 187, 3) := dk_182 0 187 (dk_at dksX7_follow_1 5 rfl rfl)
theorem dX7_follow_31 : decode cX7_follow 31 = .ok (.ifCond .eq 31, 3) := dk_153 0 31 (dk_at dksX7_follow_1 8 rfl rfl)
theorem dX7_follow_34 : decode cX7_follow 34 = .ok (.aload_n 0, 1) := dk_42 (dk_at dksX7_follow_1 11 rfl rfl)
theorem dX7_follow_35 : decode cX7_follow 35 = .ok (.getfield 13, 3) := dk_180 0 13 (dk_at dksX7_follow_1 12 rfl rfl)
theorem dX7_follow_38 : decode cX7_follow 38 = .ok (.iload 4, 2) := dk_21 4 (dk_at dksX7_follow_1 15 rfl rfl)
theorem dX7_follow_40 : decode cX7_follow 40 = .ok (.iaload, 1) := dk_46 (dk_at dksX7_follow_1 17 rfl rfl)
theorem dX7_follow_41 : decode cX7_follow 41 = .ok (.iload_n 1, 1) := dk_27 (dk_at dksX7_follow_1 18 rfl rfl)
theorem dX7_follow_42 : decode cX7_follow 42 = .ok (.if_icmp .eq 20, 3) := dk_159 0 20 (dk_at dksX7_follow_1 19 rfl rfl)
theorem dX7_follow_45 : decode cX7_follow 45 = .ok (.iload 4, 2) := dk_21 4 (dk_at dksX7_follow_1 22 rfl rfl)
theorem dX7_follow_47 : decode cX7_follow 47 = .ok (.iload_n 3, 1) := dk_29 (dk_at dksX7_follow_2 0 rfl rfl)
theorem dX7_follow_48 : decode cX7_follow 48 = .ok (.ifCond .eq 7, 3) := dk_153 0 7 (dk_at dksX7_follow_2 1 rfl rfl)
theorem dX7_follow_51 : decode cX7_follow 51 = .ok (.iconst (-1), 1) := dk_2 (dk_at dksX7_follow_2 4 rfl rfl)
theorem dX7_follow_52 : decode cX7_follow 52 = .ok (.goto 4, 3) := dk_167 0 4 (dk_at dksX7_follow_2 5 rfl rfl)
theorem dX7_follow_55 : decode cX7_follow 55 = .ok (.iconst 1, 1) := dk_4 (dk_at dksX7_follow_2 8 rfl rfl)
theorem dX7_follow_56 : decode cX7_follow 56 = .ok (.iadd, 1) := dk_96 (dk_at dksX7_follow_2 9 rfl rfl)
theorem dX7_follow_57 : decode cX7_follow 57 = .ok (.istore 4, 2) := dk_54 4 (dk_at dksX7_follow_2 10 rfl rfl)
theorem dX7_follow_59 : decode cX7_follow 59 = .ok (.goto (-34), 3) := dk_167 255 222 (dk_at dksX7_follow_2 12 rfl rfl)
theorem dX7_follow_62 : decode cX7_follow 62 = .ok (.aload_n 0, 1) := dk_42 (dk_at dksX7_follow_2 15 rfl rfl)
theorem dX7_follow_63 : decode cX7_follow 63 = .ok (.iload 4, 2) := dk_21 4 (dk_at dksX7_follow_2 16 rfl rfl)
theorem dX7_follow_65 : decode cX7_follow 65 = .ok (.invokevirtual 187, 3) := dk_182 0 187 (dk_at dksX7_follow_2 18 rfl rfl)
theorem dX7_follow_68 : decode cX7_follow 68 = .ok (.ifCond .eq 8, 3) := dk_153 0 8 (dk_at dksX7_follow_2 21 rfl rfl)
theorem dX7_follow_71 : decode cX7_follow 71 = .ok (.iload 4, 2) := dk_21 4 (dk_at dksX7_follow_3 0 rfl rfl)
theorem dX7_follow_73 : decode cX7_follow 73 = .ok (.goto 5, 3) := dk_167 0 5 (dk_at dksX7_follow_3 2 rfl rfl)
theorem dX7_follow_76 : decode cX7_follow 76 = .ok (.bipush (-2), 2) := dk_16 254 (dk_at dksX7_follow_3 5 rfl rfl)
theorem dX7_follow_78 : decode cX7_follow 78 = .ok (.ireturn, 1) := dk_172 (dk_at dksX7_follow_3 7 rfl rfl)
abbrev cX7_split : ByteArray := prog_19_method_86_code
def yX7_split : MethodName := ⟨RX7, "split", "(III)I"⟩
def dkwX7_split_4 : List UInt8 := [54, 5, 132, 6, 1, 167, 255, 196, 29, 154, 0, 8, 21, 4, 167, 0, 5, 21, 5, 172]
abbrev dktX7_split_4 : List UInt8 := dkwX7_split_4 ++ []
def dkwX7_split_3 : List UInt8 := [28, 182, 1, 4, 46, 96, 54, 7, 21, 7, 21, 5, 163, 0, 6, 167, 0, 11, 21, 6, 54, 4, 21, 7]
abbrev dktX7_split_3 : List UInt8 := dkwX7_split_3 ++ dktX7_split_4
def dkwX7_split_2 : List UInt8 := [180, 0, 47, 42, 27, 21, 6, 182, 1, 4, 46, 54, 7, 21, 7, 42, 180, 0, 47, 42, 21, 6, 4, 96]
abbrev dktX7_split_2 : List UInt8 := dkwX7_split_2 ++ dktX7_split_3
def dkwX7_split_1 : List UInt8 := [4, 164, 0, 5, 2, 172, 27, 54, 4, 2, 54, 5, 27, 54, 6, 21, 6, 28, 162, 0, 60, 42]
abbrev dktX7_split_1 : List UInt8 := dkwX7_split_1 ++ dktX7_split_2
def dkwX7_split_0 : List UInt8 := [42, 3, 181, 0, 72, 42, 27, 28, 182, 0, 232, 153, 0, 17, 27, 28, 159, 0, 12, 29, 155, 0, 8, 29]
abbrev dktX7_split_0 : List UInt8 := dkwX7_split_0 ++ dktX7_split_1
theorem dksX7_split_0 : cX7_split.data.toList.drop 0 = dktX7_split_0 := by decide +kernel
theorem dksX7_split_1 : cX7_split.data.toList.drop 24 = dktX7_split_1 := dk_seg dksX7_split_0 24 rfl rfl
theorem dksX7_split_2 : cX7_split.data.toList.drop 46 = dktX7_split_2 := dk_seg dksX7_split_1 22 rfl rfl
theorem dksX7_split_3 : cX7_split.data.toList.drop 70 = dktX7_split_3 := dk_seg dksX7_split_2 24 rfl rfl
theorem dksX7_split_4 : cX7_split.data.toList.drop 94 = dktX7_split_4 := dk_seg dksX7_split_3 24 rfl rfl
theorem dX7_split_0 : decode cX7_split 0 = .ok (.aload_n 0, 1) := dk_42 (dk_at dksX7_split_0 0 rfl rfl)
theorem dX7_split_1 : decode cX7_split 1 = .ok (.iconst 0, 1) := dk_3 (dk_at dksX7_split_0 1 rfl rfl)
theorem dX7_split_2 : decode cX7_split 2 = .ok (.putfield 72, 3) := dk_181 0 72 (dk_at dksX7_split_0 2 rfl rfl)
theorem dX7_split_5 : decode cX7_split 5 = .ok (.aload_n 0, 1) := dk_42 (dk_at dksX7_split_0 5 rfl rfl)
theorem dX7_split_6 : decode cX7_split 6 = .ok (.iload_n 1, 1) := dk_27 (dk_at dksX7_split_0 6 rfl rfl)
theorem dX7_split_7 : decode cX7_split 7 = .ok (.iload_n 2, 1) := dk_28 (dk_at dksX7_split_0 7 rfl rfl)
theorem dX7_split_8 : decode cX7_split 8 = .ok (.invokevirtual 232, 3) := dk_182 0 232 (dk_at dksX7_split_0 8 rfl rfl)
theorem dX7_split_11 : decode cX7_split 11 = .ok (.ifCond .eq 17, 3) := dk_153 0 17 (dk_at dksX7_split_0 11 rfl rfl)
theorem dX7_split_14 : decode cX7_split 14 = .ok (.iload_n 1, 1) := dk_27 (dk_at dksX7_split_0 14 rfl rfl)
theorem dX7_split_15 : decode cX7_split 15 = .ok (.iload_n 2, 1) := dk_28 (dk_at dksX7_split_0 15 rfl rfl)
theorem dX7_split_16 : decode cX7_split 16 = .ok (.if_icmp .eq 12, 3) := dk_159 0 12 (dk_at dksX7_split_0 16 rfl rfl)
theorem dX7_split_19 : decode cX7_split 19 = .ok (.iload_n 3, 1) := dk_29 (dk_at dksX7_split_0 19 rfl rfl)
theorem dX7_split_20 : decode cX7_split 20 = .ok (.ifCond .lt 8, 3) := dk_155 0 8 (dk_at dksX7_split_0 20 rfl rfl)
theorem dX7_split_23 : decode cX7_split 23 = .ok (.iload_n 3, 1) := dk_29 (dk_at dksX7_split_0 23 rfl rfl)
theorem dX7_split_24 : decode cX7_split 24 = .ok (.iconst 1, 1) := dk_4 (dk_at dksX7_split_1 0 rfl rfl)
theorem dX7_split_25 : decode cX7_split 25 = .ok (.if_icmp .le 5, 3) := dk_164 0 5 (dk_at dksX7_split_1 1 rfl rfl)
theorem dX7_split_28 : decode cX7_split 28 = .ok (.iconst (-1), 1) := dk_2 (dk_at dksX7_split_1 4 rfl rfl)
theorem dX7_split_29 : decode cX7_split 29 = .ok (.ireturn, 1) := dk_172 (dk_at dksX7_split_1 5 rfl rfl)
theorem dX7_split_30 : decode cX7_split 30 = .ok (.iload_n 1, 1) := dk_27 (dk_at dksX7_split_1 6 rfl rfl)
theorem dX7_split_31 : decode cX7_split 31 = .ok (.istore 4, 2) := dk_54 4 (dk_at dksX7_split_1 7 rfl rfl)
theorem dX7_split_33 : decode cX7_split 33 = .ok (.iconst (-1), 1) := dk_2 (dk_at dksX7_split_1 9 rfl rfl)
theorem dX7_split_34 : decode cX7_split 34 = .ok (.istore 5, 2) := dk_54 5 (dk_at dksX7_split_1 10 rfl rfl)
theorem dX7_split_36 : decode cX7_split 36 = .ok (.iload_n 1, 1) := dk_27 (dk_at dksX7_split_1 12 rfl rfl)
theorem dX7_split_37 : decode cX7_split 37 = .ok (.istore 6, 2) := dk_54 6 (dk_at dksX7_split_1 13 rfl rfl)
theorem dX7_split_39 : decode cX7_split 39 = .ok (.iload 6, 2) := dk_21 6 (dk_at dksX7_split_1 15 rfl rfl)
theorem dX7_split_41 : decode cX7_split 41 = .ok (.iload_n 2, 1) := dk_28 (dk_at dksX7_split_1 17 rfl rfl)
theorem dX7_split_42 : decode cX7_split 42 = .ok (.if_icmp .ge 60, 3) := dk_162 0 60 (dk_at dksX7_split_1 18 rfl rfl)
theorem dX7_split_45 : decode cX7_split 45 = .ok (.aload_n 0, 1) := dk_42 (dk_at dksX7_split_1 21 rfl rfl)
theorem dX7_split_46 : decode cX7_split 46 = .ok (.getfield 47, 3) := dk_180 0 47 (dk_at dksX7_split_2 0 rfl rfl)
theorem dX7_split_49 : decode cX7_split 49 = .ok (.aload_n 0, 1) := dk_42 (dk_at dksX7_split_2 3 rfl rfl)
theorem dX7_split_50 : decode cX7_split 50 = .ok (.iload_n 1, 1) := dk_27 (dk_at dksX7_split_2 4 rfl rfl)
theorem dX7_split_51 : decode cX7_split 51 = .ok (.iload 6, 2) := dk_21 6 (dk_at dksX7_split_2 5 rfl rfl)
theorem dX7_split_53 : decode cX7_split 53 = .ok (.invokevirtual 260, 3) := dk_182 1 4 (dk_at dksX7_split_2 7 rfl rfl)
theorem dX7_split_56 : decode cX7_split 56 = .ok (.iaload, 1) := dk_46 (dk_at dksX7_split_2 10 rfl rfl)
theorem dX7_split_57 : decode cX7_split 57 = .ok (.istore 7, 2) := dk_54 7 (dk_at dksX7_split_2 11 rfl rfl)
theorem dX7_split_59 : decode cX7_split 59 = .ok (.iload 7, 2) := dk_21 7 (dk_at dksX7_split_2 13 rfl rfl)
theorem dX7_split_61 : decode cX7_split 61 = .ok (.aload_n 0, 1) := dk_42 (dk_at dksX7_split_2 15 rfl rfl)
theorem dX7_split_62 : decode cX7_split 62 = .ok (.getfield 47, 3) := dk_180 0 47 (dk_at dksX7_split_2 16 rfl rfl)
theorem dX7_split_65 : decode cX7_split 65 = .ok (.aload_n 0, 1) := dk_42 (dk_at dksX7_split_2 19 rfl rfl)
theorem dX7_split_66 : decode cX7_split 66 = .ok (.iload 6, 2) := dk_21 6 (dk_at dksX7_split_2 20 rfl rfl)
theorem dX7_split_68 : decode cX7_split 68 = .ok (.iconst 1, 1) := dk_4 (dk_at dksX7_split_2 22 rfl rfl)
theorem dX7_split_69 : decode cX7_split 69 = .ok (.iadd, 1) := dk_96 (dk_at dksX7_split_2 23 rfl rfl)
theorem dX7_split_70 : decode cX7_split 70 = .ok (.iload_n 2, 1) := dk_28 (dk_at dksX7_split_3 0 rfl rfl)
theorem dX7_split_71 : decode cX7_split 71 = .ok (.invokevirtual 260, 3) := dk_182 1 4 (dk_at dksX7_split_3 1 rfl rfl)
theorem dX7_split_74 : decode cX7_split 74 = .ok (.iaload, 1) := dk_46 (dk_at dksX7_split_3 4 rfl rfl)
theorem dX7_split_75 : decode cX7_split 75 = .ok (.iadd, 1) := dk_96 (dk_at dksX7_split_3 5 rfl rfl)
theorem dX7_split_76 : decode cX7_split 76 = .ok (.istore 7, 2) := dk_54 7 (dk_at dksX7_split_3 6 rfl rfl)
theorem dX7_split_78 : decode cX7_split 78 = .ok (.iload 7, 2) := dk_21 7 (dk_at dksX7_split_3 8 rfl rfl)
theorem dX7_split_80 : decode cX7_split 80 = .ok (.iload 5, 2) := dk_21 5 (dk_at dksX7_split_3 10 rfl rfl)
theorem dX7_split_82 : decode cX7_split 82 = .ok (.if_icmp .gt 6, 3) := dk_163 0 6 (dk_at dksX7_split_3 12 rfl rfl)
theorem dX7_split_85 : decode cX7_split 85 = .ok (.goto 11, 3) := dk_167 0 11 (dk_at dksX7_split_3 15 rfl rfl)
theorem dX7_split_88 : decode cX7_split 88 = .ok (.iload 6, 2) := dk_21 6 (dk_at dksX7_split_3 18 rfl rfl)
theorem dX7_split_90 : decode cX7_split 90 = .ok (.istore 4, 2) := dk_54 4 (dk_at dksX7_split_3 20 rfl rfl)
theorem dX7_split_92 : decode cX7_split 92 = .ok (.iload 7, 2) := dk_21 7 (dk_at dksX7_split_3 22 rfl rfl)
theorem dX7_split_94 : decode cX7_split 94 = .ok (.istore 5, 2) := dk_54 5 (dk_at dksX7_split_4 0 rfl rfl)
theorem dX7_split_96 : decode cX7_split 96 = .ok (.iinc 6 1, 3) := dk_132 6 1 (dk_at dksX7_split_4 2 rfl rfl)
theorem dX7_split_99 : decode cX7_split 99 = .ok (.goto (-60), 3) := dk_167 255 196 (dk_at dksX7_split_4 5 rfl rfl)
theorem dX7_split_102 : decode cX7_split 102 = .ok (.iload_n 3, 1) := dk_29 (dk_at dksX7_split_4 8 rfl rfl)
theorem dX7_split_103 : decode cX7_split 103 = .ok (.ifCond .ne 8, 3) := dk_154 0 8 (dk_at dksX7_split_4 9 rfl rfl)
theorem dX7_split_106 : decode cX7_split 106 = .ok (.iload 4, 2) := dk_21 4 (dk_at dksX7_split_4 12 rfl rfl)
theorem dX7_split_108 : decode cX7_split 108 = .ok (.goto 5, 3) := dk_167 0 5 (dk_at dksX7_split_4 14 rfl rfl)
theorem dX7_split_111 : decode cX7_split 111 = .ok (.iload 5, 2) := dk_21 5 (dk_at dksX7_split_4 17 rfl rfl)
theorem dX7_split_113 : decode cX7_split 113 = .ok (.ireturn, 1) := dk_172 (dk_at dksX7_split_4 19 rfl rfl)
abbrev cX7_together : ByteArray := prog_19_method_88_code
def yX7_together : MethodName := ⟨RX7, "together", "(IIIII)I"⟩
def dkwX7_together_5 : List UInt8 := [132, 7, 1, 167, 255, 215, 42, 42, 42, 180, 0, 178, 182, 1, 0, 21, 5, 182, 1, 7, 172]
abbrev dktX7_together_5 : List UInt8 := dkwX7_together_5 ++ []
def dkwX7_together_4 : List UInt8 := [28, 163, 0, 6, 167, 0, 19, 42, 42, 180, 0, 13, 21, 7, 46, 21, 6, 182, 1, 25, 132, 6, 1]
abbrev dktX7_together_4 : List UInt8 := dkwX7_together_4 ++ dktX7_together_5
def dkwX7_together_3 : List UInt8 := [132, 7, 1, 167, 255, 231, 29, 54, 7, 21, 7, 21, 4, 163, 0, 40, 21, 7, 27, 161, 0, 12, 21, 7]
abbrev dktX7_together_3 : List UInt8 := dkwX7_together_3 ++ dktX7_together_4
def dkwX7_together_2 : List UInt8 := [54, 7, 21, 7, 28, 163, 0, 25, 42, 42, 180, 0, 13, 21, 7, 46, 21, 6, 182, 1, 25, 132, 6, 1]
abbrev dktX7_together_2 : List UInt8 := dkwX7_together_2 ++ dktX7_together_3
def dkwX7_together_1 : List UInt8 := [21, 5, 155, 0, 9, 21, 5, 4, 164, 0, 5, 2, 172, 42, 3, 2, 2, 182, 0, 252, 3, 54, 6, 27]
abbrev dktX7_together_1 : List UInt8 := dkwX7_together_1 ++ dktX7_together_2
def dkwX7_together_0 : List UInt8 := [42, 3, 181, 0, 72, 42, 27, 28, 182, 0, 232, 153, 0, 24, 42, 29, 21, 4, 182, 0, 232, 153, 0, 14]
abbrev dktX7_together_0 : List UInt8 := dkwX7_together_0 ++ dktX7_together_1
theorem dksX7_together_0 : cX7_together.data.toList.drop 0 = dktX7_together_0 := by decide +kernel
theorem dksX7_together_1 : cX7_together.data.toList.drop 24 = dktX7_together_1 := dk_seg dksX7_together_0 24 rfl rfl
theorem dksX7_together_2 : cX7_together.data.toList.drop 48 = dktX7_together_2 := dk_seg dksX7_together_1 24 rfl rfl
theorem dksX7_together_3 : cX7_together.data.toList.drop 72 = dktX7_together_3 := dk_seg dksX7_together_2 24 rfl rfl
theorem dksX7_together_4 : cX7_together.data.toList.drop 96 = dktX7_together_4 := dk_seg dksX7_together_3 24 rfl rfl
theorem dksX7_together_5 : cX7_together.data.toList.drop 119 = dktX7_together_5 := dk_seg dksX7_together_4 23 rfl rfl
theorem dX7_together_0 : decode cX7_together 0 = .ok (.aload_n 0, 1) := dk_42 (dk_at dksX7_together_0 0 rfl rfl)
theorem dX7_together_1 : decode cX7_together 1 = .ok (.iconst 0, 1) := dk_3 (dk_at dksX7_together_0 1 rfl rfl)
theorem dX7_together_2 : decode cX7_together 2 = .ok (.putfield 72, 3) := dk_181 0 72 (dk_at dksX7_together_0 2 rfl rfl)
theorem dX7_together_5 : decode cX7_together 5 = .ok (.aload_n 0, 1) := dk_42 (dk_at dksX7_together_0 5 rfl rfl)
theorem dX7_together_6 : decode cX7_together 6 = .ok (.iload_n 1, 1) := dk_27 (dk_at dksX7_together_0 6 rfl rfl)
theorem dX7_together_7 : decode cX7_together 7 = .ok (.iload_n 2, 1) := dk_28 (dk_at dksX7_together_0 7 rfl rfl)
theorem dX7_together_8 : decode cX7_together 8 = .ok (.invokevirtual 232, 3) := dk_182 0 232 (dk_at dksX7_together_0 8 rfl rfl)
theorem dX7_together_11 : decode cX7_together 11 = .ok (.ifCond .eq 24, 3) := dk_153 0 24 (dk_at dksX7_together_0 11 rfl rfl)
theorem dX7_together_14 : decode cX7_together 14 = .ok (.aload_n 0, 1) := dk_42 (dk_at dksX7_together_0 14 rfl rfl)
theorem dX7_together_15 : decode cX7_together 15 = .ok (.iload_n 3, 1) := dk_29 (dk_at dksX7_together_0 15 rfl rfl)
theorem dX7_together_16 : decode cX7_together 16 = .ok (.iload 4, 2) := dk_21 4 (dk_at dksX7_together_0 16 rfl rfl)
theorem dX7_together_18 : decode cX7_together 18 = .ok (.invokevirtual 232, 3) := dk_182 0 232 (dk_at dksX7_together_0 18 rfl rfl)
theorem dX7_together_21 : decode cX7_together 21 = .ok (.ifCond .eq 14, 3) := dk_153 0 14 (dk_at dksX7_together_0 21 rfl rfl)
theorem dX7_together_24 : decode cX7_together 24 = .ok (.iload 5, 2) := dk_21 5 (dk_at dksX7_together_1 0 rfl rfl)
theorem dX7_together_26 : decode cX7_together 26 = .ok (.ifCond .lt 9, 3) := dk_155 0 9 (dk_at dksX7_together_1 2 rfl rfl)
theorem dX7_together_29 : decode cX7_together 29 = .ok (.iload 5, 2) := dk_21 5 (dk_at dksX7_together_1 5 rfl rfl)
theorem dX7_together_31 : decode cX7_together 31 = .ok (.iconst 1, 1) := dk_4 (dk_at dksX7_together_1 7 rfl rfl)
theorem dX7_together_32 : decode cX7_together 32 = .ok (.if_icmp .le 5, 3) := dk_164 0 5 (dk_at dksX7_together_1 8 rfl rfl)
theorem dX7_together_35 : decode cX7_together 35 = .ok (.iconst (-1), 1) := dk_2 (dk_at dksX7_together_1 11 rfl rfl)
theorem dX7_together_36 : decode cX7_together 36 = .ok (.ireturn, 1) := dk_172 (dk_at dksX7_together_1 12 rfl rfl)
theorem dX7_together_37 : decode cX7_together 37 = .ok (.aload_n 0, 1) := dk_42 (dk_at dksX7_together_1 13 rfl rfl)
theorem dX7_together_38 : decode cX7_together 38 = .ok (.iconst 0, 1) := dk_3 (dk_at dksX7_together_1 14 rfl rfl)
theorem dX7_together_39 : decode cX7_together 39 = .ok (.iconst (-1), 1) := dk_2 (dk_at dksX7_together_1 15 rfl rfl)
theorem dX7_together_40 : decode cX7_together 40 = .ok (.iconst (-1), 1) := dk_2 (dk_at dksX7_together_1 16 rfl rfl)
theorem dX7_together_41 : decode cX7_together 41 = .ok (.invokevirtual 252, 3) := dk_182 0 252 (dk_at dksX7_together_1 17 rfl rfl)
theorem dX7_together_44 : decode cX7_together 44 = .ok (.iconst 0, 1) := dk_3 (dk_at dksX7_together_1 20 rfl rfl)
theorem dX7_together_45 : decode cX7_together 45 = .ok (.istore 6, 2) := dk_54 6 (dk_at dksX7_together_1 21 rfl rfl)
theorem dX7_together_47 : decode cX7_together 47 = .ok (.iload_n 1, 1) := dk_27 (dk_at dksX7_together_1 23 rfl rfl)
theorem dX7_together_48 : decode cX7_together 48 = .ok (.istore 7, 2) := dk_54 7 (dk_at dksX7_together_2 0 rfl rfl)
theorem dX7_together_50 : decode cX7_together 50 = .ok (.iload 7, 2) := dk_21 7 (dk_at dksX7_together_2 2 rfl rfl)
theorem dX7_together_52 : decode cX7_together 52 = .ok (.iload_n 2, 1) := dk_28 (dk_at dksX7_together_2 4 rfl rfl)
theorem dX7_together_53 : decode cX7_together 53 = .ok (.if_icmp .gt 25, 3) := dk_163 0 25 (dk_at dksX7_together_2 5 rfl rfl)
theorem dX7_together_56 : decode cX7_together 56 = .ok (.aload_n 0, 1) := dk_42 (dk_at dksX7_together_2 8 rfl rfl)
theorem dX7_together_57 : decode cX7_together 57 = .ok (.aload_n 0, 1) := dk_42 (dk_at dksX7_together_2 9 rfl rfl)
theorem dX7_together_58 : decode cX7_together 58 = .ok (.getfield 13, 3) := dk_180 0 13 (dk_at dksX7_together_2 10 rfl rfl)
theorem dX7_together_61 : decode cX7_together 61 = .ok (.iload 7, 2) := dk_21 7 (dk_at dksX7_together_2 13 rfl rfl)
theorem dX7_together_63 : decode cX7_together 63 = .ok (.iaload, 1) := dk_46 (dk_at dksX7_together_2 15 rfl rfl)
theorem dX7_together_64 : decode cX7_together 64 = .ok (.iload 6, 2) := dk_21 6 (dk_at dksX7_together_2 16 rfl rfl)
theorem dX7_together_66 : decode cX7_together 66 = .ok (.invokevirtual 281, 3) := dk_182 1 25 (dk_at dksX7_together_2 18 rfl rfl)
theorem dX7_together_69 : decode cX7_together 69 = .ok (.iinc 6 1, 3) := dk_132 6 1 (dk_at dksX7_together_2 21 rfl rfl)
theorem dX7_together_72 : decode cX7_together 72 = .ok (.iinc 7 1, 3) := dk_132 7 1 (dk_at dksX7_together_3 0 rfl rfl)
theorem dX7_together_75 : decode cX7_together 75 = .ok (.goto (-25), 3) := dk_167 255 231 (dk_at dksX7_together_3 3 rfl rfl)
theorem dX7_together_78 : decode cX7_together 78 = .ok (.iload_n 3, 1) := dk_29 (dk_at dksX7_together_3 6 rfl rfl)
theorem dX7_together_79 : decode cX7_together 79 = .ok (.istore 7, 2) := dk_54 7 (dk_at dksX7_together_3 7 rfl rfl)
theorem dX7_together_81 : decode cX7_together 81 = .ok (.iload 7, 2) := dk_21 7 (dk_at dksX7_together_3 9 rfl rfl)
theorem dX7_together_83 : decode cX7_together 83 = .ok (.iload 4, 2) := dk_21 4 (dk_at dksX7_together_3 11 rfl rfl)
theorem dX7_together_85 : decode cX7_together 85 = .ok (.if_icmp .gt 40, 3) := dk_163 0 40 (dk_at dksX7_together_3 13 rfl rfl)
theorem dX7_together_88 : decode cX7_together 88 = .ok (.iload 7, 2) := dk_21 7 (dk_at dksX7_together_3 16 rfl rfl)
theorem dX7_together_90 : decode cX7_together 90 = .ok (.iload_n 1, 1) := dk_27 (dk_at dksX7_together_3 18 rfl rfl)
theorem dX7_together_91 : decode cX7_together 91 = .ok (.if_icmp .lt 12, 3) := dk_161 0 12 (dk_at dksX7_together_3 19 rfl rfl)
theorem dX7_together_94 : decode cX7_together 94 = .ok (.iload 7, 2) := dk_21 7 (dk_at dksX7_together_3 22 rfl rfl)
theorem dX7_together_96 : decode cX7_together 96 = .ok (.iload_n 2, 1) := dk_28 (dk_at dksX7_together_4 0 rfl rfl)
theorem dX7_together_97 : decode cX7_together 97 = .ok (.if_icmp .gt 6, 3) := dk_163 0 6 (dk_at dksX7_together_4 1 rfl rfl)
theorem dX7_together_100 : decode cX7_together 100 = .ok (.goto 19, 3) := dk_167 0 19 (dk_at dksX7_together_4 4 rfl rfl)
theorem dX7_together_103 : decode cX7_together 103 = .ok (.aload_n 0, 1) := dk_42 (dk_at dksX7_together_4 7 rfl rfl)
theorem dX7_together_104 : decode cX7_together 104 = .ok (.aload_n 0, 1) := dk_42 (dk_at dksX7_together_4 8 rfl rfl)
theorem dX7_together_105 : decode cX7_together 105 = .ok (.getfield 13, 3) := dk_180 0 13 (dk_at dksX7_together_4 9 rfl rfl)
theorem dX7_together_108 : decode cX7_together 108 = .ok (.iload 7, 2) := dk_21 7 (dk_at dksX7_together_4 12 rfl rfl)
theorem dX7_together_110 : decode cX7_together 110 = .ok (.iaload, 1) := dk_46 (dk_at dksX7_together_4 14 rfl rfl)
theorem dX7_together_111 : decode cX7_together 111 = .ok (.iload 6, 2) := dk_21 6 (dk_at dksX7_together_4 15 rfl rfl)
theorem dX7_together_113 : decode cX7_together 113 = .ok (.invokevirtual 281, 3) := dk_182 1 25 (dk_at dksX7_together_4 17 rfl rfl)
theorem dX7_together_116 : decode cX7_together 116 = .ok (.iinc 6 1, 3) := dk_132 6 1 (dk_at dksX7_together_4 20 rfl rfl)
theorem dX7_together_119 : decode cX7_together 119 = .ok (.iinc 7 1, 3) := dk_132 7 1 (dk_at dksX7_together_5 0 rfl rfl)
theorem dX7_together_122 : decode cX7_together 122 = .ok (.goto (-41), 3) := dk_167 255 215 (dk_at dksX7_together_5 3 rfl rfl)
theorem dX7_together_125 : decode cX7_together 125 = .ok (.aload_n 0, 1) := dk_42 (dk_at dksX7_together_5 6 rfl rfl)
theorem dX7_together_126 : decode cX7_together 126 = .ok (.aload_n 0, 1) := dk_42 (dk_at dksX7_together_5 7 rfl rfl)
theorem dX7_together_127 : decode cX7_together 127 = .ok (.aload_n 0, 1) := dk_42 (dk_at dksX7_together_5 8 rfl rfl)
theorem dX7_together_128 : decode cX7_together 128 = .ok (.getfield 178, 3) := dk_180 0 178 (dk_at dksX7_together_5 9 rfl rfl)
theorem dX7_together_131 : decode cX7_together 131 = .ok (.invokevirtual 256, 3) := dk_182 1 0 (dk_at dksX7_together_5 12 rfl rfl)
theorem dX7_together_134 : decode cX7_together 134 = .ok (.iload 5, 2) := dk_21 5 (dk_at dksX7_together_5 15 rfl rfl)
theorem dX7_together_136 : decode cX7_together 136 = .ok (.invokevirtual 263, 3) := dk_182 1 7 (dk_at dksX7_together_5 17 rfl rfl)
theorem dX7_together_139 : decode cX7_together 139 = .ok (.ireturn, 1) := dk_172 (dk_at dksX7_together_5 20 rfl rfl)
abbrev cX7_agree : ByteArray := prog_19_method_89_code
def yX7_agree : MethodName := ⟨RX7, "agree", "(III)I"⟩
def dkwX7_agree_2 : List UInt8 := [160, 0, 7, 4, 167, 0, 4, 3, 172]
abbrev dktX7_agree_2 : List UInt8 := dkwX7_agree_2 ++ []
def dkwX7_agree_1 : List UInt8 := [154, 0, 5, 2, 172, 42, 27, 28, 182, 1, 4, 54, 4, 42, 28, 4, 96, 29, 182, 1, 4, 21, 4]
abbrev dktX7_agree_1 : List UInt8 := dkwX7_agree_1 ++ dktX7_agree_2
def dkwX7_agree_0 : List UInt8 := [42, 3, 181, 0, 72, 42, 27, 28, 182, 0, 232, 153, 0, 14, 42, 28, 4, 96, 29, 182, 0, 232]
abbrev dktX7_agree_0 : List UInt8 := dkwX7_agree_0 ++ dktX7_agree_1
theorem dksX7_agree_0 : cX7_agree.data.toList.drop 0 = dktX7_agree_0 := by decide +kernel
theorem dksX7_agree_1 : cX7_agree.data.toList.drop 22 = dktX7_agree_1 := dk_seg dksX7_agree_0 22 rfl rfl
theorem dksX7_agree_2 : cX7_agree.data.toList.drop 45 = dktX7_agree_2 := dk_seg dksX7_agree_1 23 rfl rfl
theorem dX7_agree_0 : decode cX7_agree 0 = .ok (.aload_n 0, 1) := dk_42 (dk_at dksX7_agree_0 0 rfl rfl)
theorem dX7_agree_1 : decode cX7_agree 1 = .ok (.iconst 0, 1) := dk_3 (dk_at dksX7_agree_0 1 rfl rfl)
theorem dX7_agree_2 : decode cX7_agree 2 = .ok (.putfield 72, 3) := dk_181 0 72 (dk_at dksX7_agree_0 2 rfl rfl)
theorem dX7_agree_5 : decode cX7_agree 5 = .ok (.aload_n 0, 1) := dk_42 (dk_at dksX7_agree_0 5 rfl rfl)
theorem dX7_agree_6 : decode cX7_agree 6 = .ok (.iload_n 1, 1) := dk_27 (dk_at dksX7_agree_0 6 rfl rfl)
theorem dX7_agree_7 : decode cX7_agree 7 = .ok (.iload_n 2, 1) := dk_28 (dk_at dksX7_agree_0 7 rfl rfl)
theorem dX7_agree_8 : decode cX7_agree 8 = .ok (.invokevirtual 232, 3) := dk_182 0 232 (dk_at dksX7_agree_0 8 rfl rfl)
theorem dX7_agree_11 : decode cX7_agree 11 = .ok (.ifCond .eq 14, 3) := dk_153 0 14 (dk_at dksX7_agree_0 11 rfl rfl)
theorem dX7_agree_14 : decode cX7_agree 14 = .ok (.aload_n 0, 1) := dk_42 (dk_at dksX7_agree_0 14 rfl rfl)
theorem dX7_agree_15 : decode cX7_agree 15 = .ok (.iload_n 2, 1) := dk_28 (dk_at dksX7_agree_0 15 rfl rfl)
theorem dX7_agree_16 : decode cX7_agree 16 = .ok (.iconst 1, 1) := dk_4 (dk_at dksX7_agree_0 16 rfl rfl)
theorem dX7_agree_17 : decode cX7_agree 17 = .ok (.iadd, 1) := dk_96 (dk_at dksX7_agree_0 17 rfl rfl)
theorem dX7_agree_18 : decode cX7_agree 18 = .ok (.iload_n 3, 1) := dk_29 (dk_at dksX7_agree_0 18 rfl rfl)
theorem dX7_agree_19 : decode cX7_agree 19 = .ok (.invokevirtual 232, 3) := dk_182 0 232 (dk_at dksX7_agree_0 19 rfl rfl)
theorem dX7_agree_22 : decode cX7_agree 22 = .ok (.ifCond .ne 5, 3) := dk_154 0 5 (dk_at dksX7_agree_1 0 rfl rfl)
theorem dX7_agree_25 : decode cX7_agree 25 = .ok (.iconst (-1), 1) := dk_2 (dk_at dksX7_agree_1 3 rfl rfl)
theorem dX7_agree_26 : decode cX7_agree 26 = .ok (.ireturn, 1) := dk_172 (dk_at dksX7_agree_1 4 rfl rfl)
theorem dX7_agree_27 : decode cX7_agree 27 = .ok (.aload_n 0, 1) := dk_42 (dk_at dksX7_agree_1 5 rfl rfl)
theorem dX7_agree_28 : decode cX7_agree 28 = .ok (.iload_n 1, 1) := dk_27 (dk_at dksX7_agree_1 6 rfl rfl)
theorem dX7_agree_29 : decode cX7_agree 29 = .ok (.iload_n 2, 1) := dk_28 (dk_at dksX7_agree_1 7 rfl rfl)
theorem dX7_agree_30 : decode cX7_agree 30 = .ok (.invokevirtual 260, 3) := dk_182 1 4 (dk_at dksX7_agree_1 8 rfl rfl)
theorem dX7_agree_33 : decode cX7_agree 33 = .ok (.istore 4, 2) := dk_54 4 (dk_at dksX7_agree_1 11 rfl rfl)
theorem dX7_agree_35 : decode cX7_agree 35 = .ok (.aload_n 0, 1) := dk_42 (dk_at dksX7_agree_1 13 rfl rfl)
theorem dX7_agree_36 : decode cX7_agree 36 = .ok (.iload_n 2, 1) := dk_28 (dk_at dksX7_agree_1 14 rfl rfl)
theorem dX7_agree_37 : decode cX7_agree 37 = .ok (.iconst 1, 1) := dk_4 (dk_at dksX7_agree_1 15 rfl rfl)
theorem dX7_agree_38 : decode cX7_agree 38 = .ok (.iadd, 1) := dk_96 (dk_at dksX7_agree_1 16 rfl rfl)
theorem dX7_agree_39 : decode cX7_agree 39 = .ok (.iload_n 3, 1) := dk_29 (dk_at dksX7_agree_1 17 rfl rfl)
theorem dX7_agree_40 : decode cX7_agree 40 = .ok (.invokevirtual 260, 3) := dk_182 1 4 (dk_at dksX7_agree_1 18 rfl rfl)
theorem dX7_agree_43 : decode cX7_agree 43 = .ok (.iload 4, 2) := dk_21 4 (dk_at dksX7_agree_1 21 rfl rfl)
theorem dX7_agree_45 : decode cX7_agree 45 = .ok (.if_icmp .ne 7, 3) := dk_160 0 7 (dk_at dksX7_agree_2 0 rfl rfl)
theorem dX7_agree_48 : decode cX7_agree 48 = .ok (.iconst 1, 1) := dk_4 (dk_at dksX7_agree_2 3 rfl rfl)
theorem dX7_agree_49 : decode cX7_agree 49 = .ok (.goto 4, 3) := dk_167 0 4 (dk_at dksX7_agree_2 4 rfl rfl)
theorem dX7_agree_52 : decode cX7_agree 52 = .ok (.iconst 0, 1) := dk_3 (dk_at dksX7_agree_2 7 rfl rfl)
theorem dX7_agree_53 : decode cX7_agree 53 = .ok (.ireturn, 1) := dk_172 (dk_at dksX7_agree_2 8 rfl rfl)
abbrev cX7_peeled : ByteArray := prog_19_method_90_code
def yX7_peeled : MethodName := ⟨RX7, "peeled", "(III)I"⟩
def dkwX7_peeled_3 : List UInt8 := [54, 4, 132, 5, 1, 167, 255, 227, 21, 4, 172]
abbrev dktX7_peeled_3 : List UInt8 := dkwX7_peeled_3 ++ []
def dkwX7_peeled_2 : List UInt8 := [21, 5, 29, 162, 0, 29, 21, 4, 42, 180, 0, 47, 42, 21, 5, 42, 180, 0, 178, 182, 1, 10, 46, 100]
abbrev dktX7_peeled_2 : List UInt8 := dkwX7_peeled_2 ++ dktX7_peeled_3
def dkwX7_peeled_1 : List UInt8 := [182, 0, 252, 29, 42, 180, 0, 242, 164, 0, 6, 16, 254, 172, 28, 27, 100, 4, 96, 54, 4, 3, 54, 5]
abbrev dktX7_peeled_1 : List UInt8 := dkwX7_peeled_1 ++ dktX7_peeled_2
def dkwX7_peeled_0 : List UInt8 := [42, 3, 181, 0, 72, 42, 27, 28, 182, 0, 232, 153, 0, 7, 29, 156, 0, 5, 2, 172, 42, 27, 28, 2]
abbrev dktX7_peeled_0 : List UInt8 := dkwX7_peeled_0 ++ dktX7_peeled_1
theorem dksX7_peeled_0 : cX7_peeled.data.toList.drop 0 = dktX7_peeled_0 := by decide +kernel
theorem dksX7_peeled_1 : cX7_peeled.data.toList.drop 24 = dktX7_peeled_1 := dk_seg dksX7_peeled_0 24 rfl rfl
theorem dksX7_peeled_2 : cX7_peeled.data.toList.drop 48 = dktX7_peeled_2 := dk_seg dksX7_peeled_1 24 rfl rfl
theorem dksX7_peeled_3 : cX7_peeled.data.toList.drop 72 = dktX7_peeled_3 := dk_seg dksX7_peeled_2 24 rfl rfl
theorem dX7_peeled_0 : decode cX7_peeled 0 = .ok (.aload_n 0, 1) := dk_42 (dk_at dksX7_peeled_0 0 rfl rfl)
theorem dX7_peeled_1 : decode cX7_peeled 1 = .ok (.iconst 0, 1) := dk_3 (dk_at dksX7_peeled_0 1 rfl rfl)
theorem dX7_peeled_2 : decode cX7_peeled 2 = .ok (.putfield 72, 3) := dk_181 0 72 (dk_at dksX7_peeled_0 2 rfl rfl)
theorem dX7_peeled_5 : decode cX7_peeled 5 = .ok (.aload_n 0, 1) := dk_42 (dk_at dksX7_peeled_0 5 rfl rfl)
theorem dX7_peeled_6 : decode cX7_peeled 6 = .ok (.iload_n 1, 1) := dk_27 (dk_at dksX7_peeled_0 6 rfl rfl)
theorem dX7_peeled_7 : decode cX7_peeled 7 = .ok (.iload_n 2, 1) := dk_28 (dk_at dksX7_peeled_0 7 rfl rfl)
theorem dX7_peeled_8 : decode cX7_peeled 8 = .ok (.invokevirtual 232, 3) := dk_182 0 232 (dk_at dksX7_peeled_0 8 rfl rfl)
theorem dX7_peeled_11 : decode cX7_peeled 11 = .ok (.ifCond .eq 7, 3) := dk_153 0 7 (dk_at dksX7_peeled_0 11 rfl rfl)
theorem dX7_peeled_14 : decode cX7_peeled 14 = .ok (.iload_n 3, 1) := dk_29 (dk_at dksX7_peeled_0 14 rfl rfl)
theorem dX7_peeled_15 : decode cX7_peeled 15 = .ok (.ifCond .ge 5, 3) := dk_156 0 5 (dk_at dksX7_peeled_0 15 rfl rfl)
theorem dX7_peeled_18 : decode cX7_peeled 18 = .ok (.iconst (-1), 1) := dk_2 (dk_at dksX7_peeled_0 18 rfl rfl)
theorem dX7_peeled_19 : decode cX7_peeled 19 = .ok (.ireturn, 1) := dk_172 (dk_at dksX7_peeled_0 19 rfl rfl)
theorem dX7_peeled_20 : decode cX7_peeled 20 = .ok (.aload_n 0, 1) := dk_42 (dk_at dksX7_peeled_0 20 rfl rfl)
theorem dX7_peeled_21 : decode cX7_peeled 21 = .ok (.iload_n 1, 1) := dk_27 (dk_at dksX7_peeled_0 21 rfl rfl)
theorem dX7_peeled_22 : decode cX7_peeled 22 = .ok (.iload_n 2, 1) := dk_28 (dk_at dksX7_peeled_0 22 rfl rfl)
theorem dX7_peeled_23 : decode cX7_peeled 23 = .ok (.iconst (-1), 1) := dk_2 (dk_at dksX7_peeled_0 23 rfl rfl)
theorem dX7_peeled_24 : decode cX7_peeled 24 = .ok (.invokevirtual 252, 3) := dk_182 0 252 (dk_at dksX7_peeled_1 0 rfl rfl)
theorem dX7_peeled_27 : decode cX7_peeled 27 = .ok (.iload_n 3, 1) := dk_29 (dk_at dksX7_peeled_1 3 rfl rfl)
theorem dX7_peeled_28 : decode cX7_peeled 28 = .ok (.aload_n 0, 1) := dk_42 (dk_at dksX7_peeled_1 4 rfl rfl)
theorem dX7_peeled_29 : decode cX7_peeled 29 = .ok (.getfield 242, 3) := dk_180 0 242 (dk_at dksX7_peeled_1 5 rfl rfl)
theorem dX7_peeled_32 : decode cX7_peeled 32 = .ok (.if_icmp .le 6, 3) := dk_164 0 6 (dk_at dksX7_peeled_1 8 rfl rfl)
theorem dX7_peeled_35 : decode cX7_peeled 35 = .ok (.bipush (-2), 2) := dk_16 254 (dk_at dksX7_peeled_1 11 rfl rfl)
theorem dX7_peeled_37 : decode cX7_peeled 37 = .ok (.ireturn, 1) := dk_172 (dk_at dksX7_peeled_1 13 rfl rfl)
theorem dX7_peeled_38 : decode cX7_peeled 38 = .ok (.iload_n 2, 1) := dk_28 (dk_at dksX7_peeled_1 14 rfl rfl)
theorem dX7_peeled_39 : decode cX7_peeled 39 = .ok (.iload_n 1, 1) := dk_27 (dk_at dksX7_peeled_1 15 rfl rfl)
theorem dX7_peeled_40 : decode cX7_peeled 40 = .ok (.isub, 1) := dk_100 (dk_at dksX7_peeled_1 16 rfl rfl)
theorem dX7_peeled_41 : decode cX7_peeled 41 = .ok (.iconst 1, 1) := dk_4 (dk_at dksX7_peeled_1 17 rfl rfl)
theorem dX7_peeled_42 : decode cX7_peeled 42 = .ok (.iadd, 1) := dk_96 (dk_at dksX7_peeled_1 18 rfl rfl)
theorem dX7_peeled_43 : decode cX7_peeled 43 = .ok (.istore 4, 2) := dk_54 4 (dk_at dksX7_peeled_1 19 rfl rfl)
theorem dX7_peeled_45 : decode cX7_peeled 45 = .ok (.iconst 0, 1) := dk_3 (dk_at dksX7_peeled_1 21 rfl rfl)
theorem dX7_peeled_46 : decode cX7_peeled 46 = .ok (.istore 5, 2) := dk_54 5 (dk_at dksX7_peeled_1 22 rfl rfl)
theorem dX7_peeled_48 : decode cX7_peeled 48 = .ok (.iload 5, 2) := dk_21 5 (dk_at dksX7_peeled_2 0 rfl rfl)
theorem dX7_peeled_50 : decode cX7_peeled 50 = .ok (.iload_n 3, 1) := dk_29 (dk_at dksX7_peeled_2 2 rfl rfl)
theorem dX7_peeled_51 : decode cX7_peeled 51 = .ok (.if_icmp .ge 29, 3) := dk_162 0 29 (dk_at dksX7_peeled_2 3 rfl rfl)
theorem dX7_peeled_54 : decode cX7_peeled 54 = .ok (.iload 4, 2) := dk_21 4 (dk_at dksX7_peeled_2 6 rfl rfl)
theorem dX7_peeled_56 : decode cX7_peeled 56 = .ok (.aload_n 0, 1) := dk_42 (dk_at dksX7_peeled_2 8 rfl rfl)
theorem dX7_peeled_57 : decode cX7_peeled 57 = .ok (.getfield 47, 3) := dk_180 0 47 (dk_at dksX7_peeled_2 9 rfl rfl)
theorem dX7_peeled_60 : decode cX7_peeled 60 = .ok (.aload_n 0, 1) := dk_42 (dk_at dksX7_peeled_2 12 rfl rfl)
theorem dX7_peeled_61 : decode cX7_peeled 61 = .ok (.iload 5, 2) := dk_21 5 (dk_at dksX7_peeled_2 13 rfl rfl)
theorem dX7_peeled_63 : decode cX7_peeled 63 = .ok (.aload_n 0, 1) := dk_42 (dk_at dksX7_peeled_2 15 rfl rfl)
theorem dX7_peeled_64 : decode cX7_peeled 64 = .ok (.getfield 178, 3) := dk_180 0 178 (dk_at dksX7_peeled_2 16 rfl rfl)
theorem dX7_peeled_67 : decode cX7_peeled 67 = .ok (.invokevirtual 266, 3) := dk_182 1 10 (dk_at dksX7_peeled_2 19 rfl rfl)
theorem dX7_peeled_70 : decode cX7_peeled 70 = .ok (.iaload, 1) := dk_46 (dk_at dksX7_peeled_2 22 rfl rfl)
theorem dX7_peeled_71 : decode cX7_peeled 71 = .ok (.isub, 1) := dk_100 (dk_at dksX7_peeled_2 23 rfl rfl)
theorem dX7_peeled_72 : decode cX7_peeled 72 = .ok (.istore 4, 2) := dk_54 4 (dk_at dksX7_peeled_3 0 rfl rfl)
theorem dX7_peeled_74 : decode cX7_peeled 74 = .ok (.iinc 5 1, 3) := dk_132 5 1 (dk_at dksX7_peeled_3 2 rfl rfl)
theorem dX7_peeled_77 : decode cX7_peeled 77 = .ok (.goto (-29), 3) := dk_167 255 227 (dk_at dksX7_peeled_3 5 rfl rfl)
theorem dX7_peeled_80 : decode cX7_peeled 80 = .ok (.iload 4, 2) := dk_21 4 (dk_at dksX7_peeled_3 8 rfl rfl)
theorem dX7_peeled_82 : decode cX7_peeled 82 = .ok (.ireturn, 1) := dk_172 (dk_at dksX7_peeled_3 10 rfl rfl)
abbrev cX7_gap : ByteArray := prog_19_method_91_code
def yX7_gap : MethodName := ⟨RX7, "gap", "(I)I"⟩
def dkwX7_gap_3 : List UInt8 := [167, 255, 209, 28, 172]
abbrev dktX7_gap_3 : List UInt8 := dkwX7_gap_3 ++ []
def dkwX7_gap_2 : List UInt8 := [159, 0, 16, 21, 4, 29, 100, 28, 164, 0, 8, 21, 4, 29, 100, 61, 21, 4, 62, 132, 4, 1]
abbrev dktX7_gap_2 : List UInt8 := dkwX7_gap_2 ++ dktX7_gap_3
def dkwX7_gap_1 : List UInt8 := [42, 180, 0, 175, 162, 0, 44, 42, 180, 0, 13, 21, 4, 46, 27, 159, 0, 6, 167, 0, 24, 29, 2]
abbrev dktX7_gap_1 : List UInt8 := dkwX7_gap_1 ++ dktX7_gap_2
def dkwX7_gap_0 : List UInt8 := [42, 3, 181, 0, 72, 27, 184, 0, 220, 154, 0, 5, 2, 172, 16, 254, 61, 2, 62, 3, 54, 4, 21, 4]
abbrev dktX7_gap_0 : List UInt8 := dkwX7_gap_0 ++ dktX7_gap_1
theorem dksX7_gap_0 : cX7_gap.data.toList.drop 0 = dktX7_gap_0 := by decide +kernel
theorem dksX7_gap_1 : cX7_gap.data.toList.drop 24 = dktX7_gap_1 := dk_seg dksX7_gap_0 24 rfl rfl
theorem dksX7_gap_2 : cX7_gap.data.toList.drop 47 = dktX7_gap_2 := dk_seg dksX7_gap_1 23 rfl rfl
theorem dksX7_gap_3 : cX7_gap.data.toList.drop 69 = dktX7_gap_3 := dk_seg dksX7_gap_2 22 rfl rfl
theorem dX7_gap_0 : decode cX7_gap 0 = .ok (.aload_n 0, 1) := dk_42 (dk_at dksX7_gap_0 0 rfl rfl)
theorem dX7_gap_1 : decode cX7_gap 1 = .ok (.iconst 0, 1) := dk_3 (dk_at dksX7_gap_0 1 rfl rfl)
theorem dX7_gap_2 : decode cX7_gap 2 = .ok (.putfield 72, 3) := dk_181 0 72 (dk_at dksX7_gap_0 2 rfl rfl)
theorem dX7_gap_5 : decode cX7_gap 5 = .ok (.iload_n 1, 1) := dk_27 (dk_at dksX7_gap_0 5 rfl rfl)
theorem dX7_gap_6 : decode cX7_gap 6 = .ok (.invokestatic 220, 3) := dk_184 0 220 (dk_at dksX7_gap_0 6 rfl rfl)
theorem dX7_gap_9 : decode cX7_gap 9 = .ok (.ifCond .ne 5, 3) := dk_154 0 5 (dk_at dksX7_gap_0 9 rfl rfl)
theorem dX7_gap_12 : decode cX7_gap 12 = .ok (.iconst (-1), 1) := dk_2 (dk_at dksX7_gap_0 12 rfl rfl)
theorem dX7_gap_13 : decode cX7_gap 13 = .ok (.ireturn, 1) := dk_172 (dk_at dksX7_gap_0 13 rfl rfl)
theorem dX7_gap_14 : decode cX7_gap 14 = .ok (.bipush (-2), 2) := dk_16 254 (dk_at dksX7_gap_0 14 rfl rfl)
theorem dX7_gap_16 : decode cX7_gap 16 = .ok (.istore_n 2, 1) := dk_61 (dk_at dksX7_gap_0 16 rfl rfl)
theorem dX7_gap_17 : decode cX7_gap 17 = .ok (.iconst (-1), 1) := dk_2 (dk_at dksX7_gap_0 17 rfl rfl)
theorem dX7_gap_18 : decode cX7_gap 18 = .ok (.istore_n 3, 1) := dk_62 (dk_at dksX7_gap_0 18 rfl rfl)
theorem dX7_gap_19 : decode cX7_gap 19 = .ok (.iconst 0, 1) := dk_3 (dk_at dksX7_gap_0 19 rfl rfl)
theorem dX7_gap_20 : decode cX7_gap 20 = .ok (.istore 4, 2) := dk_54 4 (dk_at dksX7_gap_0 20 rfl rfl)
theorem dX7_gap_22 : decode cX7_gap 22 = .ok (.iload 4, 2) := dk_21 4 (dk_at dksX7_gap_0 22 rfl rfl)
theorem dX7_gap_24 : decode cX7_gap 24 = .ok (.aload_n 0, 1) := dk_42 (dk_at dksX7_gap_1 0 rfl rfl)
theorem dX7_gap_25 : decode cX7_gap 25 = .ok (.getfield 175, 3) := dk_180 0 175 (dk_at dksX7_gap_1 1 rfl rfl)
theorem dX7_gap_28 : decode cX7_gap 28 = .ok (.if_icmp .ge 44, 3) := dk_162 0 44 (dk_at dksX7_gap_1 4 rfl rfl)
theorem dX7_gap_31 : decode cX7_gap 31 = .ok (.aload_n 0, 1) := dk_42 (dk_at dksX7_gap_1 7 rfl rfl)
theorem dX7_gap_32 : decode cX7_gap 32 = .ok (.getfield 13, 3) := dk_180 0 13 (dk_at dksX7_gap_1 8 rfl rfl)
theorem dX7_gap_35 : decode cX7_gap 35 = .ok (.iload 4, 2) := dk_21 4 (dk_at dksX7_gap_1 11 rfl rfl)
theorem dX7_gap_37 : decode cX7_gap 37 = .ok (.iaload, 1) := dk_46 (dk_at dksX7_gap_1 13 rfl rfl)
theorem dX7_gap_38 : decode cX7_gap 38 = .ok (.iload_n 1, 1) := dk_27 (dk_at dksX7_gap_1 14 rfl rfl)
theorem dX7_gap_39 : decode cX7_gap 39 = .ok (.if_icmp .eq 6, 3) := dk_159 0 6 (dk_at dksX7_gap_1 15 rfl rfl)
theorem dX7_gap_42 : decode cX7_gap 42 = .ok (.goto 24, 3) := dk_167 0 24 (dk_at dksX7_gap_1 18 rfl rfl)
theorem dX7_gap_45 : decode cX7_gap 45 = .ok (.iload_n 3, 1) := dk_29 (dk_at dksX7_gap_1 21 rfl rfl)
theorem dX7_gap_46 : decode cX7_gap 46 = .ok (.iconst (-1), 1) := dk_2 (dk_at dksX7_gap_1 22 rfl rfl)
theorem dX7_gap_47 : decode cX7_gap 47 = .ok (.if_icmp .eq 16, 3) := dk_159 0 16 (dk_at dksX7_gap_2 0 rfl rfl)
theorem dX7_gap_50 : decode cX7_gap 50 = .ok (.iload 4, 2) := dk_21 4 (dk_at dksX7_gap_2 3 rfl rfl)
theorem dX7_gap_52 : decode cX7_gap 52 = .ok (.iload_n 3, 1) := dk_29 (dk_at dksX7_gap_2 5 rfl rfl)
theorem dX7_gap_53 : decode cX7_gap 53 = .ok (.isub, 1) := dk_100 (dk_at dksX7_gap_2 6 rfl rfl)
theorem dX7_gap_54 : decode cX7_gap 54 = .ok (.iload_n 2, 1) := dk_28 (dk_at dksX7_gap_2 7 rfl rfl)
theorem dX7_gap_55 : decode cX7_gap 55 = .ok (.if_icmp .le 8, 3) := dk_164 0 8 (dk_at dksX7_gap_2 8 rfl rfl)
theorem dX7_gap_58 : decode cX7_gap 58 = .ok (.iload 4, 2) := dk_21 4 (dk_at dksX7_gap_2 11 rfl rfl)
theorem dX7_gap_60 : decode cX7_gap 60 = .ok (.iload_n 3, 1) := dk_29 (dk_at dksX7_gap_2 13 rfl rfl)
theorem dX7_gap_61 : decode cX7_gap 61 = .ok (.isub, 1) := dk_100 (dk_at dksX7_gap_2 14 rfl rfl)
theorem dX7_gap_62 : decode cX7_gap 62 = .ok (.istore_n 2, 1) := dk_61 (dk_at dksX7_gap_2 15 rfl rfl)
theorem dX7_gap_63 : decode cX7_gap 63 = .ok (.iload 4, 2) := dk_21 4 (dk_at dksX7_gap_2 16 rfl rfl)
theorem dX7_gap_65 : decode cX7_gap 65 = .ok (.istore_n 3, 1) := dk_62 (dk_at dksX7_gap_2 18 rfl rfl)
theorem dX7_gap_66 : decode cX7_gap 66 = .ok (.iinc 4 1, 3) := dk_132 4 1 (dk_at dksX7_gap_2 19 rfl rfl)
theorem dX7_gap_69 : decode cX7_gap 69 = .ok (.goto (-47), 3) := dk_167 255 209 (dk_at dksX7_gap_3 0 rfl rfl)
theorem dX7_gap_72 : decode cX7_gap 72 = .ok (.iload_n 2, 1) := dk_28 (dk_at dksX7_gap_3 3 rfl rfl)
theorem dX7_gap_73 : decode cX7_gap 73 = .ok (.ireturn, 1) := dk_172 (dk_at dksX7_gap_3 4 rfl rfl)
abbrev cX7_wide : ByteArray := prog_19_method_92_code
def yX7_wide : MethodName := ⟨RX7, "wide", "(I)I"⟩
def dkwX7_wide_3 : List UInt8 := [132, 4, 1, 167, 255, 211, 29, 153, 0, 5, 28, 172, 132, 2, 1, 167, 255, 186, 16, 254, 172]
abbrev dktX7_wide_3 : List UInt8 := dkwX7_wide_3 ++ []
def dkwX7_wide_2 : List UInt8 := [21, 4, 21, 4, 28, 96, 4, 100, 182, 1, 4, 46, 27, 161, 0, 7, 4, 167, 0, 4, 3, 62]
abbrev dktX7_wide_2 : List UInt8 := dkwX7_wide_2 ++ dktX7_wide_3
def dkwX7_wide_1 : List UInt8 := [3, 54, 4, 21, 4, 28, 96, 42, 180, 0, 175, 163, 0, 40, 29, 153, 0, 36, 42, 180, 0, 47, 42]
abbrev dktX7_wide_1 : List UInt8 := dkwX7_wide_1 ++ dktX7_wide_2
def dkwX7_wide_0 : List UInt8 := [42, 3, 181, 0, 72, 27, 4, 162, 0, 5, 2, 172, 4, 61, 28, 42, 180, 0, 175, 163, 0, 68, 4, 62]
abbrev dktX7_wide_0 : List UInt8 := dkwX7_wide_0 ++ dktX7_wide_1
theorem dksX7_wide_0 : cX7_wide.data.toList.drop 0 = dktX7_wide_0 := by decide +kernel
theorem dksX7_wide_1 : cX7_wide.data.toList.drop 24 = dktX7_wide_1 := dk_seg dksX7_wide_0 24 rfl rfl
theorem dksX7_wide_2 : cX7_wide.data.toList.drop 47 = dktX7_wide_2 := dk_seg dksX7_wide_1 23 rfl rfl
theorem dksX7_wide_3 : cX7_wide.data.toList.drop 69 = dktX7_wide_3 := dk_seg dksX7_wide_2 22 rfl rfl
theorem dX7_wide_0 : decode cX7_wide 0 = .ok (.aload_n 0, 1) := dk_42 (dk_at dksX7_wide_0 0 rfl rfl)
theorem dX7_wide_1 : decode cX7_wide 1 = .ok (.iconst 0, 1) := dk_3 (dk_at dksX7_wide_0 1 rfl rfl)
theorem dX7_wide_2 : decode cX7_wide 2 = .ok (.putfield 72, 3) := dk_181 0 72 (dk_at dksX7_wide_0 2 rfl rfl)
theorem dX7_wide_5 : decode cX7_wide 5 = .ok (.iload_n 1, 1) := dk_27 (dk_at dksX7_wide_0 5 rfl rfl)
theorem dX7_wide_6 : decode cX7_wide 6 = .ok (.iconst 1, 1) := dk_4 (dk_at dksX7_wide_0 6 rfl rfl)
theorem dX7_wide_7 : decode cX7_wide 7 = .ok (.if_icmp .ge 5, 3) := dk_162 0 5 (dk_at dksX7_wide_0 7 rfl rfl)
theorem dX7_wide_10 : decode cX7_wide 10 = .ok (.iconst (-1), 1) := dk_2 (dk_at dksX7_wide_0 10 rfl rfl)
theorem dX7_wide_11 : decode cX7_wide 11 = .ok (.ireturn, 1) := dk_172 (dk_at dksX7_wide_0 11 rfl rfl)
theorem dX7_wide_12 : decode cX7_wide 12 = .ok (.iconst 1, 1) := dk_4 (dk_at dksX7_wide_0 12 rfl rfl)
theorem dX7_wide_13 : decode cX7_wide 13 = .ok (.istore_n 2, 1) := dk_61 (dk_at dksX7_wide_0 13 rfl rfl)
theorem dX7_wide_14 : decode cX7_wide 14 = .ok (.iload_n 2, 1) := dk_28 (dk_at dksX7_wide_0 14 rfl rfl)
theorem dX7_wide_15 : decode cX7_wide 15 = .ok (.aload_n 0, 1) := dk_42 (dk_at dksX7_wide_0 15 rfl rfl)
theorem dX7_wide_16 : decode cX7_wide 16 = .ok (.getfield 175, 3) := dk_180 0 175 (dk_at dksX7_wide_0 16 rfl rfl)
theorem dX7_wide_19 : decode cX7_wide 19 = .ok (.if_icmp .gt 68, 3) := dk_163 0 68 (dk_at dksX7_wide_0 19 rfl rfl)
theorem dX7_wide_22 : decode cX7_wide 22 = .ok (.iconst 1, 1) := dk_4 (dk_at dksX7_wide_0 22 rfl rfl)
theorem dX7_wide_23 : decode cX7_wide 23 = .ok (.istore_n 3, 1) := dk_62 (dk_at dksX7_wide_0 23 rfl rfl)
theorem dX7_wide_24 : decode cX7_wide 24 = .ok (.iconst 0, 1) := dk_3 (dk_at dksX7_wide_1 0 rfl rfl)
theorem dX7_wide_25 : decode cX7_wide 25 = .ok (.istore 4, 2) := dk_54 4 (dk_at dksX7_wide_1 1 rfl rfl)
theorem dX7_wide_27 : decode cX7_wide 27 = .ok (.iload 4, 2) := dk_21 4 (dk_at dksX7_wide_1 3 rfl rfl)
theorem dX7_wide_29 : decode cX7_wide 29 = .ok (.iload_n 2, 1) := dk_28 (dk_at dksX7_wide_1 5 rfl rfl)
theorem dX7_wide_30 : decode cX7_wide 30 = .ok (.iadd, 1) := dk_96 (dk_at dksX7_wide_1 6 rfl rfl)
theorem dX7_wide_31 : decode cX7_wide 31 = .ok (.aload_n 0, 1) := dk_42 (dk_at dksX7_wide_1 7 rfl rfl)
theorem dX7_wide_32 : decode cX7_wide 32 = .ok (.getfield 175, 3) := dk_180 0 175 (dk_at dksX7_wide_1 8 rfl rfl)
theorem dX7_wide_35 : decode cX7_wide 35 = .ok (.if_icmp .gt 40, 3) := dk_163 0 40 (dk_at dksX7_wide_1 11 rfl rfl)
theorem dX7_wide_38 : decode cX7_wide 38 = .ok (.iload_n 3, 1) := dk_29 (dk_at dksX7_wide_1 14 rfl rfl)
theorem dX7_wide_39 : decode cX7_wide 39 = .ok (.ifCond .eq 36, 3) := dk_153 0 36 (dk_at dksX7_wide_1 15 rfl rfl)
theorem dX7_wide_42 : decode cX7_wide 42 = .ok (.aload_n 0, 1) := dk_42 (dk_at dksX7_wide_1 18 rfl rfl)
theorem dX7_wide_43 : decode cX7_wide 43 = .ok (.getfield 47, 3) := dk_180 0 47 (dk_at dksX7_wide_1 19 rfl rfl)
theorem dX7_wide_46 : decode cX7_wide 46 = .ok (.aload_n 0, 1) := dk_42 (dk_at dksX7_wide_1 22 rfl rfl)
theorem dX7_wide_47 : decode cX7_wide 47 = .ok (.iload 4, 2) := dk_21 4 (dk_at dksX7_wide_2 0 rfl rfl)
theorem dX7_wide_49 : decode cX7_wide 49 = .ok (.iload 4, 2) := dk_21 4 (dk_at dksX7_wide_2 2 rfl rfl)
theorem dX7_wide_51 : decode cX7_wide 51 = .ok (.iload_n 2, 1) := dk_28 (dk_at dksX7_wide_2 4 rfl rfl)
theorem dX7_wide_52 : decode cX7_wide 52 = .ok (.iadd, 1) := dk_96 (dk_at dksX7_wide_2 5 rfl rfl)
theorem dX7_wide_53 : decode cX7_wide 53 = .ok (.iconst 1, 1) := dk_4 (dk_at dksX7_wide_2 6 rfl rfl)
theorem dX7_wide_54 : decode cX7_wide 54 = .ok (.isub, 1) := dk_100 (dk_at dksX7_wide_2 7 rfl rfl)
theorem dX7_wide_55 : decode cX7_wide 55 = .ok (.invokevirtual 260, 3) := dk_182 1 4 (dk_at dksX7_wide_2 8 rfl rfl)
theorem dX7_wide_58 : decode cX7_wide 58 = .ok (.iaload, 1) := dk_46 (dk_at dksX7_wide_2 11 rfl rfl)
theorem dX7_wide_59 : decode cX7_wide 59 = .ok (.iload_n 1, 1) := dk_27 (dk_at dksX7_wide_2 12 rfl rfl)
theorem dX7_wide_60 : decode cX7_wide 60 = .ok (.if_icmp .lt 7, 3) := dk_161 0 7 (dk_at dksX7_wide_2 13 rfl rfl)
theorem dX7_wide_63 : decode cX7_wide 63 = .ok (.iconst 1, 1) := dk_4 (dk_at dksX7_wide_2 16 rfl rfl)
theorem dX7_wide_64 : decode cX7_wide 64 = .ok (.goto 4, 3) := dk_167 0 4 (dk_at dksX7_wide_2 17 rfl rfl)
theorem dX7_wide_67 : decode cX7_wide 67 = .ok (.iconst 0, 1) := dk_3 (dk_at dksX7_wide_2 20 rfl rfl)
theorem dX7_wide_68 : decode cX7_wide 68 = .ok (.istore_n 3, 1) := dk_62 (dk_at dksX7_wide_2 21 rfl rfl)
theorem dX7_wide_69 : decode cX7_wide 69 = .ok (.iinc 4 1, 3) := dk_132 4 1 (dk_at dksX7_wide_3 0 rfl rfl)
theorem dX7_wide_72 : decode cX7_wide 72 = .ok (.goto (-45), 3) := dk_167 255 211 (dk_at dksX7_wide_3 3 rfl rfl)
theorem dX7_wide_75 : decode cX7_wide 75 = .ok (.iload_n 3, 1) := dk_29 (dk_at dksX7_wide_3 6 rfl rfl)
theorem dX7_wide_76 : decode cX7_wide 76 = .ok (.ifCond .eq 5, 3) := dk_153 0 5 (dk_at dksX7_wide_3 7 rfl rfl)
theorem dX7_wide_79 : decode cX7_wide 79 = .ok (.iload_n 2, 1) := dk_28 (dk_at dksX7_wide_3 10 rfl rfl)
theorem dX7_wide_80 : decode cX7_wide 80 = .ok (.ireturn, 1) := dk_172 (dk_at dksX7_wide_3 11 rfl rfl)
theorem dX7_wide_81 : decode cX7_wide 81 = .ok (.iinc 2 1, 3) := dk_132 2 1 (dk_at dksX7_wide_3 12 rfl rfl)
theorem dX7_wide_84 : decode cX7_wide 84 = .ok (.goto (-70), 3) := dk_167 255 186 (dk_at dksX7_wide_3 15 rfl rfl)
theorem dX7_wide_87 : decode cX7_wide 87 = .ok (.bipush (-2), 2) := dk_16 254 (dk_at dksX7_wide_3 18 rfl rfl)
theorem dX7_wide_89 : decode cX7_wide 89 = .ok (.ireturn, 1) := dk_172 (dk_at dksX7_wide_3 20 rfl rfl)
abbrev cX7_reign : ByteArray := prog_19_method_93_code
def yX7_reign : MethodName := ⟨RX7, "reign", "(II)I"⟩
def dkwX7_reign_6 : List UInt8 := [29, 167, 0, 9, 29, 21, 4, 96, 4, 100, 172]
abbrev dktX7_reign_6 : List UInt8 := dkwX7_reign_6 ++ []
def dkwX7_reign_5 : List UInt8 := [54, 4, 132, 7, 1, 167, 255, 182, 132, 5, 1, 167, 255, 160, 29, 16, 254, 159, 0, 7, 28, 154, 0, 7]
abbrev dktX7_reign_5 : List UInt8 := dkwX7_reign_5 ++ dktX7_reign_6
def dkwX7_reign_4 : List UInt8 := [21, 5, 100, 4, 96, 21, 4, 163, 0, 6, 167, 0, 15, 21, 5, 62, 21, 7, 21, 5, 100, 4, 96]
abbrev dktX7_reign_4 : List UInt8 := dkwX7_reign_4 ++ dktX7_reign_5
def dkwX7_reign_3 : List UInt8 := [4, 167, 0, 4, 3, 96, 54, 6, 5, 21, 6, 104, 21, 7, 21, 5, 100, 4, 96, 164, 0, 30, 21, 7]
abbrev dktX7_reign_3 : List UInt8 := dkwX7_reign_3 ++ dktX7_reign_4
def dkwX7_reign_2 : List UInt8 := [54, 7, 21, 7, 42, 180, 0, 175, 162, 0, 71, 21, 6, 42, 180, 0, 13, 21, 7, 46, 27, 160, 0, 7]
abbrev dktX7_reign_2 : List UInt8 := dkwX7_reign_2 ++ dktX7_reign_3
def dkwX7_reign_1 : List UInt8 := [16, 254, 62, 3, 54, 4, 3, 54, 5, 21, 5, 42, 180, 0, 175, 162, 0, 93, 3, 54, 6, 21, 5]
abbrev dktX7_reign_1 : List UInt8 := dkwX7_reign_1 ++ dktX7_reign_2
def dkwX7_reign_0 : List UInt8 := [42, 3, 181, 0, 72, 27, 184, 0, 220, 153, 0, 12, 28, 155, 0, 8, 28, 4, 164, 0, 5, 2, 172]
abbrev dktX7_reign_0 : List UInt8 := dkwX7_reign_0 ++ dktX7_reign_1
theorem dksX7_reign_0 : cX7_reign.data.toList.drop 0 = dktX7_reign_0 := by decide +kernel
theorem dksX7_reign_1 : cX7_reign.data.toList.drop 23 = dktX7_reign_1 := dk_seg dksX7_reign_0 23 rfl rfl
theorem dksX7_reign_2 : cX7_reign.data.toList.drop 46 = dktX7_reign_2 := dk_seg dksX7_reign_1 23 rfl rfl
theorem dksX7_reign_3 : cX7_reign.data.toList.drop 70 = dktX7_reign_3 := dk_seg dksX7_reign_2 24 rfl rfl
theorem dksX7_reign_4 : cX7_reign.data.toList.drop 94 = dktX7_reign_4 := dk_seg dksX7_reign_3 24 rfl rfl
theorem dksX7_reign_5 : cX7_reign.data.toList.drop 117 = dktX7_reign_5 := dk_seg dksX7_reign_4 23 rfl rfl
theorem dksX7_reign_6 : cX7_reign.data.toList.drop 141 = dktX7_reign_6 := dk_seg dksX7_reign_5 24 rfl rfl
theorem dX7_reign_0 : decode cX7_reign 0 = .ok (.aload_n 0, 1) := dk_42 (dk_at dksX7_reign_0 0 rfl rfl)
theorem dX7_reign_1 : decode cX7_reign 1 = .ok (.iconst 0, 1) := dk_3 (dk_at dksX7_reign_0 1 rfl rfl)
theorem dX7_reign_2 : decode cX7_reign 2 = .ok (.putfield 72, 3) := dk_181 0 72 (dk_at dksX7_reign_0 2 rfl rfl)
theorem dX7_reign_5 : decode cX7_reign 5 = .ok (.iload_n 1, 1) := dk_27 (dk_at dksX7_reign_0 5 rfl rfl)
theorem dX7_reign_6 : decode cX7_reign 6 = .ok (.invokestatic 220, 3) := dk_184 0 220 (dk_at dksX7_reign_0 6 rfl rfl)
theorem dX7_reign_9 : decode cX7_reign 9 = .ok (.ifCond .eq 12, 3) := dk_153 0 12 (dk_at dksX7_reign_0 9 rfl rfl)
theorem dX7_reign_12 : decode cX7_reign 12 = .ok (.iload_n 2, 1) := dk_28 (dk_at dksX7_reign_0 12 rfl rfl)
theorem dX7_reign_13 : decode cX7_reign 13 = .ok (.ifCond .lt 8, 3) := dk_155 0 8 (dk_at dksX7_reign_0 13 rfl rfl)
theorem dX7_reign_16 : decode cX7_reign 16 = .ok (.iload_n 2, 1) := dk_28 (dk_at dksX7_reign_0 16 rfl rfl)
theorem dX7_reign_17 : decode cX7_reign 17 = .ok (.iconst 1, 1) := dk_4 (dk_at dksX7_reign_0 17 rfl rfl)
theorem dX7_reign_18 : decode cX7_reign 18 = .ok (.if_icmp .le 5, 3) := dk_164 0 5 (dk_at dksX7_reign_0 18 rfl rfl)
theorem dX7_reign_21 : decode cX7_reign 21 = .ok (.iconst (-1), 1) := dk_2 (dk_at dksX7_reign_0 21 rfl rfl)
theorem dX7_reign_22 : decode cX7_reign 22 = .ok (.ireturn, 1) := dk_172 (dk_at dksX7_reign_0 22 rfl rfl)
theorem dX7_reign_23 : decode cX7_reign 23 = .ok (.bipush (-2), 2) := dk_16 254 (dk_at dksX7_reign_1 0 rfl rfl)
theorem dX7_reign_25 : decode cX7_reign 25 = .ok (.istore_n 3, 1) := dk_62 (dk_at dksX7_reign_1 2 rfl rfl)
theorem dX7_reign_26 : decode cX7_reign 26 = .ok (.iconst 0, 1) := dk_3 (dk_at dksX7_reign_1 3 rfl rfl)
theorem dX7_reign_27 : decode cX7_reign 27 = .ok (.istore 4, 2) := dk_54 4 (dk_at dksX7_reign_1 4 rfl rfl)
theorem dX7_reign_29 : decode cX7_reign 29 = .ok (.iconst 0, 1) := dk_3 (dk_at dksX7_reign_1 6 rfl rfl)
theorem dX7_reign_30 : decode cX7_reign 30 = .ok (.istore 5, 2) := dk_54 5 (dk_at dksX7_reign_1 7 rfl rfl)
theorem dX7_reign_32 : decode cX7_reign 32 = .ok (.iload 5, 2) := dk_21 5 (dk_at dksX7_reign_1 9 rfl rfl)
theorem dX7_reign_34 : decode cX7_reign 34 = .ok (.aload_n 0, 1) := dk_42 (dk_at dksX7_reign_1 11 rfl rfl)
theorem dX7_reign_35 : decode cX7_reign 35 = .ok (.getfield 175, 3) := dk_180 0 175 (dk_at dksX7_reign_1 12 rfl rfl)
theorem dX7_reign_38 : decode cX7_reign 38 = .ok (.if_icmp .ge 93, 3) := dk_162 0 93 (dk_at dksX7_reign_1 15 rfl rfl)
theorem dX7_reign_41 : decode cX7_reign 41 = .ok (.iconst 0, 1) := dk_3 (dk_at dksX7_reign_1 18 rfl rfl)
theorem dX7_reign_42 : decode cX7_reign 42 = .ok (.istore 6, 2) := dk_54 6 (dk_at dksX7_reign_1 19 rfl rfl)
theorem dX7_reign_44 : decode cX7_reign 44 = .ok (.iload 5, 2) := dk_21 5 (dk_at dksX7_reign_1 21 rfl rfl)
theorem dX7_reign_46 : decode cX7_reign 46 = .ok (.istore 7, 2) := dk_54 7 (dk_at dksX7_reign_2 0 rfl rfl)
theorem dX7_reign_48 : decode cX7_reign 48 = .ok (.iload 7, 2) := dk_21 7 (dk_at dksX7_reign_2 2 rfl rfl)
theorem dX7_reign_50 : decode cX7_reign 50 = .ok (.aload_n 0, 1) := dk_42 (dk_at dksX7_reign_2 4 rfl rfl)
theorem dX7_reign_51 : decode cX7_reign 51 = .ok (.getfield 175, 3) := dk_180 0 175 (dk_at dksX7_reign_2 5 rfl rfl)
theorem dX7_reign_54 : decode cX7_reign 54 = .ok (.if_icmp .ge 71, 3) := dk_162 0 71 (dk_at dksX7_reign_2 8 rfl rfl)
theorem dX7_reign_57 : decode cX7_reign 57 = .ok (.iload 6, 2) := dk_21 6 (dk_at dksX7_reign_2 11 rfl rfl)
theorem dX7_reign_59 : decode cX7_reign 59 = .ok (.aload_n 0, 1) := dk_42 (dk_at dksX7_reign_2 13 rfl rfl)
theorem dX7_reign_60 : decode cX7_reign 60 = .ok (.getfield 13, 3) := dk_180 0 13 (dk_at dksX7_reign_2 14 rfl rfl)
theorem dX7_reign_63 : decode cX7_reign 63 = .ok (.iload 7, 2) := dk_21 7 (dk_at dksX7_reign_2 17 rfl rfl)
theorem dX7_reign_65 : decode cX7_reign 65 = .ok (.iaload, 1) := dk_46 (dk_at dksX7_reign_2 19 rfl rfl)
theorem dX7_reign_66 : decode cX7_reign 66 = .ok (.iload_n 1, 1) := dk_27 (dk_at dksX7_reign_2 20 rfl rfl)
theorem dX7_reign_67 : decode cX7_reign 67 = .ok (.if_icmp .ne 7, 3) := dk_160 0 7 (dk_at dksX7_reign_2 21 rfl rfl)
theorem dX7_reign_70 : decode cX7_reign 70 = .ok (.iconst 1, 1) := dk_4 (dk_at dksX7_reign_3 0 rfl rfl)
theorem dX7_reign_71 : decode cX7_reign 71 = .ok (.goto 4, 3) := dk_167 0 4 (dk_at dksX7_reign_3 1 rfl rfl)
theorem dX7_reign_74 : decode cX7_reign 74 = .ok (.iconst 0, 1) := dk_3 (dk_at dksX7_reign_3 4 rfl rfl)
theorem dX7_reign_75 : decode cX7_reign 75 = .ok (.iadd, 1) := dk_96 (dk_at dksX7_reign_3 5 rfl rfl)
theorem dX7_reign_76 : decode cX7_reign 76 = .ok (.istore 6, 2) := dk_54 6 (dk_at dksX7_reign_3 6 rfl rfl)
theorem dX7_reign_78 : decode cX7_reign 78 = .ok (.iconst 2, 1) := dk_5 (dk_at dksX7_reign_3 8 rfl rfl)
theorem dX7_reign_79 : decode cX7_reign 79 = .ok (.iload 6, 2) := dk_21 6 (dk_at dksX7_reign_3 9 rfl rfl)
theorem dX7_reign_81 : decode cX7_reign 81 = .ok (.imul, 1) := dk_104 (dk_at dksX7_reign_3 11 rfl rfl)
theorem dX7_reign_82 : decode cX7_reign 82 = .ok (.iload 7, 2) := dk_21 7 (dk_at dksX7_reign_3 12 rfl rfl)
theorem dX7_reign_84 : decode cX7_reign 84 = .ok (.iload 5, 2) := dk_21 5 (dk_at dksX7_reign_3 14 rfl rfl)
theorem dX7_reign_86 : decode cX7_reign 86 = .ok (.isub, 1) := dk_100 (dk_at dksX7_reign_3 16 rfl rfl)
theorem dX7_reign_87 : decode cX7_reign 87 = .ok (.iconst 1, 1) := dk_4 (dk_at dksX7_reign_3 17 rfl rfl)
theorem dX7_reign_88 : decode cX7_reign 88 = .ok (.iadd, 1) := dk_96 (dk_at dksX7_reign_3 18 rfl rfl)
theorem dX7_reign_89 : decode cX7_reign 89 = .ok (.if_icmp .le 30, 3) := dk_164 0 30 (dk_at dksX7_reign_3 19 rfl rfl)
theorem dX7_reign_92 : decode cX7_reign 92 = .ok (.iload 7, 2) := dk_21 7 (dk_at dksX7_reign_3 22 rfl rfl)
theorem dX7_reign_94 : decode cX7_reign 94 = .ok (.iload 5, 2) := dk_21 5 (dk_at dksX7_reign_4 0 rfl rfl)
theorem dX7_reign_96 : decode cX7_reign 96 = .ok (.isub, 1) := dk_100 (dk_at dksX7_reign_4 2 rfl rfl)
theorem dX7_reign_97 : decode cX7_reign 97 = .ok (.iconst 1, 1) := dk_4 (dk_at dksX7_reign_4 3 rfl rfl)
theorem dX7_reign_98 : decode cX7_reign 98 = .ok (.iadd, 1) := dk_96 (dk_at dksX7_reign_4 4 rfl rfl)
theorem dX7_reign_99 : decode cX7_reign 99 = .ok (.iload 4, 2) := dk_21 4 (dk_at dksX7_reign_4 5 rfl rfl)
theorem dX7_reign_101 : decode cX7_reign 101 = .ok (.if_icmp .gt 6, 3) := dk_163 0 6 (dk_at dksX7_reign_4 7 rfl rfl)
theorem dX7_reign_104 : decode cX7_reign 104 = .ok (.goto 15, 3) := dk_167 0 15 (dk_at dksX7_reign_4 10 rfl rfl)
theorem dX7_reign_107 : decode cX7_reign 107 = .ok (.iload 5, 2) := dk_21 5 (dk_at dksX7_reign_4 13 rfl rfl)
theorem dX7_reign_109 : decode cX7_reign 109 = .ok (.istore_n 3, 1) := dk_62 (dk_at dksX7_reign_4 15 rfl rfl)
theorem dX7_reign_110 : decode cX7_reign 110 = .ok (.iload 7, 2) := dk_21 7 (dk_at dksX7_reign_4 16 rfl rfl)
theorem dX7_reign_112 : decode cX7_reign 112 = .ok (.iload 5, 2) := dk_21 5 (dk_at dksX7_reign_4 18 rfl rfl)
theorem dX7_reign_114 : decode cX7_reign 114 = .ok (.isub, 1) := dk_100 (dk_at dksX7_reign_4 20 rfl rfl)
theorem dX7_reign_115 : decode cX7_reign 115 = .ok (.iconst 1, 1) := dk_4 (dk_at dksX7_reign_4 21 rfl rfl)
theorem dX7_reign_116 : decode cX7_reign 116 = .ok (.iadd, 1) := dk_96 (dk_at dksX7_reign_4 22 rfl rfl)
theorem dX7_reign_117 : decode cX7_reign 117 = .ok (.istore 4, 2) := dk_54 4 (dk_at dksX7_reign_5 0 rfl rfl)
theorem dX7_reign_119 : decode cX7_reign 119 = .ok (.iinc 7 1, 3) := dk_132 7 1 (dk_at dksX7_reign_5 2 rfl rfl)
theorem dX7_reign_122 : decode cX7_reign 122 = .ok (.goto (-74), 3) := dk_167 255 182 (dk_at dksX7_reign_5 5 rfl rfl)
theorem dX7_reign_125 : decode cX7_reign 125 = .ok (.iinc 5 1, 3) := dk_132 5 1 (dk_at dksX7_reign_5 8 rfl rfl)
theorem dX7_reign_128 : decode cX7_reign 128 = .ok (.goto (-96), 3) := dk_167 255 160 (dk_at dksX7_reign_5 11 rfl rfl)
theorem dX7_reign_131 : decode cX7_reign 131 = .ok (.iload_n 3, 1) := dk_29 (dk_at dksX7_reign_5 14 rfl rfl)
theorem dX7_reign_132 : decode cX7_reign 132 = .ok (.bipush (-2), 2) := dk_16 254 (dk_at dksX7_reign_5 15 rfl rfl)
theorem dX7_reign_134 : decode cX7_reign 134 = .ok (.if_icmp .eq 7, 3) := dk_159 0 7 (dk_at dksX7_reign_5 17 rfl rfl)
theorem dX7_reign_137 : decode cX7_reign 137 = .ok (.iload_n 2, 1) := dk_28 (dk_at dksX7_reign_5 20 rfl rfl)
theorem dX7_reign_138 : decode cX7_reign 138 = .ok (.ifCond .ne 7, 3) := dk_154 0 7 (dk_at dksX7_reign_5 21 rfl rfl)
theorem dX7_reign_141 : decode cX7_reign 141 = .ok (.iload_n 3, 1) := dk_29 (dk_at dksX7_reign_6 0 rfl rfl)
theorem dX7_reign_142 : decode cX7_reign 142 = .ok (.goto 9, 3) := dk_167 0 9 (dk_at dksX7_reign_6 1 rfl rfl)
theorem dX7_reign_145 : decode cX7_reign 145 = .ok (.iload_n 3, 1) := dk_29 (dk_at dksX7_reign_6 4 rfl rfl)
theorem dX7_reign_146 : decode cX7_reign 146 = .ok (.iload 4, 2) := dk_21 4 (dk_at dksX7_reign_6 5 rfl rfl)
theorem dX7_reign_148 : decode cX7_reign 148 = .ok (.iadd, 1) := dk_96 (dk_at dksX7_reign_6 7 rfl rfl)
theorem dX7_reign_149 : decode cX7_reign 149 = .ok (.iconst 1, 1) := dk_4 (dk_at dksX7_reign_6 8 rfl rfl)
theorem dX7_reign_150 : decode cX7_reign 150 = .ok (.isub, 1) := dk_100 (dk_at dksX7_reign_6 9 rfl rfl)
theorem dX7_reign_151 : decode cX7_reign 151 = .ok (.ireturn, 1) := dk_172 (dk_at dksX7_reign_6 10 rfl rfl)
abbrev cX7_beginnings : ByteArray := prog_19_method_94_code
def yX7_beginnings : MethodName := ⟨RX7, "beginnings", "(I)I"⟩
def dkwX7_beginnings_10 : List UInt8 := [180, 0, 175, 154, 0, 8, 16, 254, 167, 0, 5, 21, 6, 172]
abbrev dktX7_beginnings_10 : List UInt8 := dkwX7_beginnings_10 ++ []
def dkwX7_beginnings_9 : List UInt8 := [167, 0, 36, 27, 4, 160, 0, 7, 29, 167, 0, 27, 27, 5, 160, 0, 8, 21, 4, 167, 0, 17, 42]
abbrev dktX7_beginnings_9 : List UInt8 := dkwX7_beginnings_9 ++ dktX7_beginnings_10
def dkwX7_beginnings_8 : List UInt8 := [167, 0, 5, 21, 6, 54, 6, 21, 9, 54, 7, 132, 8, 1, 167, 255, 116, 27, 154, 0, 7, 28]
abbrev dktX7_beginnings_8 : List UInt8 := dkwX7_beginnings_8 ++ dktX7_beginnings_9
def dkwX7_beginnings_7 : List UInt8 := [154, 0, 7, 3, 167, 0, 7, 21, 5, 4, 96, 54, 5, 21, 5, 21, 6, 164, 0, 8, 21, 5]
abbrev dktX7_beginnings_7 : List UInt8 := dkwX7_beginnings_7 ++ dktX7_beginnings_8
def dkwX7_beginnings_6 : List UInt8 := [54, 4, 42, 180, 0, 63, 21, 9, 92, 46, 4, 96, 79, 21, 10, 153, 0, 7, 3, 167, 0, 16, 21, 8]
abbrev dktX7_beginnings_6 : List UInt8 := dkwX7_beginnings_6 ++ dktX7_beginnings_7
def dkwX7_beginnings_5 : List UInt8 := [167, 0, 4, 29, 62, 21, 4, 42, 180, 0, 63, 21, 9, 46, 154, 0, 7, 4, 167, 0, 4, 3, 96]
abbrev dktX7_beginnings_5 : List UInt8 := dkwX7_beginnings_5 ++ dktX7_beginnings_6
def dkwX7_beginnings_4 : List UInt8 := [54, 10, 28, 21, 10, 153, 0, 7, 4, 167, 0, 4, 3, 96, 61, 21, 10, 153, 0, 8, 21, 8]
abbrev dktX7_beginnings_4 : List UInt8 := dkwX7_beginnings_4 ++ dktX7_beginnings_5
def dkwX7_beginnings_3 : List UInt8 := [21, 8, 182, 1, 28, 54, 9, 21, 8, 158, 0, 14, 21, 9, 21, 7, 159, 0, 7, 4, 167, 0, 4, 3]
abbrev dktX7_beginnings_3 : List UInt8 := dkwX7_beginnings_3 ++ dktX7_beginnings_4
def dkwX7_beginnings_2 : List UInt8 := [3, 54, 5, 2, 54, 6, 2, 54, 7, 3, 54, 8, 21, 8, 42, 180, 0, 175, 162, 0, 137, 42, 3]
abbrev dktX7_beginnings_2 : List UInt8 := dkwX7_beginnings_2 ++ dktX7_beginnings_3
def dkwX7_beginnings_1 : List UInt8 := [162, 0, 16, 42, 180, 0, 63, 28, 3, 79, 132, 2, 1, 167, 255, 239, 3, 61, 16, 254, 62, 3, 54, 4]
abbrev dktX7_beginnings_1 : List UInt8 := dkwX7_beginnings_1 ++ dktX7_beginnings_2
def dkwX7_beginnings_0 : List UInt8 := [42, 3, 181, 0, 72, 27, 155, 0, 8, 27, 6, 164, 0, 5, 2, 172, 3, 61, 28, 17, 3, 232]
abbrev dktX7_beginnings_0 : List UInt8 := dkwX7_beginnings_0 ++ dktX7_beginnings_1
theorem dksX7_beginnings_0 : cX7_beginnings.data.toList.drop 0 = dktX7_beginnings_0 := by decide +kernel
theorem dksX7_beginnings_1 : cX7_beginnings.data.toList.drop 22 = dktX7_beginnings_1 := dk_seg dksX7_beginnings_0 22 rfl rfl
theorem dksX7_beginnings_2 : cX7_beginnings.data.toList.drop 46 = dktX7_beginnings_2 := dk_seg dksX7_beginnings_1 24 rfl rfl
theorem dksX7_beginnings_3 : cX7_beginnings.data.toList.drop 69 = dktX7_beginnings_3 := dk_seg dksX7_beginnings_2 23 rfl rfl
theorem dksX7_beginnings_4 : cX7_beginnings.data.toList.drop 93 = dktX7_beginnings_4 := dk_seg dksX7_beginnings_3 24 rfl rfl
theorem dksX7_beginnings_5 : cX7_beginnings.data.toList.drop 115 = dktX7_beginnings_5 := dk_seg dksX7_beginnings_4 22 rfl rfl
theorem dksX7_beginnings_6 : cX7_beginnings.data.toList.drop 138 = dktX7_beginnings_6 := dk_seg dksX7_beginnings_5 23 rfl rfl
theorem dksX7_beginnings_7 : cX7_beginnings.data.toList.drop 162 = dktX7_beginnings_7 := dk_seg dksX7_beginnings_6 24 rfl rfl
theorem dksX7_beginnings_8 : cX7_beginnings.data.toList.drop 184 = dktX7_beginnings_8 := dk_seg dksX7_beginnings_7 22 rfl rfl
theorem dksX7_beginnings_9 : cX7_beginnings.data.toList.drop 206 = dktX7_beginnings_9 := dk_seg dksX7_beginnings_8 22 rfl rfl
theorem dksX7_beginnings_10 : cX7_beginnings.data.toList.drop 229 = dktX7_beginnings_10 := dk_seg dksX7_beginnings_9 23 rfl rfl
theorem dX7_beginnings_0 : decode cX7_beginnings 0 = .ok (.aload_n 0, 1) := dk_42 (dk_at dksX7_beginnings_0 0 rfl rfl)
theorem dX7_beginnings_1 : decode cX7_beginnings 1 = .ok (.iconst 0, 1) := dk_3 (dk_at dksX7_beginnings_0 1 rfl rfl)
theorem dX7_beginnings_2 : decode cX7_beginnings 2 = .ok (.putfield 72, 3) := dk_181 0 72 (dk_at dksX7_beginnings_0 2 rfl rfl)
theorem dX7_beginnings_5 : decode cX7_beginnings 5 = .ok (.iload_n 1, 1) := dk_27 (dk_at dksX7_beginnings_0 5 rfl rfl)
theorem dX7_beginnings_6 : decode cX7_beginnings 6 = .ok (.ifCond .lt 8, 3) := dk_155 0 8 (dk_at dksX7_beginnings_0 6 rfl rfl)
theorem dX7_beginnings_9 : decode cX7_beginnings 9 = .ok (.iload_n 1, 1) := dk_27 (dk_at dksX7_beginnings_0 9 rfl rfl)
theorem dX7_beginnings_10 : decode cX7_beginnings 10 = .ok (.iconst 3, 1) := dk_6 (dk_at dksX7_beginnings_0 10 rfl rfl)
theorem dX7_beginnings_11 : decode cX7_beginnings 11 = .ok (.if_icmp .le 5, 3) := dk_164 0 5 (dk_at dksX7_beginnings_0 11 rfl rfl)
theorem dX7_beginnings_14 : decode cX7_beginnings 14 = .ok (.iconst (-1), 1) := dk_2 (dk_at dksX7_beginnings_0 14 rfl rfl)
theorem dX7_beginnings_15 : decode cX7_beginnings 15 = .ok (.ireturn, 1) := dk_172 (dk_at dksX7_beginnings_0 15 rfl rfl)
theorem dX7_beginnings_16 : decode cX7_beginnings 16 = .ok (.iconst 0, 1) := dk_3 (dk_at dksX7_beginnings_0 16 rfl rfl)
theorem dX7_beginnings_17 : decode cX7_beginnings 17 = .ok (.istore_n 2, 1) := dk_61 (dk_at dksX7_beginnings_0 17 rfl rfl)
theorem dX7_beginnings_18 : decode cX7_beginnings 18 = .ok (.iload_n 2, 1) := dk_28 (dk_at dksX7_beginnings_0 18 rfl rfl)
theorem dX7_beginnings_19 : decode cX7_beginnings 19 = .ok (.sipush 1000, 3) := dk_17 3 232 (dk_at dksX7_beginnings_0 19 rfl rfl)
theorem dX7_beginnings_22 : decode cX7_beginnings 22 = .ok (.if_icmp .ge 16, 3) := dk_162 0 16 (dk_at dksX7_beginnings_1 0 rfl rfl)
theorem dX7_beginnings_25 : decode cX7_beginnings 25 = .ok (.aload_n 0, 1) := dk_42 (dk_at dksX7_beginnings_1 3 rfl rfl)
theorem dX7_beginnings_26 : decode cX7_beginnings 26 = .ok (.getfield 63, 3) := dk_180 0 63 (dk_at dksX7_beginnings_1 4 rfl rfl)
theorem dX7_beginnings_29 : decode cX7_beginnings 29 = .ok (.iload_n 2, 1) := dk_28 (dk_at dksX7_beginnings_1 7 rfl rfl)
theorem dX7_beginnings_30 : decode cX7_beginnings 30 = .ok (.iconst 0, 1) := dk_3 (dk_at dksX7_beginnings_1 8 rfl rfl)
theorem dX7_beginnings_31 : decode cX7_beginnings 31 = .ok (.iastore, 1) := dk_79 (dk_at dksX7_beginnings_1 9 rfl rfl)
theorem dX7_beginnings_32 : decode cX7_beginnings 32 = .ok (.iinc 2 1, 3) := dk_132 2 1 (dk_at dksX7_beginnings_1 10 rfl rfl)
theorem dX7_beginnings_35 : decode cX7_beginnings 35 = .ok (.goto (-17), 3) := dk_167 255 239 (dk_at dksX7_beginnings_1 13 rfl rfl)
theorem dX7_beginnings_38 : decode cX7_beginnings 38 = .ok (.iconst 0, 1) := dk_3 (dk_at dksX7_beginnings_1 16 rfl rfl)
theorem dX7_beginnings_39 : decode cX7_beginnings 39 = .ok (.istore_n 2, 1) := dk_61 (dk_at dksX7_beginnings_1 17 rfl rfl)
theorem dX7_beginnings_40 : decode cX7_beginnings 40 = .ok (.bipush (-2), 2) := dk_16 254 (dk_at dksX7_beginnings_1 18 rfl rfl)
theorem dX7_beginnings_42 : decode cX7_beginnings 42 = .ok (.istore_n 3, 1) := dk_62 (dk_at dksX7_beginnings_1 20 rfl rfl)
theorem dX7_beginnings_43 : decode cX7_beginnings 43 = .ok (.iconst 0, 1) := dk_3 (dk_at dksX7_beginnings_1 21 rfl rfl)
theorem dX7_beginnings_44 : decode cX7_beginnings 44 = .ok (.istore 4, 2) := dk_54 4 (dk_at dksX7_beginnings_1 22 rfl rfl)
theorem dX7_beginnings_46 : decode cX7_beginnings 46 = .ok (.iconst 0, 1) := dk_3 (dk_at dksX7_beginnings_2 0 rfl rfl)
theorem dX7_beginnings_47 : decode cX7_beginnings 47 = .ok (.istore 5, 2) := dk_54 5 (dk_at dksX7_beginnings_2 1 rfl rfl)
theorem dX7_beginnings_49 : decode cX7_beginnings 49 = .ok (.iconst (-1), 1) := dk_2 (dk_at dksX7_beginnings_2 3 rfl rfl)
theorem dX7_beginnings_50 : decode cX7_beginnings 50 = .ok (.istore 6, 2) := dk_54 6 (dk_at dksX7_beginnings_2 4 rfl rfl)
theorem dX7_beginnings_52 : decode cX7_beginnings 52 = .ok (.iconst (-1), 1) := dk_2 (dk_at dksX7_beginnings_2 6 rfl rfl)
theorem dX7_beginnings_53 : decode cX7_beginnings 53 = .ok (.istore 7, 2) := dk_54 7 (dk_at dksX7_beginnings_2 7 rfl rfl)
theorem dX7_beginnings_55 : decode cX7_beginnings 55 = .ok (.iconst 0, 1) := dk_3 (dk_at dksX7_beginnings_2 9 rfl rfl)
theorem dX7_beginnings_56 : decode cX7_beginnings 56 = .ok (.istore 8, 2) := dk_54 8 (dk_at dksX7_beginnings_2 10 rfl rfl)
theorem dX7_beginnings_58 : decode cX7_beginnings 58 = .ok (.iload 8, 2) := dk_21 8 (dk_at dksX7_beginnings_2 12 rfl rfl)
theorem dX7_beginnings_60 : decode cX7_beginnings 60 = .ok (.aload_n 0, 1) := dk_42 (dk_at dksX7_beginnings_2 14 rfl rfl)
theorem dX7_beginnings_61 : decode cX7_beginnings 61 = .ok (.getfield 175, 3) := dk_180 0 175 (dk_at dksX7_beginnings_2 15 rfl rfl)
theorem dX7_beginnings_64 : decode cX7_beginnings 64 = .ok (.if_icmp .ge 137, 3) := dk_162 0 137 (dk_at dksX7_beginnings_2 18 rfl rfl)
theorem dX7_beginnings_67 : decode cX7_beginnings 67 = .ok (.aload_n 0, 1) := dk_42 (dk_at dksX7_beginnings_2 21 rfl rfl)
theorem dX7_beginnings_68 : decode cX7_beginnings 68 = .ok (.iconst 0, 1) := dk_3 (dk_at dksX7_beginnings_2 22 rfl rfl)
theorem dX7_beginnings_69 : decode cX7_beginnings 69 = .ok (.iload 8, 2) := dk_21 8 (dk_at dksX7_beginnings_3 0 rfl rfl)
theorem dX7_beginnings_71 : decode cX7_beginnings 71 = .ok (.invokevirtual 284, 3) := dk_182 1 28 (dk_at dksX7_beginnings_3 2 rfl rfl)
theorem dX7_beginnings_74 : decode cX7_beginnings 74 = .ok (.istore 9, 2) := dk_54 9 (dk_at dksX7_beginnings_3 5 rfl rfl)
theorem dX7_beginnings_76 : decode cX7_beginnings 76 = .ok (.iload 8, 2) := dk_21 8 (dk_at dksX7_beginnings_3 7 rfl rfl)
theorem dX7_beginnings_78 : decode cX7_beginnings 78 = .ok (.ifCond .le 14, 3) := dk_158 0 14 (dk_at dksX7_beginnings_3 9 rfl rfl)
theorem dX7_beginnings_81 : decode cX7_beginnings 81 = .ok (.iload 9, 2) := dk_21 9 (dk_at dksX7_beginnings_3 12 rfl rfl)
theorem dX7_beginnings_83 : decode cX7_beginnings 83 = .ok (.iload 7, 2) := dk_21 7 (dk_at dksX7_beginnings_3 14 rfl rfl)
theorem dX7_beginnings_85 : decode cX7_beginnings 85 = .ok (.if_icmp .eq 7, 3) := dk_159 0 7 (dk_at dksX7_beginnings_3 16 rfl rfl)
theorem dX7_beginnings_88 : decode cX7_beginnings 88 = .ok (.iconst 1, 1) := dk_4 (dk_at dksX7_beginnings_3 19 rfl rfl)
theorem dX7_beginnings_89 : decode cX7_beginnings 89 = .ok (.goto 4, 3) := dk_167 0 4 (dk_at dksX7_beginnings_3 20 rfl rfl)
theorem dX7_beginnings_92 : decode cX7_beginnings 92 = .ok (.iconst 0, 1) := dk_3 (dk_at dksX7_beginnings_3 23 rfl rfl)
theorem dX7_beginnings_93 : decode cX7_beginnings 93 = .ok (.istore 10, 2) := dk_54 10 (dk_at dksX7_beginnings_4 0 rfl rfl)
theorem dX7_beginnings_95 : decode cX7_beginnings 95 = .ok (.iload_n 2, 1) := dk_28 (dk_at dksX7_beginnings_4 2 rfl rfl)
theorem dX7_beginnings_96 : decode cX7_beginnings 96 = .ok (.iload 10, 2) := dk_21 10 (dk_at dksX7_beginnings_4 3 rfl rfl)
theorem dX7_beginnings_98 : decode cX7_beginnings 98 = .ok (.ifCond .eq 7, 3) := dk_153 0 7 (dk_at dksX7_beginnings_4 5 rfl rfl)
theorem dX7_beginnings_101 : decode cX7_beginnings 101 = .ok (.iconst 1, 1) := dk_4 (dk_at dksX7_beginnings_4 8 rfl rfl)
theorem dX7_beginnings_102 : decode cX7_beginnings 102 = .ok (.goto 4, 3) := dk_167 0 4 (dk_at dksX7_beginnings_4 9 rfl rfl)
theorem dX7_beginnings_105 : decode cX7_beginnings 105 = .ok (.iconst 0, 1) := dk_3 (dk_at dksX7_beginnings_4 12 rfl rfl)
theorem dX7_beginnings_106 : decode cX7_beginnings 106 = .ok (.iadd, 1) := dk_96 (dk_at dksX7_beginnings_4 13 rfl rfl)
theorem dX7_beginnings_107 : decode cX7_beginnings 107 = .ok (.istore_n 2, 1) := dk_61 (dk_at dksX7_beginnings_4 14 rfl rfl)
theorem dX7_beginnings_108 : decode cX7_beginnings 108 = .ok (.iload 10, 2) := dk_21 10 (dk_at dksX7_beginnings_4 15 rfl rfl)
theorem dX7_beginnings_110 : decode cX7_beginnings 110 = .ok (.ifCond .eq 8, 3) := dk_153 0 8 (dk_at dksX7_beginnings_4 17 rfl rfl)
theorem dX7_beginnings_113 : decode cX7_beginnings 113 = .ok (.iload 8, 2) := dk_21 8 (dk_at dksX7_beginnings_4 20 rfl rfl)
theorem dX7_beginnings_115 : decode cX7_beginnings 115 = .ok (.goto 4, 3) := dk_167 0 4 (dk_at dksX7_beginnings_5 0 rfl rfl)
theorem dX7_beginnings_118 : decode cX7_beginnings 118 = .ok (.iload_n 3, 1) := dk_29 (dk_at dksX7_beginnings_5 3 rfl rfl)
theorem dX7_beginnings_119 : decode cX7_beginnings 119 = .ok (.istore_n 3, 1) := dk_62 (dk_at dksX7_beginnings_5 4 rfl rfl)
theorem dX7_beginnings_120 : decode cX7_beginnings 120 = .ok (.iload 4, 2) := dk_21 4 (dk_at dksX7_beginnings_5 5 rfl rfl)
theorem dX7_beginnings_122 : decode cX7_beginnings 122 = .ok (.aload_n 0, 1) := dk_42 (dk_at dksX7_beginnings_5 7 rfl rfl)
theorem dX7_beginnings_123 : decode cX7_beginnings 123 = .ok (.getfield 63, 3) := dk_180 0 63 (dk_at dksX7_beginnings_5 8 rfl rfl)
theorem dX7_beginnings_126 : decode cX7_beginnings 126 = .ok (.iload 9, 2) := dk_21 9 (dk_at dksX7_beginnings_5 11 rfl rfl)
theorem dX7_beginnings_128 : decode cX7_beginnings 128 = .ok (.iaload, 1) := dk_46 (dk_at dksX7_beginnings_5 13 rfl rfl)
theorem dX7_beginnings_129 : decode cX7_beginnings 129 = .ok (.ifCond .ne 7, 3) := dk_154 0 7 (dk_at dksX7_beginnings_5 14 rfl rfl)
theorem dX7_beginnings_132 : decode cX7_beginnings 132 = .ok (.iconst 1, 1) := dk_4 (dk_at dksX7_beginnings_5 17 rfl rfl)
theorem dX7_beginnings_133 : decode cX7_beginnings 133 = .ok (.goto 4, 3) := dk_167 0 4 (dk_at dksX7_beginnings_5 18 rfl rfl)
theorem dX7_beginnings_136 : decode cX7_beginnings 136 = .ok (.iconst 0, 1) := dk_3 (dk_at dksX7_beginnings_5 21 rfl rfl)
theorem dX7_beginnings_137 : decode cX7_beginnings 137 = .ok (.iadd, 1) := dk_96 (dk_at dksX7_beginnings_5 22 rfl rfl)
theorem dX7_beginnings_138 : decode cX7_beginnings 138 = .ok (.istore 4, 2) := dk_54 4 (dk_at dksX7_beginnings_6 0 rfl rfl)
theorem dX7_beginnings_140 : decode cX7_beginnings 140 = .ok (.aload_n 0, 1) := dk_42 (dk_at dksX7_beginnings_6 2 rfl rfl)
theorem dX7_beginnings_141 : decode cX7_beginnings 141 = .ok (.getfield 63, 3) := dk_180 0 63 (dk_at dksX7_beginnings_6 3 rfl rfl)
theorem dX7_beginnings_144 : decode cX7_beginnings 144 = .ok (.iload 9, 2) := dk_21 9 (dk_at dksX7_beginnings_6 6 rfl rfl)
theorem dX7_beginnings_146 : decode cX7_beginnings 146 = .ok (.dup2, 1) := dk_92 (dk_at dksX7_beginnings_6 8 rfl rfl)
theorem dX7_beginnings_147 : decode cX7_beginnings 147 = .ok (.iaload, 1) := dk_46 (dk_at dksX7_beginnings_6 9 rfl rfl)
theorem dX7_beginnings_148 : decode cX7_beginnings 148 = .ok (.iconst 1, 1) := dk_4 (dk_at dksX7_beginnings_6 10 rfl rfl)
theorem dX7_beginnings_149 : decode cX7_beginnings 149 = .ok (.iadd, 1) := dk_96 (dk_at dksX7_beginnings_6 11 rfl rfl)
theorem dX7_beginnings_150 : decode cX7_beginnings 150 = .ok (.iastore, 1) := dk_79 (dk_at dksX7_beginnings_6 12 rfl rfl)
theorem dX7_beginnings_151 : decode cX7_beginnings 151 = .ok (.iload 10, 2) := dk_21 10 (dk_at dksX7_beginnings_6 13 rfl rfl)
theorem dX7_beginnings_153 : decode cX7_beginnings 153 = .ok (.ifCond .eq 7, 3) := dk_153 0 7 (dk_at dksX7_beginnings_6 15 rfl rfl)
theorem dX7_beginnings_156 : decode cX7_beginnings 156 = .ok (.iconst 0, 1) := dk_3 (dk_at dksX7_beginnings_6 18 rfl rfl)
theorem dX7_beginnings_157 : decode cX7_beginnings 157 = .ok (.goto 16, 3) := dk_167 0 16 (dk_at dksX7_beginnings_6 19 rfl rfl)
theorem dX7_beginnings_160 : decode cX7_beginnings 160 = .ok (.iload 8, 2) := dk_21 8 (dk_at dksX7_beginnings_6 22 rfl rfl)
theorem dX7_beginnings_162 : decode cX7_beginnings 162 = .ok (.ifCond .ne 7, 3) := dk_154 0 7 (dk_at dksX7_beginnings_7 0 rfl rfl)
theorem dX7_beginnings_165 : decode cX7_beginnings 165 = .ok (.iconst 0, 1) := dk_3 (dk_at dksX7_beginnings_7 3 rfl rfl)
theorem dX7_beginnings_166 : decode cX7_beginnings 166 = .ok (.goto 7, 3) := dk_167 0 7 (dk_at dksX7_beginnings_7 4 rfl rfl)
theorem dX7_beginnings_169 : decode cX7_beginnings 169 = .ok (.iload 5, 2) := dk_21 5 (dk_at dksX7_beginnings_7 7 rfl rfl)
theorem dX7_beginnings_171 : decode cX7_beginnings 171 = .ok (.iconst 1, 1) := dk_4 (dk_at dksX7_beginnings_7 9 rfl rfl)
theorem dX7_beginnings_172 : decode cX7_beginnings 172 = .ok (.iadd, 1) := dk_96 (dk_at dksX7_beginnings_7 10 rfl rfl)
theorem dX7_beginnings_173 : decode cX7_beginnings 173 = .ok (.istore 5, 2) := dk_54 5 (dk_at dksX7_beginnings_7 11 rfl rfl)
theorem dX7_beginnings_175 : decode cX7_beginnings 175 = .ok (.iload 5, 2) := dk_21 5 (dk_at dksX7_beginnings_7 13 rfl rfl)
theorem dX7_beginnings_177 : decode cX7_beginnings 177 = .ok (.iload 6, 2) := dk_21 6 (dk_at dksX7_beginnings_7 15 rfl rfl)
theorem dX7_beginnings_179 : decode cX7_beginnings 179 = .ok (.if_icmp .le 8, 3) := dk_164 0 8 (dk_at dksX7_beginnings_7 17 rfl rfl)
theorem dX7_beginnings_182 : decode cX7_beginnings 182 = .ok (.iload 5, 2) := dk_21 5 (dk_at dksX7_beginnings_7 20 rfl rfl)
theorem dX7_beginnings_184 : decode cX7_beginnings 184 = .ok (.goto 5, 3) := dk_167 0 5 (dk_at dksX7_beginnings_8 0 rfl rfl)
theorem dX7_beginnings_187 : decode cX7_beginnings 187 = .ok (.iload 6, 2) := dk_21 6 (dk_at dksX7_beginnings_8 3 rfl rfl)
theorem dX7_beginnings_189 : decode cX7_beginnings 189 = .ok (.istore 6, 2) := dk_54 6 (dk_at dksX7_beginnings_8 5 rfl rfl)
theorem dX7_beginnings_191 : decode cX7_beginnings 191 = .ok (.iload 9, 2) := dk_21 9 (dk_at dksX7_beginnings_8 7 rfl rfl)
theorem dX7_beginnings_193 : decode cX7_beginnings 193 = .ok (.istore 7, 2) := dk_54 7 (dk_at dksX7_beginnings_8 9 rfl rfl)
theorem dX7_beginnings_195 : decode cX7_beginnings 195 = .ok (.iinc 8 1, 3) := dk_132 8 1 (dk_at dksX7_beginnings_8 11 rfl rfl)
theorem dX7_beginnings_198 : decode cX7_beginnings 198 = .ok (.goto (-140), 3) := dk_167 255 116 (dk_at dksX7_beginnings_8 14 rfl rfl)
theorem dX7_beginnings_201 : decode cX7_beginnings 201 = .ok (.iload_n 1, 1) := dk_27 (dk_at dksX7_beginnings_8 17 rfl rfl)
theorem dX7_beginnings_202 : decode cX7_beginnings 202 = .ok (.ifCond .ne 7, 3) := dk_154 0 7 (dk_at dksX7_beginnings_8 18 rfl rfl)
theorem dX7_beginnings_205 : decode cX7_beginnings 205 = .ok (.iload_n 2, 1) := dk_28 (dk_at dksX7_beginnings_8 21 rfl rfl)
theorem dX7_beginnings_206 : decode cX7_beginnings 206 = .ok (.goto 36, 3) := dk_167 0 36 (dk_at dksX7_beginnings_9 0 rfl rfl)
theorem dX7_beginnings_209 : decode cX7_beginnings 209 = .ok (.iload_n 1, 1) := dk_27 (dk_at dksX7_beginnings_9 3 rfl rfl)
theorem dX7_beginnings_210 : decode cX7_beginnings 210 = .ok (.iconst 1, 1) := dk_4 (dk_at dksX7_beginnings_9 4 rfl rfl)
theorem dX7_beginnings_211 : decode cX7_beginnings 211 = .ok (.if_icmp .ne 7, 3) := dk_160 0 7 (dk_at dksX7_beginnings_9 5 rfl rfl)
theorem dX7_beginnings_214 : decode cX7_beginnings 214 = .ok (.iload_n 3, 1) := dk_29 (dk_at dksX7_beginnings_9 8 rfl rfl)
theorem dX7_beginnings_215 : decode cX7_beginnings 215 = .ok (.goto 27, 3) := dk_167 0 27 (dk_at dksX7_beginnings_9 9 rfl rfl)
theorem dX7_beginnings_218 : decode cX7_beginnings 218 = .ok (.iload_n 1, 1) := dk_27 (dk_at dksX7_beginnings_9 12 rfl rfl)
theorem dX7_beginnings_219 : decode cX7_beginnings 219 = .ok (.iconst 2, 1) := dk_5 (dk_at dksX7_beginnings_9 13 rfl rfl)
theorem dX7_beginnings_220 : decode cX7_beginnings 220 = .ok (.if_icmp .ne 8, 3) := dk_160 0 8 (dk_at dksX7_beginnings_9 14 rfl rfl)
theorem dX7_beginnings_223 : decode cX7_beginnings 223 = .ok (.iload 4, 2) := dk_21 4 (dk_at dksX7_beginnings_9 17 rfl rfl)
theorem dX7_beginnings_225 : decode cX7_beginnings 225 = .ok (.goto 17, 3) := dk_167 0 17 (dk_at dksX7_beginnings_9 19 rfl rfl)
theorem dX7_beginnings_228 : decode cX7_beginnings 228 = .ok (.aload_n 0, 1) := dk_42 (dk_at dksX7_beginnings_9 22 rfl rfl)
theorem dX7_beginnings_229 : decode cX7_beginnings 229 = .ok (.getfield 175, 3) := dk_180 0 175 (dk_at dksX7_beginnings_10 0 rfl rfl)
theorem dX7_beginnings_232 : decode cX7_beginnings 232 = .ok (.ifCond .ne 8, 3) := dk_154 0 8 (dk_at dksX7_beginnings_10 3 rfl rfl)
theorem dX7_beginnings_235 : decode cX7_beginnings 235 = .ok (.bipush (-2), 2) := dk_16 254 (dk_at dksX7_beginnings_10 6 rfl rfl)
theorem dX7_beginnings_237 : decode cX7_beginnings 237 = .ok (.goto 5, 3) := dk_167 0 5 (dk_at dksX7_beginnings_10 8 rfl rfl)
theorem dX7_beginnings_240 : decode cX7_beginnings 240 = .ok (.iload 6, 2) := dk_21 6 (dk_at dksX7_beginnings_10 11 rfl rfl)
theorem dX7_beginnings_242 : decode cX7_beginnings 242 = .ok (.ireturn, 1) := dk_172 (dk_at dksX7_beginnings_10 13 rfl rfl)
abbrev cX7_since : ByteArray := prog_19_method_95_code
def yX7_since : MethodName := ⟨RX7, "since", "(I)I"⟩
def dkwX7_since_3 : List UInt8 := [167, 255, 204, 16, 254, 172]
abbrev dktX7_since_3 : List UInt8 := dkwX7_since_3 ++ []
def dkwX7_since_2 : List UInt8 := [16, 120, 29, 104, 27, 96, 46, 42, 180, 0, 13, 27, 46, 159, 0, 7, 28, 4, 100, 172, 132, 2, 1]
abbrev dktX7_since_2 : List UInt8 := dkwX7_since_2 ++ dktX7_since_3
def dkwX7_since_1 : List UInt8 := [163, 0, 50, 42, 180, 0, 184, 28, 100, 62, 27, 42, 180, 0, 25, 29, 46, 162, 0, 23, 42, 180, 0, 19]
abbrev dktX7_since_1 : List UInt8 := dkwX7_since_1 ++ dktX7_since_2
def dkwX7_since_0 : List UInt8 := [42, 3, 181, 0, 72, 42, 27, 182, 0, 187, 154, 0, 5, 2, 172, 4, 61, 28, 42, 180, 0, 184]
abbrev dktX7_since_0 : List UInt8 := dkwX7_since_0 ++ dktX7_since_1
theorem dksX7_since_0 : cX7_since.data.toList.drop 0 = dktX7_since_0 := by decide +kernel
theorem dksX7_since_1 : cX7_since.data.toList.drop 22 = dktX7_since_1 := dk_seg dksX7_since_0 22 rfl rfl
theorem dksX7_since_2 : cX7_since.data.toList.drop 46 = dktX7_since_2 := dk_seg dksX7_since_1 24 rfl rfl
theorem dksX7_since_3 : cX7_since.data.toList.drop 69 = dktX7_since_3 := dk_seg dksX7_since_2 23 rfl rfl
theorem dX7_since_0 : decode cX7_since 0 = .ok (.aload_n 0, 1) := dk_42 (dk_at dksX7_since_0 0 rfl rfl)
theorem dX7_since_1 : decode cX7_since 1 = .ok (.iconst 0, 1) := dk_3 (dk_at dksX7_since_0 1 rfl rfl)
theorem dX7_since_2 : decode cX7_since 2 = .ok (.putfield 72, 3) := dk_181 0 72 (dk_at dksX7_since_0 2 rfl rfl)
theorem dX7_since_5 : decode cX7_since 5 = .ok (.aload_n 0, 1) := dk_42 (dk_at dksX7_since_0 5 rfl rfl)
theorem dX7_since_6 : decode cX7_since 6 = .ok (.iload_n 1, 1) := dk_27 (dk_at dksX7_since_0 6 rfl rfl)
theorem dX7_since_7 : decode cX7_since 7 = .ok (.invokevirtual 187, 3) := dk_182 0 187 (dk_at dksX7_since_0 7 rfl rfl)
theorem dX7_since_10 : decode cX7_since 10 = .ok (.ifCond .ne 5, 3) := dk_154 0 5 (dk_at dksX7_since_0 10 rfl rfl)
theorem dX7_since_13 : decode cX7_since 13 = .ok (.iconst (-1), 1) := dk_2 (dk_at dksX7_since_0 13 rfl rfl)
theorem dX7_since_14 : decode cX7_since 14 = .ok (.ireturn, 1) := dk_172 (dk_at dksX7_since_0 14 rfl rfl)
theorem dX7_since_15 : decode cX7_since 15 = .ok (.iconst 1, 1) := dk_4 (dk_at dksX7_since_0 15 rfl rfl)
theorem dX7_since_16 : decode cX7_since 16 = .ok (.istore_n 2, 1) := dk_61 (dk_at dksX7_since_0 16 rfl rfl)
theorem dX7_since_17 : decode cX7_since 17 = .ok (.iload_n 2, 1) := dk_28 (dk_at dksX7_since_0 17 rfl rfl)
theorem dX7_since_18 : decode cX7_since 18 = .ok (.aload_n 0, 1) := dk_42 (dk_at dksX7_since_0 18 rfl rfl)
theorem dX7_since_19 : decode cX7_since 19 = .ok (.getfield 184, 3) := dk_180 0 184 (dk_at dksX7_since_0 19 rfl rfl)
theorem dX7_since_22 : decode cX7_since 22 = .ok (.if_icmp .gt 50, 3) := dk_163 0 50 (dk_at dksX7_since_1 0 rfl rfl)
theorem dX7_since_25 : decode cX7_since 25 = .ok (.aload_n 0, 1) := dk_42 (dk_at dksX7_since_1 3 rfl rfl)
theorem dX7_since_26 : decode cX7_since 26 = .ok (.getfield 184, 3) := dk_180 0 184 (dk_at dksX7_since_1 4 rfl rfl)
theorem dX7_since_29 : decode cX7_since 29 = .ok (.iload_n 2, 1) := dk_28 (dk_at dksX7_since_1 7 rfl rfl)
theorem dX7_since_30 : decode cX7_since 30 = .ok (.isub, 1) := dk_100 (dk_at dksX7_since_1 8 rfl rfl)
theorem dX7_since_31 : decode cX7_since 31 = .ok (.istore_n 3, 1) := dk_62 (dk_at dksX7_since_1 9 rfl rfl)
theorem dX7_since_32 : decode cX7_since 32 = .ok (.iload_n 1, 1) := dk_27 (dk_at dksX7_since_1 10 rfl rfl)
theorem dX7_since_33 : decode cX7_since 33 = .ok (.aload_n 0, 1) := dk_42 (dk_at dksX7_since_1 11 rfl rfl)
theorem dX7_since_34 : decode cX7_since 34 = .ok (.getfield 25, 3) := dk_180 0 25 (dk_at dksX7_since_1 12 rfl rfl)
theorem dX7_since_37 : decode cX7_since 37 = .ok (.iload_n 3, 1) := dk_29 (dk_at dksX7_since_1 15 rfl rfl)
theorem dX7_since_38 : decode cX7_since 38 = .ok (.iaload, 1) := dk_46 (dk_at dksX7_since_1 16 rfl rfl)
theorem dX7_since_39 : decode cX7_since 39 = .ok (.if_icmp .ge 23, 3) := dk_162 0 23 (dk_at dksX7_since_1 17 rfl rfl)
theorem dX7_since_42 : decode cX7_since 42 = .ok (.aload_n 0, 1) := dk_42 (dk_at dksX7_since_1 20 rfl rfl)
theorem dX7_since_43 : decode cX7_since 43 = .ok (.getfield 19, 3) := dk_180 0 19 (dk_at dksX7_since_1 21 rfl rfl)
theorem dX7_since_46 : decode cX7_since 46 = .ok (.bipush 120, 2) := dk_16 120 (dk_at dksX7_since_2 0 rfl rfl)
theorem dX7_since_48 : decode cX7_since 48 = .ok (.iload_n 3, 1) := dk_29 (dk_at dksX7_since_2 2 rfl rfl)
theorem dX7_since_49 : decode cX7_since 49 = .ok (.imul, 1) := dk_104 (dk_at dksX7_since_2 3 rfl rfl)
theorem dX7_since_50 : decode cX7_since 50 = .ok (.iload_n 1, 1) := dk_27 (dk_at dksX7_since_2 4 rfl rfl)
theorem dX7_since_51 : decode cX7_since 51 = .ok (.iadd, 1) := dk_96 (dk_at dksX7_since_2 5 rfl rfl)
theorem dX7_since_52 : decode cX7_since 52 = .ok (.iaload, 1) := dk_46 (dk_at dksX7_since_2 6 rfl rfl)
theorem dX7_since_53 : decode cX7_since 53 = .ok (.aload_n 0, 1) := dk_42 (dk_at dksX7_since_2 7 rfl rfl)
theorem dX7_since_54 : decode cX7_since 54 = .ok (.getfield 13, 3) := dk_180 0 13 (dk_at dksX7_since_2 8 rfl rfl)
theorem dX7_since_57 : decode cX7_since 57 = .ok (.iload_n 1, 1) := dk_27 (dk_at dksX7_since_2 11 rfl rfl)
theorem dX7_since_58 : decode cX7_since 58 = .ok (.iaload, 1) := dk_46 (dk_at dksX7_since_2 12 rfl rfl)
theorem dX7_since_59 : decode cX7_since 59 = .ok (.if_icmp .eq 7, 3) := dk_159 0 7 (dk_at dksX7_since_2 13 rfl rfl)
theorem dX7_since_62 : decode cX7_since 62 = .ok (.iload_n 2, 1) := dk_28 (dk_at dksX7_since_2 16 rfl rfl)
theorem dX7_since_63 : decode cX7_since 63 = .ok (.iconst 1, 1) := dk_4 (dk_at dksX7_since_2 17 rfl rfl)
theorem dX7_since_64 : decode cX7_since 64 = .ok (.isub, 1) := dk_100 (dk_at dksX7_since_2 18 rfl rfl)
theorem dX7_since_65 : decode cX7_since 65 = .ok (.ireturn, 1) := dk_172 (dk_at dksX7_since_2 19 rfl rfl)
theorem dX7_since_66 : decode cX7_since 66 = .ok (.iinc 2 1, 3) := dk_132 2 1 (dk_at dksX7_since_2 20 rfl rfl)
theorem dX7_since_69 : decode cX7_since 69 = .ok (.goto (-52), 3) := dk_167 255 204 (dk_at dksX7_since_3 0 rfl rfl)
theorem dX7_since_72 : decode cX7_since 72 = .ok (.bipush (-2), 2) := dk_16 254 (dk_at dksX7_since_3 3 rfl rfl)
theorem dX7_since_74 : decode cX7_since 74 = .ok (.ireturn, 1) := dk_172 (dk_at dksX7_since_3 5 rfl rfl)
abbrev cX7_ifSet : ByteArray := prog_19_method_96_code
def yX7_ifSet : MethodName := ⟨RX7, "ifSet", "(IIII)I"⟩
def dkwX7_ifSet_2 : List UInt8 := [29, 21, 4, 182, 1, 4, 54, 6, 42, 180, 0, 13, 27, 21, 5, 79, 21, 6, 172]
abbrev dktX7_ifSet_2 : List UInt8 := dkwX7_ifSet_2 ++ []
def dkwX7_ifSet_1 : List UInt8 := [182, 0, 232, 154, 0, 5, 2, 172, 42, 180, 0, 13, 27, 46, 54, 5, 42, 180, 0, 13, 27, 28, 79, 42]
abbrev dktX7_ifSet_1 : List UInt8 := dkwX7_ifSet_1 ++ dktX7_ifSet_2
def dkwX7_ifSet_0 : List UInt8 := [42, 3, 181, 0, 72, 42, 27, 182, 0, 187, 153, 0, 20, 28, 184, 0, 220, 153, 0, 13, 42, 29, 21, 4]
abbrev dktX7_ifSet_0 : List UInt8 := dkwX7_ifSet_0 ++ dktX7_ifSet_1
theorem dksX7_ifSet_0 : cX7_ifSet.data.toList.drop 0 = dktX7_ifSet_0 := by decide +kernel
theorem dksX7_ifSet_1 : cX7_ifSet.data.toList.drop 24 = dktX7_ifSet_1 := dk_seg dksX7_ifSet_0 24 rfl rfl
theorem dksX7_ifSet_2 : cX7_ifSet.data.toList.drop 48 = dktX7_ifSet_2 := dk_seg dksX7_ifSet_1 24 rfl rfl
theorem dX7_ifSet_0 : decode cX7_ifSet 0 = .ok (.aload_n 0, 1) := dk_42 (dk_at dksX7_ifSet_0 0 rfl rfl)
theorem dX7_ifSet_1 : decode cX7_ifSet 1 = .ok (.iconst 0, 1) := dk_3 (dk_at dksX7_ifSet_0 1 rfl rfl)
theorem dX7_ifSet_2 : decode cX7_ifSet 2 = .ok (.putfield 72, 3) := dk_181 0 72 (dk_at dksX7_ifSet_0 2 rfl rfl)
theorem dX7_ifSet_5 : decode cX7_ifSet 5 = .ok (.aload_n 0, 1) := dk_42 (dk_at dksX7_ifSet_0 5 rfl rfl)
theorem dX7_ifSet_6 : decode cX7_ifSet 6 = .ok (.iload_n 1, 1) := dk_27 (dk_at dksX7_ifSet_0 6 rfl rfl)
theorem dX7_ifSet_7 : decode cX7_ifSet 7 = .ok (.invokevirtual 187, 3) := dk_182 0 187 (dk_at dksX7_ifSet_0 7 rfl rfl)
theorem dX7_ifSet_10 : decode cX7_ifSet 10 = .ok (.ifCond .eq 20, 3) := dk_153 0 20 (dk_at dksX7_ifSet_0 10 rfl rfl)
theorem dX7_ifSet_13 : decode cX7_ifSet 13 = .ok (.iload_n 2, 1) := dk_28 (dk_at dksX7_ifSet_0 13 rfl rfl)
theorem dX7_ifSet_14 : decode cX7_ifSet 14 = .ok (.invokestatic 220, 3) := dk_184 0 220 (dk_at dksX7_ifSet_0 14 rfl rfl)
theorem dX7_ifSet_17 : decode cX7_ifSet 17 = .ok (.ifCond .eq 13, 3) := dk_153 0 13 (dk_at dksX7_ifSet_0 17 rfl rfl)
theorem dX7_ifSet_20 : decode cX7_ifSet 20 = .ok (.aload_n 0, 1) := dk_42 (dk_at dksX7_ifSet_0 20 rfl rfl)
theorem dX7_ifSet_21 : decode cX7_ifSet 21 = .ok (.iload_n 3, 1) := dk_29 (dk_at dksX7_ifSet_0 21 rfl rfl)
theorem dX7_ifSet_22 : decode cX7_ifSet 22 = .ok (.iload 4, 2) := dk_21 4 (dk_at dksX7_ifSet_0 22 rfl rfl)
theorem dX7_ifSet_24 : decode cX7_ifSet 24 = .ok (.invokevirtual 232, 3) := dk_182 0 232 (dk_at dksX7_ifSet_1 0 rfl rfl)
theorem dX7_ifSet_27 : decode cX7_ifSet 27 = .ok (.ifCond .ne 5, 3) := dk_154 0 5 (dk_at dksX7_ifSet_1 3 rfl rfl)
theorem dX7_ifSet_30 : decode cX7_ifSet 30 = .ok (.iconst (-1), 1) := dk_2 (dk_at dksX7_ifSet_1 6 rfl rfl)
theorem dX7_ifSet_31 : decode cX7_ifSet 31 = .ok (.ireturn, 1) := dk_172 (dk_at dksX7_ifSet_1 7 rfl rfl)
theorem dX7_ifSet_32 : decode cX7_ifSet 32 = .ok (.aload_n 0, 1) := dk_42 (dk_at dksX7_ifSet_1 8 rfl rfl)
theorem dX7_ifSet_33 : decode cX7_ifSet 33 = .ok (.getfield 13, 3) := dk_180 0 13 (dk_at dksX7_ifSet_1 9 rfl rfl)
theorem dX7_ifSet_36 : decode cX7_ifSet 36 = .ok (.iload_n 1, 1) := dk_27 (dk_at dksX7_ifSet_1 12 rfl rfl)
theorem dX7_ifSet_37 : decode cX7_ifSet 37 = .ok (.iaload, 1) := dk_46 (dk_at dksX7_ifSet_1 13 rfl rfl)
theorem dX7_ifSet_38 : decode cX7_ifSet 38 = .ok (.istore 5, 2) := dk_54 5 (dk_at dksX7_ifSet_1 14 rfl rfl)
theorem dX7_ifSet_40 : decode cX7_ifSet 40 = .ok (.aload_n 0, 1) := dk_42 (dk_at dksX7_ifSet_1 16 rfl rfl)
theorem dX7_ifSet_41 : decode cX7_ifSet 41 = .ok (.getfield 13, 3) := dk_180 0 13 (dk_at dksX7_ifSet_1 17 rfl rfl)
theorem dX7_ifSet_44 : decode cX7_ifSet 44 = .ok (.iload_n 1, 1) := dk_27 (dk_at dksX7_ifSet_1 20 rfl rfl)
theorem dX7_ifSet_45 : decode cX7_ifSet 45 = .ok (.iload_n 2, 1) := dk_28 (dk_at dksX7_ifSet_1 21 rfl rfl)
theorem dX7_ifSet_46 : decode cX7_ifSet 46 = .ok (.iastore, 1) := dk_79 (dk_at dksX7_ifSet_1 22 rfl rfl)
theorem dX7_ifSet_47 : decode cX7_ifSet 47 = .ok (.aload_n 0, 1) := dk_42 (dk_at dksX7_ifSet_1 23 rfl rfl)
theorem dX7_ifSet_48 : decode cX7_ifSet 48 = .ok (.iload_n 3, 1) := dk_29 (dk_at dksX7_ifSet_2 0 rfl rfl)
theorem dX7_ifSet_49 : decode cX7_ifSet 49 = .ok (.iload 4, 2) := dk_21 4 (dk_at dksX7_ifSet_2 1 rfl rfl)
theorem dX7_ifSet_51 : decode cX7_ifSet 51 = .ok (.invokevirtual 260, 3) := dk_182 1 4 (dk_at dksX7_ifSet_2 3 rfl rfl)
theorem dX7_ifSet_54 : decode cX7_ifSet 54 = .ok (.istore 6, 2) := dk_54 6 (dk_at dksX7_ifSet_2 6 rfl rfl)
theorem dX7_ifSet_56 : decode cX7_ifSet 56 = .ok (.aload_n 0, 1) := dk_42 (dk_at dksX7_ifSet_2 8 rfl rfl)
theorem dX7_ifSet_57 : decode cX7_ifSet 57 = .ok (.getfield 13, 3) := dk_180 0 13 (dk_at dksX7_ifSet_2 9 rfl rfl)
theorem dX7_ifSet_60 : decode cX7_ifSet 60 = .ok (.iload_n 1, 1) := dk_27 (dk_at dksX7_ifSet_2 12 rfl rfl)
theorem dX7_ifSet_61 : decode cX7_ifSet 61 = .ok (.iload 5, 2) := dk_21 5 (dk_at dksX7_ifSet_2 13 rfl rfl)
theorem dX7_ifSet_63 : decode cX7_ifSet 63 = .ok (.iastore, 1) := dk_79 (dk_at dksX7_ifSet_2 15 rfl rfl)
theorem dX7_ifSet_64 : decode cX7_ifSet 64 = .ok (.iload 6, 2) := dk_21 6 (dk_at dksX7_ifSet_2 16 rfl rfl)
theorem dX7_ifSet_66 : decode cX7_ifSet 66 = .ok (.ireturn, 1) := dk_172 (dk_at dksX7_ifSet_2 18 rfl rfl)
abbrev cX7_ifOut : ByteArray := prog_19_method_97_code
def yX7_ifOut : MethodName := ⟨RX7, "ifOut", "(III)I"⟩
def dkwX7_ifOut_2 : List UInt8 := [160, 0, 8, 16, 254, 167, 0, 5, 21, 4, 172]
abbrev dktX7_ifOut_2 : List UInt8 := dkwX7_ifOut_2 ++ []
def dkwX7_ifOut_1 : List UInt8 := [2, 172, 42, 28, 29, 27, 182, 0, 252, 42, 42, 180, 0, 178, 182, 1, 0, 54, 4, 21, 4, 2]
abbrev dktX7_ifOut_1 : List UInt8 := dkwX7_ifOut_1 ++ dktX7_ifOut_2
def dkwX7_ifOut_0 : List UInt8 := [42, 3, 181, 0, 72, 42, 28, 29, 182, 0, 232, 153, 0, 13, 27, 28, 161, 0, 8, 27, 29, 164, 0, 5]
abbrev dktX7_ifOut_0 : List UInt8 := dkwX7_ifOut_0 ++ dktX7_ifOut_1
theorem dksX7_ifOut_0 : cX7_ifOut.data.toList.drop 0 = dktX7_ifOut_0 := by decide +kernel
theorem dksX7_ifOut_1 : cX7_ifOut.data.toList.drop 24 = dktX7_ifOut_1 := dk_seg dksX7_ifOut_0 24 rfl rfl
theorem dksX7_ifOut_2 : cX7_ifOut.data.toList.drop 46 = dktX7_ifOut_2 := dk_seg dksX7_ifOut_1 22 rfl rfl
theorem dX7_ifOut_0 : decode cX7_ifOut 0 = .ok (.aload_n 0, 1) := dk_42 (dk_at dksX7_ifOut_0 0 rfl rfl)
theorem dX7_ifOut_1 : decode cX7_ifOut 1 = .ok (.iconst 0, 1) := dk_3 (dk_at dksX7_ifOut_0 1 rfl rfl)
theorem dX7_ifOut_2 : decode cX7_ifOut 2 = .ok (.putfield 72, 3) := dk_181 0 72 (dk_at dksX7_ifOut_0 2 rfl rfl)
theorem dX7_ifOut_5 : decode cX7_ifOut 5 = .ok (.aload_n 0, 1) := dk_42 (dk_at dksX7_ifOut_0 5 rfl rfl)
theorem dX7_ifOut_6 : decode cX7_ifOut 6 = .ok (.iload_n 2, 1) := dk_28 (dk_at dksX7_ifOut_0 6 rfl rfl)
theorem dX7_ifOut_7 : decode cX7_ifOut 7 = .ok (.iload_n 3, 1) := dk_29 (dk_at dksX7_ifOut_0 7 rfl rfl)
theorem dX7_ifOut_8 : decode cX7_ifOut 8 = .ok (.invokevirtual 232, 3) := dk_182 0 232 (dk_at dksX7_ifOut_0 8 rfl rfl)
theorem dX7_ifOut_11 : decode cX7_ifOut 11 = .ok (.ifCond .eq 13, 3) := dk_153 0 13 (dk_at dksX7_ifOut_0 11 rfl rfl)
theorem dX7_ifOut_14 : decode cX7_ifOut 14 = .ok (.iload_n 1, 1) := dk_27 (dk_at dksX7_ifOut_0 14 rfl rfl)
theorem dX7_ifOut_15 : decode cX7_ifOut 15 = .ok (.iload_n 2, 1) := dk_28 (dk_at dksX7_ifOut_0 15 rfl rfl)
theorem dX7_ifOut_16 : decode cX7_ifOut 16 = .ok (.if_icmp .lt 8, 3) := dk_161 0 8 (dk_at dksX7_ifOut_0 16 rfl rfl)
theorem dX7_ifOut_19 : decode cX7_ifOut 19 = .ok (.iload_n 1, 1) := dk_27 (dk_at dksX7_ifOut_0 19 rfl rfl)
theorem dX7_ifOut_20 : decode cX7_ifOut 20 = .ok (.iload_n 3, 1) := dk_29 (dk_at dksX7_ifOut_0 20 rfl rfl)
theorem dX7_ifOut_21 : decode cX7_ifOut 21 = .ok (.if_icmp .le 5, 3) := dk_164 0 5 (dk_at dksX7_ifOut_0 21 rfl rfl)
theorem dX7_ifOut_24 : decode cX7_ifOut 24 = .ok (.iconst (-1), 1) := dk_2 (dk_at dksX7_ifOut_1 0 rfl rfl)
theorem dX7_ifOut_25 : decode cX7_ifOut 25 = .ok (.ireturn, 1) := dk_172 (dk_at dksX7_ifOut_1 1 rfl rfl)
theorem dX7_ifOut_26 : decode cX7_ifOut 26 = .ok (.aload_n 0, 1) := dk_42 (dk_at dksX7_ifOut_1 2 rfl rfl)
theorem dX7_ifOut_27 : decode cX7_ifOut 27 = .ok (.iload_n 2, 1) := dk_28 (dk_at dksX7_ifOut_1 3 rfl rfl)
theorem dX7_ifOut_28 : decode cX7_ifOut 28 = .ok (.iload_n 3, 1) := dk_29 (dk_at dksX7_ifOut_1 4 rfl rfl)
theorem dX7_ifOut_29 : decode cX7_ifOut 29 = .ok (.iload_n 1, 1) := dk_27 (dk_at dksX7_ifOut_1 5 rfl rfl)
theorem dX7_ifOut_30 : decode cX7_ifOut 30 = .ok (.invokevirtual 252, 3) := dk_182 0 252 (dk_at dksX7_ifOut_1 6 rfl rfl)
theorem dX7_ifOut_33 : decode cX7_ifOut 33 = .ok (.aload_n 0, 1) := dk_42 (dk_at dksX7_ifOut_1 9 rfl rfl)
theorem dX7_ifOut_34 : decode cX7_ifOut 34 = .ok (.aload_n 0, 1) := dk_42 (dk_at dksX7_ifOut_1 10 rfl rfl)
theorem dX7_ifOut_35 : decode cX7_ifOut 35 = .ok (.getfield 178, 3) := dk_180 0 178 (dk_at dksX7_ifOut_1 11 rfl rfl)
theorem dX7_ifOut_38 : decode cX7_ifOut 38 = .ok (.invokevirtual 256, 3) := dk_182 1 0 (dk_at dksX7_ifOut_1 14 rfl rfl)
theorem dX7_ifOut_41 : decode cX7_ifOut 41 = .ok (.istore 4, 2) := dk_54 4 (dk_at dksX7_ifOut_1 17 rfl rfl)
theorem dX7_ifOut_43 : decode cX7_ifOut 43 = .ok (.iload 4, 2) := dk_21 4 (dk_at dksX7_ifOut_1 19 rfl rfl)
theorem dX7_ifOut_45 : decode cX7_ifOut 45 = .ok (.iconst (-1), 1) := dk_2 (dk_at dksX7_ifOut_1 21 rfl rfl)
theorem dX7_ifOut_46 : decode cX7_ifOut 46 = .ok (.if_icmp .ne 8, 3) := dk_160 0 8 (dk_at dksX7_ifOut_2 0 rfl rfl)
theorem dX7_ifOut_49 : decode cX7_ifOut 49 = .ok (.bipush (-2), 2) := dk_16 254 (dk_at dksX7_ifOut_2 3 rfl rfl)
theorem dX7_ifOut_51 : decode cX7_ifOut 51 = .ok (.goto 5, 3) := dk_167 0 5 (dk_at dksX7_ifOut_2 5 rfl rfl)
theorem dX7_ifOut_54 : decode cX7_ifOut 54 = .ok (.iload 4, 2) := dk_21 4 (dk_at dksX7_ifOut_2 8 rfl rfl)
theorem dX7_ifOut_56 : decode cX7_ifOut 56 = .ok (.ireturn, 1) := dk_172 (dk_at dksX7_ifOut_2 10 rfl rfl)
abbrev cX7_ifTies : ByteArray := prog_19_method_98_code
def yX7_ifTies : MethodName := ⟨RX7, "ifTies", "(III)I"⟩
def dkwX7_ifTies_1 : List UInt8 := [172, 42, 28, 29, 2, 182, 0, 252, 42, 27, 182, 1, 0, 172]
abbrev dktX7_ifTies_1 : List UInt8 := dkwX7_ifTies_1 ++ []
def dkwX7_ifTies_0 : List UInt8 := [42, 3, 181, 0, 72, 27, 155, 0, 17, 27, 6, 163, 0, 12, 42, 28, 29, 182, 0, 232, 154, 0, 5, 2]
abbrev dktX7_ifTies_0 : List UInt8 := dkwX7_ifTies_0 ++ dktX7_ifTies_1
theorem dksX7_ifTies_0 : cX7_ifTies.data.toList.drop 0 = dktX7_ifTies_0 := by decide +kernel
theorem dksX7_ifTies_1 : cX7_ifTies.data.toList.drop 24 = dktX7_ifTies_1 := dk_seg dksX7_ifTies_0 24 rfl rfl
theorem dX7_ifTies_0 : decode cX7_ifTies 0 = .ok (.aload_n 0, 1) := dk_42 (dk_at dksX7_ifTies_0 0 rfl rfl)
theorem dX7_ifTies_1 : decode cX7_ifTies 1 = .ok (.iconst 0, 1) := dk_3 (dk_at dksX7_ifTies_0 1 rfl rfl)
theorem dX7_ifTies_2 : decode cX7_ifTies 2 = .ok (.putfield 72, 3) := dk_181 0 72 (dk_at dksX7_ifTies_0 2 rfl rfl)
theorem dX7_ifTies_5 : decode cX7_ifTies 5 = .ok (.iload_n 1, 1) := dk_27 (dk_at dksX7_ifTies_0 5 rfl rfl)
theorem dX7_ifTies_6 : decode cX7_ifTies 6 = .ok (.ifCond .lt 17, 3) := dk_155 0 17 (dk_at dksX7_ifTies_0 6 rfl rfl)
theorem dX7_ifTies_9 : decode cX7_ifTies 9 = .ok (.iload_n 1, 1) := dk_27 (dk_at dksX7_ifTies_0 9 rfl rfl)
theorem dX7_ifTies_10 : decode cX7_ifTies 10 = .ok (.iconst 3, 1) := dk_6 (dk_at dksX7_ifTies_0 10 rfl rfl)
theorem dX7_ifTies_11 : decode cX7_ifTies 11 = .ok (.if_icmp .gt 12, 3) := dk_163 0 12 (dk_at dksX7_ifTies_0 11 rfl rfl)
theorem dX7_ifTies_14 : decode cX7_ifTies 14 = .ok (.aload_n 0, 1) := dk_42 (dk_at dksX7_ifTies_0 14 rfl rfl)
theorem dX7_ifTies_15 : decode cX7_ifTies 15 = .ok (.iload_n 2, 1) := dk_28 (dk_at dksX7_ifTies_0 15 rfl rfl)
theorem dX7_ifTies_16 : decode cX7_ifTies 16 = .ok (.iload_n 3, 1) := dk_29 (dk_at dksX7_ifTies_0 16 rfl rfl)
theorem dX7_ifTies_17 : decode cX7_ifTies 17 = .ok (.invokevirtual 232, 3) := dk_182 0 232 (dk_at dksX7_ifTies_0 17 rfl rfl)
theorem dX7_ifTies_20 : decode cX7_ifTies 20 = .ok (.ifCond .ne 5, 3) := dk_154 0 5 (dk_at dksX7_ifTies_0 20 rfl rfl)
theorem dX7_ifTies_23 : decode cX7_ifTies 23 = .ok (.iconst (-1), 1) := dk_2 (dk_at dksX7_ifTies_0 23 rfl rfl)
theorem dX7_ifTies_24 : decode cX7_ifTies 24 = .ok (.ireturn, 1) := dk_172 (dk_at dksX7_ifTies_1 0 rfl rfl)
theorem dX7_ifTies_25 : decode cX7_ifTies 25 = .ok (.aload_n 0, 1) := dk_42 (dk_at dksX7_ifTies_1 1 rfl rfl)
theorem dX7_ifTies_26 : decode cX7_ifTies 26 = .ok (.iload_n 2, 1) := dk_28 (dk_at dksX7_ifTies_1 2 rfl rfl)
theorem dX7_ifTies_27 : decode cX7_ifTies 27 = .ok (.iload_n 3, 1) := dk_29 (dk_at dksX7_ifTies_1 3 rfl rfl)
theorem dX7_ifTies_28 : decode cX7_ifTies 28 = .ok (.iconst (-1), 1) := dk_2 (dk_at dksX7_ifTies_1 4 rfl rfl)
theorem dX7_ifTies_29 : decode cX7_ifTies 29 = .ok (.invokevirtual 252, 3) := dk_182 0 252 (dk_at dksX7_ifTies_1 5 rfl rfl)
theorem dX7_ifTies_32 : decode cX7_ifTies 32 = .ok (.aload_n 0, 1) := dk_42 (dk_at dksX7_ifTies_1 8 rfl rfl)
theorem dX7_ifTies_33 : decode cX7_ifTies 33 = .ok (.iload_n 1, 1) := dk_27 (dk_at dksX7_ifTies_1 9 rfl rfl)
theorem dX7_ifTies_34 : decode cX7_ifTies 34 = .ok (.invokevirtual 256, 3) := dk_182 1 0 (dk_at dksX7_ifTies_1 10 rfl rfl)
theorem dX7_ifTies_37 : decode cX7_ifTies 37 = .ok (.ireturn, 1) := dk_172 (dk_at dksX7_ifTies_1 13 rfl rfl)
abbrev cX7_part : ByteArray := prog_19_method_99_code
def yX7_part : MethodName := ⟨RX7, "part", "(I)I"⟩
def dkwX7_part_8 : List UInt8 := [167, 255, 195, 28, 42, 180, 0, 175, 162, 0, 7, 28, 167, 0, 5, 16, 254, 172]
abbrev dktX7_part_8 : List UInt8 := dkwX7_part_8 ++ []
def dkwX7_part_7 : List UInt8 := [21, 4, 182, 1, 13, 2, 160, 0, 9, 132, 4, 1, 167, 255, 222, 21, 4, 4, 96, 61, 132, 3, 1]
abbrev dktX7_part_7 : List UInt8 := dkwX7_part_7 ++ dktX7_part_8
def dkwX7_part_6 : List UInt8 := [54, 4, 42, 180, 0, 66, 21, 4, 4, 96, 46, 4, 96, 42, 180, 0, 66, 28, 46, 160, 0, 14, 42, 28]
abbrev dktX7_part_6 : List UInt8 := dkwX7_part_6 ++ dktX7_part_7
def dkwX7_part_5 : List UInt8 := [180, 0, 66, 3, 46, 172, 3, 61, 3, 62, 29, 27, 162, 0, 62, 28, 42, 180, 0, 175, 162, 0, 54, 28]
abbrev dktX7_part_5 : List UInt8 := dkwX7_part_5 ++ dktX7_part_6
def dkwX7_part_4 : List UInt8 := [96, 46, 4, 96, 79, 132, 3, 1, 167, 255, 200, 132, 2, 255, 167, 255, 180, 27, 2, 160, 0, 10, 42]
abbrev dktX7_part_4 : List UInt8 := dkwX7_part_4 ++ dktX7_part_5
def dkwX7_part_3 : List UInt8 := [162, 0, 29, 42, 28, 29, 182, 1, 13, 2, 159, 0, 19, 42, 180, 0, 66, 28, 42, 180, 0, 66, 29, 4]
abbrev dktX7_part_3 : List UInt8 := dkwX7_part_3 ++ dktX7_part_4
def dkwX7_part_2 : List UInt8 := [180, 0, 175, 162, 0, 54, 42, 180, 0, 66, 29, 4, 96, 46, 4, 96, 42, 180, 0, 66, 28, 46]
abbrev dktX7_part_2 : List UInt8 := dkwX7_part_2 ++ dktX7_part_3
def dkwX7_part_1 : List UInt8 := [180, 0, 175, 4, 100, 61, 28, 155, 0, 78, 42, 180, 0, 66, 28, 16, 121, 79, 28, 62, 29, 42]
abbrev dktX7_part_1 : List UInt8 := dkwX7_part_1 ++ dktX7_part_2
def dkwX7_part_0 : List UInt8 := [42, 3, 181, 0, 72, 27, 2, 162, 0, 5, 2, 172, 42, 180, 0, 66, 42, 180, 0, 175, 3, 79, 42]
abbrev dktX7_part_0 : List UInt8 := dkwX7_part_0 ++ dktX7_part_1
theorem dksX7_part_0 : cX7_part.data.toList.drop 0 = dktX7_part_0 := by decide +kernel
theorem dksX7_part_1 : cX7_part.data.toList.drop 23 = dktX7_part_1 := dk_seg dksX7_part_0 23 rfl rfl
theorem dksX7_part_2 : cX7_part.data.toList.drop 45 = dktX7_part_2 := dk_seg dksX7_part_1 22 rfl rfl
theorem dksX7_part_3 : cX7_part.data.toList.drop 67 = dktX7_part_3 := dk_seg dksX7_part_2 22 rfl rfl
theorem dksX7_part_4 : cX7_part.data.toList.drop 91 = dktX7_part_4 := dk_seg dksX7_part_3 24 rfl rfl
theorem dksX7_part_5 : cX7_part.data.toList.drop 114 = dktX7_part_5 := dk_seg dksX7_part_4 23 rfl rfl
theorem dksX7_part_6 : cX7_part.data.toList.drop 138 = dktX7_part_6 := dk_seg dksX7_part_5 24 rfl rfl
theorem dksX7_part_7 : cX7_part.data.toList.drop 162 = dktX7_part_7 := dk_seg dksX7_part_6 24 rfl rfl
theorem dksX7_part_8 : cX7_part.data.toList.drop 185 = dktX7_part_8 := dk_seg dksX7_part_7 23 rfl rfl
theorem dX7_part_0 : decode cX7_part 0 = .ok (.aload_n 0, 1) := dk_42 (dk_at dksX7_part_0 0 rfl rfl)
theorem dX7_part_1 : decode cX7_part 1 = .ok (.iconst 0, 1) := dk_3 (dk_at dksX7_part_0 1 rfl rfl)
theorem dX7_part_2 : decode cX7_part 2 = .ok (.putfield 72, 3) := dk_181 0 72 (dk_at dksX7_part_0 2 rfl rfl)
theorem dX7_part_5 : decode cX7_part 5 = .ok (.iload_n 1, 1) := dk_27 (dk_at dksX7_part_0 5 rfl rfl)
theorem dX7_part_6 : decode cX7_part 6 = .ok (.iconst (-1), 1) := dk_2 (dk_at dksX7_part_0 6 rfl rfl)
theorem dX7_part_7 : decode cX7_part 7 = .ok (.if_icmp .ge 5, 3) := dk_162 0 5 (dk_at dksX7_part_0 7 rfl rfl)
theorem dX7_part_10 : decode cX7_part 10 = .ok (.iconst (-1), 1) := dk_2 (dk_at dksX7_part_0 10 rfl rfl)
theorem dX7_part_11 : decode cX7_part 11 = .ok (.ireturn, 1) := dk_172 (dk_at dksX7_part_0 11 rfl rfl)
theorem dX7_part_12 : decode cX7_part 12 = .ok (.aload_n 0, 1) := dk_42 (dk_at dksX7_part_0 12 rfl rfl)
theorem dX7_part_13 : decode cX7_part 13 = .ok (.getfield 66, 3) := dk_180 0 66 (dk_at dksX7_part_0 13 rfl rfl)
theorem dX7_part_16 : decode cX7_part 16 = .ok (.aload_n 0, 1) := dk_42 (dk_at dksX7_part_0 16 rfl rfl)
theorem dX7_part_17 : decode cX7_part 17 = .ok (.getfield 175, 3) := dk_180 0 175 (dk_at dksX7_part_0 17 rfl rfl)
theorem dX7_part_20 : decode cX7_part 20 = .ok (.iconst 0, 1) := dk_3 (dk_at dksX7_part_0 20 rfl rfl)
theorem dX7_part_21 : decode cX7_part 21 = .ok (.iastore, 1) := dk_79 (dk_at dksX7_part_0 21 rfl rfl)
theorem dX7_part_22 : decode cX7_part 22 = .ok (.aload_n 0, 1) := dk_42 (dk_at dksX7_part_0 22 rfl rfl)
theorem dX7_part_23 : decode cX7_part 23 = .ok (.getfield 175, 3) := dk_180 0 175 (dk_at dksX7_part_1 0 rfl rfl)
theorem dX7_part_26 : decode cX7_part 26 = .ok (.iconst 1, 1) := dk_4 (dk_at dksX7_part_1 3 rfl rfl)
theorem dX7_part_27 : decode cX7_part 27 = .ok (.isub, 1) := dk_100 (dk_at dksX7_part_1 4 rfl rfl)
theorem dX7_part_28 : decode cX7_part 28 = .ok (.istore_n 2, 1) := dk_61 (dk_at dksX7_part_1 5 rfl rfl)
theorem dX7_part_29 : decode cX7_part 29 = .ok (.iload_n 2, 1) := dk_28 (dk_at dksX7_part_1 6 rfl rfl)
theorem dX7_part_30 : decode cX7_part 30 = .ok (.ifCond .lt 78, 3) := dk_155 0 78 (dk_at dksX7_part_1 7 rfl rfl)
theorem dX7_part_33 : decode cX7_part 33 = .ok (.aload_n 0, 1) := dk_42 (dk_at dksX7_part_1 10 rfl rfl)
theorem dX7_part_34 : decode cX7_part 34 = .ok (.getfield 66, 3) := dk_180 0 66 (dk_at dksX7_part_1 11 rfl rfl)
theorem dX7_part_37 : decode cX7_part 37 = .ok (.iload_n 2, 1) := dk_28 (dk_at dksX7_part_1 14 rfl rfl)
theorem dX7_part_38 : decode cX7_part 38 = .ok (.bipush 121, 2) := dk_16 121 (dk_at dksX7_part_1 15 rfl rfl)
theorem dX7_part_40 : decode cX7_part 40 = .ok (.iastore, 1) := dk_79 (dk_at dksX7_part_1 17 rfl rfl)
theorem dX7_part_41 : decode cX7_part 41 = .ok (.iload_n 2, 1) := dk_28 (dk_at dksX7_part_1 18 rfl rfl)
theorem dX7_part_42 : decode cX7_part 42 = .ok (.istore_n 3, 1) := dk_62 (dk_at dksX7_part_1 19 rfl rfl)
theorem dX7_part_43 : decode cX7_part 43 = .ok (.iload_n 3, 1) := dk_29 (dk_at dksX7_part_1 20 rfl rfl)
theorem dX7_part_44 : decode cX7_part 44 = .ok (.aload_n 0, 1) := dk_42 (dk_at dksX7_part_1 21 rfl rfl)
theorem dX7_part_45 : decode cX7_part 45 = .ok (.getfield 175, 3) := dk_180 0 175 (dk_at dksX7_part_2 0 rfl rfl)
theorem dX7_part_48 : decode cX7_part 48 = .ok (.if_icmp .ge 54, 3) := dk_162 0 54 (dk_at dksX7_part_2 3 rfl rfl)
theorem dX7_part_51 : decode cX7_part 51 = .ok (.aload_n 0, 1) := dk_42 (dk_at dksX7_part_2 6 rfl rfl)
theorem dX7_part_52 : decode cX7_part 52 = .ok (.getfield 66, 3) := dk_180 0 66 (dk_at dksX7_part_2 7 rfl rfl)
theorem dX7_part_55 : decode cX7_part 55 = .ok (.iload_n 3, 1) := dk_29 (dk_at dksX7_part_2 10 rfl rfl)
theorem dX7_part_56 : decode cX7_part 56 = .ok (.iconst 1, 1) := dk_4 (dk_at dksX7_part_2 11 rfl rfl)
theorem dX7_part_57 : decode cX7_part 57 = .ok (.iadd, 1) := dk_96 (dk_at dksX7_part_2 12 rfl rfl)
theorem dX7_part_58 : decode cX7_part 58 = .ok (.iaload, 1) := dk_46 (dk_at dksX7_part_2 13 rfl rfl)
theorem dX7_part_59 : decode cX7_part 59 = .ok (.iconst 1, 1) := dk_4 (dk_at dksX7_part_2 14 rfl rfl)
theorem dX7_part_60 : decode cX7_part 60 = .ok (.iadd, 1) := dk_96 (dk_at dksX7_part_2 15 rfl rfl)
theorem dX7_part_61 : decode cX7_part 61 = .ok (.aload_n 0, 1) := dk_42 (dk_at dksX7_part_2 16 rfl rfl)
theorem dX7_part_62 : decode cX7_part 62 = .ok (.getfield 66, 3) := dk_180 0 66 (dk_at dksX7_part_2 17 rfl rfl)
theorem dX7_part_65 : decode cX7_part 65 = .ok (.iload_n 2, 1) := dk_28 (dk_at dksX7_part_2 20 rfl rfl)
theorem dX7_part_66 : decode cX7_part 66 = .ok (.iaload, 1) := dk_46 (dk_at dksX7_part_2 21 rfl rfl)
theorem dX7_part_67 : decode cX7_part 67 = .ok (.if_icmp .ge 29, 3) := dk_162 0 29 (dk_at dksX7_part_3 0 rfl rfl)
theorem dX7_part_70 : decode cX7_part 70 = .ok (.aload_n 0, 1) := dk_42 (dk_at dksX7_part_3 3 rfl rfl)
theorem dX7_part_71 : decode cX7_part 71 = .ok (.iload_n 2, 1) := dk_28 (dk_at dksX7_part_3 4 rfl rfl)
theorem dX7_part_72 : decode cX7_part 72 = .ok (.iload_n 3, 1) := dk_29 (dk_at dksX7_part_3 5 rfl rfl)
theorem dX7_part_73 : decode cX7_part 73 = .ok (.invokevirtual 269, 3) := dk_182 1 13 (dk_at dksX7_part_3 6 rfl rfl)
theorem dX7_part_76 : decode cX7_part 76 = .ok (.iconst (-1), 1) := dk_2 (dk_at dksX7_part_3 9 rfl rfl)
theorem dX7_part_77 : decode cX7_part 77 = .ok (.if_icmp .eq 19, 3) := dk_159 0 19 (dk_at dksX7_part_3 10 rfl rfl)
theorem dX7_part_80 : decode cX7_part 80 = .ok (.aload_n 0, 1) := dk_42 (dk_at dksX7_part_3 13 rfl rfl)
theorem dX7_part_81 : decode cX7_part 81 = .ok (.getfield 66, 3) := dk_180 0 66 (dk_at dksX7_part_3 14 rfl rfl)
theorem dX7_part_84 : decode cX7_part 84 = .ok (.iload_n 2, 1) := dk_28 (dk_at dksX7_part_3 17 rfl rfl)
theorem dX7_part_85 : decode cX7_part 85 = .ok (.aload_n 0, 1) := dk_42 (dk_at dksX7_part_3 18 rfl rfl)
theorem dX7_part_86 : decode cX7_part 86 = .ok (.getfield 66, 3) := dk_180 0 66 (dk_at dksX7_part_3 19 rfl rfl)
theorem dX7_part_89 : decode cX7_part 89 = .ok (.iload_n 3, 1) := dk_29 (dk_at dksX7_part_3 22 rfl rfl)
theorem dX7_part_90 : decode cX7_part 90 = .ok (.iconst 1, 1) := dk_4 (dk_at dksX7_part_3 23 rfl rfl)
theorem dX7_part_91 : decode cX7_part 91 = .ok (.iadd, 1) := dk_96 (dk_at dksX7_part_4 0 rfl rfl)
theorem dX7_part_92 : decode cX7_part 92 = .ok (.iaload, 1) := dk_46 (dk_at dksX7_part_4 1 rfl rfl)
theorem dX7_part_93 : decode cX7_part 93 = .ok (.iconst 1, 1) := dk_4 (dk_at dksX7_part_4 2 rfl rfl)
theorem dX7_part_94 : decode cX7_part 94 = .ok (.iadd, 1) := dk_96 (dk_at dksX7_part_4 3 rfl rfl)
theorem dX7_part_95 : decode cX7_part 95 = .ok (.iastore, 1) := dk_79 (dk_at dksX7_part_4 4 rfl rfl)
theorem dX7_part_96 : decode cX7_part 96 = .ok (.iinc 3 1, 3) := dk_132 3 1 (dk_at dksX7_part_4 5 rfl rfl)
theorem dX7_part_99 : decode cX7_part 99 = .ok (.goto (-56), 3) := dk_167 255 200 (dk_at dksX7_part_4 8 rfl rfl)
theorem dX7_part_102 : decode cX7_part 102 = .ok (.iinc 2 (-1), 3) := dk_132 2 255 (dk_at dksX7_part_4 11 rfl rfl)
theorem dX7_part_105 : decode cX7_part 105 = .ok (.goto (-76), 3) := dk_167 255 180 (dk_at dksX7_part_4 14 rfl rfl)
theorem dX7_part_108 : decode cX7_part 108 = .ok (.iload_n 1, 1) := dk_27 (dk_at dksX7_part_4 17 rfl rfl)
theorem dX7_part_109 : decode cX7_part 109 = .ok (.iconst (-1), 1) := dk_2 (dk_at dksX7_part_4 18 rfl rfl)
theorem dX7_part_110 : decode cX7_part 110 = .ok (.if_icmp .ne 10, 3) := dk_160 0 10 (dk_at dksX7_part_4 19 rfl rfl)
theorem dX7_part_113 : decode cX7_part 113 = .ok (.aload_n 0, 1) := dk_42 (dk_at dksX7_part_4 22 rfl rfl)
theorem dX7_part_114 : decode cX7_part 114 = .ok (.getfield 66, 3) := dk_180 0 66 (dk_at dksX7_part_5 0 rfl rfl)
theorem dX7_part_117 : decode cX7_part 117 = .ok (.iconst 0, 1) := dk_3 (dk_at dksX7_part_5 3 rfl rfl)
theorem dX7_part_118 : decode cX7_part 118 = .ok (.iaload, 1) := dk_46 (dk_at dksX7_part_5 4 rfl rfl)
theorem dX7_part_119 : decode cX7_part 119 = .ok (.ireturn, 1) := dk_172 (dk_at dksX7_part_5 5 rfl rfl)
theorem dX7_part_120 : decode cX7_part 120 = .ok (.iconst 0, 1) := dk_3 (dk_at dksX7_part_5 6 rfl rfl)
theorem dX7_part_121 : decode cX7_part 121 = .ok (.istore_n 2, 1) := dk_61 (dk_at dksX7_part_5 7 rfl rfl)
theorem dX7_part_122 : decode cX7_part 122 = .ok (.iconst 0, 1) := dk_3 (dk_at dksX7_part_5 8 rfl rfl)
theorem dX7_part_123 : decode cX7_part 123 = .ok (.istore_n 3, 1) := dk_62 (dk_at dksX7_part_5 9 rfl rfl)
theorem dX7_part_124 : decode cX7_part 124 = .ok (.iload_n 3, 1) := dk_29 (dk_at dksX7_part_5 10 rfl rfl)
theorem dX7_part_125 : decode cX7_part 125 = .ok (.iload_n 1, 1) := dk_27 (dk_at dksX7_part_5 11 rfl rfl)
theorem dX7_part_126 : decode cX7_part 126 = .ok (.if_icmp .ge 62, 3) := dk_162 0 62 (dk_at dksX7_part_5 12 rfl rfl)
theorem dX7_part_129 : decode cX7_part 129 = .ok (.iload_n 2, 1) := dk_28 (dk_at dksX7_part_5 15 rfl rfl)
theorem dX7_part_130 : decode cX7_part 130 = .ok (.aload_n 0, 1) := dk_42 (dk_at dksX7_part_5 16 rfl rfl)
theorem dX7_part_131 : decode cX7_part 131 = .ok (.getfield 175, 3) := dk_180 0 175 (dk_at dksX7_part_5 17 rfl rfl)
theorem dX7_part_134 : decode cX7_part 134 = .ok (.if_icmp .ge 54, 3) := dk_162 0 54 (dk_at dksX7_part_5 20 rfl rfl)
theorem dX7_part_137 : decode cX7_part 137 = .ok (.iload_n 2, 1) := dk_28 (dk_at dksX7_part_5 23 rfl rfl)
theorem dX7_part_138 : decode cX7_part 138 = .ok (.istore 4, 2) := dk_54 4 (dk_at dksX7_part_6 0 rfl rfl)
theorem dX7_part_140 : decode cX7_part 140 = .ok (.aload_n 0, 1) := dk_42 (dk_at dksX7_part_6 2 rfl rfl)
theorem dX7_part_141 : decode cX7_part 141 = .ok (.getfield 66, 3) := dk_180 0 66 (dk_at dksX7_part_6 3 rfl rfl)
theorem dX7_part_144 : decode cX7_part 144 = .ok (.iload 4, 2) := dk_21 4 (dk_at dksX7_part_6 6 rfl rfl)
theorem dX7_part_146 : decode cX7_part 146 = .ok (.iconst 1, 1) := dk_4 (dk_at dksX7_part_6 8 rfl rfl)
theorem dX7_part_147 : decode cX7_part 147 = .ok (.iadd, 1) := dk_96 (dk_at dksX7_part_6 9 rfl rfl)
theorem dX7_part_148 : decode cX7_part 148 = .ok (.iaload, 1) := dk_46 (dk_at dksX7_part_6 10 rfl rfl)
theorem dX7_part_149 : decode cX7_part 149 = .ok (.iconst 1, 1) := dk_4 (dk_at dksX7_part_6 11 rfl rfl)
theorem dX7_part_150 : decode cX7_part 150 = .ok (.iadd, 1) := dk_96 (dk_at dksX7_part_6 12 rfl rfl)
theorem dX7_part_151 : decode cX7_part 151 = .ok (.aload_n 0, 1) := dk_42 (dk_at dksX7_part_6 13 rfl rfl)
theorem dX7_part_152 : decode cX7_part 152 = .ok (.getfield 66, 3) := dk_180 0 66 (dk_at dksX7_part_6 14 rfl rfl)
theorem dX7_part_155 : decode cX7_part 155 = .ok (.iload_n 2, 1) := dk_28 (dk_at dksX7_part_6 17 rfl rfl)
theorem dX7_part_156 : decode cX7_part 156 = .ok (.iaload, 1) := dk_46 (dk_at dksX7_part_6 18 rfl rfl)
theorem dX7_part_157 : decode cX7_part 157 = .ok (.if_icmp .ne 14, 3) := dk_160 0 14 (dk_at dksX7_part_6 19 rfl rfl)
theorem dX7_part_160 : decode cX7_part 160 = .ok (.aload_n 0, 1) := dk_42 (dk_at dksX7_part_6 22 rfl rfl)
theorem dX7_part_161 : decode cX7_part 161 = .ok (.iload_n 2, 1) := dk_28 (dk_at dksX7_part_6 23 rfl rfl)
theorem dX7_part_162 : decode cX7_part 162 = .ok (.iload 4, 2) := dk_21 4 (dk_at dksX7_part_7 0 rfl rfl)
theorem dX7_part_164 : decode cX7_part 164 = .ok (.invokevirtual 269, 3) := dk_182 1 13 (dk_at dksX7_part_7 2 rfl rfl)
theorem dX7_part_167 : decode cX7_part 167 = .ok (.iconst (-1), 1) := dk_2 (dk_at dksX7_part_7 5 rfl rfl)
theorem dX7_part_168 : decode cX7_part 168 = .ok (.if_icmp .ne 9, 3) := dk_160 0 9 (dk_at dksX7_part_7 6 rfl rfl)
theorem dX7_part_171 : decode cX7_part 171 = .ok (.iinc 4 1, 3) := dk_132 4 1 (dk_at dksX7_part_7 9 rfl rfl)
theorem dX7_part_174 : decode cX7_part 174 = .ok (.goto (-34), 3) := dk_167 255 222 (dk_at dksX7_part_7 12 rfl rfl)
theorem dX7_part_177 : decode cX7_part 177 = .ok (.iload 4, 2) := dk_21 4 (dk_at dksX7_part_7 15 rfl rfl)
theorem dX7_part_179 : decode cX7_part 179 = .ok (.iconst 1, 1) := dk_4 (dk_at dksX7_part_7 17 rfl rfl)
theorem dX7_part_180 : decode cX7_part 180 = .ok (.iadd, 1) := dk_96 (dk_at dksX7_part_7 18 rfl rfl)
theorem dX7_part_181 : decode cX7_part 181 = .ok (.istore_n 2, 1) := dk_61 (dk_at dksX7_part_7 19 rfl rfl)
theorem dX7_part_182 : decode cX7_part 182 = .ok (.iinc 3 1, 3) := dk_132 3 1 (dk_at dksX7_part_7 20 rfl rfl)
theorem dX7_part_185 : decode cX7_part 185 = .ok (.goto (-61), 3) := dk_167 255 195 (dk_at dksX7_part_8 0 rfl rfl)
theorem dX7_part_188 : decode cX7_part 188 = .ok (.iload_n 2, 1) := dk_28 (dk_at dksX7_part_8 3 rfl rfl)
theorem dX7_part_189 : decode cX7_part 189 = .ok (.aload_n 0, 1) := dk_42 (dk_at dksX7_part_8 4 rfl rfl)
theorem dX7_part_190 : decode cX7_part 190 = .ok (.getfield 175, 3) := dk_180 0 175 (dk_at dksX7_part_8 5 rfl rfl)
theorem dX7_part_193 : decode cX7_part 193 = .ok (.if_icmp .ge 7, 3) := dk_162 0 7 (dk_at dksX7_part_8 8 rfl rfl)
theorem dX7_part_196 : decode cX7_part 196 = .ok (.iload_n 2, 1) := dk_28 (dk_at dksX7_part_8 11 rfl rfl)
theorem dX7_part_197 : decode cX7_part 197 = .ok (.goto 5, 3) := dk_167 0 5 (dk_at dksX7_part_8 12 rfl rfl)
theorem dX7_part_200 : decode cX7_part 200 = .ok (.bipush (-2), 2) := dk_16 254 (dk_at dksX7_part_8 15 rfl rfl)
theorem dX7_part_202 : decode cX7_part 202 = .ok (.ireturn, 1) := dk_172 (dk_at dksX7_part_8 17 rfl rfl)
abbrev cX7_count : ByteArray := prog_19_method_100_code
def yX7_count : MethodName := ⟨RX7, "count", "(I)I"⟩
def dkwX7_count_3 : List UInt8 := [172, 42, 182, 1, 34, 172, 42, 180, 0, 184, 172, 42, 182, 1, 37, 172, 42, 180, 0, 75, 172, 2, 172]
abbrev dktX7_count_3 : List UInt8 := dkwX7_count_3 ++ []
def dkwX7_count_2 : List UInt8 := [42, 180, 0, 175, 172, 42, 180, 0, 69, 172, 42, 182, 1, 19, 172, 42, 180, 0, 178, 172, 42, 180, 0, 181]
abbrev dktX7_count_2 : List UInt8 := dkwX7_count_2 ++ dktX7_count_3
def dkwX7_count_1 : List UInt8 := [170, 0, 0, 0, 0, 95, 0, 0, 0, 0, 0, 0, 0, 8, 0, 0, 0, 50, 0, 0, 0, 55, 0, 0, 0, 60, 0, 0, 0, 65, 0, 0, 0, 70, 0, 0, 0, 75, 0, 0, 0, 80, 0, 0, 0, 85, 0, 0, 0, 90]
abbrev dktX7_count_1 : List UInt8 := dkwX7_count_1 ++ dktX7_count_2
def dkwX7_count_0 : List UInt8 := [42, 3, 181, 0, 72, 27]
abbrev dktX7_count_0 : List UInt8 := dkwX7_count_0 ++ dktX7_count_1
theorem dksX7_count_0 : cX7_count.data.toList.drop 0 = dktX7_count_0 := by decide +kernel
theorem dksX7_count_1 : cX7_count.data.toList.drop 6 = dktX7_count_1 := dk_seg dksX7_count_0 6 rfl rfl
theorem dksX7_count_2 : cX7_count.data.toList.drop 56 = dktX7_count_2 := dk_seg dksX7_count_1 50 rfl rfl
theorem dksX7_count_3 : cX7_count.data.toList.drop 80 = dktX7_count_3 := dk_seg dksX7_count_2 24 rfl rfl
theorem dX7_count_0 : decode cX7_count 0 = .ok (.aload_n 0, 1) := dk_42 (dk_at dksX7_count_0 0 rfl rfl)
theorem dX7_count_1 : decode cX7_count 1 = .ok (.iconst 0, 1) := dk_3 (dk_at dksX7_count_0 1 rfl rfl)
theorem dX7_count_2 : decode cX7_count 2 = .ok (.putfield 72, 3) := dk_181 0 72 (dk_at dksX7_count_0 2 rfl rfl)
theorem dX7_count_5 : decode cX7_count 5 = .ok (.iload_n 1, 1) := dk_27 (dk_at dksX7_count_0 5 rfl rfl)
theorem dX7_count_6 : decode cX7_count 6 = .ok (.tableswitch 95 0 8 #[50, 55, 60, 65, 70, 75, 80, 85, 90], 50) := by decide +kernel
theorem dX7_count_56 : decode cX7_count 56 = .ok (.aload_n 0, 1) := dk_42 (dk_at dksX7_count_2 0 rfl rfl)
theorem dX7_count_57 : decode cX7_count 57 = .ok (.getfield 175, 3) := dk_180 0 175 (dk_at dksX7_count_2 1 rfl rfl)
theorem dX7_count_60 : decode cX7_count 60 = .ok (.ireturn, 1) := dk_172 (dk_at dksX7_count_2 4 rfl rfl)
theorem dX7_count_61 : decode cX7_count 61 = .ok (.aload_n 0, 1) := dk_42 (dk_at dksX7_count_2 5 rfl rfl)
theorem dX7_count_62 : decode cX7_count 62 = .ok (.getfield 69, 3) := dk_180 0 69 (dk_at dksX7_count_2 6 rfl rfl)
theorem dX7_count_65 : decode cX7_count 65 = .ok (.ireturn, 1) := dk_172 (dk_at dksX7_count_2 9 rfl rfl)
theorem dX7_count_66 : decode cX7_count 66 = .ok (.aload_n 0, 1) := dk_42 (dk_at dksX7_count_2 10 rfl rfl)
theorem dX7_count_67 : decode cX7_count 67 = .ok (.invokevirtual 275, 3) := dk_182 1 19 (dk_at dksX7_count_2 11 rfl rfl)
theorem dX7_count_70 : decode cX7_count 70 = .ok (.ireturn, 1) := dk_172 (dk_at dksX7_count_2 14 rfl rfl)
theorem dX7_count_71 : decode cX7_count 71 = .ok (.aload_n 0, 1) := dk_42 (dk_at dksX7_count_2 15 rfl rfl)
theorem dX7_count_72 : decode cX7_count 72 = .ok (.getfield 178, 3) := dk_180 0 178 (dk_at dksX7_count_2 16 rfl rfl)
theorem dX7_count_75 : decode cX7_count 75 = .ok (.ireturn, 1) := dk_172 (dk_at dksX7_count_2 19 rfl rfl)
theorem dX7_count_76 : decode cX7_count 76 = .ok (.aload_n 0, 1) := dk_42 (dk_at dksX7_count_2 20 rfl rfl)
theorem dX7_count_77 : decode cX7_count 77 = .ok (.getfield 181, 3) := dk_180 0 181 (dk_at dksX7_count_2 21 rfl rfl)
theorem dX7_count_80 : decode cX7_count 80 = .ok (.ireturn, 1) := dk_172 (dk_at dksX7_count_3 0 rfl rfl)
theorem dX7_count_81 : decode cX7_count 81 = .ok (.aload_n 0, 1) := dk_42 (dk_at dksX7_count_3 1 rfl rfl)
theorem dX7_count_82 : decode cX7_count 82 = .ok (.invokevirtual 290, 3) := dk_182 1 34 (dk_at dksX7_count_3 2 rfl rfl)
theorem dX7_count_85 : decode cX7_count 85 = .ok (.ireturn, 1) := dk_172 (dk_at dksX7_count_3 5 rfl rfl)
theorem dX7_count_86 : decode cX7_count 86 = .ok (.aload_n 0, 1) := dk_42 (dk_at dksX7_count_3 6 rfl rfl)
theorem dX7_count_87 : decode cX7_count 87 = .ok (.getfield 184, 3) := dk_180 0 184 (dk_at dksX7_count_3 7 rfl rfl)
theorem dX7_count_90 : decode cX7_count 90 = .ok (.ireturn, 1) := dk_172 (dk_at dksX7_count_3 10 rfl rfl)
theorem dX7_count_91 : decode cX7_count 91 = .ok (.aload_n 0, 1) := dk_42 (dk_at dksX7_count_3 11 rfl rfl)
theorem dX7_count_92 : decode cX7_count 92 = .ok (.invokevirtual 293, 3) := dk_182 1 37 (dk_at dksX7_count_3 12 rfl rfl)
theorem dX7_count_95 : decode cX7_count 95 = .ok (.ireturn, 1) := dk_172 (dk_at dksX7_count_3 15 rfl rfl)
theorem dX7_count_96 : decode cX7_count 96 = .ok (.aload_n 0, 1) := dk_42 (dk_at dksX7_count_3 16 rfl rfl)
theorem dX7_count_97 : decode cX7_count 97 = .ok (.getfield 75, 3) := dk_180 0 75 (dk_at dksX7_count_3 17 rfl rfl)
theorem dX7_count_100 : decode cX7_count 100 = .ok (.ireturn, 1) := dk_172 (dk_at dksX7_count_3 20 rfl rfl)
theorem dX7_count_101 : decode cX7_count 101 = .ok (.iconst (-1), 1) := dk_2 (dk_at dksX7_count_3 21 rfl rfl)
theorem dX7_count_102 : decode cX7_count 102 = .ok (.ireturn, 1) := dk_172 (dk_at dksX7_count_3 22 rfl rfl)
abbrev cX7_unlikeOf : ByteArray := prog_19_method_101_code
def yX7_unlikeOf : MethodName := ⟨RX7, "unlikeOf", "()I"⟩
def dkwX7_unlikeOf_0 : List UInt8 := [42, 3, 42, 180, 0, 175, 4, 100, 2, 182, 0, 252, 42, 180, 0, 242, 172]
abbrev dktX7_unlikeOf_0 : List UInt8 := dkwX7_unlikeOf_0 ++ []
theorem dksX7_unlikeOf_0 : cX7_unlikeOf.data.toList.drop 0 = dktX7_unlikeOf_0 := by decide +kernel
theorem dX7_unlikeOf_0 : decode cX7_unlikeOf 0 = .ok (.aload_n 0, 1) := dk_42 (dk_at dksX7_unlikeOf_0 0 rfl rfl)
theorem dX7_unlikeOf_1 : decode cX7_unlikeOf 1 = .ok (.iconst 0, 1) := dk_3 (dk_at dksX7_unlikeOf_0 1 rfl rfl)
theorem dX7_unlikeOf_2 : decode cX7_unlikeOf 2 = .ok (.aload_n 0, 1) := dk_42 (dk_at dksX7_unlikeOf_0 2 rfl rfl)
theorem dX7_unlikeOf_3 : decode cX7_unlikeOf 3 = .ok (.getfield 175, 3) := dk_180 0 175 (dk_at dksX7_unlikeOf_0 3 rfl rfl)
theorem dX7_unlikeOf_6 : decode cX7_unlikeOf 6 = .ok (.iconst 1, 1) := dk_4 (dk_at dksX7_unlikeOf_0 6 rfl rfl)
theorem dX7_unlikeOf_7 : decode cX7_unlikeOf 7 = .ok (.isub, 1) := dk_100 (dk_at dksX7_unlikeOf_0 7 rfl rfl)
theorem dX7_unlikeOf_8 : decode cX7_unlikeOf 8 = .ok (.iconst (-1), 1) := dk_2 (dk_at dksX7_unlikeOf_0 8 rfl rfl)
theorem dX7_unlikeOf_9 : decode cX7_unlikeOf 9 = .ok (.invokevirtual 252, 3) := dk_182 0 252 (dk_at dksX7_unlikeOf_0 9 rfl rfl)
theorem dX7_unlikeOf_12 : decode cX7_unlikeOf 12 = .ok (.aload_n 0, 1) := dk_42 (dk_at dksX7_unlikeOf_0 12 rfl rfl)
theorem dX7_unlikeOf_13 : decode cX7_unlikeOf 13 = .ok (.getfield 242, 3) := dk_180 0 242 (dk_at dksX7_unlikeOf_0 13 rfl rfl)
theorem dX7_unlikeOf_16 : decode cX7_unlikeOf 16 = .ok (.ireturn, 1) := dk_172 (dk_at dksX7_unlikeOf_0 16 rfl rfl)
abbrev cX7_weightsIn : ByteArray := prog_19_method_102_code
def yX7_weightsIn : MethodName := ⟨RX7, "weightsIn", "()I"⟩
def dkwX7_weightsIn_1 : List UInt8 := [167, 255, 236, 27, 172]
abbrev dktX7_weightsIn_1 : List UInt8 := dkwX7_weightsIn_1 ++ []
def dkwX7_weightsIn_0 : List UInt8 := [3, 60, 3, 61, 28, 42, 180, 0, 175, 162, 0, 18, 27, 42, 180, 0, 16, 28, 46, 96, 60, 132, 2, 1]
abbrev dktX7_weightsIn_0 : List UInt8 := dkwX7_weightsIn_0 ++ dktX7_weightsIn_1
theorem dksX7_weightsIn_0 : cX7_weightsIn.data.toList.drop 0 = dktX7_weightsIn_0 := by decide +kernel
theorem dksX7_weightsIn_1 : cX7_weightsIn.data.toList.drop 24 = dktX7_weightsIn_1 := dk_seg dksX7_weightsIn_0 24 rfl rfl
theorem dX7_weightsIn_0 : decode cX7_weightsIn 0 = .ok (.iconst 0, 1) := dk_3 (dk_at dksX7_weightsIn_0 0 rfl rfl)
theorem dX7_weightsIn_1 : decode cX7_weightsIn 1 = .ok (.istore_n 1, 1) := dk_60 (dk_at dksX7_weightsIn_0 1 rfl rfl)
theorem dX7_weightsIn_2 : decode cX7_weightsIn 2 = .ok (.iconst 0, 1) := dk_3 (dk_at dksX7_weightsIn_0 2 rfl rfl)
theorem dX7_weightsIn_3 : decode cX7_weightsIn 3 = .ok (.istore_n 2, 1) := dk_61 (dk_at dksX7_weightsIn_0 3 rfl rfl)
theorem dX7_weightsIn_4 : decode cX7_weightsIn 4 = .ok (.iload_n 2, 1) := dk_28 (dk_at dksX7_weightsIn_0 4 rfl rfl)
theorem dX7_weightsIn_5 : decode cX7_weightsIn 5 = .ok (.aload_n 0, 1) := dk_42 (dk_at dksX7_weightsIn_0 5 rfl rfl)
theorem dX7_weightsIn_6 : decode cX7_weightsIn 6 = .ok (.getfield 175, 3) := dk_180 0 175 (dk_at dksX7_weightsIn_0 6 rfl rfl)
theorem dX7_weightsIn_9 : decode cX7_weightsIn 9 = .ok (.if_icmp .ge 18, 3) := dk_162 0 18 (dk_at dksX7_weightsIn_0 9 rfl rfl)
theorem dX7_weightsIn_12 : decode cX7_weightsIn 12 = .ok (.iload_n 1, 1) := dk_27 (dk_at dksX7_weightsIn_0 12 rfl rfl)
theorem dX7_weightsIn_13 : decode cX7_weightsIn 13 = .ok (.aload_n 0, 1) := dk_42 (dk_at dksX7_weightsIn_0 13 rfl rfl)
theorem dX7_weightsIn_14 : decode cX7_weightsIn 14 = .ok (.getfield 16, 3) := dk_180 0 16 (dk_at dksX7_weightsIn_0 14 rfl rfl)
theorem dX7_weightsIn_17 : decode cX7_weightsIn 17 = .ok (.iload_n 2, 1) := dk_28 (dk_at dksX7_weightsIn_0 17 rfl rfl)
theorem dX7_weightsIn_18 : decode cX7_weightsIn 18 = .ok (.iaload, 1) := dk_46 (dk_at dksX7_weightsIn_0 18 rfl rfl)
theorem dX7_weightsIn_19 : decode cX7_weightsIn 19 = .ok (.iadd, 1) := dk_96 (dk_at dksX7_weightsIn_0 19 rfl rfl)
theorem dX7_weightsIn_20 : decode cX7_weightsIn 20 = .ok (.istore_n 1, 1) := dk_60 (dk_at dksX7_weightsIn_0 20 rfl rfl)
theorem dX7_weightsIn_21 : decode cX7_weightsIn 21 = .ok (.iinc 2 1, 3) := dk_132 2 1 (dk_at dksX7_weightsIn_0 21 rfl rfl)
theorem dX7_weightsIn_24 : decode cX7_weightsIn 24 = .ok (.goto (-20), 3) := dk_167 255 236 (dk_at dksX7_weightsIn_1 0 rfl rfl)
theorem dX7_weightsIn_27 : decode cX7_weightsIn 27 = .ok (.iload_n 1, 1) := dk_27 (dk_at dksX7_weightsIn_1 3 rfl rfl)
theorem dX7_weightsIn_28 : decode cX7_weightsIn 28 = .ok (.ireturn, 1) := dk_172 (dk_at dksX7_weightsIn_1 4 rfl rfl)
theorem q95 : (Jvm.Cond.initialized "ModeDeskModel") ∈ lw_all := lw_g (lw_at lw_m1 7 rfl) rfl
theorem q1415 : (Jvm.Cond.instantiable "ModeDeskModel" (42 : Nat)) ∈ lw_all := lw_g (lw_at lw_m6 127 rfl) rfl
theorem q1417 : (Jvm.Cond.instanceMethod ({ cls := "ModeDeskModel", name := "<init>", desc := "()V" } : Jvm.MethodName)) ∈ lw_all := lw_g (lw_at lw_m6 129 rfl) rfl
theorem q1418 : (Jvm.Cond.code ({ cls := "ModeDeskModel", name := "<init>", desc := "()V" } : Jvm.MethodName) prog_19_method_1_code (1 : Nat) (Option.none : Option Jvm.ClassFile.FieldType)) ∈ lw_all := lw_g (lw_at lw_m6 130 rfl) rfl
theorem q1419 : (Jvm.Cond.methodLink "ModeDeskModel" (1 : Nat) ({ cls := "java/lang/Object", name := "<init>", desc := "()V" } : Jvm.MethodName)) ∈ lw_all := lw_g (lw_at lw_m6 131 rfl) rfl
theorem q1420 : (Jvm.Cond.fieldLink "ModeDeskModel" (72 : Nat) "ModeDeskModel" "thrown" "I") ∈ lw_all := lw_g (lw_at lw_m6 132 rfl) rfl
theorem q1421 : (Jvm.Cond.fieldLink "ModeDeskModel" (7 : Nat) "ModeDeskModel" "tape" "[I") ∈ lw_all := lw_g (lw_at lw_m6 133 rfl) rfl
theorem q1422 : (Jvm.Cond.fieldLink "ModeDeskModel" (75 : Nat) "ModeDeskModel" "taped" "I") ∈ lw_all := lw_g (lw_at lw_m6 134 rfl) rfl
theorem q1423 : (Jvm.Cond.fieldLink "ModeDeskModel" (13 : Nat) "ModeDeskModel" "value" "[I") ∈ lw_all := lw_g (lw_at lw_m6 135 rfl) rfl
theorem q1424 : (Jvm.Cond.fieldLink "ModeDeskModel" (16 : Nat) "ModeDeskModel" "weight" "[I") ∈ lw_all := lw_g (lw_at lw_m6 136 rfl) rfl
theorem q1425 : (Jvm.Cond.fieldLink "ModeDeskModel" (175 : Nat) "ModeDeskModel" "many" "I") ∈ lw_all := lw_g (lw_at lw_m6 137 rfl) rfl
theorem q1426 : (Jvm.Cond.fieldLink "ModeDeskModel" (69 : Nat) "ModeDeskModel" "block" "I") ∈ lw_all := lw_g (lw_at lw_m6 138 rfl) rfl
theorem q1427 : (Jvm.Cond.fieldLink "ModeDeskModel" (178 : Nat) "ModeDeskModel" "ties" "I") ∈ lw_all := lw_g (lw_at lw_m6 139 rfl) rfl
theorem q1428 : (Jvm.Cond.fieldLink "ModeDeskModel" (181 : Nat) "ModeDeskModel" "lines" "I") ∈ lw_all := lw_g (lw_at lw_m6 140 rfl) rfl
theorem q1429 : (Jvm.Cond.fieldLink "ModeDeskModel" (19 : Nat) "ModeDeskModel" "pastValue" "[I") ∈ lw_all := lw_g (lw_at lw_m6 141 rfl) rfl
theorem q1430 : (Jvm.Cond.fieldLink "ModeDeskModel" (22 : Nat) "ModeDeskModel" "pastWeight" "[I") ∈ lw_all := lw_g (lw_at lw_m6 142 rfl) rfl
theorem q1431 : (Jvm.Cond.fieldLink "ModeDeskModel" (25 : Nat) "ModeDeskModel" "pastMany" "[I") ∈ lw_all := lw_g (lw_at lw_m6 143 rfl) rfl
theorem q1432 : (Jvm.Cond.fieldLink "ModeDeskModel" (184 : Nat) "ModeDeskModel" "undos" "I") ∈ lw_all := lw_g (lw_at lw_m6 144 rfl) rfl
theorem q1433 : (Jvm.Cond.fieldLink "ModeDeskModel" (28 : Nat) "ModeDeskModel" "fresh" "I") ∈ lw_all := lw_g (lw_at lw_m6 145 rfl) rfl
theorem q1434 : (Jvm.Cond.fieldLink "ModeDeskModel" (32 : Nat) "ModeDeskModel" "newValue" "[I") ∈ lw_all := lw_g (lw_at lw_m6 146 rfl) rfl
theorem q1435 : (Jvm.Cond.fieldLink "ModeDeskModel" (35 : Nat) "ModeDeskModel" "newWeight" "[I") ∈ lw_all := lw_g (lw_at lw_m6 147 rfl) rfl
theorem q1436 : (Jvm.Cond.fieldLink "ModeDeskModel" (134 : Nat) "ModeDeskModel" "newMany" "I") ∈ lw_all := lw_g (lw_at lw_m6 148 rfl) rfl
theorem q1437 : (Jvm.Cond.fieldLink "ModeDeskModel" (145 : Nat) "ModeDeskModel" "newBlock" "I") ∈ lw_all := lw_g (lw_at lw_m6 149 rfl) rfl
theorem q1438 : (Jvm.Cond.fieldLink "ModeDeskModel" (151 : Nat) "ModeDeskModel" "newTies" "I") ∈ lw_all := lw_g (lw_at lw_m6 150 rfl) rfl
theorem q1439 : (Jvm.Cond.fieldLink "ModeDeskModel" (166 : Nat) "ModeDeskModel" "newLines" "I") ∈ lw_all := lw_g (lw_at lw_m6 151 rfl) rfl
theorem q1440 : (Jvm.Cond.fieldLink "ModeDeskModel" (141 : Nat) "ModeDeskModel" "hasBlock" "Z") ∈ lw_all := lw_g (lw_at lw_m6 152 rfl) rfl
theorem q1441 : (Jvm.Cond.fieldLink "ModeDeskModel" (148 : Nat) "ModeDeskModel" "hasTies" "Z") ∈ lw_all := lw_g (lw_at lw_m6 153 rfl) rfl
theorem q1442 : (Jvm.Cond.fieldLink "ModeDeskModel" (81 : Nat) "ModeDeskModel" "size" "I") ∈ lw_all := lw_g (lw_at lw_m6 154 rfl) rfl
theorem q1443 : (Jvm.Cond.fieldLink "ModeDeskModel" (78 : Nat) "ModeDeskModel" "at" "I") ∈ lw_all := lw_g (lw_at lw_m6 155 rfl) rfl
theorem q1444 : (Jvm.Cond.fieldLink "ModeDeskModel" (88 : Nat) "ModeDeskModel" "place" "I") ∈ lw_all := lw_g (lw_at lw_m6 156 rfl) rfl
theorem q1445 : (Jvm.Cond.fieldLink "ModeDeskModel" (91 : Nat) "ModeDeskModel" "sort" "I") ∈ lw_all := lw_g (lw_at lw_m6 157 rfl) rfl
theorem q1446 : (Jvm.Cond.fieldLink "ModeDeskModel" (101 : Nat) "ModeDeskModel" "number" "I") ∈ lw_all := lw_g (lw_at lw_m6 158 rfl) rfl
theorem q1447 : (Jvm.Cond.fieldLink "ModeDeskModel" (118 : Nat) "ModeDeskModel" "fault" "I") ∈ lw_all := lw_g (lw_at lw_m6 159 rfl) rfl
theorem q1448 : (Jvm.Cond.fieldLink "ModeDeskModel" (121 : Nat) "ModeDeskModel" "faultPlace" "I") ∈ lw_all := lw_g (lw_at lw_m6 160 rfl) rfl
theorem q1449 : (Jvm.Cond.fieldLink "ModeDeskModel" (172 : Nat) "ModeDeskModel" "lastFault" "I") ∈ lw_all := lw_g (lw_at lw_m6 161 rfl) rfl
theorem q1450 : (Jvm.Cond.fieldLink "ModeDeskModel" (38 : Nat) "ModeDeskModel" "lastPlace" "I") ∈ lw_all := lw_g (lw_at lw_m6 162 rfl) rfl
theorem q1451 : (Jvm.Cond.fieldLink "ModeDeskModel" (41 : Nat) "ModeDeskModel" "toValue" "[I") ∈ lw_all := lw_g (lw_at lw_m6 163 rfl) rfl
theorem q1452 : (Jvm.Cond.fieldLink "ModeDeskModel" (44 : Nat) "ModeDeskModel" "toWeight" "[I") ∈ lw_all := lw_g (lw_at lw_m6 164 rfl) rfl
theorem q1453 : (Jvm.Cond.fieldLink "ModeDeskModel" (197 : Nat) "ModeDeskModel" "toMany" "I") ∈ lw_all := lw_g (lw_at lw_m6 165 rfl) rfl
theorem q1454 : (Jvm.Cond.fieldLink "ModeDeskModel" (47 : Nat) "ModeDeskModel" "often" "[I") ∈ lw_all := lw_g (lw_at lw_m6 166 rfl) rfl
theorem q1455 : (Jvm.Cond.fieldLink "ModeDeskModel" (50 : Nat) "ModeDeskModel" "firstOf" "[I") ∈ lw_all := lw_g (lw_at lw_m6 167 rfl) rfl
theorem q1456 : (Jvm.Cond.fieldLink "ModeDeskModel" (53 : Nat) "ModeDeskModel" "lastOf" "[I") ∈ lw_all := lw_g (lw_at lw_m6 168 rfl) rfl
theorem q1457 : (Jvm.Cond.fieldLink "ModeDeskModel" (56 : Nat) "ModeDeskModel" "unlikes" "[I") ∈ lw_all := lw_g (lw_at lw_m6 169 rfl) rfl
theorem q1458 : (Jvm.Cond.fieldLink "ModeDeskModel" (242 : Nat) "ModeDeskModel" "unlikeMany" "I") ∈ lw_all := lw_g (lw_at lw_m6 170 rfl) rfl
theorem q1459 : (Jvm.Cond.fieldLink "ModeDeskModel" (59 : Nat) "ModeDeskModel" "isCandidate" "[Z") ∈ lw_all := lw_g (lw_at lw_m6 171 rfl) rfl
theorem q1460 : (Jvm.Cond.fieldLink "ModeDeskModel" (63 : Nat) "ModeDeskModel" "modes" "[I") ∈ lw_all := lw_g (lw_at lw_m6 172 rfl) rfl
theorem q1461 : (Jvm.Cond.fieldLink "ModeDeskModel" (66 : Nat) "ModeDeskModel" "fewest" "[I") ∈ lw_all := lw_g (lw_at lw_m6 173 rfl) rfl
theorem q1462 : (Jvm.Cond.lays "ModeDeskModel" "ModeDeskModel" "thrown" "I") ∈ lw_all := lw_g (lw_at lw_m6 174 rfl) rfl
theorem q1463 : (Jvm.Cond.soleField "ModeDeskModel" "thrown") ∈ lw_all := lw_g (lw_at lw_m6 175 rfl) rfl
theorem q1464 : (Jvm.Cond.laysFinal "ModeDeskModel" "ModeDeskModel" "tape" "[I") ∈ lw_all := lw_g (lw_at lw_m6 176 rfl) rfl
theorem q1465 : (Jvm.Cond.soleField "ModeDeskModel" "tape") ∈ lw_all := lw_g (lw_at lw_m6 177 rfl) rfl
theorem q1466 : (Jvm.Cond.lays "ModeDeskModel" "ModeDeskModel" "taped" "I") ∈ lw_all := lw_g (lw_at lw_m6 178 rfl) rfl
theorem q1467 : (Jvm.Cond.soleField "ModeDeskModel" "taped") ∈ lw_all := lw_g (lw_at lw_m6 179 rfl) rfl
theorem q1468 : (Jvm.Cond.laysFinal "ModeDeskModel" "ModeDeskModel" "value" "[I") ∈ lw_all := lw_g (lw_at lw_m6 180 rfl) rfl
theorem q1469 : (Jvm.Cond.soleField "ModeDeskModel" "value") ∈ lw_all := lw_g (lw_at lw_m6 181 rfl) rfl
theorem q1470 : (Jvm.Cond.laysFinal "ModeDeskModel" "ModeDeskModel" "weight" "[I") ∈ lw_all := lw_g (lw_at lw_m6 182 rfl) rfl
theorem q1471 : (Jvm.Cond.soleField "ModeDeskModel" "weight") ∈ lw_all := lw_g (lw_at lw_m6 183 rfl) rfl
theorem q1472 : (Jvm.Cond.lays "ModeDeskModel" "ModeDeskModel" "many" "I") ∈ lw_all := lw_g (lw_at lw_m6 184 rfl) rfl
theorem q1473 : (Jvm.Cond.soleField "ModeDeskModel" "many") ∈ lw_all := lw_g (lw_at lw_m6 185 rfl) rfl
theorem q1474 : (Jvm.Cond.lays "ModeDeskModel" "ModeDeskModel" "block" "I") ∈ lw_all := lw_g (lw_at lw_m6 186 rfl) rfl
theorem q1475 : (Jvm.Cond.soleField "ModeDeskModel" "block") ∈ lw_all := lw_g (lw_at lw_m6 187 rfl) rfl
theorem q1476 : (Jvm.Cond.lays "ModeDeskModel" "ModeDeskModel" "ties" "I") ∈ lw_all := lw_g (lw_at lw_m6 188 rfl) rfl
theorem q1477 : (Jvm.Cond.soleField "ModeDeskModel" "ties") ∈ lw_all := lw_g (lw_at lw_m6 189 rfl) rfl
theorem q1478 : (Jvm.Cond.lays "ModeDeskModel" "ModeDeskModel" "lines" "I") ∈ lw_all := lw_g (lw_at lw_m6 190 rfl) rfl
theorem q1479 : (Jvm.Cond.soleField "ModeDeskModel" "lines") ∈ lw_all := lw_g (lw_at lw_m6 191 rfl) rfl
theorem q1480 : (Jvm.Cond.laysFinal "ModeDeskModel" "ModeDeskModel" "pastValue" "[I") ∈ lw_all := lw_g (lw_at lw_m6 192 rfl) rfl
theorem q1481 : (Jvm.Cond.soleField "ModeDeskModel" "pastValue") ∈ lw_all := lw_g (lw_at lw_m6 193 rfl) rfl
theorem q1482 : (Jvm.Cond.laysFinal "ModeDeskModel" "ModeDeskModel" "pastWeight" "[I") ∈ lw_all := lw_g (lw_at lw_m6 194 rfl) rfl
theorem q1483 : (Jvm.Cond.soleField "ModeDeskModel" "pastWeight") ∈ lw_all := lw_g (lw_at lw_m6 195 rfl) rfl
theorem q1484 : (Jvm.Cond.laysFinal "ModeDeskModel" "ModeDeskModel" "pastMany" "[I") ∈ lw_all := lw_g (lw_at lw_m6 196 rfl) rfl
theorem q1485 : (Jvm.Cond.soleField "ModeDeskModel" "pastMany") ∈ lw_all := lw_g (lw_at lw_m6 197 rfl) rfl
theorem q1486 : (Jvm.Cond.lays "ModeDeskModel" "ModeDeskModel" "undos" "I") ∈ lw_all := lw_g (lw_at lw_m6 198 rfl) rfl
theorem q1487 : (Jvm.Cond.soleField "ModeDeskModel" "undos") ∈ lw_all := lw_g (lw_at lw_m6 199 rfl) rfl
theorem q1488 : (Jvm.Cond.lays "ModeDeskModel" "ModeDeskModel" "fresh" "I") ∈ lw_all := lw_g (lw_at lw_m6 200 rfl) rfl
theorem q1489 : (Jvm.Cond.soleField "ModeDeskModel" "fresh") ∈ lw_all := lw_g (lw_at lw_m6 201 rfl) rfl
theorem q1490 : (Jvm.Cond.laysFinal "ModeDeskModel" "ModeDeskModel" "newValue" "[I") ∈ lw_all := lw_g (lw_at lw_m6 202 rfl) rfl
theorem q1491 : (Jvm.Cond.soleField "ModeDeskModel" "newValue") ∈ lw_all := lw_g (lw_at lw_m6 203 rfl) rfl
theorem q1492 : (Jvm.Cond.laysFinal "ModeDeskModel" "ModeDeskModel" "newWeight" "[I") ∈ lw_all := lw_g (lw_at lw_m6 204 rfl) rfl
theorem q1493 : (Jvm.Cond.soleField "ModeDeskModel" "newWeight") ∈ lw_all := lw_g (lw_at lw_m6 205 rfl) rfl
theorem q1494 : (Jvm.Cond.lays "ModeDeskModel" "ModeDeskModel" "newMany" "I") ∈ lw_all := lw_g (lw_at lw_m6 206 rfl) rfl
theorem q1495 : (Jvm.Cond.soleField "ModeDeskModel" "newMany") ∈ lw_all := lw_g (lw_at lw_m6 207 rfl) rfl
theorem q1496 : (Jvm.Cond.lays "ModeDeskModel" "ModeDeskModel" "newBlock" "I") ∈ lw_all := lw_g (lw_at lw_m6 208 rfl) rfl
theorem q1497 : (Jvm.Cond.soleField "ModeDeskModel" "newBlock") ∈ lw_all := lw_g (lw_at lw_m6 209 rfl) rfl
theorem q1498 : (Jvm.Cond.lays "ModeDeskModel" "ModeDeskModel" "newTies" "I") ∈ lw_all := lw_g (lw_at lw_m6 210 rfl) rfl
theorem q1499 : (Jvm.Cond.soleField "ModeDeskModel" "newTies") ∈ lw_all := lw_g (lw_at lw_m6 211 rfl) rfl
theorem q1500 : (Jvm.Cond.lays "ModeDeskModel" "ModeDeskModel" "newLines" "I") ∈ lw_all := lw_g (lw_at lw_m6 212 rfl) rfl
theorem q1501 : (Jvm.Cond.soleField "ModeDeskModel" "newLines") ∈ lw_all := lw_g (lw_at lw_m6 213 rfl) rfl
theorem q1502 : (Jvm.Cond.lays "ModeDeskModel" "ModeDeskModel" "hasBlock" "Z") ∈ lw_all := lw_g (lw_at lw_m6 214 rfl) rfl
theorem q1503 : (Jvm.Cond.soleField "ModeDeskModel" "hasBlock") ∈ lw_all := lw_g (lw_at lw_m6 215 rfl) rfl
theorem q1504 : (Jvm.Cond.lays "ModeDeskModel" "ModeDeskModel" "hasTies" "Z") ∈ lw_all := lw_g (lw_at lw_m6 216 rfl) rfl
theorem q1505 : (Jvm.Cond.soleField "ModeDeskModel" "hasTies") ∈ lw_all := lw_g (lw_at lw_m6 217 rfl) rfl
theorem q1506 : (Jvm.Cond.lays "ModeDeskModel" "ModeDeskModel" "size" "I") ∈ lw_all := lw_g (lw_at lw_m6 218 rfl) rfl
theorem q1507 : (Jvm.Cond.soleField "ModeDeskModel" "size") ∈ lw_all := lw_g (lw_at lw_m6 219 rfl) rfl
theorem q1508 : (Jvm.Cond.lays "ModeDeskModel" "ModeDeskModel" "at" "I") ∈ lw_all := lw_g (lw_at lw_m6 220 rfl) rfl
theorem q1509 : (Jvm.Cond.soleField "ModeDeskModel" "at") ∈ lw_all := lw_g (lw_at lw_m6 221 rfl) rfl
theorem q1510 : (Jvm.Cond.lays "ModeDeskModel" "ModeDeskModel" "place" "I") ∈ lw_all := lw_g (lw_at lw_m6 222 rfl) rfl
theorem q1511 : (Jvm.Cond.soleField "ModeDeskModel" "place") ∈ lw_all := lw_g (lw_at lw_m6 223 rfl) rfl
theorem q1512 : (Jvm.Cond.lays "ModeDeskModel" "ModeDeskModel" "sort" "I") ∈ lw_all := lw_g (lw_at lw_m6 224 rfl) rfl
theorem q1513 : (Jvm.Cond.soleField "ModeDeskModel" "sort") ∈ lw_all := lw_g (lw_at lw_m6 225 rfl) rfl
theorem q1514 : (Jvm.Cond.lays "ModeDeskModel" "ModeDeskModel" "number" "I") ∈ lw_all := lw_g (lw_at lw_m6 226 rfl) rfl
theorem q1515 : (Jvm.Cond.soleField "ModeDeskModel" "number") ∈ lw_all := lw_g (lw_at lw_m6 227 rfl) rfl
theorem q1516 : (Jvm.Cond.lays "ModeDeskModel" "ModeDeskModel" "fault" "I") ∈ lw_all := lw_g (lw_at lw_m6 228 rfl) rfl
theorem q1517 : (Jvm.Cond.soleField "ModeDeskModel" "fault") ∈ lw_all := lw_g (lw_at lw_m6 229 rfl) rfl
theorem q1518 : (Jvm.Cond.lays "ModeDeskModel" "ModeDeskModel" "faultPlace" "I") ∈ lw_all := lw_g (lw_at lw_m6 230 rfl) rfl
theorem q1519 : (Jvm.Cond.soleField "ModeDeskModel" "faultPlace") ∈ lw_all := lw_g (lw_at lw_m6 231 rfl) rfl
theorem q1520 : (Jvm.Cond.lays "ModeDeskModel" "ModeDeskModel" "lastFault" "I") ∈ lw_all := lw_g (lw_at lw_m6 232 rfl) rfl
theorem q1521 : (Jvm.Cond.soleField "ModeDeskModel" "lastFault") ∈ lw_all := lw_g (lw_at lw_m6 233 rfl) rfl
theorem q1522 : (Jvm.Cond.lays "ModeDeskModel" "ModeDeskModel" "lastPlace" "I") ∈ lw_all := lw_g (lw_at lw_m6 234 rfl) rfl
theorem q1523 : (Jvm.Cond.soleField "ModeDeskModel" "lastPlace") ∈ lw_all := lw_g (lw_at lw_m6 235 rfl) rfl
theorem q1524 : (Jvm.Cond.laysFinal "ModeDeskModel" "ModeDeskModel" "toValue" "[I") ∈ lw_all := lw_g (lw_at lw_m6 236 rfl) rfl
theorem q1525 : (Jvm.Cond.soleField "ModeDeskModel" "toValue") ∈ lw_all := lw_g (lw_at lw_m6 237 rfl) rfl
theorem q1526 : (Jvm.Cond.laysFinal "ModeDeskModel" "ModeDeskModel" "toWeight" "[I") ∈ lw_all := lw_g (lw_at lw_m6 238 rfl) rfl
theorem q1527 : (Jvm.Cond.soleField "ModeDeskModel" "toWeight") ∈ lw_all := lw_g (lw_at lw_m6 239 rfl) rfl
theorem q1528 : (Jvm.Cond.lays "ModeDeskModel" "ModeDeskModel" "toMany" "I") ∈ lw_all := lw_g (lw_at lw_m7 0 rfl) rfl
theorem q1529 : (Jvm.Cond.soleField "ModeDeskModel" "toMany") ∈ lw_all := lw_g (lw_at lw_m7 1 rfl) rfl
theorem q1530 : (Jvm.Cond.laysFinal "ModeDeskModel" "ModeDeskModel" "often" "[I") ∈ lw_all := lw_g (lw_at lw_m7 2 rfl) rfl
theorem q1531 : (Jvm.Cond.soleField "ModeDeskModel" "often") ∈ lw_all := lw_g (lw_at lw_m7 3 rfl) rfl
theorem q1532 : (Jvm.Cond.laysFinal "ModeDeskModel" "ModeDeskModel" "firstOf" "[I") ∈ lw_all := lw_g (lw_at lw_m7 4 rfl) rfl
theorem q1533 : (Jvm.Cond.soleField "ModeDeskModel" "firstOf") ∈ lw_all := lw_g (lw_at lw_m7 5 rfl) rfl
theorem q1534 : (Jvm.Cond.laysFinal "ModeDeskModel" "ModeDeskModel" "lastOf" "[I") ∈ lw_all := lw_g (lw_at lw_m7 6 rfl) rfl
theorem q1535 : (Jvm.Cond.soleField "ModeDeskModel" "lastOf") ∈ lw_all := lw_g (lw_at lw_m7 7 rfl) rfl
theorem q1536 : (Jvm.Cond.laysFinal "ModeDeskModel" "ModeDeskModel" "unlikes" "[I") ∈ lw_all := lw_g (lw_at lw_m7 8 rfl) rfl
theorem q1537 : (Jvm.Cond.soleField "ModeDeskModel" "unlikes") ∈ lw_all := lw_g (lw_at lw_m7 9 rfl) rfl
theorem q1538 : (Jvm.Cond.lays "ModeDeskModel" "ModeDeskModel" "unlikeMany" "I") ∈ lw_all := lw_g (lw_at lw_m7 10 rfl) rfl
theorem q1539 : (Jvm.Cond.soleField "ModeDeskModel" "unlikeMany") ∈ lw_all := lw_g (lw_at lw_m7 11 rfl) rfl
theorem q1540 : (Jvm.Cond.laysFinal "ModeDeskModel" "ModeDeskModel" "isCandidate" "[Z") ∈ lw_all := lw_g (lw_at lw_m7 12 rfl) rfl
theorem q1541 : (Jvm.Cond.soleField "ModeDeskModel" "isCandidate") ∈ lw_all := lw_g (lw_at lw_m7 13 rfl) rfl
theorem q1542 : (Jvm.Cond.laysFinal "ModeDeskModel" "ModeDeskModel" "modes" "[I") ∈ lw_all := lw_g (lw_at lw_m7 14 rfl) rfl
theorem q1543 : (Jvm.Cond.soleField "ModeDeskModel" "modes") ∈ lw_all := lw_g (lw_at lw_m7 15 rfl) rfl
theorem q1544 : (Jvm.Cond.laysFinal "ModeDeskModel" "ModeDeskModel" "fewest" "[I") ∈ lw_all := lw_g (lw_at lw_m7 16 rfl) rfl
theorem q1545 : (Jvm.Cond.soleField "ModeDeskModel" "fewest") ∈ lw_all := lw_g (lw_at lw_m7 17 rfl) rfl
theorem q1546 : (Jvm.Cond.superclass "ModeDeskModel" "java/lang/Object") ∈ lw_all := lw_g (lw_at lw_m7 18 rfl) rfl
theorem q1548 : (Jvm.Cond.instanceMethod ({ cls := "ModeDeskModel", name := "thrown", desc := "()I" } : Jvm.MethodName)) ∈ lw_all := lw_g (lw_at lw_m7 20 rfl) rfl
theorem q1549 : (Jvm.Cond.selects "ModeDeskModel" ({ cls := "ModeDeskModel", name := "thrown", desc := "()I" } : Jvm.MethodName) ({ cls := "ModeDeskModel", name := "thrown", desc := "()I" } : Jvm.MethodName)) ∈ lw_all := lw_g (lw_at lw_m7 21 rfl) rfl
theorem q1550 : (Jvm.Cond.code ({ cls := "ModeDeskModel", name := "thrown", desc := "()I" } : Jvm.MethodName) prog_19_method_2_code (1 : Nat) (Option.some Jvm.ClassFile.FieldType.int)) ∈ lw_all := lw_g (lw_at lw_m7 22 rfl) rfl
theorem q1552 : (Jvm.Cond.instanceMethod ({ cls := "ModeDeskModel", name := "feed", desc := "(IIIII)I" } : Jvm.MethodName)) ∈ lw_all := lw_g (lw_at lw_m7 24 rfl) rfl
theorem q1553 : (Jvm.Cond.selects "ModeDeskModel" ({ cls := "ModeDeskModel", name := "feed", desc := "(IIIII)I" } : Jvm.MethodName) ({ cls := "ModeDeskModel", name := "feed", desc := "(IIIII)I" } : Jvm.MethodName)) ∈ lw_all := lw_g (lw_at lw_m7 25 rfl) rfl
theorem q1554 : (Jvm.Cond.code ({ cls := "ModeDeskModel", name := "feed", desc := "(IIIII)I" } : Jvm.MethodName) prog_19_method_3_code (8 : Nat) (Option.some Jvm.ClassFile.FieldType.int)) ∈ lw_all := lw_g (lw_at lw_m7 26 rfl) rfl
theorem q1556 : (Jvm.Cond.instanceMethod ({ cls := "ModeDeskModel", name := "text", desc := "(I)I" } : Jvm.MethodName)) ∈ lw_all := lw_g (lw_at lw_m7 28 rfl) rfl
theorem q1557 : (Jvm.Cond.selects "ModeDeskModel" ({ cls := "ModeDeskModel", name := "text", desc := "(I)I" } : Jvm.MethodName) ({ cls := "ModeDeskModel", name := "text", desc := "(I)I" } : Jvm.MethodName)) ∈ lw_all := lw_g (lw_at lw_m7 29 rfl) rfl
theorem q1558 : (Jvm.Cond.code ({ cls := "ModeDeskModel", name := "text", desc := "(I)I" } : Jvm.MethodName) prog_19_method_17_code (3 : Nat) (Option.some Jvm.ClassFile.FieldType.int)) ∈ lw_all := lw_g (lw_at lw_m7 30 rfl) rfl
theorem q1559 : (Jvm.Cond.methodLink "ModeDeskModel" (124 : Nat) ({ cls := "ModeDeskModel", name := "token", desc := "()V" } : Jvm.MethodName)) ∈ lw_all := lw_g (lw_at lw_m7 31 rfl) rfl
theorem q1560 : (Jvm.Cond.privateMethod ({ cls := "ModeDeskModel", name := "token", desc := "()V" } : Jvm.MethodName)) ∈ lw_tbl := lw_at lw_m7 32 rfl
theorem q1561 : (Jvm.Cond.instanceMethod ({ cls := "ModeDeskModel", name := "token", desc := "()V" } : Jvm.MethodName)) ∈ lw_all := lw_g (lw_at lw_m7 33 rfl) rfl
theorem q1562 : (Jvm.Cond.code ({ cls := "ModeDeskModel", name := "token", desc := "()V" } : Jvm.MethodName) prog_19_method_7_code (2 : Nat) (Option.none : Option Jvm.ClassFile.FieldType)) ∈ lw_all := lw_g (lw_at lw_m7 34 rfl) rfl
theorem q1563 : (Jvm.Cond.methodLink "ModeDeskModel" (84 : Nat) ({ cls := "ModeDeskModel", name := "here", desc := "()I" } : Jvm.MethodName)) ∈ lw_all := lw_g (lw_at lw_m7 35 rfl) rfl
theorem q1564 : (Jvm.Cond.privateMethod ({ cls := "ModeDeskModel", name := "here", desc := "()I" } : Jvm.MethodName)) ∈ lw_tbl := lw_at lw_m7 36 rfl
theorem q1565 : (Jvm.Cond.instanceMethod ({ cls := "ModeDeskModel", name := "here", desc := "()I" } : Jvm.MethodName)) ∈ lw_all := lw_g (lw_at lw_m7 37 rfl) rfl
theorem q1566 : (Jvm.Cond.code ({ cls := "ModeDeskModel", name := "here", desc := "()I" } : Jvm.MethodName) prog_19_method_4_code (1 : Nat) (Option.some Jvm.ClassFile.FieldType.int)) ∈ lw_all := lw_g (lw_at lw_m7 38 rfl) rfl
theorem q1567 : (Jvm.Cond.methodLink "ModeDeskModel" (94 : Nat) ({ cls := "ModeDeskModel", name := "isSmall", desc := "(I)Z" } : Jvm.MethodName)) ∈ lw_all := lw_g (lw_at lw_m7 39 rfl) rfl
theorem q1568 : (Jvm.Cond.static ({ cls := "ModeDeskModel", name := "isSmall", desc := "(I)Z" } : Jvm.MethodName)) ∈ lw_all := lw_g (lw_at lw_m7 40 rfl) rfl
theorem q1569 : (Jvm.Cond.code ({ cls := "ModeDeskModel", name := "isSmall", desc := "(I)Z" } : Jvm.MethodName) prog_19_method_5_code (1 : Nat) (Option.some Jvm.ClassFile.FieldType.boolean)) ∈ lw_all := lw_g (lw_at lw_m7 41 rfl) rfl
theorem q1570 : (Jvm.Cond.methodLink "ModeDeskModel" (98 : Nat) ({ cls := "ModeDeskModel", name := "wordHere", desc := "()I" } : Jvm.MethodName)) ∈ lw_all := lw_g (lw_at lw_m7 42 rfl) rfl
theorem q1571 : (Jvm.Cond.privateMethod ({ cls := "ModeDeskModel", name := "wordHere", desc := "()I" } : Jvm.MethodName)) ∈ lw_tbl := lw_at lw_m7 43 rfl
theorem q1572 : (Jvm.Cond.instanceMethod ({ cls := "ModeDeskModel", name := "wordHere", desc := "()I" } : Jvm.MethodName)) ∈ lw_all := lw_g (lw_at lw_m7 44 rfl) rfl
theorem q1573 : (Jvm.Cond.code ({ cls := "ModeDeskModel", name := "wordHere", desc := "()I" } : Jvm.MethodName) prog_19_method_8_code (4 : Nat) (Option.some Jvm.ClassFile.FieldType.int)) ∈ lw_all := lw_g (lw_at lw_m7 45 rfl) rfl
theorem q1574 : (Jvm.Cond.stringRef "ModeDeskModel" (107 : Nat) "first last least most row weight block ties ") ∈ lw_tbl := lw_at lw_m7 46 rfl
theorem q1575 : (Jvm.Cond.methodLink "ModeDeskModel" (109 : Nat) ({ cls := "java/lang/String", name := "length", desc := "()I" } : Jvm.MethodName)) ∈ lw_all := lw_g (lw_at lw_m7 47 rfl) rfl
theorem q1583 : (Jvm.Cond.methodLink "ModeDeskModel" (114 : Nat) ({ cls := "java/lang/String", name := "charAt", desc := "(I)C" } : Jvm.MethodName)) ∈ lw_all := lw_g (lw_at lw_m7 55 rfl) rfl
theorem q1598 : (Jvm.Cond.methodLink "ModeDeskModel" (104 : Nat) ({ cls := "ModeDeskModel", name := "isDigit", desc := "(I)Z" } : Jvm.MethodName)) ∈ lw_all := lw_g (lw_at lw_m7 70 rfl) rfl
theorem q1599 : (Jvm.Cond.static ({ cls := "ModeDeskModel", name := "isDigit", desc := "(I)Z" } : Jvm.MethodName)) ∈ lw_all := lw_g (lw_at lw_m7 71 rfl) rfl
theorem q1600 : (Jvm.Cond.code ({ cls := "ModeDeskModel", name := "isDigit", desc := "(I)Z" } : Jvm.MethodName) prog_19_method_6_code (1 : Nat) (Option.some Jvm.ClassFile.FieldType.boolean)) ∈ lw_all := lw_g (lw_at lw_m7 72 rfl) rfl
theorem q1601 : (Jvm.Cond.methodLink "ModeDeskModel" (169 : Nat) ({ cls := "ModeDeskModel", name := "readLine", desc := "()V" } : Jvm.MethodName)) ∈ lw_all := lw_g (lw_at lw_m7 73 rfl) rfl
theorem q1602 : (Jvm.Cond.privateMethod ({ cls := "ModeDeskModel", name := "readLine", desc := "()V" } : Jvm.MethodName)) ∈ lw_tbl := lw_at lw_m7 74 rfl
theorem q1603 : (Jvm.Cond.instanceMethod ({ cls := "ModeDeskModel", name := "readLine", desc := "()V" } : Jvm.MethodName)) ∈ lw_all := lw_g (lw_at lw_m7 75 rfl) rfl
theorem q1604 : (Jvm.Cond.code ({ cls := "ModeDeskModel", name := "readLine", desc := "()V" } : Jvm.MethodName) prog_19_method_16_code (2 : Nat) (Option.none : Option Jvm.ClassFile.FieldType)) ∈ lw_all := lw_g (lw_at lw_m7 76 rfl) rfl
theorem q1605 : (Jvm.Cond.methodLink "ModeDeskModel" (154 : Nat) ({ cls := "ModeDeskModel", name := "readRow", desc := "()V" } : Jvm.MethodName)) ∈ lw_all := lw_g (lw_at lw_m7 77 rfl) rfl
theorem q1606 : (Jvm.Cond.privateMethod ({ cls := "ModeDeskModel", name := "readRow", desc := "()V" } : Jvm.MethodName)) ∈ lw_tbl := lw_at lw_m7 78 rfl
theorem q1607 : (Jvm.Cond.instanceMethod ({ cls := "ModeDeskModel", name := "readRow", desc := "()V" } : Jvm.MethodName)) ∈ lw_all := lw_g (lw_at lw_m7 79 rfl) rfl
theorem q1608 : (Jvm.Cond.code ({ cls := "ModeDeskModel", name := "readRow", desc := "()V" } : Jvm.MethodName) prog_19_method_12_code (2 : Nat) (Option.none : Option Jvm.ClassFile.FieldType)) ∈ lw_all := lw_g (lw_at lw_m7 80 rfl) rfl
theorem q1609 : (Jvm.Cond.methodLink "ModeDeskModel" (131 : Nat) ({ cls := "ModeDeskModel", name := "goOn", desc := "()V" } : Jvm.MethodName)) ∈ lw_all := lw_g (lw_at lw_m7 81 rfl) rfl
theorem q1610 : (Jvm.Cond.privateMethod ({ cls := "ModeDeskModel", name := "goOn", desc := "()V" } : Jvm.MethodName)) ∈ lw_tbl := lw_at lw_m7 82 rfl
theorem q1611 : (Jvm.Cond.instanceMethod ({ cls := "ModeDeskModel", name := "goOn", desc := "()V" } : Jvm.MethodName)) ∈ lw_all := lw_g (lw_at lw_m7 83 rfl) rfl
theorem q1612 : (Jvm.Cond.code ({ cls := "ModeDeskModel", name := "goOn", desc := "()V" } : Jvm.MethodName) prog_19_method_10_code (1 : Nat) (Option.none : Option Jvm.ClassFile.FieldType)) ∈ lw_all := lw_g (lw_at lw_m7 84 rfl) rfl
theorem q1613 : (Jvm.Cond.methodLink "ModeDeskModel" (127 : Nat) ({ cls := "ModeDeskModel", name := "wrong", desc := "(I)V" } : Jvm.MethodName)) ∈ lw_all := lw_g (lw_at lw_m7 85 rfl) rfl
theorem q1614 : (Jvm.Cond.privateMethod ({ cls := "ModeDeskModel", name := "wrong", desc := "(I)V" } : Jvm.MethodName)) ∈ lw_tbl := lw_at lw_m7 86 rfl
theorem q1615 : (Jvm.Cond.instanceMethod ({ cls := "ModeDeskModel", name := "wrong", desc := "(I)V" } : Jvm.MethodName)) ∈ lw_all := lw_g (lw_at lw_m7 87 rfl) rfl
theorem q1616 : (Jvm.Cond.code ({ cls := "ModeDeskModel", name := "wrong", desc := "(I)V" } : Jvm.MethodName) prog_19_method_9_code (2 : Nat) (Option.none : Option Jvm.ClassFile.FieldType)) ∈ lw_all := lw_g (lw_at lw_m7 88 rfl) rfl
theorem q1617 : (Jvm.Cond.methodLink "ModeDeskModel" (137 : Nat) ({ cls := "ModeDeskModel", name := "within", desc := "(II)I" } : Jvm.MethodName)) ∈ lw_all := lw_g (lw_at lw_m7 89 rfl) rfl
theorem q1618 : (Jvm.Cond.privateMethod ({ cls := "ModeDeskModel", name := "within", desc := "(II)I" } : Jvm.MethodName)) ∈ lw_tbl := lw_at lw_m7 90 rfl
theorem q1619 : (Jvm.Cond.instanceMethod ({ cls := "ModeDeskModel", name := "within", desc := "(II)I" } : Jvm.MethodName)) ∈ lw_all := lw_g (lw_at lw_m7 91 rfl) rfl
theorem q1620 : (Jvm.Cond.code ({ cls := "ModeDeskModel", name := "within", desc := "(II)I" } : Jvm.MethodName) prog_19_method_11_code (4 : Nat) (Option.some Jvm.ClassFile.FieldType.int)) ∈ lw_all := lw_g (lw_at lw_m7 92 rfl) rfl
theorem q1621 : (Jvm.Cond.methodLink "ModeDeskModel" (157 : Nat) ({ cls := "ModeDeskModel", name := "readWeight", desc := "()V" } : Jvm.MethodName)) ∈ lw_all := lw_g (lw_at lw_m7 93 rfl) rfl
theorem q1622 : (Jvm.Cond.privateMethod ({ cls := "ModeDeskModel", name := "readWeight", desc := "()V" } : Jvm.MethodName)) ∈ lw_tbl := lw_at lw_m7 94 rfl
theorem q1623 : (Jvm.Cond.instanceMethod ({ cls := "ModeDeskModel", name := "readWeight", desc := "()V" } : Jvm.MethodName)) ∈ lw_all := lw_g (lw_at lw_m7 95 rfl) rfl
theorem q1624 : (Jvm.Cond.code ({ cls := "ModeDeskModel", name := "readWeight", desc := "()V" } : Jvm.MethodName) prog_19_method_13_code (3 : Nat) (Option.none : Option Jvm.ClassFile.FieldType)) ∈ lw_all := lw_g (lw_at lw_m7 96 rfl) rfl
theorem q1625 : (Jvm.Cond.methodLink "ModeDeskModel" (160 : Nat) ({ cls := "ModeDeskModel", name := "readBlock", desc := "()V" } : Jvm.MethodName)) ∈ lw_all := lw_g (lw_at lw_m7 97 rfl) rfl
theorem q1626 : (Jvm.Cond.privateMethod ({ cls := "ModeDeskModel", name := "readBlock", desc := "()V" } : Jvm.MethodName)) ∈ lw_tbl := lw_at lw_m7 98 rfl
theorem q1627 : (Jvm.Cond.instanceMethod ({ cls := "ModeDeskModel", name := "readBlock", desc := "()V" } : Jvm.MethodName)) ∈ lw_all := lw_g (lw_at lw_m7 99 rfl) rfl
theorem q1628 : (Jvm.Cond.code ({ cls := "ModeDeskModel", name := "readBlock", desc := "()V" } : Jvm.MethodName) prog_19_method_14_code (1 : Nat) (Option.none : Option Jvm.ClassFile.FieldType)) ∈ lw_all := lw_g (lw_at lw_m7 100 rfl) rfl
theorem q1629 : (Jvm.Cond.methodLink "ModeDeskModel" (163 : Nat) ({ cls := "ModeDeskModel", name := "readTies", desc := "()V" } : Jvm.MethodName)) ∈ lw_all := lw_g (lw_at lw_m7 101 rfl) rfl
theorem q1630 : (Jvm.Cond.privateMethod ({ cls := "ModeDeskModel", name := "readTies", desc := "()V" } : Jvm.MethodName)) ∈ lw_tbl := lw_at lw_m7 102 rfl
theorem q1631 : (Jvm.Cond.instanceMethod ({ cls := "ModeDeskModel", name := "readTies", desc := "()V" } : Jvm.MethodName)) ∈ lw_all := lw_g (lw_at lw_m7 103 rfl) rfl
theorem q1632 : (Jvm.Cond.code ({ cls := "ModeDeskModel", name := "readTies", desc := "()V" } : Jvm.MethodName) prog_19_method_15_code (1 : Nat) (Option.none : Option Jvm.ClassFile.FieldType)) ∈ lw_all := lw_g (lw_at lw_m7 104 rfl) rfl
theorem q1634 : (Jvm.Cond.instanceMethod ({ cls := "ModeDeskModel", name := "fault", desc := "(I)I" } : Jvm.MethodName)) ∈ lw_all := lw_g (lw_at lw_m7 106 rfl) rfl
theorem q1635 : (Jvm.Cond.selects "ModeDeskModel" ({ cls := "ModeDeskModel", name := "fault", desc := "(I)I" } : Jvm.MethodName) ({ cls := "ModeDeskModel", name := "fault", desc := "(I)I" } : Jvm.MethodName)) ∈ lw_all := lw_g (lw_at lw_m7 107 rfl) rfl
theorem q1636 : (Jvm.Cond.code ({ cls := "ModeDeskModel", name := "fault", desc := "(I)I" } : Jvm.MethodName) prog_19_method_18_code (2 : Nat) (Option.some Jvm.ClassFile.FieldType.int)) ∈ lw_all := lw_g (lw_at lw_m7 108 rfl) rfl
theorem q1638 : (Jvm.Cond.instanceMethod ({ cls := "ModeDeskModel", name := "place", desc := "(II)I" } : Jvm.MethodName)) ∈ lw_all := lw_g (lw_at lw_m7 110 rfl) rfl
theorem q1639 : (Jvm.Cond.selects "ModeDeskModel" ({ cls := "ModeDeskModel", name := "place", desc := "(II)I" } : Jvm.MethodName) ({ cls := "ModeDeskModel", name := "place", desc := "(II)I" } : Jvm.MethodName)) ∈ lw_all := lw_g (lw_at lw_m7 111 rfl) rfl
theorem q1640 : (Jvm.Cond.code ({ cls := "ModeDeskModel", name := "place", desc := "(II)I" } : Jvm.MethodName) prog_19_method_24_code (3 : Nat) (Option.some Jvm.ClassFile.FieldType.int)) ∈ lw_all := lw_g (lw_at lw_m7 112 rfl) rfl
theorem q1641 : (Jvm.Cond.methodLink "ModeDeskModel" (187 : Nat) ({ cls := "ModeDeskModel", name := "isPlace", desc := "(I)Z" } : Jvm.MethodName)) ∈ lw_all := lw_g (lw_at lw_m7 113 rfl) rfl
theorem q1642 : (Jvm.Cond.privateMethod ({ cls := "ModeDeskModel", name := "isPlace", desc := "(I)Z" } : Jvm.MethodName)) ∈ lw_tbl := lw_at lw_m7 114 rfl
theorem q1643 : (Jvm.Cond.instanceMethod ({ cls := "ModeDeskModel", name := "isPlace", desc := "(I)Z" } : Jvm.MethodName)) ∈ lw_all := lw_g (lw_at lw_m7 115 rfl) rfl
theorem q1644 : (Jvm.Cond.code ({ cls := "ModeDeskModel", name := "isPlace", desc := "(I)Z" } : Jvm.MethodName) prog_19_method_19_code (2 : Nat) (Option.some Jvm.ClassFile.FieldType.boolean)) ∈ lw_all := lw_g (lw_at lw_m7 116 rfl) rfl
theorem q1645 : (Jvm.Cond.methodLink "ModeDeskModel" (190 : Nat) ({ cls := "ModeDeskModel", name := "timesIn", desc := "(III)I" } : Jvm.MethodName)) ∈ lw_all := lw_g (lw_at lw_m7 117 rfl) rfl
theorem q1646 : (Jvm.Cond.privateMethod ({ cls := "ModeDeskModel", name := "timesIn", desc := "(III)I" } : Jvm.MethodName)) ∈ lw_tbl := lw_at lw_m7 118 rfl
theorem q1647 : (Jvm.Cond.instanceMethod ({ cls := "ModeDeskModel", name := "timesIn", desc := "(III)I" } : Jvm.MethodName)) ∈ lw_all := lw_g (lw_at lw_m7 119 rfl) rfl
theorem q1648 : (Jvm.Cond.code ({ cls := "ModeDeskModel", name := "timesIn", desc := "(III)I" } : Jvm.MethodName) prog_19_method_49_code (6 : Nat) (Option.some Jvm.ClassFile.FieldType.int)) ∈ lw_all := lw_g (lw_at lw_m7 120 rfl) rfl
theorem q1649 : (Jvm.Cond.methodLink "ModeDeskModel" (194 : Nat) ({ cls := "ModeDeskModel", name := "nextTo", desc := "(II)I" } : Jvm.MethodName)) ∈ lw_all := lw_g (lw_at lw_m7 121 rfl) rfl
theorem q1650 : (Jvm.Cond.privateMethod ({ cls := "ModeDeskModel", name := "nextTo", desc := "(II)I" } : Jvm.MethodName)) ∈ lw_tbl := lw_at lw_m7 122 rfl
theorem q1651 : (Jvm.Cond.instanceMethod ({ cls := "ModeDeskModel", name := "nextTo", desc := "(II)I" } : Jvm.MethodName)) ∈ lw_all := lw_g (lw_at lw_m7 123 rfl) rfl
theorem q1652 : (Jvm.Cond.code ({ cls := "ModeDeskModel", name := "nextTo", desc := "(II)I" } : Jvm.MethodName) prog_19_method_23_code (4 : Nat) (Option.some Jvm.ClassFile.FieldType.int)) ∈ lw_all := lw_g (lw_at lw_m7 124 rfl) rfl
theorem q1654 : (Jvm.Cond.instanceMethod ({ cls := "ModeDeskModel", name := "undo", desc := "()I" } : Jvm.MethodName)) ∈ lw_all := lw_g (lw_at lw_m7 126 rfl) rfl
theorem q1655 : (Jvm.Cond.selects "ModeDeskModel" ({ cls := "ModeDeskModel", name := "undo", desc := "()I" } : Jvm.MethodName) ({ cls := "ModeDeskModel", name := "undo", desc := "()I" } : Jvm.MethodName)) ∈ lw_all := lw_g (lw_at lw_m7 127 rfl) rfl
theorem q1656 : (Jvm.Cond.code ({ cls := "ModeDeskModel", name := "undo", desc := "()I" } : Jvm.MethodName) prog_19_method_34_code (2 : Nat) (Option.some Jvm.ClassFile.FieldType.int)) ∈ lw_all := lw_g (lw_at lw_m7 128 rfl) rfl
theorem q1657 : (Jvm.Cond.methodLink "ModeDeskModel" (217 : Nat) ({ cls := "ModeDeskModel", name := "becomes", desc := "()V" } : Jvm.MethodName)) ∈ lw_all := lw_g (lw_at lw_m7 129 rfl) rfl
theorem q1658 : (Jvm.Cond.privateMethod ({ cls := "ModeDeskModel", name := "becomes", desc := "()V" } : Jvm.MethodName)) ∈ lw_tbl := lw_at lw_m7 130 rfl
theorem q1659 : (Jvm.Cond.instanceMethod ({ cls := "ModeDeskModel", name := "becomes", desc := "()V" } : Jvm.MethodName)) ∈ lw_all := lw_g (lw_at lw_m7 131 rfl) rfl
theorem q1660 : (Jvm.Cond.code ({ cls := "ModeDeskModel", name := "becomes", desc := "()V" } : Jvm.MethodName) prog_19_method_31_code (2 : Nat) (Option.none : Option Jvm.ClassFile.FieldType)) ∈ lw_all := lw_g (lw_at lw_m7 132 rfl) rfl
theorem q1661 : (Jvm.Cond.methodLink "ModeDeskModel" (206 : Nat) ({ cls := "ModeDeskModel", name := "freshPairs", desc := "()I" } : Jvm.MethodName)) ∈ lw_all := lw_g (lw_at lw_m7 133 rfl) rfl
theorem q1662 : (Jvm.Cond.privateMethod ({ cls := "ModeDeskModel", name := "freshPairs", desc := "()I" } : Jvm.MethodName)) ∈ lw_tbl := lw_at lw_m7 134 rfl
theorem q1663 : (Jvm.Cond.instanceMethod ({ cls := "ModeDeskModel", name := "freshPairs", desc := "()I" } : Jvm.MethodName)) ∈ lw_all := lw_g (lw_at lw_m7 135 rfl) rfl
theorem q1664 : (Jvm.Cond.code ({ cls := "ModeDeskModel", name := "freshPairs", desc := "()I" } : Jvm.MethodName) prog_19_method_30_code (6 : Nat) (Option.some Jvm.ClassFile.FieldType.int)) ∈ lw_all := lw_g (lw_at lw_m7 136 rfl) rfl
theorem q1665 : (Jvm.Cond.methodLink "ModeDeskModel" (203 : Nat) ({ cls := "ModeDeskModel", name := "isFresh", desc := "(I)Z" } : Jvm.MethodName)) ∈ lw_all := lw_g (lw_at lw_m7 137 rfl) rfl
theorem q1666 : (Jvm.Cond.privateMethod ({ cls := "ModeDeskModel", name := "isFresh", desc := "(I)Z" } : Jvm.MethodName)) ∈ lw_tbl := lw_at lw_m7 138 rfl
theorem q1667 : (Jvm.Cond.instanceMethod ({ cls := "ModeDeskModel", name := "isFresh", desc := "(I)Z" } : Jvm.MethodName)) ∈ lw_all := lw_g (lw_at lw_m7 139 rfl) rfl
theorem q1668 : (Jvm.Cond.code ({ cls := "ModeDeskModel", name := "isFresh", desc := "(I)Z" } : Jvm.MethodName) prog_19_method_29_code (3 : Nat) (Option.some Jvm.ClassFile.FieldType.boolean)) ∈ lw_all := lw_g (lw_at lw_m7 140 rfl) rfl
theorem q1669 : (Jvm.Cond.methodLink "ModeDeskModel" (200 : Nat) ({ cls := "ModeDeskModel", name := "placesOf", desc := "(II)I" } : Jvm.MethodName)) ∈ lw_all := lw_g (lw_at lw_m7 141 rfl) rfl
theorem q1670 : (Jvm.Cond.privateMethod ({ cls := "ModeDeskModel", name := "placesOf", desc := "(II)I" } : Jvm.MethodName)) ∈ lw_tbl := lw_at lw_m7 142 rfl
theorem q1671 : (Jvm.Cond.instanceMethod ({ cls := "ModeDeskModel", name := "placesOf", desc := "(II)I" } : Jvm.MethodName)) ∈ lw_all := lw_g (lw_at lw_m7 143 rfl) rfl
theorem q1672 : (Jvm.Cond.code ({ cls := "ModeDeskModel", name := "placesOf", desc := "(II)I" } : Jvm.MethodName) prog_19_method_28_code (4 : Nat) (Option.some Jvm.ClassFile.FieldType.int)) ∈ lw_all := lw_g (lw_at lw_m7 144 rfl) rfl
theorem q1674 : (Jvm.Cond.instanceMethod ({ cls := "ModeDeskModel", name := "set", desc := "(II)I" } : Jvm.MethodName)) ∈ lw_all := lw_g (lw_at lw_m7 146 rfl) rfl
theorem q1675 : (Jvm.Cond.selects "ModeDeskModel" ({ cls := "ModeDeskModel", name := "set", desc := "(II)I" } : Jvm.MethodName) ({ cls := "ModeDeskModel", name := "set", desc := "(II)I" } : Jvm.MethodName)) ∈ lw_all := lw_g (lw_at lw_m7 147 rfl) rfl
theorem q1676 : (Jvm.Cond.code ({ cls := "ModeDeskModel", name := "set", desc := "(II)I" } : Jvm.MethodName) prog_19_method_35_code (4 : Nat) (Option.some Jvm.ClassFile.FieldType.int)) ∈ lw_all := lw_g (lw_at lw_m7 148 rfl) rfl
theorem q1677 : (Jvm.Cond.methodLink "ModeDeskModel" (220 : Nat) ({ cls := "ModeDeskModel", name := "isValue", desc := "(I)Z" } : Jvm.MethodName)) ∈ lw_all := lw_g (lw_at lw_m7 149 rfl) rfl
theorem q1678 : (Jvm.Cond.static ({ cls := "ModeDeskModel", name := "isValue", desc := "(I)Z" } : Jvm.MethodName)) ∈ lw_all := lw_g (lw_at lw_m7 150 rfl) rfl
theorem q1679 : (Jvm.Cond.code ({ cls := "ModeDeskModel", name := "isValue", desc := "(I)Z" } : Jvm.MethodName) prog_19_method_21_code (1 : Nat) (Option.some Jvm.ClassFile.FieldType.boolean)) ∈ lw_all := lw_g (lw_at lw_m7 151 rfl) rfl
theorem q1680 : (Jvm.Cond.methodLink "ModeDeskModel" (223 : Nat) ({ cls := "ModeDeskModel", name := "begins", desc := "()V" } : Jvm.MethodName)) ∈ lw_all := lw_g (lw_at lw_m7 152 rfl) rfl
theorem q1681 : (Jvm.Cond.privateMethod ({ cls := "ModeDeskModel", name := "begins", desc := "()V" } : Jvm.MethodName)) ∈ lw_tbl := lw_at lw_m7 153 rfl
theorem q1682 : (Jvm.Cond.instanceMethod ({ cls := "ModeDeskModel", name := "begins", desc := "()V" } : Jvm.MethodName)) ∈ lw_all := lw_g (lw_at lw_m7 154 rfl) rfl
theorem q1683 : (Jvm.Cond.code ({ cls := "ModeDeskModel", name := "begins", desc := "()V" } : Jvm.MethodName) prog_19_method_25_code (2 : Nat) (Option.none : Option Jvm.ClassFile.FieldType)) ∈ lw_all := lw_g (lw_at lw_m7 155 rfl) rfl
theorem q1684 : (Jvm.Cond.methodLink "ModeDeskModel" (226 : Nat) ({ cls := "ModeDeskModel", name := "edits", desc := "()V" } : Jvm.MethodName)) ∈ lw_all := lw_g (lw_at lw_m7 156 rfl) rfl
theorem q1685 : (Jvm.Cond.privateMethod ({ cls := "ModeDeskModel", name := "edits", desc := "()V" } : Jvm.MethodName)) ∈ lw_tbl := lw_at lw_m7 157 rfl
theorem q1686 : (Jvm.Cond.instanceMethod ({ cls := "ModeDeskModel", name := "edits", desc := "()V" } : Jvm.MethodName)) ∈ lw_all := lw_g (lw_at lw_m7 158 rfl) rfl
theorem q1687 : (Jvm.Cond.code ({ cls := "ModeDeskModel", name := "edits", desc := "()V" } : Jvm.MethodName) prog_19_method_32_code (2 : Nat) (Option.none : Option Jvm.ClassFile.FieldType)) ∈ lw_all := lw_g (lw_at lw_m7 159 rfl) rfl
theorem q1688 : (Jvm.Cond.methodLink "ModeDeskModel" (209 : Nat) ({ cls := "ModeDeskModel", name := "isOther", desc := "()Z" } : Jvm.MethodName)) ∈ lw_all := lw_g (lw_at lw_m7 160 rfl) rfl
theorem q1689 : (Jvm.Cond.privateMethod ({ cls := "ModeDeskModel", name := "isOther", desc := "()Z" } : Jvm.MethodName)) ∈ lw_tbl := lw_at lw_m7 161 rfl
theorem q1690 : (Jvm.Cond.instanceMethod ({ cls := "ModeDeskModel", name := "isOther", desc := "()Z" } : Jvm.MethodName)) ∈ lw_all := lw_g (lw_at lw_m7 162 rfl) rfl
theorem q1691 : (Jvm.Cond.code ({ cls := "ModeDeskModel", name := "isOther", desc := "()Z" } : Jvm.MethodName) prog_19_method_27_code (2 : Nat) (Option.some Jvm.ClassFile.FieldType.boolean)) ∈ lw_all := lw_g (lw_at lw_m7 163 rfl) rfl
theorem q1692 : (Jvm.Cond.methodLink "ModeDeskModel" (213 : Nat) ({ cls := "ModeDeskModel", name := "copies", desc := "(II)V" } : Jvm.MethodName)) ∈ lw_all := lw_g (lw_at lw_m7 164 rfl) rfl
theorem q1693 : (Jvm.Cond.privateMethod ({ cls := "ModeDeskModel", name := "copies", desc := "(II)V" } : Jvm.MethodName)) ∈ lw_tbl := lw_at lw_m7 165 rfl
theorem q1694 : (Jvm.Cond.instanceMethod ({ cls := "ModeDeskModel", name := "copies", desc := "(II)V" } : Jvm.MethodName)) ∈ lw_all := lw_g (lw_at lw_m7 166 rfl) rfl
theorem q1695 : (Jvm.Cond.code ({ cls := "ModeDeskModel", name := "copies", desc := "(II)V" } : Jvm.MethodName) prog_19_method_33_code (4 : Nat) (Option.none : Option Jvm.ClassFile.FieldType)) ∈ lw_all := lw_g (lw_at lw_m7 167 rfl) rfl
theorem q1697 : (Jvm.Cond.instanceMethod ({ cls := "ModeDeskModel", name := "weigh", desc := "(II)I" } : Jvm.MethodName)) ∈ lw_all := lw_g (lw_at lw_m7 169 rfl) rfl
theorem q1698 : (Jvm.Cond.selects "ModeDeskModel" ({ cls := "ModeDeskModel", name := "weigh", desc := "(II)I" } : Jvm.MethodName) ({ cls := "ModeDeskModel", name := "weigh", desc := "(II)I" } : Jvm.MethodName)) ∈ lw_all := lw_g (lw_at lw_m7 170 rfl) rfl
theorem q1699 : (Jvm.Cond.code ({ cls := "ModeDeskModel", name := "weigh", desc := "(II)I" } : Jvm.MethodName) prog_19_method_36_code (4 : Nat) (Option.some Jvm.ClassFile.FieldType.int)) ∈ lw_all := lw_g (lw_at lw_m7 171 rfl) rfl
theorem q1701 : (Jvm.Cond.instanceMethod ({ cls := "ModeDeskModel", name := "insert", desc := "(II)I" } : Jvm.MethodName)) ∈ lw_all := lw_g (lw_at lw_m7 173 rfl) rfl
theorem q1702 : (Jvm.Cond.selects "ModeDeskModel" ({ cls := "ModeDeskModel", name := "insert", desc := "(II)I" } : Jvm.MethodName) ({ cls := "ModeDeskModel", name := "insert", desc := "(II)I" } : Jvm.MethodName)) ∈ lw_all := lw_g (lw_at lw_m7 174 rfl) rfl
theorem q1703 : (Jvm.Cond.code ({ cls := "ModeDeskModel", name := "insert", desc := "(II)I" } : Jvm.MethodName) prog_19_method_37_code (4 : Nat) (Option.some Jvm.ClassFile.FieldType.int)) ∈ lw_all := lw_g (lw_at lw_m7 175 rfl) rfl
theorem q1705 : (Jvm.Cond.instanceMethod ({ cls := "ModeDeskModel", name := "remove", desc := "(I)I" } : Jvm.MethodName)) ∈ lw_all := lw_g (lw_at lw_m7 177 rfl) rfl
theorem q1706 : (Jvm.Cond.selects "ModeDeskModel" ({ cls := "ModeDeskModel", name := "remove", desc := "(I)I" } : Jvm.MethodName) ({ cls := "ModeDeskModel", name := "remove", desc := "(I)I" } : Jvm.MethodName)) ∈ lw_all := lw_g (lw_at lw_m7 178 rfl) rfl
theorem q1707 : (Jvm.Cond.code ({ cls := "ModeDeskModel", name := "remove", desc := "(I)I" } : Jvm.MethodName) prog_19_method_38_code (4 : Nat) (Option.some Jvm.ClassFile.FieldType.int)) ∈ lw_all := lw_g (lw_at lw_m7 179 rfl) rfl
theorem q1709 : (Jvm.Cond.instanceMethod ({ cls := "ModeDeskModel", name := "fill", desc := "(III)I" } : Jvm.MethodName)) ∈ lw_all := lw_g (lw_at lw_m7 181 rfl) rfl
theorem q1710 : (Jvm.Cond.selects "ModeDeskModel" ({ cls := "ModeDeskModel", name := "fill", desc := "(III)I" } : Jvm.MethodName) ({ cls := "ModeDeskModel", name := "fill", desc := "(III)I" } : Jvm.MethodName)) ∈ lw_all := lw_g (lw_at lw_m7 182 rfl) rfl
theorem q1711 : (Jvm.Cond.code ({ cls := "ModeDeskModel", name := "fill", desc := "(III)I" } : Jvm.MethodName) prog_19_method_40_code (5 : Nat) (Option.some Jvm.ClassFile.FieldType.int)) ∈ lw_all := lw_g (lw_at lw_m7 183 rfl) rfl
theorem q1712 : (Jvm.Cond.methodLink "ModeDeskModel" (232 : Nat) ({ cls := "ModeDeskModel", name := "isSpan", desc := "(II)Z" } : Jvm.MethodName)) ∈ lw_all := lw_g (lw_at lw_m7 184 rfl) rfl
theorem q1713 : (Jvm.Cond.privateMethod ({ cls := "ModeDeskModel", name := "isSpan", desc := "(II)Z" } : Jvm.MethodName)) ∈ lw_tbl := lw_at lw_m7 185 rfl
theorem q1714 : (Jvm.Cond.instanceMethod ({ cls := "ModeDeskModel", name := "isSpan", desc := "(II)Z" } : Jvm.MethodName)) ∈ lw_all := lw_g (lw_at lw_m7 186 rfl) rfl
theorem q1715 : (Jvm.Cond.code ({ cls := "ModeDeskModel", name := "isSpan", desc := "(II)Z" } : Jvm.MethodName) prog_19_method_20_code (3 : Nat) (Option.some Jvm.ClassFile.FieldType.boolean)) ∈ lw_all := lw_g (lw_at lw_m7 187 rfl) rfl
theorem q1716 : (Jvm.Cond.methodLink "ModeDeskModel" (236 : Nat) ({ cls := "ModeDeskModel", name := "done", desc := "()I" } : Jvm.MethodName)) ∈ lw_all := lw_g (lw_at lw_m7 188 rfl) rfl
theorem q1717 : (Jvm.Cond.privateMethod ({ cls := "ModeDeskModel", name := "done", desc := "()I" } : Jvm.MethodName)) ∈ lw_tbl := lw_at lw_m7 189 rfl
theorem q1718 : (Jvm.Cond.instanceMethod ({ cls := "ModeDeskModel", name := "done", desc := "()I" } : Jvm.MethodName)) ∈ lw_all := lw_g (lw_at lw_m7 190 rfl) rfl
theorem q1719 : (Jvm.Cond.code ({ cls := "ModeDeskModel", name := "done", desc := "()I" } : Jvm.MethodName) prog_19_method_39_code (2 : Nat) (Option.some Jvm.ClassFile.FieldType.int)) ∈ lw_all := lw_g (lw_at lw_m7 191 rfl) rfl
theorem q1720 : (Jvm.Cond.methodLink "ModeDeskModel" (229 : Nat) ({ cls := "ModeDeskModel", name := "others", desc := "()I" } : Jvm.MethodName)) ∈ lw_all := lw_g (lw_at lw_m7 192 rfl) rfl
theorem q1721 : (Jvm.Cond.privateMethod ({ cls := "ModeDeskModel", name := "others", desc := "()I" } : Jvm.MethodName)) ∈ lw_tbl := lw_at lw_m7 193 rfl
theorem q1722 : (Jvm.Cond.instanceMethod ({ cls := "ModeDeskModel", name := "others", desc := "()I" } : Jvm.MethodName)) ∈ lw_all := lw_g (lw_at lw_m7 194 rfl) rfl
theorem q1723 : (Jvm.Cond.code ({ cls := "ModeDeskModel", name := "others", desc := "()I" } : Jvm.MethodName) prog_19_method_26_code (3 : Nat) (Option.some Jvm.ClassFile.FieldType.int)) ∈ lw_all := lw_g (lw_at lw_m7 195 rfl) rfl
theorem q1725 : (Jvm.Cond.instanceMethod ({ cls := "ModeDeskModel", name := "swap", desc := "(II)Z" } : Jvm.MethodName)) ∈ lw_all := lw_g (lw_at lw_m7 197 rfl) rfl
theorem q1726 : (Jvm.Cond.selects "ModeDeskModel" ({ cls := "ModeDeskModel", name := "swap", desc := "(II)Z" } : Jvm.MethodName) ({ cls := "ModeDeskModel", name := "swap", desc := "(II)Z" } : Jvm.MethodName)) ∈ lw_all := lw_g (lw_at lw_m7 198 rfl) rfl
theorem q1727 : (Jvm.Cond.code ({ cls := "ModeDeskModel", name := "swap", desc := "(II)Z" } : Jvm.MethodName) prog_19_method_42_code (3 : Nat) (Option.some Jvm.ClassFile.FieldType.boolean)) ∈ lw_all := lw_g (lw_at lw_m7 199 rfl) rfl
theorem q1728 : (Jvm.Cond.methodLink "ModeDeskModel" (239 : Nat) ({ cls := "ModeDeskModel", name := "lies", desc := "(II)V" } : Jvm.MethodName)) ∈ lw_all := lw_g (lw_at lw_m7 200 rfl) rfl
theorem q1729 : (Jvm.Cond.privateMethod ({ cls := "ModeDeskModel", name := "lies", desc := "(II)V" } : Jvm.MethodName)) ∈ lw_tbl := lw_at lw_m7 201 rfl
theorem q1730 : (Jvm.Cond.instanceMethod ({ cls := "ModeDeskModel", name := "lies", desc := "(II)V" } : Jvm.MethodName)) ∈ lw_all := lw_g (lw_at lw_m7 202 rfl) rfl
theorem q1731 : (Jvm.Cond.code ({ cls := "ModeDeskModel", name := "lies", desc := "(II)V" } : Jvm.MethodName) prog_19_method_41_code (3 : Nat) (Option.none : Option Jvm.ClassFile.FieldType)) ∈ lw_all := lw_g (lw_at lw_m7 203 rfl) rfl
theorem q1733 : (Jvm.Cond.instanceMethod ({ cls := "ModeDeskModel", name := "flip", desc := "(II)I" } : Jvm.MethodName)) ∈ lw_all := lw_g (lw_at lw_m7 205 rfl) rfl
theorem q1734 : (Jvm.Cond.selects "ModeDeskModel" ({ cls := "ModeDeskModel", name := "flip", desc := "(II)I" } : Jvm.MethodName) ({ cls := "ModeDeskModel", name := "flip", desc := "(II)I" } : Jvm.MethodName)) ∈ lw_all := lw_g (lw_at lw_m7 206 rfl) rfl
theorem q1735 : (Jvm.Cond.code ({ cls := "ModeDeskModel", name := "flip", desc := "(II)I" } : Jvm.MethodName) prog_19_method_43_code (4 : Nat) (Option.some Jvm.ClassFile.FieldType.int)) ∈ lw_all := lw_g (lw_at lw_m7 207 rfl) rfl
theorem q1737 : (Jvm.Cond.instanceMethod ({ cls := "ModeDeskModel", name := "shift", desc := "(III)I" } : Jvm.MethodName)) ∈ lw_all := lw_g (lw_at lw_m7 209 rfl) rfl
theorem q1738 : (Jvm.Cond.selects "ModeDeskModel" ({ cls := "ModeDeskModel", name := "shift", desc := "(III)I" } : Jvm.MethodName) ({ cls := "ModeDeskModel", name := "shift", desc := "(III)I" } : Jvm.MethodName)) ∈ lw_all := lw_g (lw_at lw_m7 210 rfl) rfl
theorem q1739 : (Jvm.Cond.code ({ cls := "ModeDeskModel", name := "shift", desc := "(III)I" } : Jvm.MethodName) prog_19_method_44_code (5 : Nat) (Option.some Jvm.ClassFile.FieldType.int)) ∈ lw_all := lw_g (lw_at lw_m7 211 rfl) rfl
theorem q1741 : (Jvm.Cond.instanceMethod ({ cls := "ModeDeskModel", name := "replace", desc := "(II)I" } : Jvm.MethodName)) ∈ lw_all := lw_g (lw_at lw_m7 213 rfl) rfl
theorem q1742 : (Jvm.Cond.selects "ModeDeskModel" ({ cls := "ModeDeskModel", name := "replace", desc := "(II)I" } : Jvm.MethodName) ({ cls := "ModeDeskModel", name := "replace", desc := "(II)I" } : Jvm.MethodName)) ∈ lw_all := lw_g (lw_at lw_m7 214 rfl) rfl
theorem q1743 : (Jvm.Cond.code ({ cls := "ModeDeskModel", name := "replace", desc := "(II)I" } : Jvm.MethodName) prog_19_method_45_code (4 : Nat) (Option.some Jvm.ClassFile.FieldType.int)) ∈ lw_all := lw_g (lw_at lw_m7 215 rfl) rfl
theorem q1745 : (Jvm.Cond.instanceMethod ({ cls := "ModeDeskModel", name := "sort", desc := "(IIZ)I" } : Jvm.MethodName)) ∈ lw_all := lw_g (lw_at lw_m7 217 rfl) rfl
theorem q1746 : (Jvm.Cond.selects "ModeDeskModel" ({ cls := "ModeDeskModel", name := "sort", desc := "(IIZ)I" } : Jvm.MethodName) ({ cls := "ModeDeskModel", name := "sort", desc := "(IIZ)I" } : Jvm.MethodName)) ∈ lw_all := lw_g (lw_at lw_m7 218 rfl) rfl
theorem q1747 : (Jvm.Cond.code ({ cls := "ModeDeskModel", name := "sort", desc := "(IIZ)I" } : Jvm.MethodName) prog_19_method_46_code (8 : Nat) (Option.some Jvm.ClassFile.FieldType.int)) ∈ lw_all := lw_g (lw_at lw_m7 219 rfl) rfl
theorem q1749 : (Jvm.Cond.instanceMethod ({ cls := "ModeDeskModel", name := "refreshed", desc := "()I" } : Jvm.MethodName)) ∈ lw_all := lw_g (lw_at lw_m7 221 rfl) rfl
theorem q1750 : (Jvm.Cond.selects "ModeDeskModel" ({ cls := "ModeDeskModel", name := "refreshed", desc := "()I" } : Jvm.MethodName) ({ cls := "ModeDeskModel", name := "refreshed", desc := "()I" } : Jvm.MethodName)) ∈ lw_all := lw_g (lw_at lw_m7 222 rfl) rfl
theorem q1751 : (Jvm.Cond.code ({ cls := "ModeDeskModel", name := "refreshed", desc := "()I" } : Jvm.MethodName) prog_19_method_47_code (1 : Nat) (Option.some Jvm.ClassFile.FieldType.int)) ∈ lw_all := lw_g (lw_at lw_m7 223 rfl) rfl
theorem q1753 : (Jvm.Cond.instanceMethod ({ cls := "ModeDeskModel", name := "was", desc := "(II)I" } : Jvm.MethodName)) ∈ lw_all := lw_g (lw_at lw_m7 225 rfl) rfl
theorem q1754 : (Jvm.Cond.selects "ModeDeskModel" ({ cls := "ModeDeskModel", name := "was", desc := "(II)I" } : Jvm.MethodName) ({ cls := "ModeDeskModel", name := "was", desc := "(II)I" } : Jvm.MethodName)) ∈ lw_all := lw_g (lw_at lw_m7 226 rfl) rfl
theorem q1755 : (Jvm.Cond.code ({ cls := "ModeDeskModel", name := "was", desc := "(II)I" } : Jvm.MethodName) prog_19_method_48_code (4 : Nat) (Option.some Jvm.ClassFile.FieldType.int)) ∈ lw_all := lw_g (lw_at lw_m7 227 rfl) rfl
theorem q1757 : (Jvm.Cond.instanceMethod ({ cls := "ModeDeskModel", name := "mode", desc := "(III)I" } : Jvm.MethodName)) ∈ lw_all := lw_g (lw_at lw_m7 229 rfl) rfl
theorem q1758 : (Jvm.Cond.selects "ModeDeskModel" ({ cls := "ModeDeskModel", name := "mode", desc := "(III)I" } : Jvm.MethodName) ({ cls := "ModeDeskModel", name := "mode", desc := "(III)I" } : Jvm.MethodName)) ∈ lw_all := lw_g (lw_at lw_m7 230 rfl) rfl
theorem q1759 : (Jvm.Cond.code ({ cls := "ModeDeskModel", name := "mode", desc := "(III)I" } : Jvm.MethodName) prog_19_method_57_code (4 : Nat) (Option.some Jvm.ClassFile.FieldType.int)) ∈ lw_all := lw_g (lw_at lw_m7 231 rfl) rfl
theorem q1760 : (Jvm.Cond.methodLink "ModeDeskModel" (260 : Nat) ({ cls := "ModeDeskModel", name := "modeOf", desc := "(II)I" } : Jvm.MethodName)) ∈ lw_all := lw_g (lw_at lw_m7 232 rfl) rfl
theorem q1761 : (Jvm.Cond.privateMethod ({ cls := "ModeDeskModel", name := "modeOf", desc := "(II)I" } : Jvm.MethodName)) ∈ lw_tbl := lw_at lw_m7 233 rfl
theorem q1762 : (Jvm.Cond.instanceMethod ({ cls := "ModeDeskModel", name := "modeOf", desc := "(II)I" } : Jvm.MethodName)) ∈ lw_all := lw_g (lw_at lw_m7 234 rfl) rfl
theorem q1763 : (Jvm.Cond.code ({ cls := "ModeDeskModel", name := "modeOf", desc := "(II)I" } : Jvm.MethodName) prog_19_method_55_code (3 : Nat) (Option.some Jvm.ClassFile.FieldType.int)) ∈ lw_all := lw_g (lw_at lw_m7 235 rfl) rfl
theorem q1764 : (Jvm.Cond.methodLink "ModeDeskModel" (252 : Nat) ({ cls := "ModeDeskModel", name := "counts", desc := "(III)V" } : Jvm.MethodName)) ∈ lw_all := lw_g (lw_at lw_m7 236 rfl) rfl
theorem q1765 : (Jvm.Cond.privateMethod ({ cls := "ModeDeskModel", name := "counts", desc := "(III)V" } : Jvm.MethodName)) ∈ lw_tbl := lw_at lw_m7 237 rfl
theorem q1766 : (Jvm.Cond.instanceMethod ({ cls := "ModeDeskModel", name := "counts", desc := "(III)V" } : Jvm.MethodName)) ∈ lw_all := lw_g (lw_at lw_m7 238 rfl) rfl
theorem q1767 : (Jvm.Cond.code ({ cls := "ModeDeskModel", name := "counts", desc := "(III)V" } : Jvm.MethodName) prog_19_method_50_code (6 : Nat) (Option.none : Option Jvm.ClassFile.FieldType)) ∈ lw_all := lw_g (lw_at lw_m7 239 rfl) rfl
theorem q1768 : (Jvm.Cond.methodLink "ModeDeskModel" (256 : Nat) ({ cls := "ModeDeskModel", name := "modeBy", desc := "(I)I" } : Jvm.MethodName)) ∈ lw_all := lw_g (lw_at lw_m8 0 rfl) rfl
theorem q1769 : (Jvm.Cond.privateMethod ({ cls := "ModeDeskModel", name := "modeBy", desc := "(I)I" } : Jvm.MethodName)) ∈ lw_tbl := lw_at lw_m8 1 rfl
theorem q1770 : (Jvm.Cond.instanceMethod ({ cls := "ModeDeskModel", name := "modeBy", desc := "(I)I" } : Jvm.MethodName)) ∈ lw_all := lw_g (lw_at lw_m8 2 rfl) rfl
theorem q1771 : (Jvm.Cond.code ({ cls := "ModeDeskModel", name := "modeBy", desc := "(I)I" } : Jvm.MethodName) prog_19_method_54_code (4 : Nat) (Option.some Jvm.ClassFile.FieldType.int)) ∈ lw_all := lw_g (lw_at lw_m8 3 rfl) rfl
theorem q1772 : (Jvm.Cond.methodLink "ModeDeskModel" (245 : Nat) ({ cls := "ModeDeskModel", name := "isAhead", desc := "(III)Z" } : Jvm.MethodName)) ∈ lw_all := lw_g (lw_at lw_m8 4 rfl) rfl
theorem q1773 : (Jvm.Cond.privateMethod ({ cls := "ModeDeskModel", name := "isAhead", desc := "(III)Z" } : Jvm.MethodName)) ∈ lw_tbl := lw_at lw_m8 5 rfl
theorem q1774 : (Jvm.Cond.instanceMethod ({ cls := "ModeDeskModel", name := "isAhead", desc := "(III)Z" } : Jvm.MethodName)) ∈ lw_all := lw_g (lw_at lw_m8 6 rfl) rfl
theorem q1775 : (Jvm.Cond.code ({ cls := "ModeDeskModel", name := "isAhead", desc := "(III)Z" } : Jvm.MethodName) prog_19_method_51_code (4 : Nat) (Option.some Jvm.ClassFile.FieldType.boolean)) ∈ lw_all := lw_g (lw_at lw_m8 7 rfl) rfl
theorem q1776 : (Jvm.Cond.methodLink "ModeDeskModel" (263 : Nat) ({ cls := "ModeDeskModel", name := "told", desc := "(II)I" } : Jvm.MethodName)) ∈ lw_all := lw_g (lw_at lw_m8 8 rfl) rfl
theorem q1777 : (Jvm.Cond.privateMethod ({ cls := "ModeDeskModel", name := "told", desc := "(II)I" } : Jvm.MethodName)) ∈ lw_tbl := lw_at lw_m8 9 rfl
theorem q1778 : (Jvm.Cond.instanceMethod ({ cls := "ModeDeskModel", name := "told", desc := "(II)I" } : Jvm.MethodName)) ∈ lw_all := lw_g (lw_at lw_m8 10 rfl) rfl
theorem q1779 : (Jvm.Cond.code ({ cls := "ModeDeskModel", name := "told", desc := "(II)I" } : Jvm.MethodName) prog_19_method_56_code (3 : Nat) (Option.some Jvm.ClassFile.FieldType.int)) ∈ lw_all := lw_g (lw_at lw_m8 11 rfl) rfl
theorem q1781 : (Jvm.Cond.instanceMethod ({ cls := "ModeDeskModel", name := "ranked", desc := "(IIII)I" } : Jvm.MethodName)) ∈ lw_all := lw_g (lw_at lw_m8 13 rfl) rfl
theorem q1782 : (Jvm.Cond.selects "ModeDeskModel" ({ cls := "ModeDeskModel", name := "ranked", desc := "(IIII)I" } : Jvm.MethodName) ({ cls := "ModeDeskModel", name := "ranked", desc := "(IIII)I" } : Jvm.MethodName)) ∈ lw_all := lw_g (lw_at lw_m8 14 rfl) rfl
theorem q1783 : (Jvm.Cond.code ({ cls := "ModeDeskModel", name := "ranked", desc := "(IIII)I" } : Jvm.MethodName) prog_19_method_58_code (6 : Nat) (Option.some Jvm.ClassFile.FieldType.int)) ∈ lw_all := lw_g (lw_at lw_m8 15 rfl) rfl
theorem q1784 : (Jvm.Cond.methodLink "ModeDeskModel" (266 : Nat) ({ cls := "ModeDeskModel", name := "ofRank", desc := "(II)I" } : Jvm.MethodName)) ∈ lw_all := lw_g (lw_at lw_m8 16 rfl) rfl
theorem q1785 : (Jvm.Cond.privateMethod ({ cls := "ModeDeskModel", name := "ofRank", desc := "(II)I" } : Jvm.MethodName)) ∈ lw_tbl := lw_at lw_m8 17 rfl
theorem q1786 : (Jvm.Cond.instanceMethod ({ cls := "ModeDeskModel", name := "ofRank", desc := "(II)I" } : Jvm.MethodName)) ∈ lw_all := lw_g (lw_at lw_m8 18 rfl) rfl
theorem q1787 : (Jvm.Cond.code ({ cls := "ModeDeskModel", name := "ofRank", desc := "(II)I" } : Jvm.MethodName) prog_19_method_53_code (4 : Nat) (Option.some Jvm.ClassFile.FieldType.int)) ∈ lw_all := lw_g (lw_at lw_m8 19 rfl) rfl
theorem q1788 : (Jvm.Cond.methodLink "ModeDeskModel" (249 : Nat) ({ cls := "ModeDeskModel", name := "rankOf", desc := "(II)I" } : Jvm.MethodName)) ∈ lw_all := lw_g (lw_at lw_m8 20 rfl) rfl
theorem q1789 : (Jvm.Cond.privateMethod ({ cls := "ModeDeskModel", name := "rankOf", desc := "(II)I" } : Jvm.MethodName)) ∈ lw_tbl := lw_at lw_m8 21 rfl
theorem q1790 : (Jvm.Cond.instanceMethod ({ cls := "ModeDeskModel", name := "rankOf", desc := "(II)I" } : Jvm.MethodName)) ∈ lw_all := lw_g (lw_at lw_m8 22 rfl) rfl
theorem q1791 : (Jvm.Cond.code ({ cls := "ModeDeskModel", name := "rankOf", desc := "(II)I" } : Jvm.MethodName) prog_19_method_52_code (5 : Nat) (Option.some Jvm.ClassFile.FieldType.int)) ∈ lw_all := lw_g (lw_at lw_m8 23 rfl) rfl
theorem q1793 : (Jvm.Cond.instanceMethod ({ cls := "ModeDeskModel", name := "rank", desc := "(III)I" } : Jvm.MethodName)) ∈ lw_all := lw_g (lw_at lw_m8 25 rfl) rfl
theorem q1794 : (Jvm.Cond.selects "ModeDeskModel" ({ cls := "ModeDeskModel", name := "rank", desc := "(III)I" } : Jvm.MethodName) ({ cls := "ModeDeskModel", name := "rank", desc := "(III)I" } : Jvm.MethodName)) ∈ lw_all := lw_g (lw_at lw_m8 26 rfl) rfl
theorem q1795 : (Jvm.Cond.code ({ cls := "ModeDeskModel", name := "rank", desc := "(III)I" } : Jvm.MethodName) prog_19_method_59_code (4 : Nat) (Option.some Jvm.ClassFile.FieldType.int)) ∈ lw_all := lw_g (lw_at lw_m8 27 rfl) rfl
theorem q1797 : (Jvm.Cond.instanceMethod ({ cls := "ModeDeskModel", name := "often", desc := "(III)I" } : Jvm.MethodName)) ∈ lw_all := lw_g (lw_at lw_m8 29 rfl) rfl
theorem q1798 : (Jvm.Cond.selects "ModeDeskModel" ({ cls := "ModeDeskModel", name := "often", desc := "(III)I" } : Jvm.MethodName) ({ cls := "ModeDeskModel", name := "often", desc := "(III)I" } : Jvm.MethodName)) ∈ lw_all := lw_g (lw_at lw_m8 30 rfl) rfl
theorem q1799 : (Jvm.Cond.code ({ cls := "ModeDeskModel", name := "often", desc := "(III)I" } : Jvm.MethodName) prog_19_method_60_code (4 : Nat) (Option.some Jvm.ClassFile.FieldType.int)) ∈ lw_all := lw_g (lw_at lw_m8 31 rfl) rfl
theorem q1801 : (Jvm.Cond.instanceMethod ({ cls := "ModeDeskModel", name := "at", desc := "(II)I" } : Jvm.MethodName)) ∈ lw_all := lw_g (lw_at lw_m8 33 rfl) rfl
theorem q1802 : (Jvm.Cond.selects "ModeDeskModel" ({ cls := "ModeDeskModel", name := "at", desc := "(II)I" } : Jvm.MethodName) ({ cls := "ModeDeskModel", name := "at", desc := "(II)I" } : Jvm.MethodName)) ∈ lw_all := lw_g (lw_at lw_m8 34 rfl) rfl
theorem q1803 : (Jvm.Cond.code ({ cls := "ModeDeskModel", name := "at", desc := "(II)I" } : Jvm.MethodName) prog_19_method_61_code (5 : Nat) (Option.some Jvm.ClassFile.FieldType.int)) ∈ lw_all := lw_g (lw_at lw_m8 35 rfl) rfl
theorem q1805 : (Jvm.Cond.instanceMethod ({ cls := "ModeDeskModel", name := "unlike", desc := "(II)I" } : Jvm.MethodName)) ∈ lw_all := lw_g (lw_at lw_m8 37 rfl) rfl
theorem q1806 : (Jvm.Cond.selects "ModeDeskModel" ({ cls := "ModeDeskModel", name := "unlike", desc := "(II)I" } : Jvm.MethodName) ({ cls := "ModeDeskModel", name := "unlike", desc := "(II)I" } : Jvm.MethodName)) ∈ lw_all := lw_g (lw_at lw_m8 38 rfl) rfl
theorem q1807 : (Jvm.Cond.code ({ cls := "ModeDeskModel", name := "unlike", desc := "(II)I" } : Jvm.MethodName) prog_19_method_62_code (3 : Nat) (Option.some Jvm.ClassFile.FieldType.int)) ∈ lw_all := lw_g (lw_at lw_m8 39 rfl) rfl
theorem q1809 : (Jvm.Cond.instanceMethod ({ cls := "ModeDeskModel", name := "times", desc := "(III)I" } : Jvm.MethodName)) ∈ lw_all := lw_g (lw_at lw_m8 41 rfl) rfl
theorem q1810 : (Jvm.Cond.selects "ModeDeskModel" ({ cls := "ModeDeskModel", name := "times", desc := "(III)I" } : Jvm.MethodName) ({ cls := "ModeDeskModel", name := "times", desc := "(III)I" } : Jvm.MethodName)) ∈ lw_all := lw_g (lw_at lw_m8 42 rfl) rfl
theorem q1811 : (Jvm.Cond.code ({ cls := "ModeDeskModel", name := "times", desc := "(III)I" } : Jvm.MethodName) prog_19_method_63_code (6 : Nat) (Option.some Jvm.ClassFile.FieldType.int)) ∈ lw_all := lw_g (lw_at lw_m8 43 rfl) rfl
theorem q1813 : (Jvm.Cond.instanceMethod ({ cls := "ModeDeskModel", name := "majority", desc := "(II)I" } : Jvm.MethodName)) ∈ lw_all := lw_g (lw_at lw_m8 45 rfl) rfl
theorem q1814 : (Jvm.Cond.selects "ModeDeskModel" ({ cls := "ModeDeskModel", name := "majority", desc := "(II)I" } : Jvm.MethodName) ({ cls := "ModeDeskModel", name := "majority", desc := "(II)I" } : Jvm.MethodName)) ∈ lw_all := lw_g (lw_at lw_m8 46 rfl) rfl
theorem q1815 : (Jvm.Cond.code ({ cls := "ModeDeskModel", name := "majority", desc := "(II)I" } : Jvm.MethodName) prog_19_method_65_code (4 : Nat) (Option.some Jvm.ClassFile.FieldType.int)) ∈ lw_all := lw_g (lw_at lw_m8 47 rfl) rfl
theorem q1816 : (Jvm.Cond.methodLink "ModeDeskModel" (269 : Nat) ({ cls := "ModeDeskModel", name := "majorityOf", desc := "(II)I" } : Jvm.MethodName)) ∈ lw_all := lw_g (lw_at lw_m8 48 rfl) rfl
theorem q1817 : (Jvm.Cond.privateMethod ({ cls := "ModeDeskModel", name := "majorityOf", desc := "(II)I" } : Jvm.MethodName)) ∈ lw_tbl := lw_at lw_m8 49 rfl
theorem q1818 : (Jvm.Cond.instanceMethod ({ cls := "ModeDeskModel", name := "majorityOf", desc := "(II)I" } : Jvm.MethodName)) ∈ lw_all := lw_g (lw_at lw_m8 50 rfl) rfl
theorem q1819 : (Jvm.Cond.code ({ cls := "ModeDeskModel", name := "majorityOf", desc := "(II)I" } : Jvm.MethodName) prog_19_method_64_code (4 : Nat) (Option.some Jvm.ClassFile.FieldType.int)) ∈ lw_all := lw_g (lw_at lw_m8 51 rfl) rfl
theorem q1821 : (Jvm.Cond.instanceMethod ({ cls := "ModeDeskModel", name := "heaviest", desc := "(III)I" } : Jvm.MethodName)) ∈ lw_all := lw_g (lw_at lw_m8 53 rfl) rfl
theorem q1822 : (Jvm.Cond.selects "ModeDeskModel" ({ cls := "ModeDeskModel", name := "heaviest", desc := "(III)I" } : Jvm.MethodName) ({ cls := "ModeDeskModel", name := "heaviest", desc := "(III)I" } : Jvm.MethodName)) ∈ lw_all := lw_g (lw_at lw_m8 54 rfl) rfl
theorem q1823 : (Jvm.Cond.code ({ cls := "ModeDeskModel", name := "heaviest", desc := "(III)I" } : Jvm.MethodName) prog_19_method_67_code (10 : Nat) (Option.some Jvm.ClassFile.FieldType.int)) ∈ lw_all := lw_g (lw_at lw_m8 55 rfl) rfl
theorem q1824 : (Jvm.Cond.methodLink "ModeDeskModel" (272 : Nat) ({ cls := "ModeDeskModel", name := "weightsOf", desc := "(III)I" } : Jvm.MethodName)) ∈ lw_all := lw_g (lw_at lw_m8 56 rfl) rfl
theorem q1825 : (Jvm.Cond.privateMethod ({ cls := "ModeDeskModel", name := "weightsOf", desc := "(III)I" } : Jvm.MethodName)) ∈ lw_tbl := lw_at lw_m8 57 rfl
theorem q1826 : (Jvm.Cond.instanceMethod ({ cls := "ModeDeskModel", name := "weightsOf", desc := "(III)I" } : Jvm.MethodName)) ∈ lw_all := lw_g (lw_at lw_m8 58 rfl) rfl
theorem q1827 : (Jvm.Cond.code ({ cls := "ModeDeskModel", name := "weightsOf", desc := "(III)I" } : Jvm.MethodName) prog_19_method_66_code (6 : Nat) (Option.some Jvm.ClassFile.FieldType.int)) ∈ lw_all := lw_g (lw_at lw_m8 59 rfl) rfl
theorem q1829 : (Jvm.Cond.instanceMethod ({ cls := "ModeDeskModel", name := "pair", desc := "(III)I" } : Jvm.MethodName)) ∈ lw_all := lw_g (lw_at lw_m8 61 rfl) rfl
theorem q1830 : (Jvm.Cond.selects "ModeDeskModel" ({ cls := "ModeDeskModel", name := "pair", desc := "(III)I" } : Jvm.MethodName) ({ cls := "ModeDeskModel", name := "pair", desc := "(III)I" } : Jvm.MethodName)) ∈ lw_all := lw_g (lw_at lw_m8 62 rfl) rfl
theorem q1831 : (Jvm.Cond.code ({ cls := "ModeDeskModel", name := "pair", desc := "(III)I" } : Jvm.MethodName) prog_19_method_69_code (4 : Nat) (Option.some Jvm.ClassFile.FieldType.int)) ∈ lw_all := lw_g (lw_at lw_m8 63 rfl) rfl
theorem q1832 : (Jvm.Cond.methodLink "ModeDeskModel" (275 : Nat) ({ cls := "ModeDeskModel", name := "blocks", desc := "()I" } : Jvm.MethodName)) ∈ lw_all := lw_g (lw_at lw_m8 64 rfl) rfl
theorem q1833 : (Jvm.Cond.privateMethod ({ cls := "ModeDeskModel", name := "blocks", desc := "()I" } : Jvm.MethodName)) ∈ lw_tbl := lw_at lw_m8 65 rfl
theorem q1834 : (Jvm.Cond.instanceMethod ({ cls := "ModeDeskModel", name := "blocks", desc := "()I" } : Jvm.MethodName)) ∈ lw_all := lw_g (lw_at lw_m8 66 rfl) rfl
theorem q1835 : (Jvm.Cond.code ({ cls := "ModeDeskModel", name := "blocks", desc := "()I" } : Jvm.MethodName) prog_19_method_22_code (1 : Nat) (Option.some Jvm.ClassFile.FieldType.int)) ∈ lw_all := lw_g (lw_at lw_m8 67 rfl) rfl
theorem q1836 : (Jvm.Cond.methodLink "ModeDeskModel" (278 : Nat) ({ cls := "ModeDeskModel", name := "endOf", desc := "(I)I" } : Jvm.MethodName)) ∈ lw_all := lw_g (lw_at lw_m8 68 rfl) rfl
theorem q1837 : (Jvm.Cond.privateMethod ({ cls := "ModeDeskModel", name := "endOf", desc := "(I)I" } : Jvm.MethodName)) ∈ lw_tbl := lw_at lw_m8 69 rfl
theorem q1838 : (Jvm.Cond.instanceMethod ({ cls := "ModeDeskModel", name := "endOf", desc := "(I)I" } : Jvm.MethodName)) ∈ lw_all := lw_g (lw_at lw_m8 70 rfl) rfl
theorem q1839 : (Jvm.Cond.code ({ cls := "ModeDeskModel", name := "endOf", desc := "(I)I" } : Jvm.MethodName) prog_19_method_68_code (2 : Nat) (Option.some Jvm.ClassFile.FieldType.int)) ∈ lw_all := lw_g (lw_at lw_m8 71 rfl) rfl
theorem q1841 : (Jvm.Cond.instanceMethod ({ cls := "ModeDeskModel", name := "candidate", desc := "(III)I" } : Jvm.MethodName)) ∈ lw_all := lw_g (lw_at lw_m8 73 rfl) rfl
theorem q1842 : (Jvm.Cond.selects "ModeDeskModel" ({ cls := "ModeDeskModel", name := "candidate", desc := "(III)I" } : Jvm.MethodName) ({ cls := "ModeDeskModel", name := "candidate", desc := "(III)I" } : Jvm.MethodName)) ∈ lw_all := lw_g (lw_at lw_m8 74 rfl) rfl
theorem q1843 : (Jvm.Cond.code ({ cls := "ModeDeskModel", name := "candidate", desc := "(III)I" } : Jvm.MethodName) prog_19_method_70_code (10 : Nat) (Option.some Jvm.ClassFile.FieldType.int)) ∈ lw_all := lw_g (lw_at lw_m8 75 rfl) rfl
theorem q1845 : (Jvm.Cond.instanceMethod ({ cls := "ModeDeskModel", name := "median", desc := "(II)I" } : Jvm.MethodName)) ∈ lw_all := lw_g (lw_at lw_m8 77 rfl) rfl
theorem q1846 : (Jvm.Cond.selects "ModeDeskModel" ({ cls := "ModeDeskModel", name := "median", desc := "(II)I" } : Jvm.MethodName) ({ cls := "ModeDeskModel", name := "median", desc := "(II)I" } : Jvm.MethodName)) ∈ lw_all := lw_g (lw_at lw_m8 78 rfl) rfl
theorem q1847 : (Jvm.Cond.code ({ cls := "ModeDeskModel", name := "median", desc := "(II)I" } : Jvm.MethodName) prog_19_method_71_code (5 : Nat) (Option.some Jvm.ClassFile.FieldType.int)) ∈ lw_all := lw_g (lw_at lw_m8 79 rfl) rfl
theorem q1849 : (Jvm.Cond.instanceMethod ({ cls := "ModeDeskModel", name := "twisted", desc := "(II)I" } : Jvm.MethodName)) ∈ lw_all := lw_g (lw_at lw_m8 81 rfl) rfl
theorem q1850 : (Jvm.Cond.selects "ModeDeskModel" ({ cls := "ModeDeskModel", name := "twisted", desc := "(II)I" } : Jvm.MethodName) ({ cls := "ModeDeskModel", name := "twisted", desc := "(II)I" } : Jvm.MethodName)) ∈ lw_all := lw_g (lw_at lw_m8 82 rfl) rfl
theorem q1851 : (Jvm.Cond.code ({ cls := "ModeDeskModel", name := "twisted", desc := "(II)I" } : Jvm.MethodName) prog_19_method_72_code (6 : Nat) (Option.some Jvm.ClassFile.FieldType.int)) ∈ lw_all := lw_g (lw_at lw_m8 83 rfl) rfl
theorem q1853 : (Jvm.Cond.instanceMethod ({ cls := "ModeDeskModel", name := "run", desc := "(III)I" } : Jvm.MethodName)) ∈ lw_all := lw_g (lw_at lw_m8 85 rfl) rfl
theorem q1854 : (Jvm.Cond.selects "ModeDeskModel" ({ cls := "ModeDeskModel", name := "run", desc := "(III)I" } : Jvm.MethodName) ({ cls := "ModeDeskModel", name := "run", desc := "(III)I" } : Jvm.MethodName)) ∈ lw_all := lw_g (lw_at lw_m8 86 rfl) rfl
theorem q1855 : (Jvm.Cond.code ({ cls := "ModeDeskModel", name := "run", desc := "(III)I" } : Jvm.MethodName) prog_19_method_73_code (8 : Nat) (Option.some Jvm.ClassFile.FieldType.int)) ∈ lw_all := lw_g (lw_at lw_m8 87 rfl) rfl
theorem q1857 : (Jvm.Cond.instanceMethod ({ cls := "ModeDeskModel", name := "common", desc := "(III)I" } : Jvm.MethodName)) ∈ lw_all := lw_g (lw_at lw_m8 89 rfl) rfl
theorem q1858 : (Jvm.Cond.selects "ModeDeskModel" ({ cls := "ModeDeskModel", name := "common", desc := "(III)I" } : Jvm.MethodName) ({ cls := "ModeDeskModel", name := "common", desc := "(III)I" } : Jvm.MethodName)) ∈ lw_all := lw_g (lw_at lw_m8 90 rfl) rfl
theorem q1859 : (Jvm.Cond.code ({ cls := "ModeDeskModel", name := "common", desc := "(III)I" } : Jvm.MethodName) prog_19_method_74_code (7 : Nat) (Option.some Jvm.ClassFile.FieldType.int)) ∈ lw_all := lw_g (lw_at lw_m8 91 rfl) rfl
theorem q1861 : (Jvm.Cond.instanceMethod ({ cls := "ModeDeskModel", name := "window", desc := "(II)I" } : Jvm.MethodName)) ∈ lw_all := lw_g (lw_at lw_m8 93 rfl) rfl
theorem q1862 : (Jvm.Cond.selects "ModeDeskModel" ({ cls := "ModeDeskModel", name := "window", desc := "(II)I" } : Jvm.MethodName) ({ cls := "ModeDeskModel", name := "window", desc := "(II)I" } : Jvm.MethodName)) ∈ lw_all := lw_g (lw_at lw_m8 94 rfl) rfl
theorem q1863 : (Jvm.Cond.code ({ cls := "ModeDeskModel", name := "window", desc := "(II)I" } : Jvm.MethodName) prog_19_method_75_code (3 : Nat) (Option.some Jvm.ClassFile.FieldType.int)) ∈ lw_all := lw_g (lw_at lw_m8 95 rfl) rfl
theorem q1865 : (Jvm.Cond.instanceMethod ({ cls := "ModeDeskModel", name := "windows", desc := "(II)I" } : Jvm.MethodName)) ∈ lw_all := lw_g (lw_at lw_m8 97 rfl) rfl
theorem q1866 : (Jvm.Cond.selects "ModeDeskModel" ({ cls := "ModeDeskModel", name := "windows", desc := "(II)I" } : Jvm.MethodName) ({ cls := "ModeDeskModel", name := "windows", desc := "(II)I" } : Jvm.MethodName)) ∈ lw_all := lw_g (lw_at lw_m8 98 rfl) rfl
theorem q1867 : (Jvm.Cond.code ({ cls := "ModeDeskModel", name := "windows", desc := "(II)I" } : Jvm.MethodName) prog_19_method_76_code (8 : Nat) (Option.some Jvm.ClassFile.FieldType.int)) ∈ lw_all := lw_g (lw_at lw_m8 99 rfl) rfl
theorem q1869 : (Jvm.Cond.instanceMethod ({ cls := "ModeDeskModel", name := "spans", desc := "(I)I" } : Jvm.MethodName)) ∈ lw_all := lw_g (lw_at lw_m8 101 rfl) rfl
theorem q1870 : (Jvm.Cond.selects "ModeDeskModel" ({ cls := "ModeDeskModel", name := "spans", desc := "(I)I" } : Jvm.MethodName) ({ cls := "ModeDeskModel", name := "spans", desc := "(I)I" } : Jvm.MethodName)) ∈ lw_all := lw_g (lw_at lw_m8 102 rfl) rfl
theorem q1871 : (Jvm.Cond.code ({ cls := "ModeDeskModel", name := "spans", desc := "(I)I" } : Jvm.MethodName) prog_19_method_78_code (5 : Nat) (Option.some Jvm.ClassFile.FieldType.int)) ∈ lw_all := lw_g (lw_at lw_m8 103 rfl) rfl
theorem q1872 : (Jvm.Cond.methodLink "ModeDeskModel" (284 : Nat) ({ cls := "ModeDeskModel", name := "longer", desc := "(II)I" } : Jvm.MethodName)) ∈ lw_all := lw_g (lw_at lw_m8 104 rfl) rfl
theorem q1873 : (Jvm.Cond.privateMethod ({ cls := "ModeDeskModel", name := "longer", desc := "(II)I" } : Jvm.MethodName)) ∈ lw_tbl := lw_at lw_m8 105 rfl
theorem q1874 : (Jvm.Cond.instanceMethod ({ cls := "ModeDeskModel", name := "longer", desc := "(II)I" } : Jvm.MethodName)) ∈ lw_all := lw_g (lw_at lw_m8 106 rfl) rfl
theorem q1875 : (Jvm.Cond.code ({ cls := "ModeDeskModel", name := "longer", desc := "(II)I" } : Jvm.MethodName) prog_19_method_77_code (3 : Nat) (Option.some Jvm.ClassFile.FieldType.int)) ∈ lw_all := lw_g (lw_at lw_m8 107 rfl) rfl
theorem q1876 : (Jvm.Cond.methodLink "ModeDeskModel" (281 : Nat) ({ cls := "ModeDeskModel", name := "stands", desc := "(II)V" } : Jvm.MethodName)) ∈ lw_all := lw_g (lw_at lw_m8 108 rfl) rfl
theorem q1877 : (Jvm.Cond.privateMethod ({ cls := "ModeDeskModel", name := "stands", desc := "(II)V" } : Jvm.MethodName)) ∈ lw_tbl := lw_at lw_m8 109 rfl
theorem q1878 : (Jvm.Cond.instanceMethod ({ cls := "ModeDeskModel", name := "stands", desc := "(II)V" } : Jvm.MethodName)) ∈ lw_all := lw_g (lw_at lw_m8 110 rfl) rfl
theorem q1879 : (Jvm.Cond.code ({ cls := "ModeDeskModel", name := "stands", desc := "(II)V" } : Jvm.MethodName) prog_19_method_87_code (3 : Nat) (Option.none : Option Jvm.ClassFile.FieldType)) ∈ lw_all := lw_g (lw_at lw_m8 111 rfl) rfl
theorem q1881 : (Jvm.Cond.instanceMethod ({ cls := "ModeDeskModel", name := "longest", desc := "(II)I" } : Jvm.MethodName)) ∈ lw_all := lw_g (lw_at lw_m8 113 rfl) rfl
theorem q1882 : (Jvm.Cond.selects "ModeDeskModel" ({ cls := "ModeDeskModel", name := "longest", desc := "(II)I" } : Jvm.MethodName) ({ cls := "ModeDeskModel", name := "longest", desc := "(II)I" } : Jvm.MethodName)) ∈ lw_all := lw_g (lw_at lw_m8 114 rfl) rfl
theorem q1883 : (Jvm.Cond.code ({ cls := "ModeDeskModel", name := "longest", desc := "(II)I" } : Jvm.MethodName) prog_19_method_79_code (7 : Nat) (Option.some Jvm.ClassFile.FieldType.int)) ∈ lw_all := lw_g (lw_at lw_m8 115 rfl) rfl
theorem q1885 : (Jvm.Cond.instanceMethod ({ cls := "ModeDeskModel", name := "tightest", desc := "(II)I" } : Jvm.MethodName)) ∈ lw_all := lw_g (lw_at lw_m8 117 rfl) rfl
theorem q1886 : (Jvm.Cond.selects "ModeDeskModel" ({ cls := "ModeDeskModel", name := "tightest", desc := "(II)I" } : Jvm.MethodName) ({ cls := "ModeDeskModel", name := "tightest", desc := "(II)I" } : Jvm.MethodName)) ∈ lw_all := lw_g (lw_at lw_m8 118 rfl) rfl
theorem q1887 : (Jvm.Cond.code ({ cls := "ModeDeskModel", name := "tightest", desc := "(II)I" } : Jvm.MethodName) prog_19_method_80_code (8 : Nat) (Option.some Jvm.ClassFile.FieldType.int)) ∈ lw_all := lw_g (lw_at lw_m8 119 rfl) rfl
theorem q1889 : (Jvm.Cond.instanceMethod ({ cls := "ModeDeskModel", name := "needed", desc := "(III)I" } : Jvm.MethodName)) ∈ lw_all := lw_g (lw_at lw_m8 121 rfl) rfl
theorem q1890 : (Jvm.Cond.selects "ModeDeskModel" ({ cls := "ModeDeskModel", name := "needed", desc := "(III)I" } : Jvm.MethodName) ({ cls := "ModeDeskModel", name := "needed", desc := "(III)I" } : Jvm.MethodName)) ∈ lw_all := lw_g (lw_at lw_m8 122 rfl) rfl
theorem q1891 : (Jvm.Cond.code ({ cls := "ModeDeskModel", name := "needed", desc := "(III)I" } : Jvm.MethodName) prog_19_method_81_code (5 : Nat) (Option.some Jvm.ClassFile.FieldType.int)) ∈ lw_all := lw_g (lw_at lw_m8 123 rfl) rfl
theorem q1892 : (Jvm.Cond.methodLink "ModeDeskModel" (287 : Nat) ({ cls := "ModeDeskModel", name := "over", desc := "(II)I" } : Jvm.MethodName)) ∈ lw_all := lw_g (lw_at lw_m8 124 rfl) rfl
theorem q1893 : (Jvm.Cond.privateMethod ({ cls := "ModeDeskModel", name := "over", desc := "(II)I" } : Jvm.MethodName)) ∈ lw_tbl := lw_at lw_m8 125 rfl
theorem q1894 : (Jvm.Cond.instanceMethod ({ cls := "ModeDeskModel", name := "over", desc := "(II)I" } : Jvm.MethodName)) ∈ lw_all := lw_g (lw_at lw_m8 126 rfl) rfl
theorem q1895 : (Jvm.Cond.code ({ cls := "ModeDeskModel", name := "over", desc := "(II)I" } : Jvm.MethodName) prog_19_method_82_code (6 : Nat) (Option.some Jvm.ClassFile.FieldType.int)) ∈ lw_all := lw_g (lw_at lw_m8 127 rfl) rfl
theorem q1897 : (Jvm.Cond.instanceMethod ({ cls := "ModeDeskModel", name := "lead", desc := "(II)I" } : Jvm.MethodName)) ∈ lw_all := lw_g (lw_at lw_m8 129 rfl) rfl
theorem q1898 : (Jvm.Cond.selects "ModeDeskModel" ({ cls := "ModeDeskModel", name := "lead", desc := "(II)I" } : Jvm.MethodName) ({ cls := "ModeDeskModel", name := "lead", desc := "(II)I" } : Jvm.MethodName)) ∈ lw_all := lw_g (lw_at lw_m8 130 rfl) rfl
theorem q1899 : (Jvm.Cond.code ({ cls := "ModeDeskModel", name := "lead", desc := "(II)I" } : Jvm.MethodName) prog_19_method_83_code (4 : Nat) (Option.some Jvm.ClassFile.FieldType.int)) ∈ lw_all := lw_g (lw_at lw_m8 131 rfl) rfl
theorem q1901 : (Jvm.Cond.instanceMethod ({ cls := "ModeDeskModel", name := "rarest", desc := "(III)I" } : Jvm.MethodName)) ∈ lw_all := lw_g (lw_at lw_m8 133 rfl) rfl
theorem q1902 : (Jvm.Cond.selects "ModeDeskModel" ({ cls := "ModeDeskModel", name := "rarest", desc := "(III)I" } : Jvm.MethodName) ({ cls := "ModeDeskModel", name := "rarest", desc := "(III)I" } : Jvm.MethodName)) ∈ lw_all := lw_g (lw_at lw_m8 134 rfl) rfl
theorem q1903 : (Jvm.Cond.code ({ cls := "ModeDeskModel", name := "rarest", desc := "(III)I" } : Jvm.MethodName) prog_19_method_84_code (4 : Nat) (Option.some Jvm.ClassFile.FieldType.int)) ∈ lw_all := lw_g (lw_at lw_m8 135 rfl) rfl
theorem q1905 : (Jvm.Cond.instanceMethod ({ cls := "ModeDeskModel", name := "follow", desc := "(IIZ)I" } : Jvm.MethodName)) ∈ lw_all := lw_g (lw_at lw_m8 137 rfl) rfl
theorem q1906 : (Jvm.Cond.selects "ModeDeskModel" ({ cls := "ModeDeskModel", name := "follow", desc := "(IIZ)I" } : Jvm.MethodName) ({ cls := "ModeDeskModel", name := "follow", desc := "(IIZ)I" } : Jvm.MethodName)) ∈ lw_all := lw_g (lw_at lw_m8 138 rfl) rfl
theorem q1907 : (Jvm.Cond.code ({ cls := "ModeDeskModel", name := "follow", desc := "(IIZ)I" } : Jvm.MethodName) prog_19_method_85_code (5 : Nat) (Option.some Jvm.ClassFile.FieldType.int)) ∈ lw_all := lw_g (lw_at lw_m8 139 rfl) rfl
theorem q1909 : (Jvm.Cond.instanceMethod ({ cls := "ModeDeskModel", name := "split", desc := "(III)I" } : Jvm.MethodName)) ∈ lw_all := lw_g (lw_at lw_m8 141 rfl) rfl
theorem q1910 : (Jvm.Cond.selects "ModeDeskModel" ({ cls := "ModeDeskModel", name := "split", desc := "(III)I" } : Jvm.MethodName) ({ cls := "ModeDeskModel", name := "split", desc := "(III)I" } : Jvm.MethodName)) ∈ lw_all := lw_g (lw_at lw_m8 142 rfl) rfl
theorem q1911 : (Jvm.Cond.code ({ cls := "ModeDeskModel", name := "split", desc := "(III)I" } : Jvm.MethodName) prog_19_method_86_code (8 : Nat) (Option.some Jvm.ClassFile.FieldType.int)) ∈ lw_all := lw_g (lw_at lw_m8 143 rfl) rfl
theorem q1913 : (Jvm.Cond.instanceMethod ({ cls := "ModeDeskModel", name := "together", desc := "(IIIII)I" } : Jvm.MethodName)) ∈ lw_all := lw_g (lw_at lw_m8 145 rfl) rfl
theorem q1914 : (Jvm.Cond.selects "ModeDeskModel" ({ cls := "ModeDeskModel", name := "together", desc := "(IIIII)I" } : Jvm.MethodName) ({ cls := "ModeDeskModel", name := "together", desc := "(IIIII)I" } : Jvm.MethodName)) ∈ lw_all := lw_g (lw_at lw_m8 146 rfl) rfl
theorem q1915 : (Jvm.Cond.code ({ cls := "ModeDeskModel", name := "together", desc := "(IIIII)I" } : Jvm.MethodName) prog_19_method_88_code (8 : Nat) (Option.some Jvm.ClassFile.FieldType.int)) ∈ lw_all := lw_g (lw_at lw_m8 147 rfl) rfl
theorem q1917 : (Jvm.Cond.instanceMethod ({ cls := "ModeDeskModel", name := "agree", desc := "(III)I" } : Jvm.MethodName)) ∈ lw_all := lw_g (lw_at lw_m8 149 rfl) rfl
theorem q1918 : (Jvm.Cond.selects "ModeDeskModel" ({ cls := "ModeDeskModel", name := "agree", desc := "(III)I" } : Jvm.MethodName) ({ cls := "ModeDeskModel", name := "agree", desc := "(III)I" } : Jvm.MethodName)) ∈ lw_all := lw_g (lw_at lw_m8 150 rfl) rfl
theorem q1919 : (Jvm.Cond.code ({ cls := "ModeDeskModel", name := "agree", desc := "(III)I" } : Jvm.MethodName) prog_19_method_89_code (5 : Nat) (Option.some Jvm.ClassFile.FieldType.int)) ∈ lw_all := lw_g (lw_at lw_m8 151 rfl) rfl
theorem q1921 : (Jvm.Cond.instanceMethod ({ cls := "ModeDeskModel", name := "peeled", desc := "(III)I" } : Jvm.MethodName)) ∈ lw_all := lw_g (lw_at lw_m8 153 rfl) rfl
theorem q1922 : (Jvm.Cond.selects "ModeDeskModel" ({ cls := "ModeDeskModel", name := "peeled", desc := "(III)I" } : Jvm.MethodName) ({ cls := "ModeDeskModel", name := "peeled", desc := "(III)I" } : Jvm.MethodName)) ∈ lw_all := lw_g (lw_at lw_m8 154 rfl) rfl
theorem q1923 : (Jvm.Cond.code ({ cls := "ModeDeskModel", name := "peeled", desc := "(III)I" } : Jvm.MethodName) prog_19_method_90_code (6 : Nat) (Option.some Jvm.ClassFile.FieldType.int)) ∈ lw_all := lw_g (lw_at lw_m8 155 rfl) rfl
theorem q1925 : (Jvm.Cond.instanceMethod ({ cls := "ModeDeskModel", name := "gap", desc := "(I)I" } : Jvm.MethodName)) ∈ lw_all := lw_g (lw_at lw_m8 157 rfl) rfl
theorem q1926 : (Jvm.Cond.selects "ModeDeskModel" ({ cls := "ModeDeskModel", name := "gap", desc := "(I)I" } : Jvm.MethodName) ({ cls := "ModeDeskModel", name := "gap", desc := "(I)I" } : Jvm.MethodName)) ∈ lw_all := lw_g (lw_at lw_m8 158 rfl) rfl
theorem q1927 : (Jvm.Cond.code ({ cls := "ModeDeskModel", name := "gap", desc := "(I)I" } : Jvm.MethodName) prog_19_method_91_code (5 : Nat) (Option.some Jvm.ClassFile.FieldType.int)) ∈ lw_all := lw_g (lw_at lw_m8 159 rfl) rfl
theorem q1929 : (Jvm.Cond.instanceMethod ({ cls := "ModeDeskModel", name := "wide", desc := "(I)I" } : Jvm.MethodName)) ∈ lw_all := lw_g (lw_at lw_m8 161 rfl) rfl
theorem q1930 : (Jvm.Cond.selects "ModeDeskModel" ({ cls := "ModeDeskModel", name := "wide", desc := "(I)I" } : Jvm.MethodName) ({ cls := "ModeDeskModel", name := "wide", desc := "(I)I" } : Jvm.MethodName)) ∈ lw_all := lw_g (lw_at lw_m8 162 rfl) rfl
theorem q1931 : (Jvm.Cond.code ({ cls := "ModeDeskModel", name := "wide", desc := "(I)I" } : Jvm.MethodName) prog_19_method_92_code (5 : Nat) (Option.some Jvm.ClassFile.FieldType.int)) ∈ lw_all := lw_g (lw_at lw_m8 163 rfl) rfl
theorem q1933 : (Jvm.Cond.instanceMethod ({ cls := "ModeDeskModel", name := "reign", desc := "(II)I" } : Jvm.MethodName)) ∈ lw_all := lw_g (lw_at lw_m8 165 rfl) rfl
theorem q1934 : (Jvm.Cond.selects "ModeDeskModel" ({ cls := "ModeDeskModel", name := "reign", desc := "(II)I" } : Jvm.MethodName) ({ cls := "ModeDeskModel", name := "reign", desc := "(II)I" } : Jvm.MethodName)) ∈ lw_all := lw_g (lw_at lw_m8 166 rfl) rfl
theorem q1935 : (Jvm.Cond.code ({ cls := "ModeDeskModel", name := "reign", desc := "(II)I" } : Jvm.MethodName) prog_19_method_93_code (8 : Nat) (Option.some Jvm.ClassFile.FieldType.int)) ∈ lw_all := lw_g (lw_at lw_m8 167 rfl) rfl
theorem q1937 : (Jvm.Cond.instanceMethod ({ cls := "ModeDeskModel", name := "beginnings", desc := "(I)I" } : Jvm.MethodName)) ∈ lw_all := lw_g (lw_at lw_m8 169 rfl) rfl
theorem q1938 : (Jvm.Cond.selects "ModeDeskModel" ({ cls := "ModeDeskModel", name := "beginnings", desc := "(I)I" } : Jvm.MethodName) ({ cls := "ModeDeskModel", name := "beginnings", desc := "(I)I" } : Jvm.MethodName)) ∈ lw_all := lw_g (lw_at lw_m8 170 rfl) rfl
theorem q1939 : (Jvm.Cond.code ({ cls := "ModeDeskModel", name := "beginnings", desc := "(I)I" } : Jvm.MethodName) prog_19_method_94_code (11 : Nat) (Option.some Jvm.ClassFile.FieldType.int)) ∈ lw_all := lw_g (lw_at lw_m8 171 rfl) rfl
theorem q1941 : (Jvm.Cond.instanceMethod ({ cls := "ModeDeskModel", name := "since", desc := "(I)I" } : Jvm.MethodName)) ∈ lw_all := lw_g (lw_at lw_m8 173 rfl) rfl
theorem q1942 : (Jvm.Cond.selects "ModeDeskModel" ({ cls := "ModeDeskModel", name := "since", desc := "(I)I" } : Jvm.MethodName) ({ cls := "ModeDeskModel", name := "since", desc := "(I)I" } : Jvm.MethodName)) ∈ lw_all := lw_g (lw_at lw_m8 174 rfl) rfl
theorem q1943 : (Jvm.Cond.code ({ cls := "ModeDeskModel", name := "since", desc := "(I)I" } : Jvm.MethodName) prog_19_method_95_code (4 : Nat) (Option.some Jvm.ClassFile.FieldType.int)) ∈ lw_all := lw_g (lw_at lw_m8 175 rfl) rfl
theorem q1945 : (Jvm.Cond.instanceMethod ({ cls := "ModeDeskModel", name := "ifSet", desc := "(IIII)I" } : Jvm.MethodName)) ∈ lw_all := lw_g (lw_at lw_m8 177 rfl) rfl
theorem q1946 : (Jvm.Cond.selects "ModeDeskModel" ({ cls := "ModeDeskModel", name := "ifSet", desc := "(IIII)I" } : Jvm.MethodName) ({ cls := "ModeDeskModel", name := "ifSet", desc := "(IIII)I" } : Jvm.MethodName)) ∈ lw_all := lw_g (lw_at lw_m8 178 rfl) rfl
theorem q1947 : (Jvm.Cond.code ({ cls := "ModeDeskModel", name := "ifSet", desc := "(IIII)I" } : Jvm.MethodName) prog_19_method_96_code (7 : Nat) (Option.some Jvm.ClassFile.FieldType.int)) ∈ lw_all := lw_g (lw_at lw_m8 179 rfl) rfl
theorem q1949 : (Jvm.Cond.instanceMethod ({ cls := "ModeDeskModel", name := "ifOut", desc := "(III)I" } : Jvm.MethodName)) ∈ lw_all := lw_g (lw_at lw_m8 181 rfl) rfl
theorem q1950 : (Jvm.Cond.selects "ModeDeskModel" ({ cls := "ModeDeskModel", name := "ifOut", desc := "(III)I" } : Jvm.MethodName) ({ cls := "ModeDeskModel", name := "ifOut", desc := "(III)I" } : Jvm.MethodName)) ∈ lw_all := lw_g (lw_at lw_m8 182 rfl) rfl
theorem q1951 : (Jvm.Cond.code ({ cls := "ModeDeskModel", name := "ifOut", desc := "(III)I" } : Jvm.MethodName) prog_19_method_97_code (5 : Nat) (Option.some Jvm.ClassFile.FieldType.int)) ∈ lw_all := lw_g (lw_at lw_m8 183 rfl) rfl
theorem q1953 : (Jvm.Cond.instanceMethod ({ cls := "ModeDeskModel", name := "ifTies", desc := "(III)I" } : Jvm.MethodName)) ∈ lw_all := lw_g (lw_at lw_m8 185 rfl) rfl
theorem q1954 : (Jvm.Cond.selects "ModeDeskModel" ({ cls := "ModeDeskModel", name := "ifTies", desc := "(III)I" } : Jvm.MethodName) ({ cls := "ModeDeskModel", name := "ifTies", desc := "(III)I" } : Jvm.MethodName)) ∈ lw_all := lw_g (lw_at lw_m8 186 rfl) rfl
theorem q1955 : (Jvm.Cond.code ({ cls := "ModeDeskModel", name := "ifTies", desc := "(III)I" } : Jvm.MethodName) prog_19_method_98_code (4 : Nat) (Option.some Jvm.ClassFile.FieldType.int)) ∈ lw_all := lw_g (lw_at lw_m8 187 rfl) rfl
theorem q1957 : (Jvm.Cond.instanceMethod ({ cls := "ModeDeskModel", name := "part", desc := "(I)I" } : Jvm.MethodName)) ∈ lw_all := lw_g (lw_at lw_m8 189 rfl) rfl
theorem q1958 : (Jvm.Cond.selects "ModeDeskModel" ({ cls := "ModeDeskModel", name := "part", desc := "(I)I" } : Jvm.MethodName) ({ cls := "ModeDeskModel", name := "part", desc := "(I)I" } : Jvm.MethodName)) ∈ lw_all := lw_g (lw_at lw_m8 190 rfl) rfl
theorem q1959 : (Jvm.Cond.code ({ cls := "ModeDeskModel", name := "part", desc := "(I)I" } : Jvm.MethodName) prog_19_method_99_code (5 : Nat) (Option.some Jvm.ClassFile.FieldType.int)) ∈ lw_all := lw_g (lw_at lw_m8 191 rfl) rfl
theorem q1961 : (Jvm.Cond.instanceMethod ({ cls := "ModeDeskModel", name := "count", desc := "(I)I" } : Jvm.MethodName)) ∈ lw_all := lw_g (lw_at lw_m8 193 rfl) rfl
theorem q1962 : (Jvm.Cond.selects "ModeDeskModel" ({ cls := "ModeDeskModel", name := "count", desc := "(I)I" } : Jvm.MethodName) ({ cls := "ModeDeskModel", name := "count", desc := "(I)I" } : Jvm.MethodName)) ∈ lw_all := lw_g (lw_at lw_m8 194 rfl) rfl
theorem q1963 : (Jvm.Cond.code ({ cls := "ModeDeskModel", name := "count", desc := "(I)I" } : Jvm.MethodName) prog_19_method_100_code (2 : Nat) (Option.some Jvm.ClassFile.FieldType.int)) ∈ lw_all := lw_g (lw_at lw_m8 195 rfl) rfl
theorem q1964 : (Jvm.Cond.methodLink "ModeDeskModel" (290 : Nat) ({ cls := "ModeDeskModel", name := "unlikeOf", desc := "()I" } : Jvm.MethodName)) ∈ lw_all := lw_g (lw_at lw_m8 196 rfl) rfl
theorem q1965 : (Jvm.Cond.privateMethod ({ cls := "ModeDeskModel", name := "unlikeOf", desc := "()I" } : Jvm.MethodName)) ∈ lw_tbl := lw_at lw_m8 197 rfl
theorem q1966 : (Jvm.Cond.instanceMethod ({ cls := "ModeDeskModel", name := "unlikeOf", desc := "()I" } : Jvm.MethodName)) ∈ lw_all := lw_g (lw_at lw_m8 198 rfl) rfl
theorem q1967 : (Jvm.Cond.code ({ cls := "ModeDeskModel", name := "unlikeOf", desc := "()I" } : Jvm.MethodName) prog_19_method_101_code (1 : Nat) (Option.some Jvm.ClassFile.FieldType.int)) ∈ lw_all := lw_g (lw_at lw_m8 199 rfl) rfl
theorem q1968 : (Jvm.Cond.methodLink "ModeDeskModel" (293 : Nat) ({ cls := "ModeDeskModel", name := "weightsIn", desc := "()I" } : Jvm.MethodName)) ∈ lw_all := lw_g (lw_at lw_m8 200 rfl) rfl
theorem q1969 : (Jvm.Cond.privateMethod ({ cls := "ModeDeskModel", name := "weightsIn", desc := "()I" } : Jvm.MethodName)) ∈ lw_tbl := lw_at lw_m8 201 rfl
theorem q1970 : (Jvm.Cond.instanceMethod ({ cls := "ModeDeskModel", name := "weightsIn", desc := "()I" } : Jvm.MethodName)) ∈ lw_all := lw_g (lw_at lw_m8 202 rfl) rfl
theorem q1971 : (Jvm.Cond.code ({ cls := "ModeDeskModel", name := "weightsIn", desc := "()I" } : Jvm.MethodName) prog_19_method_102_code (3 : Nat) (Option.some Jvm.ClassFile.FieldType.int)) ∈ lw_all := lw_g (lw_at lw_m8 203 rfl) rfl
theorem q1989 : (Jvm.Cond.castable "ModeDeskModel" "java/lang/Object") ∈ lw_tbl := lw_at lw_m8 221 rfl
theorem in_X7 : ∀ w ∈ wsX70, w ∈ lw_all := lw_in wsX70 [1462, 1464, 1466, 1468, 1470, 1472, 1474, 1476, 1478, 1480, 1482, 1484, 1486, 1488, 1490, 1492, 1494, 1496, 1498, 1500, 1502, 1504, 1506, 1508, 1510, 1512, 1514, 1516, 1518, 1520, 1522, 1524, 1526, 1528, 1530, 1532, 1534, 1536, 1538, 1540, 1542, 1544] (by decide +kernel) (by decide +kernel)
