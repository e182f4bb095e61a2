/-! ModeDeskLaw -/
set_option maxRecDepth 100000
def RX0 : String := "ModeDeskLaw"
abbrev cX0_place : ByteArray := method_3_code
def yX0_place : MethodName := ⟨RX0, "place", "(LModeDesk;II[J)I"⟩
def dkwX0_place_0 : List UInt8 := [45, 3, 42, 27, 28, 182, 0, 7, 133, 80, 167, 0, 11, 58, 4, 4, 172, 58, 4, 5, 172, 3, 172]
abbrev dktX0_place_0 : List UInt8 := dkwX0_place_0 ++ []
theorem dksX0_place_0 : cX0_place.data.toList.drop 0 = dktX0_place_0 := by decide +kernel
theorem dX0_place_0 : decode cX0_place 0 = .ok (.aload_n 3, 1) := dk_45 (dk_at dksX0_place_0 0 rfl rfl)
theorem dX0_place_1 : decode cX0_place 1 = .ok (.iconst 0, 1) := dk_3 (dk_at dksX0_place_0 1 rfl rfl)
theorem dX0_place_2 : decode cX0_place 2 = .ok (.aload_n 0, 1) := dk_42 (dk_at dksX0_place_0 2 rfl rfl)
theorem dX0_place_3 : decode cX0_place 3 = .ok (.iload_n 1, 1) := dk_27 (dk_at dksX0_place_0 3 rfl rfl)
theorem dX0_place_4 : decode cX0_place 4 = .ok (.iload_n 2, 1) := dk_28 (dk_at dksX0_place_0 4 rfl rfl)
theorem dX0_place_5 : decode cX0_place 5 = .ok (.invokevirtual 7, 3) := dk_182 0 7 (dk_at dksX0_place_0 5 rfl rfl)
theorem dX0_place_8 : decode cX0_place 8 = .ok (.i2l, 1) := dk_133 (dk_at dksX0_place_0 8 rfl rfl)
theorem dX0_place_9 : decode cX0_place 9 = .ok (.lastore, 1) := dk_80 (dk_at dksX0_place_0 9 rfl rfl)
theorem dX0_place_10 : decode cX0_place 10 = .ok (.goto 11, 3) := dk_167 0 11 (dk_at dksX0_place_0 10 rfl rfl)
theorem dX0_place_13 : decode cX0_place 13 = .ok (.astore 4, 2) := dk_58 4 (dk_at dksX0_place_0 13 rfl rfl)
theorem dX0_place_15 : decode cX0_place 15 = .ok (.iconst 1, 1) := dk_4 (dk_at dksX0_place_0 15 rfl rfl)
theorem dX0_place_16 : decode cX0_place 16 = .ok (.ireturn, 1) := dk_172 (dk_at dksX0_place_0 16 rfl rfl)
theorem dX0_place_17 : decode cX0_place 17 = .ok (.astore 4, 2) := dk_58 4 (dk_at dksX0_place_0 17 rfl rfl)
theorem dX0_place_19 : decode cX0_place 19 = .ok (.iconst 2, 1) := dk_5 (dk_at dksX0_place_0 19 rfl rfl)
theorem dX0_place_20 : decode cX0_place 20 = .ok (.ireturn, 1) := dk_172 (dk_at dksX0_place_0 20 rfl rfl)
theorem dX0_place_21 : decode cX0_place 21 = .ok (.iconst 0, 1) := dk_3 (dk_at dksX0_place_0 21 rfl rfl)
theorem dX0_place_22 : decode cX0_place 22 = .ok (.ireturn, 1) := dk_172 (dk_at dksX0_place_0 22 rfl rfl)
theorem q88 : (Jvm.Cond.initialized "ModeDeskLaw") ∈ lw_all := lw_g (lw_at lw_m1 0 rfl) rfl
theorem q125 : (Jvm.Cond.classLink "ModeDeskLaw" (8 : Nat) "ModeDesk") ∈ lw_all := lw_g (lw_at lw_m1 37 rfl) rfl
theorem q127 : (Jvm.Cond.methodLink "ModeDeskLaw" (17 : Nat) ({ cls := "ModeDesk", name := "<init>", desc := "()V" } : Jvm.MethodName)) ∈ lw_all := lw_g (lw_at lw_m1 39 rfl) rfl
theorem q294 : (Jvm.Cond.methodLink "ModeDeskLaw" (21 : Nat) ({ cls := "ModeDesk", name := "feed", desc := "(IIIII)I" } : Jvm.MethodName)) ∈ lw_all := lw_g (lw_at lw_m1 206 rfl) rfl
theorem q298 : (Jvm.Cond.methodLink "ModeDeskLaw" (26 : Nat) ({ cls := "ModeDesk", name := "text", desc := "(I)I" } : Jvm.MethodName)) ∈ lw_all := lw_g (lw_at lw_m1 210 rfl) rfl
theorem q787 : (Jvm.Cond.methodLink "ModeDeskLaw" (31 : Nat) ({ cls := "ModeDesk", name := "fault", desc := "(I)I" } : Jvm.MethodName)) ∈ lw_all := lw_g (lw_at lw_m3 219 rfl) rfl
theorem q791 : (Jvm.Cond.methodLink "ModeDeskLaw" (88 : Nat) ({ cls := "ModeDesk", name := "refreshed", desc := "()I" } : Jvm.MethodName)) ∈ lw_all := lw_g (lw_at lw_m3 223 rfl) rfl
theorem q795 : (Jvm.Cond.methodLink "ModeDeskLaw" (45 : Nat) ({ cls := "ModeDesk", name := "set", desc := "(II)I" } : Jvm.MethodName)) ∈ lw_all := lw_g (lw_at lw_m3 227 rfl) rfl
theorem q835 : (Jvm.Cond.methodLink "ModeDeskLaw" (49 : Nat) ({ cls := "ModeDesk", name := "weigh", desc := "(II)I" } : Jvm.MethodName)) ∈ lw_all := lw_g (lw_at lw_m4 27 rfl) rfl
theorem q840 : (Jvm.Cond.methodLink "ModeDeskLaw" (53 : Nat) ({ cls := "ModeDesk", name := "insert", desc := "(II)I" } : Jvm.MethodName)) ∈ lw_all := lw_g (lw_at lw_m4 32 rfl) rfl
theorem q852 : (Jvm.Cond.methodLink "ModeDeskLaw" (57 : Nat) ({ cls := "ModeDesk", name := "remove", desc := "(I)I" } : Jvm.MethodName)) ∈ lw_all := lw_g (lw_at lw_m4 44 rfl) rfl
theorem q860 : (Jvm.Cond.methodLink "ModeDeskLaw" (61 : Nat) ({ cls := "ModeDesk", name := "fill", desc := "(III)I" } : Jvm.MethodName)) ∈ lw_all := lw_g (lw_at lw_m4 52 rfl) rfl
theorem q868 : (Jvm.Cond.methodLink "ModeDeskLaw" (66 : Nat) ({ cls := "ModeDesk", name := "swap", desc := "(II)Z" } : Jvm.MethodName)) ∈ lw_all := lw_g (lw_at lw_m4 60 rfl) rfl
theorem q876 : (Jvm.Cond.methodLink "ModeDeskLaw" (71 : Nat) ({ cls := "ModeDesk", name := "flip", desc := "(II)I" } : Jvm.MethodName)) ∈ lw_all := lw_g (lw_at lw_m4 68 rfl) rfl
theorem q880 : (Jvm.Cond.methodLink "ModeDeskLaw" (75 : Nat) ({ cls := "ModeDesk", name := "shift", desc := "(III)I" } : Jvm.MethodName)) ∈ lw_all := lw_g (lw_at lw_m4 72 rfl) rfl
theorem q884 : (Jvm.Cond.methodLink "ModeDeskLaw" (79 : Nat) ({ cls := "ModeDesk", name := "replace", desc := "(II)I" } : Jvm.MethodName)) ∈ lw_all := lw_g (lw_at lw_m4 76 rfl) rfl
theorem q1023 : (Jvm.Cond.methodLink "ModeDeskLaw" (83 : Nat) ({ cls := "ModeDesk", name := "sort", desc := "(IIZ)I" } : Jvm.MethodName)) ∈ lw_all := lw_g (lw_at lw_m4 215 rfl) rfl
theorem q1027 : (Jvm.Cond.methodLink "ModeDeskLaw" (92 : Nat) ({ cls := "ModeDesk", name := "undo", desc := "()I" } : Jvm.MethodName)) ∈ lw_all := lw_g (lw_at lw_m4 219 rfl) rfl
theorem q1031 : (Jvm.Cond.methodLink "ModeDeskLaw" (96 : Nat) ({ cls := "ModeDesk", name := "was", desc := "(II)I" } : Jvm.MethodName)) ∈ lw_all := lw_g (lw_at lw_m4 223 rfl) rfl
theorem q1035 : (Jvm.Cond.methodLink "ModeDeskLaw" (100 : Nat) ({ cls := "ModeDesk", name := "mode", desc := "(III)I" } : Jvm.MethodName)) ∈ lw_all := lw_g (lw_at lw_m4 227 rfl) rfl
theorem q1047 : (Jvm.Cond.methodLink "ModeDeskLaw" (104 : Nat) ({ cls := "ModeDesk", name := "ranked", desc := "(IIII)I" } : Jvm.MethodName)) ∈ lw_all := lw_g (lw_at lw_m4 239 rfl) rfl
theorem q1059 : (Jvm.Cond.methodLink "ModeDeskLaw" (109 : Nat) ({ cls := "ModeDesk", name := "rank", desc := "(III)I" } : Jvm.MethodName)) ∈ lw_all := lw_g (lw_at lw_m5 11 rfl) rfl
theorem q1063 : (Jvm.Cond.methodLink "ModeDeskLaw" (113 : Nat) ({ cls := "ModeDesk", name := "often", desc := "(III)I" } : Jvm.MethodName)) ∈ lw_all := lw_g (lw_at lw_m5 15 rfl) rfl
theorem q1067 : (Jvm.Cond.methodLink "ModeDeskLaw" (117 : Nat) ({ cls := "ModeDesk", name := "at", desc := "(II)I" } : Jvm.MethodName)) ∈ lw_all := lw_g (lw_at lw_m5 19 rfl) rfl
theorem q1071 : (Jvm.Cond.methodLink "ModeDeskLaw" (121 : Nat) ({ cls := "ModeDesk", name := "unlike", desc := "(II)I" } : Jvm.MethodName)) ∈ lw_all := lw_g (lw_at lw_m5 23 rfl) rfl
theorem q1075 : (Jvm.Cond.methodLink "ModeDeskLaw" (125 : Nat) ({ cls := "ModeDesk", name := "times", desc := "(III)I" } : Jvm.MethodName)) ∈ lw_all := lw_g (lw_at lw_m5 27 rfl) rfl
theorem q1079 : (Jvm.Cond.methodLink "ModeDeskLaw" (129 : Nat) ({ cls := "ModeDesk", name := "majority", desc := "(II)I" } : Jvm.MethodName)) ∈ lw_all := lw_g (lw_at lw_m5 31 rfl) rfl
theorem q1087 : (Jvm.Cond.methodLink "ModeDeskLaw" (133 : Nat) ({ cls := "ModeDesk", name := "heaviest", desc := "(III)I" } : Jvm.MethodName)) ∈ lw_all := lw_g (lw_at lw_m5 39 rfl) rfl
theorem q1120 : (Jvm.Cond.methodLink "ModeDeskLaw" (137 : Nat) ({ cls := "ModeDesk", name := "pair", desc := "(III)I" } : Jvm.MethodName)) ∈ lw_all := lw_g (lw_at lw_m5 72 rfl) rfl
theorem q1124 : (Jvm.Cond.methodLink "ModeDeskLaw" (141 : Nat) ({ cls := "ModeDesk", name := "candidate", desc := "(III)I" } : Jvm.MethodName)) ∈ lw_all := lw_g (lw_at lw_m5 76 rfl) rfl
theorem q1128 : (Jvm.Cond.methodLink "ModeDeskLaw" (145 : Nat) ({ cls := "ModeDesk", name := "median", desc := "(II)I" } : Jvm.MethodName)) ∈ lw_all := lw_g (lw_at lw_m5 80 rfl) rfl
theorem q1136 : (Jvm.Cond.methodLink "ModeDeskLaw" (149 : Nat) ({ cls := "ModeDesk", name := "twisted", desc := "(II)I" } : Jvm.MethodName)) ∈ lw_all := lw_g (lw_at lw_m5 88 rfl) rfl
theorem q1140 : (Jvm.Cond.methodLink "ModeDeskLaw" (153 : Nat) ({ cls := "ModeDesk", name := "run", desc := "(III)I" } : Jvm.MethodName)) ∈ lw_all := lw_g (lw_at lw_m5 92 rfl) rfl
theorem q1145 : (Jvm.Cond.methodLink "ModeDeskLaw" (157 : Nat) ({ cls := "ModeDesk", name := "common", desc := "(III)I" } : Jvm.MethodName)) ∈ lw_all := lw_g (lw_at lw_m5 97 rfl) rfl
theorem q1149 : (Jvm.Cond.methodLink "ModeDeskLaw" (161 : Nat) ({ cls := "ModeDesk", name := "window", desc := "(II)I" } : Jvm.MethodName)) ∈ lw_all := lw_g (lw_at lw_m5 101 rfl) rfl
theorem q1153 : (Jvm.Cond.methodLink "ModeDeskLaw" (165 : Nat) ({ cls := "ModeDesk", name := "windows", desc := "(II)I" } : Jvm.MethodName)) ∈ lw_all := lw_g (lw_at lw_m5 105 rfl) rfl
theorem q1173 : (Jvm.Cond.methodLink "ModeDeskLaw" (169 : Nat) ({ cls := "ModeDesk", name := "spans", desc := "(I)I" } : Jvm.MethodName)) ∈ lw_all := lw_g (lw_at lw_m5 125 rfl) rfl
theorem q1217 : (Jvm.Cond.methodLink "ModeDeskLaw" (173 : Nat) ({ cls := "ModeDesk", name := "longest", desc := "(II)I" } : Jvm.MethodName)) ∈ lw_all := lw_g (lw_at lw_m5 169 rfl) rfl
theorem q1238 : (Jvm.Cond.methodLink "ModeDeskLaw" (177 : Nat) ({ cls := "ModeDesk", name := "tightest", desc := "(II)I" } : Jvm.MethodName)) ∈ lw_all := lw_g (lw_at lw_m5 190 rfl) rfl
theorem q1242 : (Jvm.Cond.methodLink "ModeDeskLaw" (181 : Nat) ({ cls := "ModeDesk", name := "needed", desc := "(III)I" } : Jvm.MethodName)) ∈ lw_all := lw_g (lw_at lw_m5 194 rfl) rfl
theorem q1246 : (Jvm.Cond.methodLink "ModeDeskLaw" (185 : Nat) ({ cls := "ModeDesk", name := "ifSet", desc := "(IIII)I" } : Jvm.MethodName)) ∈ lw_all := lw_g (lw_at lw_m5 198 rfl) rfl
theorem q1258 : (Jvm.Cond.methodLink "ModeDeskLaw" (189 : Nat) ({ cls := "ModeDesk", name := "ifOut", desc := "(III)I" } : Jvm.MethodName)) ∈ lw_all := lw_g (lw_at lw_m5 210 rfl) rfl
theorem q1262 : (Jvm.Cond.methodLink "ModeDeskLaw" (193 : Nat) ({ cls := "ModeDesk", name := "ifTies", desc := "(III)I" } : Jvm.MethodName)) ∈ lw_all := lw_g (lw_at lw_m5 214 rfl) rfl
theorem q1266 : (Jvm.Cond.methodLink "ModeDeskLaw" (197 : Nat) ({ cls := "ModeDesk", name := "lead", desc := "(II)I" } : Jvm.MethodName)) ∈ lw_all := lw_g (lw_at lw_m5 218 rfl) rfl
theorem q1270 : (Jvm.Cond.methodLink "ModeDeskLaw" (201 : Nat) ({ cls := "ModeDesk", name := "rarest", desc := "(III)I" } : Jvm.MethodName)) ∈ lw_all := lw_g (lw_at lw_m5 222 rfl) rfl
theorem q1274 : (Jvm.Cond.methodLink "ModeDeskLaw" (205 : Nat) ({ cls := "ModeDesk", name := "follow", desc := "(IIZ)I" } : Jvm.MethodName)) ∈ lw_all := lw_g (lw_at lw_m5 226 rfl) rfl
theorem q1278 : (Jvm.Cond.methodLink "ModeDeskLaw" (209 : Nat) ({ cls := "ModeDesk", name := "split", desc := "(III)I" } : Jvm.MethodName)) ∈ lw_all := lw_g (lw_at lw_m5 230 rfl) rfl
theorem q1286 : (Jvm.Cond.methodLink "ModeDeskLaw" (213 : Nat) ({ cls := "ModeDesk", name := "together", desc := "(IIIII)I" } : Jvm.MethodName)) ∈ lw_all := lw_g (lw_at lw_m5 238 rfl) rfl
theorem q1291 : (Jvm.Cond.methodLink "ModeDeskLaw" (217 : Nat) ({ cls := "ModeDesk", name := "agree", desc := "(III)I" } : Jvm.MethodName)) ∈ lw_all := lw_g (lw_at lw_m6 3 rfl) rfl
theorem q1295 : (Jvm.Cond.methodLink "ModeDeskLaw" (221 : Nat) ({ cls := "ModeDesk", name := "peeled", desc := "(III)I" } : Jvm.MethodName)) ∈ lw_all := lw_g (lw_at lw_m6 7 rfl) rfl
theorem q1299 : (Jvm.Cond.methodLink "ModeDeskLaw" (225 : Nat) ({ cls := "ModeDesk", name := "reign", desc := "(II)I" } : Jvm.MethodName)) ∈ lw_all := lw_g (lw_at lw_m6 11 rfl) rfl
theorem q1320 : (Jvm.Cond.methodLink "ModeDeskLaw" (229 : Nat) ({ cls := "ModeDesk", name := "beginnings", desc := "(I)I" } : Jvm.MethodName)) ∈ lw_all := lw_g (lw_at lw_m6 32 rfl) rfl
theorem q1325 : (Jvm.Cond.methodLink "ModeDeskLaw" (233 : Nat) ({ cls := "ModeDesk", name := "since", desc := "(I)I" } : Jvm.MethodName)) ∈ lw_all := lw_g (lw_at lw_m6 37 rfl) rfl
theorem q1329 : (Jvm.Cond.methodLink "ModeDeskLaw" (237 : Nat) ({ cls := "ModeDesk", name := "gap", desc := "(I)I" } : Jvm.MethodName)) ∈ lw_all := lw_g (lw_at lw_m6 41 rfl) rfl
theorem q1333 : (Jvm.Cond.methodLink "ModeDeskLaw" (241 : Nat) ({ cls := "ModeDesk", name := "wide", desc := "(I)I" } : Jvm.MethodName)) ∈ lw_all := lw_g (lw_at lw_m6 45 rfl) rfl
theorem q1341 : (Jvm.Cond.methodLink "ModeDeskLaw" (245 : Nat) ({ cls := "ModeDesk", name := "part", desc := "(I)I" } : Jvm.MethodName)) ∈ lw_all := lw_g (lw_at lw_m6 53 rfl) rfl
theorem q1353 : (Jvm.Cond.methodLink "ModeDeskLaw" (249 : Nat) ({ cls := "ModeDesk", name := "count", desc := "(I)I" } : Jvm.MethodName)) ∈ lw_all := lw_g (lw_at lw_m6 65 rfl) rfl
theorem q1362 : (Jvm.Cond.methodLink "ModeDeskLaw" (35 : Nat) ({ cls := "ModeDeskLaw", name := "place", desc := "(LModeDesk;II[J)I" } : Jvm.MethodName)) ∈ lw_all := lw_g (lw_at lw_m6 74 rfl) rfl
theorem q1363 : (Jvm.Cond.static ({ cls := "ModeDeskLaw", name := "place", desc := "(LModeDesk;II[J)I" } : Jvm.MethodName)) ∈ lw_all := lw_g (lw_at lw_m6 75 rfl) rfl
theorem q1364 : (Jvm.Cond.codeWith ({ cls := "ModeDeskLaw", name := "place", desc := "(LModeDesk;II[J)I" } : Jvm.MethodName) method_3_code (5 : Nat) (Option.some Jvm.ClassFile.FieldType.int) [((0 : Nat), (10 : Nat), (13 : Nat), (13 : Nat)), ((0 : Nat), (10 : Nat), (17 : Nat), (15 : Nat))]) ∈ lw_all := lw_g (lw_at lw_m6 76 rfl) rfl
theorem q1365 : (Jvm.Cond.classLink "ModeDeskLaw" (13 : Nat) "java/lang/IndexOutOfBoundsException") ∈ lw_all := lw_g (lw_at lw_m6 77 rfl) rfl
theorem q1392 : (Jvm.Cond.classLink "ModeDeskLaw" (15 : Nat) "java/util/NoSuchElementException") ∈ lw_all := lw_g (lw_at lw_m6 104 rfl) rfl
theorem q1393 : (Jvm.Cond.methodLink "ModeDeskLaw" (7 : Nat) ({ cls := "ModeDesk", name := "place", desc := "(II)I" } : Jvm.MethodName)) ∈ lw_all := lw_g (lw_at lw_m6 105 rfl) rfl
theorem q1414 : (Jvm.Cond.classLink "ModeDeskLaw" (18 : Nat) "ModeDeskModel") ∈ lw_all := lw_g (lw_at lw_m6 126 rfl) rfl
theorem q1416 : (Jvm.Cond.methodLink "ModeDeskLaw" (20 : Nat) ({ cls := "ModeDeskModel", name := "<init>", desc := "()V" } : Jvm.MethodName)) ∈ lw_all := lw_g (lw_at lw_m6 128 rfl) rfl
theorem q1547 : (Jvm.Cond.methodLink "ModeDeskLaw" (41 : Nat) ({ cls := "ModeDeskModel", name := "thrown", desc := "()I" } : Jvm.MethodName)) ∈ lw_all := lw_g (lw_at lw_m7 19 rfl) rfl
theorem q1551 : (Jvm.Cond.methodLink "ModeDeskLaw" (25 : Nat) ({ cls := "ModeDeskModel", name := "feed", desc := "(IIIII)I" } : Jvm.MethodName)) ∈ lw_all := lw_g (lw_at lw_m7 23 rfl) rfl
theorem q1555 : (Jvm.Cond.methodLink "ModeDeskLaw" (30 : Nat) ({ cls := "ModeDeskModel", name := "text", desc := "(I)I" } : Jvm.MethodName)) ∈ lw_all := lw_g (lw_at lw_m7 27 rfl) rfl
theorem q1633 : (Jvm.Cond.methodLink "ModeDeskLaw" (34 : Nat) ({ cls := "ModeDeskModel", name := "fault", desc := "(I)I" } : Jvm.MethodName)) ∈ lw_all := lw_g (lw_at lw_m7 105 rfl) rfl
theorem q1637 : (Jvm.Cond.methodLink "ModeDeskLaw" (40 : Nat) ({ cls := "ModeDeskModel", name := "place", desc := "(II)I" } : Jvm.MethodName)) ∈ lw_all := lw_g (lw_at lw_m7 109 rfl) rfl
theorem q1653 : (Jvm.Cond.methodLink "ModeDeskLaw" (95 : Nat) ({ cls := "ModeDeskModel", name := "undo", desc := "()I" } : Jvm.MethodName)) ∈ lw_all := lw_g (lw_at lw_m7 125 rfl) rfl
theorem q1673 : (Jvm.Cond.methodLink "ModeDeskLaw" (48 : Nat) ({ cls := "ModeDeskModel", name := "set", desc := "(II)I" } : Jvm.MethodName)) ∈ lw_all := lw_g (lw_at lw_m7 145 rfl) rfl
theorem q1696 : (Jvm.Cond.methodLink "ModeDeskLaw" (52 : Nat) ({ cls := "ModeDeskModel", name := "weigh", desc := "(II)I" } : Jvm.MethodName)) ∈ lw_all := lw_g (lw_at lw_m7 168 rfl) rfl
theorem q1700 : (Jvm.Cond.methodLink "ModeDeskLaw" (56 : Nat) ({ cls := "ModeDeskModel", name := "insert", desc := "(II)I" } : Jvm.MethodName)) ∈ lw_all := lw_g (lw_at lw_m7 172 rfl) rfl
theorem q1704 : (Jvm.Cond.methodLink "ModeDeskLaw" (60 : Nat) ({ cls := "ModeDeskModel", name := "remove", desc := "(I)I" } : Jvm.MethodName)) ∈ lw_all := lw_g (lw_at lw_m7 176 rfl) rfl
theorem q1708 : (Jvm.Cond.methodLink "ModeDeskLaw" (65 : Nat) ({ cls := "ModeDeskModel", name := "fill", desc := "(III)I" } : Jvm.MethodName)) ∈ lw_all := lw_g (lw_at lw_m7 180 rfl) rfl
theorem q1724 : (Jvm.Cond.methodLink "ModeDeskLaw" (70 : Nat) ({ cls := "ModeDeskModel", name := "swap", desc := "(II)Z" } : Jvm.MethodName)) ∈ lw_all := lw_g (lw_at lw_m7 196 rfl) rfl
theorem q1732 : (Jvm.Cond.methodLink "ModeDeskLaw" (74 : Nat) ({ cls := "ModeDeskModel", name := "flip", desc := "(II)I" } : Jvm.MethodName)) ∈ lw_all := lw_g (lw_at lw_m7 204 rfl) rfl
theorem q1736 : (Jvm.Cond.methodLink "ModeDeskLaw" (78 : Nat) ({ cls := "ModeDeskModel", name := "shift", desc := "(III)I" } : Jvm.MethodName)) ∈ lw_all := lw_g (lw_at lw_m7 208 rfl) rfl
theorem q1740 : (Jvm.Cond.methodLink "ModeDeskLaw" (82 : Nat) ({ cls := "ModeDeskModel", name := "replace", desc := "(II)I" } : Jvm.MethodName)) ∈ lw_all := lw_g (lw_at lw_m7 212 rfl) rfl
theorem q1744 : (Jvm.Cond.methodLink "ModeDeskLaw" (87 : Nat) ({ cls := "ModeDeskModel", name := "sort", desc := "(IIZ)I" } : Jvm.MethodName)) ∈ lw_all := lw_g (lw_at lw_m7 216 rfl) rfl
theorem q1748 : (Jvm.Cond.methodLink "ModeDeskLaw" (91 : Nat) ({ cls := "ModeDeskModel", name := "refreshed", desc := "()I" } : Jvm.MethodName)) ∈ lw_all := lw_g (lw_at lw_m7 220 rfl) rfl
theorem q1752 : (Jvm.Cond.methodLink "ModeDeskLaw" (99 : Nat) ({ cls := "ModeDeskModel", name := "was", desc := "(II)I" } : Jvm.MethodName)) ∈ lw_all := lw_g (lw_at lw_m7 224 rfl) rfl
theorem q1756 : (Jvm.Cond.methodLink "ModeDeskLaw" (103 : Nat) ({ cls := "ModeDeskModel", name := "mode", desc := "(III)I" } : Jvm.MethodName)) ∈ lw_all := lw_g (lw_at lw_m7 228 rfl) rfl
theorem q1780 : (Jvm.Cond.methodLink "ModeDeskLaw" (108 : Nat) ({ cls := "ModeDeskModel", name := "ranked", desc := "(IIII)I" } : Jvm.MethodName)) ∈ lw_all := lw_g (lw_at lw_m8 12 rfl) rfl
theorem q1792 : (Jvm.Cond.methodLink "ModeDeskLaw" (112 : Nat) ({ cls := "ModeDeskModel", name := "rank", desc := "(III)I" } : Jvm.MethodName)) ∈ lw_all := lw_g (lw_at lw_m8 24 rfl) rfl
theorem q1796 : (Jvm.Cond.methodLink "ModeDeskLaw" (116 : Nat) ({ cls := "ModeDeskModel", name := "often", desc := "(III)I" } : Jvm.MethodName)) ∈ lw_all := lw_g (lw_at lw_m8 28 rfl) rfl
theorem q1800 : (Jvm.Cond.methodLink "ModeDeskLaw" (120 : Nat) ({ cls := "ModeDeskModel", name := "at", desc := "(II)I" } : Jvm.MethodName)) ∈ lw_all := lw_g (lw_at lw_m8 32 rfl) rfl
theorem q1804 : (Jvm.Cond.methodLink "ModeDeskLaw" (124 : Nat) ({ cls := "ModeDeskModel", name := "unlike", desc := "(II)I" } : Jvm.MethodName)) ∈ lw_all := lw_g (lw_at lw_m8 36 rfl) rfl
theorem q1808 : (Jvm.Cond.methodLink "ModeDeskLaw" (128 : Nat) ({ cls := "ModeDeskModel", name := "times", desc := "(III)I" } : Jvm.MethodName)) ∈ lw_all := lw_g (lw_at lw_m8 40 rfl) rfl
theorem q1812 : (Jvm.Cond.methodLink "ModeDeskLaw" (132 : Nat) ({ cls := "ModeDeskModel", name := "majority", desc := "(II)I" } : Jvm.MethodName)) ∈ lw_all := lw_g (lw_at lw_m8 44 rfl) rfl
theorem q1820 : (Jvm.Cond.methodLink "ModeDeskLaw" (136 : Nat) ({ cls := "ModeDeskModel", name := "heaviest", desc := "(III)I" } : Jvm.MethodName)) ∈ lw_all := lw_g (lw_at lw_m8 52 rfl) rfl
theorem q1828 : (Jvm.Cond.methodLink "ModeDeskLaw" (140 : Nat) ({ cls := "ModeDeskModel", name := "pair", desc := "(III)I" } : Jvm.MethodName)) ∈ lw_all := lw_g (lw_at lw_m8 60 rfl) rfl
theorem q1840 : (Jvm.Cond.methodLink "ModeDeskLaw" (144 : Nat) ({ cls := "ModeDeskModel", name := "candidate", desc := "(III)I" } : Jvm.MethodName)) ∈ lw_all := lw_g (lw_at lw_m8 72 rfl) rfl
theorem q1844 : (Jvm.Cond.methodLink "ModeDeskLaw" (148 : Nat) ({ cls := "ModeDeskModel", name := "median", desc := "(II)I" } : Jvm.MethodName)) ∈ lw_all := lw_g (lw_at lw_m8 76 rfl) rfl
theorem q1848 : (Jvm.Cond.methodLink "ModeDeskLaw" (152 : Nat) ({ cls := "ModeDeskModel", name := "twisted", desc := "(II)I" } : Jvm.MethodName)) ∈ lw_all := lw_g (lw_at lw_m8 80 rfl) rfl
theorem q1852 : (Jvm.Cond.methodLink "ModeDeskLaw" (156 : Nat) ({ cls := "ModeDeskModel", name := "run", desc := "(III)I" } : Jvm.MethodName)) ∈ lw_all := lw_g (lw_at lw_m8 84 rfl) rfl
theorem q1856 : (Jvm.Cond.methodLink "ModeDeskLaw" (160 : Nat) ({ cls := "ModeDeskModel", name := "common", desc := "(III)I" } : Jvm.MethodName)) ∈ lw_all := lw_g (lw_at lw_m8 88 rfl) rfl
theorem q1860 : (Jvm.Cond.methodLink "ModeDeskLaw" (164 : Nat) ({ cls := "ModeDeskModel", name := "window", desc := "(II)I" } : Jvm.MethodName)) ∈ lw_all := lw_g (lw_at lw_m8 92 rfl) rfl
theorem q1864 : (Jvm.Cond.methodLink "ModeDeskLaw" (168 : Nat) ({ cls := "ModeDeskModel", name := "windows", desc := "(II)I" } : Jvm.MethodName)) ∈ lw_all := lw_g (lw_at lw_m8 96 rfl) rfl
theorem q1868 : (Jvm.Cond.methodLink "ModeDeskLaw" (172 : Nat) ({ cls := "ModeDeskModel", name := "spans", desc := "(I)I" } : Jvm.MethodName)) ∈ lw_all := lw_g (lw_at lw_m8 100 rfl) rfl
theorem q1880 : (Jvm.Cond.methodLink "ModeDeskLaw" (176 : Nat) ({ cls := "ModeDeskModel", name := "longest", desc := "(II)I" } : Jvm.MethodName)) ∈ lw_all := lw_g (lw_at lw_m8 112 rfl) rfl
theorem q1884 : (Jvm.Cond.methodLink "ModeDeskLaw" (180 : Nat) ({ cls := "ModeDeskModel", name := "tightest", desc := "(II)I" } : Jvm.MethodName)) ∈ lw_all := lw_g (lw_at lw_m8 116 rfl) rfl
theorem q1888 : (Jvm.Cond.methodLink "ModeDeskLaw" (184 : Nat) ({ cls := "ModeDeskModel", name := "needed", desc := "(III)I" } : Jvm.MethodName)) ∈ lw_all := lw_g (lw_at lw_m8 120 rfl) rfl
theorem q1896 : (Jvm.Cond.methodLink "ModeDeskLaw" (200 : Nat) ({ cls := "ModeDeskModel", name := "lead", desc := "(II)I" } : Jvm.MethodName)) ∈ lw_all := lw_g (lw_at lw_m8 128 rfl) rfl
theorem q1900 : (Jvm.Cond.methodLink "ModeDeskLaw" (204 : Nat) ({ cls := "ModeDeskModel", name := "rarest", desc := "(III)I" } : Jvm.MethodName)) ∈ lw_all := lw_g (lw_at lw_m8 132 rfl) rfl
theorem q1904 : (Jvm.Cond.methodLink "ModeDeskLaw" (208 : Nat) ({ cls := "ModeDeskModel", name := "follow", desc := "(IIZ)I" } : Jvm.MethodName)) ∈ lw_all := lw_g (lw_at lw_m8 136 rfl) rfl
theorem q1908 : (Jvm.Cond.methodLink "ModeDeskLaw" (212 : Nat) ({ cls := "ModeDeskModel", name := "split", desc := "(III)I" } : Jvm.MethodName)) ∈ lw_all := lw_g (lw_at lw_m8 140 rfl) rfl
theorem q1912 : (Jvm.Cond.methodLink "ModeDeskLaw" (216 : Nat) ({ cls := "ModeDeskModel", name := "together", desc := "(IIIII)I" } : Jvm.MethodName)) ∈ lw_all := lw_g (lw_at lw_m8 144 rfl) rfl
theorem q1916 : (Jvm.Cond.methodLink "ModeDeskLaw" (220 : Nat) ({ cls := "ModeDeskModel", name := "agree", desc := "(III)I" } : Jvm.MethodName)) ∈ lw_all := lw_g (lw_at lw_m8 148 rfl) rfl
theorem q1920 : (Jvm.Cond.methodLink "ModeDeskLaw" (224 : Nat) ({ cls := "ModeDeskModel", name := "peeled", desc := "(III)I" } : Jvm.MethodName)) ∈ lw_all := lw_g (lw_at lw_m8 152 rfl) rfl
theorem q1924 : (Jvm.Cond.methodLink "ModeDeskLaw" (240 : Nat) ({ cls := "ModeDeskModel", name := "gap", desc := "(I)I" } : Jvm.MethodName)) ∈ lw_all := lw_g (lw_at lw_m8 156 rfl) rfl
theorem q1928 : (Jvm.Cond.methodLink "ModeDeskLaw" (244 : Nat) ({ cls := "ModeDeskModel", name := "wide", desc := "(I)I" } : Jvm.MethodName)) ∈ lw_all := lw_g (lw_at lw_m8 160 rfl) rfl
theorem q1932 : (Jvm.Cond.methodLink "ModeDeskLaw" (228 : Nat) ({ cls := "ModeDeskModel", name := "reign", desc := "(II)I" } : Jvm.MethodName)) ∈ lw_all := lw_g (lw_at lw_m8 164 rfl) rfl
theorem q1936 : (Jvm.Cond.methodLink "ModeDeskLaw" (232 : Nat) ({ cls := "ModeDeskModel", name := "beginnings", desc := "(I)I" } : Jvm.MethodName)) ∈ lw_all := lw_g (lw_at lw_m8 168 rfl) rfl
theorem q1940 : (Jvm.Cond.methodLink "ModeDeskLaw" (236 : Nat) ({ cls := "ModeDeskModel", name := "since", desc := "(I)I" } : Jvm.MethodName)) ∈ lw_all := lw_g (lw_at lw_m8 172 rfl) rfl
theorem q1944 : (Jvm.Cond.methodLink "ModeDeskLaw" (188 : Nat) ({ cls := "ModeDeskModel", name := "ifSet", desc := "(IIII)I" } : Jvm.MethodName)) ∈ lw_all := lw_g (lw_at lw_m8 176 rfl) rfl
theorem q1948 : (Jvm.Cond.methodLink "ModeDeskLaw" (192 : Nat) ({ cls := "ModeDeskModel", name := "ifOut", desc := "(III)I" } : Jvm.MethodName)) ∈ lw_all := lw_g (lw_at lw_m8 180 rfl) rfl
theorem q1952 : (Jvm.Cond.methodLink "ModeDeskLaw" (196 : Nat) ({ cls := "ModeDeskModel", name := "ifTies", desc := "(III)I" } : Jvm.MethodName)) ∈ lw_all := lw_g (lw_at lw_m8 184 rfl) rfl
theorem q1956 : (Jvm.Cond.methodLink "ModeDeskLaw" (248 : Nat) ({ cls := "ModeDeskModel", name := "part", desc := "(I)I" } : Jvm.MethodName)) ∈ lw_all := lw_g (lw_at lw_m8 188 rfl) rfl
theorem q1960 : (Jvm.Cond.methodLink "ModeDeskLaw" (252 : Nat) ({ cls := "ModeDeskModel", name := "count", desc := "(I)I" } : Jvm.MethodName)) ∈ lw_all := lw_g (lw_at lw_m8 192 rfl) rfl
/-! the law's own entry -/
set_option maxRecDepth 100000
abbrev cL_law : ByteArray := code
def dkwL_law_100 : List UInt8 := [167, 246, 14, 4, 172]
abbrev dktL_law_100 : List UInt8 := dkwL_law_100 ++ []
def dkwL_law_99 : List UInt8 := [4, 96, 46, 182, 0, 249, 44, 42, 21, 4, 4, 96, 46, 182, 0, 252, 159, 0, 5, 3, 172, 132, 4, 6]
abbrev dktL_law_99 : List UInt8 := dkwL_law_99 ++ dktL_law_100
def dkwL_law_98 : List UInt8 := [96, 46, 182, 0, 245, 44, 42, 21, 4, 4, 96, 46, 182, 0, 248, 159, 0, 30, 3, 172, 43, 42, 21, 4]
abbrev dktL_law_98 : List UInt8 := dkwL_law_98 ++ dktL_law_99
def dkwL_law_97 : List UInt8 := [46, 182, 0, 241, 44, 42, 21, 4, 4, 96, 46, 182, 0, 244, 159, 0, 55, 3, 172, 43, 42, 21, 4, 4]
abbrev dktL_law_97 : List UInt8 := dkwL_law_97 ++ dktL_law_98
def dkwL_law_96 : List UInt8 := [182, 0, 237, 44, 42, 21, 4, 4, 96, 46, 182, 0, 240, 159, 0, 80, 3, 172, 43, 42, 21, 4, 4, 96]
abbrev dktL_law_96 : List UInt8 := dkwL_law_96 ++ dktL_law_97
def dkwL_law_95 : List UInt8 := [44, 42, 21, 4, 4, 96, 46, 182, 0, 236, 159, 0, 105, 3, 172, 43, 42, 21, 4, 4, 96, 46]
abbrev dktL_law_95 : List UInt8 := dkwL_law_95 ++ dktL_law_96
def dkwL_law_94 : List UInt8 := [42, 21, 4, 4, 96, 46, 182, 0, 232, 159, 0, 130, 3, 172, 43, 42, 21, 4, 4, 96, 46, 182, 0, 233]
abbrev dktL_law_94 : List UInt8 := dkwL_law_94 ++ dktL_law_95
def dkwL_law_93 : List UInt8 := [21, 4, 5, 96, 46, 182, 0, 228, 159, 0, 155, 3, 172, 43, 42, 21, 4, 4, 96, 46, 182, 0, 229, 44]
abbrev dktL_law_93 : List UInt8 := dkwL_law_93 ++ dktL_law_94
def dkwL_law_92 : List UInt8 := [42, 21, 4, 4, 96, 46, 42, 21, 4, 5, 96, 46, 182, 0, 225, 44, 42, 21, 4, 4, 96, 46, 42]
abbrev dktL_law_92 : List UInt8 := dkwL_law_92 ++ dktL_law_93
def dkwL_law_91 : List UInt8 := [4, 96, 46, 42, 21, 4, 5, 96, 46, 42, 21, 4, 6, 96, 46, 182, 0, 224, 159, 0, 192, 3, 172, 43]
abbrev dktL_law_91 : List UInt8 := dkwL_law_91 ++ dktL_law_92
def dkwL_law_90 : List UInt8 := [21, 4, 4, 96, 46, 42, 21, 4, 5, 96, 46, 42, 21, 4, 6, 96, 46, 182, 0, 221, 44, 42, 21, 4]
abbrev dktL_law_90 : List UInt8 := dkwL_law_90 ++ dktL_law_91
def dkwL_law_89 : List UInt8 := [46, 42, 21, 4, 5, 96, 46, 42, 21, 4, 6, 96, 46, 182, 0, 220, 159, 0, 241, 3, 172, 43, 42]
abbrev dktL_law_89 : List UInt8 := dkwL_law_89 ++ dktL_law_90
def dkwL_law_88 : List UInt8 := [4, 96, 46, 42, 21, 4, 5, 96, 46, 42, 21, 4, 6, 96, 46, 182, 0, 217, 44, 42, 21, 4, 4, 96]
abbrev dktL_law_88 : List UInt8 := dkwL_law_88 ++ dktL_law_89
def dkwL_law_87 : List UInt8 := [42, 21, 4, 7, 96, 46, 42, 21, 4, 8, 96, 46, 182, 0, 216, 159, 1, 34, 3, 172, 43, 42, 21, 4]
abbrev dktL_law_87 : List UInt8 := dkwL_law_87 ++ dktL_law_88
def dkwL_law_86 : List UInt8 := [96, 46, 182, 0, 213, 44, 42, 21, 4, 4, 96, 46, 42, 21, 4, 5, 96, 46, 42, 21, 4, 6, 96, 46]
abbrev dktL_law_86 : List UInt8 := dkwL_law_86 ++ dktL_law_87
def dkwL_law_85 : List UInt8 := [96, 46, 42, 21, 4, 5, 96, 46, 42, 21, 4, 6, 96, 46, 42, 21, 4, 7, 96, 46, 42, 21, 4, 8]
abbrev dktL_law_85 : List UInt8 := dkwL_law_85 ++ dktL_law_86
def dkwL_law_84 : List UInt8 := [21, 4, 5, 96, 46, 42, 21, 4, 6, 96, 46, 182, 0, 212, 159, 1, 107, 3, 172, 43, 42, 21, 4, 4]
abbrev dktL_law_84 : List UInt8 := dkwL_law_84 ++ dktL_law_85
def dkwL_law_83 : List UInt8 := [46, 42, 21, 4, 5, 96, 46, 42, 21, 4, 6, 96, 46, 182, 0, 209, 44, 42, 21, 4, 4, 96, 46, 42]
abbrev dktL_law_83 : List UInt8 := dkwL_law_83 ++ dktL_law_84
def dkwL_law_82 : List UInt8 := [96, 46, 153, 0, 7, 4, 167, 0, 4, 3, 182, 0, 208, 159, 1, 156, 3, 172, 43, 42, 21, 4, 4, 96]
abbrev dktL_law_82 : List UInt8 := dkwL_law_82 ++ dktL_law_83
def dkwL_law_81 : List UInt8 := [167, 0, 4, 3, 182, 0, 205, 44, 42, 21, 4, 4, 96, 46, 42, 21, 4, 5, 96, 46, 42, 21, 4, 6]
abbrev dktL_law_81 : List UInt8 := dkwL_law_81 ++ dktL_law_82
def dkwL_law_80 : List UInt8 := [42, 21, 4, 4, 96, 46, 42, 21, 4, 5, 96, 46, 42, 21, 4, 6, 96, 46, 153, 0, 7, 4]
abbrev dktL_law_80 : List UInt8 := dkwL_law_80 ++ dktL_law_81
def dkwL_law_79 : List UInt8 := [4, 96, 46, 42, 21, 4, 5, 96, 46, 42, 21, 4, 6, 96, 46, 182, 0, 204, 159, 1, 221, 3, 172, 43]
abbrev dktL_law_79 : List UInt8 := dkwL_law_79 ++ dktL_law_80
def dkwL_law_78 : List UInt8 := [21, 4, 4, 96, 46, 42, 21, 4, 5, 96, 46, 42, 21, 4, 6, 96, 46, 182, 0, 201, 44, 42, 21, 4]
abbrev dktL_law_78 : List UInt8 := dkwL_law_78 ++ dktL_law_79
def dkwL_law_77 : List UInt8 := [44, 42, 21, 4, 4, 96, 46, 42, 21, 4, 5, 96, 46, 182, 0, 200, 159, 2, 14, 3, 172, 43, 42]
abbrev dktL_law_77 : List UInt8 := dkwL_law_77 ++ dktL_law_78
def dkwL_law_76 : List UInt8 := [182, 0, 196, 159, 2, 51, 3, 172, 43, 42, 21, 4, 4, 96, 46, 42, 21, 4, 5, 96, 46, 182, 0, 197]
abbrev dktL_law_76 : List UInt8 := dkwL_law_76 ++ dktL_law_77
def dkwL_law_75 : List UInt8 := [182, 0, 193, 44, 42, 21, 4, 4, 96, 46, 42, 21, 4, 5, 96, 46, 42, 21, 4, 6, 96, 46]
abbrev dktL_law_75 : List UInt8 := dkwL_law_75 ++ dktL_law_76
def dkwL_law_74 : List UInt8 := [159, 2, 100, 3, 172, 43, 42, 21, 4, 4, 96, 46, 42, 21, 4, 5, 96, 46, 42, 21, 4, 6, 96, 46]
abbrev dktL_law_74 : List UInt8 := dkwL_law_74 ++ dktL_law_75
def dkwL_law_73 : List UInt8 := [44, 42, 21, 4, 4, 96, 46, 42, 21, 4, 5, 96, 46, 42, 21, 4, 6, 96, 46, 182, 0, 192]
abbrev dktL_law_73 : List UInt8 := dkwL_law_73 ++ dktL_law_74
def dkwL_law_72 : List UInt8 := [3, 172, 43, 42, 21, 4, 4, 96, 46, 42, 21, 4, 5, 96, 46, 42, 21, 4, 6, 96, 46, 182, 0, 189]
abbrev dktL_law_72 : List UInt8 := dkwL_law_72 ++ dktL_law_73
def dkwL_law_71 : List UInt8 := [42, 21, 4, 5, 96, 46, 42, 21, 4, 6, 96, 46, 42, 21, 4, 7, 96, 46, 182, 0, 188, 159, 2, 149]
abbrev dktL_law_71 : List UInt8 := dkwL_law_71 ++ dktL_law_72
def dkwL_law_70 : List UInt8 := [96, 46, 42, 21, 4, 6, 96, 46, 42, 21, 4, 7, 96, 46, 182, 0, 185, 44, 42, 21, 4, 4, 96, 46]
abbrev dktL_law_70 : List UInt8 := dkwL_law_70 ++ dktL_law_71
def dkwL_law_69 : List UInt8 := [21, 4, 6, 96, 46, 182, 0, 184, 159, 2, 210, 3, 172, 43, 42, 21, 4, 4, 96, 46, 42, 21, 4, 5]
abbrev dktL_law_69 : List UInt8 := dkwL_law_69 ++ dktL_law_70
def dkwL_law_68 : List UInt8 := [42, 21, 4, 6, 96, 46, 182, 0, 181, 44, 42, 21, 4, 4, 96, 46, 42, 21, 4, 5, 96, 46, 42]
abbrev dktL_law_68 : List UInt8 := dkwL_law_68 ++ dktL_law_69
def dkwL_law_67 : List UInt8 := [5, 96, 46, 182, 0, 180, 159, 3, 3, 3, 172, 43, 42, 21, 4, 4, 96, 46, 42, 21, 4, 5, 96, 46]
abbrev dktL_law_67 : List UInt8 := dkwL_law_67 ++ dktL_law_68
def dkwL_law_66 : List UInt8 := [21, 4, 4, 96, 46, 42, 21, 4, 5, 96, 46, 182, 0, 177, 44, 42, 21, 4, 4, 96, 46, 42, 21, 4]
abbrev dktL_law_66 : List UInt8 := dkwL_law_66 ++ dktL_law_67
def dkwL_law_65 : List UInt8 := [44, 42, 21, 4, 4, 96, 46, 42, 21, 4, 5, 96, 46, 182, 0, 176, 159, 3, 40, 3, 172, 43, 42]
abbrev dktL_law_65 : List UInt8 := dkwL_law_65 ++ dktL_law_66
def dkwL_law_64 : List UInt8 := [182, 0, 172, 159, 3, 77, 3, 172, 43, 42, 21, 4, 4, 96, 46, 42, 21, 4, 5, 96, 46, 182, 0, 173]
abbrev dktL_law_64 : List UInt8 := dkwL_law_64 ++ dktL_law_65
def dkwL_law_63 : List UInt8 := [159, 3, 102, 3, 172, 43, 42, 21, 4, 4, 96, 46, 182, 0, 169, 44, 42, 21, 4, 4, 96, 46]
abbrev dktL_law_63 : List UInt8 := dkwL_law_63 ++ dktL_law_64
def dkwL_law_62 : List UInt8 := [5, 96, 46, 182, 0, 165, 44, 42, 21, 4, 4, 96, 46, 42, 21, 4, 5, 96, 46, 182, 0, 168]
abbrev dktL_law_62 : List UInt8 := dkwL_law_62 ++ dktL_law_63
def dkwL_law_61 : List UInt8 := [42, 21, 4, 5, 96, 46, 182, 0, 164, 159, 3, 139, 3, 172, 43, 42, 21, 4, 4, 96, 46, 42, 21, 4]
abbrev dktL_law_61 : List UInt8 := dkwL_law_61 ++ dktL_law_62
def dkwL_law_60 : List UInt8 := [172, 43, 42, 21, 4, 4, 96, 46, 42, 21, 4, 5, 96, 46, 182, 0, 161, 44, 42, 21, 4, 4, 96, 46]
abbrev dktL_law_60 : List UInt8 := dkwL_law_60 ++ dktL_law_61
def dkwL_law_59 : List UInt8 := [21, 4, 4, 96, 46, 42, 21, 4, 5, 96, 46, 42, 21, 4, 6, 96, 46, 182, 0, 160, 159, 3, 176, 3]
abbrev dktL_law_59 : List UInt8 := dkwL_law_59 ++ dktL_law_60
def dkwL_law_58 : List UInt8 := [42, 21, 4, 4, 96, 46, 42, 21, 4, 5, 96, 46, 42, 21, 4, 6, 96, 46, 182, 0, 157, 44, 42]
abbrev dktL_law_58 : List UInt8 := dkwL_law_58 ++ dktL_law_59
def dkwL_law_57 : List UInt8 := [4, 96, 46, 42, 21, 4, 5, 96, 46, 42, 21, 4, 6, 96, 46, 182, 0, 156, 159, 3, 225, 3, 172, 43]
abbrev dktL_law_57 : List UInt8 := dkwL_law_57 ++ dktL_law_58
def dkwL_law_56 : List UInt8 := [21, 4, 4, 96, 46, 42, 21, 4, 5, 96, 46, 42, 21, 4, 6, 96, 46, 182, 0, 153, 44, 42, 21, 4]
abbrev dktL_law_56 : List UInt8 := dkwL_law_56 ++ dktL_law_57
def dkwL_law_55 : List UInt8 := [44, 42, 21, 4, 4, 96, 46, 42, 21, 4, 5, 96, 46, 182, 0, 152, 159, 4, 18, 3, 172, 43, 42]
abbrev dktL_law_55 : List UInt8 := dkwL_law_55 ++ dktL_law_56
def dkwL_law_54 : List UInt8 := [182, 0, 148, 159, 4, 55, 3, 172, 43, 42, 21, 4, 4, 96, 46, 42, 21, 4, 5, 96, 46, 182, 0, 149]
abbrev dktL_law_54 : List UInt8 := dkwL_law_54 ++ dktL_law_55
def dkwL_law_53 : List UInt8 := [42, 21, 4, 5, 96, 46, 182, 0, 145, 44, 42, 21, 4, 4, 96, 46, 42, 21, 4, 5, 96, 46]
abbrev dktL_law_53 : List UInt8 := dkwL_law_53 ++ dktL_law_54
def dkwL_law_52 : List UInt8 := [5, 96, 46, 42, 21, 4, 6, 96, 46, 182, 0, 144, 159, 4, 92, 3, 172, 43, 42, 21, 4, 4, 96, 46]
abbrev dktL_law_52 : List UInt8 := dkwL_law_52 ++ dktL_law_53
def dkwL_law_51 : List UInt8 := [21, 4, 5, 96, 46, 42, 21, 4, 6, 96, 46, 182, 0, 141, 44, 42, 21, 4, 4, 96, 46, 42, 21, 4]
abbrev dktL_law_51 : List UInt8 := dkwL_law_51 ++ dktL_law_52
def dkwL_law_50 : List UInt8 := [46, 42, 21, 4, 6, 96, 46, 182, 0, 140, 159, 4, 141, 3, 172, 43, 42, 21, 4, 4, 96, 46, 42]
abbrev dktL_law_50 : List UInt8 := dkwL_law_50 ++ dktL_law_51
def dkwL_law_49 : List UInt8 := [5, 96, 46, 42, 21, 4, 6, 96, 46, 182, 0, 137, 44, 42, 21, 4, 4, 96, 46, 42, 21, 4, 5, 96]
abbrev dktL_law_49 : List UInt8 := dkwL_law_49 ++ dktL_law_50
def dkwL_law_48 : List UInt8 := [42, 21, 4, 6, 96, 46, 182, 0, 136, 159, 4, 190, 3, 172, 43, 42, 21, 4, 4, 96, 46, 42, 21, 4]
abbrev dktL_law_48 : List UInt8 := dkwL_law_48 ++ dktL_law_49
def dkwL_law_47 : List UInt8 := [96, 46, 42, 21, 4, 6, 96, 46, 182, 0, 133, 44, 42, 21, 4, 4, 96, 46, 42, 21, 4, 5, 96, 46]
abbrev dktL_law_47 : List UInt8 := dkwL_law_47 ++ dktL_law_48
def dkwL_law_46 : List UInt8 := [21, 4, 5, 96, 46, 182, 0, 132, 159, 4, 239, 3, 172, 43, 42, 21, 4, 4, 96, 46, 42, 21, 4, 5]
abbrev dktL_law_46 : List UInt8 := dkwL_law_46 ++ dktL_law_47
def dkwL_law_45 : List UInt8 := [42, 21, 4, 4, 96, 46, 42, 21, 4, 5, 96, 46, 182, 0, 129, 44, 42, 21, 4, 4, 96, 46, 42]
abbrev dktL_law_45 : List UInt8 := dkwL_law_45 ++ dktL_law_46
def dkwL_law_44 : List UInt8 := [4, 96, 46, 42, 21, 4, 5, 96, 46, 42, 21, 4, 6, 96, 46, 182, 0, 128, 159, 5, 20, 3, 172, 43]
abbrev dktL_law_44 : List UInt8 := dkwL_law_44 ++ dktL_law_45
def dkwL_law_43 : List UInt8 := [21, 4, 4, 96, 46, 42, 21, 4, 5, 96, 46, 42, 21, 4, 6, 96, 46, 182, 0, 125, 44, 42, 21, 4]
abbrev dktL_law_43 : List UInt8 := dkwL_law_43 ++ dktL_law_44
def dkwL_law_42 : List UInt8 := [44, 42, 21, 4, 4, 96, 46, 42, 21, 4, 5, 96, 46, 182, 0, 124, 159, 5, 69, 3, 172, 43, 42]
abbrev dktL_law_42 : List UInt8 := dkwL_law_42 ++ dktL_law_43
def dkwL_law_41 : List UInt8 := [182, 0, 120, 159, 5, 106, 3, 172, 43, 42, 21, 4, 4, 96, 46, 42, 21, 4, 5, 96, 46, 182, 0, 121]
abbrev dktL_law_41 : List UInt8 := dkwL_law_41 ++ dktL_law_42
def dkwL_law_40 : List UInt8 := [96, 46, 42, 21, 4, 5, 96, 46, 182, 0, 117, 44, 42, 21, 4, 4, 96, 46, 42, 21, 4, 5, 96, 46]
abbrev dktL_law_40 : List UInt8 := dkwL_law_40 ++ dktL_law_41
def dkwL_law_39 : List UInt8 := [21, 4, 5, 96, 46, 42, 21, 4, 6, 96, 46, 182, 0, 116, 159, 5, 143, 3, 172, 43, 42, 21, 4, 4]
abbrev dktL_law_39 : List UInt8 := dkwL_law_39 ++ dktL_law_40
def dkwL_law_38 : List UInt8 := [42, 21, 4, 5, 96, 46, 42, 21, 4, 6, 96, 46, 182, 0, 113, 44, 42, 21, 4, 4, 96, 46, 42]
abbrev dktL_law_38 : List UInt8 := dkwL_law_38 ++ dktL_law_39
def dkwL_law_37 : List UInt8 := [5, 96, 46, 42, 21, 4, 6, 96, 46, 182, 0, 112, 159, 5, 192, 3, 172, 43, 42, 21, 4, 4, 96, 46]
abbrev dktL_law_37 : List UInt8 := dkwL_law_37 ++ dktL_law_38
def dkwL_law_36 : List UInt8 := [21, 4, 5, 96, 46, 42, 21, 4, 6, 96, 46, 182, 0, 109, 44, 42, 21, 4, 4, 96, 46, 42, 21, 4]
abbrev dktL_law_36 : List UInt8 := dkwL_law_36 ++ dktL_law_37
def dkwL_law_35 : List UInt8 := [46, 42, 21, 4, 7, 96, 46, 182, 0, 108, 159, 5, 241, 3, 172, 43, 42, 21, 4, 4, 96, 46, 42]
abbrev dktL_law_35 : List UInt8 := dkwL_law_35 ++ dktL_law_36
def dkwL_law_34 : List UInt8 := [7, 96, 46, 182, 0, 104, 44, 42, 21, 4, 4, 96, 46, 42, 21, 4, 5, 96, 46, 42, 21, 4, 6, 96]
abbrev dktL_law_34 : List UInt8 := dkwL_law_34 ++ dktL_law_35
def dkwL_law_33 : List UInt8 := [3, 172, 43, 42, 21, 4, 4, 96, 46, 42, 21, 4, 5, 96, 46, 42, 21, 4, 6, 96, 46, 42, 21, 4]
abbrev dktL_law_33 : List UInt8 := dkwL_law_33 ++ dktL_law_34
def dkwL_law_32 : List UInt8 := [42, 21, 4, 4, 96, 46, 42, 21, 4, 5, 96, 46, 42, 21, 4, 6, 96, 46, 182, 0, 103, 159, 6, 46]
abbrev dktL_law_32 : List UInt8 := dkwL_law_32 ++ dktL_law_33
def dkwL_law_31 : List UInt8 := [172, 43, 42, 21, 4, 4, 96, 46, 42, 21, 4, 5, 96, 46, 42, 21, 4, 6, 96, 46, 182, 0, 100, 44]
abbrev dktL_law_31 : List UInt8 := dkwL_law_31 ++ dktL_law_32
def dkwL_law_30 : List UInt8 := [46, 182, 0, 96, 44, 42, 21, 4, 4, 96, 46, 42, 21, 4, 5, 96, 46, 182, 0, 99, 159, 6, 95, 3]
abbrev dktL_law_30 : List UInt8 := dkwL_law_30 ++ dktL_law_31
def dkwL_law_29 : List UInt8 := [182, 0, 92, 44, 182, 0, 95, 159, 6, 132, 3, 172, 43, 42, 21, 4, 4, 96, 46, 42, 21, 4, 5, 96]
abbrev dktL_law_29 : List UInt8 := dkwL_law_29 ++ dktL_law_30
def dkwL_law_28 : List UInt8 := [182, 0, 87, 159, 6, 158, 3, 172, 43, 182, 0, 88, 44, 182, 0, 91, 159, 6, 145, 3, 172, 43]
abbrev dktL_law_28 : List UInt8 := dkwL_law_28 ++ dktL_law_29
def dkwL_law_27 : List UInt8 := [4, 96, 46, 42, 21, 4, 5, 96, 46, 42, 21, 4, 6, 96, 46, 153, 0, 7, 4, 167, 0, 4, 3]
abbrev dktL_law_27 : List UInt8 := dkwL_law_27 ++ dktL_law_28
def dkwL_law_26 : List UInt8 := [5, 96, 46, 42, 21, 4, 6, 96, 46, 153, 0, 7, 4, 167, 0, 4, 3, 182, 0, 83, 44, 42, 21, 4]
abbrev dktL_law_26 : List UInt8 := dkwL_law_26 ++ dktL_law_27
def dkwL_law_25 : List UInt8 := [42, 21, 4, 5, 96, 46, 182, 0, 82, 159, 6, 223, 3, 172, 43, 42, 21, 4, 4, 96, 46, 42, 21, 4]
abbrev dktL_law_25 : List UInt8 := dkwL_law_25 ++ dktL_law_26
def dkwL_law_24 : List UInt8 := [172, 43, 42, 21, 4, 4, 96, 46, 42, 21, 4, 5, 96, 46, 182, 0, 79, 44, 42, 21, 4, 4, 96, 46]
abbrev dktL_law_24 : List UInt8 := dkwL_law_24 ++ dktL_law_25
def dkwL_law_23 : List UInt8 := [21, 4, 4, 96, 46, 42, 21, 4, 5, 96, 46, 42, 21, 4, 6, 96, 46, 182, 0, 78, 159, 7, 4, 3]
abbrev dktL_law_23 : List UInt8 := dkwL_law_23 ++ dktL_law_24
def dkwL_law_22 : List UInt8 := [43, 42, 21, 4, 4, 96, 46, 42, 21, 4, 5, 96, 46, 42, 21, 4, 6, 96, 46, 182, 0, 75, 44, 42]
abbrev dktL_law_22 : List UInt8 := dkwL_law_22 ++ dktL_law_23
def dkwL_law_21 : List UInt8 := [182, 0, 71, 44, 42, 21, 4, 4, 96, 46, 42, 21, 4, 5, 96, 46, 182, 0, 74, 159, 7, 53, 3, 172]
abbrev dktL_law_21 : List UInt8 := dkwL_law_21 ++ dktL_law_22
def dkwL_law_20 : List UInt8 := [5, 96, 46, 182, 0, 70, 159, 7, 90, 3, 172, 43, 42, 21, 4, 4, 96, 46, 42, 21, 4, 5, 96, 46]
abbrev dktL_law_20 : List UInt8 := dkwL_law_20 ++ dktL_law_21
def dkwL_law_19 : List UInt8 := [21, 4, 4, 96, 46, 42, 21, 4, 5, 96, 46, 182, 0, 66, 44, 42, 21, 4, 4, 96, 46, 42, 21, 4]
abbrev dktL_law_19 : List UInt8 := dkwL_law_19 ++ dktL_law_20
def dkwL_law_18 : List UInt8 := [46, 42, 21, 4, 5, 96, 46, 42, 21, 4, 6, 96, 46, 182, 0, 65, 159, 7, 127, 3, 172, 43, 42]
abbrev dktL_law_18 : List UInt8 := dkwL_law_18 ++ dktL_law_19
def dkwL_law_17 : List UInt8 := [4, 96, 46, 42, 21, 4, 5, 96, 46, 42, 21, 4, 6, 96, 46, 182, 0, 61, 44, 42, 21, 4, 4, 96]
abbrev dktL_law_17 : List UInt8 := dkwL_law_17 ++ dktL_law_18
def dkwL_law_16 : List UInt8 := [96, 46, 182, 0, 57, 44, 42, 21, 4, 4, 96, 46, 182, 0, 60, 159, 7, 176, 3, 172, 43, 42, 21, 4]
abbrev dktL_law_16 : List UInt8 := dkwL_law_16 ++ dktL_law_17
def dkwL_law_15 : List UInt8 := [21, 4, 4, 96, 46, 42, 21, 4, 5, 96, 46, 182, 0, 56, 159, 7, 201, 3, 172, 43, 42, 21, 4, 4]
abbrev dktL_law_15 : List UInt8 := dkwL_law_15 ++ dktL_law_16
def dkwL_law_14 : List UInt8 := [159, 7, 238, 3, 172, 43, 42, 21, 4, 4, 96, 46, 42, 21, 4, 5, 96, 46, 182, 0, 53, 44, 42]
abbrev dktL_law_14 : List UInt8 := dkwL_law_14 ++ dktL_law_15
def dkwL_law_13 : List UInt8 := [21, 4, 5, 96, 46, 182, 0, 49, 44, 42, 21, 4, 4, 96, 46, 42, 21, 4, 5, 96, 46, 182, 0, 52]
abbrev dktL_law_13 : List UInt8 := dkwL_law_13 ++ dktL_law_14
def dkwL_law_12 : List UInt8 := [96, 46, 42, 21, 4, 5, 96, 46, 182, 0, 48, 159, 8, 19, 3, 172, 43, 42, 21, 4, 4, 96, 46, 42]
abbrev dktL_law_12 : List UInt8 := dkwL_law_12 ++ dktL_law_13
def dkwL_law_11 : List UInt8 := [167, 8, 54, 43, 42, 21, 4, 4, 96, 46, 42, 21, 4, 5, 96, 46, 182, 0, 45, 44, 42, 21, 4, 4]
abbrev dktL_law_11 : List UInt8 := dkwL_law_11 ++ dktL_law_12
def dkwL_law_10 : List UInt8 := [159, 0, 5, 3, 172, 21, 5, 154, 0, 15, 45, 3, 47, 21, 6, 133, 148, 153, 0, 5, 3, 172]
abbrev dktL_law_10 : List UInt8 := dkwL_law_10 ++ dktL_law_11
def dkwL_law_9 : List UInt8 := [44, 42, 21, 4, 4, 96, 46, 42, 21, 4, 5, 96, 46, 182, 0, 40, 54, 6, 44, 182, 0, 41, 21, 5]
abbrev dktL_law_9 : List UInt8 := dkwL_law_9 ++ dktL_law_10
def dkwL_law_8 : List UInt8 := [159, 8, 124, 3, 172, 43, 42, 21, 4, 4, 96, 46, 42, 21, 4, 5, 96, 46, 45, 184, 0, 35, 54, 5]
abbrev dktL_law_8 : List UInt8 := dkwL_law_8 ++ dktL_law_9
def dkwL_law_7 : List UInt8 := [3, 172, 43, 42, 21, 4, 4, 96, 46, 182, 0, 31, 44, 42, 21, 4, 4, 96, 46, 182, 0, 34]
abbrev dktL_law_7 : List UInt8 := dkwL_law_7 ++ dktL_law_8
def dkwL_law_6 : List UInt8 := [172, 43, 42, 21, 4, 4, 96, 46, 182, 0, 26, 44, 42, 21, 4, 4, 96, 46, 182, 0, 30, 159, 8, 149]
abbrev dktL_law_6 : List UInt8 := dkwL_law_6 ++ dktL_law_7
def dkwL_law_5 : List UInt8 := [21, 4, 6, 96, 46, 42, 21, 4, 7, 96, 46, 42, 21, 4, 8, 96, 46, 182, 0, 25, 159, 8, 174, 3]
abbrev dktL_law_5 : List UInt8 := dkwL_law_5 ++ dktL_law_6
def dkwL_law_4 : List UInt8 := [46, 42, 21, 4, 8, 96, 46, 182, 0, 21, 44, 42, 21, 4, 4, 96, 46, 42, 21, 4, 5, 96, 46, 42]
abbrev dktL_law_4 : List UInt8 := dkwL_law_4 ++ dktL_law_5
def dkwL_law_3 : List UInt8 := [43, 42, 21, 4, 4, 96, 46, 42, 21, 4, 5, 96, 46, 42, 21, 4, 6, 96, 46, 42, 21, 4, 7, 96]
abbrev dktL_law_3 : List UInt8 := dkwL_law_3 ++ dktL_law_4
def dkwL_law_2 : List UInt8 := [170, 0, 0, 0, 0, 0, 9, 222, 0, 0, 0, 0, 0, 0, 0, 54, 0, 0, 0, 236, 0, 0, 1, 53, 0, 0, 1, 78, 0, 0, 1, 103, 0, 0, 1, 171, 0, 0, 1, 208, 0, 0, 1, 245, 0, 0, 2, 26, 0, 0, 2, 51, 0, 0, 2, 100, 0, 0, 2, 137, 0, 0, 2, 174, 0, 0, 2, 223, 0, 0, 3, 4, 0, 0, 3, 69, 0, 0, 3, 82, 0, 0, 3, 95, 0, 0, 3, 132, 0, 0, 3, 181, 0, 0, 3, 242, 0, 0, 4, 35, 0, 0, 4, 84, 0, 0, 4, 121, 0, 0, 4, 158, 0, 0, 4, 207, 0, 0, 4, 244, 0, 0, 5, 37, 0, 0, 5, 86, 0, 0, 5, 135, 0, 0, 5, 172, 0, 0, 5, 209, 0, 0, 6, 2, 0, 0, 6, 51, 0, 0, 6, 88, 0, 0, 6, 125, 0, 0, 6, 150, 0, 0, 6, 187, 0, 0, 6, 224, 0, 0, 7, 17, 0, 0, 7, 78, 0, 0, 7, 127, 0, 0, 7, 176, 0, 0, 7, 213, 0, 0, 8, 6, 0, 0, 8, 71, 0, 0, 8, 120, 0, 0, 8, 193, 0, 0, 8, 242, 0, 0, 9, 35, 0, 0, 9, 72, 0, 0, 9, 97, 0, 0, 9, 122, 0, 0, 9, 147, 0, 0, 9, 172, 0, 0, 9, 197]
abbrev dktL_law_2 : List UInt8 := dkwL_law_2 ++ dktL_law_3
def dkwL_law_1 : List UInt8 := [21, 4, 42, 190, 16, 6, 100, 163, 9, 238, 42, 21, 4, 46, 16, 63, 126]
abbrev dktL_law_1 : List UInt8 := dkwL_law_1 ++ dktL_law_2
def dkwL_law_0 : List UInt8 := [187, 0, 8, 89, 183, 0, 17, 76, 187, 0, 18, 89, 183, 0, 20, 77, 4, 188, 11, 78, 3, 54, 4]
abbrev dktL_law_0 : List UInt8 := dkwL_law_0 ++ dktL_law_1
theorem dksL_law_0 : cL_law.data.toList.drop 0 = dktL_law_0 := by decide +kernel
theorem dksL_law_1 : cL_law.data.toList.drop 23 = dktL_law_1 := dk_seg dksL_law_0 23 rfl rfl
theorem dksL_law_2 : cL_law.data.toList.drop 40 = dktL_law_2 := dk_seg dksL_law_1 17 rfl rfl
theorem dksL_law_3 : cL_law.data.toList.drop 276 = dktL_law_3 := dk_seg dksL_law_2 236 rfl rfl
theorem dksL_law_4 : cL_law.data.toList.drop 300 = dktL_law_4 := dk_seg dksL_law_3 24 rfl rfl
theorem dksL_law_5 : cL_law.data.toList.drop 324 = dktL_law_5 := dk_seg dksL_law_4 24 rfl rfl
theorem dksL_law_6 : cL_law.data.toList.drop 348 = dktL_law_6 := dk_seg dksL_law_5 24 rfl rfl
theorem dksL_law_7 : cL_law.data.toList.drop 372 = dktL_law_7 := dk_seg dksL_law_6 24 rfl rfl
theorem dksL_law_8 : cL_law.data.toList.drop 394 = dktL_law_8 := dk_seg dksL_law_7 22 rfl rfl
theorem dksL_law_9 : cL_law.data.toList.drop 418 = dktL_law_9 := dk_seg dksL_law_8 24 rfl rfl
theorem dksL_law_10 : cL_law.data.toList.drop 442 = dktL_law_10 := dk_seg dksL_law_9 24 rfl rfl
theorem dksL_law_11 : cL_law.data.toList.drop 464 = dktL_law_11 := dk_seg dksL_law_10 22 rfl rfl
theorem dksL_law_12 : cL_law.data.toList.drop 488 = dktL_law_12 := dk_seg dksL_law_11 24 rfl rfl
theorem dksL_law_13 : cL_law.data.toList.drop 512 = dktL_law_13 := dk_seg dksL_law_12 24 rfl rfl
theorem dksL_law_14 : cL_law.data.toList.drop 536 = dktL_law_14 := dk_seg dksL_law_13 24 rfl rfl
theorem dksL_law_15 : cL_law.data.toList.drop 559 = dktL_law_15 := dk_seg dksL_law_14 23 rfl rfl
theorem dksL_law_16 : cL_law.data.toList.drop 583 = dktL_law_16 := dk_seg dksL_law_15 24 rfl rfl
theorem dksL_law_17 : cL_law.data.toList.drop 607 = dktL_law_17 := dk_seg dksL_law_16 24 rfl rfl
theorem dksL_law_18 : cL_law.data.toList.drop 631 = dktL_law_18 := dk_seg dksL_law_17 24 rfl rfl
theorem dksL_law_19 : cL_law.data.toList.drop 654 = dktL_law_19 := dk_seg dksL_law_18 23 rfl rfl
theorem dksL_law_20 : cL_law.data.toList.drop 678 = dktL_law_20 := dk_seg dksL_law_19 24 rfl rfl
theorem dksL_law_21 : cL_law.data.toList.drop 702 = dktL_law_21 := dk_seg dksL_law_20 24 rfl rfl
theorem dksL_law_22 : cL_law.data.toList.drop 726 = dktL_law_22 := dk_seg dksL_law_21 24 rfl rfl
theorem dksL_law_23 : cL_law.data.toList.drop 750 = dktL_law_23 := dk_seg dksL_law_22 24 rfl rfl
theorem dksL_law_24 : cL_law.data.toList.drop 774 = dktL_law_24 := dk_seg dksL_law_23 24 rfl rfl
theorem dksL_law_25 : cL_law.data.toList.drop 798 = dktL_law_25 := dk_seg dksL_law_24 24 rfl rfl
theorem dksL_law_26 : cL_law.data.toList.drop 822 = dktL_law_26 := dk_seg dksL_law_25 24 rfl rfl
theorem dksL_law_27 : cL_law.data.toList.drop 846 = dktL_law_27 := dk_seg dksL_law_26 24 rfl rfl
theorem dksL_law_28 : cL_law.data.toList.drop 869 = dktL_law_28 := dk_seg dksL_law_27 23 rfl rfl
theorem dksL_law_29 : cL_law.data.toList.drop 891 = dktL_law_29 := dk_seg dksL_law_28 22 rfl rfl
theorem dksL_law_30 : cL_law.data.toList.drop 915 = dktL_law_30 := dk_seg dksL_law_29 24 rfl rfl
theorem dksL_law_31 : cL_law.data.toList.drop 939 = dktL_law_31 := dk_seg dksL_law_30 24 rfl rfl
theorem dksL_law_32 : cL_law.data.toList.drop 963 = dktL_law_32 := dk_seg dksL_law_31 24 rfl rfl
theorem dksL_law_33 : cL_law.data.toList.drop 987 = dktL_law_33 := dk_seg dksL_law_32 24 rfl rfl
theorem dksL_law_34 : cL_law.data.toList.drop 1011 = dktL_law_34 := dk_seg dksL_law_33 24 rfl rfl
theorem dksL_law_35 : cL_law.data.toList.drop 1035 = dktL_law_35 := dk_seg dksL_law_34 24 rfl rfl
theorem dksL_law_36 : cL_law.data.toList.drop 1058 = dktL_law_36 := dk_seg dksL_law_35 23 rfl rfl
theorem dksL_law_37 : cL_law.data.toList.drop 1082 = dktL_law_37 := dk_seg dksL_law_36 24 rfl rfl
theorem dksL_law_38 : cL_law.data.toList.drop 1106 = dktL_law_38 := dk_seg dksL_law_37 24 rfl rfl
theorem dksL_law_39 : cL_law.data.toList.drop 1129 = dktL_law_39 := dk_seg dksL_law_38 23 rfl rfl
theorem dksL_law_40 : cL_law.data.toList.drop 1153 = dktL_law_40 := dk_seg dksL_law_39 24 rfl rfl
theorem dksL_law_41 : cL_law.data.toList.drop 1177 = dktL_law_41 := dk_seg dksL_law_40 24 rfl rfl
theorem dksL_law_42 : cL_law.data.toList.drop 1201 = dktL_law_42 := dk_seg dksL_law_41 24 rfl rfl
theorem dksL_law_43 : cL_law.data.toList.drop 1224 = dktL_law_43 := dk_seg dksL_law_42 23 rfl rfl
theorem dksL_law_44 : cL_law.data.toList.drop 1248 = dktL_law_44 := dk_seg dksL_law_43 24 rfl rfl
theorem dksL_law_45 : cL_law.data.toList.drop 1272 = dktL_law_45 := dk_seg dksL_law_44 24 rfl rfl
theorem dksL_law_46 : cL_law.data.toList.drop 1295 = dktL_law_46 := dk_seg dksL_law_45 23 rfl rfl
theorem dksL_law_47 : cL_law.data.toList.drop 1319 = dktL_law_47 := dk_seg dksL_law_46 24 rfl rfl
theorem dksL_law_48 : cL_law.data.toList.drop 1343 = dktL_law_48 := dk_seg dksL_law_47 24 rfl rfl
theorem dksL_law_49 : cL_law.data.toList.drop 1367 = dktL_law_49 := dk_seg dksL_law_48 24 rfl rfl
theorem dksL_law_50 : cL_law.data.toList.drop 1391 = dktL_law_50 := dk_seg dksL_law_49 24 rfl rfl
theorem dksL_law_51 : cL_law.data.toList.drop 1414 = dktL_law_51 := dk_seg dksL_law_50 23 rfl rfl
theorem dksL_law_52 : cL_law.data.toList.drop 1438 = dktL_law_52 := dk_seg dksL_law_51 24 rfl rfl
theorem dksL_law_53 : cL_law.data.toList.drop 1462 = dktL_law_53 := dk_seg dksL_law_52 24 rfl rfl
theorem dksL_law_54 : cL_law.data.toList.drop 1484 = dktL_law_54 := dk_seg dksL_law_53 22 rfl rfl
theorem dksL_law_55 : cL_law.data.toList.drop 1508 = dktL_law_55 := dk_seg dksL_law_54 24 rfl rfl
theorem dksL_law_56 : cL_law.data.toList.drop 1531 = dktL_law_56 := dk_seg dksL_law_55 23 rfl rfl
theorem dksL_law_57 : cL_law.data.toList.drop 1555 = dktL_law_57 := dk_seg dksL_law_56 24 rfl rfl
theorem dksL_law_58 : cL_law.data.toList.drop 1579 = dktL_law_58 := dk_seg dksL_law_57 24 rfl rfl
theorem dksL_law_59 : cL_law.data.toList.drop 1602 = dktL_law_59 := dk_seg dksL_law_58 23 rfl rfl
theorem dksL_law_60 : cL_law.data.toList.drop 1626 = dktL_law_60 := dk_seg dksL_law_59 24 rfl rfl
theorem dksL_law_61 : cL_law.data.toList.drop 1650 = dktL_law_61 := dk_seg dksL_law_60 24 rfl rfl
theorem dksL_law_62 : cL_law.data.toList.drop 1674 = dktL_law_62 := dk_seg dksL_law_61 24 rfl rfl
theorem dksL_law_63 : cL_law.data.toList.drop 1696 = dktL_law_63 := dk_seg dksL_law_62 22 rfl rfl
theorem dksL_law_64 : cL_law.data.toList.drop 1718 = dktL_law_64 := dk_seg dksL_law_63 22 rfl rfl
theorem dksL_law_65 : cL_law.data.toList.drop 1742 = dktL_law_65 := dk_seg dksL_law_64 24 rfl rfl
theorem dksL_law_66 : cL_law.data.toList.drop 1765 = dktL_law_66 := dk_seg dksL_law_65 23 rfl rfl
theorem dksL_law_67 : cL_law.data.toList.drop 1789 = dktL_law_67 := dk_seg dksL_law_66 24 rfl rfl
theorem dksL_law_68 : cL_law.data.toList.drop 1813 = dktL_law_68 := dk_seg dksL_law_67 24 rfl rfl
theorem dksL_law_69 : cL_law.data.toList.drop 1836 = dktL_law_69 := dk_seg dksL_law_68 23 rfl rfl
theorem dksL_law_70 : cL_law.data.toList.drop 1860 = dktL_law_70 := dk_seg dksL_law_69 24 rfl rfl
theorem dksL_law_71 : cL_law.data.toList.drop 1884 = dktL_law_71 := dk_seg dksL_law_70 24 rfl rfl
theorem dksL_law_72 : cL_law.data.toList.drop 1908 = dktL_law_72 := dk_seg dksL_law_71 24 rfl rfl
theorem dksL_law_73 : cL_law.data.toList.drop 1932 = dktL_law_73 := dk_seg dksL_law_72 24 rfl rfl
theorem dksL_law_74 : cL_law.data.toList.drop 1954 = dktL_law_74 := dk_seg dksL_law_73 22 rfl rfl
theorem dksL_law_75 : cL_law.data.toList.drop 1978 = dktL_law_75 := dk_seg dksL_law_74 24 rfl rfl
theorem dksL_law_76 : cL_law.data.toList.drop 2000 = dktL_law_76 := dk_seg dksL_law_75 22 rfl rfl
theorem dksL_law_77 : cL_law.data.toList.drop 2024 = dktL_law_77 := dk_seg dksL_law_76 24 rfl rfl
theorem dksL_law_78 : cL_law.data.toList.drop 2047 = dktL_law_78 := dk_seg dksL_law_77 23 rfl rfl
theorem dksL_law_79 : cL_law.data.toList.drop 2071 = dktL_law_79 := dk_seg dksL_law_78 24 rfl rfl
theorem dksL_law_80 : cL_law.data.toList.drop 2095 = dktL_law_80 := dk_seg dksL_law_79 24 rfl rfl
theorem dksL_law_81 : cL_law.data.toList.drop 2117 = dktL_law_81 := dk_seg dksL_law_80 22 rfl rfl
theorem dksL_law_82 : cL_law.data.toList.drop 2141 = dktL_law_82 := dk_seg dksL_law_81 24 rfl rfl
theorem dksL_law_83 : cL_law.data.toList.drop 2165 = dktL_law_83 := dk_seg dksL_law_82 24 rfl rfl
theorem dksL_law_84 : cL_law.data.toList.drop 2189 = dktL_law_84 := dk_seg dksL_law_83 24 rfl rfl
theorem dksL_law_85 : cL_law.data.toList.drop 2213 = dktL_law_85 := dk_seg dksL_law_84 24 rfl rfl
theorem dksL_law_86 : cL_law.data.toList.drop 2237 = dktL_law_86 := dk_seg dksL_law_85 24 rfl rfl
theorem dksL_law_87 : cL_law.data.toList.drop 2261 = dktL_law_87 := dk_seg dksL_law_86 24 rfl rfl
theorem dksL_law_88 : cL_law.data.toList.drop 2285 = dktL_law_88 := dk_seg dksL_law_87 24 rfl rfl
theorem dksL_law_89 : cL_law.data.toList.drop 2309 = dktL_law_89 := dk_seg dksL_law_88 24 rfl rfl
theorem dksL_law_90 : cL_law.data.toList.drop 2332 = dktL_law_90 := dk_seg dksL_law_89 23 rfl rfl
theorem dksL_law_91 : cL_law.data.toList.drop 2356 = dktL_law_91 := dk_seg dksL_law_90 24 rfl rfl
theorem dksL_law_92 : cL_law.data.toList.drop 2380 = dktL_law_92 := dk_seg dksL_law_91 24 rfl rfl
theorem dksL_law_93 : cL_law.data.toList.drop 2403 = dktL_law_93 := dk_seg dksL_law_92 23 rfl rfl
theorem dksL_law_94 : cL_law.data.toList.drop 2427 = dktL_law_94 := dk_seg dksL_law_93 24 rfl rfl
theorem dksL_law_95 : cL_law.data.toList.drop 2451 = dktL_law_95 := dk_seg dksL_law_94 24 rfl rfl
theorem dksL_law_96 : cL_law.data.toList.drop 2473 = dktL_law_96 := dk_seg dksL_law_95 22 rfl rfl
theorem dksL_law_97 : cL_law.data.toList.drop 2497 = dktL_law_97 := dk_seg dksL_law_96 24 rfl rfl
theorem dksL_law_98 : cL_law.data.toList.drop 2521 = dktL_law_98 := dk_seg dksL_law_97 24 rfl rfl
theorem dksL_law_99 : cL_law.data.toList.drop 2545 = dktL_law_99 := dk_seg dksL_law_98 24 rfl rfl
theorem dksL_law_100 : cL_law.data.toList.drop 2569 = dktL_law_100 := dk_seg dksL_law_99 24 rfl rfl
theorem dL_law_0 : decode cL_law 0 = .ok (.new 8, 3) := dk_187 0 8 (dk_at dksL_law_0 0 rfl rfl)
theorem dL_law_3 : decode cL_law 3 = .ok (.dup, 1) := dk_89 (dk_at dksL_law_0 3 rfl rfl)
theorem dL_law_4 : decode cL_law 4 = .ok (.invokespecial 17, 3) := dk_183 0 17 (dk_at dksL_law_0 4 rfl rfl)
theorem dL_law_7 : decode cL_law 7 = .ok (.astore_n 1, 1) := dk_76 (dk_at dksL_law_0 7 rfl rfl)
theorem dL_law_8 : decode cL_law 8 = .ok (.new 18, 3) := dk_187 0 18 (dk_at dksL_law_0 8 rfl rfl)
theorem dL_law_11 : decode cL_law 11 = .ok (.dup, 1) := dk_89 (dk_at dksL_law_0 11 rfl rfl)
theorem dL_law_12 : decode cL_law 12 = .ok (.invokespecial 20, 3) := dk_183 0 20 (dk_at dksL_law_0 12 rfl rfl)
theorem dL_law_15 : decode cL_law 15 = .ok (.astore_n 2, 1) := dk_77 (dk_at dksL_law_0 15 rfl rfl)
theorem dL_law_16 : decode cL_law 16 = .ok (.iconst 1, 1) := dk_4 (dk_at dksL_law_0 16 rfl rfl)
theorem dL_law_17 : decode cL_law 17 = .ok (.newarray .long, 2) := dk_188_11 (dk_at dksL_law_0 17 rfl rfl)
theorem dL_law_19 : decode cL_law 19 = .ok (.astore_n 3, 1) := dk_78 (dk_at dksL_law_0 19 rfl rfl)
theorem dL_law_20 : decode cL_law 20 = .ok (.iconst 0, 1) := dk_3 (dk_at dksL_law_0 20 rfl rfl)
theorem dL_law_21 : decode cL_law 21 = .ok (.istore 4, 2) := dk_54 4 (dk_at dksL_law_0 21 rfl rfl)
theorem dL_law_23 : decode cL_law 23 = .ok (.iload 4, 2) := dk_21 4 (dk_at dksL_law_1 0 rfl rfl)
theorem dL_law_25 : decode cL_law 25 = .ok (.aload_n 0, 1) := dk_42 (dk_at dksL_law_1 2 rfl rfl)
theorem dL_law_26 : decode cL_law 26 = .ok (.arraylength, 1) := dk_190 (dk_at dksL_law_1 3 rfl rfl)
theorem dL_law_27 : decode cL_law 27 = .ok (.bipush 6, 2) := dk_16 6 (dk_at dksL_law_1 4 rfl rfl)
theorem dL_law_29 : decode cL_law 29 = .ok (.isub, 1) := dk_100 (dk_at dksL_law_1 6 rfl rfl)
theorem dL_law_30 : decode cL_law 30 = .ok (.if_icmp .gt 2542, 3) := dk_163 9 238 (dk_at dksL_law_1 7 rfl rfl)
theorem dL_law_33 : decode cL_law 33 = .ok (.aload_n 0, 1) := dk_42 (dk_at dksL_law_1 10 rfl rfl)
theorem dL_law_34 : decode cL_law 34 = .ok (.iload 4, 2) := dk_21 4 (dk_at dksL_law_1 11 rfl rfl)
theorem dL_law_36 : decode cL_law 36 = .ok (.iaload, 1) := dk_46 (dk_at dksL_law_1 13 rfl rfl)
theorem dL_law_37 : decode cL_law 37 = .ok (.bipush 63, 2) := dk_16 63 (dk_at dksL_law_1 14 rfl rfl)
theorem dL_law_39 : decode cL_law 39 = .ok (.iand, 1) := dk_126 (dk_at dksL_law_1 16 rfl rfl)
theorem dL_law_40 : decode cL_law 40 = .ok (.tableswitch 2526 0 54 #[236, 309, 334, 359, 427, 464, 501, 538, 563, 612, 649, 686, 735, 772, 837, 850, 863, 900, 949, 1010, 1059, 1108, 1145, 1182, 1231, 1268, 1317, 1366, 1415, 1452, 1489, 1538, 1587, 1624, 1661, 1686, 1723, 1760, 1809, 1870, 1919, 1968, 2005, 2054, 2119, 2168, 2241, 2290, 2339, 2376, 2401, 2426, 2451, 2476, 2501], 236) := by decide +kernel
theorem dL_law_276 : decode cL_law 276 = .ok (.aload_n 1, 1) := dk_43 (dk_at dksL_law_3 0 rfl rfl)
theorem dL_law_277 : decode cL_law 277 = .ok (.aload_n 0, 1) := dk_42 (dk_at dksL_law_3 1 rfl rfl)
theorem dL_law_278 : decode cL_law 278 = .ok (.iload 4, 2) := dk_21 4 (dk_at dksL_law_3 2 rfl rfl)
theorem dL_law_280 : decode cL_law 280 = .ok (.iconst 1, 1) := dk_4 (dk_at dksL_law_3 4 rfl rfl)
theorem dL_law_281 : decode cL_law 281 = .ok (.iadd, 1) := dk_96 (dk_at dksL_law_3 5 rfl rfl)
theorem dL_law_282 : decode cL_law 282 = .ok (.iaload, 1) := dk_46 (dk_at dksL_law_3 6 rfl rfl)
theorem dL_law_283 : decode cL_law 283 = .ok (.aload_n 0, 1) := dk_42 (dk_at dksL_law_3 7 rfl rfl)
theorem dL_law_284 : decode cL_law 284 = .ok (.iload 4, 2) := dk_21 4 (dk_at dksL_law_3 8 rfl rfl)
theorem dL_law_286 : decode cL_law 286 = .ok (.iconst 2, 1) := dk_5 (dk_at dksL_law_3 10 rfl rfl)
theorem dL_law_287 : decode cL_law 287 = .ok (.iadd, 1) := dk_96 (dk_at dksL_law_3 11 rfl rfl)
theorem dL_law_288 : decode cL_law 288 = .ok (.iaload, 1) := dk_46 (dk_at dksL_law_3 12 rfl rfl)
theorem dL_law_289 : decode cL_law 289 = .ok (.aload_n 0, 1) := dk_42 (dk_at dksL_law_3 13 rfl rfl)
theorem dL_law_290 : decode cL_law 290 = .ok (.iload 4, 2) := dk_21 4 (dk_at dksL_law_3 14 rfl rfl)
theorem dL_law_292 : decode cL_law 292 = .ok (.iconst 3, 1) := dk_6 (dk_at dksL_law_3 16 rfl rfl)
theorem dL_law_293 : decode cL_law 293 = .ok (.iadd, 1) := dk_96 (dk_at dksL_law_3 17 rfl rfl)
theorem dL_law_294 : decode cL_law 294 = .ok (.iaload, 1) := dk_46 (dk_at dksL_law_3 18 rfl rfl)
theorem dL_law_295 : decode cL_law 295 = .ok (.aload_n 0, 1) := dk_42 (dk_at dksL_law_3 19 rfl rfl)
theorem dL_law_296 : decode cL_law 296 = .ok (.iload 4, 2) := dk_21 4 (dk_at dksL_law_3 20 rfl rfl)
theorem dL_law_298 : decode cL_law 298 = .ok (.iconst 4, 1) := dk_7 (dk_at dksL_law_3 22 rfl rfl)
theorem dL_law_299 : decode cL_law 299 = .ok (.iadd, 1) := dk_96 (dk_at dksL_law_3 23 rfl rfl)
theorem dL_law_300 : decode cL_law 300 = .ok (.iaload, 1) := dk_46 (dk_at dksL_law_4 0 rfl rfl)
theorem dL_law_301 : decode cL_law 301 = .ok (.aload_n 0, 1) := dk_42 (dk_at dksL_law_4 1 rfl rfl)
theorem dL_law_302 : decode cL_law 302 = .ok (.iload 4, 2) := dk_21 4 (dk_at dksL_law_4 2 rfl rfl)
theorem dL_law_304 : decode cL_law 304 = .ok (.iconst 5, 1) := dk_8 (dk_at dksL_law_4 4 rfl rfl)
theorem dL_law_305 : decode cL_law 305 = .ok (.iadd, 1) := dk_96 (dk_at dksL_law_4 5 rfl rfl)
theorem dL_law_306 : decode cL_law 306 = .ok (.iaload, 1) := dk_46 (dk_at dksL_law_4 6 rfl rfl)
theorem dL_law_307 : decode cL_law 307 = .ok (.invokevirtual 21, 3) := dk_182 0 21 (dk_at dksL_law_4 7 rfl rfl)
theorem dL_law_310 : decode cL_law 310 = .ok (.aload_n 2, 1) := dk_44 (dk_at dksL_law_4 10 rfl rfl)
theorem dL_law_311 : decode cL_law 311 = .ok (.aload_n 0, 1) := dk_42 (dk_at dksL_law_4 11 rfl rfl)
theorem dL_law_312 : decode cL_law 312 = .ok (.iload 4, 2) := dk_21 4 (dk_at dksL_law_4 12 rfl rfl)
theorem dL_law_314 : decode cL_law 314 = .ok (.iconst 1, 1) := dk_4 (dk_at dksL_law_4 14 rfl rfl)
theorem dL_law_315 : decode cL_law 315 = .ok (.iadd, 1) := dk_96 (dk_at dksL_law_4 15 rfl rfl)
theorem dL_law_316 : decode cL_law 316 = .ok (.iaload, 1) := dk_46 (dk_at dksL_law_4 16 rfl rfl)
theorem dL_law_317 : decode cL_law 317 = .ok (.aload_n 0, 1) := dk_42 (dk_at dksL_law_4 17 rfl rfl)
theorem dL_law_318 : decode cL_law 318 = .ok (.iload 4, 2) := dk_21 4 (dk_at dksL_law_4 18 rfl rfl)
theorem dL_law_320 : decode cL_law 320 = .ok (.iconst 2, 1) := dk_5 (dk_at dksL_law_4 20 rfl rfl)
theorem dL_law_321 : decode cL_law 321 = .ok (.iadd, 1) := dk_96 (dk_at dksL_law_4 21 rfl rfl)
theorem dL_law_322 : decode cL_law 322 = .ok (.iaload, 1) := dk_46 (dk_at dksL_law_4 22 rfl rfl)
theorem dL_law_323 : decode cL_law 323 = .ok (.aload_n 0, 1) := dk_42 (dk_at dksL_law_4 23 rfl rfl)
theorem dL_law_324 : decode cL_law 324 = .ok (.iload 4, 2) := dk_21 4 (dk_at dksL_law_5 0 rfl rfl)
theorem dL_law_326 : decode cL_law 326 = .ok (.iconst 3, 1) := dk_6 (dk_at dksL_law_5 2 rfl rfl)
theorem dL_law_327 : decode cL_law 327 = .ok (.iadd, 1) := dk_96 (dk_at dksL_law_5 3 rfl rfl)
theorem dL_law_328 : decode cL_law 328 = .ok (.iaload, 1) := dk_46 (dk_at dksL_law_5 4 rfl rfl)
theorem dL_law_329 : decode cL_law 329 = .ok (.aload_n 0, 1) := dk_42 (dk_at dksL_law_5 5 rfl rfl)
theorem dL_law_330 : decode cL_law 330 = .ok (.iload 4, 2) := dk_21 4 (dk_at dksL_law_5 6 rfl rfl)
theorem dL_law_332 : decode cL_law 332 = .ok (.iconst 4, 1) := dk_7 (dk_at dksL_law_5 8 rfl rfl)
theorem dL_law_333 : decode cL_law 333 = .ok (.iadd, 1) := dk_96 (dk_at dksL_law_5 9 rfl rfl)
theorem dL_law_334 : decode cL_law 334 = .ok (.iaload, 1) := dk_46 (dk_at dksL_law_5 10 rfl rfl)
theorem dL_law_335 : decode cL_law 335 = .ok (.aload_n 0, 1) := dk_42 (dk_at dksL_law_5 11 rfl rfl)
theorem dL_law_336 : decode cL_law 336 = .ok (.iload 4, 2) := dk_21 4 (dk_at dksL_law_5 12 rfl rfl)
theorem dL_law_338 : decode cL_law 338 = .ok (.iconst 5, 1) := dk_8 (dk_at dksL_law_5 14 rfl rfl)
theorem dL_law_339 : decode cL_law 339 = .ok (.iadd, 1) := dk_96 (dk_at dksL_law_5 15 rfl rfl)
theorem dL_law_340 : decode cL_law 340 = .ok (.iaload, 1) := dk_46 (dk_at dksL_law_5 16 rfl rfl)
theorem dL_law_341 : decode cL_law 341 = .ok (.invokevirtual 25, 3) := dk_182 0 25 (dk_at dksL_law_5 17 rfl rfl)
theorem dL_law_344 : decode cL_law 344 = .ok (.if_icmp .eq 2222, 3) := dk_159 8 174 (dk_at dksL_law_5 20 rfl rfl)
theorem dL_law_347 : decode cL_law 347 = .ok (.iconst 0, 1) := dk_3 (dk_at dksL_law_5 23 rfl rfl)
theorem dL_law_348 : decode cL_law 348 = .ok (.ireturn, 1) := dk_172 (dk_at dksL_law_6 0 rfl rfl)
theorem dL_law_349 : decode cL_law 349 = .ok (.aload_n 1, 1) := dk_43 (dk_at dksL_law_6 1 rfl rfl)
theorem dL_law_350 : decode cL_law 350 = .ok (.aload_n 0, 1) := dk_42 (dk_at dksL_law_6 2 rfl rfl)
theorem dL_law_351 : decode cL_law 351 = .ok (.iload 4, 2) := dk_21 4 (dk_at dksL_law_6 3 rfl rfl)
theorem dL_law_353 : decode cL_law 353 = .ok (.iconst 1, 1) := dk_4 (dk_at dksL_law_6 5 rfl rfl)
theorem dL_law_354 : decode cL_law 354 = .ok (.iadd, 1) := dk_96 (dk_at dksL_law_6 6 rfl rfl)
theorem dL_law_355 : decode cL_law 355 = .ok (.iaload, 1) := dk_46 (dk_at dksL_law_6 7 rfl rfl)
theorem dL_law_356 : decode cL_law 356 = .ok (.invokevirtual 26, 3) := dk_182 0 26 (dk_at dksL_law_6 8 rfl rfl)
theorem dL_law_359 : decode cL_law 359 = .ok (.aload_n 2, 1) := dk_44 (dk_at dksL_law_6 11 rfl rfl)
theorem dL_law_360 : decode cL_law 360 = .ok (.aload_n 0, 1) := dk_42 (dk_at dksL_law_6 12 rfl rfl)
theorem dL_law_361 : decode cL_law 361 = .ok (.iload 4, 2) := dk_21 4 (dk_at dksL_law_6 13 rfl rfl)
theorem dL_law_363 : decode cL_law 363 = .ok (.iconst 1, 1) := dk_4 (dk_at dksL_law_6 15 rfl rfl)
theorem dL_law_364 : decode cL_law 364 = .ok (.iadd, 1) := dk_96 (dk_at dksL_law_6 16 rfl rfl)
theorem dL_law_365 : decode cL_law 365 = .ok (.iaload, 1) := dk_46 (dk_at dksL_law_6 17 rfl rfl)
theorem dL_law_366 : decode cL_law 366 = .ok (.invokevirtual 30, 3) := dk_182 0 30 (dk_at dksL_law_6 18 rfl rfl)
theorem dL_law_369 : decode cL_law 369 = .ok (.if_icmp .eq 2197, 3) := dk_159 8 149 (dk_at dksL_law_6 21 rfl rfl)
theorem dL_law_372 : decode cL_law 372 = .ok (.iconst 0, 1) := dk_3 (dk_at dksL_law_7 0 rfl rfl)
theorem dL_law_373 : decode cL_law 373 = .ok (.ireturn, 1) := dk_172 (dk_at dksL_law_7 1 rfl rfl)
theorem dL_law_374 : decode cL_law 374 = .ok (.aload_n 1, 1) := dk_43 (dk_at dksL_law_7 2 rfl rfl)
theorem dL_law_375 : decode cL_law 375 = .ok (.aload_n 0, 1) := dk_42 (dk_at dksL_law_7 3 rfl rfl)
theorem dL_law_376 : decode cL_law 376 = .ok (.iload 4, 2) := dk_21 4 (dk_at dksL_law_7 4 rfl rfl)
theorem dL_law_378 : decode cL_law 378 = .ok (.iconst 1, 1) := dk_4 (dk_at dksL_law_7 6 rfl rfl)
theorem dL_law_379 : decode cL_law 379 = .ok (.iadd, 1) := dk_96 (dk_at dksL_law_7 7 rfl rfl)
theorem dL_law_380 : decode cL_law 380 = .ok (.iaload, 1) := dk_46 (dk_at dksL_law_7 8 rfl rfl)
theorem dL_law_381 : decode cL_law 381 = .ok (.invokevirtual 31, 3) := dk_182 0 31 (dk_at dksL_law_7 9 rfl rfl)
theorem dL_law_384 : decode cL_law 384 = .ok (.aload_n 2, 1) := dk_44 (dk_at dksL_law_7 12 rfl rfl)
theorem dL_law_385 : decode cL_law 385 = .ok (.aload_n 0, 1) := dk_42 (dk_at dksL_law_7 13 rfl rfl)
theorem dL_law_386 : decode cL_law 386 = .ok (.iload 4, 2) := dk_21 4 (dk_at dksL_law_7 14 rfl rfl)
theorem dL_law_388 : decode cL_law 388 = .ok (.iconst 1, 1) := dk_4 (dk_at dksL_law_7 16 rfl rfl)
theorem dL_law_389 : decode cL_law 389 = .ok (.iadd, 1) := dk_96 (dk_at dksL_law_7 17 rfl rfl)
theorem dL_law_390 : decode cL_law 390 = .ok (.iaload, 1) := dk_46 (dk_at dksL_law_7 18 rfl rfl)
theorem dL_law_391 : decode cL_law 391 = .ok (.invokevirtual 34, 3) := dk_182 0 34 (dk_at dksL_law_7 19 rfl rfl)
theorem dL_law_394 : decode cL_law 394 = .ok (.if_icmp .eq 2172, 3) := dk_159 8 124 (dk_at dksL_law_8 0 rfl rfl)
theorem dL_law_397 : decode cL_law 397 = .ok (.iconst 0, 1) := dk_3 (dk_at dksL_law_8 3 rfl rfl)
theorem dL_law_398 : decode cL_law 398 = .ok (.ireturn, 1) := dk_172 (dk_at dksL_law_8 4 rfl rfl)
theorem dL_law_399 : decode cL_law 399 = .ok (.aload_n 1, 1) := dk_43 (dk_at dksL_law_8 5 rfl rfl)
theorem dL_law_400 : decode cL_law 400 = .ok (.aload_n 0, 1) := dk_42 (dk_at dksL_law_8 6 rfl rfl)
theorem dL_law_401 : decode cL_law 401 = .ok (.iload 4, 2) := dk_21 4 (dk_at dksL_law_8 7 rfl rfl)
theorem dL_law_403 : decode cL_law 403 = .ok (.iconst 1, 1) := dk_4 (dk_at dksL_law_8 9 rfl rfl)
theorem dL_law_404 : decode cL_law 404 = .ok (.iadd, 1) := dk_96 (dk_at dksL_law_8 10 rfl rfl)
theorem dL_law_405 : decode cL_law 405 = .ok (.iaload, 1) := dk_46 (dk_at dksL_law_8 11 rfl rfl)
theorem dL_law_406 : decode cL_law 406 = .ok (.aload_n 0, 1) := dk_42 (dk_at dksL_law_8 12 rfl rfl)
theorem dL_law_407 : decode cL_law 407 = .ok (.iload 4, 2) := dk_21 4 (dk_at dksL_law_8 13 rfl rfl)
theorem dL_law_409 : decode cL_law 409 = .ok (.iconst 2, 1) := dk_5 (dk_at dksL_law_8 15 rfl rfl)
theorem dL_law_410 : decode cL_law 410 = .ok (.iadd, 1) := dk_96 (dk_at dksL_law_8 16 rfl rfl)
theorem dL_law_411 : decode cL_law 411 = .ok (.iaload, 1) := dk_46 (dk_at dksL_law_8 17 rfl rfl)
theorem dL_law_412 : decode cL_law 412 = .ok (.aload_n 3, 1) := dk_45 (dk_at dksL_law_8 18 rfl rfl)
theorem dL_law_413 : decode cL_law 413 = .ok (.invokestatic 35, 3) := dk_184 0 35 (dk_at dksL_law_8 19 rfl rfl)
theorem dL_law_416 : decode cL_law 416 = .ok (.istore 5, 2) := dk_54 5 (dk_at dksL_law_8 22 rfl rfl)
theorem dL_law_418 : decode cL_law 418 = .ok (.aload_n 2, 1) := dk_44 (dk_at dksL_law_9 0 rfl rfl)
theorem dL_law_419 : decode cL_law 419 = .ok (.aload_n 0, 1) := dk_42 (dk_at dksL_law_9 1 rfl rfl)
theorem dL_law_420 : decode cL_law 420 = .ok (.iload 4, 2) := dk_21 4 (dk_at dksL_law_9 2 rfl rfl)
theorem dL_law_422 : decode cL_law 422 = .ok (.iconst 1, 1) := dk_4 (dk_at dksL_law_9 4 rfl rfl)
theorem dL_law_423 : decode cL_law 423 = .ok (.iadd, 1) := dk_96 (dk_at dksL_law_9 5 rfl rfl)
theorem dL_law_424 : decode cL_law 424 = .ok (.iaload, 1) := dk_46 (dk_at dksL_law_9 6 rfl rfl)
theorem dL_law_425 : decode cL_law 425 = .ok (.aload_n 0, 1) := dk_42 (dk_at dksL_law_9 7 rfl rfl)
theorem dL_law_426 : decode cL_law 426 = .ok (.iload 4, 2) := dk_21 4 (dk_at dksL_law_9 8 rfl rfl)
theorem dL_law_428 : decode cL_law 428 = .ok (.iconst 2, 1) := dk_5 (dk_at dksL_law_9 10 rfl rfl)
theorem dL_law_429 : decode cL_law 429 = .ok (.iadd, 1) := dk_96 (dk_at dksL_law_9 11 rfl rfl)
theorem dL_law_430 : decode cL_law 430 = .ok (.iaload, 1) := dk_46 (dk_at dksL_law_9 12 rfl rfl)
theorem dL_law_431 : decode cL_law 431 = .ok (.invokevirtual 40, 3) := dk_182 0 40 (dk_at dksL_law_9 13 rfl rfl)
theorem dL_law_434 : decode cL_law 434 = .ok (.istore 6, 2) := dk_54 6 (dk_at dksL_law_9 16 rfl rfl)
theorem dL_law_436 : decode cL_law 436 = .ok (.aload_n 2, 1) := dk_44 (dk_at dksL_law_9 18 rfl rfl)
theorem dL_law_437 : decode cL_law 437 = .ok (.invokevirtual 41, 3) := dk_182 0 41 (dk_at dksL_law_9 19 rfl rfl)
theorem dL_law_440 : decode cL_law 440 = .ok (.iload 5, 2) := dk_21 5 (dk_at dksL_law_9 22 rfl rfl)
theorem dL_law_442 : decode cL_law 442 = .ok (.if_icmp .eq 5, 3) := dk_159 0 5 (dk_at dksL_law_10 0 rfl rfl)
theorem dL_law_445 : decode cL_law 445 = .ok (.iconst 0, 1) := dk_3 (dk_at dksL_law_10 3 rfl rfl)
theorem dL_law_446 : decode cL_law 446 = .ok (.ireturn, 1) := dk_172 (dk_at dksL_law_10 4 rfl rfl)
theorem dL_law_447 : decode cL_law 447 = .ok (.iload 5, 2) := dk_21 5 (dk_at dksL_law_10 5 rfl rfl)
theorem dL_law_449 : decode cL_law 449 = .ok (.ifCond .ne 15, 3) := dk_154 0 15 (dk_at dksL_law_10 7 rfl rfl)
theorem dL_law_452 : decode cL_law 452 = .ok (.aload_n 3, 1) := dk_45 (dk_at dksL_law_10 10 rfl rfl)
theorem dL_law_453 : decode cL_law 453 = .ok (.iconst 0, 1) := dk_3 (dk_at dksL_law_10 11 rfl rfl)
theorem dL_law_454 : decode cL_law 454 = .ok (.laload, 1) := dk_47 (dk_at dksL_law_10 12 rfl rfl)
theorem dL_law_455 : decode cL_law 455 = .ok (.iload 6, 2) := dk_21 6 (dk_at dksL_law_10 13 rfl rfl)
theorem dL_law_457 : decode cL_law 457 = .ok (.i2l, 1) := dk_133 (dk_at dksL_law_10 15 rfl rfl)
theorem dL_law_458 : decode cL_law 458 = .ok (.lcmp, 1) := dk_148 (dk_at dksL_law_10 16 rfl rfl)
theorem dL_law_459 : decode cL_law 459 = .ok (.ifCond .eq 5, 3) := dk_153 0 5 (dk_at dksL_law_10 17 rfl rfl)
theorem dL_law_462 : decode cL_law 462 = .ok (.iconst 0, 1) := dk_3 (dk_at dksL_law_10 20 rfl rfl)
theorem dL_law_463 : decode cL_law 463 = .ok (.ireturn, 1) := dk_172 (dk_at dksL_law_10 21 rfl rfl)
theorem dL_law_464 : decode cL_law 464 = .ok (.goto 2102, 3) := dk_167 8 54 (dk_at dksL_law_11 0 rfl rfl)
theorem dL_law_467 : decode cL_law 467 = .ok (.aload_n 1, 1) := dk_43 (dk_at dksL_law_11 3 rfl rfl)
theorem dL_law_468 : decode cL_law 468 = .ok (.aload_n 0, 1) := dk_42 (dk_at dksL_law_11 4 rfl rfl)
theorem dL_law_469 : decode cL_law 469 = .ok (.iload 4, 2) := dk_21 4 (dk_at dksL_law_11 5 rfl rfl)
theorem dL_law_471 : decode cL_law 471 = .ok (.iconst 1, 1) := dk_4 (dk_at dksL_law_11 7 rfl rfl)
theorem dL_law_472 : decode cL_law 472 = .ok (.iadd, 1) := dk_96 (dk_at dksL_law_11 8 rfl rfl)
theorem dL_law_473 : decode cL_law 473 = .ok (.iaload, 1) := dk_46 (dk_at dksL_law_11 9 rfl rfl)
theorem dL_law_474 : decode cL_law 474 = .ok (.aload_n 0, 1) := dk_42 (dk_at dksL_law_11 10 rfl rfl)
theorem dL_law_475 : decode cL_law 475 = .ok (.iload 4, 2) := dk_21 4 (dk_at dksL_law_11 11 rfl rfl)
theorem dL_law_477 : decode cL_law 477 = .ok (.iconst 2, 1) := dk_5 (dk_at dksL_law_11 13 rfl rfl)
theorem dL_law_478 : decode cL_law 478 = .ok (.iadd, 1) := dk_96 (dk_at dksL_law_11 14 rfl rfl)
theorem dL_law_479 : decode cL_law 479 = .ok (.iaload, 1) := dk_46 (dk_at dksL_law_11 15 rfl rfl)
theorem dL_law_480 : decode cL_law 480 = .ok (.invokevirtual 45, 3) := dk_182 0 45 (dk_at dksL_law_11 16 rfl rfl)
theorem dL_law_483 : decode cL_law 483 = .ok (.aload_n 2, 1) := dk_44 (dk_at dksL_law_11 19 rfl rfl)
theorem dL_law_484 : decode cL_law 484 = .ok (.aload_n 0, 1) := dk_42 (dk_at dksL_law_11 20 rfl rfl)
theorem dL_law_485 : decode cL_law 485 = .ok (.iload 4, 2) := dk_21 4 (dk_at dksL_law_11 21 rfl rfl)
theorem dL_law_487 : decode cL_law 487 = .ok (.iconst 1, 1) := dk_4 (dk_at dksL_law_11 23 rfl rfl)
theorem dL_law_488 : decode cL_law 488 = .ok (.iadd, 1) := dk_96 (dk_at dksL_law_12 0 rfl rfl)
theorem dL_law_489 : decode cL_law 489 = .ok (.iaload, 1) := dk_46 (dk_at dksL_law_12 1 rfl rfl)
theorem dL_law_490 : decode cL_law 490 = .ok (.aload_n 0, 1) := dk_42 (dk_at dksL_law_12 2 rfl rfl)
theorem dL_law_491 : decode cL_law 491 = .ok (.iload 4, 2) := dk_21 4 (dk_at dksL_law_12 3 rfl rfl)
theorem dL_law_493 : decode cL_law 493 = .ok (.iconst 2, 1) := dk_5 (dk_at dksL_law_12 5 rfl rfl)
theorem dL_law_494 : decode cL_law 494 = .ok (.iadd, 1) := dk_96 (dk_at dksL_law_12 6 rfl rfl)
theorem dL_law_495 : decode cL_law 495 = .ok (.iaload, 1) := dk_46 (dk_at dksL_law_12 7 rfl rfl)
theorem dL_law_496 : decode cL_law 496 = .ok (.invokevirtual 48, 3) := dk_182 0 48 (dk_at dksL_law_12 8 rfl rfl)
theorem dL_law_499 : decode cL_law 499 = .ok (.if_icmp .eq 2067, 3) := dk_159 8 19 (dk_at dksL_law_12 11 rfl rfl)
theorem dL_law_502 : decode cL_law 502 = .ok (.iconst 0, 1) := dk_3 (dk_at dksL_law_12 14 rfl rfl)
theorem dL_law_503 : decode cL_law 503 = .ok (.ireturn, 1) := dk_172 (dk_at dksL_law_12 15 rfl rfl)
theorem dL_law_504 : decode cL_law 504 = .ok (.aload_n 1, 1) := dk_43 (dk_at dksL_law_12 16 rfl rfl)
theorem dL_law_505 : decode cL_law 505 = .ok (.aload_n 0, 1) := dk_42 (dk_at dksL_law_12 17 rfl rfl)
theorem dL_law_506 : decode cL_law 506 = .ok (.iload 4, 2) := dk_21 4 (dk_at dksL_law_12 18 rfl rfl)
theorem dL_law_508 : decode cL_law 508 = .ok (.iconst 1, 1) := dk_4 (dk_at dksL_law_12 20 rfl rfl)
theorem dL_law_509 : decode cL_law 509 = .ok (.iadd, 1) := dk_96 (dk_at dksL_law_12 21 rfl rfl)
theorem dL_law_510 : decode cL_law 510 = .ok (.iaload, 1) := dk_46 (dk_at dksL_law_12 22 rfl rfl)
theorem dL_law_511 : decode cL_law 511 = .ok (.aload_n 0, 1) := dk_42 (dk_at dksL_law_12 23 rfl rfl)
theorem dL_law_512 : decode cL_law 512 = .ok (.iload 4, 2) := dk_21 4 (dk_at dksL_law_13 0 rfl rfl)
theorem dL_law_514 : decode cL_law 514 = .ok (.iconst 2, 1) := dk_5 (dk_at dksL_law_13 2 rfl rfl)
theorem dL_law_515 : decode cL_law 515 = .ok (.iadd, 1) := dk_96 (dk_at dksL_law_13 3 rfl rfl)
theorem dL_law_516 : decode cL_law 516 = .ok (.iaload, 1) := dk_46 (dk_at dksL_law_13 4 rfl rfl)
theorem dL_law_517 : decode cL_law 517 = .ok (.invokevirtual 49, 3) := dk_182 0 49 (dk_at dksL_law_13 5 rfl rfl)
theorem dL_law_520 : decode cL_law 520 = .ok (.aload_n 2, 1) := dk_44 (dk_at dksL_law_13 8 rfl rfl)
theorem dL_law_521 : decode cL_law 521 = .ok (.aload_n 0, 1) := dk_42 (dk_at dksL_law_13 9 rfl rfl)
theorem dL_law_522 : decode cL_law 522 = .ok (.iload 4, 2) := dk_21 4 (dk_at dksL_law_13 10 rfl rfl)
theorem dL_law_524 : decode cL_law 524 = .ok (.iconst 1, 1) := dk_4 (dk_at dksL_law_13 12 rfl rfl)
theorem dL_law_525 : decode cL_law 525 = .ok (.iadd, 1) := dk_96 (dk_at dksL_law_13 13 rfl rfl)
theorem dL_law_526 : decode cL_law 526 = .ok (.iaload, 1) := dk_46 (dk_at dksL_law_13 14 rfl rfl)
theorem dL_law_527 : decode cL_law 527 = .ok (.aload_n 0, 1) := dk_42 (dk_at dksL_law_13 15 rfl rfl)
theorem dL_law_528 : decode cL_law 528 = .ok (.iload 4, 2) := dk_21 4 (dk_at dksL_law_13 16 rfl rfl)
theorem dL_law_530 : decode cL_law 530 = .ok (.iconst 2, 1) := dk_5 (dk_at dksL_law_13 18 rfl rfl)
theorem dL_law_531 : decode cL_law 531 = .ok (.iadd, 1) := dk_96 (dk_at dksL_law_13 19 rfl rfl)
theorem dL_law_532 : decode cL_law 532 = .ok (.iaload, 1) := dk_46 (dk_at dksL_law_13 20 rfl rfl)
theorem dL_law_533 : decode cL_law 533 = .ok (.invokevirtual 52, 3) := dk_182 0 52 (dk_at dksL_law_13 21 rfl rfl)
theorem dL_law_536 : decode cL_law 536 = .ok (.if_icmp .eq 2030, 3) := dk_159 7 238 (dk_at dksL_law_14 0 rfl rfl)
theorem dL_law_539 : decode cL_law 539 = .ok (.iconst 0, 1) := dk_3 (dk_at dksL_law_14 3 rfl rfl)
theorem dL_law_540 : decode cL_law 540 = .ok (.ireturn, 1) := dk_172 (dk_at dksL_law_14 4 rfl rfl)
theorem dL_law_541 : decode cL_law 541 = .ok (.aload_n 1, 1) := dk_43 (dk_at dksL_law_14 5 rfl rfl)
theorem dL_law_542 : decode cL_law 542 = .ok (.aload_n 0, 1) := dk_42 (dk_at dksL_law_14 6 rfl rfl)
theorem dL_law_543 : decode cL_law 543 = .ok (.iload 4, 2) := dk_21 4 (dk_at dksL_law_14 7 rfl rfl)
theorem dL_law_545 : decode cL_law 545 = .ok (.iconst 1, 1) := dk_4 (dk_at dksL_law_14 9 rfl rfl)
theorem dL_law_546 : decode cL_law 546 = .ok (.iadd, 1) := dk_96 (dk_at dksL_law_14 10 rfl rfl)
theorem dL_law_547 : decode cL_law 547 = .ok (.iaload, 1) := dk_46 (dk_at dksL_law_14 11 rfl rfl)
theorem dL_law_548 : decode cL_law 548 = .ok (.aload_n 0, 1) := dk_42 (dk_at dksL_law_14 12 rfl rfl)
theorem dL_law_549 : decode cL_law 549 = .ok (.iload 4, 2) := dk_21 4 (dk_at dksL_law_14 13 rfl rfl)
theorem dL_law_551 : decode cL_law 551 = .ok (.iconst 2, 1) := dk_5 (dk_at dksL_law_14 15 rfl rfl)
theorem dL_law_552 : decode cL_law 552 = .ok (.iadd, 1) := dk_96 (dk_at dksL_law_14 16 rfl rfl)
theorem dL_law_553 : decode cL_law 553 = .ok (.iaload, 1) := dk_46 (dk_at dksL_law_14 17 rfl rfl)
theorem dL_law_554 : decode cL_law 554 = .ok (.invokevirtual 53, 3) := dk_182 0 53 (dk_at dksL_law_14 18 rfl rfl)
theorem dL_law_557 : decode cL_law 557 = .ok (.aload_n 2, 1) := dk_44 (dk_at dksL_law_14 21 rfl rfl)
theorem dL_law_558 : decode cL_law 558 = .ok (.aload_n 0, 1) := dk_42 (dk_at dksL_law_14 22 rfl rfl)
theorem dL_law_559 : decode cL_law 559 = .ok (.iload 4, 2) := dk_21 4 (dk_at dksL_law_15 0 rfl rfl)
theorem dL_law_561 : decode cL_law 561 = .ok (.iconst 1, 1) := dk_4 (dk_at dksL_law_15 2 rfl rfl)
theorem dL_law_562 : decode cL_law 562 = .ok (.iadd, 1) := dk_96 (dk_at dksL_law_15 3 rfl rfl)
theorem dL_law_563 : decode cL_law 563 = .ok (.iaload, 1) := dk_46 (dk_at dksL_law_15 4 rfl rfl)
theorem dL_law_564 : decode cL_law 564 = .ok (.aload_n 0, 1) := dk_42 (dk_at dksL_law_15 5 rfl rfl)
theorem dL_law_565 : decode cL_law 565 = .ok (.iload 4, 2) := dk_21 4 (dk_at dksL_law_15 6 rfl rfl)
theorem dL_law_567 : decode cL_law 567 = .ok (.iconst 2, 1) := dk_5 (dk_at dksL_law_15 8 rfl rfl)
theorem dL_law_568 : decode cL_law 568 = .ok (.iadd, 1) := dk_96 (dk_at dksL_law_15 9 rfl rfl)
theorem dL_law_569 : decode cL_law 569 = .ok (.iaload, 1) := dk_46 (dk_at dksL_law_15 10 rfl rfl)
theorem dL_law_570 : decode cL_law 570 = .ok (.invokevirtual 56, 3) := dk_182 0 56 (dk_at dksL_law_15 11 rfl rfl)
theorem dL_law_573 : decode cL_law 573 = .ok (.if_icmp .eq 1993, 3) := dk_159 7 201 (dk_at dksL_law_15 14 rfl rfl)
theorem dL_law_576 : decode cL_law 576 = .ok (.iconst 0, 1) := dk_3 (dk_at dksL_law_15 17 rfl rfl)
theorem dL_law_577 : decode cL_law 577 = .ok (.ireturn, 1) := dk_172 (dk_at dksL_law_15 18 rfl rfl)
theorem dL_law_578 : decode cL_law 578 = .ok (.aload_n 1, 1) := dk_43 (dk_at dksL_law_15 19 rfl rfl)
theorem dL_law_579 : decode cL_law 579 = .ok (.aload_n 0, 1) := dk_42 (dk_at dksL_law_15 20 rfl rfl)
theorem dL_law_580 : decode cL_law 580 = .ok (.iload 4, 2) := dk_21 4 (dk_at dksL_law_15 21 rfl rfl)
theorem dL_law_582 : decode cL_law 582 = .ok (.iconst 1, 1) := dk_4 (dk_at dksL_law_15 23 rfl rfl)
theorem dL_law_583 : decode cL_law 583 = .ok (.iadd, 1) := dk_96 (dk_at dksL_law_16 0 rfl rfl)
theorem dL_law_584 : decode cL_law 584 = .ok (.iaload, 1) := dk_46 (dk_at dksL_law_16 1 rfl rfl)
theorem dL_law_585 : decode cL_law 585 = .ok (.invokevirtual 57, 3) := dk_182 0 57 (dk_at dksL_law_16 2 rfl rfl)
theorem dL_law_588 : decode cL_law 588 = .ok (.aload_n 2, 1) := dk_44 (dk_at dksL_law_16 5 rfl rfl)
theorem dL_law_589 : decode cL_law 589 = .ok (.aload_n 0, 1) := dk_42 (dk_at dksL_law_16 6 rfl rfl)
theorem dL_law_590 : decode cL_law 590 = .ok (.iload 4, 2) := dk_21 4 (dk_at dksL_law_16 7 rfl rfl)
theorem dL_law_592 : decode cL_law 592 = .ok (.iconst 1, 1) := dk_4 (dk_at dksL_law_16 9 rfl rfl)
theorem dL_law_593 : decode cL_law 593 = .ok (.iadd, 1) := dk_96 (dk_at dksL_law_16 10 rfl rfl)
theorem dL_law_594 : decode cL_law 594 = .ok (.iaload, 1) := dk_46 (dk_at dksL_law_16 11 rfl rfl)
theorem dL_law_595 : decode cL_law 595 = .ok (.invokevirtual 60, 3) := dk_182 0 60 (dk_at dksL_law_16 12 rfl rfl)
theorem dL_law_598 : decode cL_law 598 = .ok (.if_icmp .eq 1968, 3) := dk_159 7 176 (dk_at dksL_law_16 15 rfl rfl)
theorem dL_law_601 : decode cL_law 601 = .ok (.iconst 0, 1) := dk_3 (dk_at dksL_law_16 18 rfl rfl)
theorem dL_law_602 : decode cL_law 602 = .ok (.ireturn, 1) := dk_172 (dk_at dksL_law_16 19 rfl rfl)
theorem dL_law_603 : decode cL_law 603 = .ok (.aload_n 1, 1) := dk_43 (dk_at dksL_law_16 20 rfl rfl)
theorem dL_law_604 : decode cL_law 604 = .ok (.aload_n 0, 1) := dk_42 (dk_at dksL_law_16 21 rfl rfl)
theorem dL_law_605 : decode cL_law 605 = .ok (.iload 4, 2) := dk_21 4 (dk_at dksL_law_16 22 rfl rfl)
theorem dL_law_607 : decode cL_law 607 = .ok (.iconst 1, 1) := dk_4 (dk_at dksL_law_17 0 rfl rfl)
theorem dL_law_608 : decode cL_law 608 = .ok (.iadd, 1) := dk_96 (dk_at dksL_law_17 1 rfl rfl)
theorem dL_law_609 : decode cL_law 609 = .ok (.iaload, 1) := dk_46 (dk_at dksL_law_17 2 rfl rfl)
theorem dL_law_610 : decode cL_law 610 = .ok (.aload_n 0, 1) := dk_42 (dk_at dksL_law_17 3 rfl rfl)
theorem dL_law_611 : decode cL_law 611 = .ok (.iload 4, 2) := dk_21 4 (dk_at dksL_law_17 4 rfl rfl)
theorem dL_law_613 : decode cL_law 613 = .ok (.iconst 2, 1) := dk_5 (dk_at dksL_law_17 6 rfl rfl)
theorem dL_law_614 : decode cL_law 614 = .ok (.iadd, 1) := dk_96 (dk_at dksL_law_17 7 rfl rfl)
theorem dL_law_615 : decode cL_law 615 = .ok (.iaload, 1) := dk_46 (dk_at dksL_law_17 8 rfl rfl)
theorem dL_law_616 : decode cL_law 616 = .ok (.aload_n 0, 1) := dk_42 (dk_at dksL_law_17 9 rfl rfl)
theorem dL_law_617 : decode cL_law 617 = .ok (.iload 4, 2) := dk_21 4 (dk_at dksL_law_17 10 rfl rfl)
theorem dL_law_619 : decode cL_law 619 = .ok (.iconst 3, 1) := dk_6 (dk_at dksL_law_17 12 rfl rfl)
theorem dL_law_620 : decode cL_law 620 = .ok (.iadd, 1) := dk_96 (dk_at dksL_law_17 13 rfl rfl)
theorem dL_law_621 : decode cL_law 621 = .ok (.iaload, 1) := dk_46 (dk_at dksL_law_17 14 rfl rfl)
theorem dL_law_622 : decode cL_law 622 = .ok (.invokevirtual 61, 3) := dk_182 0 61 (dk_at dksL_law_17 15 rfl rfl)
theorem dL_law_625 : decode cL_law 625 = .ok (.aload_n 2, 1) := dk_44 (dk_at dksL_law_17 18 rfl rfl)
theorem dL_law_626 : decode cL_law 626 = .ok (.aload_n 0, 1) := dk_42 (dk_at dksL_law_17 19 rfl rfl)
theorem dL_law_627 : decode cL_law 627 = .ok (.iload 4, 2) := dk_21 4 (dk_at dksL_law_17 20 rfl rfl)
theorem dL_law_629 : decode cL_law 629 = .ok (.iconst 1, 1) := dk_4 (dk_at dksL_law_17 22 rfl rfl)
theorem dL_law_630 : decode cL_law 630 = .ok (.iadd, 1) := dk_96 (dk_at dksL_law_17 23 rfl rfl)
theorem dL_law_631 : decode cL_law 631 = .ok (.iaload, 1) := dk_46 (dk_at dksL_law_18 0 rfl rfl)
theorem dL_law_632 : decode cL_law 632 = .ok (.aload_n 0, 1) := dk_42 (dk_at dksL_law_18 1 rfl rfl)
theorem dL_law_633 : decode cL_law 633 = .ok (.iload 4, 2) := dk_21 4 (dk_at dksL_law_18 2 rfl rfl)
theorem dL_law_635 : decode cL_law 635 = .ok (.iconst 2, 1) := dk_5 (dk_at dksL_law_18 4 rfl rfl)
theorem dL_law_636 : decode cL_law 636 = .ok (.iadd, 1) := dk_96 (dk_at dksL_law_18 5 rfl rfl)
theorem dL_law_637 : decode cL_law 637 = .ok (.iaload, 1) := dk_46 (dk_at dksL_law_18 6 rfl rfl)
theorem dL_law_638 : decode cL_law 638 = .ok (.aload_n 0, 1) := dk_42 (dk_at dksL_law_18 7 rfl rfl)
theorem dL_law_639 : decode cL_law 639 = .ok (.iload 4, 2) := dk_21 4 (dk_at dksL_law_18 8 rfl rfl)
theorem dL_law_641 : decode cL_law 641 = .ok (.iconst 3, 1) := dk_6 (dk_at dksL_law_18 10 rfl rfl)
theorem dL_law_642 : decode cL_law 642 = .ok (.iadd, 1) := dk_96 (dk_at dksL_law_18 11 rfl rfl)
theorem dL_law_643 : decode cL_law 643 = .ok (.iaload, 1) := dk_46 (dk_at dksL_law_18 12 rfl rfl)
theorem dL_law_644 : decode cL_law 644 = .ok (.invokevirtual 65, 3) := dk_182 0 65 (dk_at dksL_law_18 13 rfl rfl)
theorem dL_law_647 : decode cL_law 647 = .ok (.if_icmp .eq 1919, 3) := dk_159 7 127 (dk_at dksL_law_18 16 rfl rfl)
theorem dL_law_650 : decode cL_law 650 = .ok (.iconst 0, 1) := dk_3 (dk_at dksL_law_18 19 rfl rfl)
theorem dL_law_651 : decode cL_law 651 = .ok (.ireturn, 1) := dk_172 (dk_at dksL_law_18 20 rfl rfl)
theorem dL_law_652 : decode cL_law 652 = .ok (.aload_n 1, 1) := dk_43 (dk_at dksL_law_18 21 rfl rfl)
theorem dL_law_653 : decode cL_law 653 = .ok (.aload_n 0, 1) := dk_42 (dk_at dksL_law_18 22 rfl rfl)
theorem dL_law_654 : decode cL_law 654 = .ok (.iload 4, 2) := dk_21 4 (dk_at dksL_law_19 0 rfl rfl)
theorem dL_law_656 : decode cL_law 656 = .ok (.iconst 1, 1) := dk_4 (dk_at dksL_law_19 2 rfl rfl)
theorem dL_law_657 : decode cL_law 657 = .ok (.iadd, 1) := dk_96 (dk_at dksL_law_19 3 rfl rfl)
theorem dL_law_658 : decode cL_law 658 = .ok (.iaload, 1) := dk_46 (dk_at dksL_law_19 4 rfl rfl)
theorem dL_law_659 : decode cL_law 659 = .ok (.aload_n 0, 1) := dk_42 (dk_at dksL_law_19 5 rfl rfl)
theorem dL_law_660 : decode cL_law 660 = .ok (.iload 4, 2) := dk_21 4 (dk_at dksL_law_19 6 rfl rfl)
theorem dL_law_662 : decode cL_law 662 = .ok (.iconst 2, 1) := dk_5 (dk_at dksL_law_19 8 rfl rfl)
theorem dL_law_663 : decode cL_law 663 = .ok (.iadd, 1) := dk_96 (dk_at dksL_law_19 9 rfl rfl)
theorem dL_law_664 : decode cL_law 664 = .ok (.iaload, 1) := dk_46 (dk_at dksL_law_19 10 rfl rfl)
theorem dL_law_665 : decode cL_law 665 = .ok (.invokevirtual 66, 3) := dk_182 0 66 (dk_at dksL_law_19 11 rfl rfl)
theorem dL_law_668 : decode cL_law 668 = .ok (.aload_n 2, 1) := dk_44 (dk_at dksL_law_19 14 rfl rfl)
theorem dL_law_669 : decode cL_law 669 = .ok (.aload_n 0, 1) := dk_42 (dk_at dksL_law_19 15 rfl rfl)
theorem dL_law_670 : decode cL_law 670 = .ok (.iload 4, 2) := dk_21 4 (dk_at dksL_law_19 16 rfl rfl)
theorem dL_law_672 : decode cL_law 672 = .ok (.iconst 1, 1) := dk_4 (dk_at dksL_law_19 18 rfl rfl)
theorem dL_law_673 : decode cL_law 673 = .ok (.iadd, 1) := dk_96 (dk_at dksL_law_19 19 rfl rfl)
theorem dL_law_674 : decode cL_law 674 = .ok (.iaload, 1) := dk_46 (dk_at dksL_law_19 20 rfl rfl)
theorem dL_law_675 : decode cL_law 675 = .ok (.aload_n 0, 1) := dk_42 (dk_at dksL_law_19 21 rfl rfl)
theorem dL_law_676 : decode cL_law 676 = .ok (.iload 4, 2) := dk_21 4 (dk_at dksL_law_19 22 rfl rfl)
theorem dL_law_678 : decode cL_law 678 = .ok (.iconst 2, 1) := dk_5 (dk_at dksL_law_20 0 rfl rfl)
theorem dL_law_679 : decode cL_law 679 = .ok (.iadd, 1) := dk_96 (dk_at dksL_law_20 1 rfl rfl)
theorem dL_law_680 : decode cL_law 680 = .ok (.iaload, 1) := dk_46 (dk_at dksL_law_20 2 rfl rfl)
theorem dL_law_681 : decode cL_law 681 = .ok (.invokevirtual 70, 3) := dk_182 0 70 (dk_at dksL_law_20 3 rfl rfl)
theorem dL_law_684 : decode cL_law 684 = .ok (.if_icmp .eq 1882, 3) := dk_159 7 90 (dk_at dksL_law_20 6 rfl rfl)
theorem dL_law_687 : decode cL_law 687 = .ok (.iconst 0, 1) := dk_3 (dk_at dksL_law_20 9 rfl rfl)
theorem dL_law_688 : decode cL_law 688 = .ok (.ireturn, 1) := dk_172 (dk_at dksL_law_20 10 rfl rfl)
theorem dL_law_689 : decode cL_law 689 = .ok (.aload_n 1, 1) := dk_43 (dk_at dksL_law_20 11 rfl rfl)
theorem dL_law_690 : decode cL_law 690 = .ok (.aload_n 0, 1) := dk_42 (dk_at dksL_law_20 12 rfl rfl)
theorem dL_law_691 : decode cL_law 691 = .ok (.iload 4, 2) := dk_21 4 (dk_at dksL_law_20 13 rfl rfl)
theorem dL_law_693 : decode cL_law 693 = .ok (.iconst 1, 1) := dk_4 (dk_at dksL_law_20 15 rfl rfl)
theorem dL_law_694 : decode cL_law 694 = .ok (.iadd, 1) := dk_96 (dk_at dksL_law_20 16 rfl rfl)
theorem dL_law_695 : decode cL_law 695 = .ok (.iaload, 1) := dk_46 (dk_at dksL_law_20 17 rfl rfl)
theorem dL_law_696 : decode cL_law 696 = .ok (.aload_n 0, 1) := dk_42 (dk_at dksL_law_20 18 rfl rfl)
theorem dL_law_697 : decode cL_law 697 = .ok (.iload 4, 2) := dk_21 4 (dk_at dksL_law_20 19 rfl rfl)
theorem dL_law_699 : decode cL_law 699 = .ok (.iconst 2, 1) := dk_5 (dk_at dksL_law_20 21 rfl rfl)
theorem dL_law_700 : decode cL_law 700 = .ok (.iadd, 1) := dk_96 (dk_at dksL_law_20 22 rfl rfl)
theorem dL_law_701 : decode cL_law 701 = .ok (.iaload, 1) := dk_46 (dk_at dksL_law_20 23 rfl rfl)
theorem dL_law_702 : decode cL_law 702 = .ok (.invokevirtual 71, 3) := dk_182 0 71 (dk_at dksL_law_21 0 rfl rfl)
theorem dL_law_705 : decode cL_law 705 = .ok (.aload_n 2, 1) := dk_44 (dk_at dksL_law_21 3 rfl rfl)
theorem dL_law_706 : decode cL_law 706 = .ok (.aload_n 0, 1) := dk_42 (dk_at dksL_law_21 4 rfl rfl)
theorem dL_law_707 : decode cL_law 707 = .ok (.iload 4, 2) := dk_21 4 (dk_at dksL_law_21 5 rfl rfl)
theorem dL_law_709 : decode cL_law 709 = .ok (.iconst 1, 1) := dk_4 (dk_at dksL_law_21 7 rfl rfl)
theorem dL_law_710 : decode cL_law 710 = .ok (.iadd, 1) := dk_96 (dk_at dksL_law_21 8 rfl rfl)
theorem dL_law_711 : decode cL_law 711 = .ok (.iaload, 1) := dk_46 (dk_at dksL_law_21 9 rfl rfl)
theorem dL_law_712 : decode cL_law 712 = .ok (.aload_n 0, 1) := dk_42 (dk_at dksL_law_21 10 rfl rfl)
theorem dL_law_713 : decode cL_law 713 = .ok (.iload 4, 2) := dk_21 4 (dk_at dksL_law_21 11 rfl rfl)
theorem dL_law_715 : decode cL_law 715 = .ok (.iconst 2, 1) := dk_5 (dk_at dksL_law_21 13 rfl rfl)
theorem dL_law_716 : decode cL_law 716 = .ok (.iadd, 1) := dk_96 (dk_at dksL_law_21 14 rfl rfl)
theorem dL_law_717 : decode cL_law 717 = .ok (.iaload, 1) := dk_46 (dk_at dksL_law_21 15 rfl rfl)
theorem dL_law_718 : decode cL_law 718 = .ok (.invokevirtual 74, 3) := dk_182 0 74 (dk_at dksL_law_21 16 rfl rfl)
theorem dL_law_721 : decode cL_law 721 = .ok (.if_icmp .eq 1845, 3) := dk_159 7 53 (dk_at dksL_law_21 19 rfl rfl)
theorem dL_law_724 : decode cL_law 724 = .ok (.iconst 0, 1) := dk_3 (dk_at dksL_law_21 22 rfl rfl)
theorem dL_law_725 : decode cL_law 725 = .ok (.ireturn, 1) := dk_172 (dk_at dksL_law_21 23 rfl rfl)
theorem dL_law_726 : decode cL_law 726 = .ok (.aload_n 1, 1) := dk_43 (dk_at dksL_law_22 0 rfl rfl)
theorem dL_law_727 : decode cL_law 727 = .ok (.aload_n 0, 1) := dk_42 (dk_at dksL_law_22 1 rfl rfl)
theorem dL_law_728 : decode cL_law 728 = .ok (.iload 4, 2) := dk_21 4 (dk_at dksL_law_22 2 rfl rfl)
theorem dL_law_730 : decode cL_law 730 = .ok (.iconst 1, 1) := dk_4 (dk_at dksL_law_22 4 rfl rfl)
theorem dL_law_731 : decode cL_law 731 = .ok (.iadd, 1) := dk_96 (dk_at dksL_law_22 5 rfl rfl)
theorem dL_law_732 : decode cL_law 732 = .ok (.iaload, 1) := dk_46 (dk_at dksL_law_22 6 rfl rfl)
theorem dL_law_733 : decode cL_law 733 = .ok (.aload_n 0, 1) := dk_42 (dk_at dksL_law_22 7 rfl rfl)
theorem dL_law_734 : decode cL_law 734 = .ok (.iload 4, 2) := dk_21 4 (dk_at dksL_law_22 8 rfl rfl)
theorem dL_law_736 : decode cL_law 736 = .ok (.iconst 2, 1) := dk_5 (dk_at dksL_law_22 10 rfl rfl)
theorem dL_law_737 : decode cL_law 737 = .ok (.iadd, 1) := dk_96 (dk_at dksL_law_22 11 rfl rfl)
theorem dL_law_738 : decode cL_law 738 = .ok (.iaload, 1) := dk_46 (dk_at dksL_law_22 12 rfl rfl)
theorem dL_law_739 : decode cL_law 739 = .ok (.aload_n 0, 1) := dk_42 (dk_at dksL_law_22 13 rfl rfl)
theorem dL_law_740 : decode cL_law 740 = .ok (.iload 4, 2) := dk_21 4 (dk_at dksL_law_22 14 rfl rfl)
theorem dL_law_742 : decode cL_law 742 = .ok (.iconst 3, 1) := dk_6 (dk_at dksL_law_22 16 rfl rfl)
theorem dL_law_743 : decode cL_law 743 = .ok (.iadd, 1) := dk_96 (dk_at dksL_law_22 17 rfl rfl)
theorem dL_law_744 : decode cL_law 744 = .ok (.iaload, 1) := dk_46 (dk_at dksL_law_22 18 rfl rfl)
theorem dL_law_745 : decode cL_law 745 = .ok (.invokevirtual 75, 3) := dk_182 0 75 (dk_at dksL_law_22 19 rfl rfl)
theorem dL_law_748 : decode cL_law 748 = .ok (.aload_n 2, 1) := dk_44 (dk_at dksL_law_22 22 rfl rfl)
theorem dL_law_749 : decode cL_law 749 = .ok (.aload_n 0, 1) := dk_42 (dk_at dksL_law_22 23 rfl rfl)
theorem dL_law_750 : decode cL_law 750 = .ok (.iload 4, 2) := dk_21 4 (dk_at dksL_law_23 0 rfl rfl)
theorem dL_law_752 : decode cL_law 752 = .ok (.iconst 1, 1) := dk_4 (dk_at dksL_law_23 2 rfl rfl)
theorem dL_law_753 : decode cL_law 753 = .ok (.iadd, 1) := dk_96 (dk_at dksL_law_23 3 rfl rfl)
theorem dL_law_754 : decode cL_law 754 = .ok (.iaload, 1) := dk_46 (dk_at dksL_law_23 4 rfl rfl)
theorem dL_law_755 : decode cL_law 755 = .ok (.aload_n 0, 1) := dk_42 (dk_at dksL_law_23 5 rfl rfl)
theorem dL_law_756 : decode cL_law 756 = .ok (.iload 4, 2) := dk_21 4 (dk_at dksL_law_23 6 rfl rfl)
theorem dL_law_758 : decode cL_law 758 = .ok (.iconst 2, 1) := dk_5 (dk_at dksL_law_23 8 rfl rfl)
theorem dL_law_759 : decode cL_law 759 = .ok (.iadd, 1) := dk_96 (dk_at dksL_law_23 9 rfl rfl)
theorem dL_law_760 : decode cL_law 760 = .ok (.iaload, 1) := dk_46 (dk_at dksL_law_23 10 rfl rfl)
theorem dL_law_761 : decode cL_law 761 = .ok (.aload_n 0, 1) := dk_42 (dk_at dksL_law_23 11 rfl rfl)
theorem dL_law_762 : decode cL_law 762 = .ok (.iload 4, 2) := dk_21 4 (dk_at dksL_law_23 12 rfl rfl)
theorem dL_law_764 : decode cL_law 764 = .ok (.iconst 3, 1) := dk_6 (dk_at dksL_law_23 14 rfl rfl)
theorem dL_law_765 : decode cL_law 765 = .ok (.iadd, 1) := dk_96 (dk_at dksL_law_23 15 rfl rfl)
theorem dL_law_766 : decode cL_law 766 = .ok (.iaload, 1) := dk_46 (dk_at dksL_law_23 16 rfl rfl)
theorem dL_law_767 : decode cL_law 767 = .ok (.invokevirtual 78, 3) := dk_182 0 78 (dk_at dksL_law_23 17 rfl rfl)
theorem dL_law_770 : decode cL_law 770 = .ok (.if_icmp .eq 1796, 3) := dk_159 7 4 (dk_at dksL_law_23 20 rfl rfl)
theorem dL_law_773 : decode cL_law 773 = .ok (.iconst 0, 1) := dk_3 (dk_at dksL_law_23 23 rfl rfl)
theorem dL_law_774 : decode cL_law 774 = .ok (.ireturn, 1) := dk_172 (dk_at dksL_law_24 0 rfl rfl)
theorem dL_law_775 : decode cL_law 775 = .ok (.aload_n 1, 1) := dk_43 (dk_at dksL_law_24 1 rfl rfl)
theorem dL_law_776 : decode cL_law 776 = .ok (.aload_n 0, 1) := dk_42 (dk_at dksL_law_24 2 rfl rfl)
theorem dL_law_777 : decode cL_law 777 = .ok (.iload 4, 2) := dk_21 4 (dk_at dksL_law_24 3 rfl rfl)
theorem dL_law_779 : decode cL_law 779 = .ok (.iconst 1, 1) := dk_4 (dk_at dksL_law_24 5 rfl rfl)
theorem dL_law_780 : decode cL_law 780 = .ok (.iadd, 1) := dk_96 (dk_at dksL_law_24 6 rfl rfl)
theorem dL_law_781 : decode cL_law 781 = .ok (.iaload, 1) := dk_46 (dk_at dksL_law_24 7 rfl rfl)
theorem dL_law_782 : decode cL_law 782 = .ok (.aload_n 0, 1) := dk_42 (dk_at dksL_law_24 8 rfl rfl)
theorem dL_law_783 : decode cL_law 783 = .ok (.iload 4, 2) := dk_21 4 (dk_at dksL_law_24 9 rfl rfl)
theorem dL_law_785 : decode cL_law 785 = .ok (.iconst 2, 1) := dk_5 (dk_at dksL_law_24 11 rfl rfl)
theorem dL_law_786 : decode cL_law 786 = .ok (.iadd, 1) := dk_96 (dk_at dksL_law_24 12 rfl rfl)
theorem dL_law_787 : decode cL_law 787 = .ok (.iaload, 1) := dk_46 (dk_at dksL_law_24 13 rfl rfl)
theorem dL_law_788 : decode cL_law 788 = .ok (.invokevirtual 79, 3) := dk_182 0 79 (dk_at dksL_law_24 14 rfl rfl)
theorem dL_law_791 : decode cL_law 791 = .ok (.aload_n 2, 1) := dk_44 (dk_at dksL_law_24 17 rfl rfl)
theorem dL_law_792 : decode cL_law 792 = .ok (.aload_n 0, 1) := dk_42 (dk_at dksL_law_24 18 rfl rfl)
theorem dL_law_793 : decode cL_law 793 = .ok (.iload 4, 2) := dk_21 4 (dk_at dksL_law_24 19 rfl rfl)
theorem dL_law_795 : decode cL_law 795 = .ok (.iconst 1, 1) := dk_4 (dk_at dksL_law_24 21 rfl rfl)
theorem dL_law_796 : decode cL_law 796 = .ok (.iadd, 1) := dk_96 (dk_at dksL_law_24 22 rfl rfl)
theorem dL_law_797 : decode cL_law 797 = .ok (.iaload, 1) := dk_46 (dk_at dksL_law_24 23 rfl rfl)
theorem dL_law_798 : decode cL_law 798 = .ok (.aload_n 0, 1) := dk_42 (dk_at dksL_law_25 0 rfl rfl)
theorem dL_law_799 : decode cL_law 799 = .ok (.iload 4, 2) := dk_21 4 (dk_at dksL_law_25 1 rfl rfl)
theorem dL_law_801 : decode cL_law 801 = .ok (.iconst 2, 1) := dk_5 (dk_at dksL_law_25 3 rfl rfl)
theorem dL_law_802 : decode cL_law 802 = .ok (.iadd, 1) := dk_96 (dk_at dksL_law_25 4 rfl rfl)
theorem dL_law_803 : decode cL_law 803 = .ok (.iaload, 1) := dk_46 (dk_at dksL_law_25 5 rfl rfl)
theorem dL_law_804 : decode cL_law 804 = .ok (.invokevirtual 82, 3) := dk_182 0 82 (dk_at dksL_law_25 6 rfl rfl)
theorem dL_law_807 : decode cL_law 807 = .ok (.if_icmp .eq 1759, 3) := dk_159 6 223 (dk_at dksL_law_25 9 rfl rfl)
theorem dL_law_810 : decode cL_law 810 = .ok (.iconst 0, 1) := dk_3 (dk_at dksL_law_25 12 rfl rfl)
theorem dL_law_811 : decode cL_law 811 = .ok (.ireturn, 1) := dk_172 (dk_at dksL_law_25 13 rfl rfl)
theorem dL_law_812 : decode cL_law 812 = .ok (.aload_n 1, 1) := dk_43 (dk_at dksL_law_25 14 rfl rfl)
theorem dL_law_813 : decode cL_law 813 = .ok (.aload_n 0, 1) := dk_42 (dk_at dksL_law_25 15 rfl rfl)
theorem dL_law_814 : decode cL_law 814 = .ok (.iload 4, 2) := dk_21 4 (dk_at dksL_law_25 16 rfl rfl)
theorem dL_law_816 : decode cL_law 816 = .ok (.iconst 1, 1) := dk_4 (dk_at dksL_law_25 18 rfl rfl)
theorem dL_law_817 : decode cL_law 817 = .ok (.iadd, 1) := dk_96 (dk_at dksL_law_25 19 rfl rfl)
theorem dL_law_818 : decode cL_law 818 = .ok (.iaload, 1) := dk_46 (dk_at dksL_law_25 20 rfl rfl)
theorem dL_law_819 : decode cL_law 819 = .ok (.aload_n 0, 1) := dk_42 (dk_at dksL_law_25 21 rfl rfl)
theorem dL_law_820 : decode cL_law 820 = .ok (.iload 4, 2) := dk_21 4 (dk_at dksL_law_25 22 rfl rfl)
theorem dL_law_822 : decode cL_law 822 = .ok (.iconst 2, 1) := dk_5 (dk_at dksL_law_26 0 rfl rfl)
theorem dL_law_823 : decode cL_law 823 = .ok (.iadd, 1) := dk_96 (dk_at dksL_law_26 1 rfl rfl)
theorem dL_law_824 : decode cL_law 824 = .ok (.iaload, 1) := dk_46 (dk_at dksL_law_26 2 rfl rfl)
theorem dL_law_825 : decode cL_law 825 = .ok (.aload_n 0, 1) := dk_42 (dk_at dksL_law_26 3 rfl rfl)
theorem dL_law_826 : decode cL_law 826 = .ok (.iload 4, 2) := dk_21 4 (dk_at dksL_law_26 4 rfl rfl)
theorem dL_law_828 : decode cL_law 828 = .ok (.iconst 3, 1) := dk_6 (dk_at dksL_law_26 6 rfl rfl)
theorem dL_law_829 : decode cL_law 829 = .ok (.iadd, 1) := dk_96 (dk_at dksL_law_26 7 rfl rfl)
theorem dL_law_830 : decode cL_law 830 = .ok (.iaload, 1) := dk_46 (dk_at dksL_law_26 8 rfl rfl)
theorem dL_law_831 : decode cL_law 831 = .ok (.ifCond .eq 7, 3) := dk_153 0 7 (dk_at dksL_law_26 9 rfl rfl)
theorem dL_law_834 : decode cL_law 834 = .ok (.iconst 1, 1) := dk_4 (dk_at dksL_law_26 12 rfl rfl)
theorem dL_law_835 : decode cL_law 835 = .ok (.goto 4, 3) := dk_167 0 4 (dk_at dksL_law_26 13 rfl rfl)
theorem dL_law_838 : decode cL_law 838 = .ok (.iconst 0, 1) := dk_3 (dk_at dksL_law_26 16 rfl rfl)
theorem dL_law_839 : decode cL_law 839 = .ok (.invokevirtual 83, 3) := dk_182 0 83 (dk_at dksL_law_26 17 rfl rfl)
theorem dL_law_842 : decode cL_law 842 = .ok (.aload_n 2, 1) := dk_44 (dk_at dksL_law_26 20 rfl rfl)
theorem dL_law_843 : decode cL_law 843 = .ok (.aload_n 0, 1) := dk_42 (dk_at dksL_law_26 21 rfl rfl)
theorem dL_law_844 : decode cL_law 844 = .ok (.iload 4, 2) := dk_21 4 (dk_at dksL_law_26 22 rfl rfl)
theorem dL_law_846 : decode cL_law 846 = .ok (.iconst 1, 1) := dk_4 (dk_at dksL_law_27 0 rfl rfl)
theorem dL_law_847 : decode cL_law 847 = .ok (.iadd, 1) := dk_96 (dk_at dksL_law_27 1 rfl rfl)
theorem dL_law_848 : decode cL_law 848 = .ok (.iaload, 1) := dk_46 (dk_at dksL_law_27 2 rfl rfl)
theorem dL_law_849 : decode cL_law 849 = .ok (.aload_n 0, 1) := dk_42 (dk_at dksL_law_27 3 rfl rfl)
theorem dL_law_850 : decode cL_law 850 = .ok (.iload 4, 2) := dk_21 4 (dk_at dksL_law_27 4 rfl rfl)
theorem dL_law_852 : decode cL_law 852 = .ok (.iconst 2, 1) := dk_5 (dk_at dksL_law_27 6 rfl rfl)
theorem dL_law_853 : decode cL_law 853 = .ok (.iadd, 1) := dk_96 (dk_at dksL_law_27 7 rfl rfl)
theorem dL_law_854 : decode cL_law 854 = .ok (.iaload, 1) := dk_46 (dk_at dksL_law_27 8 rfl rfl)
theorem dL_law_855 : decode cL_law 855 = .ok (.aload_n 0, 1) := dk_42 (dk_at dksL_law_27 9 rfl rfl)
theorem dL_law_856 : decode cL_law 856 = .ok (.iload 4, 2) := dk_21 4 (dk_at dksL_law_27 10 rfl rfl)
theorem dL_law_858 : decode cL_law 858 = .ok (.iconst 3, 1) := dk_6 (dk_at dksL_law_27 12 rfl rfl)
theorem dL_law_859 : decode cL_law 859 = .ok (.iadd, 1) := dk_96 (dk_at dksL_law_27 13 rfl rfl)
theorem dL_law_860 : decode cL_law 860 = .ok (.iaload, 1) := dk_46 (dk_at dksL_law_27 14 rfl rfl)
theorem dL_law_861 : decode cL_law 861 = .ok (.ifCond .eq 7, 3) := dk_153 0 7 (dk_at dksL_law_27 15 rfl rfl)
theorem dL_law_864 : decode cL_law 864 = .ok (.iconst 1, 1) := dk_4 (dk_at dksL_law_27 18 rfl rfl)
theorem dL_law_865 : decode cL_law 865 = .ok (.goto 4, 3) := dk_167 0 4 (dk_at dksL_law_27 19 rfl rfl)
theorem dL_law_868 : decode cL_law 868 = .ok (.iconst 0, 1) := dk_3 (dk_at dksL_law_27 22 rfl rfl)
theorem dL_law_869 : decode cL_law 869 = .ok (.invokevirtual 87, 3) := dk_182 0 87 (dk_at dksL_law_28 0 rfl rfl)
theorem dL_law_872 : decode cL_law 872 = .ok (.if_icmp .eq 1694, 3) := dk_159 6 158 (dk_at dksL_law_28 3 rfl rfl)
theorem dL_law_875 : decode cL_law 875 = .ok (.iconst 0, 1) := dk_3 (dk_at dksL_law_28 6 rfl rfl)
theorem dL_law_876 : decode cL_law 876 = .ok (.ireturn, 1) := dk_172 (dk_at dksL_law_28 7 rfl rfl)
theorem dL_law_877 : decode cL_law 877 = .ok (.aload_n 1, 1) := dk_43 (dk_at dksL_law_28 8 rfl rfl)
theorem dL_law_878 : decode cL_law 878 = .ok (.invokevirtual 88, 3) := dk_182 0 88 (dk_at dksL_law_28 9 rfl rfl)
theorem dL_law_881 : decode cL_law 881 = .ok (.aload_n 2, 1) := dk_44 (dk_at dksL_law_28 12 rfl rfl)
theorem dL_law_882 : decode cL_law 882 = .ok (.invokevirtual 91, 3) := dk_182 0 91 (dk_at dksL_law_28 13 rfl rfl)
theorem dL_law_885 : decode cL_law 885 = .ok (.if_icmp .eq 1681, 3) := dk_159 6 145 (dk_at dksL_law_28 16 rfl rfl)
theorem dL_law_888 : decode cL_law 888 = .ok (.iconst 0, 1) := dk_3 (dk_at dksL_law_28 19 rfl rfl)
theorem dL_law_889 : decode cL_law 889 = .ok (.ireturn, 1) := dk_172 (dk_at dksL_law_28 20 rfl rfl)
theorem dL_law_890 : decode cL_law 890 = .ok (.aload_n 1, 1) := dk_43 (dk_at dksL_law_28 21 rfl rfl)
theorem dL_law_891 : decode cL_law 891 = .ok (.invokevirtual 92, 3) := dk_182 0 92 (dk_at dksL_law_29 0 rfl rfl)
theorem dL_law_894 : decode cL_law 894 = .ok (.aload_n 2, 1) := dk_44 (dk_at dksL_law_29 3 rfl rfl)
theorem dL_law_895 : decode cL_law 895 = .ok (.invokevirtual 95, 3) := dk_182 0 95 (dk_at dksL_law_29 4 rfl rfl)
theorem dL_law_898 : decode cL_law 898 = .ok (.if_icmp .eq 1668, 3) := dk_159 6 132 (dk_at dksL_law_29 7 rfl rfl)
theorem dL_law_901 : decode cL_law 901 = .ok (.iconst 0, 1) := dk_3 (dk_at dksL_law_29 10 rfl rfl)
theorem dL_law_902 : decode cL_law 902 = .ok (.ireturn, 1) := dk_172 (dk_at dksL_law_29 11 rfl rfl)
theorem dL_law_903 : decode cL_law 903 = .ok (.aload_n 1, 1) := dk_43 (dk_at dksL_law_29 12 rfl rfl)
theorem dL_law_904 : decode cL_law 904 = .ok (.aload_n 0, 1) := dk_42 (dk_at dksL_law_29 13 rfl rfl)
theorem dL_law_905 : decode cL_law 905 = .ok (.iload 4, 2) := dk_21 4 (dk_at dksL_law_29 14 rfl rfl)
theorem dL_law_907 : decode cL_law 907 = .ok (.iconst 1, 1) := dk_4 (dk_at dksL_law_29 16 rfl rfl)
theorem dL_law_908 : decode cL_law 908 = .ok (.iadd, 1) := dk_96 (dk_at dksL_law_29 17 rfl rfl)
theorem dL_law_909 : decode cL_law 909 = .ok (.iaload, 1) := dk_46 (dk_at dksL_law_29 18 rfl rfl)
theorem dL_law_910 : decode cL_law 910 = .ok (.aload_n 0, 1) := dk_42 (dk_at dksL_law_29 19 rfl rfl)
theorem dL_law_911 : decode cL_law 911 = .ok (.iload 4, 2) := dk_21 4 (dk_at dksL_law_29 20 rfl rfl)
theorem dL_law_913 : decode cL_law 913 = .ok (.iconst 2, 1) := dk_5 (dk_at dksL_law_29 22 rfl rfl)
theorem dL_law_914 : decode cL_law 914 = .ok (.iadd, 1) := dk_96 (dk_at dksL_law_29 23 rfl rfl)
theorem dL_law_915 : decode cL_law 915 = .ok (.iaload, 1) := dk_46 (dk_at dksL_law_30 0 rfl rfl)
theorem dL_law_916 : decode cL_law 916 = .ok (.invokevirtual 96, 3) := dk_182 0 96 (dk_at dksL_law_30 1 rfl rfl)
theorem dL_law_919 : decode cL_law 919 = .ok (.aload_n 2, 1) := dk_44 (dk_at dksL_law_30 4 rfl rfl)
theorem dL_law_920 : decode cL_law 920 = .ok (.aload_n 0, 1) := dk_42 (dk_at dksL_law_30 5 rfl rfl)
theorem dL_law_921 : decode cL_law 921 = .ok (.iload 4, 2) := dk_21 4 (dk_at dksL_law_30 6 rfl rfl)
theorem dL_law_923 : decode cL_law 923 = .ok (.iconst 1, 1) := dk_4 (dk_at dksL_law_30 8 rfl rfl)
theorem dL_law_924 : decode cL_law 924 = .ok (.iadd, 1) := dk_96 (dk_at dksL_law_30 9 rfl rfl)
theorem dL_law_925 : decode cL_law 925 = .ok (.iaload, 1) := dk_46 (dk_at dksL_law_30 10 rfl rfl)
theorem dL_law_926 : decode cL_law 926 = .ok (.aload_n 0, 1) := dk_42 (dk_at dksL_law_30 11 rfl rfl)
theorem dL_law_927 : decode cL_law 927 = .ok (.iload 4, 2) := dk_21 4 (dk_at dksL_law_30 12 rfl rfl)
theorem dL_law_929 : decode cL_law 929 = .ok (.iconst 2, 1) := dk_5 (dk_at dksL_law_30 14 rfl rfl)
theorem dL_law_930 : decode cL_law 930 = .ok (.iadd, 1) := dk_96 (dk_at dksL_law_30 15 rfl rfl)
theorem dL_law_931 : decode cL_law 931 = .ok (.iaload, 1) := dk_46 (dk_at dksL_law_30 16 rfl rfl)
theorem dL_law_932 : decode cL_law 932 = .ok (.invokevirtual 99, 3) := dk_182 0 99 (dk_at dksL_law_30 17 rfl rfl)
theorem dL_law_935 : decode cL_law 935 = .ok (.if_icmp .eq 1631, 3) := dk_159 6 95 (dk_at dksL_law_30 20 rfl rfl)
theorem dL_law_938 : decode cL_law 938 = .ok (.iconst 0, 1) := dk_3 (dk_at dksL_law_30 23 rfl rfl)
theorem dL_law_939 : decode cL_law 939 = .ok (.ireturn, 1) := dk_172 (dk_at dksL_law_31 0 rfl rfl)
theorem dL_law_940 : decode cL_law 940 = .ok (.aload_n 1, 1) := dk_43 (dk_at dksL_law_31 1 rfl rfl)
theorem dL_law_941 : decode cL_law 941 = .ok (.aload_n 0, 1) := dk_42 (dk_at dksL_law_31 2 rfl rfl)
theorem dL_law_942 : decode cL_law 942 = .ok (.iload 4, 2) := dk_21 4 (dk_at dksL_law_31 3 rfl rfl)
theorem dL_law_944 : decode cL_law 944 = .ok (.iconst 1, 1) := dk_4 (dk_at dksL_law_31 5 rfl rfl)
theorem dL_law_945 : decode cL_law 945 = .ok (.iadd, 1) := dk_96 (dk_at dksL_law_31 6 rfl rfl)
theorem dL_law_946 : decode cL_law 946 = .ok (.iaload, 1) := dk_46 (dk_at dksL_law_31 7 rfl rfl)
theorem dL_law_947 : decode cL_law 947 = .ok (.aload_n 0, 1) := dk_42 (dk_at dksL_law_31 8 rfl rfl)
theorem dL_law_948 : decode cL_law 948 = .ok (.iload 4, 2) := dk_21 4 (dk_at dksL_law_31 9 rfl rfl)
theorem dL_law_950 : decode cL_law 950 = .ok (.iconst 2, 1) := dk_5 (dk_at dksL_law_31 11 rfl rfl)
theorem dL_law_951 : decode cL_law 951 = .ok (.iadd, 1) := dk_96 (dk_at dksL_law_31 12 rfl rfl)
theorem dL_law_952 : decode cL_law 952 = .ok (.iaload, 1) := dk_46 (dk_at dksL_law_31 13 rfl rfl)
theorem dL_law_953 : decode cL_law 953 = .ok (.aload_n 0, 1) := dk_42 (dk_at dksL_law_31 14 rfl rfl)
theorem dL_law_954 : decode cL_law 954 = .ok (.iload 4, 2) := dk_21 4 (dk_at dksL_law_31 15 rfl rfl)
theorem dL_law_956 : decode cL_law 956 = .ok (.iconst 3, 1) := dk_6 (dk_at dksL_law_31 17 rfl rfl)
theorem dL_law_957 : decode cL_law 957 = .ok (.iadd, 1) := dk_96 (dk_at dksL_law_31 18 rfl rfl)
theorem dL_law_958 : decode cL_law 958 = .ok (.iaload, 1) := dk_46 (dk_at dksL_law_31 19 rfl rfl)
theorem dL_law_959 : decode cL_law 959 = .ok (.invokevirtual 100, 3) := dk_182 0 100 (dk_at dksL_law_31 20 rfl rfl)
theorem dL_law_962 : decode cL_law 962 = .ok (.aload_n 2, 1) := dk_44 (dk_at dksL_law_31 23 rfl rfl)
theorem dL_law_963 : decode cL_law 963 = .ok (.aload_n 0, 1) := dk_42 (dk_at dksL_law_32 0 rfl rfl)
theorem dL_law_964 : decode cL_law 964 = .ok (.iload 4, 2) := dk_21 4 (dk_at dksL_law_32 1 rfl rfl)
theorem dL_law_966 : decode cL_law 966 = .ok (.iconst 1, 1) := dk_4 (dk_at dksL_law_32 3 rfl rfl)
theorem dL_law_967 : decode cL_law 967 = .ok (.iadd, 1) := dk_96 (dk_at dksL_law_32 4 rfl rfl)
theorem dL_law_968 : decode cL_law 968 = .ok (.iaload, 1) := dk_46 (dk_at dksL_law_32 5 rfl rfl)
theorem dL_law_969 : decode cL_law 969 = .ok (.aload_n 0, 1) := dk_42 (dk_at dksL_law_32 6 rfl rfl)
theorem dL_law_970 : decode cL_law 970 = .ok (.iload 4, 2) := dk_21 4 (dk_at dksL_law_32 7 rfl rfl)
theorem dL_law_972 : decode cL_law 972 = .ok (.iconst 2, 1) := dk_5 (dk_at dksL_law_32 9 rfl rfl)
theorem dL_law_973 : decode cL_law 973 = .ok (.iadd, 1) := dk_96 (dk_at dksL_law_32 10 rfl rfl)
theorem dL_law_974 : decode cL_law 974 = .ok (.iaload, 1) := dk_46 (dk_at dksL_law_32 11 rfl rfl)
theorem dL_law_975 : decode cL_law 975 = .ok (.aload_n 0, 1) := dk_42 (dk_at dksL_law_32 12 rfl rfl)
theorem dL_law_976 : decode cL_law 976 = .ok (.iload 4, 2) := dk_21 4 (dk_at dksL_law_32 13 rfl rfl)
theorem dL_law_978 : decode cL_law 978 = .ok (.iconst 3, 1) := dk_6 (dk_at dksL_law_32 15 rfl rfl)
theorem dL_law_979 : decode cL_law 979 = .ok (.iadd, 1) := dk_96 (dk_at dksL_law_32 16 rfl rfl)
theorem dL_law_980 : decode cL_law 980 = .ok (.iaload, 1) := dk_46 (dk_at dksL_law_32 17 rfl rfl)
theorem dL_law_981 : decode cL_law 981 = .ok (.invokevirtual 103, 3) := dk_182 0 103 (dk_at dksL_law_32 18 rfl rfl)
theorem dL_law_984 : decode cL_law 984 = .ok (.if_icmp .eq 1582, 3) := dk_159 6 46 (dk_at dksL_law_32 21 rfl rfl)
theorem dL_law_987 : decode cL_law 987 = .ok (.iconst 0, 1) := dk_3 (dk_at dksL_law_33 0 rfl rfl)
theorem dL_law_988 : decode cL_law 988 = .ok (.ireturn, 1) := dk_172 (dk_at dksL_law_33 1 rfl rfl)
theorem dL_law_989 : decode cL_law 989 = .ok (.aload_n 1, 1) := dk_43 (dk_at dksL_law_33 2 rfl rfl)
theorem dL_law_990 : decode cL_law 990 = .ok (.aload_n 0, 1) := dk_42 (dk_at dksL_law_33 3 rfl rfl)
theorem dL_law_991 : decode cL_law 991 = .ok (.iload 4, 2) := dk_21 4 (dk_at dksL_law_33 4 rfl rfl)
theorem dL_law_993 : decode cL_law 993 = .ok (.iconst 1, 1) := dk_4 (dk_at dksL_law_33 6 rfl rfl)
theorem dL_law_994 : decode cL_law 994 = .ok (.iadd, 1) := dk_96 (dk_at dksL_law_33 7 rfl rfl)
theorem dL_law_995 : decode cL_law 995 = .ok (.iaload, 1) := dk_46 (dk_at dksL_law_33 8 rfl rfl)
theorem dL_law_996 : decode cL_law 996 = .ok (.aload_n 0, 1) := dk_42 (dk_at dksL_law_33 9 rfl rfl)
theorem dL_law_997 : decode cL_law 997 = .ok (.iload 4, 2) := dk_21 4 (dk_at dksL_law_33 10 rfl rfl)
theorem dL_law_999 : decode cL_law 999 = .ok (.iconst 2, 1) := dk_5 (dk_at dksL_law_33 12 rfl rfl)
theorem dL_law_1000 : decode cL_law 1000 = .ok (.iadd, 1) := dk_96 (dk_at dksL_law_33 13 rfl rfl)
theorem dL_law_1001 : decode cL_law 1001 = .ok (.iaload, 1) := dk_46 (dk_at dksL_law_33 14 rfl rfl)
theorem dL_law_1002 : decode cL_law 1002 = .ok (.aload_n 0, 1) := dk_42 (dk_at dksL_law_33 15 rfl rfl)
theorem dL_law_1003 : decode cL_law 1003 = .ok (.iload 4, 2) := dk_21 4 (dk_at dksL_law_33 16 rfl rfl)
theorem dL_law_1005 : decode cL_law 1005 = .ok (.iconst 3, 1) := dk_6 (dk_at dksL_law_33 18 rfl rfl)
theorem dL_law_1006 : decode cL_law 1006 = .ok (.iadd, 1) := dk_96 (dk_at dksL_law_33 19 rfl rfl)
theorem dL_law_1007 : decode cL_law 1007 = .ok (.iaload, 1) := dk_46 (dk_at dksL_law_33 20 rfl rfl)
theorem dL_law_1008 : decode cL_law 1008 = .ok (.aload_n 0, 1) := dk_42 (dk_at dksL_law_33 21 rfl rfl)
theorem dL_law_1009 : decode cL_law 1009 = .ok (.iload 4, 2) := dk_21 4 (dk_at dksL_law_33 22 rfl rfl)
theorem dL_law_1011 : decode cL_law 1011 = .ok (.iconst 4, 1) := dk_7 (dk_at dksL_law_34 0 rfl rfl)
theorem dL_law_1012 : decode cL_law 1012 = .ok (.iadd, 1) := dk_96 (dk_at dksL_law_34 1 rfl rfl)
theorem dL_law_1013 : decode cL_law 1013 = .ok (.iaload, 1) := dk_46 (dk_at dksL_law_34 2 rfl rfl)
theorem dL_law_1014 : decode cL_law 1014 = .ok (.invokevirtual 104, 3) := dk_182 0 104 (dk_at dksL_law_34 3 rfl rfl)
theorem dL_law_1017 : decode cL_law 1017 = .ok (.aload_n 2, 1) := dk_44 (dk_at dksL_law_34 6 rfl rfl)
theorem dL_law_1018 : decode cL_law 1018 = .ok (.aload_n 0, 1) := dk_42 (dk_at dksL_law_34 7 rfl rfl)
theorem dL_law_1019 : decode cL_law 1019 = .ok (.iload 4, 2) := dk_21 4 (dk_at dksL_law_34 8 rfl rfl)
theorem dL_law_1021 : decode cL_law 1021 = .ok (.iconst 1, 1) := dk_4 (dk_at dksL_law_34 10 rfl rfl)
theorem dL_law_1022 : decode cL_law 1022 = .ok (.iadd, 1) := dk_96 (dk_at dksL_law_34 11 rfl rfl)
theorem dL_law_1023 : decode cL_law 1023 = .ok (.iaload, 1) := dk_46 (dk_at dksL_law_34 12 rfl rfl)
theorem dL_law_1024 : decode cL_law 1024 = .ok (.aload_n 0, 1) := dk_42 (dk_at dksL_law_34 13 rfl rfl)
theorem dL_law_1025 : decode cL_law 1025 = .ok (.iload 4, 2) := dk_21 4 (dk_at dksL_law_34 14 rfl rfl)
theorem dL_law_1027 : decode cL_law 1027 = .ok (.iconst 2, 1) := dk_5 (dk_at dksL_law_34 16 rfl rfl)
theorem dL_law_1028 : decode cL_law 1028 = .ok (.iadd, 1) := dk_96 (dk_at dksL_law_34 17 rfl rfl)
theorem dL_law_1029 : decode cL_law 1029 = .ok (.iaload, 1) := dk_46 (dk_at dksL_law_34 18 rfl rfl)
theorem dL_law_1030 : decode cL_law 1030 = .ok (.aload_n 0, 1) := dk_42 (dk_at dksL_law_34 19 rfl rfl)
theorem dL_law_1031 : decode cL_law 1031 = .ok (.iload 4, 2) := dk_21 4 (dk_at dksL_law_34 20 rfl rfl)
theorem dL_law_1033 : decode cL_law 1033 = .ok (.iconst 3, 1) := dk_6 (dk_at dksL_law_34 22 rfl rfl)
theorem dL_law_1034 : decode cL_law 1034 = .ok (.iadd, 1) := dk_96 (dk_at dksL_law_34 23 rfl rfl)
theorem dL_law_1035 : decode cL_law 1035 = .ok (.iaload, 1) := dk_46 (dk_at dksL_law_35 0 rfl rfl)
theorem dL_law_1036 : decode cL_law 1036 = .ok (.aload_n 0, 1) := dk_42 (dk_at dksL_law_35 1 rfl rfl)
theorem dL_law_1037 : decode cL_law 1037 = .ok (.iload 4, 2) := dk_21 4 (dk_at dksL_law_35 2 rfl rfl)
theorem dL_law_1039 : decode cL_law 1039 = .ok (.iconst 4, 1) := dk_7 (dk_at dksL_law_35 4 rfl rfl)
theorem dL_law_1040 : decode cL_law 1040 = .ok (.iadd, 1) := dk_96 (dk_at dksL_law_35 5 rfl rfl)
theorem dL_law_1041 : decode cL_law 1041 = .ok (.iaload, 1) := dk_46 (dk_at dksL_law_35 6 rfl rfl)
theorem dL_law_1042 : decode cL_law 1042 = .ok (.invokevirtual 108, 3) := dk_182 0 108 (dk_at dksL_law_35 7 rfl rfl)
theorem dL_law_1045 : decode cL_law 1045 = .ok (.if_icmp .eq 1521, 3) := dk_159 5 241 (dk_at dksL_law_35 10 rfl rfl)
theorem dL_law_1048 : decode cL_law 1048 = .ok (.iconst 0, 1) := dk_3 (dk_at dksL_law_35 13 rfl rfl)
theorem dL_law_1049 : decode cL_law 1049 = .ok (.ireturn, 1) := dk_172 (dk_at dksL_law_35 14 rfl rfl)
theorem dL_law_1050 : decode cL_law 1050 = .ok (.aload_n 1, 1) := dk_43 (dk_at dksL_law_35 15 rfl rfl)
theorem dL_law_1051 : decode cL_law 1051 = .ok (.aload_n 0, 1) := dk_42 (dk_at dksL_law_35 16 rfl rfl)
theorem dL_law_1052 : decode cL_law 1052 = .ok (.iload 4, 2) := dk_21 4 (dk_at dksL_law_35 17 rfl rfl)
theorem dL_law_1054 : decode cL_law 1054 = .ok (.iconst 1, 1) := dk_4 (dk_at dksL_law_35 19 rfl rfl)
theorem dL_law_1055 : decode cL_law 1055 = .ok (.iadd, 1) := dk_96 (dk_at dksL_law_35 20 rfl rfl)
theorem dL_law_1056 : decode cL_law 1056 = .ok (.iaload, 1) := dk_46 (dk_at dksL_law_35 21 rfl rfl)
theorem dL_law_1057 : decode cL_law 1057 = .ok (.aload_n 0, 1) := dk_42 (dk_at dksL_law_35 22 rfl rfl)
theorem dL_law_1058 : decode cL_law 1058 = .ok (.iload 4, 2) := dk_21 4 (dk_at dksL_law_36 0 rfl rfl)
theorem dL_law_1060 : decode cL_law 1060 = .ok (.iconst 2, 1) := dk_5 (dk_at dksL_law_36 2 rfl rfl)
theorem dL_law_1061 : decode cL_law 1061 = .ok (.iadd, 1) := dk_96 (dk_at dksL_law_36 3 rfl rfl)
theorem dL_law_1062 : decode cL_law 1062 = .ok (.iaload, 1) := dk_46 (dk_at dksL_law_36 4 rfl rfl)
theorem dL_law_1063 : decode cL_law 1063 = .ok (.aload_n 0, 1) := dk_42 (dk_at dksL_law_36 5 rfl rfl)
theorem dL_law_1064 : decode cL_law 1064 = .ok (.iload 4, 2) := dk_21 4 (dk_at dksL_law_36 6 rfl rfl)
theorem dL_law_1066 : decode cL_law 1066 = .ok (.iconst 3, 1) := dk_6 (dk_at dksL_law_36 8 rfl rfl)
theorem dL_law_1067 : decode cL_law 1067 = .ok (.iadd, 1) := dk_96 (dk_at dksL_law_36 9 rfl rfl)
theorem dL_law_1068 : decode cL_law 1068 = .ok (.iaload, 1) := dk_46 (dk_at dksL_law_36 10 rfl rfl)
theorem dL_law_1069 : decode cL_law 1069 = .ok (.invokevirtual 109, 3) := dk_182 0 109 (dk_at dksL_law_36 11 rfl rfl)
theorem dL_law_1072 : decode cL_law 1072 = .ok (.aload_n 2, 1) := dk_44 (dk_at dksL_law_36 14 rfl rfl)
theorem dL_law_1073 : decode cL_law 1073 = .ok (.aload_n 0, 1) := dk_42 (dk_at dksL_law_36 15 rfl rfl)
theorem dL_law_1074 : decode cL_law 1074 = .ok (.iload 4, 2) := dk_21 4 (dk_at dksL_law_36 16 rfl rfl)
theorem dL_law_1076 : decode cL_law 1076 = .ok (.iconst 1, 1) := dk_4 (dk_at dksL_law_36 18 rfl rfl)
theorem dL_law_1077 : decode cL_law 1077 = .ok (.iadd, 1) := dk_96 (dk_at dksL_law_36 19 rfl rfl)
theorem dL_law_1078 : decode cL_law 1078 = .ok (.iaload, 1) := dk_46 (dk_at dksL_law_36 20 rfl rfl)
theorem dL_law_1079 : decode cL_law 1079 = .ok (.aload_n 0, 1) := dk_42 (dk_at dksL_law_36 21 rfl rfl)
theorem dL_law_1080 : decode cL_law 1080 = .ok (.iload 4, 2) := dk_21 4 (dk_at dksL_law_36 22 rfl rfl)
theorem dL_law_1082 : decode cL_law 1082 = .ok (.iconst 2, 1) := dk_5 (dk_at dksL_law_37 0 rfl rfl)
theorem dL_law_1083 : decode cL_law 1083 = .ok (.iadd, 1) := dk_96 (dk_at dksL_law_37 1 rfl rfl)
theorem dL_law_1084 : decode cL_law 1084 = .ok (.iaload, 1) := dk_46 (dk_at dksL_law_37 2 rfl rfl)
theorem dL_law_1085 : decode cL_law 1085 = .ok (.aload_n 0, 1) := dk_42 (dk_at dksL_law_37 3 rfl rfl)
theorem dL_law_1086 : decode cL_law 1086 = .ok (.iload 4, 2) := dk_21 4 (dk_at dksL_law_37 4 rfl rfl)
theorem dL_law_1088 : decode cL_law 1088 = .ok (.iconst 3, 1) := dk_6 (dk_at dksL_law_37 6 rfl rfl)
theorem dL_law_1089 : decode cL_law 1089 = .ok (.iadd, 1) := dk_96 (dk_at dksL_law_37 7 rfl rfl)
theorem dL_law_1090 : decode cL_law 1090 = .ok (.iaload, 1) := dk_46 (dk_at dksL_law_37 8 rfl rfl)
theorem dL_law_1091 : decode cL_law 1091 = .ok (.invokevirtual 112, 3) := dk_182 0 112 (dk_at dksL_law_37 9 rfl rfl)
theorem dL_law_1094 : decode cL_law 1094 = .ok (.if_icmp .eq 1472, 3) := dk_159 5 192 (dk_at dksL_law_37 12 rfl rfl)
theorem dL_law_1097 : decode cL_law 1097 = .ok (.iconst 0, 1) := dk_3 (dk_at dksL_law_37 15 rfl rfl)
theorem dL_law_1098 : decode cL_law 1098 = .ok (.ireturn, 1) := dk_172 (dk_at dksL_law_37 16 rfl rfl)
theorem dL_law_1099 : decode cL_law 1099 = .ok (.aload_n 1, 1) := dk_43 (dk_at dksL_law_37 17 rfl rfl)
theorem dL_law_1100 : decode cL_law 1100 = .ok (.aload_n 0, 1) := dk_42 (dk_at dksL_law_37 18 rfl rfl)
theorem dL_law_1101 : decode cL_law 1101 = .ok (.iload 4, 2) := dk_21 4 (dk_at dksL_law_37 19 rfl rfl)
theorem dL_law_1103 : decode cL_law 1103 = .ok (.iconst 1, 1) := dk_4 (dk_at dksL_law_37 21 rfl rfl)
theorem dL_law_1104 : decode cL_law 1104 = .ok (.iadd, 1) := dk_96 (dk_at dksL_law_37 22 rfl rfl)
theorem dL_law_1105 : decode cL_law 1105 = .ok (.iaload, 1) := dk_46 (dk_at dksL_law_37 23 rfl rfl)
theorem dL_law_1106 : decode cL_law 1106 = .ok (.aload_n 0, 1) := dk_42 (dk_at dksL_law_38 0 rfl rfl)
theorem dL_law_1107 : decode cL_law 1107 = .ok (.iload 4, 2) := dk_21 4 (dk_at dksL_law_38 1 rfl rfl)
theorem dL_law_1109 : decode cL_law 1109 = .ok (.iconst 2, 1) := dk_5 (dk_at dksL_law_38 3 rfl rfl)
theorem dL_law_1110 : decode cL_law 1110 = .ok (.iadd, 1) := dk_96 (dk_at dksL_law_38 4 rfl rfl)
theorem dL_law_1111 : decode cL_law 1111 = .ok (.iaload, 1) := dk_46 (dk_at dksL_law_38 5 rfl rfl)
theorem dL_law_1112 : decode cL_law 1112 = .ok (.aload_n 0, 1) := dk_42 (dk_at dksL_law_38 6 rfl rfl)
theorem dL_law_1113 : decode cL_law 1113 = .ok (.iload 4, 2) := dk_21 4 (dk_at dksL_law_38 7 rfl rfl)
theorem dL_law_1115 : decode cL_law 1115 = .ok (.iconst 3, 1) := dk_6 (dk_at dksL_law_38 9 rfl rfl)
theorem dL_law_1116 : decode cL_law 1116 = .ok (.iadd, 1) := dk_96 (dk_at dksL_law_38 10 rfl rfl)
theorem dL_law_1117 : decode cL_law 1117 = .ok (.iaload, 1) := dk_46 (dk_at dksL_law_38 11 rfl rfl)
theorem dL_law_1118 : decode cL_law 1118 = .ok (.invokevirtual 113, 3) := dk_182 0 113 (dk_at dksL_law_38 12 rfl rfl)
theorem dL_law_1121 : decode cL_law 1121 = .ok (.aload_n 2, 1) := dk_44 (dk_at dksL_law_38 15 rfl rfl)
theorem dL_law_1122 : decode cL_law 1122 = .ok (.aload_n 0, 1) := dk_42 (dk_at dksL_law_38 16 rfl rfl)
theorem dL_law_1123 : decode cL_law 1123 = .ok (.iload 4, 2) := dk_21 4 (dk_at dksL_law_38 17 rfl rfl)
theorem dL_law_1125 : decode cL_law 1125 = .ok (.iconst 1, 1) := dk_4 (dk_at dksL_law_38 19 rfl rfl)
theorem dL_law_1126 : decode cL_law 1126 = .ok (.iadd, 1) := dk_96 (dk_at dksL_law_38 20 rfl rfl)
theorem dL_law_1127 : decode cL_law 1127 = .ok (.iaload, 1) := dk_46 (dk_at dksL_law_38 21 rfl rfl)
theorem dL_law_1128 : decode cL_law 1128 = .ok (.aload_n 0, 1) := dk_42 (dk_at dksL_law_38 22 rfl rfl)
theorem dL_law_1129 : decode cL_law 1129 = .ok (.iload 4, 2) := dk_21 4 (dk_at dksL_law_39 0 rfl rfl)
theorem dL_law_1131 : decode cL_law 1131 = .ok (.iconst 2, 1) := dk_5 (dk_at dksL_law_39 2 rfl rfl)
theorem dL_law_1132 : decode cL_law 1132 = .ok (.iadd, 1) := dk_96 (dk_at dksL_law_39 3 rfl rfl)
theorem dL_law_1133 : decode cL_law 1133 = .ok (.iaload, 1) := dk_46 (dk_at dksL_law_39 4 rfl rfl)
theorem dL_law_1134 : decode cL_law 1134 = .ok (.aload_n 0, 1) := dk_42 (dk_at dksL_law_39 5 rfl rfl)
theorem dL_law_1135 : decode cL_law 1135 = .ok (.iload 4, 2) := dk_21 4 (dk_at dksL_law_39 6 rfl rfl)
theorem dL_law_1137 : decode cL_law 1137 = .ok (.iconst 3, 1) := dk_6 (dk_at dksL_law_39 8 rfl rfl)
theorem dL_law_1138 : decode cL_law 1138 = .ok (.iadd, 1) := dk_96 (dk_at dksL_law_39 9 rfl rfl)
theorem dL_law_1139 : decode cL_law 1139 = .ok (.iaload, 1) := dk_46 (dk_at dksL_law_39 10 rfl rfl)
theorem dL_law_1140 : decode cL_law 1140 = .ok (.invokevirtual 116, 3) := dk_182 0 116 (dk_at dksL_law_39 11 rfl rfl)
theorem dL_law_1143 : decode cL_law 1143 = .ok (.if_icmp .eq 1423, 3) := dk_159 5 143 (dk_at dksL_law_39 14 rfl rfl)
theorem dL_law_1146 : decode cL_law 1146 = .ok (.iconst 0, 1) := dk_3 (dk_at dksL_law_39 17 rfl rfl)
theorem dL_law_1147 : decode cL_law 1147 = .ok (.ireturn, 1) := dk_172 (dk_at dksL_law_39 18 rfl rfl)
theorem dL_law_1148 : decode cL_law 1148 = .ok (.aload_n 1, 1) := dk_43 (dk_at dksL_law_39 19 rfl rfl)
theorem dL_law_1149 : decode cL_law 1149 = .ok (.aload_n 0, 1) := dk_42 (dk_at dksL_law_39 20 rfl rfl)
theorem dL_law_1150 : decode cL_law 1150 = .ok (.iload 4, 2) := dk_21 4 (dk_at dksL_law_39 21 rfl rfl)
theorem dL_law_1152 : decode cL_law 1152 = .ok (.iconst 1, 1) := dk_4 (dk_at dksL_law_39 23 rfl rfl)
theorem dL_law_1153 : decode cL_law 1153 = .ok (.iadd, 1) := dk_96 (dk_at dksL_law_40 0 rfl rfl)
theorem dL_law_1154 : decode cL_law 1154 = .ok (.iaload, 1) := dk_46 (dk_at dksL_law_40 1 rfl rfl)
theorem dL_law_1155 : decode cL_law 1155 = .ok (.aload_n 0, 1) := dk_42 (dk_at dksL_law_40 2 rfl rfl)
theorem dL_law_1156 : decode cL_law 1156 = .ok (.iload 4, 2) := dk_21 4 (dk_at dksL_law_40 3 rfl rfl)
theorem dL_law_1158 : decode cL_law 1158 = .ok (.iconst 2, 1) := dk_5 (dk_at dksL_law_40 5 rfl rfl)
theorem dL_law_1159 : decode cL_law 1159 = .ok (.iadd, 1) := dk_96 (dk_at dksL_law_40 6 rfl rfl)
theorem dL_law_1160 : decode cL_law 1160 = .ok (.iaload, 1) := dk_46 (dk_at dksL_law_40 7 rfl rfl)
theorem dL_law_1161 : decode cL_law 1161 = .ok (.invokevirtual 117, 3) := dk_182 0 117 (dk_at dksL_law_40 8 rfl rfl)
theorem dL_law_1164 : decode cL_law 1164 = .ok (.aload_n 2, 1) := dk_44 (dk_at dksL_law_40 11 rfl rfl)
theorem dL_law_1165 : decode cL_law 1165 = .ok (.aload_n 0, 1) := dk_42 (dk_at dksL_law_40 12 rfl rfl)
theorem dL_law_1166 : decode cL_law 1166 = .ok (.iload 4, 2) := dk_21 4 (dk_at dksL_law_40 13 rfl rfl)
theorem dL_law_1168 : decode cL_law 1168 = .ok (.iconst 1, 1) := dk_4 (dk_at dksL_law_40 15 rfl rfl)
theorem dL_law_1169 : decode cL_law 1169 = .ok (.iadd, 1) := dk_96 (dk_at dksL_law_40 16 rfl rfl)
theorem dL_law_1170 : decode cL_law 1170 = .ok (.iaload, 1) := dk_46 (dk_at dksL_law_40 17 rfl rfl)
theorem dL_law_1171 : decode cL_law 1171 = .ok (.aload_n 0, 1) := dk_42 (dk_at dksL_law_40 18 rfl rfl)
theorem dL_law_1172 : decode cL_law 1172 = .ok (.iload 4, 2) := dk_21 4 (dk_at dksL_law_40 19 rfl rfl)
theorem dL_law_1174 : decode cL_law 1174 = .ok (.iconst 2, 1) := dk_5 (dk_at dksL_law_40 21 rfl rfl)
theorem dL_law_1175 : decode cL_law 1175 = .ok (.iadd, 1) := dk_96 (dk_at dksL_law_40 22 rfl rfl)
theorem dL_law_1176 : decode cL_law 1176 = .ok (.iaload, 1) := dk_46 (dk_at dksL_law_40 23 rfl rfl)
theorem dL_law_1177 : decode cL_law 1177 = .ok (.invokevirtual 120, 3) := dk_182 0 120 (dk_at dksL_law_41 0 rfl rfl)
theorem dL_law_1180 : decode cL_law 1180 = .ok (.if_icmp .eq 1386, 3) := dk_159 5 106 (dk_at dksL_law_41 3 rfl rfl)
theorem dL_law_1183 : decode cL_law 1183 = .ok (.iconst 0, 1) := dk_3 (dk_at dksL_law_41 6 rfl rfl)
theorem dL_law_1184 : decode cL_law 1184 = .ok (.ireturn, 1) := dk_172 (dk_at dksL_law_41 7 rfl rfl)
theorem dL_law_1185 : decode cL_law 1185 = .ok (.aload_n 1, 1) := dk_43 (dk_at dksL_law_41 8 rfl rfl)
theorem dL_law_1186 : decode cL_law 1186 = .ok (.aload_n 0, 1) := dk_42 (dk_at dksL_law_41 9 rfl rfl)
theorem dL_law_1187 : decode cL_law 1187 = .ok (.iload 4, 2) := dk_21 4 (dk_at dksL_law_41 10 rfl rfl)
theorem dL_law_1189 : decode cL_law 1189 = .ok (.iconst 1, 1) := dk_4 (dk_at dksL_law_41 12 rfl rfl)
theorem dL_law_1190 : decode cL_law 1190 = .ok (.iadd, 1) := dk_96 (dk_at dksL_law_41 13 rfl rfl)
theorem dL_law_1191 : decode cL_law 1191 = .ok (.iaload, 1) := dk_46 (dk_at dksL_law_41 14 rfl rfl)
theorem dL_law_1192 : decode cL_law 1192 = .ok (.aload_n 0, 1) := dk_42 (dk_at dksL_law_41 15 rfl rfl)
theorem dL_law_1193 : decode cL_law 1193 = .ok (.iload 4, 2) := dk_21 4 (dk_at dksL_law_41 16 rfl rfl)
theorem dL_law_1195 : decode cL_law 1195 = .ok (.iconst 2, 1) := dk_5 (dk_at dksL_law_41 18 rfl rfl)
theorem dL_law_1196 : decode cL_law 1196 = .ok (.iadd, 1) := dk_96 (dk_at dksL_law_41 19 rfl rfl)
theorem dL_law_1197 : decode cL_law 1197 = .ok (.iaload, 1) := dk_46 (dk_at dksL_law_41 20 rfl rfl)
theorem dL_law_1198 : decode cL_law 1198 = .ok (.invokevirtual 121, 3) := dk_182 0 121 (dk_at dksL_law_41 21 rfl rfl)
theorem dL_law_1201 : decode cL_law 1201 = .ok (.aload_n 2, 1) := dk_44 (dk_at dksL_law_42 0 rfl rfl)
theorem dL_law_1202 : decode cL_law 1202 = .ok (.aload_n 0, 1) := dk_42 (dk_at dksL_law_42 1 rfl rfl)
theorem dL_law_1203 : decode cL_law 1203 = .ok (.iload 4, 2) := dk_21 4 (dk_at dksL_law_42 2 rfl rfl)
theorem dL_law_1205 : decode cL_law 1205 = .ok (.iconst 1, 1) := dk_4 (dk_at dksL_law_42 4 rfl rfl)
theorem dL_law_1206 : decode cL_law 1206 = .ok (.iadd, 1) := dk_96 (dk_at dksL_law_42 5 rfl rfl)
theorem dL_law_1207 : decode cL_law 1207 = .ok (.iaload, 1) := dk_46 (dk_at dksL_law_42 6 rfl rfl)
theorem dL_law_1208 : decode cL_law 1208 = .ok (.aload_n 0, 1) := dk_42 (dk_at dksL_law_42 7 rfl rfl)
theorem dL_law_1209 : decode cL_law 1209 = .ok (.iload 4, 2) := dk_21 4 (dk_at dksL_law_42 8 rfl rfl)
theorem dL_law_1211 : decode cL_law 1211 = .ok (.iconst 2, 1) := dk_5 (dk_at dksL_law_42 10 rfl rfl)
theorem dL_law_1212 : decode cL_law 1212 = .ok (.iadd, 1) := dk_96 (dk_at dksL_law_42 11 rfl rfl)
theorem dL_law_1213 : decode cL_law 1213 = .ok (.iaload, 1) := dk_46 (dk_at dksL_law_42 12 rfl rfl)
theorem dL_law_1214 : decode cL_law 1214 = .ok (.invokevirtual 124, 3) := dk_182 0 124 (dk_at dksL_law_42 13 rfl rfl)
theorem dL_law_1217 : decode cL_law 1217 = .ok (.if_icmp .eq 1349, 3) := dk_159 5 69 (dk_at dksL_law_42 16 rfl rfl)
theorem dL_law_1220 : decode cL_law 1220 = .ok (.iconst 0, 1) := dk_3 (dk_at dksL_law_42 19 rfl rfl)
theorem dL_law_1221 : decode cL_law 1221 = .ok (.ireturn, 1) := dk_172 (dk_at dksL_law_42 20 rfl rfl)
theorem dL_law_1222 : decode cL_law 1222 = .ok (.aload_n 1, 1) := dk_43 (dk_at dksL_law_42 21 rfl rfl)
theorem dL_law_1223 : decode cL_law 1223 = .ok (.aload_n 0, 1) := dk_42 (dk_at dksL_law_42 22 rfl rfl)
theorem dL_law_1224 : decode cL_law 1224 = .ok (.iload 4, 2) := dk_21 4 (dk_at dksL_law_43 0 rfl rfl)
theorem dL_law_1226 : decode cL_law 1226 = .ok (.iconst 1, 1) := dk_4 (dk_at dksL_law_43 2 rfl rfl)
theorem dL_law_1227 : decode cL_law 1227 = .ok (.iadd, 1) := dk_96 (dk_at dksL_law_43 3 rfl rfl)
theorem dL_law_1228 : decode cL_law 1228 = .ok (.iaload, 1) := dk_46 (dk_at dksL_law_43 4 rfl rfl)
theorem dL_law_1229 : decode cL_law 1229 = .ok (.aload_n 0, 1) := dk_42 (dk_at dksL_law_43 5 rfl rfl)
theorem dL_law_1230 : decode cL_law 1230 = .ok (.iload 4, 2) := dk_21 4 (dk_at dksL_law_43 6 rfl rfl)
theorem dL_law_1232 : decode cL_law 1232 = .ok (.iconst 2, 1) := dk_5 (dk_at dksL_law_43 8 rfl rfl)
theorem dL_law_1233 : decode cL_law 1233 = .ok (.iadd, 1) := dk_96 (dk_at dksL_law_43 9 rfl rfl)
theorem dL_law_1234 : decode cL_law 1234 = .ok (.iaload, 1) := dk_46 (dk_at dksL_law_43 10 rfl rfl)
theorem dL_law_1235 : decode cL_law 1235 = .ok (.aload_n 0, 1) := dk_42 (dk_at dksL_law_43 11 rfl rfl)
theorem dL_law_1236 : decode cL_law 1236 = .ok (.iload 4, 2) := dk_21 4 (dk_at dksL_law_43 12 rfl rfl)
theorem dL_law_1238 : decode cL_law 1238 = .ok (.iconst 3, 1) := dk_6 (dk_at dksL_law_43 14 rfl rfl)
theorem dL_law_1239 : decode cL_law 1239 = .ok (.iadd, 1) := dk_96 (dk_at dksL_law_43 15 rfl rfl)
theorem dL_law_1240 : decode cL_law 1240 = .ok (.iaload, 1) := dk_46 (dk_at dksL_law_43 16 rfl rfl)
theorem dL_law_1241 : decode cL_law 1241 = .ok (.invokevirtual 125, 3) := dk_182 0 125 (dk_at dksL_law_43 17 rfl rfl)
theorem dL_law_1244 : decode cL_law 1244 = .ok (.aload_n 2, 1) := dk_44 (dk_at dksL_law_43 20 rfl rfl)
theorem dL_law_1245 : decode cL_law 1245 = .ok (.aload_n 0, 1) := dk_42 (dk_at dksL_law_43 21 rfl rfl)
theorem dL_law_1246 : decode cL_law 1246 = .ok (.iload 4, 2) := dk_21 4 (dk_at dksL_law_43 22 rfl rfl)
theorem dL_law_1248 : decode cL_law 1248 = .ok (.iconst 1, 1) := dk_4 (dk_at dksL_law_44 0 rfl rfl)
theorem dL_law_1249 : decode cL_law 1249 = .ok (.iadd, 1) := dk_96 (dk_at dksL_law_44 1 rfl rfl)
theorem dL_law_1250 : decode cL_law 1250 = .ok (.iaload, 1) := dk_46 (dk_at dksL_law_44 2 rfl rfl)
theorem dL_law_1251 : decode cL_law 1251 = .ok (.aload_n 0, 1) := dk_42 (dk_at dksL_law_44 3 rfl rfl)
theorem dL_law_1252 : decode cL_law 1252 = .ok (.iload 4, 2) := dk_21 4 (dk_at dksL_law_44 4 rfl rfl)
theorem dL_law_1254 : decode cL_law 1254 = .ok (.iconst 2, 1) := dk_5 (dk_at dksL_law_44 6 rfl rfl)
theorem dL_law_1255 : decode cL_law 1255 = .ok (.iadd, 1) := dk_96 (dk_at dksL_law_44 7 rfl rfl)
theorem dL_law_1256 : decode cL_law 1256 = .ok (.iaload, 1) := dk_46 (dk_at dksL_law_44 8 rfl rfl)
theorem dL_law_1257 : decode cL_law 1257 = .ok (.aload_n 0, 1) := dk_42 (dk_at dksL_law_44 9 rfl rfl)
theorem dL_law_1258 : decode cL_law 1258 = .ok (.iload 4, 2) := dk_21 4 (dk_at dksL_law_44 10 rfl rfl)
theorem dL_law_1260 : decode cL_law 1260 = .ok (.iconst 3, 1) := dk_6 (dk_at dksL_law_44 12 rfl rfl)
theorem dL_law_1261 : decode cL_law 1261 = .ok (.iadd, 1) := dk_96 (dk_at dksL_law_44 13 rfl rfl)
theorem dL_law_1262 : decode cL_law 1262 = .ok (.iaload, 1) := dk_46 (dk_at dksL_law_44 14 rfl rfl)
theorem dL_law_1263 : decode cL_law 1263 = .ok (.invokevirtual 128, 3) := dk_182 0 128 (dk_at dksL_law_44 15 rfl rfl)
theorem dL_law_1266 : decode cL_law 1266 = .ok (.if_icmp .eq 1300, 3) := dk_159 5 20 (dk_at dksL_law_44 18 rfl rfl)
theorem dL_law_1269 : decode cL_law 1269 = .ok (.iconst 0, 1) := dk_3 (dk_at dksL_law_44 21 rfl rfl)
theorem dL_law_1270 : decode cL_law 1270 = .ok (.ireturn, 1) := dk_172 (dk_at dksL_law_44 22 rfl rfl)
theorem dL_law_1271 : decode cL_law 1271 = .ok (.aload_n 1, 1) := dk_43 (dk_at dksL_law_44 23 rfl rfl)
theorem dL_law_1272 : decode cL_law 1272 = .ok (.aload_n 0, 1) := dk_42 (dk_at dksL_law_45 0 rfl rfl)
theorem dL_law_1273 : decode cL_law 1273 = .ok (.iload 4, 2) := dk_21 4 (dk_at dksL_law_45 1 rfl rfl)
theorem dL_law_1275 : decode cL_law 1275 = .ok (.iconst 1, 1) := dk_4 (dk_at dksL_law_45 3 rfl rfl)
theorem dL_law_1276 : decode cL_law 1276 = .ok (.iadd, 1) := dk_96 (dk_at dksL_law_45 4 rfl rfl)
theorem dL_law_1277 : decode cL_law 1277 = .ok (.iaload, 1) := dk_46 (dk_at dksL_law_45 5 rfl rfl)
theorem dL_law_1278 : decode cL_law 1278 = .ok (.aload_n 0, 1) := dk_42 (dk_at dksL_law_45 6 rfl rfl)
theorem dL_law_1279 : decode cL_law 1279 = .ok (.iload 4, 2) := dk_21 4 (dk_at dksL_law_45 7 rfl rfl)
theorem dL_law_1281 : decode cL_law 1281 = .ok (.iconst 2, 1) := dk_5 (dk_at dksL_law_45 9 rfl rfl)
theorem dL_law_1282 : decode cL_law 1282 = .ok (.iadd, 1) := dk_96 (dk_at dksL_law_45 10 rfl rfl)
theorem dL_law_1283 : decode cL_law 1283 = .ok (.iaload, 1) := dk_46 (dk_at dksL_law_45 11 rfl rfl)
theorem dL_law_1284 : decode cL_law 1284 = .ok (.invokevirtual 129, 3) := dk_182 0 129 (dk_at dksL_law_45 12 rfl rfl)
theorem dL_law_1287 : decode cL_law 1287 = .ok (.aload_n 2, 1) := dk_44 (dk_at dksL_law_45 15 rfl rfl)
theorem dL_law_1288 : decode cL_law 1288 = .ok (.aload_n 0, 1) := dk_42 (dk_at dksL_law_45 16 rfl rfl)
theorem dL_law_1289 : decode cL_law 1289 = .ok (.iload 4, 2) := dk_21 4 (dk_at dksL_law_45 17 rfl rfl)
theorem dL_law_1291 : decode cL_law 1291 = .ok (.iconst 1, 1) := dk_4 (dk_at dksL_law_45 19 rfl rfl)
theorem dL_law_1292 : decode cL_law 1292 = .ok (.iadd, 1) := dk_96 (dk_at dksL_law_45 20 rfl rfl)
theorem dL_law_1293 : decode cL_law 1293 = .ok (.iaload, 1) := dk_46 (dk_at dksL_law_45 21 rfl rfl)
theorem dL_law_1294 : decode cL_law 1294 = .ok (.aload_n 0, 1) := dk_42 (dk_at dksL_law_45 22 rfl rfl)
theorem dL_law_1295 : decode cL_law 1295 = .ok (.iload 4, 2) := dk_21 4 (dk_at dksL_law_46 0 rfl rfl)
theorem dL_law_1297 : decode cL_law 1297 = .ok (.iconst 2, 1) := dk_5 (dk_at dksL_law_46 2 rfl rfl)
theorem dL_law_1298 : decode cL_law 1298 = .ok (.iadd, 1) := dk_96 (dk_at dksL_law_46 3 rfl rfl)
theorem dL_law_1299 : decode cL_law 1299 = .ok (.iaload, 1) := dk_46 (dk_at dksL_law_46 4 rfl rfl)
theorem dL_law_1300 : decode cL_law 1300 = .ok (.invokevirtual 132, 3) := dk_182 0 132 (dk_at dksL_law_46 5 rfl rfl)
theorem dL_law_1303 : decode cL_law 1303 = .ok (.if_icmp .eq 1263, 3) := dk_159 4 239 (dk_at dksL_law_46 8 rfl rfl)
theorem dL_law_1306 : decode cL_law 1306 = .ok (.iconst 0, 1) := dk_3 (dk_at dksL_law_46 11 rfl rfl)
theorem dL_law_1307 : decode cL_law 1307 = .ok (.ireturn, 1) := dk_172 (dk_at dksL_law_46 12 rfl rfl)
theorem dL_law_1308 : decode cL_law 1308 = .ok (.aload_n 1, 1) := dk_43 (dk_at dksL_law_46 13 rfl rfl)
theorem dL_law_1309 : decode cL_law 1309 = .ok (.aload_n 0, 1) := dk_42 (dk_at dksL_law_46 14 rfl rfl)
theorem dL_law_1310 : decode cL_law 1310 = .ok (.iload 4, 2) := dk_21 4 (dk_at dksL_law_46 15 rfl rfl)
theorem dL_law_1312 : decode cL_law 1312 = .ok (.iconst 1, 1) := dk_4 (dk_at dksL_law_46 17 rfl rfl)
theorem dL_law_1313 : decode cL_law 1313 = .ok (.iadd, 1) := dk_96 (dk_at dksL_law_46 18 rfl rfl)
theorem dL_law_1314 : decode cL_law 1314 = .ok (.iaload, 1) := dk_46 (dk_at dksL_law_46 19 rfl rfl)
theorem dL_law_1315 : decode cL_law 1315 = .ok (.aload_n 0, 1) := dk_42 (dk_at dksL_law_46 20 rfl rfl)
theorem dL_law_1316 : decode cL_law 1316 = .ok (.iload 4, 2) := dk_21 4 (dk_at dksL_law_46 21 rfl rfl)
theorem dL_law_1318 : decode cL_law 1318 = .ok (.iconst 2, 1) := dk_5 (dk_at dksL_law_46 23 rfl rfl)
theorem dL_law_1319 : decode cL_law 1319 = .ok (.iadd, 1) := dk_96 (dk_at dksL_law_47 0 rfl rfl)
theorem dL_law_1320 : decode cL_law 1320 = .ok (.iaload, 1) := dk_46 (dk_at dksL_law_47 1 rfl rfl)
theorem dL_law_1321 : decode cL_law 1321 = .ok (.aload_n 0, 1) := dk_42 (dk_at dksL_law_47 2 rfl rfl)
theorem dL_law_1322 : decode cL_law 1322 = .ok (.iload 4, 2) := dk_21 4 (dk_at dksL_law_47 3 rfl rfl)
theorem dL_law_1324 : decode cL_law 1324 = .ok (.iconst 3, 1) := dk_6 (dk_at dksL_law_47 5 rfl rfl)
theorem dL_law_1325 : decode cL_law 1325 = .ok (.iadd, 1) := dk_96 (dk_at dksL_law_47 6 rfl rfl)
theorem dL_law_1326 : decode cL_law 1326 = .ok (.iaload, 1) := dk_46 (dk_at dksL_law_47 7 rfl rfl)
theorem dL_law_1327 : decode cL_law 1327 = .ok (.invokevirtual 133, 3) := dk_182 0 133 (dk_at dksL_law_47 8 rfl rfl)
theorem dL_law_1330 : decode cL_law 1330 = .ok (.aload_n 2, 1) := dk_44 (dk_at dksL_law_47 11 rfl rfl)
theorem dL_law_1331 : decode cL_law 1331 = .ok (.aload_n 0, 1) := dk_42 (dk_at dksL_law_47 12 rfl rfl)
theorem dL_law_1332 : decode cL_law 1332 = .ok (.iload 4, 2) := dk_21 4 (dk_at dksL_law_47 13 rfl rfl)
theorem dL_law_1334 : decode cL_law 1334 = .ok (.iconst 1, 1) := dk_4 (dk_at dksL_law_47 15 rfl rfl)
theorem dL_law_1335 : decode cL_law 1335 = .ok (.iadd, 1) := dk_96 (dk_at dksL_law_47 16 rfl rfl)
theorem dL_law_1336 : decode cL_law 1336 = .ok (.iaload, 1) := dk_46 (dk_at dksL_law_47 17 rfl rfl)
theorem dL_law_1337 : decode cL_law 1337 = .ok (.aload_n 0, 1) := dk_42 (dk_at dksL_law_47 18 rfl rfl)
theorem dL_law_1338 : decode cL_law 1338 = .ok (.iload 4, 2) := dk_21 4 (dk_at dksL_law_47 19 rfl rfl)
theorem dL_law_1340 : decode cL_law 1340 = .ok (.iconst 2, 1) := dk_5 (dk_at dksL_law_47 21 rfl rfl)
theorem dL_law_1341 : decode cL_law 1341 = .ok (.iadd, 1) := dk_96 (dk_at dksL_law_47 22 rfl rfl)
theorem dL_law_1342 : decode cL_law 1342 = .ok (.iaload, 1) := dk_46 (dk_at dksL_law_47 23 rfl rfl)
theorem dL_law_1343 : decode cL_law 1343 = .ok (.aload_n 0, 1) := dk_42 (dk_at dksL_law_48 0 rfl rfl)
theorem dL_law_1344 : decode cL_law 1344 = .ok (.iload 4, 2) := dk_21 4 (dk_at dksL_law_48 1 rfl rfl)
theorem dL_law_1346 : decode cL_law 1346 = .ok (.iconst 3, 1) := dk_6 (dk_at dksL_law_48 3 rfl rfl)
theorem dL_law_1347 : decode cL_law 1347 = .ok (.iadd, 1) := dk_96 (dk_at dksL_law_48 4 rfl rfl)
theorem dL_law_1348 : decode cL_law 1348 = .ok (.iaload, 1) := dk_46 (dk_at dksL_law_48 5 rfl rfl)
theorem dL_law_1349 : decode cL_law 1349 = .ok (.invokevirtual 136, 3) := dk_182 0 136 (dk_at dksL_law_48 6 rfl rfl)
theorem dL_law_1352 : decode cL_law 1352 = .ok (.if_icmp .eq 1214, 3) := dk_159 4 190 (dk_at dksL_law_48 9 rfl rfl)
theorem dL_law_1355 : decode cL_law 1355 = .ok (.iconst 0, 1) := dk_3 (dk_at dksL_law_48 12 rfl rfl)
theorem dL_law_1356 : decode cL_law 1356 = .ok (.ireturn, 1) := dk_172 (dk_at dksL_law_48 13 rfl rfl)
theorem dL_law_1357 : decode cL_law 1357 = .ok (.aload_n 1, 1) := dk_43 (dk_at dksL_law_48 14 rfl rfl)
theorem dL_law_1358 : decode cL_law 1358 = .ok (.aload_n 0, 1) := dk_42 (dk_at dksL_law_48 15 rfl rfl)
theorem dL_law_1359 : decode cL_law 1359 = .ok (.iload 4, 2) := dk_21 4 (dk_at dksL_law_48 16 rfl rfl)
theorem dL_law_1361 : decode cL_law 1361 = .ok (.iconst 1, 1) := dk_4 (dk_at dksL_law_48 18 rfl rfl)
theorem dL_law_1362 : decode cL_law 1362 = .ok (.iadd, 1) := dk_96 (dk_at dksL_law_48 19 rfl rfl)
theorem dL_law_1363 : decode cL_law 1363 = .ok (.iaload, 1) := dk_46 (dk_at dksL_law_48 20 rfl rfl)
theorem dL_law_1364 : decode cL_law 1364 = .ok (.aload_n 0, 1) := dk_42 (dk_at dksL_law_48 21 rfl rfl)
theorem dL_law_1365 : decode cL_law 1365 = .ok (.iload 4, 2) := dk_21 4 (dk_at dksL_law_48 22 rfl rfl)
theorem dL_law_1367 : decode cL_law 1367 = .ok (.iconst 2, 1) := dk_5 (dk_at dksL_law_49 0 rfl rfl)
theorem dL_law_1368 : decode cL_law 1368 = .ok (.iadd, 1) := dk_96 (dk_at dksL_law_49 1 rfl rfl)
theorem dL_law_1369 : decode cL_law 1369 = .ok (.iaload, 1) := dk_46 (dk_at dksL_law_49 2 rfl rfl)
theorem dL_law_1370 : decode cL_law 1370 = .ok (.aload_n 0, 1) := dk_42 (dk_at dksL_law_49 3 rfl rfl)
theorem dL_law_1371 : decode cL_law 1371 = .ok (.iload 4, 2) := dk_21 4 (dk_at dksL_law_49 4 rfl rfl)
theorem dL_law_1373 : decode cL_law 1373 = .ok (.iconst 3, 1) := dk_6 (dk_at dksL_law_49 6 rfl rfl)
theorem dL_law_1374 : decode cL_law 1374 = .ok (.iadd, 1) := dk_96 (dk_at dksL_law_49 7 rfl rfl)
theorem dL_law_1375 : decode cL_law 1375 = .ok (.iaload, 1) := dk_46 (dk_at dksL_law_49 8 rfl rfl)
theorem dL_law_1376 : decode cL_law 1376 = .ok (.invokevirtual 137, 3) := dk_182 0 137 (dk_at dksL_law_49 9 rfl rfl)
theorem dL_law_1379 : decode cL_law 1379 = .ok (.aload_n 2, 1) := dk_44 (dk_at dksL_law_49 12 rfl rfl)
theorem dL_law_1380 : decode cL_law 1380 = .ok (.aload_n 0, 1) := dk_42 (dk_at dksL_law_49 13 rfl rfl)
theorem dL_law_1381 : decode cL_law 1381 = .ok (.iload 4, 2) := dk_21 4 (dk_at dksL_law_49 14 rfl rfl)
theorem dL_law_1383 : decode cL_law 1383 = .ok (.iconst 1, 1) := dk_4 (dk_at dksL_law_49 16 rfl rfl)
theorem dL_law_1384 : decode cL_law 1384 = .ok (.iadd, 1) := dk_96 (dk_at dksL_law_49 17 rfl rfl)
theorem dL_law_1385 : decode cL_law 1385 = .ok (.iaload, 1) := dk_46 (dk_at dksL_law_49 18 rfl rfl)
theorem dL_law_1386 : decode cL_law 1386 = .ok (.aload_n 0, 1) := dk_42 (dk_at dksL_law_49 19 rfl rfl)
theorem dL_law_1387 : decode cL_law 1387 = .ok (.iload 4, 2) := dk_21 4 (dk_at dksL_law_49 20 rfl rfl)
theorem dL_law_1389 : decode cL_law 1389 = .ok (.iconst 2, 1) := dk_5 (dk_at dksL_law_49 22 rfl rfl)
theorem dL_law_1390 : decode cL_law 1390 = .ok (.iadd, 1) := dk_96 (dk_at dksL_law_49 23 rfl rfl)
theorem dL_law_1391 : decode cL_law 1391 = .ok (.iaload, 1) := dk_46 (dk_at dksL_law_50 0 rfl rfl)
theorem dL_law_1392 : decode cL_law 1392 = .ok (.aload_n 0, 1) := dk_42 (dk_at dksL_law_50 1 rfl rfl)
theorem dL_law_1393 : decode cL_law 1393 = .ok (.iload 4, 2) := dk_21 4 (dk_at dksL_law_50 2 rfl rfl)
theorem dL_law_1395 : decode cL_law 1395 = .ok (.iconst 3, 1) := dk_6 (dk_at dksL_law_50 4 rfl rfl)
theorem dL_law_1396 : decode cL_law 1396 = .ok (.iadd, 1) := dk_96 (dk_at dksL_law_50 5 rfl rfl)
theorem dL_law_1397 : decode cL_law 1397 = .ok (.iaload, 1) := dk_46 (dk_at dksL_law_50 6 rfl rfl)
theorem dL_law_1398 : decode cL_law 1398 = .ok (.invokevirtual 140, 3) := dk_182 0 140 (dk_at dksL_law_50 7 rfl rfl)
theorem dL_law_1401 : decode cL_law 1401 = .ok (.if_icmp .eq 1165, 3) := dk_159 4 141 (dk_at dksL_law_50 10 rfl rfl)
theorem dL_law_1404 : decode cL_law 1404 = .ok (.iconst 0, 1) := dk_3 (dk_at dksL_law_50 13 rfl rfl)
theorem dL_law_1405 : decode cL_law 1405 = .ok (.ireturn, 1) := dk_172 (dk_at dksL_law_50 14 rfl rfl)
theorem dL_law_1406 : decode cL_law 1406 = .ok (.aload_n 1, 1) := dk_43 (dk_at dksL_law_50 15 rfl rfl)
theorem dL_law_1407 : decode cL_law 1407 = .ok (.aload_n 0, 1) := dk_42 (dk_at dksL_law_50 16 rfl rfl)
theorem dL_law_1408 : decode cL_law 1408 = .ok (.iload 4, 2) := dk_21 4 (dk_at dksL_law_50 17 rfl rfl)
theorem dL_law_1410 : decode cL_law 1410 = .ok (.iconst 1, 1) := dk_4 (dk_at dksL_law_50 19 rfl rfl)
theorem dL_law_1411 : decode cL_law 1411 = .ok (.iadd, 1) := dk_96 (dk_at dksL_law_50 20 rfl rfl)
theorem dL_law_1412 : decode cL_law 1412 = .ok (.iaload, 1) := dk_46 (dk_at dksL_law_50 21 rfl rfl)
theorem dL_law_1413 : decode cL_law 1413 = .ok (.aload_n 0, 1) := dk_42 (dk_at dksL_law_50 22 rfl rfl)
theorem dL_law_1414 : decode cL_law 1414 = .ok (.iload 4, 2) := dk_21 4 (dk_at dksL_law_51 0 rfl rfl)
theorem dL_law_1416 : decode cL_law 1416 = .ok (.iconst 2, 1) := dk_5 (dk_at dksL_law_51 2 rfl rfl)
theorem dL_law_1417 : decode cL_law 1417 = .ok (.iadd, 1) := dk_96 (dk_at dksL_law_51 3 rfl rfl)
theorem dL_law_1418 : decode cL_law 1418 = .ok (.iaload, 1) := dk_46 (dk_at dksL_law_51 4 rfl rfl)
theorem dL_law_1419 : decode cL_law 1419 = .ok (.aload_n 0, 1) := dk_42 (dk_at dksL_law_51 5 rfl rfl)
theorem dL_law_1420 : decode cL_law 1420 = .ok (.iload 4, 2) := dk_21 4 (dk_at dksL_law_51 6 rfl rfl)
theorem dL_law_1422 : decode cL_law 1422 = .ok (.iconst 3, 1) := dk_6 (dk_at dksL_law_51 8 rfl rfl)
theorem dL_law_1423 : decode cL_law 1423 = .ok (.iadd, 1) := dk_96 (dk_at dksL_law_51 9 rfl rfl)
theorem dL_law_1424 : decode cL_law 1424 = .ok (.iaload, 1) := dk_46 (dk_at dksL_law_51 10 rfl rfl)
theorem dL_law_1425 : decode cL_law 1425 = .ok (.invokevirtual 141, 3) := dk_182 0 141 (dk_at dksL_law_51 11 rfl rfl)
theorem dL_law_1428 : decode cL_law 1428 = .ok (.aload_n 2, 1) := dk_44 (dk_at dksL_law_51 14 rfl rfl)
theorem dL_law_1429 : decode cL_law 1429 = .ok (.aload_n 0, 1) := dk_42 (dk_at dksL_law_51 15 rfl rfl)
theorem dL_law_1430 : decode cL_law 1430 = .ok (.iload 4, 2) := dk_21 4 (dk_at dksL_law_51 16 rfl rfl)
theorem dL_law_1432 : decode cL_law 1432 = .ok (.iconst 1, 1) := dk_4 (dk_at dksL_law_51 18 rfl rfl)
theorem dL_law_1433 : decode cL_law 1433 = .ok (.iadd, 1) := dk_96 (dk_at dksL_law_51 19 rfl rfl)
theorem dL_law_1434 : decode cL_law 1434 = .ok (.iaload, 1) := dk_46 (dk_at dksL_law_51 20 rfl rfl)
theorem dL_law_1435 : decode cL_law 1435 = .ok (.aload_n 0, 1) := dk_42 (dk_at dksL_law_51 21 rfl rfl)
theorem dL_law_1436 : decode cL_law 1436 = .ok (.iload 4, 2) := dk_21 4 (dk_at dksL_law_51 22 rfl rfl)
theorem dL_law_1438 : decode cL_law 1438 = .ok (.iconst 2, 1) := dk_5 (dk_at dksL_law_52 0 rfl rfl)
theorem dL_law_1439 : decode cL_law 1439 = .ok (.iadd, 1) := dk_96 (dk_at dksL_law_52 1 rfl rfl)
theorem dL_law_1440 : decode cL_law 1440 = .ok (.iaload, 1) := dk_46 (dk_at dksL_law_52 2 rfl rfl)
theorem dL_law_1441 : decode cL_law 1441 = .ok (.aload_n 0, 1) := dk_42 (dk_at dksL_law_52 3 rfl rfl)
theorem dL_law_1442 : decode cL_law 1442 = .ok (.iload 4, 2) := dk_21 4 (dk_at dksL_law_52 4 rfl rfl)
theorem dL_law_1444 : decode cL_law 1444 = .ok (.iconst 3, 1) := dk_6 (dk_at dksL_law_52 6 rfl rfl)
theorem dL_law_1445 : decode cL_law 1445 = .ok (.iadd, 1) := dk_96 (dk_at dksL_law_52 7 rfl rfl)
theorem dL_law_1446 : decode cL_law 1446 = .ok (.iaload, 1) := dk_46 (dk_at dksL_law_52 8 rfl rfl)
theorem dL_law_1447 : decode cL_law 1447 = .ok (.invokevirtual 144, 3) := dk_182 0 144 (dk_at dksL_law_52 9 rfl rfl)
theorem dL_law_1450 : decode cL_law 1450 = .ok (.if_icmp .eq 1116, 3) := dk_159 4 92 (dk_at dksL_law_52 12 rfl rfl)
theorem dL_law_1453 : decode cL_law 1453 = .ok (.iconst 0, 1) := dk_3 (dk_at dksL_law_52 15 rfl rfl)
theorem dL_law_1454 : decode cL_law 1454 = .ok (.ireturn, 1) := dk_172 (dk_at dksL_law_52 16 rfl rfl)
theorem dL_law_1455 : decode cL_law 1455 = .ok (.aload_n 1, 1) := dk_43 (dk_at dksL_law_52 17 rfl rfl)
theorem dL_law_1456 : decode cL_law 1456 = .ok (.aload_n 0, 1) := dk_42 (dk_at dksL_law_52 18 rfl rfl)
theorem dL_law_1457 : decode cL_law 1457 = .ok (.iload 4, 2) := dk_21 4 (dk_at dksL_law_52 19 rfl rfl)
theorem dL_law_1459 : decode cL_law 1459 = .ok (.iconst 1, 1) := dk_4 (dk_at dksL_law_52 21 rfl rfl)
theorem dL_law_1460 : decode cL_law 1460 = .ok (.iadd, 1) := dk_96 (dk_at dksL_law_52 22 rfl rfl)
theorem dL_law_1461 : decode cL_law 1461 = .ok (.iaload, 1) := dk_46 (dk_at dksL_law_52 23 rfl rfl)
theorem dL_law_1462 : decode cL_law 1462 = .ok (.aload_n 0, 1) := dk_42 (dk_at dksL_law_53 0 rfl rfl)
theorem dL_law_1463 : decode cL_law 1463 = .ok (.iload 4, 2) := dk_21 4 (dk_at dksL_law_53 1 rfl rfl)
theorem dL_law_1465 : decode cL_law 1465 = .ok (.iconst 2, 1) := dk_5 (dk_at dksL_law_53 3 rfl rfl)
theorem dL_law_1466 : decode cL_law 1466 = .ok (.iadd, 1) := dk_96 (dk_at dksL_law_53 4 rfl rfl)
theorem dL_law_1467 : decode cL_law 1467 = .ok (.iaload, 1) := dk_46 (dk_at dksL_law_53 5 rfl rfl)
theorem dL_law_1468 : decode cL_law 1468 = .ok (.invokevirtual 145, 3) := dk_182 0 145 (dk_at dksL_law_53 6 rfl rfl)
theorem dL_law_1471 : decode cL_law 1471 = .ok (.aload_n 2, 1) := dk_44 (dk_at dksL_law_53 9 rfl rfl)
theorem dL_law_1472 : decode cL_law 1472 = .ok (.aload_n 0, 1) := dk_42 (dk_at dksL_law_53 10 rfl rfl)
theorem dL_law_1473 : decode cL_law 1473 = .ok (.iload 4, 2) := dk_21 4 (dk_at dksL_law_53 11 rfl rfl)
theorem dL_law_1475 : decode cL_law 1475 = .ok (.iconst 1, 1) := dk_4 (dk_at dksL_law_53 13 rfl rfl)
theorem dL_law_1476 : decode cL_law 1476 = .ok (.iadd, 1) := dk_96 (dk_at dksL_law_53 14 rfl rfl)
theorem dL_law_1477 : decode cL_law 1477 = .ok (.iaload, 1) := dk_46 (dk_at dksL_law_53 15 rfl rfl)
theorem dL_law_1478 : decode cL_law 1478 = .ok (.aload_n 0, 1) := dk_42 (dk_at dksL_law_53 16 rfl rfl)
theorem dL_law_1479 : decode cL_law 1479 = .ok (.iload 4, 2) := dk_21 4 (dk_at dksL_law_53 17 rfl rfl)
theorem dL_law_1481 : decode cL_law 1481 = .ok (.iconst 2, 1) := dk_5 (dk_at dksL_law_53 19 rfl rfl)
theorem dL_law_1482 : decode cL_law 1482 = .ok (.iadd, 1) := dk_96 (dk_at dksL_law_53 20 rfl rfl)
theorem dL_law_1483 : decode cL_law 1483 = .ok (.iaload, 1) := dk_46 (dk_at dksL_law_53 21 rfl rfl)
theorem dL_law_1484 : decode cL_law 1484 = .ok (.invokevirtual 148, 3) := dk_182 0 148 (dk_at dksL_law_54 0 rfl rfl)
theorem dL_law_1487 : decode cL_law 1487 = .ok (.if_icmp .eq 1079, 3) := dk_159 4 55 (dk_at dksL_law_54 3 rfl rfl)
theorem dL_law_1490 : decode cL_law 1490 = .ok (.iconst 0, 1) := dk_3 (dk_at dksL_law_54 6 rfl rfl)
theorem dL_law_1491 : decode cL_law 1491 = .ok (.ireturn, 1) := dk_172 (dk_at dksL_law_54 7 rfl rfl)
theorem dL_law_1492 : decode cL_law 1492 = .ok (.aload_n 1, 1) := dk_43 (dk_at dksL_law_54 8 rfl rfl)
theorem dL_law_1493 : decode cL_law 1493 = .ok (.aload_n 0, 1) := dk_42 (dk_at dksL_law_54 9 rfl rfl)
theorem dL_law_1494 : decode cL_law 1494 = .ok (.iload 4, 2) := dk_21 4 (dk_at dksL_law_54 10 rfl rfl)
theorem dL_law_1496 : decode cL_law 1496 = .ok (.iconst 1, 1) := dk_4 (dk_at dksL_law_54 12 rfl rfl)
theorem dL_law_1497 : decode cL_law 1497 = .ok (.iadd, 1) := dk_96 (dk_at dksL_law_54 13 rfl rfl)
theorem dL_law_1498 : decode cL_law 1498 = .ok (.iaload, 1) := dk_46 (dk_at dksL_law_54 14 rfl rfl)
theorem dL_law_1499 : decode cL_law 1499 = .ok (.aload_n 0, 1) := dk_42 (dk_at dksL_law_54 15 rfl rfl)
theorem dL_law_1500 : decode cL_law 1500 = .ok (.iload 4, 2) := dk_21 4 (dk_at dksL_law_54 16 rfl rfl)
theorem dL_law_1502 : decode cL_law 1502 = .ok (.iconst 2, 1) := dk_5 (dk_at dksL_law_54 18 rfl rfl)
theorem dL_law_1503 : decode cL_law 1503 = .ok (.iadd, 1) := dk_96 (dk_at dksL_law_54 19 rfl rfl)
theorem dL_law_1504 : decode cL_law 1504 = .ok (.iaload, 1) := dk_46 (dk_at dksL_law_54 20 rfl rfl)
theorem dL_law_1505 : decode cL_law 1505 = .ok (.invokevirtual 149, 3) := dk_182 0 149 (dk_at dksL_law_54 21 rfl rfl)
theorem dL_law_1508 : decode cL_law 1508 = .ok (.aload_n 2, 1) := dk_44 (dk_at dksL_law_55 0 rfl rfl)
theorem dL_law_1509 : decode cL_law 1509 = .ok (.aload_n 0, 1) := dk_42 (dk_at dksL_law_55 1 rfl rfl)
theorem dL_law_1510 : decode cL_law 1510 = .ok (.iload 4, 2) := dk_21 4 (dk_at dksL_law_55 2 rfl rfl)
theorem dL_law_1512 : decode cL_law 1512 = .ok (.iconst 1, 1) := dk_4 (dk_at dksL_law_55 4 rfl rfl)
theorem dL_law_1513 : decode cL_law 1513 = .ok (.iadd, 1) := dk_96 (dk_at dksL_law_55 5 rfl rfl)
theorem dL_law_1514 : decode cL_law 1514 = .ok (.iaload, 1) := dk_46 (dk_at dksL_law_55 6 rfl rfl)
theorem dL_law_1515 : decode cL_law 1515 = .ok (.aload_n 0, 1) := dk_42 (dk_at dksL_law_55 7 rfl rfl)
theorem dL_law_1516 : decode cL_law 1516 = .ok (.iload 4, 2) := dk_21 4 (dk_at dksL_law_55 8 rfl rfl)
theorem dL_law_1518 : decode cL_law 1518 = .ok (.iconst 2, 1) := dk_5 (dk_at dksL_law_55 10 rfl rfl)
theorem dL_law_1519 : decode cL_law 1519 = .ok (.iadd, 1) := dk_96 (dk_at dksL_law_55 11 rfl rfl)
theorem dL_law_1520 : decode cL_law 1520 = .ok (.iaload, 1) := dk_46 (dk_at dksL_law_55 12 rfl rfl)
theorem dL_law_1521 : decode cL_law 1521 = .ok (.invokevirtual 152, 3) := dk_182 0 152 (dk_at dksL_law_55 13 rfl rfl)
theorem dL_law_1524 : decode cL_law 1524 = .ok (.if_icmp .eq 1042, 3) := dk_159 4 18 (dk_at dksL_law_55 16 rfl rfl)
theorem dL_law_1527 : decode cL_law 1527 = .ok (.iconst 0, 1) := dk_3 (dk_at dksL_law_55 19 rfl rfl)
theorem dL_law_1528 : decode cL_law 1528 = .ok (.ireturn, 1) := dk_172 (dk_at dksL_law_55 20 rfl rfl)
theorem dL_law_1529 : decode cL_law 1529 = .ok (.aload_n 1, 1) := dk_43 (dk_at dksL_law_55 21 rfl rfl)
theorem dL_law_1530 : decode cL_law 1530 = .ok (.aload_n 0, 1) := dk_42 (dk_at dksL_law_55 22 rfl rfl)
theorem dL_law_1531 : decode cL_law 1531 = .ok (.iload 4, 2) := dk_21 4 (dk_at dksL_law_56 0 rfl rfl)
theorem dL_law_1533 : decode cL_law 1533 = .ok (.iconst 1, 1) := dk_4 (dk_at dksL_law_56 2 rfl rfl)
theorem dL_law_1534 : decode cL_law 1534 = .ok (.iadd, 1) := dk_96 (dk_at dksL_law_56 3 rfl rfl)
theorem dL_law_1535 : decode cL_law 1535 = .ok (.iaload, 1) := dk_46 (dk_at dksL_law_56 4 rfl rfl)
theorem dL_law_1536 : decode cL_law 1536 = .ok (.aload_n 0, 1) := dk_42 (dk_at dksL_law_56 5 rfl rfl)
theorem dL_law_1537 : decode cL_law 1537 = .ok (.iload 4, 2) := dk_21 4 (dk_at dksL_law_56 6 rfl rfl)
theorem dL_law_1539 : decode cL_law 1539 = .ok (.iconst 2, 1) := dk_5 (dk_at dksL_law_56 8 rfl rfl)
theorem dL_law_1540 : decode cL_law 1540 = .ok (.iadd, 1) := dk_96 (dk_at dksL_law_56 9 rfl rfl)
theorem dL_law_1541 : decode cL_law 1541 = .ok (.iaload, 1) := dk_46 (dk_at dksL_law_56 10 rfl rfl)
theorem dL_law_1542 : decode cL_law 1542 = .ok (.aload_n 0, 1) := dk_42 (dk_at dksL_law_56 11 rfl rfl)
theorem dL_law_1543 : decode cL_law 1543 = .ok (.iload 4, 2) := dk_21 4 (dk_at dksL_law_56 12 rfl rfl)
theorem dL_law_1545 : decode cL_law 1545 = .ok (.iconst 3, 1) := dk_6 (dk_at dksL_law_56 14 rfl rfl)
theorem dL_law_1546 : decode cL_law 1546 = .ok (.iadd, 1) := dk_96 (dk_at dksL_law_56 15 rfl rfl)
theorem dL_law_1547 : decode cL_law 1547 = .ok (.iaload, 1) := dk_46 (dk_at dksL_law_56 16 rfl rfl)
theorem dL_law_1548 : decode cL_law 1548 = .ok (.invokevirtual 153, 3) := dk_182 0 153 (dk_at dksL_law_56 17 rfl rfl)
theorem dL_law_1551 : decode cL_law 1551 = .ok (.aload_n 2, 1) := dk_44 (dk_at dksL_law_56 20 rfl rfl)
theorem dL_law_1552 : decode cL_law 1552 = .ok (.aload_n 0, 1) := dk_42 (dk_at dksL_law_56 21 rfl rfl)
theorem dL_law_1553 : decode cL_law 1553 = .ok (.iload 4, 2) := dk_21 4 (dk_at dksL_law_56 22 rfl rfl)
theorem dL_law_1555 : decode cL_law 1555 = .ok (.iconst 1, 1) := dk_4 (dk_at dksL_law_57 0 rfl rfl)
theorem dL_law_1556 : decode cL_law 1556 = .ok (.iadd, 1) := dk_96 (dk_at dksL_law_57 1 rfl rfl)
theorem dL_law_1557 : decode cL_law 1557 = .ok (.iaload, 1) := dk_46 (dk_at dksL_law_57 2 rfl rfl)
theorem dL_law_1558 : decode cL_law 1558 = .ok (.aload_n 0, 1) := dk_42 (dk_at dksL_law_57 3 rfl rfl)
theorem dL_law_1559 : decode cL_law 1559 = .ok (.iload 4, 2) := dk_21 4 (dk_at dksL_law_57 4 rfl rfl)
theorem dL_law_1561 : decode cL_law 1561 = .ok (.iconst 2, 1) := dk_5 (dk_at dksL_law_57 6 rfl rfl)
theorem dL_law_1562 : decode cL_law 1562 = .ok (.iadd, 1) := dk_96 (dk_at dksL_law_57 7 rfl rfl)
theorem dL_law_1563 : decode cL_law 1563 = .ok (.iaload, 1) := dk_46 (dk_at dksL_law_57 8 rfl rfl)
theorem dL_law_1564 : decode cL_law 1564 = .ok (.aload_n 0, 1) := dk_42 (dk_at dksL_law_57 9 rfl rfl)
theorem dL_law_1565 : decode cL_law 1565 = .ok (.iload 4, 2) := dk_21 4 (dk_at dksL_law_57 10 rfl rfl)
theorem dL_law_1567 : decode cL_law 1567 = .ok (.iconst 3, 1) := dk_6 (dk_at dksL_law_57 12 rfl rfl)
theorem dL_law_1568 : decode cL_law 1568 = .ok (.iadd, 1) := dk_96 (dk_at dksL_law_57 13 rfl rfl)
theorem dL_law_1569 : decode cL_law 1569 = .ok (.iaload, 1) := dk_46 (dk_at dksL_law_57 14 rfl rfl)
theorem dL_law_1570 : decode cL_law 1570 = .ok (.invokevirtual 156, 3) := dk_182 0 156 (dk_at dksL_law_57 15 rfl rfl)
theorem dL_law_1573 : decode cL_law 1573 = .ok (.if_icmp .eq 993, 3) := dk_159 3 225 (dk_at dksL_law_57 18 rfl rfl)
theorem dL_law_1576 : decode cL_law 1576 = .ok (.iconst 0, 1) := dk_3 (dk_at dksL_law_57 21 rfl rfl)
theorem dL_law_1577 : decode cL_law 1577 = .ok (.ireturn, 1) := dk_172 (dk_at dksL_law_57 22 rfl rfl)
theorem dL_law_1578 : decode cL_law 1578 = .ok (.aload_n 1, 1) := dk_43 (dk_at dksL_law_57 23 rfl rfl)
theorem dL_law_1579 : decode cL_law 1579 = .ok (.aload_n 0, 1) := dk_42 (dk_at dksL_law_58 0 rfl rfl)
theorem dL_law_1580 : decode cL_law 1580 = .ok (.iload 4, 2) := dk_21 4 (dk_at dksL_law_58 1 rfl rfl)
theorem dL_law_1582 : decode cL_law 1582 = .ok (.iconst 1, 1) := dk_4 (dk_at dksL_law_58 3 rfl rfl)
theorem dL_law_1583 : decode cL_law 1583 = .ok (.iadd, 1) := dk_96 (dk_at dksL_law_58 4 rfl rfl)
theorem dL_law_1584 : decode cL_law 1584 = .ok (.iaload, 1) := dk_46 (dk_at dksL_law_58 5 rfl rfl)
theorem dL_law_1585 : decode cL_law 1585 = .ok (.aload_n 0, 1) := dk_42 (dk_at dksL_law_58 6 rfl rfl)
theorem dL_law_1586 : decode cL_law 1586 = .ok (.iload 4, 2) := dk_21 4 (dk_at dksL_law_58 7 rfl rfl)
theorem dL_law_1588 : decode cL_law 1588 = .ok (.iconst 2, 1) := dk_5 (dk_at dksL_law_58 9 rfl rfl)
theorem dL_law_1589 : decode cL_law 1589 = .ok (.iadd, 1) := dk_96 (dk_at dksL_law_58 10 rfl rfl)
theorem dL_law_1590 : decode cL_law 1590 = .ok (.iaload, 1) := dk_46 (dk_at dksL_law_58 11 rfl rfl)
theorem dL_law_1591 : decode cL_law 1591 = .ok (.aload_n 0, 1) := dk_42 (dk_at dksL_law_58 12 rfl rfl)
theorem dL_law_1592 : decode cL_law 1592 = .ok (.iload 4, 2) := dk_21 4 (dk_at dksL_law_58 13 rfl rfl)
theorem dL_law_1594 : decode cL_law 1594 = .ok (.iconst 3, 1) := dk_6 (dk_at dksL_law_58 15 rfl rfl)
theorem dL_law_1595 : decode cL_law 1595 = .ok (.iadd, 1) := dk_96 (dk_at dksL_law_58 16 rfl rfl)
theorem dL_law_1596 : decode cL_law 1596 = .ok (.iaload, 1) := dk_46 (dk_at dksL_law_58 17 rfl rfl)
theorem dL_law_1597 : decode cL_law 1597 = .ok (.invokevirtual 157, 3) := dk_182 0 157 (dk_at dksL_law_58 18 rfl rfl)
theorem dL_law_1600 : decode cL_law 1600 = .ok (.aload_n 2, 1) := dk_44 (dk_at dksL_law_58 21 rfl rfl)
theorem dL_law_1601 : decode cL_law 1601 = .ok (.aload_n 0, 1) := dk_42 (dk_at dksL_law_58 22 rfl rfl)
theorem dL_law_1602 : decode cL_law 1602 = .ok (.iload 4, 2) := dk_21 4 (dk_at dksL_law_59 0 rfl rfl)
theorem dL_law_1604 : decode cL_law 1604 = .ok (.iconst 1, 1) := dk_4 (dk_at dksL_law_59 2 rfl rfl)
theorem dL_law_1605 : decode cL_law 1605 = .ok (.iadd, 1) := dk_96 (dk_at dksL_law_59 3 rfl rfl)
theorem dL_law_1606 : decode cL_law 1606 = .ok (.iaload, 1) := dk_46 (dk_at dksL_law_59 4 rfl rfl)
theorem dL_law_1607 : decode cL_law 1607 = .ok (.aload_n 0, 1) := dk_42 (dk_at dksL_law_59 5 rfl rfl)
theorem dL_law_1608 : decode cL_law 1608 = .ok (.iload 4, 2) := dk_21 4 (dk_at dksL_law_59 6 rfl rfl)
theorem dL_law_1610 : decode cL_law 1610 = .ok (.iconst 2, 1) := dk_5 (dk_at dksL_law_59 8 rfl rfl)
theorem dL_law_1611 : decode cL_law 1611 = .ok (.iadd, 1) := dk_96 (dk_at dksL_law_59 9 rfl rfl)
theorem dL_law_1612 : decode cL_law 1612 = .ok (.iaload, 1) := dk_46 (dk_at dksL_law_59 10 rfl rfl)
theorem dL_law_1613 : decode cL_law 1613 = .ok (.aload_n 0, 1) := dk_42 (dk_at dksL_law_59 11 rfl rfl)
theorem dL_law_1614 : decode cL_law 1614 = .ok (.iload 4, 2) := dk_21 4 (dk_at dksL_law_59 12 rfl rfl)
theorem dL_law_1616 : decode cL_law 1616 = .ok (.iconst 3, 1) := dk_6 (dk_at dksL_law_59 14 rfl rfl)
theorem dL_law_1617 : decode cL_law 1617 = .ok (.iadd, 1) := dk_96 (dk_at dksL_law_59 15 rfl rfl)
theorem dL_law_1618 : decode cL_law 1618 = .ok (.iaload, 1) := dk_46 (dk_at dksL_law_59 16 rfl rfl)
theorem dL_law_1619 : decode cL_law 1619 = .ok (.invokevirtual 160, 3) := dk_182 0 160 (dk_at dksL_law_59 17 rfl rfl)
theorem dL_law_1622 : decode cL_law 1622 = .ok (.if_icmp .eq 944, 3) := dk_159 3 176 (dk_at dksL_law_59 20 rfl rfl)
theorem dL_law_1625 : decode cL_law 1625 = .ok (.iconst 0, 1) := dk_3 (dk_at dksL_law_59 23 rfl rfl)
theorem dL_law_1626 : decode cL_law 1626 = .ok (.ireturn, 1) := dk_172 (dk_at dksL_law_60 0 rfl rfl)
theorem dL_law_1627 : decode cL_law 1627 = .ok (.aload_n 1, 1) := dk_43 (dk_at dksL_law_60 1 rfl rfl)
theorem dL_law_1628 : decode cL_law 1628 = .ok (.aload_n 0, 1) := dk_42 (dk_at dksL_law_60 2 rfl rfl)
theorem dL_law_1629 : decode cL_law 1629 = .ok (.iload 4, 2) := dk_21 4 (dk_at dksL_law_60 3 rfl rfl)
theorem dL_law_1631 : decode cL_law 1631 = .ok (.iconst 1, 1) := dk_4 (dk_at dksL_law_60 5 rfl rfl)
theorem dL_law_1632 : decode cL_law 1632 = .ok (.iadd, 1) := dk_96 (dk_at dksL_law_60 6 rfl rfl)
theorem dL_law_1633 : decode cL_law 1633 = .ok (.iaload, 1) := dk_46 (dk_at dksL_law_60 7 rfl rfl)
theorem dL_law_1634 : decode cL_law 1634 = .ok (.aload_n 0, 1) := dk_42 (dk_at dksL_law_60 8 rfl rfl)
theorem dL_law_1635 : decode cL_law 1635 = .ok (.iload 4, 2) := dk_21 4 (dk_at dksL_law_60 9 rfl rfl)
theorem dL_law_1637 : decode cL_law 1637 = .ok (.iconst 2, 1) := dk_5 (dk_at dksL_law_60 11 rfl rfl)
theorem dL_law_1638 : decode cL_law 1638 = .ok (.iadd, 1) := dk_96 (dk_at dksL_law_60 12 rfl rfl)
theorem dL_law_1639 : decode cL_law 1639 = .ok (.iaload, 1) := dk_46 (dk_at dksL_law_60 13 rfl rfl)
theorem dL_law_1640 : decode cL_law 1640 = .ok (.invokevirtual 161, 3) := dk_182 0 161 (dk_at dksL_law_60 14 rfl rfl)
theorem dL_law_1643 : decode cL_law 1643 = .ok (.aload_n 2, 1) := dk_44 (dk_at dksL_law_60 17 rfl rfl)
theorem dL_law_1644 : decode cL_law 1644 = .ok (.aload_n 0, 1) := dk_42 (dk_at dksL_law_60 18 rfl rfl)
theorem dL_law_1645 : decode cL_law 1645 = .ok (.iload 4, 2) := dk_21 4 (dk_at dksL_law_60 19 rfl rfl)
theorem dL_law_1647 : decode cL_law 1647 = .ok (.iconst 1, 1) := dk_4 (dk_at dksL_law_60 21 rfl rfl)
theorem dL_law_1648 : decode cL_law 1648 = .ok (.iadd, 1) := dk_96 (dk_at dksL_law_60 22 rfl rfl)
theorem dL_law_1649 : decode cL_law 1649 = .ok (.iaload, 1) := dk_46 (dk_at dksL_law_60 23 rfl rfl)
theorem dL_law_1650 : decode cL_law 1650 = .ok (.aload_n 0, 1) := dk_42 (dk_at dksL_law_61 0 rfl rfl)
theorem dL_law_1651 : decode cL_law 1651 = .ok (.iload 4, 2) := dk_21 4 (dk_at dksL_law_61 1 rfl rfl)
theorem dL_law_1653 : decode cL_law 1653 = .ok (.iconst 2, 1) := dk_5 (dk_at dksL_law_61 3 rfl rfl)
theorem dL_law_1654 : decode cL_law 1654 = .ok (.iadd, 1) := dk_96 (dk_at dksL_law_61 4 rfl rfl)
theorem dL_law_1655 : decode cL_law 1655 = .ok (.iaload, 1) := dk_46 (dk_at dksL_law_61 5 rfl rfl)
theorem dL_law_1656 : decode cL_law 1656 = .ok (.invokevirtual 164, 3) := dk_182 0 164 (dk_at dksL_law_61 6 rfl rfl)
theorem dL_law_1659 : decode cL_law 1659 = .ok (.if_icmp .eq 907, 3) := dk_159 3 139 (dk_at dksL_law_61 9 rfl rfl)
theorem dL_law_1662 : decode cL_law 1662 = .ok (.iconst 0, 1) := dk_3 (dk_at dksL_law_61 12 rfl rfl)
theorem dL_law_1663 : decode cL_law 1663 = .ok (.ireturn, 1) := dk_172 (dk_at dksL_law_61 13 rfl rfl)
theorem dL_law_1664 : decode cL_law 1664 = .ok (.aload_n 1, 1) := dk_43 (dk_at dksL_law_61 14 rfl rfl)
theorem dL_law_1665 : decode cL_law 1665 = .ok (.aload_n 0, 1) := dk_42 (dk_at dksL_law_61 15 rfl rfl)
theorem dL_law_1666 : decode cL_law 1666 = .ok (.iload 4, 2) := dk_21 4 (dk_at dksL_law_61 16 rfl rfl)
theorem dL_law_1668 : decode cL_law 1668 = .ok (.iconst 1, 1) := dk_4 (dk_at dksL_law_61 18 rfl rfl)
theorem dL_law_1669 : decode cL_law 1669 = .ok (.iadd, 1) := dk_96 (dk_at dksL_law_61 19 rfl rfl)
theorem dL_law_1670 : decode cL_law 1670 = .ok (.iaload, 1) := dk_46 (dk_at dksL_law_61 20 rfl rfl)
theorem dL_law_1671 : decode cL_law 1671 = .ok (.aload_n 0, 1) := dk_42 (dk_at dksL_law_61 21 rfl rfl)
theorem dL_law_1672 : decode cL_law 1672 = .ok (.iload 4, 2) := dk_21 4 (dk_at dksL_law_61 22 rfl rfl)
theorem dL_law_1674 : decode cL_law 1674 = .ok (.iconst 2, 1) := dk_5 (dk_at dksL_law_62 0 rfl rfl)
theorem dL_law_1675 : decode cL_law 1675 = .ok (.iadd, 1) := dk_96 (dk_at dksL_law_62 1 rfl rfl)
theorem dL_law_1676 : decode cL_law 1676 = .ok (.iaload, 1) := dk_46 (dk_at dksL_law_62 2 rfl rfl)
theorem dL_law_1677 : decode cL_law 1677 = .ok (.invokevirtual 165, 3) := dk_182 0 165 (dk_at dksL_law_62 3 rfl rfl)
theorem dL_law_1680 : decode cL_law 1680 = .ok (.aload_n 2, 1) := dk_44 (dk_at dksL_law_62 6 rfl rfl)
theorem dL_law_1681 : decode cL_law 1681 = .ok (.aload_n 0, 1) := dk_42 (dk_at dksL_law_62 7 rfl rfl)
theorem dL_law_1682 : decode cL_law 1682 = .ok (.iload 4, 2) := dk_21 4 (dk_at dksL_law_62 8 rfl rfl)
theorem dL_law_1684 : decode cL_law 1684 = .ok (.iconst 1, 1) := dk_4 (dk_at dksL_law_62 10 rfl rfl)
theorem dL_law_1685 : decode cL_law 1685 = .ok (.iadd, 1) := dk_96 (dk_at dksL_law_62 11 rfl rfl)
theorem dL_law_1686 : decode cL_law 1686 = .ok (.iaload, 1) := dk_46 (dk_at dksL_law_62 12 rfl rfl)
theorem dL_law_1687 : decode cL_law 1687 = .ok (.aload_n 0, 1) := dk_42 (dk_at dksL_law_62 13 rfl rfl)
theorem dL_law_1688 : decode cL_law 1688 = .ok (.iload 4, 2) := dk_21 4 (dk_at dksL_law_62 14 rfl rfl)
theorem dL_law_1690 : decode cL_law 1690 = .ok (.iconst 2, 1) := dk_5 (dk_at dksL_law_62 16 rfl rfl)
theorem dL_law_1691 : decode cL_law 1691 = .ok (.iadd, 1) := dk_96 (dk_at dksL_law_62 17 rfl rfl)
theorem dL_law_1692 : decode cL_law 1692 = .ok (.iaload, 1) := dk_46 (dk_at dksL_law_62 18 rfl rfl)
theorem dL_law_1693 : decode cL_law 1693 = .ok (.invokevirtual 168, 3) := dk_182 0 168 (dk_at dksL_law_62 19 rfl rfl)
theorem dL_law_1696 : decode cL_law 1696 = .ok (.if_icmp .eq 870, 3) := dk_159 3 102 (dk_at dksL_law_63 0 rfl rfl)
theorem dL_law_1699 : decode cL_law 1699 = .ok (.iconst 0, 1) := dk_3 (dk_at dksL_law_63 3 rfl rfl)
theorem dL_law_1700 : decode cL_law 1700 = .ok (.ireturn, 1) := dk_172 (dk_at dksL_law_63 4 rfl rfl)
theorem dL_law_1701 : decode cL_law 1701 = .ok (.aload_n 1, 1) := dk_43 (dk_at dksL_law_63 5 rfl rfl)
theorem dL_law_1702 : decode cL_law 1702 = .ok (.aload_n 0, 1) := dk_42 (dk_at dksL_law_63 6 rfl rfl)
theorem dL_law_1703 : decode cL_law 1703 = .ok (.iload 4, 2) := dk_21 4 (dk_at dksL_law_63 7 rfl rfl)
theorem dL_law_1705 : decode cL_law 1705 = .ok (.iconst 1, 1) := dk_4 (dk_at dksL_law_63 9 rfl rfl)
theorem dL_law_1706 : decode cL_law 1706 = .ok (.iadd, 1) := dk_96 (dk_at dksL_law_63 10 rfl rfl)
theorem dL_law_1707 : decode cL_law 1707 = .ok (.iaload, 1) := dk_46 (dk_at dksL_law_63 11 rfl rfl)
theorem dL_law_1708 : decode cL_law 1708 = .ok (.invokevirtual 169, 3) := dk_182 0 169 (dk_at dksL_law_63 12 rfl rfl)
theorem dL_law_1711 : decode cL_law 1711 = .ok (.aload_n 2, 1) := dk_44 (dk_at dksL_law_63 15 rfl rfl)
theorem dL_law_1712 : decode cL_law 1712 = .ok (.aload_n 0, 1) := dk_42 (dk_at dksL_law_63 16 rfl rfl)
theorem dL_law_1713 : decode cL_law 1713 = .ok (.iload 4, 2) := dk_21 4 (dk_at dksL_law_63 17 rfl rfl)
theorem dL_law_1715 : decode cL_law 1715 = .ok (.iconst 1, 1) := dk_4 (dk_at dksL_law_63 19 rfl rfl)
theorem dL_law_1716 : decode cL_law 1716 = .ok (.iadd, 1) := dk_96 (dk_at dksL_law_63 20 rfl rfl)
theorem dL_law_1717 : decode cL_law 1717 = .ok (.iaload, 1) := dk_46 (dk_at dksL_law_63 21 rfl rfl)
theorem dL_law_1718 : decode cL_law 1718 = .ok (.invokevirtual 172, 3) := dk_182 0 172 (dk_at dksL_law_64 0 rfl rfl)
theorem dL_law_1721 : decode cL_law 1721 = .ok (.if_icmp .eq 845, 3) := dk_159 3 77 (dk_at dksL_law_64 3 rfl rfl)
theorem dL_law_1724 : decode cL_law 1724 = .ok (.iconst 0, 1) := dk_3 (dk_at dksL_law_64 6 rfl rfl)
theorem dL_law_1725 : decode cL_law 1725 = .ok (.ireturn, 1) := dk_172 (dk_at dksL_law_64 7 rfl rfl)
theorem dL_law_1726 : decode cL_law 1726 = .ok (.aload_n 1, 1) := dk_43 (dk_at dksL_law_64 8 rfl rfl)
theorem dL_law_1727 : decode cL_law 1727 = .ok (.aload_n 0, 1) := dk_42 (dk_at dksL_law_64 9 rfl rfl)
theorem dL_law_1728 : decode cL_law 1728 = .ok (.iload 4, 2) := dk_21 4 (dk_at dksL_law_64 10 rfl rfl)
theorem dL_law_1730 : decode cL_law 1730 = .ok (.iconst 1, 1) := dk_4 (dk_at dksL_law_64 12 rfl rfl)
theorem dL_law_1731 : decode cL_law 1731 = .ok (.iadd, 1) := dk_96 (dk_at dksL_law_64 13 rfl rfl)
theorem dL_law_1732 : decode cL_law 1732 = .ok (.iaload, 1) := dk_46 (dk_at dksL_law_64 14 rfl rfl)
theorem dL_law_1733 : decode cL_law 1733 = .ok (.aload_n 0, 1) := dk_42 (dk_at dksL_law_64 15 rfl rfl)
theorem dL_law_1734 : decode cL_law 1734 = .ok (.iload 4, 2) := dk_21 4 (dk_at dksL_law_64 16 rfl rfl)
theorem dL_law_1736 : decode cL_law 1736 = .ok (.iconst 2, 1) := dk_5 (dk_at dksL_law_64 18 rfl rfl)
theorem dL_law_1737 : decode cL_law 1737 = .ok (.iadd, 1) := dk_96 (dk_at dksL_law_64 19 rfl rfl)
theorem dL_law_1738 : decode cL_law 1738 = .ok (.iaload, 1) := dk_46 (dk_at dksL_law_64 20 rfl rfl)
theorem dL_law_1739 : decode cL_law 1739 = .ok (.invokevirtual 173, 3) := dk_182 0 173 (dk_at dksL_law_64 21 rfl rfl)
theorem dL_law_1742 : decode cL_law 1742 = .ok (.aload_n 2, 1) := dk_44 (dk_at dksL_law_65 0 rfl rfl)
theorem dL_law_1743 : decode cL_law 1743 = .ok (.aload_n 0, 1) := dk_42 (dk_at dksL_law_65 1 rfl rfl)
theorem dL_law_1744 : decode cL_law 1744 = .ok (.iload 4, 2) := dk_21 4 (dk_at dksL_law_65 2 rfl rfl)
theorem dL_law_1746 : decode cL_law 1746 = .ok (.iconst 1, 1) := dk_4 (dk_at dksL_law_65 4 rfl rfl)
theorem dL_law_1747 : decode cL_law 1747 = .ok (.iadd, 1) := dk_96 (dk_at dksL_law_65 5 rfl rfl)
theorem dL_law_1748 : decode cL_law 1748 = .ok (.iaload, 1) := dk_46 (dk_at dksL_law_65 6 rfl rfl)
theorem dL_law_1749 : decode cL_law 1749 = .ok (.aload_n 0, 1) := dk_42 (dk_at dksL_law_65 7 rfl rfl)
theorem dL_law_1750 : decode cL_law 1750 = .ok (.iload 4, 2) := dk_21 4 (dk_at dksL_law_65 8 rfl rfl)
theorem dL_law_1752 : decode cL_law 1752 = .ok (.iconst 2, 1) := dk_5 (dk_at dksL_law_65 10 rfl rfl)
theorem dL_law_1753 : decode cL_law 1753 = .ok (.iadd, 1) := dk_96 (dk_at dksL_law_65 11 rfl rfl)
theorem dL_law_1754 : decode cL_law 1754 = .ok (.iaload, 1) := dk_46 (dk_at dksL_law_65 12 rfl rfl)
theorem dL_law_1755 : decode cL_law 1755 = .ok (.invokevirtual 176, 3) := dk_182 0 176 (dk_at dksL_law_65 13 rfl rfl)
theorem dL_law_1758 : decode cL_law 1758 = .ok (.if_icmp .eq 808, 3) := dk_159 3 40 (dk_at dksL_law_65 16 rfl rfl)
theorem dL_law_1761 : decode cL_law 1761 = .ok (.iconst 0, 1) := dk_3 (dk_at dksL_law_65 19 rfl rfl)
theorem dL_law_1762 : decode cL_law 1762 = .ok (.ireturn, 1) := dk_172 (dk_at dksL_law_65 20 rfl rfl)
theorem dL_law_1763 : decode cL_law 1763 = .ok (.aload_n 1, 1) := dk_43 (dk_at dksL_law_65 21 rfl rfl)
theorem dL_law_1764 : decode cL_law 1764 = .ok (.aload_n 0, 1) := dk_42 (dk_at dksL_law_65 22 rfl rfl)
theorem dL_law_1765 : decode cL_law 1765 = .ok (.iload 4, 2) := dk_21 4 (dk_at dksL_law_66 0 rfl rfl)
theorem dL_law_1767 : decode cL_law 1767 = .ok (.iconst 1, 1) := dk_4 (dk_at dksL_law_66 2 rfl rfl)
theorem dL_law_1768 : decode cL_law 1768 = .ok (.iadd, 1) := dk_96 (dk_at dksL_law_66 3 rfl rfl)
theorem dL_law_1769 : decode cL_law 1769 = .ok (.iaload, 1) := dk_46 (dk_at dksL_law_66 4 rfl rfl)
theorem dL_law_1770 : decode cL_law 1770 = .ok (.aload_n 0, 1) := dk_42 (dk_at dksL_law_66 5 rfl rfl)
theorem dL_law_1771 : decode cL_law 1771 = .ok (.iload 4, 2) := dk_21 4 (dk_at dksL_law_66 6 rfl rfl)
theorem dL_law_1773 : decode cL_law 1773 = .ok (.iconst 2, 1) := dk_5 (dk_at dksL_law_66 8 rfl rfl)
theorem dL_law_1774 : decode cL_law 1774 = .ok (.iadd, 1) := dk_96 (dk_at dksL_law_66 9 rfl rfl)
theorem dL_law_1775 : decode cL_law 1775 = .ok (.iaload, 1) := dk_46 (dk_at dksL_law_66 10 rfl rfl)
theorem dL_law_1776 : decode cL_law 1776 = .ok (.invokevirtual 177, 3) := dk_182 0 177 (dk_at dksL_law_66 11 rfl rfl)
theorem dL_law_1779 : decode cL_law 1779 = .ok (.aload_n 2, 1) := dk_44 (dk_at dksL_law_66 14 rfl rfl)
theorem dL_law_1780 : decode cL_law 1780 = .ok (.aload_n 0, 1) := dk_42 (dk_at dksL_law_66 15 rfl rfl)
theorem dL_law_1781 : decode cL_law 1781 = .ok (.iload 4, 2) := dk_21 4 (dk_at dksL_law_66 16 rfl rfl)
theorem dL_law_1783 : decode cL_law 1783 = .ok (.iconst 1, 1) := dk_4 (dk_at dksL_law_66 18 rfl rfl)
theorem dL_law_1784 : decode cL_law 1784 = .ok (.iadd, 1) := dk_96 (dk_at dksL_law_66 19 rfl rfl)
theorem dL_law_1785 : decode cL_law 1785 = .ok (.iaload, 1) := dk_46 (dk_at dksL_law_66 20 rfl rfl)
theorem dL_law_1786 : decode cL_law 1786 = .ok (.aload_n 0, 1) := dk_42 (dk_at dksL_law_66 21 rfl rfl)
theorem dL_law_1787 : decode cL_law 1787 = .ok (.iload 4, 2) := dk_21 4 (dk_at dksL_law_66 22 rfl rfl)
theorem dL_law_1789 : decode cL_law 1789 = .ok (.iconst 2, 1) := dk_5 (dk_at dksL_law_67 0 rfl rfl)
theorem dL_law_1790 : decode cL_law 1790 = .ok (.iadd, 1) := dk_96 (dk_at dksL_law_67 1 rfl rfl)
theorem dL_law_1791 : decode cL_law 1791 = .ok (.iaload, 1) := dk_46 (dk_at dksL_law_67 2 rfl rfl)
theorem dL_law_1792 : decode cL_law 1792 = .ok (.invokevirtual 180, 3) := dk_182 0 180 (dk_at dksL_law_67 3 rfl rfl)
theorem dL_law_1795 : decode cL_law 1795 = .ok (.if_icmp .eq 771, 3) := dk_159 3 3 (dk_at dksL_law_67 6 rfl rfl)
theorem dL_law_1798 : decode cL_law 1798 = .ok (.iconst 0, 1) := dk_3 (dk_at dksL_law_67 9 rfl rfl)
theorem dL_law_1799 : decode cL_law 1799 = .ok (.ireturn, 1) := dk_172 (dk_at dksL_law_67 10 rfl rfl)
theorem dL_law_1800 : decode cL_law 1800 = .ok (.aload_n 1, 1) := dk_43 (dk_at dksL_law_67 11 rfl rfl)
theorem dL_law_1801 : decode cL_law 1801 = .ok (.aload_n 0, 1) := dk_42 (dk_at dksL_law_67 12 rfl rfl)
theorem dL_law_1802 : decode cL_law 1802 = .ok (.iload 4, 2) := dk_21 4 (dk_at dksL_law_67 13 rfl rfl)
theorem dL_law_1804 : decode cL_law 1804 = .ok (.iconst 1, 1) := dk_4 (dk_at dksL_law_67 15 rfl rfl)
theorem dL_law_1805 : decode cL_law 1805 = .ok (.iadd, 1) := dk_96 (dk_at dksL_law_67 16 rfl rfl)
theorem dL_law_1806 : decode cL_law 1806 = .ok (.iaload, 1) := dk_46 (dk_at dksL_law_67 17 rfl rfl)
theorem dL_law_1807 : decode cL_law 1807 = .ok (.aload_n 0, 1) := dk_42 (dk_at dksL_law_67 18 rfl rfl)
theorem dL_law_1808 : decode cL_law 1808 = .ok (.iload 4, 2) := dk_21 4 (dk_at dksL_law_67 19 rfl rfl)
theorem dL_law_1810 : decode cL_law 1810 = .ok (.iconst 2, 1) := dk_5 (dk_at dksL_law_67 21 rfl rfl)
theorem dL_law_1811 : decode cL_law 1811 = .ok (.iadd, 1) := dk_96 (dk_at dksL_law_67 22 rfl rfl)
theorem dL_law_1812 : decode cL_law 1812 = .ok (.iaload, 1) := dk_46 (dk_at dksL_law_67 23 rfl rfl)
theorem dL_law_1813 : decode cL_law 1813 = .ok (.aload_n 0, 1) := dk_42 (dk_at dksL_law_68 0 rfl rfl)
theorem dL_law_1814 : decode cL_law 1814 = .ok (.iload 4, 2) := dk_21 4 (dk_at dksL_law_68 1 rfl rfl)
theorem dL_law_1816 : decode cL_law 1816 = .ok (.iconst 3, 1) := dk_6 (dk_at dksL_law_68 3 rfl rfl)
theorem dL_law_1817 : decode cL_law 1817 = .ok (.iadd, 1) := dk_96 (dk_at dksL_law_68 4 rfl rfl)
theorem dL_law_1818 : decode cL_law 1818 = .ok (.iaload, 1) := dk_46 (dk_at dksL_law_68 5 rfl rfl)
theorem dL_law_1819 : decode cL_law 1819 = .ok (.invokevirtual 181, 3) := dk_182 0 181 (dk_at dksL_law_68 6 rfl rfl)
theorem dL_law_1822 : decode cL_law 1822 = .ok (.aload_n 2, 1) := dk_44 (dk_at dksL_law_68 9 rfl rfl)
theorem dL_law_1823 : decode cL_law 1823 = .ok (.aload_n 0, 1) := dk_42 (dk_at dksL_law_68 10 rfl rfl)
theorem dL_law_1824 : decode cL_law 1824 = .ok (.iload 4, 2) := dk_21 4 (dk_at dksL_law_68 11 rfl rfl)
theorem dL_law_1826 : decode cL_law 1826 = .ok (.iconst 1, 1) := dk_4 (dk_at dksL_law_68 13 rfl rfl)
theorem dL_law_1827 : decode cL_law 1827 = .ok (.iadd, 1) := dk_96 (dk_at dksL_law_68 14 rfl rfl)
theorem dL_law_1828 : decode cL_law 1828 = .ok (.iaload, 1) := dk_46 (dk_at dksL_law_68 15 rfl rfl)
theorem dL_law_1829 : decode cL_law 1829 = .ok (.aload_n 0, 1) := dk_42 (dk_at dksL_law_68 16 rfl rfl)
theorem dL_law_1830 : decode cL_law 1830 = .ok (.iload 4, 2) := dk_21 4 (dk_at dksL_law_68 17 rfl rfl)
theorem dL_law_1832 : decode cL_law 1832 = .ok (.iconst 2, 1) := dk_5 (dk_at dksL_law_68 19 rfl rfl)
theorem dL_law_1833 : decode cL_law 1833 = .ok (.iadd, 1) := dk_96 (dk_at dksL_law_68 20 rfl rfl)
theorem dL_law_1834 : decode cL_law 1834 = .ok (.iaload, 1) := dk_46 (dk_at dksL_law_68 21 rfl rfl)
theorem dL_law_1835 : decode cL_law 1835 = .ok (.aload_n 0, 1) := dk_42 (dk_at dksL_law_68 22 rfl rfl)
theorem dL_law_1836 : decode cL_law 1836 = .ok (.iload 4, 2) := dk_21 4 (dk_at dksL_law_69 0 rfl rfl)
theorem dL_law_1838 : decode cL_law 1838 = .ok (.iconst 3, 1) := dk_6 (dk_at dksL_law_69 2 rfl rfl)
theorem dL_law_1839 : decode cL_law 1839 = .ok (.iadd, 1) := dk_96 (dk_at dksL_law_69 3 rfl rfl)
theorem dL_law_1840 : decode cL_law 1840 = .ok (.iaload, 1) := dk_46 (dk_at dksL_law_69 4 rfl rfl)
theorem dL_law_1841 : decode cL_law 1841 = .ok (.invokevirtual 184, 3) := dk_182 0 184 (dk_at dksL_law_69 5 rfl rfl)
theorem dL_law_1844 : decode cL_law 1844 = .ok (.if_icmp .eq 722, 3) := dk_159 2 210 (dk_at dksL_law_69 8 rfl rfl)
theorem dL_law_1847 : decode cL_law 1847 = .ok (.iconst 0, 1) := dk_3 (dk_at dksL_law_69 11 rfl rfl)
theorem dL_law_1848 : decode cL_law 1848 = .ok (.ireturn, 1) := dk_172 (dk_at dksL_law_69 12 rfl rfl)
theorem dL_law_1849 : decode cL_law 1849 = .ok (.aload_n 1, 1) := dk_43 (dk_at dksL_law_69 13 rfl rfl)
theorem dL_law_1850 : decode cL_law 1850 = .ok (.aload_n 0, 1) := dk_42 (dk_at dksL_law_69 14 rfl rfl)
theorem dL_law_1851 : decode cL_law 1851 = .ok (.iload 4, 2) := dk_21 4 (dk_at dksL_law_69 15 rfl rfl)
theorem dL_law_1853 : decode cL_law 1853 = .ok (.iconst 1, 1) := dk_4 (dk_at dksL_law_69 17 rfl rfl)
theorem dL_law_1854 : decode cL_law 1854 = .ok (.iadd, 1) := dk_96 (dk_at dksL_law_69 18 rfl rfl)
theorem dL_law_1855 : decode cL_law 1855 = .ok (.iaload, 1) := dk_46 (dk_at dksL_law_69 19 rfl rfl)
theorem dL_law_1856 : decode cL_law 1856 = .ok (.aload_n 0, 1) := dk_42 (dk_at dksL_law_69 20 rfl rfl)
theorem dL_law_1857 : decode cL_law 1857 = .ok (.iload 4, 2) := dk_21 4 (dk_at dksL_law_69 21 rfl rfl)
theorem dL_law_1859 : decode cL_law 1859 = .ok (.iconst 2, 1) := dk_5 (dk_at dksL_law_69 23 rfl rfl)
theorem dL_law_1860 : decode cL_law 1860 = .ok (.iadd, 1) := dk_96 (dk_at dksL_law_70 0 rfl rfl)
theorem dL_law_1861 : decode cL_law 1861 = .ok (.iaload, 1) := dk_46 (dk_at dksL_law_70 1 rfl rfl)
theorem dL_law_1862 : decode cL_law 1862 = .ok (.aload_n 0, 1) := dk_42 (dk_at dksL_law_70 2 rfl rfl)
theorem dL_law_1863 : decode cL_law 1863 = .ok (.iload 4, 2) := dk_21 4 (dk_at dksL_law_70 3 rfl rfl)
theorem dL_law_1865 : decode cL_law 1865 = .ok (.iconst 3, 1) := dk_6 (dk_at dksL_law_70 5 rfl rfl)
theorem dL_law_1866 : decode cL_law 1866 = .ok (.iadd, 1) := dk_96 (dk_at dksL_law_70 6 rfl rfl)
theorem dL_law_1867 : decode cL_law 1867 = .ok (.iaload, 1) := dk_46 (dk_at dksL_law_70 7 rfl rfl)
theorem dL_law_1868 : decode cL_law 1868 = .ok (.aload_n 0, 1) := dk_42 (dk_at dksL_law_70 8 rfl rfl)
theorem dL_law_1869 : decode cL_law 1869 = .ok (.iload 4, 2) := dk_21 4 (dk_at dksL_law_70 9 rfl rfl)
theorem dL_law_1871 : decode cL_law 1871 = .ok (.iconst 4, 1) := dk_7 (dk_at dksL_law_70 11 rfl rfl)
theorem dL_law_1872 : decode cL_law 1872 = .ok (.iadd, 1) := dk_96 (dk_at dksL_law_70 12 rfl rfl)
theorem dL_law_1873 : decode cL_law 1873 = .ok (.iaload, 1) := dk_46 (dk_at dksL_law_70 13 rfl rfl)
theorem dL_law_1874 : decode cL_law 1874 = .ok (.invokevirtual 185, 3) := dk_182 0 185 (dk_at dksL_law_70 14 rfl rfl)
theorem dL_law_1877 : decode cL_law 1877 = .ok (.aload_n 2, 1) := dk_44 (dk_at dksL_law_70 17 rfl rfl)
theorem dL_law_1878 : decode cL_law 1878 = .ok (.aload_n 0, 1) := dk_42 (dk_at dksL_law_70 18 rfl rfl)
theorem dL_law_1879 : decode cL_law 1879 = .ok (.iload 4, 2) := dk_21 4 (dk_at dksL_law_70 19 rfl rfl)
theorem dL_law_1881 : decode cL_law 1881 = .ok (.iconst 1, 1) := dk_4 (dk_at dksL_law_70 21 rfl rfl)
theorem dL_law_1882 : decode cL_law 1882 = .ok (.iadd, 1) := dk_96 (dk_at dksL_law_70 22 rfl rfl)
theorem dL_law_1883 : decode cL_law 1883 = .ok (.iaload, 1) := dk_46 (dk_at dksL_law_70 23 rfl rfl)
theorem dL_law_1884 : decode cL_law 1884 = .ok (.aload_n 0, 1) := dk_42 (dk_at dksL_law_71 0 rfl rfl)
theorem dL_law_1885 : decode cL_law 1885 = .ok (.iload 4, 2) := dk_21 4 (dk_at dksL_law_71 1 rfl rfl)
theorem dL_law_1887 : decode cL_law 1887 = .ok (.iconst 2, 1) := dk_5 (dk_at dksL_law_71 3 rfl rfl)
theorem dL_law_1888 : decode cL_law 1888 = .ok (.iadd, 1) := dk_96 (dk_at dksL_law_71 4 rfl rfl)
theorem dL_law_1889 : decode cL_law 1889 = .ok (.iaload, 1) := dk_46 (dk_at dksL_law_71 5 rfl rfl)
theorem dL_law_1890 : decode cL_law 1890 = .ok (.aload_n 0, 1) := dk_42 (dk_at dksL_law_71 6 rfl rfl)
theorem dL_law_1891 : decode cL_law 1891 = .ok (.iload 4, 2) := dk_21 4 (dk_at dksL_law_71 7 rfl rfl)
theorem dL_law_1893 : decode cL_law 1893 = .ok (.iconst 3, 1) := dk_6 (dk_at dksL_law_71 9 rfl rfl)
theorem dL_law_1894 : decode cL_law 1894 = .ok (.iadd, 1) := dk_96 (dk_at dksL_law_71 10 rfl rfl)
theorem dL_law_1895 : decode cL_law 1895 = .ok (.iaload, 1) := dk_46 (dk_at dksL_law_71 11 rfl rfl)
theorem dL_law_1896 : decode cL_law 1896 = .ok (.aload_n 0, 1) := dk_42 (dk_at dksL_law_71 12 rfl rfl)
theorem dL_law_1897 : decode cL_law 1897 = .ok (.iload 4, 2) := dk_21 4 (dk_at dksL_law_71 13 rfl rfl)
theorem dL_law_1899 : decode cL_law 1899 = .ok (.iconst 4, 1) := dk_7 (dk_at dksL_law_71 15 rfl rfl)
theorem dL_law_1900 : decode cL_law 1900 = .ok (.iadd, 1) := dk_96 (dk_at dksL_law_71 16 rfl rfl)
theorem dL_law_1901 : decode cL_law 1901 = .ok (.iaload, 1) := dk_46 (dk_at dksL_law_71 17 rfl rfl)
theorem dL_law_1902 : decode cL_law 1902 = .ok (.invokevirtual 188, 3) := dk_182 0 188 (dk_at dksL_law_71 18 rfl rfl)
theorem dL_law_1905 : decode cL_law 1905 = .ok (.if_icmp .eq 661, 3) := dk_159 2 149 (dk_at dksL_law_71 21 rfl rfl)
theorem dL_law_1908 : decode cL_law 1908 = .ok (.iconst 0, 1) := dk_3 (dk_at dksL_law_72 0 rfl rfl)
theorem dL_law_1909 : decode cL_law 1909 = .ok (.ireturn, 1) := dk_172 (dk_at dksL_law_72 1 rfl rfl)
theorem dL_law_1910 : decode cL_law 1910 = .ok (.aload_n 1, 1) := dk_43 (dk_at dksL_law_72 2 rfl rfl)
theorem dL_law_1911 : decode cL_law 1911 = .ok (.aload_n 0, 1) := dk_42 (dk_at dksL_law_72 3 rfl rfl)
theorem dL_law_1912 : decode cL_law 1912 = .ok (.iload 4, 2) := dk_21 4 (dk_at dksL_law_72 4 rfl rfl)
theorem dL_law_1914 : decode cL_law 1914 = .ok (.iconst 1, 1) := dk_4 (dk_at dksL_law_72 6 rfl rfl)
theorem dL_law_1915 : decode cL_law 1915 = .ok (.iadd, 1) := dk_96 (dk_at dksL_law_72 7 rfl rfl)
theorem dL_law_1916 : decode cL_law 1916 = .ok (.iaload, 1) := dk_46 (dk_at dksL_law_72 8 rfl rfl)
theorem dL_law_1917 : decode cL_law 1917 = .ok (.aload_n 0, 1) := dk_42 (dk_at dksL_law_72 9 rfl rfl)
theorem dL_law_1918 : decode cL_law 1918 = .ok (.iload 4, 2) := dk_21 4 (dk_at dksL_law_72 10 rfl rfl)
theorem dL_law_1920 : decode cL_law 1920 = .ok (.iconst 2, 1) := dk_5 (dk_at dksL_law_72 12 rfl rfl)
theorem dL_law_1921 : decode cL_law 1921 = .ok (.iadd, 1) := dk_96 (dk_at dksL_law_72 13 rfl rfl)
theorem dL_law_1922 : decode cL_law 1922 = .ok (.iaload, 1) := dk_46 (dk_at dksL_law_72 14 rfl rfl)
theorem dL_law_1923 : decode cL_law 1923 = .ok (.aload_n 0, 1) := dk_42 (dk_at dksL_law_72 15 rfl rfl)
theorem dL_law_1924 : decode cL_law 1924 = .ok (.iload 4, 2) := dk_21 4 (dk_at dksL_law_72 16 rfl rfl)
theorem dL_law_1926 : decode cL_law 1926 = .ok (.iconst 3, 1) := dk_6 (dk_at dksL_law_72 18 rfl rfl)
theorem dL_law_1927 : decode cL_law 1927 = .ok (.iadd, 1) := dk_96 (dk_at dksL_law_72 19 rfl rfl)
theorem dL_law_1928 : decode cL_law 1928 = .ok (.iaload, 1) := dk_46 (dk_at dksL_law_72 20 rfl rfl)
theorem dL_law_1929 : decode cL_law 1929 = .ok (.invokevirtual 189, 3) := dk_182 0 189 (dk_at dksL_law_72 21 rfl rfl)
theorem dL_law_1932 : decode cL_law 1932 = .ok (.aload_n 2, 1) := dk_44 (dk_at dksL_law_73 0 rfl rfl)
theorem dL_law_1933 : decode cL_law 1933 = .ok (.aload_n 0, 1) := dk_42 (dk_at dksL_law_73 1 rfl rfl)
theorem dL_law_1934 : decode cL_law 1934 = .ok (.iload 4, 2) := dk_21 4 (dk_at dksL_law_73 2 rfl rfl)
theorem dL_law_1936 : decode cL_law 1936 = .ok (.iconst 1, 1) := dk_4 (dk_at dksL_law_73 4 rfl rfl)
theorem dL_law_1937 : decode cL_law 1937 = .ok (.iadd, 1) := dk_96 (dk_at dksL_law_73 5 rfl rfl)
theorem dL_law_1938 : decode cL_law 1938 = .ok (.iaload, 1) := dk_46 (dk_at dksL_law_73 6 rfl rfl)
theorem dL_law_1939 : decode cL_law 1939 = .ok (.aload_n 0, 1) := dk_42 (dk_at dksL_law_73 7 rfl rfl)
theorem dL_law_1940 : decode cL_law 1940 = .ok (.iload 4, 2) := dk_21 4 (dk_at dksL_law_73 8 rfl rfl)
theorem dL_law_1942 : decode cL_law 1942 = .ok (.iconst 2, 1) := dk_5 (dk_at dksL_law_73 10 rfl rfl)
theorem dL_law_1943 : decode cL_law 1943 = .ok (.iadd, 1) := dk_96 (dk_at dksL_law_73 11 rfl rfl)
theorem dL_law_1944 : decode cL_law 1944 = .ok (.iaload, 1) := dk_46 (dk_at dksL_law_73 12 rfl rfl)
theorem dL_law_1945 : decode cL_law 1945 = .ok (.aload_n 0, 1) := dk_42 (dk_at dksL_law_73 13 rfl rfl)
theorem dL_law_1946 : decode cL_law 1946 = .ok (.iload 4, 2) := dk_21 4 (dk_at dksL_law_73 14 rfl rfl)
theorem dL_law_1948 : decode cL_law 1948 = .ok (.iconst 3, 1) := dk_6 (dk_at dksL_law_73 16 rfl rfl)
theorem dL_law_1949 : decode cL_law 1949 = .ok (.iadd, 1) := dk_96 (dk_at dksL_law_73 17 rfl rfl)
theorem dL_law_1950 : decode cL_law 1950 = .ok (.iaload, 1) := dk_46 (dk_at dksL_law_73 18 rfl rfl)
theorem dL_law_1951 : decode cL_law 1951 = .ok (.invokevirtual 192, 3) := dk_182 0 192 (dk_at dksL_law_73 19 rfl rfl)
theorem dL_law_1954 : decode cL_law 1954 = .ok (.if_icmp .eq 612, 3) := dk_159 2 100 (dk_at dksL_law_74 0 rfl rfl)
theorem dL_law_1957 : decode cL_law 1957 = .ok (.iconst 0, 1) := dk_3 (dk_at dksL_law_74 3 rfl rfl)
theorem dL_law_1958 : decode cL_law 1958 = .ok (.ireturn, 1) := dk_172 (dk_at dksL_law_74 4 rfl rfl)
theorem dL_law_1959 : decode cL_law 1959 = .ok (.aload_n 1, 1) := dk_43 (dk_at dksL_law_74 5 rfl rfl)
theorem dL_law_1960 : decode cL_law 1960 = .ok (.aload_n 0, 1) := dk_42 (dk_at dksL_law_74 6 rfl rfl)
theorem dL_law_1961 : decode cL_law 1961 = .ok (.iload 4, 2) := dk_21 4 (dk_at dksL_law_74 7 rfl rfl)
theorem dL_law_1963 : decode cL_law 1963 = .ok (.iconst 1, 1) := dk_4 (dk_at dksL_law_74 9 rfl rfl)
theorem dL_law_1964 : decode cL_law 1964 = .ok (.iadd, 1) := dk_96 (dk_at dksL_law_74 10 rfl rfl)
theorem dL_law_1965 : decode cL_law 1965 = .ok (.iaload, 1) := dk_46 (dk_at dksL_law_74 11 rfl rfl)
theorem dL_law_1966 : decode cL_law 1966 = .ok (.aload_n 0, 1) := dk_42 (dk_at dksL_law_74 12 rfl rfl)
theorem dL_law_1967 : decode cL_law 1967 = .ok (.iload 4, 2) := dk_21 4 (dk_at dksL_law_74 13 rfl rfl)
theorem dL_law_1969 : decode cL_law 1969 = .ok (.iconst 2, 1) := dk_5 (dk_at dksL_law_74 15 rfl rfl)
theorem dL_law_1970 : decode cL_law 1970 = .ok (.iadd, 1) := dk_96 (dk_at dksL_law_74 16 rfl rfl)
theorem dL_law_1971 : decode cL_law 1971 = .ok (.iaload, 1) := dk_46 (dk_at dksL_law_74 17 rfl rfl)
theorem dL_law_1972 : decode cL_law 1972 = .ok (.aload_n 0, 1) := dk_42 (dk_at dksL_law_74 18 rfl rfl)
theorem dL_law_1973 : decode cL_law 1973 = .ok (.iload 4, 2) := dk_21 4 (dk_at dksL_law_74 19 rfl rfl)
theorem dL_law_1975 : decode cL_law 1975 = .ok (.iconst 3, 1) := dk_6 (dk_at dksL_law_74 21 rfl rfl)
theorem dL_law_1976 : decode cL_law 1976 = .ok (.iadd, 1) := dk_96 (dk_at dksL_law_74 22 rfl rfl)
theorem dL_law_1977 : decode cL_law 1977 = .ok (.iaload, 1) := dk_46 (dk_at dksL_law_74 23 rfl rfl)
theorem dL_law_1978 : decode cL_law 1978 = .ok (.invokevirtual 193, 3) := dk_182 0 193 (dk_at dksL_law_75 0 rfl rfl)
theorem dL_law_1981 : decode cL_law 1981 = .ok (.aload_n 2, 1) := dk_44 (dk_at dksL_law_75 3 rfl rfl)
theorem dL_law_1982 : decode cL_law 1982 = .ok (.aload_n 0, 1) := dk_42 (dk_at dksL_law_75 4 rfl rfl)
theorem dL_law_1983 : decode cL_law 1983 = .ok (.iload 4, 2) := dk_21 4 (dk_at dksL_law_75 5 rfl rfl)
theorem dL_law_1985 : decode cL_law 1985 = .ok (.iconst 1, 1) := dk_4 (dk_at dksL_law_75 7 rfl rfl)
theorem dL_law_1986 : decode cL_law 1986 = .ok (.iadd, 1) := dk_96 (dk_at dksL_law_75 8 rfl rfl)
theorem dL_law_1987 : decode cL_law 1987 = .ok (.iaload, 1) := dk_46 (dk_at dksL_law_75 9 rfl rfl)
theorem dL_law_1988 : decode cL_law 1988 = .ok (.aload_n 0, 1) := dk_42 (dk_at dksL_law_75 10 rfl rfl)
theorem dL_law_1989 : decode cL_law 1989 = .ok (.iload 4, 2) := dk_21 4 (dk_at dksL_law_75 11 rfl rfl)
theorem dL_law_1991 : decode cL_law 1991 = .ok (.iconst 2, 1) := dk_5 (dk_at dksL_law_75 13 rfl rfl)
theorem dL_law_1992 : decode cL_law 1992 = .ok (.iadd, 1) := dk_96 (dk_at dksL_law_75 14 rfl rfl)
theorem dL_law_1993 : decode cL_law 1993 = .ok (.iaload, 1) := dk_46 (dk_at dksL_law_75 15 rfl rfl)
theorem dL_law_1994 : decode cL_law 1994 = .ok (.aload_n 0, 1) := dk_42 (dk_at dksL_law_75 16 rfl rfl)
theorem dL_law_1995 : decode cL_law 1995 = .ok (.iload 4, 2) := dk_21 4 (dk_at dksL_law_75 17 rfl rfl)
theorem dL_law_1997 : decode cL_law 1997 = .ok (.iconst 3, 1) := dk_6 (dk_at dksL_law_75 19 rfl rfl)
theorem dL_law_1998 : decode cL_law 1998 = .ok (.iadd, 1) := dk_96 (dk_at dksL_law_75 20 rfl rfl)
theorem dL_law_1999 : decode cL_law 1999 = .ok (.iaload, 1) := dk_46 (dk_at dksL_law_75 21 rfl rfl)
theorem dL_law_2000 : decode cL_law 2000 = .ok (.invokevirtual 196, 3) := dk_182 0 196 (dk_at dksL_law_76 0 rfl rfl)
theorem dL_law_2003 : decode cL_law 2003 = .ok (.if_icmp .eq 563, 3) := dk_159 2 51 (dk_at dksL_law_76 3 rfl rfl)
theorem dL_law_2006 : decode cL_law 2006 = .ok (.iconst 0, 1) := dk_3 (dk_at dksL_law_76 6 rfl rfl)
theorem dL_law_2007 : decode cL_law 2007 = .ok (.ireturn, 1) := dk_172 (dk_at dksL_law_76 7 rfl rfl)
theorem dL_law_2008 : decode cL_law 2008 = .ok (.aload_n 1, 1) := dk_43 (dk_at dksL_law_76 8 rfl rfl)
theorem dL_law_2009 : decode cL_law 2009 = .ok (.aload_n 0, 1) := dk_42 (dk_at dksL_law_76 9 rfl rfl)
theorem dL_law_2010 : decode cL_law 2010 = .ok (.iload 4, 2) := dk_21 4 (dk_at dksL_law_76 10 rfl rfl)
theorem dL_law_2012 : decode cL_law 2012 = .ok (.iconst 1, 1) := dk_4 (dk_at dksL_law_76 12 rfl rfl)
theorem dL_law_2013 : decode cL_law 2013 = .ok (.iadd, 1) := dk_96 (dk_at dksL_law_76 13 rfl rfl)
theorem dL_law_2014 : decode cL_law 2014 = .ok (.iaload, 1) := dk_46 (dk_at dksL_law_76 14 rfl rfl)
theorem dL_law_2015 : decode cL_law 2015 = .ok (.aload_n 0, 1) := dk_42 (dk_at dksL_law_76 15 rfl rfl)
theorem dL_law_2016 : decode cL_law 2016 = .ok (.iload 4, 2) := dk_21 4 (dk_at dksL_law_76 16 rfl rfl)
theorem dL_law_2018 : decode cL_law 2018 = .ok (.iconst 2, 1) := dk_5 (dk_at dksL_law_76 18 rfl rfl)
theorem dL_law_2019 : decode cL_law 2019 = .ok (.iadd, 1) := dk_96 (dk_at dksL_law_76 19 rfl rfl)
theorem dL_law_2020 : decode cL_law 2020 = .ok (.iaload, 1) := dk_46 (dk_at dksL_law_76 20 rfl rfl)
theorem dL_law_2021 : decode cL_law 2021 = .ok (.invokevirtual 197, 3) := dk_182 0 197 (dk_at dksL_law_76 21 rfl rfl)
theorem dL_law_2024 : decode cL_law 2024 = .ok (.aload_n 2, 1) := dk_44 (dk_at dksL_law_77 0 rfl rfl)
theorem dL_law_2025 : decode cL_law 2025 = .ok (.aload_n 0, 1) := dk_42 (dk_at dksL_law_77 1 rfl rfl)
theorem dL_law_2026 : decode cL_law 2026 = .ok (.iload 4, 2) := dk_21 4 (dk_at dksL_law_77 2 rfl rfl)
theorem dL_law_2028 : decode cL_law 2028 = .ok (.iconst 1, 1) := dk_4 (dk_at dksL_law_77 4 rfl rfl)
theorem dL_law_2029 : decode cL_law 2029 = .ok (.iadd, 1) := dk_96 (dk_at dksL_law_77 5 rfl rfl)
theorem dL_law_2030 : decode cL_law 2030 = .ok (.iaload, 1) := dk_46 (dk_at dksL_law_77 6 rfl rfl)
theorem dL_law_2031 : decode cL_law 2031 = .ok (.aload_n 0, 1) := dk_42 (dk_at dksL_law_77 7 rfl rfl)
theorem dL_law_2032 : decode cL_law 2032 = .ok (.iload 4, 2) := dk_21 4 (dk_at dksL_law_77 8 rfl rfl)
theorem dL_law_2034 : decode cL_law 2034 = .ok (.iconst 2, 1) := dk_5 (dk_at dksL_law_77 10 rfl rfl)
theorem dL_law_2035 : decode cL_law 2035 = .ok (.iadd, 1) := dk_96 (dk_at dksL_law_77 11 rfl rfl)
theorem dL_law_2036 : decode cL_law 2036 = .ok (.iaload, 1) := dk_46 (dk_at dksL_law_77 12 rfl rfl)
theorem dL_law_2037 : decode cL_law 2037 = .ok (.invokevirtual 200, 3) := dk_182 0 200 (dk_at dksL_law_77 13 rfl rfl)
theorem dL_law_2040 : decode cL_law 2040 = .ok (.if_icmp .eq 526, 3) := dk_159 2 14 (dk_at dksL_law_77 16 rfl rfl)
theorem dL_law_2043 : decode cL_law 2043 = .ok (.iconst 0, 1) := dk_3 (dk_at dksL_law_77 19 rfl rfl)
theorem dL_law_2044 : decode cL_law 2044 = .ok (.ireturn, 1) := dk_172 (dk_at dksL_law_77 20 rfl rfl)
theorem dL_law_2045 : decode cL_law 2045 = .ok (.aload_n 1, 1) := dk_43 (dk_at dksL_law_77 21 rfl rfl)
theorem dL_law_2046 : decode cL_law 2046 = .ok (.aload_n 0, 1) := dk_42 (dk_at dksL_law_77 22 rfl rfl)
theorem dL_law_2047 : decode cL_law 2047 = .ok (.iload 4, 2) := dk_21 4 (dk_at dksL_law_78 0 rfl rfl)
theorem dL_law_2049 : decode cL_law 2049 = .ok (.iconst 1, 1) := dk_4 (dk_at dksL_law_78 2 rfl rfl)
theorem dL_law_2050 : decode cL_law 2050 = .ok (.iadd, 1) := dk_96 (dk_at dksL_law_78 3 rfl rfl)
theorem dL_law_2051 : decode cL_law 2051 = .ok (.iaload, 1) := dk_46 (dk_at dksL_law_78 4 rfl rfl)
theorem dL_law_2052 : decode cL_law 2052 = .ok (.aload_n 0, 1) := dk_42 (dk_at dksL_law_78 5 rfl rfl)
theorem dL_law_2053 : decode cL_law 2053 = .ok (.iload 4, 2) := dk_21 4 (dk_at dksL_law_78 6 rfl rfl)
theorem dL_law_2055 : decode cL_law 2055 = .ok (.iconst 2, 1) := dk_5 (dk_at dksL_law_78 8 rfl rfl)
theorem dL_law_2056 : decode cL_law 2056 = .ok (.iadd, 1) := dk_96 (dk_at dksL_law_78 9 rfl rfl)
theorem dL_law_2057 : decode cL_law 2057 = .ok (.iaload, 1) := dk_46 (dk_at dksL_law_78 10 rfl rfl)
theorem dL_law_2058 : decode cL_law 2058 = .ok (.aload_n 0, 1) := dk_42 (dk_at dksL_law_78 11 rfl rfl)
theorem dL_law_2059 : decode cL_law 2059 = .ok (.iload 4, 2) := dk_21 4 (dk_at dksL_law_78 12 rfl rfl)
theorem dL_law_2061 : decode cL_law 2061 = .ok (.iconst 3, 1) := dk_6 (dk_at dksL_law_78 14 rfl rfl)
theorem dL_law_2062 : decode cL_law 2062 = .ok (.iadd, 1) := dk_96 (dk_at dksL_law_78 15 rfl rfl)
theorem dL_law_2063 : decode cL_law 2063 = .ok (.iaload, 1) := dk_46 (dk_at dksL_law_78 16 rfl rfl)
theorem dL_law_2064 : decode cL_law 2064 = .ok (.invokevirtual 201, 3) := dk_182 0 201 (dk_at dksL_law_78 17 rfl rfl)
theorem dL_law_2067 : decode cL_law 2067 = .ok (.aload_n 2, 1) := dk_44 (dk_at dksL_law_78 20 rfl rfl)
theorem dL_law_2068 : decode cL_law 2068 = .ok (.aload_n 0, 1) := dk_42 (dk_at dksL_law_78 21 rfl rfl)
theorem dL_law_2069 : decode cL_law 2069 = .ok (.iload 4, 2) := dk_21 4 (dk_at dksL_law_78 22 rfl rfl)
theorem dL_law_2071 : decode cL_law 2071 = .ok (.iconst 1, 1) := dk_4 (dk_at dksL_law_79 0 rfl rfl)
theorem dL_law_2072 : decode cL_law 2072 = .ok (.iadd, 1) := dk_96 (dk_at dksL_law_79 1 rfl rfl)
theorem dL_law_2073 : decode cL_law 2073 = .ok (.iaload, 1) := dk_46 (dk_at dksL_law_79 2 rfl rfl)
theorem dL_law_2074 : decode cL_law 2074 = .ok (.aload_n 0, 1) := dk_42 (dk_at dksL_law_79 3 rfl rfl)
theorem dL_law_2075 : decode cL_law 2075 = .ok (.iload 4, 2) := dk_21 4 (dk_at dksL_law_79 4 rfl rfl)
theorem dL_law_2077 : decode cL_law 2077 = .ok (.iconst 2, 1) := dk_5 (dk_at dksL_law_79 6 rfl rfl)
theorem dL_law_2078 : decode cL_law 2078 = .ok (.iadd, 1) := dk_96 (dk_at dksL_law_79 7 rfl rfl)
theorem dL_law_2079 : decode cL_law 2079 = .ok (.iaload, 1) := dk_46 (dk_at dksL_law_79 8 rfl rfl)
theorem dL_law_2080 : decode cL_law 2080 = .ok (.aload_n 0, 1) := dk_42 (dk_at dksL_law_79 9 rfl rfl)
theorem dL_law_2081 : decode cL_law 2081 = .ok (.iload 4, 2) := dk_21 4 (dk_at dksL_law_79 10 rfl rfl)
theorem dL_law_2083 : decode cL_law 2083 = .ok (.iconst 3, 1) := dk_6 (dk_at dksL_law_79 12 rfl rfl)
theorem dL_law_2084 : decode cL_law 2084 = .ok (.iadd, 1) := dk_96 (dk_at dksL_law_79 13 rfl rfl)
theorem dL_law_2085 : decode cL_law 2085 = .ok (.iaload, 1) := dk_46 (dk_at dksL_law_79 14 rfl rfl)
theorem dL_law_2086 : decode cL_law 2086 = .ok (.invokevirtual 204, 3) := dk_182 0 204 (dk_at dksL_law_79 15 rfl rfl)
theorem dL_law_2089 : decode cL_law 2089 = .ok (.if_icmp .eq 477, 3) := dk_159 1 221 (dk_at dksL_law_79 18 rfl rfl)
theorem dL_law_2092 : decode cL_law 2092 = .ok (.iconst 0, 1) := dk_3 (dk_at dksL_law_79 21 rfl rfl)
theorem dL_law_2093 : decode cL_law 2093 = .ok (.ireturn, 1) := dk_172 (dk_at dksL_law_79 22 rfl rfl)
theorem dL_law_2094 : decode cL_law 2094 = .ok (.aload_n 1, 1) := dk_43 (dk_at dksL_law_79 23 rfl rfl)
theorem dL_law_2095 : decode cL_law 2095 = .ok (.aload_n 0, 1) := dk_42 (dk_at dksL_law_80 0 rfl rfl)
theorem dL_law_2096 : decode cL_law 2096 = .ok (.iload 4, 2) := dk_21 4 (dk_at dksL_law_80 1 rfl rfl)
theorem dL_law_2098 : decode cL_law 2098 = .ok (.iconst 1, 1) := dk_4 (dk_at dksL_law_80 3 rfl rfl)
theorem dL_law_2099 : decode cL_law 2099 = .ok (.iadd, 1) := dk_96 (dk_at dksL_law_80 4 rfl rfl)
theorem dL_law_2100 : decode cL_law 2100 = .ok (.iaload, 1) := dk_46 (dk_at dksL_law_80 5 rfl rfl)
theorem dL_law_2101 : decode cL_law 2101 = .ok (.aload_n 0, 1) := dk_42 (dk_at dksL_law_80 6 rfl rfl)
theorem dL_law_2102 : decode cL_law 2102 = .ok (.iload 4, 2) := dk_21 4 (dk_at dksL_law_80 7 rfl rfl)
theorem dL_law_2104 : decode cL_law 2104 = .ok (.iconst 2, 1) := dk_5 (dk_at dksL_law_80 9 rfl rfl)
theorem dL_law_2105 : decode cL_law 2105 = .ok (.iadd, 1) := dk_96 (dk_at dksL_law_80 10 rfl rfl)
theorem dL_law_2106 : decode cL_law 2106 = .ok (.iaload, 1) := dk_46 (dk_at dksL_law_80 11 rfl rfl)
theorem dL_law_2107 : decode cL_law 2107 = .ok (.aload_n 0, 1) := dk_42 (dk_at dksL_law_80 12 rfl rfl)
theorem dL_law_2108 : decode cL_law 2108 = .ok (.iload 4, 2) := dk_21 4 (dk_at dksL_law_80 13 rfl rfl)
theorem dL_law_2110 : decode cL_law 2110 = .ok (.iconst 3, 1) := dk_6 (dk_at dksL_law_80 15 rfl rfl)
theorem dL_law_2111 : decode cL_law 2111 = .ok (.iadd, 1) := dk_96 (dk_at dksL_law_80 16 rfl rfl)
theorem dL_law_2112 : decode cL_law 2112 = .ok (.iaload, 1) := dk_46 (dk_at dksL_law_80 17 rfl rfl)
theorem dL_law_2113 : decode cL_law 2113 = .ok (.ifCond .eq 7, 3) := dk_153 0 7 (dk_at dksL_law_80 18 rfl rfl)
theorem dL_law_2116 : decode cL_law 2116 = .ok (.iconst 1, 1) := dk_4 (dk_at dksL_law_80 21 rfl rfl)
theorem dL_law_2117 : decode cL_law 2117 = .ok (.goto 4, 3) := dk_167 0 4 (dk_at dksL_law_81 0 rfl rfl)
theorem dL_law_2120 : decode cL_law 2120 = .ok (.iconst 0, 1) := dk_3 (dk_at dksL_law_81 3 rfl rfl)
theorem dL_law_2121 : decode cL_law 2121 = .ok (.invokevirtual 205, 3) := dk_182 0 205 (dk_at dksL_law_81 4 rfl rfl)
theorem dL_law_2124 : decode cL_law 2124 = .ok (.aload_n 2, 1) := dk_44 (dk_at dksL_law_81 7 rfl rfl)
theorem dL_law_2125 : decode cL_law 2125 = .ok (.aload_n 0, 1) := dk_42 (dk_at dksL_law_81 8 rfl rfl)
theorem dL_law_2126 : decode cL_law 2126 = .ok (.iload 4, 2) := dk_21 4 (dk_at dksL_law_81 9 rfl rfl)
theorem dL_law_2128 : decode cL_law 2128 = .ok (.iconst 1, 1) := dk_4 (dk_at dksL_law_81 11 rfl rfl)
theorem dL_law_2129 : decode cL_law 2129 = .ok (.iadd, 1) := dk_96 (dk_at dksL_law_81 12 rfl rfl)
theorem dL_law_2130 : decode cL_law 2130 = .ok (.iaload, 1) := dk_46 (dk_at dksL_law_81 13 rfl rfl)
theorem dL_law_2131 : decode cL_law 2131 = .ok (.aload_n 0, 1) := dk_42 (dk_at dksL_law_81 14 rfl rfl)
theorem dL_law_2132 : decode cL_law 2132 = .ok (.iload 4, 2) := dk_21 4 (dk_at dksL_law_81 15 rfl rfl)
theorem dL_law_2134 : decode cL_law 2134 = .ok (.iconst 2, 1) := dk_5 (dk_at dksL_law_81 17 rfl rfl)
theorem dL_law_2135 : decode cL_law 2135 = .ok (.iadd, 1) := dk_96 (dk_at dksL_law_81 18 rfl rfl)
theorem dL_law_2136 : decode cL_law 2136 = .ok (.iaload, 1) := dk_46 (dk_at dksL_law_81 19 rfl rfl)
theorem dL_law_2137 : decode cL_law 2137 = .ok (.aload_n 0, 1) := dk_42 (dk_at dksL_law_81 20 rfl rfl)
theorem dL_law_2138 : decode cL_law 2138 = .ok (.iload 4, 2) := dk_21 4 (dk_at dksL_law_81 21 rfl rfl)
theorem dL_law_2140 : decode cL_law 2140 = .ok (.iconst 3, 1) := dk_6 (dk_at dksL_law_81 23 rfl rfl)
theorem dL_law_2141 : decode cL_law 2141 = .ok (.iadd, 1) := dk_96 (dk_at dksL_law_82 0 rfl rfl)
theorem dL_law_2142 : decode cL_law 2142 = .ok (.iaload, 1) := dk_46 (dk_at dksL_law_82 1 rfl rfl)
theorem dL_law_2143 : decode cL_law 2143 = .ok (.ifCond .eq 7, 3) := dk_153 0 7 (dk_at dksL_law_82 2 rfl rfl)
theorem dL_law_2146 : decode cL_law 2146 = .ok (.iconst 1, 1) := dk_4 (dk_at dksL_law_82 5 rfl rfl)
theorem dL_law_2147 : decode cL_law 2147 = .ok (.goto 4, 3) := dk_167 0 4 (dk_at dksL_law_82 6 rfl rfl)
theorem dL_law_2150 : decode cL_law 2150 = .ok (.iconst 0, 1) := dk_3 (dk_at dksL_law_82 9 rfl rfl)
theorem dL_law_2151 : decode cL_law 2151 = .ok (.invokevirtual 208, 3) := dk_182 0 208 (dk_at dksL_law_82 10 rfl rfl)
theorem dL_law_2154 : decode cL_law 2154 = .ok (.if_icmp .eq 412, 3) := dk_159 1 156 (dk_at dksL_law_82 13 rfl rfl)
theorem dL_law_2157 : decode cL_law 2157 = .ok (.iconst 0, 1) := dk_3 (dk_at dksL_law_82 16 rfl rfl)
theorem dL_law_2158 : decode cL_law 2158 = .ok (.ireturn, 1) := dk_172 (dk_at dksL_law_82 17 rfl rfl)
theorem dL_law_2159 : decode cL_law 2159 = .ok (.aload_n 1, 1) := dk_43 (dk_at dksL_law_82 18 rfl rfl)
theorem dL_law_2160 : decode cL_law 2160 = .ok (.aload_n 0, 1) := dk_42 (dk_at dksL_law_82 19 rfl rfl)
theorem dL_law_2161 : decode cL_law 2161 = .ok (.iload 4, 2) := dk_21 4 (dk_at dksL_law_82 20 rfl rfl)
theorem dL_law_2163 : decode cL_law 2163 = .ok (.iconst 1, 1) := dk_4 (dk_at dksL_law_82 22 rfl rfl)
theorem dL_law_2164 : decode cL_law 2164 = .ok (.iadd, 1) := dk_96 (dk_at dksL_law_82 23 rfl rfl)
theorem dL_law_2165 : decode cL_law 2165 = .ok (.iaload, 1) := dk_46 (dk_at dksL_law_83 0 rfl rfl)
theorem dL_law_2166 : decode cL_law 2166 = .ok (.aload_n 0, 1) := dk_42 (dk_at dksL_law_83 1 rfl rfl)
theorem dL_law_2167 : decode cL_law 2167 = .ok (.iload 4, 2) := dk_21 4 (dk_at dksL_law_83 2 rfl rfl)
theorem dL_law_2169 : decode cL_law 2169 = .ok (.iconst 2, 1) := dk_5 (dk_at dksL_law_83 4 rfl rfl)
theorem dL_law_2170 : decode cL_law 2170 = .ok (.iadd, 1) := dk_96 (dk_at dksL_law_83 5 rfl rfl)
theorem dL_law_2171 : decode cL_law 2171 = .ok (.iaload, 1) := dk_46 (dk_at dksL_law_83 6 rfl rfl)
theorem dL_law_2172 : decode cL_law 2172 = .ok (.aload_n 0, 1) := dk_42 (dk_at dksL_law_83 7 rfl rfl)
theorem dL_law_2173 : decode cL_law 2173 = .ok (.iload 4, 2) := dk_21 4 (dk_at dksL_law_83 8 rfl rfl)
theorem dL_law_2175 : decode cL_law 2175 = .ok (.iconst 3, 1) := dk_6 (dk_at dksL_law_83 10 rfl rfl)
theorem dL_law_2176 : decode cL_law 2176 = .ok (.iadd, 1) := dk_96 (dk_at dksL_law_83 11 rfl rfl)
theorem dL_law_2177 : decode cL_law 2177 = .ok (.iaload, 1) := dk_46 (dk_at dksL_law_83 12 rfl rfl)
theorem dL_law_2178 : decode cL_law 2178 = .ok (.invokevirtual 209, 3) := dk_182 0 209 (dk_at dksL_law_83 13 rfl rfl)
theorem dL_law_2181 : decode cL_law 2181 = .ok (.aload_n 2, 1) := dk_44 (dk_at dksL_law_83 16 rfl rfl)
theorem dL_law_2182 : decode cL_law 2182 = .ok (.aload_n 0, 1) := dk_42 (dk_at dksL_law_83 17 rfl rfl)
theorem dL_law_2183 : decode cL_law 2183 = .ok (.iload 4, 2) := dk_21 4 (dk_at dksL_law_83 18 rfl rfl)
theorem dL_law_2185 : decode cL_law 2185 = .ok (.iconst 1, 1) := dk_4 (dk_at dksL_law_83 20 rfl rfl)
theorem dL_law_2186 : decode cL_law 2186 = .ok (.iadd, 1) := dk_96 (dk_at dksL_law_83 21 rfl rfl)
theorem dL_law_2187 : decode cL_law 2187 = .ok (.iaload, 1) := dk_46 (dk_at dksL_law_83 22 rfl rfl)
theorem dL_law_2188 : decode cL_law 2188 = .ok (.aload_n 0, 1) := dk_42 (dk_at dksL_law_83 23 rfl rfl)
theorem dL_law_2189 : decode cL_law 2189 = .ok (.iload 4, 2) := dk_21 4 (dk_at dksL_law_84 0 rfl rfl)
theorem dL_law_2191 : decode cL_law 2191 = .ok (.iconst 2, 1) := dk_5 (dk_at dksL_law_84 2 rfl rfl)
theorem dL_law_2192 : decode cL_law 2192 = .ok (.iadd, 1) := dk_96 (dk_at dksL_law_84 3 rfl rfl)
theorem dL_law_2193 : decode cL_law 2193 = .ok (.iaload, 1) := dk_46 (dk_at dksL_law_84 4 rfl rfl)
theorem dL_law_2194 : decode cL_law 2194 = .ok (.aload_n 0, 1) := dk_42 (dk_at dksL_law_84 5 rfl rfl)
theorem dL_law_2195 : decode cL_law 2195 = .ok (.iload 4, 2) := dk_21 4 (dk_at dksL_law_84 6 rfl rfl)
theorem dL_law_2197 : decode cL_law 2197 = .ok (.iconst 3, 1) := dk_6 (dk_at dksL_law_84 8 rfl rfl)
theorem dL_law_2198 : decode cL_law 2198 = .ok (.iadd, 1) := dk_96 (dk_at dksL_law_84 9 rfl rfl)
theorem dL_law_2199 : decode cL_law 2199 = .ok (.iaload, 1) := dk_46 (dk_at dksL_law_84 10 rfl rfl)
theorem dL_law_2200 : decode cL_law 2200 = .ok (.invokevirtual 212, 3) := dk_182 0 212 (dk_at dksL_law_84 11 rfl rfl)
theorem dL_law_2203 : decode cL_law 2203 = .ok (.if_icmp .eq 363, 3) := dk_159 1 107 (dk_at dksL_law_84 14 rfl rfl)
theorem dL_law_2206 : decode cL_law 2206 = .ok (.iconst 0, 1) := dk_3 (dk_at dksL_law_84 17 rfl rfl)
theorem dL_law_2207 : decode cL_law 2207 = .ok (.ireturn, 1) := dk_172 (dk_at dksL_law_84 18 rfl rfl)
theorem dL_law_2208 : decode cL_law 2208 = .ok (.aload_n 1, 1) := dk_43 (dk_at dksL_law_84 19 rfl rfl)
theorem dL_law_2209 : decode cL_law 2209 = .ok (.aload_n 0, 1) := dk_42 (dk_at dksL_law_84 20 rfl rfl)
theorem dL_law_2210 : decode cL_law 2210 = .ok (.iload 4, 2) := dk_21 4 (dk_at dksL_law_84 21 rfl rfl)
theorem dL_law_2212 : decode cL_law 2212 = .ok (.iconst 1, 1) := dk_4 (dk_at dksL_law_84 23 rfl rfl)
theorem dL_law_2213 : decode cL_law 2213 = .ok (.iadd, 1) := dk_96 (dk_at dksL_law_85 0 rfl rfl)
theorem dL_law_2214 : decode cL_law 2214 = .ok (.iaload, 1) := dk_46 (dk_at dksL_law_85 1 rfl rfl)
theorem dL_law_2215 : decode cL_law 2215 = .ok (.aload_n 0, 1) := dk_42 (dk_at dksL_law_85 2 rfl rfl)
theorem dL_law_2216 : decode cL_law 2216 = .ok (.iload 4, 2) := dk_21 4 (dk_at dksL_law_85 3 rfl rfl)
theorem dL_law_2218 : decode cL_law 2218 = .ok (.iconst 2, 1) := dk_5 (dk_at dksL_law_85 5 rfl rfl)
theorem dL_law_2219 : decode cL_law 2219 = .ok (.iadd, 1) := dk_96 (dk_at dksL_law_85 6 rfl rfl)
theorem dL_law_2220 : decode cL_law 2220 = .ok (.iaload, 1) := dk_46 (dk_at dksL_law_85 7 rfl rfl)
theorem dL_law_2221 : decode cL_law 2221 = .ok (.aload_n 0, 1) := dk_42 (dk_at dksL_law_85 8 rfl rfl)
theorem dL_law_2222 : decode cL_law 2222 = .ok (.iload 4, 2) := dk_21 4 (dk_at dksL_law_85 9 rfl rfl)
theorem dL_law_2224 : decode cL_law 2224 = .ok (.iconst 3, 1) := dk_6 (dk_at dksL_law_85 11 rfl rfl)
theorem dL_law_2225 : decode cL_law 2225 = .ok (.iadd, 1) := dk_96 (dk_at dksL_law_85 12 rfl rfl)
theorem dL_law_2226 : decode cL_law 2226 = .ok (.iaload, 1) := dk_46 (dk_at dksL_law_85 13 rfl rfl)
theorem dL_law_2227 : decode cL_law 2227 = .ok (.aload_n 0, 1) := dk_42 (dk_at dksL_law_85 14 rfl rfl)
theorem dL_law_2228 : decode cL_law 2228 = .ok (.iload 4, 2) := dk_21 4 (dk_at dksL_law_85 15 rfl rfl)
theorem dL_law_2230 : decode cL_law 2230 = .ok (.iconst 4, 1) := dk_7 (dk_at dksL_law_85 17 rfl rfl)
theorem dL_law_2231 : decode cL_law 2231 = .ok (.iadd, 1) := dk_96 (dk_at dksL_law_85 18 rfl rfl)
theorem dL_law_2232 : decode cL_law 2232 = .ok (.iaload, 1) := dk_46 (dk_at dksL_law_85 19 rfl rfl)
theorem dL_law_2233 : decode cL_law 2233 = .ok (.aload_n 0, 1) := dk_42 (dk_at dksL_law_85 20 rfl rfl)
theorem dL_law_2234 : decode cL_law 2234 = .ok (.iload 4, 2) := dk_21 4 (dk_at dksL_law_85 21 rfl rfl)
theorem dL_law_2236 : decode cL_law 2236 = .ok (.iconst 5, 1) := dk_8 (dk_at dksL_law_85 23 rfl rfl)
theorem dL_law_2237 : decode cL_law 2237 = .ok (.iadd, 1) := dk_96 (dk_at dksL_law_86 0 rfl rfl)
theorem dL_law_2238 : decode cL_law 2238 = .ok (.iaload, 1) := dk_46 (dk_at dksL_law_86 1 rfl rfl)
theorem dL_law_2239 : decode cL_law 2239 = .ok (.invokevirtual 213, 3) := dk_182 0 213 (dk_at dksL_law_86 2 rfl rfl)
theorem dL_law_2242 : decode cL_law 2242 = .ok (.aload_n 2, 1) := dk_44 (dk_at dksL_law_86 5 rfl rfl)
theorem dL_law_2243 : decode cL_law 2243 = .ok (.aload_n 0, 1) := dk_42 (dk_at dksL_law_86 6 rfl rfl)
theorem dL_law_2244 : decode cL_law 2244 = .ok (.iload 4, 2) := dk_21 4 (dk_at dksL_law_86 7 rfl rfl)
theorem dL_law_2246 : decode cL_law 2246 = .ok (.iconst 1, 1) := dk_4 (dk_at dksL_law_86 9 rfl rfl)
theorem dL_law_2247 : decode cL_law 2247 = .ok (.iadd, 1) := dk_96 (dk_at dksL_law_86 10 rfl rfl)
theorem dL_law_2248 : decode cL_law 2248 = .ok (.iaload, 1) := dk_46 (dk_at dksL_law_86 11 rfl rfl)
theorem dL_law_2249 : decode cL_law 2249 = .ok (.aload_n 0, 1) := dk_42 (dk_at dksL_law_86 12 rfl rfl)
theorem dL_law_2250 : decode cL_law 2250 = .ok (.iload 4, 2) := dk_21 4 (dk_at dksL_law_86 13 rfl rfl)
theorem dL_law_2252 : decode cL_law 2252 = .ok (.iconst 2, 1) := dk_5 (dk_at dksL_law_86 15 rfl rfl)
theorem dL_law_2253 : decode cL_law 2253 = .ok (.iadd, 1) := dk_96 (dk_at dksL_law_86 16 rfl rfl)
theorem dL_law_2254 : decode cL_law 2254 = .ok (.iaload, 1) := dk_46 (dk_at dksL_law_86 17 rfl rfl)
theorem dL_law_2255 : decode cL_law 2255 = .ok (.aload_n 0, 1) := dk_42 (dk_at dksL_law_86 18 rfl rfl)
theorem dL_law_2256 : decode cL_law 2256 = .ok (.iload 4, 2) := dk_21 4 (dk_at dksL_law_86 19 rfl rfl)
theorem dL_law_2258 : decode cL_law 2258 = .ok (.iconst 3, 1) := dk_6 (dk_at dksL_law_86 21 rfl rfl)
theorem dL_law_2259 : decode cL_law 2259 = .ok (.iadd, 1) := dk_96 (dk_at dksL_law_86 22 rfl rfl)
theorem dL_law_2260 : decode cL_law 2260 = .ok (.iaload, 1) := dk_46 (dk_at dksL_law_86 23 rfl rfl)
theorem dL_law_2261 : decode cL_law 2261 = .ok (.aload_n 0, 1) := dk_42 (dk_at dksL_law_87 0 rfl rfl)
theorem dL_law_2262 : decode cL_law 2262 = .ok (.iload 4, 2) := dk_21 4 (dk_at dksL_law_87 1 rfl rfl)
theorem dL_law_2264 : decode cL_law 2264 = .ok (.iconst 4, 1) := dk_7 (dk_at dksL_law_87 3 rfl rfl)
theorem dL_law_2265 : decode cL_law 2265 = .ok (.iadd, 1) := dk_96 (dk_at dksL_law_87 4 rfl rfl)
theorem dL_law_2266 : decode cL_law 2266 = .ok (.iaload, 1) := dk_46 (dk_at dksL_law_87 5 rfl rfl)
theorem dL_law_2267 : decode cL_law 2267 = .ok (.aload_n 0, 1) := dk_42 (dk_at dksL_law_87 6 rfl rfl)
theorem dL_law_2268 : decode cL_law 2268 = .ok (.iload 4, 2) := dk_21 4 (dk_at dksL_law_87 7 rfl rfl)
theorem dL_law_2270 : decode cL_law 2270 = .ok (.iconst 5, 1) := dk_8 (dk_at dksL_law_87 9 rfl rfl)
theorem dL_law_2271 : decode cL_law 2271 = .ok (.iadd, 1) := dk_96 (dk_at dksL_law_87 10 rfl rfl)
theorem dL_law_2272 : decode cL_law 2272 = .ok (.iaload, 1) := dk_46 (dk_at dksL_law_87 11 rfl rfl)
theorem dL_law_2273 : decode cL_law 2273 = .ok (.invokevirtual 216, 3) := dk_182 0 216 (dk_at dksL_law_87 12 rfl rfl)
theorem dL_law_2276 : decode cL_law 2276 = .ok (.if_icmp .eq 290, 3) := dk_159 1 34 (dk_at dksL_law_87 15 rfl rfl)
theorem dL_law_2279 : decode cL_law 2279 = .ok (.iconst 0, 1) := dk_3 (dk_at dksL_law_87 18 rfl rfl)
theorem dL_law_2280 : decode cL_law 2280 = .ok (.ireturn, 1) := dk_172 (dk_at dksL_law_87 19 rfl rfl)
theorem dL_law_2281 : decode cL_law 2281 = .ok (.aload_n 1, 1) := dk_43 (dk_at dksL_law_87 20 rfl rfl)
theorem dL_law_2282 : decode cL_law 2282 = .ok (.aload_n 0, 1) := dk_42 (dk_at dksL_law_87 21 rfl rfl)
theorem dL_law_2283 : decode cL_law 2283 = .ok (.iload 4, 2) := dk_21 4 (dk_at dksL_law_87 22 rfl rfl)
theorem dL_law_2285 : decode cL_law 2285 = .ok (.iconst 1, 1) := dk_4 (dk_at dksL_law_88 0 rfl rfl)
theorem dL_law_2286 : decode cL_law 2286 = .ok (.iadd, 1) := dk_96 (dk_at dksL_law_88 1 rfl rfl)
theorem dL_law_2287 : decode cL_law 2287 = .ok (.iaload, 1) := dk_46 (dk_at dksL_law_88 2 rfl rfl)
theorem dL_law_2288 : decode cL_law 2288 = .ok (.aload_n 0, 1) := dk_42 (dk_at dksL_law_88 3 rfl rfl)
theorem dL_law_2289 : decode cL_law 2289 = .ok (.iload 4, 2) := dk_21 4 (dk_at dksL_law_88 4 rfl rfl)
theorem dL_law_2291 : decode cL_law 2291 = .ok (.iconst 2, 1) := dk_5 (dk_at dksL_law_88 6 rfl rfl)
theorem dL_law_2292 : decode cL_law 2292 = .ok (.iadd, 1) := dk_96 (dk_at dksL_law_88 7 rfl rfl)
theorem dL_law_2293 : decode cL_law 2293 = .ok (.iaload, 1) := dk_46 (dk_at dksL_law_88 8 rfl rfl)
theorem dL_law_2294 : decode cL_law 2294 = .ok (.aload_n 0, 1) := dk_42 (dk_at dksL_law_88 9 rfl rfl)
theorem dL_law_2295 : decode cL_law 2295 = .ok (.iload 4, 2) := dk_21 4 (dk_at dksL_law_88 10 rfl rfl)
theorem dL_law_2297 : decode cL_law 2297 = .ok (.iconst 3, 1) := dk_6 (dk_at dksL_law_88 12 rfl rfl)
theorem dL_law_2298 : decode cL_law 2298 = .ok (.iadd, 1) := dk_96 (dk_at dksL_law_88 13 rfl rfl)
theorem dL_law_2299 : decode cL_law 2299 = .ok (.iaload, 1) := dk_46 (dk_at dksL_law_88 14 rfl rfl)
theorem dL_law_2300 : decode cL_law 2300 = .ok (.invokevirtual 217, 3) := dk_182 0 217 (dk_at dksL_law_88 15 rfl rfl)
theorem dL_law_2303 : decode cL_law 2303 = .ok (.aload_n 2, 1) := dk_44 (dk_at dksL_law_88 18 rfl rfl)
theorem dL_law_2304 : decode cL_law 2304 = .ok (.aload_n 0, 1) := dk_42 (dk_at dksL_law_88 19 rfl rfl)
theorem dL_law_2305 : decode cL_law 2305 = .ok (.iload 4, 2) := dk_21 4 (dk_at dksL_law_88 20 rfl rfl)
theorem dL_law_2307 : decode cL_law 2307 = .ok (.iconst 1, 1) := dk_4 (dk_at dksL_law_88 22 rfl rfl)
theorem dL_law_2308 : decode cL_law 2308 = .ok (.iadd, 1) := dk_96 (dk_at dksL_law_88 23 rfl rfl)
theorem dL_law_2309 : decode cL_law 2309 = .ok (.iaload, 1) := dk_46 (dk_at dksL_law_89 0 rfl rfl)
theorem dL_law_2310 : decode cL_law 2310 = .ok (.aload_n 0, 1) := dk_42 (dk_at dksL_law_89 1 rfl rfl)
theorem dL_law_2311 : decode cL_law 2311 = .ok (.iload 4, 2) := dk_21 4 (dk_at dksL_law_89 2 rfl rfl)
theorem dL_law_2313 : decode cL_law 2313 = .ok (.iconst 2, 1) := dk_5 (dk_at dksL_law_89 4 rfl rfl)
theorem dL_law_2314 : decode cL_law 2314 = .ok (.iadd, 1) := dk_96 (dk_at dksL_law_89 5 rfl rfl)
theorem dL_law_2315 : decode cL_law 2315 = .ok (.iaload, 1) := dk_46 (dk_at dksL_law_89 6 rfl rfl)
theorem dL_law_2316 : decode cL_law 2316 = .ok (.aload_n 0, 1) := dk_42 (dk_at dksL_law_89 7 rfl rfl)
theorem dL_law_2317 : decode cL_law 2317 = .ok (.iload 4, 2) := dk_21 4 (dk_at dksL_law_89 8 rfl rfl)
theorem dL_law_2319 : decode cL_law 2319 = .ok (.iconst 3, 1) := dk_6 (dk_at dksL_law_89 10 rfl rfl)
theorem dL_law_2320 : decode cL_law 2320 = .ok (.iadd, 1) := dk_96 (dk_at dksL_law_89 11 rfl rfl)
theorem dL_law_2321 : decode cL_law 2321 = .ok (.iaload, 1) := dk_46 (dk_at dksL_law_89 12 rfl rfl)
theorem dL_law_2322 : decode cL_law 2322 = .ok (.invokevirtual 220, 3) := dk_182 0 220 (dk_at dksL_law_89 13 rfl rfl)
theorem dL_law_2325 : decode cL_law 2325 = .ok (.if_icmp .eq 241, 3) := dk_159 0 241 (dk_at dksL_law_89 16 rfl rfl)
theorem dL_law_2328 : decode cL_law 2328 = .ok (.iconst 0, 1) := dk_3 (dk_at dksL_law_89 19 rfl rfl)
theorem dL_law_2329 : decode cL_law 2329 = .ok (.ireturn, 1) := dk_172 (dk_at dksL_law_89 20 rfl rfl)
theorem dL_law_2330 : decode cL_law 2330 = .ok (.aload_n 1, 1) := dk_43 (dk_at dksL_law_89 21 rfl rfl)
theorem dL_law_2331 : decode cL_law 2331 = .ok (.aload_n 0, 1) := dk_42 (dk_at dksL_law_89 22 rfl rfl)
theorem dL_law_2332 : decode cL_law 2332 = .ok (.iload 4, 2) := dk_21 4 (dk_at dksL_law_90 0 rfl rfl)
theorem dL_law_2334 : decode cL_law 2334 = .ok (.iconst 1, 1) := dk_4 (dk_at dksL_law_90 2 rfl rfl)
theorem dL_law_2335 : decode cL_law 2335 = .ok (.iadd, 1) := dk_96 (dk_at dksL_law_90 3 rfl rfl)
theorem dL_law_2336 : decode cL_law 2336 = .ok (.iaload, 1) := dk_46 (dk_at dksL_law_90 4 rfl rfl)
theorem dL_law_2337 : decode cL_law 2337 = .ok (.aload_n 0, 1) := dk_42 (dk_at dksL_law_90 5 rfl rfl)
theorem dL_law_2338 : decode cL_law 2338 = .ok (.iload 4, 2) := dk_21 4 (dk_at dksL_law_90 6 rfl rfl)
theorem dL_law_2340 : decode cL_law 2340 = .ok (.iconst 2, 1) := dk_5 (dk_at dksL_law_90 8 rfl rfl)
theorem dL_law_2341 : decode cL_law 2341 = .ok (.iadd, 1) := dk_96 (dk_at dksL_law_90 9 rfl rfl)
theorem dL_law_2342 : decode cL_law 2342 = .ok (.iaload, 1) := dk_46 (dk_at dksL_law_90 10 rfl rfl)
theorem dL_law_2343 : decode cL_law 2343 = .ok (.aload_n 0, 1) := dk_42 (dk_at dksL_law_90 11 rfl rfl)
theorem dL_law_2344 : decode cL_law 2344 = .ok (.iload 4, 2) := dk_21 4 (dk_at dksL_law_90 12 rfl rfl)
theorem dL_law_2346 : decode cL_law 2346 = .ok (.iconst 3, 1) := dk_6 (dk_at dksL_law_90 14 rfl rfl)
theorem dL_law_2347 : decode cL_law 2347 = .ok (.iadd, 1) := dk_96 (dk_at dksL_law_90 15 rfl rfl)
theorem dL_law_2348 : decode cL_law 2348 = .ok (.iaload, 1) := dk_46 (dk_at dksL_law_90 16 rfl rfl)
theorem dL_law_2349 : decode cL_law 2349 = .ok (.invokevirtual 221, 3) := dk_182 0 221 (dk_at dksL_law_90 17 rfl rfl)
theorem dL_law_2352 : decode cL_law 2352 = .ok (.aload_n 2, 1) := dk_44 (dk_at dksL_law_90 20 rfl rfl)
theorem dL_law_2353 : decode cL_law 2353 = .ok (.aload_n 0, 1) := dk_42 (dk_at dksL_law_90 21 rfl rfl)
theorem dL_law_2354 : decode cL_law 2354 = .ok (.iload 4, 2) := dk_21 4 (dk_at dksL_law_90 22 rfl rfl)
theorem dL_law_2356 : decode cL_law 2356 = .ok (.iconst 1, 1) := dk_4 (dk_at dksL_law_91 0 rfl rfl)
theorem dL_law_2357 : decode cL_law 2357 = .ok (.iadd, 1) := dk_96 (dk_at dksL_law_91 1 rfl rfl)
theorem dL_law_2358 : decode cL_law 2358 = .ok (.iaload, 1) := dk_46 (dk_at dksL_law_91 2 rfl rfl)
theorem dL_law_2359 : decode cL_law 2359 = .ok (.aload_n 0, 1) := dk_42 (dk_at dksL_law_91 3 rfl rfl)
theorem dL_law_2360 : decode cL_law 2360 = .ok (.iload 4, 2) := dk_21 4 (dk_at dksL_law_91 4 rfl rfl)
theorem dL_law_2362 : decode cL_law 2362 = .ok (.iconst 2, 1) := dk_5 (dk_at dksL_law_91 6 rfl rfl)
theorem dL_law_2363 : decode cL_law 2363 = .ok (.iadd, 1) := dk_96 (dk_at dksL_law_91 7 rfl rfl)
theorem dL_law_2364 : decode cL_law 2364 = .ok (.iaload, 1) := dk_46 (dk_at dksL_law_91 8 rfl rfl)
theorem dL_law_2365 : decode cL_law 2365 = .ok (.aload_n 0, 1) := dk_42 (dk_at dksL_law_91 9 rfl rfl)
theorem dL_law_2366 : decode cL_law 2366 = .ok (.iload 4, 2) := dk_21 4 (dk_at dksL_law_91 10 rfl rfl)
theorem dL_law_2368 : decode cL_law 2368 = .ok (.iconst 3, 1) := dk_6 (dk_at dksL_law_91 12 rfl rfl)
theorem dL_law_2369 : decode cL_law 2369 = .ok (.iadd, 1) := dk_96 (dk_at dksL_law_91 13 rfl rfl)
theorem dL_law_2370 : decode cL_law 2370 = .ok (.iaload, 1) := dk_46 (dk_at dksL_law_91 14 rfl rfl)
theorem dL_law_2371 : decode cL_law 2371 = .ok (.invokevirtual 224, 3) := dk_182 0 224 (dk_at dksL_law_91 15 rfl rfl)
theorem dL_law_2374 : decode cL_law 2374 = .ok (.if_icmp .eq 192, 3) := dk_159 0 192 (dk_at dksL_law_91 18 rfl rfl)
theorem dL_law_2377 : decode cL_law 2377 = .ok (.iconst 0, 1) := dk_3 (dk_at dksL_law_91 21 rfl rfl)
theorem dL_law_2378 : decode cL_law 2378 = .ok (.ireturn, 1) := dk_172 (dk_at dksL_law_91 22 rfl rfl)
theorem dL_law_2379 : decode cL_law 2379 = .ok (.aload_n 1, 1) := dk_43 (dk_at dksL_law_91 23 rfl rfl)
theorem dL_law_2380 : decode cL_law 2380 = .ok (.aload_n 0, 1) := dk_42 (dk_at dksL_law_92 0 rfl rfl)
theorem dL_law_2381 : decode cL_law 2381 = .ok (.iload 4, 2) := dk_21 4 (dk_at dksL_law_92 1 rfl rfl)
theorem dL_law_2383 : decode cL_law 2383 = .ok (.iconst 1, 1) := dk_4 (dk_at dksL_law_92 3 rfl rfl)
theorem dL_law_2384 : decode cL_law 2384 = .ok (.iadd, 1) := dk_96 (dk_at dksL_law_92 4 rfl rfl)
theorem dL_law_2385 : decode cL_law 2385 = .ok (.iaload, 1) := dk_46 (dk_at dksL_law_92 5 rfl rfl)
theorem dL_law_2386 : decode cL_law 2386 = .ok (.aload_n 0, 1) := dk_42 (dk_at dksL_law_92 6 rfl rfl)
theorem dL_law_2387 : decode cL_law 2387 = .ok (.iload 4, 2) := dk_21 4 (dk_at dksL_law_92 7 rfl rfl)
theorem dL_law_2389 : decode cL_law 2389 = .ok (.iconst 2, 1) := dk_5 (dk_at dksL_law_92 9 rfl rfl)
theorem dL_law_2390 : decode cL_law 2390 = .ok (.iadd, 1) := dk_96 (dk_at dksL_law_92 10 rfl rfl)
theorem dL_law_2391 : decode cL_law 2391 = .ok (.iaload, 1) := dk_46 (dk_at dksL_law_92 11 rfl rfl)
theorem dL_law_2392 : decode cL_law 2392 = .ok (.invokevirtual 225, 3) := dk_182 0 225 (dk_at dksL_law_92 12 rfl rfl)
theorem dL_law_2395 : decode cL_law 2395 = .ok (.aload_n 2, 1) := dk_44 (dk_at dksL_law_92 15 rfl rfl)
theorem dL_law_2396 : decode cL_law 2396 = .ok (.aload_n 0, 1) := dk_42 (dk_at dksL_law_92 16 rfl rfl)
theorem dL_law_2397 : decode cL_law 2397 = .ok (.iload 4, 2) := dk_21 4 (dk_at dksL_law_92 17 rfl rfl)
theorem dL_law_2399 : decode cL_law 2399 = .ok (.iconst 1, 1) := dk_4 (dk_at dksL_law_92 19 rfl rfl)
theorem dL_law_2400 : decode cL_law 2400 = .ok (.iadd, 1) := dk_96 (dk_at dksL_law_92 20 rfl rfl)
theorem dL_law_2401 : decode cL_law 2401 = .ok (.iaload, 1) := dk_46 (dk_at dksL_law_92 21 rfl rfl)
theorem dL_law_2402 : decode cL_law 2402 = .ok (.aload_n 0, 1) := dk_42 (dk_at dksL_law_92 22 rfl rfl)
theorem dL_law_2403 : decode cL_law 2403 = .ok (.iload 4, 2) := dk_21 4 (dk_at dksL_law_93 0 rfl rfl)
theorem dL_law_2405 : decode cL_law 2405 = .ok (.iconst 2, 1) := dk_5 (dk_at dksL_law_93 2 rfl rfl)
theorem dL_law_2406 : decode cL_law 2406 = .ok (.iadd, 1) := dk_96 (dk_at dksL_law_93 3 rfl rfl)
theorem dL_law_2407 : decode cL_law 2407 = .ok (.iaload, 1) := dk_46 (dk_at dksL_law_93 4 rfl rfl)
theorem dL_law_2408 : decode cL_law 2408 = .ok (.invokevirtual 228, 3) := dk_182 0 228 (dk_at dksL_law_93 5 rfl rfl)
theorem dL_law_2411 : decode cL_law 2411 = .ok (.if_icmp .eq 155, 3) := dk_159 0 155 (dk_at dksL_law_93 8 rfl rfl)
theorem dL_law_2414 : decode cL_law 2414 = .ok (.iconst 0, 1) := dk_3 (dk_at dksL_law_93 11 rfl rfl)
theorem dL_law_2415 : decode cL_law 2415 = .ok (.ireturn, 1) := dk_172 (dk_at dksL_law_93 12 rfl rfl)
theorem dL_law_2416 : decode cL_law 2416 = .ok (.aload_n 1, 1) := dk_43 (dk_at dksL_law_93 13 rfl rfl)
theorem dL_law_2417 : decode cL_law 2417 = .ok (.aload_n 0, 1) := dk_42 (dk_at dksL_law_93 14 rfl rfl)
theorem dL_law_2418 : decode cL_law 2418 = .ok (.iload 4, 2) := dk_21 4 (dk_at dksL_law_93 15 rfl rfl)
theorem dL_law_2420 : decode cL_law 2420 = .ok (.iconst 1, 1) := dk_4 (dk_at dksL_law_93 17 rfl rfl)
theorem dL_law_2421 : decode cL_law 2421 = .ok (.iadd, 1) := dk_96 (dk_at dksL_law_93 18 rfl rfl)
theorem dL_law_2422 : decode cL_law 2422 = .ok (.iaload, 1) := dk_46 (dk_at dksL_law_93 19 rfl rfl)
theorem dL_law_2423 : decode cL_law 2423 = .ok (.invokevirtual 229, 3) := dk_182 0 229 (dk_at dksL_law_93 20 rfl rfl)
theorem dL_law_2426 : decode cL_law 2426 = .ok (.aload_n 2, 1) := dk_44 (dk_at dksL_law_93 23 rfl rfl)
theorem dL_law_2427 : decode cL_law 2427 = .ok (.aload_n 0, 1) := dk_42 (dk_at dksL_law_94 0 rfl rfl)
theorem dL_law_2428 : decode cL_law 2428 = .ok (.iload 4, 2) := dk_21 4 (dk_at dksL_law_94 1 rfl rfl)
theorem dL_law_2430 : decode cL_law 2430 = .ok (.iconst 1, 1) := dk_4 (dk_at dksL_law_94 3 rfl rfl)
theorem dL_law_2431 : decode cL_law 2431 = .ok (.iadd, 1) := dk_96 (dk_at dksL_law_94 4 rfl rfl)
theorem dL_law_2432 : decode cL_law 2432 = .ok (.iaload, 1) := dk_46 (dk_at dksL_law_94 5 rfl rfl)
theorem dL_law_2433 : decode cL_law 2433 = .ok (.invokevirtual 232, 3) := dk_182 0 232 (dk_at dksL_law_94 6 rfl rfl)
theorem dL_law_2436 : decode cL_law 2436 = .ok (.if_icmp .eq 130, 3) := dk_159 0 130 (dk_at dksL_law_94 9 rfl rfl)
theorem dL_law_2439 : decode cL_law 2439 = .ok (.iconst 0, 1) := dk_3 (dk_at dksL_law_94 12 rfl rfl)
theorem dL_law_2440 : decode cL_law 2440 = .ok (.ireturn, 1) := dk_172 (dk_at dksL_law_94 13 rfl rfl)
theorem dL_law_2441 : decode cL_law 2441 = .ok (.aload_n 1, 1) := dk_43 (dk_at dksL_law_94 14 rfl rfl)
theorem dL_law_2442 : decode cL_law 2442 = .ok (.aload_n 0, 1) := dk_42 (dk_at dksL_law_94 15 rfl rfl)
theorem dL_law_2443 : decode cL_law 2443 = .ok (.iload 4, 2) := dk_21 4 (dk_at dksL_law_94 16 rfl rfl)
theorem dL_law_2445 : decode cL_law 2445 = .ok (.iconst 1, 1) := dk_4 (dk_at dksL_law_94 18 rfl rfl)
theorem dL_law_2446 : decode cL_law 2446 = .ok (.iadd, 1) := dk_96 (dk_at dksL_law_94 19 rfl rfl)
theorem dL_law_2447 : decode cL_law 2447 = .ok (.iaload, 1) := dk_46 (dk_at dksL_law_94 20 rfl rfl)
theorem dL_law_2448 : decode cL_law 2448 = .ok (.invokevirtual 233, 3) := dk_182 0 233 (dk_at dksL_law_94 21 rfl rfl)
theorem dL_law_2451 : decode cL_law 2451 = .ok (.aload_n 2, 1) := dk_44 (dk_at dksL_law_95 0 rfl rfl)
theorem dL_law_2452 : decode cL_law 2452 = .ok (.aload_n 0, 1) := dk_42 (dk_at dksL_law_95 1 rfl rfl)
theorem dL_law_2453 : decode cL_law 2453 = .ok (.iload 4, 2) := dk_21 4 (dk_at dksL_law_95 2 rfl rfl)
theorem dL_law_2455 : decode cL_law 2455 = .ok (.iconst 1, 1) := dk_4 (dk_at dksL_law_95 4 rfl rfl)
theorem dL_law_2456 : decode cL_law 2456 = .ok (.iadd, 1) := dk_96 (dk_at dksL_law_95 5 rfl rfl)
theorem dL_law_2457 : decode cL_law 2457 = .ok (.iaload, 1) := dk_46 (dk_at dksL_law_95 6 rfl rfl)
theorem dL_law_2458 : decode cL_law 2458 = .ok (.invokevirtual 236, 3) := dk_182 0 236 (dk_at dksL_law_95 7 rfl rfl)
theorem dL_law_2461 : decode cL_law 2461 = .ok (.if_icmp .eq 105, 3) := dk_159 0 105 (dk_at dksL_law_95 10 rfl rfl)
theorem dL_law_2464 : decode cL_law 2464 = .ok (.iconst 0, 1) := dk_3 (dk_at dksL_law_95 13 rfl rfl)
theorem dL_law_2465 : decode cL_law 2465 = .ok (.ireturn, 1) := dk_172 (dk_at dksL_law_95 14 rfl rfl)
theorem dL_law_2466 : decode cL_law 2466 = .ok (.aload_n 1, 1) := dk_43 (dk_at dksL_law_95 15 rfl rfl)
theorem dL_law_2467 : decode cL_law 2467 = .ok (.aload_n 0, 1) := dk_42 (dk_at dksL_law_95 16 rfl rfl)
theorem dL_law_2468 : decode cL_law 2468 = .ok (.iload 4, 2) := dk_21 4 (dk_at dksL_law_95 17 rfl rfl)
theorem dL_law_2470 : decode cL_law 2470 = .ok (.iconst 1, 1) := dk_4 (dk_at dksL_law_95 19 rfl rfl)
theorem dL_law_2471 : decode cL_law 2471 = .ok (.iadd, 1) := dk_96 (dk_at dksL_law_95 20 rfl rfl)
theorem dL_law_2472 : decode cL_law 2472 = .ok (.iaload, 1) := dk_46 (dk_at dksL_law_95 21 rfl rfl)
theorem dL_law_2473 : decode cL_law 2473 = .ok (.invokevirtual 237, 3) := dk_182 0 237 (dk_at dksL_law_96 0 rfl rfl)
theorem dL_law_2476 : decode cL_law 2476 = .ok (.aload_n 2, 1) := dk_44 (dk_at dksL_law_96 3 rfl rfl)
theorem dL_law_2477 : decode cL_law 2477 = .ok (.aload_n 0, 1) := dk_42 (dk_at dksL_law_96 4 rfl rfl)
theorem dL_law_2478 : decode cL_law 2478 = .ok (.iload 4, 2) := dk_21 4 (dk_at dksL_law_96 5 rfl rfl)
theorem dL_law_2480 : decode cL_law 2480 = .ok (.iconst 1, 1) := dk_4 (dk_at dksL_law_96 7 rfl rfl)
theorem dL_law_2481 : decode cL_law 2481 = .ok (.iadd, 1) := dk_96 (dk_at dksL_law_96 8 rfl rfl)
theorem dL_law_2482 : decode cL_law 2482 = .ok (.iaload, 1) := dk_46 (dk_at dksL_law_96 9 rfl rfl)
theorem dL_law_2483 : decode cL_law 2483 = .ok (.invokevirtual 240, 3) := dk_182 0 240 (dk_at dksL_law_96 10 rfl rfl)
theorem dL_law_2486 : decode cL_law 2486 = .ok (.if_icmp .eq 80, 3) := dk_159 0 80 (dk_at dksL_law_96 13 rfl rfl)
theorem dL_law_2489 : decode cL_law 2489 = .ok (.iconst 0, 1) := dk_3 (dk_at dksL_law_96 16 rfl rfl)
theorem dL_law_2490 : decode cL_law 2490 = .ok (.ireturn, 1) := dk_172 (dk_at dksL_law_96 17 rfl rfl)
theorem dL_law_2491 : decode cL_law 2491 = .ok (.aload_n 1, 1) := dk_43 (dk_at dksL_law_96 18 rfl rfl)
theorem dL_law_2492 : decode cL_law 2492 = .ok (.aload_n 0, 1) := dk_42 (dk_at dksL_law_96 19 rfl rfl)
theorem dL_law_2493 : decode cL_law 2493 = .ok (.iload 4, 2) := dk_21 4 (dk_at dksL_law_96 20 rfl rfl)
theorem dL_law_2495 : decode cL_law 2495 = .ok (.iconst 1, 1) := dk_4 (dk_at dksL_law_96 22 rfl rfl)
theorem dL_law_2496 : decode cL_law 2496 = .ok (.iadd, 1) := dk_96 (dk_at dksL_law_96 23 rfl rfl)
theorem dL_law_2497 : decode cL_law 2497 = .ok (.iaload, 1) := dk_46 (dk_at dksL_law_97 0 rfl rfl)
theorem dL_law_2498 : decode cL_law 2498 = .ok (.invokevirtual 241, 3) := dk_182 0 241 (dk_at dksL_law_97 1 rfl rfl)
theorem dL_law_2501 : decode cL_law 2501 = .ok (.aload_n 2, 1) := dk_44 (dk_at dksL_law_97 4 rfl rfl)
theorem dL_law_2502 : decode cL_law 2502 = .ok (.aload_n 0, 1) := dk_42 (dk_at dksL_law_97 5 rfl rfl)
theorem dL_law_2503 : decode cL_law 2503 = .ok (.iload 4, 2) := dk_21 4 (dk_at dksL_law_97 6 rfl rfl)
theorem dL_law_2505 : decode cL_law 2505 = .ok (.iconst 1, 1) := dk_4 (dk_at dksL_law_97 8 rfl rfl)
theorem dL_law_2506 : decode cL_law 2506 = .ok (.iadd, 1) := dk_96 (dk_at dksL_law_97 9 rfl rfl)
theorem dL_law_2507 : decode cL_law 2507 = .ok (.iaload, 1) := dk_46 (dk_at dksL_law_97 10 rfl rfl)
theorem dL_law_2508 : decode cL_law 2508 = .ok (.invokevirtual 244, 3) := dk_182 0 244 (dk_at dksL_law_97 11 rfl rfl)
theorem dL_law_2511 : decode cL_law 2511 = .ok (.if_icmp .eq 55, 3) := dk_159 0 55 (dk_at dksL_law_97 14 rfl rfl)
theorem dL_law_2514 : decode cL_law 2514 = .ok (.iconst 0, 1) := dk_3 (dk_at dksL_law_97 17 rfl rfl)
theorem dL_law_2515 : decode cL_law 2515 = .ok (.ireturn, 1) := dk_172 (dk_at dksL_law_97 18 rfl rfl)
theorem dL_law_2516 : decode cL_law 2516 = .ok (.aload_n 1, 1) := dk_43 (dk_at dksL_law_97 19 rfl rfl)
theorem dL_law_2517 : decode cL_law 2517 = .ok (.aload_n 0, 1) := dk_42 (dk_at dksL_law_97 20 rfl rfl)
theorem dL_law_2518 : decode cL_law 2518 = .ok (.iload 4, 2) := dk_21 4 (dk_at dksL_law_97 21 rfl rfl)
theorem dL_law_2520 : decode cL_law 2520 = .ok (.iconst 1, 1) := dk_4 (dk_at dksL_law_97 23 rfl rfl)
theorem dL_law_2521 : decode cL_law 2521 = .ok (.iadd, 1) := dk_96 (dk_at dksL_law_98 0 rfl rfl)
theorem dL_law_2522 : decode cL_law 2522 = .ok (.iaload, 1) := dk_46 (dk_at dksL_law_98 1 rfl rfl)
theorem dL_law_2523 : decode cL_law 2523 = .ok (.invokevirtual 245, 3) := dk_182 0 245 (dk_at dksL_law_98 2 rfl rfl)
theorem dL_law_2526 : decode cL_law 2526 = .ok (.aload_n 2, 1) := dk_44 (dk_at dksL_law_98 5 rfl rfl)
theorem dL_law_2527 : decode cL_law 2527 = .ok (.aload_n 0, 1) := dk_42 (dk_at dksL_law_98 6 rfl rfl)
theorem dL_law_2528 : decode cL_law 2528 = .ok (.iload 4, 2) := dk_21 4 (dk_at dksL_law_98 7 rfl rfl)
theorem dL_law_2530 : decode cL_law 2530 = .ok (.iconst 1, 1) := dk_4 (dk_at dksL_law_98 9 rfl rfl)
theorem dL_law_2531 : decode cL_law 2531 = .ok (.iadd, 1) := dk_96 (dk_at dksL_law_98 10 rfl rfl)
theorem dL_law_2532 : decode cL_law 2532 = .ok (.iaload, 1) := dk_46 (dk_at dksL_law_98 11 rfl rfl)
theorem dL_law_2533 : decode cL_law 2533 = .ok (.invokevirtual 248, 3) := dk_182 0 248 (dk_at dksL_law_98 12 rfl rfl)
theorem dL_law_2536 : decode cL_law 2536 = .ok (.if_icmp .eq 30, 3) := dk_159 0 30 (dk_at dksL_law_98 15 rfl rfl)
theorem dL_law_2539 : decode cL_law 2539 = .ok (.iconst 0, 1) := dk_3 (dk_at dksL_law_98 18 rfl rfl)
theorem dL_law_2540 : decode cL_law 2540 = .ok (.ireturn, 1) := dk_172 (dk_at dksL_law_98 19 rfl rfl)
theorem dL_law_2541 : decode cL_law 2541 = .ok (.aload_n 1, 1) := dk_43 (dk_at dksL_law_98 20 rfl rfl)
theorem dL_law_2542 : decode cL_law 2542 = .ok (.aload_n 0, 1) := dk_42 (dk_at dksL_law_98 21 rfl rfl)
theorem dL_law_2543 : decode cL_law 2543 = .ok (.iload 4, 2) := dk_21 4 (dk_at dksL_law_98 22 rfl rfl)
theorem dL_law_2545 : decode cL_law 2545 = .ok (.iconst 1, 1) := dk_4 (dk_at dksL_law_99 0 rfl rfl)
theorem dL_law_2546 : decode cL_law 2546 = .ok (.iadd, 1) := dk_96 (dk_at dksL_law_99 1 rfl rfl)
theorem dL_law_2547 : decode cL_law 2547 = .ok (.iaload, 1) := dk_46 (dk_at dksL_law_99 2 rfl rfl)
theorem dL_law_2548 : decode cL_law 2548 = .ok (.invokevirtual 249, 3) := dk_182 0 249 (dk_at dksL_law_99 3 rfl rfl)
theorem dL_law_2551 : decode cL_law 2551 = .ok (.aload_n 2, 1) := dk_44 (dk_at dksL_law_99 6 rfl rfl)
theorem dL_law_2552 : decode cL_law 2552 = .ok (.aload_n 0, 1) := dk_42 (dk_at dksL_law_99 7 rfl rfl)
theorem dL_law_2553 : decode cL_law 2553 = .ok (.iload 4, 2) := dk_21 4 (dk_at dksL_law_99 8 rfl rfl)
theorem dL_law_2555 : decode cL_law 2555 = .ok (.iconst 1, 1) := dk_4 (dk_at dksL_law_99 10 rfl rfl)
theorem dL_law_2556 : decode cL_law 2556 = .ok (.iadd, 1) := dk_96 (dk_at dksL_law_99 11 rfl rfl)
theorem dL_law_2557 : decode cL_law 2557 = .ok (.iaload, 1) := dk_46 (dk_at dksL_law_99 12 rfl rfl)
theorem dL_law_2558 : decode cL_law 2558 = .ok (.invokevirtual 252, 3) := dk_182 0 252 (dk_at dksL_law_99 13 rfl rfl)
theorem dL_law_2561 : decode cL_law 2561 = .ok (.if_icmp .eq 5, 3) := dk_159 0 5 (dk_at dksL_law_99 16 rfl rfl)
theorem dL_law_2564 : decode cL_law 2564 = .ok (.iconst 0, 1) := dk_3 (dk_at dksL_law_99 19 rfl rfl)
theorem dL_law_2565 : decode cL_law 2565 = .ok (.ireturn, 1) := dk_172 (dk_at dksL_law_99 20 rfl rfl)
theorem dL_law_2566 : decode cL_law 2566 = .ok (.iinc 4 6, 3) := dk_132 4 6 (dk_at dksL_law_99 21 rfl rfl)
theorem dL_law_2569 : decode cL_law 2569 = .ok (.goto (-2546), 3) := dk_167 246 14 (dk_at dksL_law_100 0 rfl rfl)
theorem dL_law_2572 : decode cL_law 2572 = .ok (.iconst 1, 1) := dk_4 (dk_at dksL_law_100 3 rfl rfl)
theorem dL_law_2573 : decode cL_law 2573 = .ok (.ireturn, 1) := dk_172 (dk_at dksL_law_100 4 rfl rfl)
