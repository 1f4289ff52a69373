/-! RoadsNotGoneByModel -/
set_option maxRecDepth 100000
def RX8 : String := "RoadsNotGoneByModel"
def TX8 : u_T := fun k => match k with
  | 0 => ("RoadsNotGoneByModel", "thrown", "I", false)
  | 1 => ("RoadsNotGoneByModel", "texts", "[I", true)
  | 2 => ("RoadsNotGoneByModel", "textSize", "[I", true)
  | 3 => ("RoadsNotGoneByModel", "textCount", "I", false)
  | 4 => ("RoadsNotGoneByModel", "rule", "I", false)
  | 5 => ("RoadsNotGoneByModel", "tape", "[I", true)
  | 6 => ("RoadsNotGoneByModel", "taped", "I", false)
  | 7 => ("RoadsNotGoneByModel", "yearNow", "I", false)
  | 8 => ("RoadsNotGoneByModel", "leads", "[I", true)
  | 9 => ("RoadsNotGoneByModel", "jars", "[I", true)
  | 10 => ("RoadsNotGoneByModel", "rows", "[I", true)
  | 11 => ("RoadsNotGoneByModel", "many", "I", false)
  | 12 => ("RoadsNotGoneByModel", "ofCrossing", "I", false)
  | 13 => ("RoadsNotGoneByModel", "ofJar", "I", false)
  | 14 => ("RoadsNotGoneByModel", "ofNumber", "I", false)
  | 15 => ("RoadsNotGoneByModel", "ofYear", "I", false)
  | 16 => ("RoadsNotGoneByModel", "ofMood", "I", false)
  | 17 => ("RoadsNotGoneByModel", "ofEaten", "I", false)
  | 18 => ("RoadsNotGoneByModel", "from", "I", false)
  | 19 => ("RoadsNotGoneByModel", "size", "I", false)
  | 20 => ("RoadsNotGoneByModel", "here", "I", false)
  | 21 => ("RoadsNotGoneByModel", "token", "I", false)
  | 22 => ("RoadsNotGoneByModel", "tokenAt", "I", false)
  | 23 => ("RoadsNotGoneByModel", "tokenWorth", "J", false)
  | 24 => ("RoadsNotGoneByModel", "open", "I", false)
  | 25 => ("RoadsNotGoneByModel", "bad", "Z", false)
  | 26 => ("RoadsNotGoneByModel", "fault", "I", false)
  | 27 => ("RoadsNotGoneByModel", "was", "[I", true)
  | 28 => ("RoadsNotGoneByModel", "ways", "[J", true)
  | 29 => ("RoadsNotGoneByModel", "waysNext", "[J", true)
  | 30 => ("RoadsNotGoneByModel", "costs", "[I", true)
  | 31 => ("RoadsNotGoneByModel", "costsNext", "[I", true)
  | 32 => ("RoadsNotGoneByModel", "leadsWas", "[I", true)
  | 33 => ("RoadsNotGoneByModel", "leadsKept", "[I", true)
  | 34 => ("RoadsNotGoneByModel", "jarsKept", "[I", true)
  | 35 => ("RoadsNotGoneByModel", "rowsKept", "[I", true)
  | 36 => ("RoadsNotGoneByModel", "manyKept", "I", false)
  | 37 => ("RoadsNotGoneByModel", "yearKept", "I", false)
  | 38 => ("RoadsNotGoneByModel", "ruleKept", "I", false)
  | 39 => ("RoadsNotGoneByModel", "isThere", "[Z", true)
  | 40 => ("RoadsNotGoneByModel", "sorts", "[I", true)
  | 41 => ("RoadsNotGoneByModel", "sheetSize", "[I", true)
  | _ => ("RoadsNotGoneByModel", "items", "[I", true)
def tyX8 : Nat → FieldType := fun k => match k with
  | 0 => .int
  | 1 => .array .int
  | 2 => .array .int
  | 3 => .int
  | 4 => .int
  | 5 => .array .int
  | 6 => .int
  | 7 => .int
  | 8 => .array .int
  | 9 => .array .int
  | 10 => .array .int
  | 11 => .int
  | 12 => .int
  | 13 => .int
  | 14 => .int
  | 15 => .int
  | 16 => .int
  | 17 => .int
  | 18 => .int
  | 19 => .int
  | 20 => .int
  | 21 => .int
  | 22 => .int
  | 23 => .long
  | 24 => .int
  | 25 => .boolean
  | 26 => .int
  | 27 => .array .int
  | 28 => .array .long
  | 29 => .array .long
  | 30 => .array .int
  | 31 => .array .int
  | 32 => .array .int
  | 33 => .array .int
  | 34 => .array .int
  | 35 => .array .int
  | 36 => .int
  | 37 => .int
  | 38 => .int
  | 39 => .array .boolean
  | 40 => .array .int
  | 41 => .array .int
  | _ => .array .int
abbrev wsX80 : List Cond := u_ws RX8 TX8 43
set_option maxRecDepth 100000 in
theorem nmX8 : ∀ a, a < 43 → ∀ b, b < 43 → a ≠ b → (TX8 a).2.1 ≠ (TX8 b).2.1 := by decide +kernel
set_option maxRecDepth 100000 in
theorem tyX8_ok : ∀ k, k < 43 → parseFieldDescriptor (TX8 k).2.2.1 = some (tyX8 k) := by decide +kernel
abbrev cX8_init : ByteArray := prog_16_method_4_code
def yX8_init : MethodName := ⟨RX8, "<init>", "()V"⟩
def dkwX8_init_14 : List UInt8 := [4, 181, 0, 80, 177]
abbrev dktX8_init_14 : List UInt8 := dkwX8_init_14 ++ []
def dkwX8_init_13 : List UInt8 := [16, 32, 16, 32, 16, 32, 16, 32, 16, 32, 16, 32, 182, 0, 76, 42, 180, 0, 17, 3, 16, 48, 79, 42]
abbrev dktX8_init_13 : List UInt8 := dkwX8_init_13 ++ dktX8_init_14
def dkwX8_init_12 : List UInt8 := [16, 102, 16, 101, 16, 101, 16, 108, 16, 115, 16, 32, 16, 53, 182, 0, 76, 42, 16, 40, 16, 32, 16, 59]
abbrev dktX8_init_12 : List UInt8 := dkwX8_init_12 ++ dktX8_init_13
def dkwX8_init_11 : List UInt8 := [16, 112, 16, 117, 16, 116, 16, 115, 16, 32, 16, 50, 16, 32, 16, 59, 182, 0, 76, 42, 16, 32, 16, 32]
abbrev dktX8_init_11 : List UInt8 := dkwX8_init_11 ++ dktX8_init_12
def dkwX8_init_10 : List UInt8 := [16, 16, 16, 32, 16, 121, 16, 101, 16, 97, 16, 114, 16, 32, 16, 59, 16, 32, 182, 0, 76, 42, 16, 24]
abbrev dktX8_init_10 : List UInt8 := dkwX8_init_10 ++ dktX8_init_11
def dkwX8_init_9 : List UInt8 := [42, 16, 8, 16, 111, 16, 115, 16, 115, 16, 105, 16, 110, 16, 103, 16, 32, 16, 43, 182, 0, 76, 42]
abbrev dktX8_init_9 : List UInt8 := dkwX8_init_9 ++ dktX8_init_10
def dkwX8_init_8 : List UInt8 := [167, 255, 229, 42, 3, 16, 116, 16, 97, 16, 107, 16, 101, 16, 115, 16, 32, 16, 99, 16, 114, 182, 0, 76]
abbrev dktX8_init_8 : List UInt8 := dkwX8_init_8 ++ dktX8_init_9
def dkwX8_init_7 : List UInt8 := [162, 0, 27, 42, 180, 0, 23, 27, 27, 5, 108, 4, 96, 27, 5, 112, 96, 16, 12, 112, 79, 132, 1, 1]
abbrev dktX8_init_7 : List UInt8 := dkwX8_init_7 ++ dktX8_init_8
def dkwX8_init_6 : List UInt8 := [181, 0, 67, 42, 7, 188, 10, 181, 0, 70, 42, 17, 0, 160, 188, 10, 181, 0, 73, 3, 60, 27, 16, 24]
abbrev dktX8_init_6 : List UInt8 := dkwX8_init_6 ++ dktX8_init_7
def dkwX8_init_5 : List UInt8 := [42, 16, 25, 188, 10, 181, 0, 57, 42, 2, 181, 0, 60, 42, 7, 188, 4, 181, 0, 63, 42, 7, 188, 10]
abbrev dktX8_init_5 : List UInt8 := dkwX8_init_5 ++ dktX8_init_6
def dkwX8_init_4 : List UInt8 := [42, 16, 24, 188, 10, 181, 0, 48, 42, 16, 24, 188, 10, 181, 0, 51, 42, 16, 24, 188, 10, 181, 0, 54]
abbrev dktX8_init_4 : List UInt8 := dkwX8_init_4 ++ dktX8_init_5
def dkwX8_init_3 : List UInt8 := [42, 16, 12, 188, 11, 181, 0, 39, 42, 16, 12, 188, 10, 181, 0, 42, 42, 16, 12, 188, 10, 181, 0, 45]
abbrev dktX8_init_3 : List UInt8 := dkwX8_init_3 ++ dktX8_init_4
def dkwX8_init_2 : List UInt8 := [42, 16, 25, 188, 10, 181, 0, 29, 42, 16, 50, 188, 10, 181, 0, 32, 42, 16, 12, 188, 11, 181, 0, 35]
abbrev dktX8_init_2 : List UInt8 := dkwX8_init_2 ++ dktX8_init_3
def dkwX8_init_1 : List UInt8 := [17, 0, 160, 188, 10, 181, 0, 20, 42, 16, 24, 188, 10, 181, 0, 23, 42, 16, 24, 188, 10, 181, 0, 26]
abbrev dktX8_init_1 : List UInt8 := dkwX8_init_1 ++ dktX8_init_2
def dkwX8_init_0 : List UInt8 := [42, 183, 0, 7, 42, 17, 3, 192, 188, 10, 181, 0, 13, 42, 16, 6, 188, 10, 181, 0, 17, 42]
abbrev dktX8_init_0 : List UInt8 := dkwX8_init_0 ++ dktX8_init_1
theorem dksX8_init_0 : cX8_init.data.toList.drop 0 = dktX8_init_0 := by decide +kernel
theorem dksX8_init_1 : cX8_init.data.toList.drop 22 = dktX8_init_1 := dk_seg dksX8_init_0 22 rfl rfl
theorem dksX8_init_2 : cX8_init.data.toList.drop 46 = dktX8_init_2 := dk_seg dksX8_init_1 24 rfl rfl
theorem dksX8_init_3 : cX8_init.data.toList.drop 70 = dktX8_init_3 := dk_seg dksX8_init_2 24 rfl rfl
theorem dksX8_init_4 : cX8_init.data.toList.drop 94 = dktX8_init_4 := dk_seg dksX8_init_3 24 rfl rfl
theorem dksX8_init_5 : cX8_init.data.toList.drop 118 = dktX8_init_5 := dk_seg dksX8_init_4 24 rfl rfl
theorem dksX8_init_6 : cX8_init.data.toList.drop 142 = dktX8_init_6 := dk_seg dksX8_init_5 24 rfl rfl
theorem dksX8_init_7 : cX8_init.data.toList.drop 166 = dktX8_init_7 := dk_seg dksX8_init_6 24 rfl rfl
theorem dksX8_init_8 : cX8_init.data.toList.drop 190 = dktX8_init_8 := dk_seg dksX8_init_7 24 rfl rfl
theorem dksX8_init_9 : cX8_init.data.toList.drop 214 = dktX8_init_9 := dk_seg dksX8_init_8 24 rfl rfl
theorem dksX8_init_10 : cX8_init.data.toList.drop 237 = dktX8_init_10 := dk_seg dksX8_init_9 23 rfl rfl
theorem dksX8_init_11 : cX8_init.data.toList.drop 261 = dktX8_init_11 := dk_seg dksX8_init_10 24 rfl rfl
theorem dksX8_init_12 : cX8_init.data.toList.drop 285 = dktX8_init_12 := dk_seg dksX8_init_11 24 rfl rfl
theorem dksX8_init_13 : cX8_init.data.toList.drop 309 = dktX8_init_13 := dk_seg dksX8_init_12 24 rfl rfl
theorem dksX8_init_14 : cX8_init.data.toList.drop 333 = dktX8_init_14 := dk_seg dksX8_init_13 24 rfl rfl
theorem dX8_init_0 : decode cX8_init 0 = .ok (.aload_n 0, 1) := dk_42 (dk_at dksX8_init_0 0 rfl rfl)
theorem dX8_init_1 : decode cX8_init 1 = .ok (.invokespecial 7, 3) := dk_183 0 7 (dk_at dksX8_init_0 1 rfl rfl)
theorem dX8_init_4 : decode cX8_init 4 = .ok (.aload_n 0, 1) := dk_42 (dk_at dksX8_init_0 4 rfl rfl)
theorem dX8_init_5 : decode cX8_init 5 = .ok (.sipush 960, 3) := dk_17 3 192 (dk_at dksX8_init_0 5 rfl rfl)
theorem dX8_init_8 : decode cX8_init 8 = .ok (.newarray .int, 2) := dk_188_10 (dk_at dksX8_init_0 8 rfl rfl)
theorem dX8_init_10 : decode cX8_init 10 = .ok (.putfield 13, 3) := dk_181 0 13 (dk_at dksX8_init_0 10 rfl rfl)
theorem dX8_init_13 : decode cX8_init 13 = .ok (.aload_n 0, 1) := dk_42 (dk_at dksX8_init_0 13 rfl rfl)
theorem dX8_init_14 : decode cX8_init 14 = .ok (.bipush 6, 2) := dk_16 6 (dk_at dksX8_init_0 14 rfl rfl)
theorem dX8_init_16 : decode cX8_init 16 = .ok (.newarray .int, 2) := dk_188_10 (dk_at dksX8_init_0 16 rfl rfl)
theorem dX8_init_18 : decode cX8_init 18 = .ok (.putfield 17, 3) := dk_181 0 17 (dk_at dksX8_init_0 18 rfl rfl)
theorem dX8_init_21 : decode cX8_init 21 = .ok (.aload_n 0, 1) := dk_42 (dk_at dksX8_init_0 21 rfl rfl)
theorem dX8_init_22 : decode cX8_init 22 = .ok (.sipush 160, 3) := dk_17 0 160 (dk_at dksX8_init_1 0 rfl rfl)
theorem dX8_init_25 : decode cX8_init 25 = .ok (.newarray .int, 2) := dk_188_10 (dk_at dksX8_init_1 3 rfl rfl)
theorem dX8_init_27 : decode cX8_init 27 = .ok (.putfield 20, 3) := dk_181 0 20 (dk_at dksX8_init_1 5 rfl rfl)
theorem dX8_init_30 : decode cX8_init 30 = .ok (.aload_n 0, 1) := dk_42 (dk_at dksX8_init_1 8 rfl rfl)
theorem dX8_init_31 : decode cX8_init 31 = .ok (.bipush 24, 2) := dk_16 24 (dk_at dksX8_init_1 9 rfl rfl)
theorem dX8_init_33 : decode cX8_init 33 = .ok (.newarray .int, 2) := dk_188_10 (dk_at dksX8_init_1 11 rfl rfl)
theorem dX8_init_35 : decode cX8_init 35 = .ok (.putfield 23, 3) := dk_181 0 23 (dk_at dksX8_init_1 13 rfl rfl)
theorem dX8_init_38 : decode cX8_init 38 = .ok (.aload_n 0, 1) := dk_42 (dk_at dksX8_init_1 16 rfl rfl)
theorem dX8_init_39 : decode cX8_init 39 = .ok (.bipush 24, 2) := dk_16 24 (dk_at dksX8_init_1 17 rfl rfl)
theorem dX8_init_41 : decode cX8_init 41 = .ok (.newarray .int, 2) := dk_188_10 (dk_at dksX8_init_1 19 rfl rfl)
theorem dX8_init_43 : decode cX8_init 43 = .ok (.putfield 26, 3) := dk_181 0 26 (dk_at dksX8_init_1 21 rfl rfl)
theorem dX8_init_46 : decode cX8_init 46 = .ok (.aload_n 0, 1) := dk_42 (dk_at dksX8_init_2 0 rfl rfl)
theorem dX8_init_47 : decode cX8_init 47 = .ok (.bipush 25, 2) := dk_16 25 (dk_at dksX8_init_2 1 rfl rfl)
theorem dX8_init_49 : decode cX8_init 49 = .ok (.newarray .int, 2) := dk_188_10 (dk_at dksX8_init_2 3 rfl rfl)
theorem dX8_init_51 : decode cX8_init 51 = .ok (.putfield 29, 3) := dk_181 0 29 (dk_at dksX8_init_2 5 rfl rfl)
theorem dX8_init_54 : decode cX8_init 54 = .ok (.aload_n 0, 1) := dk_42 (dk_at dksX8_init_2 8 rfl rfl)
theorem dX8_init_55 : decode cX8_init 55 = .ok (.bipush 50, 2) := dk_16 50 (dk_at dksX8_init_2 9 rfl rfl)
theorem dX8_init_57 : decode cX8_init 57 = .ok (.newarray .int, 2) := dk_188_10 (dk_at dksX8_init_2 11 rfl rfl)
theorem dX8_init_59 : decode cX8_init 59 = .ok (.putfield 32, 3) := dk_181 0 32 (dk_at dksX8_init_2 13 rfl rfl)
theorem dX8_init_62 : decode cX8_init 62 = .ok (.aload_n 0, 1) := dk_42 (dk_at dksX8_init_2 16 rfl rfl)
theorem dX8_init_63 : decode cX8_init 63 = .ok (.bipush 12, 2) := dk_16 12 (dk_at dksX8_init_2 17 rfl rfl)
theorem dX8_init_65 : decode cX8_init 65 = .ok (.newarray .long, 2) := dk_188_11 (dk_at dksX8_init_2 19 rfl rfl)
theorem dX8_init_67 : decode cX8_init 67 = .ok (.putfield 35, 3) := dk_181 0 35 (dk_at dksX8_init_2 21 rfl rfl)
theorem dX8_init_70 : decode cX8_init 70 = .ok (.aload_n 0, 1) := dk_42 (dk_at dksX8_init_3 0 rfl rfl)
theorem dX8_init_71 : decode cX8_init 71 = .ok (.bipush 12, 2) := dk_16 12 (dk_at dksX8_init_3 1 rfl rfl)
theorem dX8_init_73 : decode cX8_init 73 = .ok (.newarray .long, 2) := dk_188_11 (dk_at dksX8_init_3 3 rfl rfl)
theorem dX8_init_75 : decode cX8_init 75 = .ok (.putfield 39, 3) := dk_181 0 39 (dk_at dksX8_init_3 5 rfl rfl)
theorem dX8_init_78 : decode cX8_init 78 = .ok (.aload_n 0, 1) := dk_42 (dk_at dksX8_init_3 8 rfl rfl)
theorem dX8_init_79 : decode cX8_init 79 = .ok (.bipush 12, 2) := dk_16 12 (dk_at dksX8_init_3 9 rfl rfl)
theorem dX8_init_81 : decode cX8_init 81 = .ok (.newarray .int, 2) := dk_188_10 (dk_at dksX8_init_3 11 rfl rfl)
theorem dX8_init_83 : decode cX8_init 83 = .ok (.putfield 42, 3) := dk_181 0 42 (dk_at dksX8_init_3 13 rfl rfl)
theorem dX8_init_86 : decode cX8_init 86 = .ok (.aload_n 0, 1) := dk_42 (dk_at dksX8_init_3 16 rfl rfl)
theorem dX8_init_87 : decode cX8_init 87 = .ok (.bipush 12, 2) := dk_16 12 (dk_at dksX8_init_3 17 rfl rfl)
theorem dX8_init_89 : decode cX8_init 89 = .ok (.newarray .int, 2) := dk_188_10 (dk_at dksX8_init_3 19 rfl rfl)
theorem dX8_init_91 : decode cX8_init 91 = .ok (.putfield 45, 3) := dk_181 0 45 (dk_at dksX8_init_3 21 rfl rfl)
theorem dX8_init_94 : decode cX8_init 94 = .ok (.aload_n 0, 1) := dk_42 (dk_at dksX8_init_4 0 rfl rfl)
theorem dX8_init_95 : decode cX8_init 95 = .ok (.bipush 24, 2) := dk_16 24 (dk_at dksX8_init_4 1 rfl rfl)
theorem dX8_init_97 : decode cX8_init 97 = .ok (.newarray .int, 2) := dk_188_10 (dk_at dksX8_init_4 3 rfl rfl)
theorem dX8_init_99 : decode cX8_init 99 = .ok (.putfield 48, 3) := dk_181 0 48 (dk_at dksX8_init_4 5 rfl rfl)
theorem dX8_init_102 : decode cX8_init 102 = .ok (.aload_n 0, 1) := dk_42 (dk_at dksX8_init_4 8 rfl rfl)
theorem dX8_init_103 : decode cX8_init 103 = .ok (.bipush 24, 2) := dk_16 24 (dk_at dksX8_init_4 9 rfl rfl)
theorem dX8_init_105 : decode cX8_init 105 = .ok (.newarray .int, 2) := dk_188_10 (dk_at dksX8_init_4 11 rfl rfl)
theorem dX8_init_107 : decode cX8_init 107 = .ok (.putfield 51, 3) := dk_181 0 51 (dk_at dksX8_init_4 13 rfl rfl)
theorem dX8_init_110 : decode cX8_init 110 = .ok (.aload_n 0, 1) := dk_42 (dk_at dksX8_init_4 16 rfl rfl)
theorem dX8_init_111 : decode cX8_init 111 = .ok (.bipush 24, 2) := dk_16 24 (dk_at dksX8_init_4 17 rfl rfl)
theorem dX8_init_113 : decode cX8_init 113 = .ok (.newarray .int, 2) := dk_188_10 (dk_at dksX8_init_4 19 rfl rfl)
theorem dX8_init_115 : decode cX8_init 115 = .ok (.putfield 54, 3) := dk_181 0 54 (dk_at dksX8_init_4 21 rfl rfl)
theorem dX8_init_118 : decode cX8_init 118 = .ok (.aload_n 0, 1) := dk_42 (dk_at dksX8_init_5 0 rfl rfl)
theorem dX8_init_119 : decode cX8_init 119 = .ok (.bipush 25, 2) := dk_16 25 (dk_at dksX8_init_5 1 rfl rfl)
theorem dX8_init_121 : decode cX8_init 121 = .ok (.newarray .int, 2) := dk_188_10 (dk_at dksX8_init_5 3 rfl rfl)
theorem dX8_init_123 : decode cX8_init 123 = .ok (.putfield 57, 3) := dk_181 0 57 (dk_at dksX8_init_5 5 rfl rfl)
theorem dX8_init_126 : decode cX8_init 126 = .ok (.aload_n 0, 1) := dk_42 (dk_at dksX8_init_5 8 rfl rfl)
theorem dX8_init_127 : decode cX8_init 127 = .ok (.iconst (-1), 1) := dk_2 (dk_at dksX8_init_5 9 rfl rfl)
theorem dX8_init_128 : decode cX8_init 128 = .ok (.putfield 60, 3) := dk_181 0 60 (dk_at dksX8_init_5 10 rfl rfl)
theorem dX8_init_131 : decode cX8_init 131 = .ok (.aload_n 0, 1) := dk_42 (dk_at dksX8_init_5 13 rfl rfl)
theorem dX8_init_132 : decode cX8_init 132 = .ok (.iconst 4, 1) := dk_7 (dk_at dksX8_init_5 14 rfl rfl)
theorem dX8_init_133 : decode cX8_init 133 = .ok (.newarray .boolean, 2) := dk_188_4 (dk_at dksX8_init_5 15 rfl rfl)
theorem dX8_init_135 : decode cX8_init 135 = .ok (.putfield 63, 3) := dk_181 0 63 (dk_at dksX8_init_5 17 rfl rfl)
theorem dX8_init_138 : decode cX8_init 138 = .ok (.aload_n 0, 1) := dk_42 (dk_at dksX8_init_5 20 rfl rfl)
theorem dX8_init_139 : decode cX8_init 139 = .ok (.iconst 4, 1) := dk_7 (dk_at dksX8_init_5 21 rfl rfl)
theorem dX8_init_140 : decode cX8_init 140 = .ok (.newarray .int, 2) := dk_188_10 (dk_at dksX8_init_5 22 rfl rfl)
theorem dX8_init_142 : decode cX8_init 142 = .ok (.putfield 67, 3) := dk_181 0 67 (dk_at dksX8_init_6 0 rfl rfl)
theorem dX8_init_145 : decode cX8_init 145 = .ok (.aload_n 0, 1) := dk_42 (dk_at dksX8_init_6 3 rfl rfl)
theorem dX8_init_146 : decode cX8_init 146 = .ok (.iconst 4, 1) := dk_7 (dk_at dksX8_init_6 4 rfl rfl)
theorem dX8_init_147 : decode cX8_init 147 = .ok (.newarray .int, 2) := dk_188_10 (dk_at dksX8_init_6 5 rfl rfl)
theorem dX8_init_149 : decode cX8_init 149 = .ok (.putfield 70, 3) := dk_181 0 70 (dk_at dksX8_init_6 7 rfl rfl)
theorem dX8_init_152 : decode cX8_init 152 = .ok (.aload_n 0, 1) := dk_42 (dk_at dksX8_init_6 10 rfl rfl)
theorem dX8_init_153 : decode cX8_init 153 = .ok (.sipush 160, 3) := dk_17 0 160 (dk_at dksX8_init_6 11 rfl rfl)
theorem dX8_init_156 : decode cX8_init 156 = .ok (.newarray .int, 2) := dk_188_10 (dk_at dksX8_init_6 14 rfl rfl)
theorem dX8_init_158 : decode cX8_init 158 = .ok (.putfield 73, 3) := dk_181 0 73 (dk_at dksX8_init_6 16 rfl rfl)
theorem dX8_init_161 : decode cX8_init 161 = .ok (.iconst 0, 1) := dk_3 (dk_at dksX8_init_6 19 rfl rfl)
theorem dX8_init_162 : decode cX8_init 162 = .ok (.istore_n 1, 1) := dk_60 (dk_at dksX8_init_6 20 rfl rfl)
theorem dX8_init_163 : decode cX8_init 163 = .ok (.iload_n 1, 1) := dk_27 (dk_at dksX8_init_6 21 rfl rfl)
theorem dX8_init_164 : decode cX8_init 164 = .ok (.bipush 24, 2) := dk_16 24 (dk_at dksX8_init_6 22 rfl rfl)
theorem dX8_init_166 : decode cX8_init 166 = .ok (.if_icmp .ge 27, 3) := dk_162 0 27 (dk_at dksX8_init_7 0 rfl rfl)
theorem dX8_init_169 : decode cX8_init 169 = .ok (.aload_n 0, 1) := dk_42 (dk_at dksX8_init_7 3 rfl rfl)
theorem dX8_init_170 : decode cX8_init 170 = .ok (.getfield 23, 3) := dk_180 0 23 (dk_at dksX8_init_7 4 rfl rfl)
theorem dX8_init_173 : decode cX8_init 173 = .ok (.iload_n 1, 1) := dk_27 (dk_at dksX8_init_7 7 rfl rfl)
theorem dX8_init_174 : decode cX8_init 174 = .ok (.iload_n 1, 1) := dk_27 (dk_at dksX8_init_7 8 rfl rfl)
theorem dX8_init_175 : decode cX8_init 175 = .ok (.iconst 2, 1) := dk_5 (dk_at dksX8_init_7 9 rfl rfl)
theorem dX8_init_176 : decode cX8_init 176 = .ok (.idiv, 1) := dk_108 (dk_at dksX8_init_7 10 rfl rfl)
theorem dX8_init_177 : decode cX8_init 177 = .ok (.iconst 1, 1) := dk_4 (dk_at dksX8_init_7 11 rfl rfl)
theorem dX8_init_178 : decode cX8_init 178 = .ok (.iadd, 1) := dk_96 (dk_at dksX8_init_7 12 rfl rfl)
theorem dX8_init_179 : decode cX8_init 179 = .ok (.iload_n 1, 1) := dk_27 (dk_at dksX8_init_7 13 rfl rfl)
theorem dX8_init_180 : decode cX8_init 180 = .ok (.iconst 2, 1) := dk_5 (dk_at dksX8_init_7 14 rfl rfl)
theorem dX8_init_181 : decode cX8_init 181 = .ok (.irem, 1) := dk_112 (dk_at dksX8_init_7 15 rfl rfl)
theorem dX8_init_182 : decode cX8_init 182 = .ok (.iadd, 1) := dk_96 (dk_at dksX8_init_7 16 rfl rfl)
theorem dX8_init_183 : decode cX8_init 183 = .ok (.bipush 12, 2) := dk_16 12 (dk_at dksX8_init_7 17 rfl rfl)
theorem dX8_init_185 : decode cX8_init 185 = .ok (.irem, 1) := dk_112 (dk_at dksX8_init_7 19 rfl rfl)
theorem dX8_init_186 : decode cX8_init 186 = .ok (.iastore, 1) := dk_79 (dk_at dksX8_init_7 20 rfl rfl)
theorem dX8_init_187 : decode cX8_init 187 = .ok (.iinc 1 1, 3) := dk_132 1 1 (dk_at dksX8_init_7 21 rfl rfl)
theorem dX8_init_190 : decode cX8_init 190 = .ok (.goto (-27), 3) := dk_167 255 229 (dk_at dksX8_init_8 0 rfl rfl)
theorem dX8_init_193 : decode cX8_init 193 = .ok (.aload_n 0, 1) := dk_42 (dk_at dksX8_init_8 3 rfl rfl)
theorem dX8_init_194 : decode cX8_init 194 = .ok (.iconst 0, 1) := dk_3 (dk_at dksX8_init_8 4 rfl rfl)
theorem dX8_init_195 : decode cX8_init 195 = .ok (.bipush 116, 2) := dk_16 116 (dk_at dksX8_init_8 5 rfl rfl)
theorem dX8_init_197 : decode cX8_init 197 = .ok (.bipush 97, 2) := dk_16 97 (dk_at dksX8_init_8 7 rfl rfl)
theorem dX8_init_199 : decode cX8_init 199 = .ok (.bipush 107, 2) := dk_16 107 (dk_at dksX8_init_8 9 rfl rfl)
theorem dX8_init_201 : decode cX8_init 201 = .ok (.bipush 101, 2) := dk_16 101 (dk_at dksX8_init_8 11 rfl rfl)
theorem dX8_init_203 : decode cX8_init 203 = .ok (.bipush 115, 2) := dk_16 115 (dk_at dksX8_init_8 13 rfl rfl)
theorem dX8_init_205 : decode cX8_init 205 = .ok (.bipush 32, 2) := dk_16 32 (dk_at dksX8_init_8 15 rfl rfl)
theorem dX8_init_207 : decode cX8_init 207 = .ok (.bipush 99, 2) := dk_16 99 (dk_at dksX8_init_8 17 rfl rfl)
theorem dX8_init_209 : decode cX8_init 209 = .ok (.bipush 114, 2) := dk_16 114 (dk_at dksX8_init_8 19 rfl rfl)
theorem dX8_init_211 : decode cX8_init 211 = .ok (.invokevirtual 76, 3) := dk_182 0 76 (dk_at dksX8_init_8 21 rfl rfl)
theorem dX8_init_214 : decode cX8_init 214 = .ok (.aload_n 0, 1) := dk_42 (dk_at dksX8_init_9 0 rfl rfl)
theorem dX8_init_215 : decode cX8_init 215 = .ok (.bipush 8, 2) := dk_16 8 (dk_at dksX8_init_9 1 rfl rfl)
theorem dX8_init_217 : decode cX8_init 217 = .ok (.bipush 111, 2) := dk_16 111 (dk_at dksX8_init_9 3 rfl rfl)
theorem dX8_init_219 : decode cX8_init 219 = .ok (.bipush 115, 2) := dk_16 115 (dk_at dksX8_init_9 5 rfl rfl)
theorem dX8_init_221 : decode cX8_init 221 = .ok (.bipush 115, 2) := dk_16 115 (dk_at dksX8_init_9 7 rfl rfl)
theorem dX8_init_223 : decode cX8_init 223 = .ok (.bipush 105, 2) := dk_16 105 (dk_at dksX8_init_9 9 rfl rfl)
theorem dX8_init_225 : decode cX8_init 225 = .ok (.bipush 110, 2) := dk_16 110 (dk_at dksX8_init_9 11 rfl rfl)
theorem dX8_init_227 : decode cX8_init 227 = .ok (.bipush 103, 2) := dk_16 103 (dk_at dksX8_init_9 13 rfl rfl)
theorem dX8_init_229 : decode cX8_init 229 = .ok (.bipush 32, 2) := dk_16 32 (dk_at dksX8_init_9 15 rfl rfl)
theorem dX8_init_231 : decode cX8_init 231 = .ok (.bipush 43, 2) := dk_16 43 (dk_at dksX8_init_9 17 rfl rfl)
theorem dX8_init_233 : decode cX8_init 233 = .ok (.invokevirtual 76, 3) := dk_182 0 76 (dk_at dksX8_init_9 19 rfl rfl)
theorem dX8_init_236 : decode cX8_init 236 = .ok (.aload_n 0, 1) := dk_42 (dk_at dksX8_init_9 22 rfl rfl)
theorem dX8_init_237 : decode cX8_init 237 = .ok (.bipush 16, 2) := dk_16 16 (dk_at dksX8_init_10 0 rfl rfl)
theorem dX8_init_239 : decode cX8_init 239 = .ok (.bipush 32, 2) := dk_16 32 (dk_at dksX8_init_10 2 rfl rfl)
theorem dX8_init_241 : decode cX8_init 241 = .ok (.bipush 121, 2) := dk_16 121 (dk_at dksX8_init_10 4 rfl rfl)
theorem dX8_init_243 : decode cX8_init 243 = .ok (.bipush 101, 2) := dk_16 101 (dk_at dksX8_init_10 6 rfl rfl)
theorem dX8_init_245 : decode cX8_init 245 = .ok (.bipush 97, 2) := dk_16 97 (dk_at dksX8_init_10 8 rfl rfl)
theorem dX8_init_247 : decode cX8_init 247 = .ok (.bipush 114, 2) := dk_16 114 (dk_at dksX8_init_10 10 rfl rfl)
theorem dX8_init_249 : decode cX8_init 249 = .ok (.bipush 32, 2) := dk_16 32 (dk_at dksX8_init_10 12 rfl rfl)
theorem dX8_init_251 : decode cX8_init 251 = .ok (.bipush 59, 2) := dk_16 59 (dk_at dksX8_init_10 14 rfl rfl)
theorem dX8_init_253 : decode cX8_init 253 = .ok (.bipush 32, 2) := dk_16 32 (dk_at dksX8_init_10 16 rfl rfl)
theorem dX8_init_255 : decode cX8_init 255 = .ok (.invokevirtual 76, 3) := dk_182 0 76 (dk_at dksX8_init_10 18 rfl rfl)
theorem dX8_init_258 : decode cX8_init 258 = .ok (.aload_n 0, 1) := dk_42 (dk_at dksX8_init_10 21 rfl rfl)
theorem dX8_init_259 : decode cX8_init 259 = .ok (.bipush 24, 2) := dk_16 24 (dk_at dksX8_init_10 22 rfl rfl)
theorem dX8_init_261 : decode cX8_init 261 = .ok (.bipush 112, 2) := dk_16 112 (dk_at dksX8_init_11 0 rfl rfl)
theorem dX8_init_263 : decode cX8_init 263 = .ok (.bipush 117, 2) := dk_16 117 (dk_at dksX8_init_11 2 rfl rfl)
theorem dX8_init_265 : decode cX8_init 265 = .ok (.bipush 116, 2) := dk_16 116 (dk_at dksX8_init_11 4 rfl rfl)
theorem dX8_init_267 : decode cX8_init 267 = .ok (.bipush 115, 2) := dk_16 115 (dk_at dksX8_init_11 6 rfl rfl)
theorem dX8_init_269 : decode cX8_init 269 = .ok (.bipush 32, 2) := dk_16 32 (dk_at dksX8_init_11 8 rfl rfl)
theorem dX8_init_271 : decode cX8_init 271 = .ok (.bipush 50, 2) := dk_16 50 (dk_at dksX8_init_11 10 rfl rfl)
theorem dX8_init_273 : decode cX8_init 273 = .ok (.bipush 32, 2) := dk_16 32 (dk_at dksX8_init_11 12 rfl rfl)
theorem dX8_init_275 : decode cX8_init 275 = .ok (.bipush 59, 2) := dk_16 59 (dk_at dksX8_init_11 14 rfl rfl)
theorem dX8_init_277 : decode cX8_init 277 = .ok (.invokevirtual 76, 3) := dk_182 0 76 (dk_at dksX8_init_11 16 rfl rfl)
theorem dX8_init_280 : decode cX8_init 280 = .ok (.aload_n 0, 1) := dk_42 (dk_at dksX8_init_11 19 rfl rfl)
theorem dX8_init_281 : decode cX8_init 281 = .ok (.bipush 32, 2) := dk_16 32 (dk_at dksX8_init_11 20 rfl rfl)
theorem dX8_init_283 : decode cX8_init 283 = .ok (.bipush 32, 2) := dk_16 32 (dk_at dksX8_init_11 22 rfl rfl)
theorem dX8_init_285 : decode cX8_init 285 = .ok (.bipush 102, 2) := dk_16 102 (dk_at dksX8_init_12 0 rfl rfl)
theorem dX8_init_287 : decode cX8_init 287 = .ok (.bipush 101, 2) := dk_16 101 (dk_at dksX8_init_12 2 rfl rfl)
theorem dX8_init_289 : decode cX8_init 289 = .ok (.bipush 101, 2) := dk_16 101 (dk_at dksX8_init_12 4 rfl rfl)
theorem dX8_init_291 : decode cX8_init 291 = .ok (.bipush 108, 2) := dk_16 108 (dk_at dksX8_init_12 6 rfl rfl)
theorem dX8_init_293 : decode cX8_init 293 = .ok (.bipush 115, 2) := dk_16 115 (dk_at dksX8_init_12 8 rfl rfl)
theorem dX8_init_295 : decode cX8_init 295 = .ok (.bipush 32, 2) := dk_16 32 (dk_at dksX8_init_12 10 rfl rfl)
theorem dX8_init_297 : decode cX8_init 297 = .ok (.bipush 53, 2) := dk_16 53 (dk_at dksX8_init_12 12 rfl rfl)
theorem dX8_init_299 : decode cX8_init 299 = .ok (.invokevirtual 76, 3) := dk_182 0 76 (dk_at dksX8_init_12 14 rfl rfl)
theorem dX8_init_302 : decode cX8_init 302 = .ok (.aload_n 0, 1) := dk_42 (dk_at dksX8_init_12 17 rfl rfl)
theorem dX8_init_303 : decode cX8_init 303 = .ok (.bipush 40, 2) := dk_16 40 (dk_at dksX8_init_12 18 rfl rfl)
theorem dX8_init_305 : decode cX8_init 305 = .ok (.bipush 32, 2) := dk_16 32 (dk_at dksX8_init_12 20 rfl rfl)
theorem dX8_init_307 : decode cX8_init 307 = .ok (.bipush 59, 2) := dk_16 59 (dk_at dksX8_init_12 22 rfl rfl)
theorem dX8_init_309 : decode cX8_init 309 = .ok (.bipush 32, 2) := dk_16 32 (dk_at dksX8_init_13 0 rfl rfl)
theorem dX8_init_311 : decode cX8_init 311 = .ok (.bipush 32, 2) := dk_16 32 (dk_at dksX8_init_13 2 rfl rfl)
theorem dX8_init_313 : decode cX8_init 313 = .ok (.bipush 32, 2) := dk_16 32 (dk_at dksX8_init_13 4 rfl rfl)
theorem dX8_init_315 : decode cX8_init 315 = .ok (.bipush 32, 2) := dk_16 32 (dk_at dksX8_init_13 6 rfl rfl)
theorem dX8_init_317 : decode cX8_init 317 = .ok (.bipush 32, 2) := dk_16 32 (dk_at dksX8_init_13 8 rfl rfl)
theorem dX8_init_319 : decode cX8_init 319 = .ok (.bipush 32, 2) := dk_16 32 (dk_at dksX8_init_13 10 rfl rfl)
theorem dX8_init_321 : decode cX8_init 321 = .ok (.invokevirtual 76, 3) := dk_182 0 76 (dk_at dksX8_init_13 12 rfl rfl)
theorem dX8_init_324 : decode cX8_init 324 = .ok (.aload_n 0, 1) := dk_42 (dk_at dksX8_init_13 15 rfl rfl)
theorem dX8_init_325 : decode cX8_init 325 = .ok (.getfield 17, 3) := dk_180 0 17 (dk_at dksX8_init_13 16 rfl rfl)
theorem dX8_init_328 : decode cX8_init 328 = .ok (.iconst 0, 1) := dk_3 (dk_at dksX8_init_13 19 rfl rfl)
theorem dX8_init_329 : decode cX8_init 329 = .ok (.bipush 48, 2) := dk_16 48 (dk_at dksX8_init_13 20 rfl rfl)
theorem dX8_init_331 : decode cX8_init 331 = .ok (.iastore, 1) := dk_79 (dk_at dksX8_init_13 22 rfl rfl)
theorem dX8_init_332 : decode cX8_init 332 = .ok (.aload_n 0, 1) := dk_42 (dk_at dksX8_init_13 23 rfl rfl)
theorem dX8_init_333 : decode cX8_init 333 = .ok (.iconst 1, 1) := dk_4 (dk_at dksX8_init_14 0 rfl rfl)
theorem dX8_init_334 : decode cX8_init 334 = .ok (.putfield 80, 3) := dk_181 0 80 (dk_at dksX8_init_14 1 rfl rfl)
theorem dX8_init_337 : decode cX8_init 337 = .ok (.return_, 1) := dk_177 (dk_at dksX8_init_14 4 rfl rfl)
abbrev cX8_spell : ByteArray := prog_16_method_5_code
def yX8_spell : MethodName := ⟨RX8, "spell", "(IIIIIIIII)V"⟩
def dkwX8_spell_3 : List UInt8 := [27, 16, 7, 96, 21, 9, 79, 177]
abbrev dktX8_spell_3 : List UInt8 := dkwX8_spell_3 ++ []
def dkwX8_spell_2 : List UInt8 := [180, 0, 13, 27, 8, 96, 21, 7, 79, 42, 180, 0, 13, 27, 16, 6, 96, 21, 8, 79, 42, 180, 0, 13]
abbrev dktX8_spell_2 : List UInt8 := dkwX8_spell_2 ++ dktX8_spell_3
def dkwX8_spell_1 : List UInt8 := [21, 4, 79, 42, 180, 0, 13, 27, 6, 96, 21, 5, 79, 42, 180, 0, 13, 27, 7, 96, 21, 6, 79, 42]
abbrev dktX8_spell_1 : List UInt8 := dkwX8_spell_1 ++ dktX8_spell_2
def dkwX8_spell_0 : List UInt8 := [42, 180, 0, 13, 27, 28, 79, 42, 180, 0, 13, 27, 4, 96, 29, 79, 42, 180, 0, 13, 27, 5, 96]
abbrev dktX8_spell_0 : List UInt8 := dkwX8_spell_0 ++ dktX8_spell_1
theorem dksX8_spell_0 : cX8_spell.data.toList.drop 0 = dktX8_spell_0 := by decide +kernel
theorem dksX8_spell_1 : cX8_spell.data.toList.drop 23 = dktX8_spell_1 := dk_seg dksX8_spell_0 23 rfl rfl
theorem dksX8_spell_2 : cX8_spell.data.toList.drop 47 = dktX8_spell_2 := dk_seg dksX8_spell_1 24 rfl rfl
theorem dksX8_spell_3 : cX8_spell.data.toList.drop 71 = dktX8_spell_3 := dk_seg dksX8_spell_2 24 rfl rfl
theorem dX8_spell_0 : decode cX8_spell 0 = .ok (.aload_n 0, 1) := dk_42 (dk_at dksX8_spell_0 0 rfl rfl)
theorem dX8_spell_1 : decode cX8_spell 1 = .ok (.getfield 13, 3) := dk_180 0 13 (dk_at dksX8_spell_0 1 rfl rfl)
theorem dX8_spell_4 : decode cX8_spell 4 = .ok (.iload_n 1, 1) := dk_27 (dk_at dksX8_spell_0 4 rfl rfl)
theorem dX8_spell_5 : decode cX8_spell 5 = .ok (.iload_n 2, 1) := dk_28 (dk_at dksX8_spell_0 5 rfl rfl)
theorem dX8_spell_6 : decode cX8_spell 6 = .ok (.iastore, 1) := dk_79 (dk_at dksX8_spell_0 6 rfl rfl)
theorem dX8_spell_7 : decode cX8_spell 7 = .ok (.aload_n 0, 1) := dk_42 (dk_at dksX8_spell_0 7 rfl rfl)
theorem dX8_spell_8 : decode cX8_spell 8 = .ok (.getfield 13, 3) := dk_180 0 13 (dk_at dksX8_spell_0 8 rfl rfl)
theorem dX8_spell_11 : decode cX8_spell 11 = .ok (.iload_n 1, 1) := dk_27 (dk_at dksX8_spell_0 11 rfl rfl)
theorem dX8_spell_12 : decode cX8_spell 12 = .ok (.iconst 1, 1) := dk_4 (dk_at dksX8_spell_0 12 rfl rfl)
theorem dX8_spell_13 : decode cX8_spell 13 = .ok (.iadd, 1) := dk_96 (dk_at dksX8_spell_0 13 rfl rfl)
theorem dX8_spell_14 : decode cX8_spell 14 = .ok (.iload_n 3, 1) := dk_29 (dk_at dksX8_spell_0 14 rfl rfl)
theorem dX8_spell_15 : decode cX8_spell 15 = .ok (.iastore, 1) := dk_79 (dk_at dksX8_spell_0 15 rfl rfl)
theorem dX8_spell_16 : decode cX8_spell 16 = .ok (.aload_n 0, 1) := dk_42 (dk_at dksX8_spell_0 16 rfl rfl)
theorem dX8_spell_17 : decode cX8_spell 17 = .ok (.getfield 13, 3) := dk_180 0 13 (dk_at dksX8_spell_0 17 rfl rfl)
theorem dX8_spell_20 : decode cX8_spell 20 = .ok (.iload_n 1, 1) := dk_27 (dk_at dksX8_spell_0 20 rfl rfl)
theorem dX8_spell_21 : decode cX8_spell 21 = .ok (.iconst 2, 1) := dk_5 (dk_at dksX8_spell_0 21 rfl rfl)
theorem dX8_spell_22 : decode cX8_spell 22 = .ok (.iadd, 1) := dk_96 (dk_at dksX8_spell_0 22 rfl rfl)
theorem dX8_spell_23 : decode cX8_spell 23 = .ok (.iload 4, 2) := dk_21 4 (dk_at dksX8_spell_1 0 rfl rfl)
theorem dX8_spell_25 : decode cX8_spell 25 = .ok (.iastore, 1) := dk_79 (dk_at dksX8_spell_1 2 rfl rfl)
theorem dX8_spell_26 : decode cX8_spell 26 = .ok (.aload_n 0, 1) := dk_42 (dk_at dksX8_spell_1 3 rfl rfl)
theorem dX8_spell_27 : decode cX8_spell 27 = .ok (.getfield 13, 3) := dk_180 0 13 (dk_at dksX8_spell_1 4 rfl rfl)
theorem dX8_spell_30 : decode cX8_spell 30 = .ok (.iload_n 1, 1) := dk_27 (dk_at dksX8_spell_1 7 rfl rfl)
theorem dX8_spell_31 : decode cX8_spell 31 = .ok (.iconst 3, 1) := dk_6 (dk_at dksX8_spell_1 8 rfl rfl)
theorem dX8_spell_32 : decode cX8_spell 32 = .ok (.iadd, 1) := dk_96 (dk_at dksX8_spell_1 9 rfl rfl)
theorem dX8_spell_33 : decode cX8_spell 33 = .ok (.iload 5, 2) := dk_21 5 (dk_at dksX8_spell_1 10 rfl rfl)
theorem dX8_spell_35 : decode cX8_spell 35 = .ok (.iastore, 1) := dk_79 (dk_at dksX8_spell_1 12 rfl rfl)
theorem dX8_spell_36 : decode cX8_spell 36 = .ok (.aload_n 0, 1) := dk_42 (dk_at dksX8_spell_1 13 rfl rfl)
theorem dX8_spell_37 : decode cX8_spell 37 = .ok (.getfield 13, 3) := dk_180 0 13 (dk_at dksX8_spell_1 14 rfl rfl)
theorem dX8_spell_40 : decode cX8_spell 40 = .ok (.iload_n 1, 1) := dk_27 (dk_at dksX8_spell_1 17 rfl rfl)
theorem dX8_spell_41 : decode cX8_spell 41 = .ok (.iconst 4, 1) := dk_7 (dk_at dksX8_spell_1 18 rfl rfl)
theorem dX8_spell_42 : decode cX8_spell 42 = .ok (.iadd, 1) := dk_96 (dk_at dksX8_spell_1 19 rfl rfl)
theorem dX8_spell_43 : decode cX8_spell 43 = .ok (.iload 6, 2) := dk_21 6 (dk_at dksX8_spell_1 20 rfl rfl)
theorem dX8_spell_45 : decode cX8_spell 45 = .ok (.iastore, 1) := dk_79 (dk_at dksX8_spell_1 22 rfl rfl)
theorem dX8_spell_46 : decode cX8_spell 46 = .ok (.aload_n 0, 1) := dk_42 (dk_at dksX8_spell_1 23 rfl rfl)
theorem dX8_spell_47 : decode cX8_spell 47 = .ok (.getfield 13, 3) := dk_180 0 13 (dk_at dksX8_spell_2 0 rfl rfl)
theorem dX8_spell_50 : decode cX8_spell 50 = .ok (.iload_n 1, 1) := dk_27 (dk_at dksX8_spell_2 3 rfl rfl)
theorem dX8_spell_51 : decode cX8_spell 51 = .ok (.iconst 5, 1) := dk_8 (dk_at dksX8_spell_2 4 rfl rfl)
theorem dX8_spell_52 : decode cX8_spell 52 = .ok (.iadd, 1) := dk_96 (dk_at dksX8_spell_2 5 rfl rfl)
theorem dX8_spell_53 : decode cX8_spell 53 = .ok (.iload 7, 2) := dk_21 7 (dk_at dksX8_spell_2 6 rfl rfl)
theorem dX8_spell_55 : decode cX8_spell 55 = .ok (.iastore, 1) := dk_79 (dk_at dksX8_spell_2 8 rfl rfl)
theorem dX8_spell_56 : decode cX8_spell 56 = .ok (.aload_n 0, 1) := dk_42 (dk_at dksX8_spell_2 9 rfl rfl)
theorem dX8_spell_57 : decode cX8_spell 57 = .ok (.getfield 13, 3) := dk_180 0 13 (dk_at dksX8_spell_2 10 rfl rfl)
theorem dX8_spell_60 : decode cX8_spell 60 = .ok (.iload_n 1, 1) := dk_27 (dk_at dksX8_spell_2 13 rfl rfl)
theorem dX8_spell_61 : decode cX8_spell 61 = .ok (.bipush 6, 2) := dk_16 6 (dk_at dksX8_spell_2 14 rfl rfl)
theorem dX8_spell_63 : decode cX8_spell 63 = .ok (.iadd, 1) := dk_96 (dk_at dksX8_spell_2 16 rfl rfl)
theorem dX8_spell_64 : decode cX8_spell 64 = .ok (.iload 8, 2) := dk_21 8 (dk_at dksX8_spell_2 17 rfl rfl)
theorem dX8_spell_66 : decode cX8_spell 66 = .ok (.iastore, 1) := dk_79 (dk_at dksX8_spell_2 19 rfl rfl)
theorem dX8_spell_67 : decode cX8_spell 67 = .ok (.aload_n 0, 1) := dk_42 (dk_at dksX8_spell_2 20 rfl rfl)
theorem dX8_spell_68 : decode cX8_spell 68 = .ok (.getfield 13, 3) := dk_180 0 13 (dk_at dksX8_spell_2 21 rfl rfl)
theorem dX8_spell_71 : decode cX8_spell 71 = .ok (.iload_n 1, 1) := dk_27 (dk_at dksX8_spell_3 0 rfl rfl)
theorem dX8_spell_72 : decode cX8_spell 72 = .ok (.bipush 7, 2) := dk_16 7 (dk_at dksX8_spell_3 1 rfl rfl)
theorem dX8_spell_74 : decode cX8_spell 74 = .ok (.iadd, 1) := dk_96 (dk_at dksX8_spell_3 3 rfl rfl)
theorem dX8_spell_75 : decode cX8_spell 75 = .ok (.iload 9, 2) := dk_21 9 (dk_at dksX8_spell_3 4 rfl rfl)
theorem dX8_spell_77 : decode cX8_spell 77 = .ok (.iastore, 1) := dk_79 (dk_at dksX8_spell_3 6 rfl rfl)
theorem dX8_spell_78 : decode cX8_spell 78 = .ok (.return_, 1) := dk_177 (dk_at dksX8_spell_3 7 rfl rfl)
abbrev cX8_set : ByteArray := prog_16_method_11_code
def yX8_set : MethodName := ⟨RX8, "set", "(III)I"⟩
def dkwX8_set_2 : List UInt8 := [17, 252, 24, 172, 42, 28, 27, 182, 0, 116, 54, 4, 42, 27, 28, 29, 182, 0, 120, 21, 4, 172]
abbrev dktX8_set_2 : List UInt8 := dkwX8_set_2 ++ []
def dkwX8_set_1 : List UInt8 := [8, 160, 0, 9, 20, 0, 110, 167, 0, 4, 9, 27, 184, 0, 112, 133, 184, 0, 86, 154, 0, 7]
abbrev dktX8_set_1 : List UInt8 := dkwX8_set_1 ++ dktX8_set_2
def dkwX8_set_0 : List UInt8 := [27, 133, 9, 20, 0, 104, 184, 0, 86, 153, 0, 37, 42, 27, 28, 182, 0, 106, 153, 0, 28, 29, 133, 27]
abbrev dktX8_set_0 : List UInt8 := dkwX8_set_0 ++ dktX8_set_1
theorem dksX8_set_0 : cX8_set.data.toList.drop 0 = dktX8_set_0 := by decide +kernel
theorem dksX8_set_1 : cX8_set.data.toList.drop 24 = dktX8_set_1 := dk_seg dksX8_set_0 24 rfl rfl
theorem dksX8_set_2 : cX8_set.data.toList.drop 46 = dktX8_set_2 := dk_seg dksX8_set_1 22 rfl rfl
theorem dX8_set_0 : decode cX8_set 0 = .ok (.iload_n 1, 1) := dk_27 (dk_at dksX8_set_0 0 rfl rfl)
theorem dX8_set_1 : decode cX8_set 1 = .ok (.i2l, 1) := dk_133 (dk_at dksX8_set_0 1 rfl rfl)
theorem dX8_set_2 : decode cX8_set 2 = .ok (.lconst 0, 1) := dk_9 (dk_at dksX8_set_0 2 rfl rfl)
theorem dX8_set_3 : decode cX8_set 3 = .ok (.ldc2_w 104, 3) := dk_20 0 104 (dk_at dksX8_set_0 3 rfl rfl)
theorem dX8_set_6 : decode cX8_set 6 = .ok (.invokestatic 86, 3) := dk_184 0 86 (dk_at dksX8_set_0 6 rfl rfl)
theorem dX8_set_9 : decode cX8_set 9 = .ok (.ifCond .eq 37, 3) := dk_153 0 37 (dk_at dksX8_set_0 9 rfl rfl)
theorem dX8_set_12 : decode cX8_set 12 = .ok (.aload_n 0, 1) := dk_42 (dk_at dksX8_set_0 12 rfl rfl)
theorem dX8_set_13 : decode cX8_set 13 = .ok (.iload_n 1, 1) := dk_27 (dk_at dksX8_set_0 13 rfl rfl)
theorem dX8_set_14 : decode cX8_set 14 = .ok (.iload_n 2, 1) := dk_28 (dk_at dksX8_set_0 14 rfl rfl)
theorem dX8_set_15 : decode cX8_set 15 = .ok (.invokevirtual 106, 3) := dk_182 0 106 (dk_at dksX8_set_0 15 rfl rfl)
theorem dX8_set_18 : decode cX8_set 18 = .ok (.ifCond .eq 28, 3) := dk_153 0 28 (dk_at dksX8_set_0 18 rfl rfl)
theorem dX8_set_21 : decode cX8_set 21 = .ok (.iload_n 3, 1) := dk_29 (dk_at dksX8_set_0 21 rfl rfl)
theorem dX8_set_22 : decode cX8_set 22 = .ok (.i2l, 1) := dk_133 (dk_at dksX8_set_0 22 rfl rfl)
theorem dX8_set_23 : decode cX8_set 23 = .ok (.iload_n 1, 1) := dk_27 (dk_at dksX8_set_0 23 rfl rfl)
theorem dX8_set_24 : decode cX8_set 24 = .ok (.iconst 5, 1) := dk_8 (dk_at dksX8_set_1 0 rfl rfl)
theorem dX8_set_25 : decode cX8_set 25 = .ok (.if_icmp .ne 9, 3) := dk_160 0 9 (dk_at dksX8_set_1 1 rfl rfl)
theorem dX8_set_28 : decode cX8_set 28 = .ok (.ldc2_w 110, 3) := dk_20 0 110 (dk_at dksX8_set_1 4 rfl rfl)
theorem dX8_set_31 : decode cX8_set 31 = .ok (.goto 4, 3) := dk_167 0 4 (dk_at dksX8_set_1 7 rfl rfl)
theorem dX8_set_34 : decode cX8_set 34 = .ok (.lconst 0, 1) := dk_9 (dk_at dksX8_set_1 10 rfl rfl)
theorem dX8_set_35 : decode cX8_set 35 = .ok (.iload_n 1, 1) := dk_27 (dk_at dksX8_set_1 11 rfl rfl)
theorem dX8_set_36 : decode cX8_set 36 = .ok (.invokestatic 112, 3) := dk_184 0 112 (dk_at dksX8_set_1 12 rfl rfl)
theorem dX8_set_39 : decode cX8_set 39 = .ok (.i2l, 1) := dk_133 (dk_at dksX8_set_1 15 rfl rfl)
theorem dX8_set_40 : decode cX8_set 40 = .ok (.invokestatic 86, 3) := dk_184 0 86 (dk_at dksX8_set_1 16 rfl rfl)
theorem dX8_set_43 : decode cX8_set 43 = .ok (.ifCond .ne 7, 3) := dk_154 0 7 (dk_at dksX8_set_1 19 rfl rfl)
theorem dX8_set_46 : decode cX8_set 46 = .ok (.sipush (-1000), 3) := dk_17 252 24 (dk_at dksX8_set_2 0 rfl rfl)
theorem dX8_set_49 : decode cX8_set 49 = .ok (.ireturn, 1) := dk_172 (dk_at dksX8_set_2 3 rfl rfl)
theorem dX8_set_50 : decode cX8_set 50 = .ok (.aload_n 0, 1) := dk_42 (dk_at dksX8_set_2 4 rfl rfl)
theorem dX8_set_51 : decode cX8_set 51 = .ok (.iload_n 2, 1) := dk_28 (dk_at dksX8_set_2 5 rfl rfl)
theorem dX8_set_52 : decode cX8_set 52 = .ok (.iload_n 1, 1) := dk_27 (dk_at dksX8_set_2 6 rfl rfl)
theorem dX8_set_53 : decode cX8_set 53 = .ok (.invokevirtual 116, 3) := dk_182 0 116 (dk_at dksX8_set_2 7 rfl rfl)
theorem dX8_set_56 : decode cX8_set 56 = .ok (.istore 4, 2) := dk_54 4 (dk_at dksX8_set_2 10 rfl rfl)
theorem dX8_set_58 : decode cX8_set 58 = .ok (.aload_n 0, 1) := dk_42 (dk_at dksX8_set_2 12 rfl rfl)
theorem dX8_set_59 : decode cX8_set 59 = .ok (.iload_n 1, 1) := dk_27 (dk_at dksX8_set_2 13 rfl rfl)
theorem dX8_set_60 : decode cX8_set 60 = .ok (.iload_n 2, 1) := dk_28 (dk_at dksX8_set_2 14 rfl rfl)
theorem dX8_set_61 : decode cX8_set 61 = .ok (.iload_n 3, 1) := dk_29 (dk_at dksX8_set_2 15 rfl rfl)
theorem dX8_set_62 : decode cX8_set 62 = .ok (.invokevirtual 120, 3) := dk_182 0 120 (dk_at dksX8_set_2 16 rfl rfl)
theorem dX8_set_65 : decode cX8_set 65 = .ok (.iload 4, 2) := dk_21 4 (dk_at dksX8_set_2 19 rfl rfl)
theorem dX8_set_67 : decode cX8_set 67 = .ok (.ireturn, 1) := dk_172 (dk_at dksX8_set_2 21 rfl rfl)
abbrev cX8_in : ByteArray := prog_16_method_2_code
def yX8_in : MethodName := ⟨RX8, "in", "(JJJ)Z"⟩
def dkwX8_in_0 : List UInt8 := [30, 32, 148, 155, 0, 14, 30, 22, 4, 148, 157, 0, 7, 4, 167, 0, 4, 3, 172]
abbrev dktX8_in_0 : List UInt8 := dkwX8_in_0 ++ []
theorem dksX8_in_0 : cX8_in.data.toList.drop 0 = dktX8_in_0 := by decide +kernel
theorem dX8_in_0 : decode cX8_in 0 = .ok (.lload_n 0, 1) := dk_30 (dk_at dksX8_in_0 0 rfl rfl)
theorem dX8_in_1 : decode cX8_in 1 = .ok (.lload_n 2, 1) := dk_32 (dk_at dksX8_in_0 1 rfl rfl)
theorem dX8_in_2 : decode cX8_in 2 = .ok (.lcmp, 1) := dk_148 (dk_at dksX8_in_0 2 rfl rfl)
theorem dX8_in_3 : decode cX8_in 3 = .ok (.ifCond .lt 14, 3) := dk_155 0 14 (dk_at dksX8_in_0 3 rfl rfl)
theorem dX8_in_6 : decode cX8_in 6 = .ok (.lload_n 0, 1) := dk_30 (dk_at dksX8_in_0 6 rfl rfl)
theorem dX8_in_7 : decode cX8_in 7 = .ok (.lload 4, 2) := dk_22 4 (dk_at dksX8_in_0 7 rfl rfl)
theorem dX8_in_9 : decode cX8_in 9 = .ok (.lcmp, 1) := dk_148 (dk_at dksX8_in_0 9 rfl rfl)
theorem dX8_in_10 : decode cX8_in 10 = .ok (.ifCond .gt 7, 3) := dk_157 0 7 (dk_at dksX8_in_0 10 rfl rfl)
theorem dX8_in_13 : decode cX8_in 13 = .ok (.iconst 1, 1) := dk_4 (dk_at dksX8_in_0 13 rfl rfl)
theorem dX8_in_14 : decode cX8_in 14 = .ok (.goto 4, 3) := dk_167 0 4 (dk_at dksX8_in_0 14 rfl rfl)
theorem dX8_in_17 : decode cX8_in 17 = .ok (.iconst 0, 1) := dk_3 (dk_at dksX8_in_0 17 rfl rfl)
theorem dX8_in_18 : decode cX8_in 18 = .ok (.ireturn, 1) := dk_172 (dk_at dksX8_in_0 18 rfl rfl)
abbrev cX8_isOf : ByteArray := prog_16_method_9_code
def yX8_isOf : MethodName := ⟨RX8, "isOf", "(II)Z"⟩
def dkwX8_isOf_1 : List UInt8 := [16, 10, 160, 0, 10, 28, 184, 0, 98, 167, 0, 8, 42, 28, 182, 0, 101, 172]
abbrev dktX8_isOf_1 : List UInt8 := dkwX8_isOf_1 ++ []
def dkwX8_isOf_0 : List UInt8 := [27, 6, 162, 0, 21, 27, 5, 159, 0, 10, 28, 184, 0, 94, 153, 0, 7, 4, 167, 0, 4, 3, 172, 27]
abbrev dktX8_isOf_0 : List UInt8 := dkwX8_isOf_0 ++ dktX8_isOf_1
theorem dksX8_isOf_0 : cX8_isOf.data.toList.drop 0 = dktX8_isOf_0 := by decide +kernel
theorem dksX8_isOf_1 : cX8_isOf.data.toList.drop 24 = dktX8_isOf_1 := dk_seg dksX8_isOf_0 24 rfl rfl
theorem dX8_isOf_0 : decode cX8_isOf 0 = .ok (.iload_n 1, 1) := dk_27 (dk_at dksX8_isOf_0 0 rfl rfl)
theorem dX8_isOf_1 : decode cX8_isOf 1 = .ok (.iconst 3, 1) := dk_6 (dk_at dksX8_isOf_0 1 rfl rfl)
theorem dX8_isOf_2 : decode cX8_isOf 2 = .ok (.if_icmp .ge 21, 3) := dk_162 0 21 (dk_at dksX8_isOf_0 2 rfl rfl)
theorem dX8_isOf_5 : decode cX8_isOf 5 = .ok (.iload_n 1, 1) := dk_27 (dk_at dksX8_isOf_0 5 rfl rfl)
theorem dX8_isOf_6 : decode cX8_isOf 6 = .ok (.iconst 2, 1) := dk_5 (dk_at dksX8_isOf_0 6 rfl rfl)
theorem dX8_isOf_7 : decode cX8_isOf 7 = .ok (.if_icmp .eq 10, 3) := dk_159 0 10 (dk_at dksX8_isOf_0 7 rfl rfl)
theorem dX8_isOf_10 : decode cX8_isOf 10 = .ok (.iload_n 2, 1) := dk_28 (dk_at dksX8_isOf_0 10 rfl rfl)
theorem dX8_isOf_11 : decode cX8_isOf 11 = .ok (.invokestatic 94, 3) := dk_184 0 94 (dk_at dksX8_isOf_0 11 rfl rfl)
theorem dX8_isOf_14 : decode cX8_isOf 14 = .ok (.ifCond .eq 7, 3) := dk_153 0 7 (dk_at dksX8_isOf_0 14 rfl rfl)
theorem dX8_isOf_17 : decode cX8_isOf 17 = .ok (.iconst 1, 1) := dk_4 (dk_at dksX8_isOf_0 17 rfl rfl)
theorem dX8_isOf_18 : decode cX8_isOf 18 = .ok (.goto 4, 3) := dk_167 0 4 (dk_at dksX8_isOf_0 18 rfl rfl)
theorem dX8_isOf_21 : decode cX8_isOf 21 = .ok (.iconst 0, 1) := dk_3 (dk_at dksX8_isOf_0 21 rfl rfl)
theorem dX8_isOf_22 : decode cX8_isOf 22 = .ok (.ireturn, 1) := dk_172 (dk_at dksX8_isOf_0 22 rfl rfl)
theorem dX8_isOf_23 : decode cX8_isOf 23 = .ok (.iload_n 1, 1) := dk_27 (dk_at dksX8_isOf_0 23 rfl rfl)
theorem dX8_isOf_24 : decode cX8_isOf 24 = .ok (.bipush 10, 2) := dk_16 10 (dk_at dksX8_isOf_1 0 rfl rfl)
theorem dX8_isOf_26 : decode cX8_isOf 26 = .ok (.if_icmp .ne 10, 3) := dk_160 0 10 (dk_at dksX8_isOf_1 2 rfl rfl)
theorem dX8_isOf_29 : decode cX8_isOf 29 = .ok (.iload_n 2, 1) := dk_28 (dk_at dksX8_isOf_1 5 rfl rfl)
theorem dX8_isOf_30 : decode cX8_isOf 30 = .ok (.invokestatic 98, 3) := dk_184 0 98 (dk_at dksX8_isOf_1 6 rfl rfl)
theorem dX8_isOf_33 : decode cX8_isOf 33 = .ok (.goto 8, 3) := dk_167 0 8 (dk_at dksX8_isOf_1 9 rfl rfl)
theorem dX8_isOf_36 : decode cX8_isOf 36 = .ok (.aload_n 0, 1) := dk_42 (dk_at dksX8_isOf_1 12 rfl rfl)
theorem dX8_isOf_37 : decode cX8_isOf 37 = .ok (.iload_n 2, 1) := dk_28 (dk_at dksX8_isOf_1 13 rfl rfl)
theorem dX8_isOf_38 : decode cX8_isOf 38 = .ok (.invokevirtual 101, 3) := dk_182 0 101 (dk_at dksX8_isOf_1 14 rfl rfl)
theorem dX8_isOf_41 : decode cX8_isOf 41 = .ok (.ireturn, 1) := dk_172 (dk_at dksX8_isOf_1 17 rfl rfl)
abbrev cX8_isJar : ByteArray := prog_16_method_8_code
def yX8_isJar : MethodName := ⟨RX8, "isJar", "(I)Z"⟩
def dkwX8_isJar_0 : List UInt8 := [26, 133, 9, 20, 0, 92, 184, 0, 86, 172]
abbrev dktX8_isJar_0 : List UInt8 := dkwX8_isJar_0 ++ []
theorem dksX8_isJar_0 : cX8_isJar.data.toList.drop 0 = dktX8_isJar_0 := by decide +kernel
theorem dX8_isJar_0 : decode cX8_isJar 0 = .ok (.iload_n 0, 1) := dk_26 (dk_at dksX8_isJar_0 0 rfl rfl)
theorem dX8_isJar_1 : decode cX8_isJar 1 = .ok (.i2l, 1) := dk_133 (dk_at dksX8_isJar_0 1 rfl rfl)
theorem dX8_isJar_2 : decode cX8_isJar 2 = .ok (.lconst 0, 1) := dk_9 (dk_at dksX8_isJar_0 2 rfl rfl)
theorem dX8_isJar_3 : decode cX8_isJar 3 = .ok (.ldc2_w 92, 3) := dk_20 0 92 (dk_at dksX8_isJar_0 3 rfl rfl)
theorem dX8_isJar_6 : decode cX8_isJar 6 = .ok (.invokestatic 86, 3) := dk_184 0 86 (dk_at dksX8_isJar_0 6 rfl rfl)
theorem dX8_isJar_9 : decode cX8_isJar 9 = .ok (.ireturn, 1) := dk_172 (dk_at dksX8_isJar_0 9 rfl rfl)
abbrev cX8_isCrossing : ByteArray := prog_16_method_7_code
def yX8_isCrossing : MethodName := ⟨RX8, "isCrossing", "(I)Z"⟩
def dkwX8_isCrossing_0 : List UInt8 := [26, 133, 9, 20, 0, 90, 184, 0, 86, 172]
abbrev dktX8_isCrossing_0 : List UInt8 := dkwX8_isCrossing_0 ++ []
theorem dksX8_isCrossing_0 : cX8_isCrossing.data.toList.drop 0 = dktX8_isCrossing_0 := by decide +kernel
theorem dX8_isCrossing_0 : decode cX8_isCrossing 0 = .ok (.iload_n 0, 1) := dk_26 (dk_at dksX8_isCrossing_0 0 rfl rfl)
theorem dX8_isCrossing_1 : decode cX8_isCrossing 1 = .ok (.i2l, 1) := dk_133 (dk_at dksX8_isCrossing_0 1 rfl rfl)
theorem dX8_isCrossing_2 : decode cX8_isCrossing 2 = .ok (.lconst 0, 1) := dk_9 (dk_at dksX8_isCrossing_0 2 rfl rfl)
theorem dX8_isCrossing_3 : decode cX8_isCrossing 3 = .ok (.ldc2_w 90, 3) := dk_20 0 90 (dk_at dksX8_isCrossing_0 3 rfl rfl)
theorem dX8_isCrossing_6 : decode cX8_isCrossing 6 = .ok (.invokestatic 86, 3) := dk_184 0 86 (dk_at dksX8_isCrossing_0 6 rfl rfl)
theorem dX8_isCrossing_9 : decode cX8_isCrossing 9 = .ok (.ireturn, 1) := dk_172 (dk_at dksX8_isCrossing_0 9 rfl rfl)
abbrev cX8_isOne : ByteArray := prog_16_method_6_code
def yX8_isOne : MethodName := ⟨RX8, "isOne", "(I)Z"⟩
def dkwX8_isOne_0 : List UInt8 := [27, 133, 9, 42, 180, 0, 83, 4, 100, 133, 184, 0, 86, 172]
abbrev dktX8_isOne_0 : List UInt8 := dkwX8_isOne_0 ++ []
theorem dksX8_isOne_0 : cX8_isOne.data.toList.drop 0 = dktX8_isOne_0 := by decide +kernel
theorem dX8_isOne_0 : decode cX8_isOne 0 = .ok (.iload_n 1, 1) := dk_27 (dk_at dksX8_isOne_0 0 rfl rfl)
theorem dX8_isOne_1 : decode cX8_isOne 1 = .ok (.i2l, 1) := dk_133 (dk_at dksX8_isOne_0 1 rfl rfl)
theorem dX8_isOne_2 : decode cX8_isOne 2 = .ok (.lconst 0, 1) := dk_9 (dk_at dksX8_isOne_0 2 rfl rfl)
theorem dX8_isOne_3 : decode cX8_isOne 3 = .ok (.aload_n 0, 1) := dk_42 (dk_at dksX8_isOne_0 3 rfl rfl)
theorem dX8_isOne_4 : decode cX8_isOne 4 = .ok (.getfield 83, 3) := dk_180 0 83 (dk_at dksX8_isOne_0 4 rfl rfl)
theorem dX8_isOne_7 : decode cX8_isOne 7 = .ok (.iconst 1, 1) := dk_4 (dk_at dksX8_isOne_0 7 rfl rfl)
theorem dX8_isOne_8 : decode cX8_isOne 8 = .ok (.isub, 1) := dk_100 (dk_at dksX8_isOne_0 8 rfl rfl)
theorem dX8_isOne_9 : decode cX8_isOne 9 = .ok (.i2l, 1) := dk_133 (dk_at dksX8_isOne_0 9 rfl rfl)
theorem dX8_isOne_10 : decode cX8_isOne 10 = .ok (.invokestatic 86, 3) := dk_184 0 86 (dk_at dksX8_isOne_0 10 rfl rfl)
theorem dX8_isOne_13 : decode cX8_isOne 13 = .ok (.ireturn, 1) := dk_172 (dk_at dksX8_isOne_0 13 rfl rfl)
abbrev cX8_mostOf : ByteArray := prog_16_method_10_code
def yX8_mostOf : MethodName := ⟨RX8, "mostOf", "(I)I"⟩
def dkwX8_mostOf_1 : List UInt8 := [26, 8, 160, 0, 8, 16, 99, 167, 0, 6, 17, 3, 231, 172]
abbrev dktX8_mostOf_1 : List UInt8 := dkwX8_mostOf_1 ++ []
def dkwX8_mostOf_0 : List UInt8 := [26, 153, 0, 8, 26, 7, 160, 0, 8, 16, 11, 167, 0, 26, 26, 6, 160, 0, 8, 16, 9, 167, 0, 16]
abbrev dktX8_mostOf_0 : List UInt8 := dkwX8_mostOf_0 ++ dktX8_mostOf_1
theorem dksX8_mostOf_0 : cX8_mostOf.data.toList.drop 0 = dktX8_mostOf_0 := by decide +kernel
theorem dksX8_mostOf_1 : cX8_mostOf.data.toList.drop 24 = dktX8_mostOf_1 := dk_seg dksX8_mostOf_0 24 rfl rfl
theorem dX8_mostOf_0 : decode cX8_mostOf 0 = .ok (.iload_n 0, 1) := dk_26 (dk_at dksX8_mostOf_0 0 rfl rfl)
theorem dX8_mostOf_1 : decode cX8_mostOf 1 = .ok (.ifCond .eq 8, 3) := dk_153 0 8 (dk_at dksX8_mostOf_0 1 rfl rfl)
theorem dX8_mostOf_4 : decode cX8_mostOf 4 = .ok (.iload_n 0, 1) := dk_26 (dk_at dksX8_mostOf_0 4 rfl rfl)
theorem dX8_mostOf_5 : decode cX8_mostOf 5 = .ok (.iconst 4, 1) := dk_7 (dk_at dksX8_mostOf_0 5 rfl rfl)
theorem dX8_mostOf_6 : decode cX8_mostOf 6 = .ok (.if_icmp .ne 8, 3) := dk_160 0 8 (dk_at dksX8_mostOf_0 6 rfl rfl)
theorem dX8_mostOf_9 : decode cX8_mostOf 9 = .ok (.bipush 11, 2) := dk_16 11 (dk_at dksX8_mostOf_0 9 rfl rfl)
theorem dX8_mostOf_11 : decode cX8_mostOf 11 = .ok (.goto 26, 3) := dk_167 0 26 (dk_at dksX8_mostOf_0 11 rfl rfl)
theorem dX8_mostOf_14 : decode cX8_mostOf 14 = .ok (.iload_n 0, 1) := dk_26 (dk_at dksX8_mostOf_0 14 rfl rfl)
theorem dX8_mostOf_15 : decode cX8_mostOf 15 = .ok (.iconst 3, 1) := dk_6 (dk_at dksX8_mostOf_0 15 rfl rfl)
theorem dX8_mostOf_16 : decode cX8_mostOf 16 = .ok (.if_icmp .ne 8, 3) := dk_160 0 8 (dk_at dksX8_mostOf_0 16 rfl rfl)
theorem dX8_mostOf_19 : decode cX8_mostOf 19 = .ok (.bipush 9, 2) := dk_16 9 (dk_at dksX8_mostOf_0 19 rfl rfl)
theorem dX8_mostOf_21 : decode cX8_mostOf 21 = .ok (.goto 16, 3) := dk_167 0 16 (dk_at dksX8_mostOf_0 21 rfl rfl)
theorem dX8_mostOf_24 : decode cX8_mostOf 24 = .ok (.iload_n 0, 1) := dk_26 (dk_at dksX8_mostOf_1 0 rfl rfl)
theorem dX8_mostOf_25 : decode cX8_mostOf 25 = .ok (.iconst 5, 1) := dk_8 (dk_at dksX8_mostOf_1 1 rfl rfl)
theorem dX8_mostOf_26 : decode cX8_mostOf 26 = .ok (.if_icmp .ne 8, 3) := dk_160 0 8 (dk_at dksX8_mostOf_1 2 rfl rfl)
theorem dX8_mostOf_29 : decode cX8_mostOf 29 = .ok (.bipush 99, 2) := dk_16 99 (dk_at dksX8_mostOf_1 5 rfl rfl)
theorem dX8_mostOf_31 : decode cX8_mostOf 31 = .ok (.goto 6, 3) := dk_167 0 6 (dk_at dksX8_mostOf_1 7 rfl rfl)
theorem dX8_mostOf_34 : decode cX8_mostOf 34 = .ok (.sipush 999, 3) := dk_17 3 231 (dk_at dksX8_mostOf_1 10 rfl rfl)
theorem dX8_mostOf_37 : decode cX8_mostOf 37 = .ok (.ireturn, 1) := dk_172 (dk_at dksX8_mostOf_1 13 rfl rfl)
abbrev cX8_told : ByteArray := prog_16_method_14_code
def yX8_told : MethodName := ⟨RX8, "told", "(II)I"⟩
def dkwX8_told_4 : List UInt8 := [16, 9, 160, 0, 11, 42, 27, 182, 0, 139, 167, 0, 8, 42, 27, 182, 0, 142, 172]
abbrev dktX8_told_4 : List UInt8 := dkwX8_told_4 ++ []
def dkwX8_told_3 : List UInt8 := [8, 27, 104, 28, 96, 6, 100, 46, 172, 28, 16, 8, 160, 0, 11, 42, 27, 182, 0, 136, 167, 0, 22, 28]
abbrev dktX8_told_3 : List UInt8 := dkwX8_told_3 ++ dktX8_told_4
def dkwX8_told_2 : List UInt8 := [42, 180, 0, 26, 27, 46, 167, 0, 7, 42, 180, 0, 124, 172, 28, 16, 8, 162, 0, 16, 42, 180, 0, 29]
abbrev dktX8_told_2 : List UInt8 := dkwX8_told_2 ++ dktX8_told_3
def dkwX8_told_1 : List UInt8 := [172, 28, 6, 162, 0, 35, 28, 154, 0, 12, 42, 180, 0, 23, 27, 46, 167, 0, 21, 28, 4, 160, 0, 12]
abbrev dktX8_told_1 : List UInt8 := dkwX8_told_1 ++ dktX8_told_2
def dkwX8_told_0 : List UInt8 := [28, 133, 9, 20, 0, 134, 184, 0, 86, 153, 0, 12, 42, 28, 27, 182, 0, 106, 154, 0, 7, 17, 252, 24]
abbrev dktX8_told_0 : List UInt8 := dkwX8_told_0 ++ dktX8_told_1
theorem dksX8_told_0 : cX8_told.data.toList.drop 0 = dktX8_told_0 := by decide +kernel
theorem dksX8_told_1 : cX8_told.data.toList.drop 24 = dktX8_told_1 := dk_seg dksX8_told_0 24 rfl rfl
theorem dksX8_told_2 : cX8_told.data.toList.drop 48 = dktX8_told_2 := dk_seg dksX8_told_1 24 rfl rfl
theorem dksX8_told_3 : cX8_told.data.toList.drop 72 = dktX8_told_3 := dk_seg dksX8_told_2 24 rfl rfl
theorem dksX8_told_4 : cX8_told.data.toList.drop 96 = dktX8_told_4 := dk_seg dksX8_told_3 24 rfl rfl
theorem dX8_told_0 : decode cX8_told 0 = .ok (.iload_n 2, 1) := dk_28 (dk_at dksX8_told_0 0 rfl rfl)
theorem dX8_told_1 : decode cX8_told 1 = .ok (.i2l, 1) := dk_133 (dk_at dksX8_told_0 1 rfl rfl)
theorem dX8_told_2 : decode cX8_told 2 = .ok (.lconst 0, 1) := dk_9 (dk_at dksX8_told_0 2 rfl rfl)
theorem dX8_told_3 : decode cX8_told 3 = .ok (.ldc2_w 134, 3) := dk_20 0 134 (dk_at dksX8_told_0 3 rfl rfl)
theorem dX8_told_6 : decode cX8_told 6 = .ok (.invokestatic 86, 3) := dk_184 0 86 (dk_at dksX8_told_0 6 rfl rfl)
theorem dX8_told_9 : decode cX8_told 9 = .ok (.ifCond .eq 12, 3) := dk_153 0 12 (dk_at dksX8_told_0 9 rfl rfl)
theorem dX8_told_12 : decode cX8_told 12 = .ok (.aload_n 0, 1) := dk_42 (dk_at dksX8_told_0 12 rfl rfl)
theorem dX8_told_13 : decode cX8_told 13 = .ok (.iload_n 2, 1) := dk_28 (dk_at dksX8_told_0 13 rfl rfl)
theorem dX8_told_14 : decode cX8_told 14 = .ok (.iload_n 1, 1) := dk_27 (dk_at dksX8_told_0 14 rfl rfl)
theorem dX8_told_15 : decode cX8_told 15 = .ok (.invokevirtual 106, 3) := dk_182 0 106 (dk_at dksX8_told_0 15 rfl rfl)
theorem dX8_told_18 : decode cX8_told 18 = .ok (.ifCond .ne 7, 3) := dk_154 0 7 (dk_at dksX8_told_0 18 rfl rfl)
theorem dX8_told_21 : decode cX8_told 21 = .ok (.sipush (-1000), 3) := dk_17 252 24 (dk_at dksX8_told_0 21 rfl rfl)
theorem dX8_told_24 : decode cX8_told 24 = .ok (.ireturn, 1) := dk_172 (dk_at dksX8_told_1 0 rfl rfl)
theorem dX8_told_25 : decode cX8_told 25 = .ok (.iload_n 2, 1) := dk_28 (dk_at dksX8_told_1 1 rfl rfl)
theorem dX8_told_26 : decode cX8_told 26 = .ok (.iconst 3, 1) := dk_6 (dk_at dksX8_told_1 2 rfl rfl)
theorem dX8_told_27 : decode cX8_told 27 = .ok (.if_icmp .ge 35, 3) := dk_162 0 35 (dk_at dksX8_told_1 3 rfl rfl)
theorem dX8_told_30 : decode cX8_told 30 = .ok (.iload_n 2, 1) := dk_28 (dk_at dksX8_told_1 6 rfl rfl)
theorem dX8_told_31 : decode cX8_told 31 = .ok (.ifCond .ne 12, 3) := dk_154 0 12 (dk_at dksX8_told_1 7 rfl rfl)
theorem dX8_told_34 : decode cX8_told 34 = .ok (.aload_n 0, 1) := dk_42 (dk_at dksX8_told_1 10 rfl rfl)
theorem dX8_told_35 : decode cX8_told 35 = .ok (.getfield 23, 3) := dk_180 0 23 (dk_at dksX8_told_1 11 rfl rfl)
theorem dX8_told_38 : decode cX8_told 38 = .ok (.iload_n 1, 1) := dk_27 (dk_at dksX8_told_1 14 rfl rfl)
theorem dX8_told_39 : decode cX8_told 39 = .ok (.iaload, 1) := dk_46 (dk_at dksX8_told_1 15 rfl rfl)
theorem dX8_told_40 : decode cX8_told 40 = .ok (.goto 21, 3) := dk_167 0 21 (dk_at dksX8_told_1 16 rfl rfl)
theorem dX8_told_43 : decode cX8_told 43 = .ok (.iload_n 2, 1) := dk_28 (dk_at dksX8_told_1 19 rfl rfl)
theorem dX8_told_44 : decode cX8_told 44 = .ok (.iconst 1, 1) := dk_4 (dk_at dksX8_told_1 20 rfl rfl)
theorem dX8_told_45 : decode cX8_told 45 = .ok (.if_icmp .ne 12, 3) := dk_160 0 12 (dk_at dksX8_told_1 21 rfl rfl)
theorem dX8_told_48 : decode cX8_told 48 = .ok (.aload_n 0, 1) := dk_42 (dk_at dksX8_told_2 0 rfl rfl)
theorem dX8_told_49 : decode cX8_told 49 = .ok (.getfield 26, 3) := dk_180 0 26 (dk_at dksX8_told_2 1 rfl rfl)
theorem dX8_told_52 : decode cX8_told 52 = .ok (.iload_n 1, 1) := dk_27 (dk_at dksX8_told_2 4 rfl rfl)
theorem dX8_told_53 : decode cX8_told 53 = .ok (.iaload, 1) := dk_46 (dk_at dksX8_told_2 5 rfl rfl)
theorem dX8_told_54 : decode cX8_told 54 = .ok (.goto 7, 3) := dk_167 0 7 (dk_at dksX8_told_2 6 rfl rfl)
theorem dX8_told_57 : decode cX8_told 57 = .ok (.aload_n 0, 1) := dk_42 (dk_at dksX8_told_2 9 rfl rfl)
theorem dX8_told_58 : decode cX8_told 58 = .ok (.getfield 124, 3) := dk_180 0 124 (dk_at dksX8_told_2 10 rfl rfl)
theorem dX8_told_61 : decode cX8_told 61 = .ok (.ireturn, 1) := dk_172 (dk_at dksX8_told_2 13 rfl rfl)
theorem dX8_told_62 : decode cX8_told 62 = .ok (.iload_n 2, 1) := dk_28 (dk_at dksX8_told_2 14 rfl rfl)
theorem dX8_told_63 : decode cX8_told 63 = .ok (.bipush 8, 2) := dk_16 8 (dk_at dksX8_told_2 15 rfl rfl)
theorem dX8_told_65 : decode cX8_told 65 = .ok (.if_icmp .ge 16, 3) := dk_162 0 16 (dk_at dksX8_told_2 17 rfl rfl)
theorem dX8_told_68 : decode cX8_told 68 = .ok (.aload_n 0, 1) := dk_42 (dk_at dksX8_told_2 20 rfl rfl)
theorem dX8_told_69 : decode cX8_told 69 = .ok (.getfield 29, 3) := dk_180 0 29 (dk_at dksX8_told_2 21 rfl rfl)
theorem dX8_told_72 : decode cX8_told 72 = .ok (.iconst 5, 1) := dk_8 (dk_at dksX8_told_3 0 rfl rfl)
theorem dX8_told_73 : decode cX8_told 73 = .ok (.iload_n 1, 1) := dk_27 (dk_at dksX8_told_3 1 rfl rfl)
theorem dX8_told_74 : decode cX8_told 74 = .ok (.imul, 1) := dk_104 (dk_at dksX8_told_3 2 rfl rfl)
theorem dX8_told_75 : decode cX8_told 75 = .ok (.iload_n 2, 1) := dk_28 (dk_at dksX8_told_3 3 rfl rfl)
theorem dX8_told_76 : decode cX8_told 76 = .ok (.iadd, 1) := dk_96 (dk_at dksX8_told_3 4 rfl rfl)
theorem dX8_told_77 : decode cX8_told 77 = .ok (.iconst 3, 1) := dk_6 (dk_at dksX8_told_3 5 rfl rfl)
theorem dX8_told_78 : decode cX8_told 78 = .ok (.isub, 1) := dk_100 (dk_at dksX8_told_3 6 rfl rfl)
theorem dX8_told_79 : decode cX8_told 79 = .ok (.iaload, 1) := dk_46 (dk_at dksX8_told_3 7 rfl rfl)
theorem dX8_told_80 : decode cX8_told 80 = .ok (.ireturn, 1) := dk_172 (dk_at dksX8_told_3 8 rfl rfl)
theorem dX8_told_81 : decode cX8_told 81 = .ok (.iload_n 2, 1) := dk_28 (dk_at dksX8_told_3 9 rfl rfl)
theorem dX8_told_82 : decode cX8_told 82 = .ok (.bipush 8, 2) := dk_16 8 (dk_at dksX8_told_3 10 rfl rfl)
theorem dX8_told_84 : decode cX8_told 84 = .ok (.if_icmp .ne 11, 3) := dk_160 0 11 (dk_at dksX8_told_3 12 rfl rfl)
theorem dX8_told_87 : decode cX8_told 87 = .ok (.aload_n 0, 1) := dk_42 (dk_at dksX8_told_3 15 rfl rfl)
theorem dX8_told_88 : decode cX8_told 88 = .ok (.iload_n 1, 1) := dk_27 (dk_at dksX8_told_3 16 rfl rfl)
theorem dX8_told_89 : decode cX8_told 89 = .ok (.invokevirtual 136, 3) := dk_182 0 136 (dk_at dksX8_told_3 17 rfl rfl)
theorem dX8_told_92 : decode cX8_told 92 = .ok (.goto 22, 3) := dk_167 0 22 (dk_at dksX8_told_3 20 rfl rfl)
theorem dX8_told_95 : decode cX8_told 95 = .ok (.iload_n 2, 1) := dk_28 (dk_at dksX8_told_3 23 rfl rfl)
theorem dX8_told_96 : decode cX8_told 96 = .ok (.bipush 9, 2) := dk_16 9 (dk_at dksX8_told_4 0 rfl rfl)
theorem dX8_told_98 : decode cX8_told 98 = .ok (.if_icmp .ne 11, 3) := dk_160 0 11 (dk_at dksX8_told_4 2 rfl rfl)
theorem dX8_told_101 : decode cX8_told 101 = .ok (.aload_n 0, 1) := dk_42 (dk_at dksX8_told_4 5 rfl rfl)
theorem dX8_told_102 : decode cX8_told 102 = .ok (.iload_n 1, 1) := dk_27 (dk_at dksX8_told_4 6 rfl rfl)
theorem dX8_told_103 : decode cX8_told 103 = .ok (.invokevirtual 139, 3) := dk_182 0 139 (dk_at dksX8_told_4 7 rfl rfl)
theorem dX8_told_106 : decode cX8_told 106 = .ok (.goto 8, 3) := dk_167 0 8 (dk_at dksX8_told_4 10 rfl rfl)
theorem dX8_told_109 : decode cX8_told 109 = .ok (.aload_n 0, 1) := dk_42 (dk_at dksX8_told_4 13 rfl rfl)
theorem dX8_told_110 : decode cX8_told 110 = .ok (.iload_n 1, 1) := dk_27 (dk_at dksX8_told_4 14 rfl rfl)
theorem dX8_told_111 : decode cX8_told 111 = .ok (.invokevirtual 142, 3) := dk_182 0 142 (dk_at dksX8_told_4 15 rfl rfl)
theorem dX8_told_114 : decode cX8_told 114 = .ok (.ireturn, 1) := dk_172 (dk_at dksX8_told_4 18 rfl rfl)
abbrev cX8_takesOf : ByteArray := prog_16_method_67_code
def yX8_takesOf : MethodName := ⟨RX8, "takesOf", "(I)I"⟩
def dkwX8_takesOf_7 : List UInt8 := [21, 5, 100, 167, 0, 5, 21, 5, 172]
abbrev dktX8_takesOf_7 : List UInt8 := dkwX8_takesOf_7 ++ []
def dkwX8_takesOf_6 : List UInt8 := [21, 4, 167, 0, 30, 28, 6, 160, 0, 23, 42, 180, 0, 29, 8, 27, 104, 5, 96, 46, 156, 0, 10, 4]
abbrev dktX8_takesOf_6 : List UInt8 := dkwX8_takesOf_6 ++ dktX8_takesOf_7
def dkwX8_takesOf_5 : List UInt8 := [29, 42, 180, 0, 29, 8, 27, 104, 46, 160, 0, 7, 4, 167, 0, 5, 21, 4, 54, 5, 28, 154, 0, 8]
abbrev dktX8_takesOf_5 : List UInt8 := dkwX8_takesOf_5 ++ dktX8_takesOf_6
def dkwX8_takesOf_4 : List UInt8 := [167, 0, 4, 4, 172, 42, 3, 27, 2, 182, 1, 102, 5, 112, 154, 0, 7, 3, 167, 0, 4, 4, 54, 4]
abbrev dktX8_takesOf_4 : List UInt8 := dkwX8_takesOf_4 ++ dktX8_takesOf_5
def dkwX8_takesOf_3 : List UInt8 := [5, 29, 104, 4, 96, 46, 163, 0, 7, 4, 167, 0, 4, 3, 54, 4, 21, 4, 153, 0, 7, 3]
abbrev dktX8_takesOf_3 : List UInt8 := dkwX8_takesOf_3 ++ dktX8_takesOf_4
def dkwX8_takesOf_2 : List UInt8 := [160, 0, 12, 42, 180, 0, 124, 6, 112, 153, 0, 24, 42, 180, 0, 26, 5, 29, 104, 46, 42, 180, 0, 26]
abbrev dktX8_takesOf_2 : List UInt8 := dkwX8_takesOf_2 ++ dktX8_takesOf_3
def dkwX8_takesOf_1 : List UInt8 := [180, 0, 29, 8, 27, 104, 46, 5, 112, 172, 28, 5, 159, 0, 8, 28, 7, 160, 0, 56, 28, 7]
abbrev dktX8_takesOf_1 : List UInt8 := dkwX8_takesOf_1 ++ dktX8_takesOf_2
def dkwX8_takesOf_0 : List UInt8 := [42, 180, 0, 29, 8, 27, 104, 7, 96, 46, 61, 42, 27, 182, 1, 95, 62, 28, 8, 160, 0, 14, 42]
abbrev dktX8_takesOf_0 : List UInt8 := dkwX8_takesOf_0 ++ dktX8_takesOf_1
theorem dksX8_takesOf_0 : cX8_takesOf.data.toList.drop 0 = dktX8_takesOf_0 := by decide +kernel
theorem dksX8_takesOf_1 : cX8_takesOf.data.toList.drop 23 = dktX8_takesOf_1 := dk_seg dksX8_takesOf_0 23 rfl rfl
theorem dksX8_takesOf_2 : cX8_takesOf.data.toList.drop 45 = dktX8_takesOf_2 := dk_seg dksX8_takesOf_1 22 rfl rfl
theorem dksX8_takesOf_3 : cX8_takesOf.data.toList.drop 69 = dktX8_takesOf_3 := dk_seg dksX8_takesOf_2 24 rfl rfl
theorem dksX8_takesOf_4 : cX8_takesOf.data.toList.drop 91 = dktX8_takesOf_4 := dk_seg dksX8_takesOf_3 22 rfl rfl
theorem dksX8_takesOf_5 : cX8_takesOf.data.toList.drop 115 = dktX8_takesOf_5 := dk_seg dksX8_takesOf_4 24 rfl rfl
theorem dksX8_takesOf_6 : cX8_takesOf.data.toList.drop 139 = dktX8_takesOf_6 := dk_seg dksX8_takesOf_5 24 rfl rfl
theorem dksX8_takesOf_7 : cX8_takesOf.data.toList.drop 163 = dktX8_takesOf_7 := dk_seg dksX8_takesOf_6 24 rfl rfl
theorem dX8_takesOf_0 : decode cX8_takesOf 0 = .ok (.aload_n 0, 1) := dk_42 (dk_at dksX8_takesOf_0 0 rfl rfl)
theorem dX8_takesOf_1 : decode cX8_takesOf 1 = .ok (.getfield 29, 3) := dk_180 0 29 (dk_at dksX8_takesOf_0 1 rfl rfl)
theorem dX8_takesOf_4 : decode cX8_takesOf 4 = .ok (.iconst 5, 1) := dk_8 (dk_at dksX8_takesOf_0 4 rfl rfl)
theorem dX8_takesOf_5 : decode cX8_takesOf 5 = .ok (.iload_n 1, 1) := dk_27 (dk_at dksX8_takesOf_0 5 rfl rfl)
theorem dX8_takesOf_6 : decode cX8_takesOf 6 = .ok (.imul, 1) := dk_104 (dk_at dksX8_takesOf_0 6 rfl rfl)
theorem dX8_takesOf_7 : decode cX8_takesOf 7 = .ok (.iconst 4, 1) := dk_7 (dk_at dksX8_takesOf_0 7 rfl rfl)
theorem dX8_takesOf_8 : decode cX8_takesOf 8 = .ok (.iadd, 1) := dk_96 (dk_at dksX8_takesOf_0 8 rfl rfl)
theorem dX8_takesOf_9 : decode cX8_takesOf 9 = .ok (.iaload, 1) := dk_46 (dk_at dksX8_takesOf_0 9 rfl rfl)
theorem dX8_takesOf_10 : decode cX8_takesOf 10 = .ok (.istore_n 2, 1) := dk_61 (dk_at dksX8_takesOf_0 10 rfl rfl)
theorem dX8_takesOf_11 : decode cX8_takesOf 11 = .ok (.aload_n 0, 1) := dk_42 (dk_at dksX8_takesOf_0 11 rfl rfl)
theorem dX8_takesOf_12 : decode cX8_takesOf 12 = .ok (.iload_n 1, 1) := dk_27 (dk_at dksX8_takesOf_0 12 rfl rfl)
theorem dX8_takesOf_13 : decode cX8_takesOf 13 = .ok (.invokevirtual 351, 3) := dk_182 1 95 (dk_at dksX8_takesOf_0 13 rfl rfl)
theorem dX8_takesOf_16 : decode cX8_takesOf 16 = .ok (.istore_n 3, 1) := dk_62 (dk_at dksX8_takesOf_0 16 rfl rfl)
theorem dX8_takesOf_17 : decode cX8_takesOf 17 = .ok (.iload_n 2, 1) := dk_28 (dk_at dksX8_takesOf_0 17 rfl rfl)
theorem dX8_takesOf_18 : decode cX8_takesOf 18 = .ok (.iconst 5, 1) := dk_8 (dk_at dksX8_takesOf_0 18 rfl rfl)
theorem dX8_takesOf_19 : decode cX8_takesOf 19 = .ok (.if_icmp .ne 14, 3) := dk_160 0 14 (dk_at dksX8_takesOf_0 19 rfl rfl)
theorem dX8_takesOf_22 : decode cX8_takesOf 22 = .ok (.aload_n 0, 1) := dk_42 (dk_at dksX8_takesOf_0 22 rfl rfl)
theorem dX8_takesOf_23 : decode cX8_takesOf 23 = .ok (.getfield 29, 3) := dk_180 0 29 (dk_at dksX8_takesOf_1 0 rfl rfl)
theorem dX8_takesOf_26 : decode cX8_takesOf 26 = .ok (.iconst 5, 1) := dk_8 (dk_at dksX8_takesOf_1 3 rfl rfl)
theorem dX8_takesOf_27 : decode cX8_takesOf 27 = .ok (.iload_n 1, 1) := dk_27 (dk_at dksX8_takesOf_1 4 rfl rfl)
theorem dX8_takesOf_28 : decode cX8_takesOf 28 = .ok (.imul, 1) := dk_104 (dk_at dksX8_takesOf_1 5 rfl rfl)
theorem dX8_takesOf_29 : decode cX8_takesOf 29 = .ok (.iaload, 1) := dk_46 (dk_at dksX8_takesOf_1 6 rfl rfl)
theorem dX8_takesOf_30 : decode cX8_takesOf 30 = .ok (.iconst 2, 1) := dk_5 (dk_at dksX8_takesOf_1 7 rfl rfl)
theorem dX8_takesOf_31 : decode cX8_takesOf 31 = .ok (.irem, 1) := dk_112 (dk_at dksX8_takesOf_1 8 rfl rfl)
theorem dX8_takesOf_32 : decode cX8_takesOf 32 = .ok (.ireturn, 1) := dk_172 (dk_at dksX8_takesOf_1 9 rfl rfl)
theorem dX8_takesOf_33 : decode cX8_takesOf 33 = .ok (.iload_n 2, 1) := dk_28 (dk_at dksX8_takesOf_1 10 rfl rfl)
theorem dX8_takesOf_34 : decode cX8_takesOf 34 = .ok (.iconst 2, 1) := dk_5 (dk_at dksX8_takesOf_1 11 rfl rfl)
theorem dX8_takesOf_35 : decode cX8_takesOf 35 = .ok (.if_icmp .eq 8, 3) := dk_159 0 8 (dk_at dksX8_takesOf_1 12 rfl rfl)
theorem dX8_takesOf_38 : decode cX8_takesOf 38 = .ok (.iload_n 2, 1) := dk_28 (dk_at dksX8_takesOf_1 15 rfl rfl)
theorem dX8_takesOf_39 : decode cX8_takesOf 39 = .ok (.iconst 4, 1) := dk_7 (dk_at dksX8_takesOf_1 16 rfl rfl)
theorem dX8_takesOf_40 : decode cX8_takesOf 40 = .ok (.if_icmp .ne 56, 3) := dk_160 0 56 (dk_at dksX8_takesOf_1 17 rfl rfl)
theorem dX8_takesOf_43 : decode cX8_takesOf 43 = .ok (.iload_n 2, 1) := dk_28 (dk_at dksX8_takesOf_1 20 rfl rfl)
theorem dX8_takesOf_44 : decode cX8_takesOf 44 = .ok (.iconst 4, 1) := dk_7 (dk_at dksX8_takesOf_1 21 rfl rfl)
theorem dX8_takesOf_45 : decode cX8_takesOf 45 = .ok (.if_icmp .ne 12, 3) := dk_160 0 12 (dk_at dksX8_takesOf_2 0 rfl rfl)
theorem dX8_takesOf_48 : decode cX8_takesOf 48 = .ok (.aload_n 0, 1) := dk_42 (dk_at dksX8_takesOf_2 3 rfl rfl)
theorem dX8_takesOf_49 : decode cX8_takesOf 49 = .ok (.getfield 124, 3) := dk_180 0 124 (dk_at dksX8_takesOf_2 4 rfl rfl)
theorem dX8_takesOf_52 : decode cX8_takesOf 52 = .ok (.iconst 3, 1) := dk_6 (dk_at dksX8_takesOf_2 7 rfl rfl)
theorem dX8_takesOf_53 : decode cX8_takesOf 53 = .ok (.irem, 1) := dk_112 (dk_at dksX8_takesOf_2 8 rfl rfl)
theorem dX8_takesOf_54 : decode cX8_takesOf 54 = .ok (.ifCond .eq 24, 3) := dk_153 0 24 (dk_at dksX8_takesOf_2 9 rfl rfl)
theorem dX8_takesOf_57 : decode cX8_takesOf 57 = .ok (.aload_n 0, 1) := dk_42 (dk_at dksX8_takesOf_2 12 rfl rfl)
theorem dX8_takesOf_58 : decode cX8_takesOf 58 = .ok (.getfield 26, 3) := dk_180 0 26 (dk_at dksX8_takesOf_2 13 rfl rfl)
theorem dX8_takesOf_61 : decode cX8_takesOf 61 = .ok (.iconst 2, 1) := dk_5 (dk_at dksX8_takesOf_2 16 rfl rfl)
theorem dX8_takesOf_62 : decode cX8_takesOf 62 = .ok (.iload_n 3, 1) := dk_29 (dk_at dksX8_takesOf_2 17 rfl rfl)
theorem dX8_takesOf_63 : decode cX8_takesOf 63 = .ok (.imul, 1) := dk_104 (dk_at dksX8_takesOf_2 18 rfl rfl)
theorem dX8_takesOf_64 : decode cX8_takesOf 64 = .ok (.iaload, 1) := dk_46 (dk_at dksX8_takesOf_2 19 rfl rfl)
theorem dX8_takesOf_65 : decode cX8_takesOf 65 = .ok (.aload_n 0, 1) := dk_42 (dk_at dksX8_takesOf_2 20 rfl rfl)
theorem dX8_takesOf_66 : decode cX8_takesOf 66 = .ok (.getfield 26, 3) := dk_180 0 26 (dk_at dksX8_takesOf_2 21 rfl rfl)
theorem dX8_takesOf_69 : decode cX8_takesOf 69 = .ok (.iconst 2, 1) := dk_5 (dk_at dksX8_takesOf_3 0 rfl rfl)
theorem dX8_takesOf_70 : decode cX8_takesOf 70 = .ok (.iload_n 3, 1) := dk_29 (dk_at dksX8_takesOf_3 1 rfl rfl)
theorem dX8_takesOf_71 : decode cX8_takesOf 71 = .ok (.imul, 1) := dk_104 (dk_at dksX8_takesOf_3 2 rfl rfl)
theorem dX8_takesOf_72 : decode cX8_takesOf 72 = .ok (.iconst 1, 1) := dk_4 (dk_at dksX8_takesOf_3 3 rfl rfl)
theorem dX8_takesOf_73 : decode cX8_takesOf 73 = .ok (.iadd, 1) := dk_96 (dk_at dksX8_takesOf_3 4 rfl rfl)
theorem dX8_takesOf_74 : decode cX8_takesOf 74 = .ok (.iaload, 1) := dk_46 (dk_at dksX8_takesOf_3 5 rfl rfl)
theorem dX8_takesOf_75 : decode cX8_takesOf 75 = .ok (.if_icmp .gt 7, 3) := dk_163 0 7 (dk_at dksX8_takesOf_3 6 rfl rfl)
theorem dX8_takesOf_78 : decode cX8_takesOf 78 = .ok (.iconst 1, 1) := dk_4 (dk_at dksX8_takesOf_3 9 rfl rfl)
theorem dX8_takesOf_79 : decode cX8_takesOf 79 = .ok (.goto 4, 3) := dk_167 0 4 (dk_at dksX8_takesOf_3 10 rfl rfl)
theorem dX8_takesOf_82 : decode cX8_takesOf 82 = .ok (.iconst 0, 1) := dk_3 (dk_at dksX8_takesOf_3 13 rfl rfl)
theorem dX8_takesOf_83 : decode cX8_takesOf 83 = .ok (.istore 4, 2) := dk_54 4 (dk_at dksX8_takesOf_3 14 rfl rfl)
theorem dX8_takesOf_85 : decode cX8_takesOf 85 = .ok (.iload 4, 2) := dk_21 4 (dk_at dksX8_takesOf_3 16 rfl rfl)
theorem dX8_takesOf_87 : decode cX8_takesOf 87 = .ok (.ifCond .eq 7, 3) := dk_153 0 7 (dk_at dksX8_takesOf_3 18 rfl rfl)
theorem dX8_takesOf_90 : decode cX8_takesOf 90 = .ok (.iconst 0, 1) := dk_3 (dk_at dksX8_takesOf_3 21 rfl rfl)
theorem dX8_takesOf_91 : decode cX8_takesOf 91 = .ok (.goto 4, 3) := dk_167 0 4 (dk_at dksX8_takesOf_4 0 rfl rfl)
theorem dX8_takesOf_94 : decode cX8_takesOf 94 = .ok (.iconst 1, 1) := dk_4 (dk_at dksX8_takesOf_4 3 rfl rfl)
theorem dX8_takesOf_95 : decode cX8_takesOf 95 = .ok (.ireturn, 1) := dk_172 (dk_at dksX8_takesOf_4 4 rfl rfl)
theorem dX8_takesOf_96 : decode cX8_takesOf 96 = .ok (.aload_n 0, 1) := dk_42 (dk_at dksX8_takesOf_4 5 rfl rfl)
theorem dX8_takesOf_97 : decode cX8_takesOf 97 = .ok (.iconst 0, 1) := dk_3 (dk_at dksX8_takesOf_4 6 rfl rfl)
theorem dX8_takesOf_98 : decode cX8_takesOf 98 = .ok (.iload_n 1, 1) := dk_27 (dk_at dksX8_takesOf_4 7 rfl rfl)
theorem dX8_takesOf_99 : decode cX8_takesOf 99 = .ok (.iconst (-1), 1) := dk_2 (dk_at dksX8_takesOf_4 8 rfl rfl)
theorem dX8_takesOf_100 : decode cX8_takesOf 100 = .ok (.invokevirtual 358, 3) := dk_182 1 102 (dk_at dksX8_takesOf_4 9 rfl rfl)
theorem dX8_takesOf_103 : decode cX8_takesOf 103 = .ok (.iconst 2, 1) := dk_5 (dk_at dksX8_takesOf_4 12 rfl rfl)
theorem dX8_takesOf_104 : decode cX8_takesOf 104 = .ok (.irem, 1) := dk_112 (dk_at dksX8_takesOf_4 13 rfl rfl)
theorem dX8_takesOf_105 : decode cX8_takesOf 105 = .ok (.ifCond .ne 7, 3) := dk_154 0 7 (dk_at dksX8_takesOf_4 14 rfl rfl)
theorem dX8_takesOf_108 : decode cX8_takesOf 108 = .ok (.iconst 0, 1) := dk_3 (dk_at dksX8_takesOf_4 17 rfl rfl)
theorem dX8_takesOf_109 : decode cX8_takesOf 109 = .ok (.goto 4, 3) := dk_167 0 4 (dk_at dksX8_takesOf_4 18 rfl rfl)
theorem dX8_takesOf_112 : decode cX8_takesOf 112 = .ok (.iconst 1, 1) := dk_4 (dk_at dksX8_takesOf_4 21 rfl rfl)
theorem dX8_takesOf_113 : decode cX8_takesOf 113 = .ok (.istore 4, 2) := dk_54 4 (dk_at dksX8_takesOf_4 22 rfl rfl)
theorem dX8_takesOf_115 : decode cX8_takesOf 115 = .ok (.iload_n 3, 1) := dk_29 (dk_at dksX8_takesOf_5 0 rfl rfl)
theorem dX8_takesOf_116 : decode cX8_takesOf 116 = .ok (.aload_n 0, 1) := dk_42 (dk_at dksX8_takesOf_5 1 rfl rfl)
theorem dX8_takesOf_117 : decode cX8_takesOf 117 = .ok (.getfield 29, 3) := dk_180 0 29 (dk_at dksX8_takesOf_5 2 rfl rfl)
theorem dX8_takesOf_120 : decode cX8_takesOf 120 = .ok (.iconst 5, 1) := dk_8 (dk_at dksX8_takesOf_5 5 rfl rfl)
theorem dX8_takesOf_121 : decode cX8_takesOf 121 = .ok (.iload_n 1, 1) := dk_27 (dk_at dksX8_takesOf_5 6 rfl rfl)
theorem dX8_takesOf_122 : decode cX8_takesOf 122 = .ok (.imul, 1) := dk_104 (dk_at dksX8_takesOf_5 7 rfl rfl)
theorem dX8_takesOf_123 : decode cX8_takesOf 123 = .ok (.iaload, 1) := dk_46 (dk_at dksX8_takesOf_5 8 rfl rfl)
theorem dX8_takesOf_124 : decode cX8_takesOf 124 = .ok (.if_icmp .ne 7, 3) := dk_160 0 7 (dk_at dksX8_takesOf_5 9 rfl rfl)
theorem dX8_takesOf_127 : decode cX8_takesOf 127 = .ok (.iconst 1, 1) := dk_4 (dk_at dksX8_takesOf_5 12 rfl rfl)
theorem dX8_takesOf_128 : decode cX8_takesOf 128 = .ok (.goto 5, 3) := dk_167 0 5 (dk_at dksX8_takesOf_5 13 rfl rfl)
theorem dX8_takesOf_131 : decode cX8_takesOf 131 = .ok (.iload 4, 2) := dk_21 4 (dk_at dksX8_takesOf_5 16 rfl rfl)
theorem dX8_takesOf_133 : decode cX8_takesOf 133 = .ok (.istore 5, 2) := dk_54 5 (dk_at dksX8_takesOf_5 18 rfl rfl)
theorem dX8_takesOf_135 : decode cX8_takesOf 135 = .ok (.iload_n 2, 1) := dk_28 (dk_at dksX8_takesOf_5 20 rfl rfl)
theorem dX8_takesOf_136 : decode cX8_takesOf 136 = .ok (.ifCond .ne 8, 3) := dk_154 0 8 (dk_at dksX8_takesOf_5 21 rfl rfl)
theorem dX8_takesOf_139 : decode cX8_takesOf 139 = .ok (.iload 4, 2) := dk_21 4 (dk_at dksX8_takesOf_6 0 rfl rfl)
theorem dX8_takesOf_141 : decode cX8_takesOf 141 = .ok (.goto 30, 3) := dk_167 0 30 (dk_at dksX8_takesOf_6 2 rfl rfl)
theorem dX8_takesOf_144 : decode cX8_takesOf 144 = .ok (.iload_n 2, 1) := dk_28 (dk_at dksX8_takesOf_6 5 rfl rfl)
theorem dX8_takesOf_145 : decode cX8_takesOf 145 = .ok (.iconst 3, 1) := dk_6 (dk_at dksX8_takesOf_6 6 rfl rfl)
theorem dX8_takesOf_146 : decode cX8_takesOf 146 = .ok (.if_icmp .ne 23, 3) := dk_160 0 23 (dk_at dksX8_takesOf_6 7 rfl rfl)
theorem dX8_takesOf_149 : decode cX8_takesOf 149 = .ok (.aload_n 0, 1) := dk_42 (dk_at dksX8_takesOf_6 10 rfl rfl)
theorem dX8_takesOf_150 : decode cX8_takesOf 150 = .ok (.getfield 29, 3) := dk_180 0 29 (dk_at dksX8_takesOf_6 11 rfl rfl)
theorem dX8_takesOf_153 : decode cX8_takesOf 153 = .ok (.iconst 5, 1) := dk_8 (dk_at dksX8_takesOf_6 14 rfl rfl)
theorem dX8_takesOf_154 : decode cX8_takesOf 154 = .ok (.iload_n 1, 1) := dk_27 (dk_at dksX8_takesOf_6 15 rfl rfl)
theorem dX8_takesOf_155 : decode cX8_takesOf 155 = .ok (.imul, 1) := dk_104 (dk_at dksX8_takesOf_6 16 rfl rfl)
theorem dX8_takesOf_156 : decode cX8_takesOf 156 = .ok (.iconst 2, 1) := dk_5 (dk_at dksX8_takesOf_6 17 rfl rfl)
theorem dX8_takesOf_157 : decode cX8_takesOf 157 = .ok (.iadd, 1) := dk_96 (dk_at dksX8_takesOf_6 18 rfl rfl)
theorem dX8_takesOf_158 : decode cX8_takesOf 158 = .ok (.iaload, 1) := dk_46 (dk_at dksX8_takesOf_6 19 rfl rfl)
theorem dX8_takesOf_159 : decode cX8_takesOf 159 = .ok (.ifCond .ge 10, 3) := dk_156 0 10 (dk_at dksX8_takesOf_6 20 rfl rfl)
theorem dX8_takesOf_162 : decode cX8_takesOf 162 = .ok (.iconst 1, 1) := dk_4 (dk_at dksX8_takesOf_6 23 rfl rfl)
theorem dX8_takesOf_163 : decode cX8_takesOf 163 = .ok (.iload 5, 2) := dk_21 5 (dk_at dksX8_takesOf_7 0 rfl rfl)
theorem dX8_takesOf_165 : decode cX8_takesOf 165 = .ok (.isub, 1) := dk_100 (dk_at dksX8_takesOf_7 2 rfl rfl)
theorem dX8_takesOf_166 : decode cX8_takesOf 166 = .ok (.goto 5, 3) := dk_167 0 5 (dk_at dksX8_takesOf_7 3 rfl rfl)
theorem dX8_takesOf_169 : decode cX8_takesOf 169 = .ok (.iload 5, 2) := dk_21 5 (dk_at dksX8_takesOf_7 6 rfl rfl)
theorem dX8_takesOf_171 : decode cX8_takesOf 171 = .ok (.ireturn, 1) := dk_172 (dk_at dksX8_takesOf_7 8 rfl rfl)
abbrev cX8_atOf : ByteArray := prog_16_method_16_code
def yX8_atOf : MethodName := ⟨RX8, "atOf", "(I)I"⟩
def dkwX8_atOf_0 : List UInt8 := [42, 180, 0, 29, 8, 27, 104, 4, 96, 46, 172]
abbrev dktX8_atOf_0 : List UInt8 := dkwX8_atOf_0 ++ []
theorem dksX8_atOf_0 : cX8_atOf.data.toList.drop 0 = dktX8_atOf_0 := by decide +kernel
theorem dX8_atOf_0 : decode cX8_atOf 0 = .ok (.aload_n 0, 1) := dk_42 (dk_at dksX8_atOf_0 0 rfl rfl)
theorem dX8_atOf_1 : decode cX8_atOf 1 = .ok (.getfield 29, 3) := dk_180 0 29 (dk_at dksX8_atOf_0 1 rfl rfl)
theorem dX8_atOf_4 : decode cX8_atOf 4 = .ok (.iconst 5, 1) := dk_8 (dk_at dksX8_atOf_0 4 rfl rfl)
theorem dX8_atOf_5 : decode cX8_atOf 5 = .ok (.iload_n 1, 1) := dk_27 (dk_at dksX8_atOf_0 5 rfl rfl)
theorem dX8_atOf_6 : decode cX8_atOf 6 = .ok (.imul, 1) := dk_104 (dk_at dksX8_atOf_0 6 rfl rfl)
theorem dX8_atOf_7 : decode cX8_atOf 7 = .ok (.iconst 1, 1) := dk_4 (dk_at dksX8_atOf_0 7 rfl rfl)
theorem dX8_atOf_8 : decode cX8_atOf 8 = .ok (.iadd, 1) := dk_96 (dk_at dksX8_atOf_0 8 rfl rfl)
theorem dX8_atOf_9 : decode cX8_atOf 9 = .ok (.iaload, 1) := dk_46 (dk_at dksX8_atOf_0 9 rfl rfl)
theorem dX8_atOf_10 : decode cX8_atOf 10 = .ok (.ireturn, 1) := dk_172 (dk_at dksX8_atOf_0 10 rfl rfl)
abbrev cX8_says : ByteArray := prog_16_method_66_code
def yX8_says : MethodName := ⟨RX8, "says", "(III)I"⟩
def dkwX8_says_5 : List UInt8 := [16, 99, 184, 1, 98, 172]
abbrev dktX8_says_5 : List UInt8 := dkwX8_says_5 ++ []
def dkwX8_says_4 : List UInt8 := [46, 181, 0, 218, 42, 42, 180, 0, 127, 27, 182, 1, 92, 27, 4, 160, 0, 7, 3, 167, 0, 5, 16, 157]
abbrev dktX8_says_4 : List UInt8 := dkwX8_says_4 ++ dktX8_says_5
def dkwX8_says_3 : List UInt8 := [42, 42, 180, 0, 29, 8, 28, 104, 5, 96, 46, 181, 0, 215, 42, 42, 180, 0, 29, 8, 28, 104, 6, 96]
abbrev dktX8_says_3 : List UInt8 := dkwX8_says_3 ++ dktX8_says_4
def dkwX8_says_2 : List UInt8 := [46, 181, 0, 206, 42, 42, 180, 0, 29, 8, 28, 104, 46, 181, 0, 209, 42, 42, 180, 0, 124, 181, 0, 212]
abbrev dktX8_says_2 : List UInt8 := dkwX8_says_2 ++ dktX8_says_3
def dkwX8_says_1 : List UInt8 := [21, 4, 104, 46, 42, 180, 0, 26, 5, 21, 4, 104, 4, 96, 46, 96, 167, 0, 9, 42, 180, 0, 26, 29]
abbrev dktX8_says_1 : List UInt8 := dkwX8_says_1 ++ dktX8_says_2
def dkwX8_says_0 : List UInt8 := [42, 28, 182, 1, 95, 54, 4, 42, 21, 4, 181, 0, 203, 42, 29, 2, 160, 0, 27, 42, 180, 0, 26, 5]
abbrev dktX8_says_0 : List UInt8 := dkwX8_says_0 ++ dktX8_says_1
theorem dksX8_says_0 : cX8_says.data.toList.drop 0 = dktX8_says_0 := by decide +kernel
theorem dksX8_says_1 : cX8_says.data.toList.drop 24 = dktX8_says_1 := dk_seg dksX8_says_0 24 rfl rfl
theorem dksX8_says_2 : cX8_says.data.toList.drop 48 = dktX8_says_2 := dk_seg dksX8_says_1 24 rfl rfl
theorem dksX8_says_3 : cX8_says.data.toList.drop 72 = dktX8_says_3 := dk_seg dksX8_says_2 24 rfl rfl
theorem dksX8_says_4 : cX8_says.data.toList.drop 96 = dktX8_says_4 := dk_seg dksX8_says_3 24 rfl rfl
theorem dksX8_says_5 : cX8_says.data.toList.drop 120 = dktX8_says_5 := dk_seg dksX8_says_4 24 rfl rfl
theorem dX8_says_0 : decode cX8_says 0 = .ok (.aload_n 0, 1) := dk_42 (dk_at dksX8_says_0 0 rfl rfl)
theorem dX8_says_1 : decode cX8_says 1 = .ok (.iload_n 2, 1) := dk_28 (dk_at dksX8_says_0 1 rfl rfl)
theorem dX8_says_2 : decode cX8_says 2 = .ok (.invokevirtual 351, 3) := dk_182 1 95 (dk_at dksX8_says_0 2 rfl rfl)
theorem dX8_says_5 : decode cX8_says 5 = .ok (.istore 4, 2) := dk_54 4 (dk_at dksX8_says_0 5 rfl rfl)
theorem dX8_says_7 : decode cX8_says 7 = .ok (.aload_n 0, 1) := dk_42 (dk_at dksX8_says_0 7 rfl rfl)
theorem dX8_says_8 : decode cX8_says 8 = .ok (.iload 4, 2) := dk_21 4 (dk_at dksX8_says_0 8 rfl rfl)
theorem dX8_says_10 : decode cX8_says 10 = .ok (.putfield 203, 3) := dk_181 0 203 (dk_at dksX8_says_0 10 rfl rfl)
theorem dX8_says_13 : decode cX8_says 13 = .ok (.aload_n 0, 1) := dk_42 (dk_at dksX8_says_0 13 rfl rfl)
theorem dX8_says_14 : decode cX8_says 14 = .ok (.iload_n 3, 1) := dk_29 (dk_at dksX8_says_0 14 rfl rfl)
theorem dX8_says_15 : decode cX8_says 15 = .ok (.iconst (-1), 1) := dk_2 (dk_at dksX8_says_0 15 rfl rfl)
theorem dX8_says_16 : decode cX8_says 16 = .ok (.if_icmp .ne 27, 3) := dk_160 0 27 (dk_at dksX8_says_0 16 rfl rfl)
theorem dX8_says_19 : decode cX8_says 19 = .ok (.aload_n 0, 1) := dk_42 (dk_at dksX8_says_0 19 rfl rfl)
theorem dX8_says_20 : decode cX8_says 20 = .ok (.getfield 26, 3) := dk_180 0 26 (dk_at dksX8_says_0 20 rfl rfl)
theorem dX8_says_23 : decode cX8_says 23 = .ok (.iconst 2, 1) := dk_5 (dk_at dksX8_says_0 23 rfl rfl)
theorem dX8_says_24 : decode cX8_says 24 = .ok (.iload 4, 2) := dk_21 4 (dk_at dksX8_says_1 0 rfl rfl)
theorem dX8_says_26 : decode cX8_says 26 = .ok (.imul, 1) := dk_104 (dk_at dksX8_says_1 2 rfl rfl)
theorem dX8_says_27 : decode cX8_says 27 = .ok (.iaload, 1) := dk_46 (dk_at dksX8_says_1 3 rfl rfl)
theorem dX8_says_28 : decode cX8_says 28 = .ok (.aload_n 0, 1) := dk_42 (dk_at dksX8_says_1 4 rfl rfl)
theorem dX8_says_29 : decode cX8_says 29 = .ok (.getfield 26, 3) := dk_180 0 26 (dk_at dksX8_says_1 5 rfl rfl)
theorem dX8_says_32 : decode cX8_says 32 = .ok (.iconst 2, 1) := dk_5 (dk_at dksX8_says_1 8 rfl rfl)
theorem dX8_says_33 : decode cX8_says 33 = .ok (.iload 4, 2) := dk_21 4 (dk_at dksX8_says_1 9 rfl rfl)
theorem dX8_says_35 : decode cX8_says 35 = .ok (.imul, 1) := dk_104 (dk_at dksX8_says_1 11 rfl rfl)
theorem dX8_says_36 : decode cX8_says 36 = .ok (.iconst 1, 1) := dk_4 (dk_at dksX8_says_1 12 rfl rfl)
theorem dX8_says_37 : decode cX8_says 37 = .ok (.iadd, 1) := dk_96 (dk_at dksX8_says_1 13 rfl rfl)
theorem dX8_says_38 : decode cX8_says 38 = .ok (.iaload, 1) := dk_46 (dk_at dksX8_says_1 14 rfl rfl)
theorem dX8_says_39 : decode cX8_says 39 = .ok (.iadd, 1) := dk_96 (dk_at dksX8_says_1 15 rfl rfl)
theorem dX8_says_40 : decode cX8_says 40 = .ok (.goto 9, 3) := dk_167 0 9 (dk_at dksX8_says_1 16 rfl rfl)
theorem dX8_says_43 : decode cX8_says 43 = .ok (.aload_n 0, 1) := dk_42 (dk_at dksX8_says_1 19 rfl rfl)
theorem dX8_says_44 : decode cX8_says 44 = .ok (.getfield 26, 3) := dk_180 0 26 (dk_at dksX8_says_1 20 rfl rfl)
theorem dX8_says_47 : decode cX8_says 47 = .ok (.iload_n 3, 1) := dk_29 (dk_at dksX8_says_1 23 rfl rfl)
theorem dX8_says_48 : decode cX8_says 48 = .ok (.iaload, 1) := dk_46 (dk_at dksX8_says_2 0 rfl rfl)
theorem dX8_says_49 : decode cX8_says 49 = .ok (.putfield 206, 3) := dk_181 0 206 (dk_at dksX8_says_2 1 rfl rfl)
theorem dX8_says_52 : decode cX8_says 52 = .ok (.aload_n 0, 1) := dk_42 (dk_at dksX8_says_2 4 rfl rfl)
theorem dX8_says_53 : decode cX8_says 53 = .ok (.aload_n 0, 1) := dk_42 (dk_at dksX8_says_2 5 rfl rfl)
theorem dX8_says_54 : decode cX8_says 54 = .ok (.getfield 29, 3) := dk_180 0 29 (dk_at dksX8_says_2 6 rfl rfl)
theorem dX8_says_57 : decode cX8_says 57 = .ok (.iconst 5, 1) := dk_8 (dk_at dksX8_says_2 9 rfl rfl)
theorem dX8_says_58 : decode cX8_says 58 = .ok (.iload_n 2, 1) := dk_28 (dk_at dksX8_says_2 10 rfl rfl)
theorem dX8_says_59 : decode cX8_says 59 = .ok (.imul, 1) := dk_104 (dk_at dksX8_says_2 11 rfl rfl)
theorem dX8_says_60 : decode cX8_says 60 = .ok (.iaload, 1) := dk_46 (dk_at dksX8_says_2 12 rfl rfl)
theorem dX8_says_61 : decode cX8_says 61 = .ok (.putfield 209, 3) := dk_181 0 209 (dk_at dksX8_says_2 13 rfl rfl)
theorem dX8_says_64 : decode cX8_says 64 = .ok (.aload_n 0, 1) := dk_42 (dk_at dksX8_says_2 16 rfl rfl)
theorem dX8_says_65 : decode cX8_says 65 = .ok (.aload_n 0, 1) := dk_42 (dk_at dksX8_says_2 17 rfl rfl)
theorem dX8_says_66 : decode cX8_says 66 = .ok (.getfield 124, 3) := dk_180 0 124 (dk_at dksX8_says_2 18 rfl rfl)
theorem dX8_says_69 : decode cX8_says 69 = .ok (.putfield 212, 3) := dk_181 0 212 (dk_at dksX8_says_2 21 rfl rfl)
theorem dX8_says_72 : decode cX8_says 72 = .ok (.aload_n 0, 1) := dk_42 (dk_at dksX8_says_3 0 rfl rfl)
theorem dX8_says_73 : decode cX8_says 73 = .ok (.aload_n 0, 1) := dk_42 (dk_at dksX8_says_3 1 rfl rfl)
theorem dX8_says_74 : decode cX8_says 74 = .ok (.getfield 29, 3) := dk_180 0 29 (dk_at dksX8_says_3 2 rfl rfl)
theorem dX8_says_77 : decode cX8_says 77 = .ok (.iconst 5, 1) := dk_8 (dk_at dksX8_says_3 5 rfl rfl)
theorem dX8_says_78 : decode cX8_says 78 = .ok (.iload_n 2, 1) := dk_28 (dk_at dksX8_says_3 6 rfl rfl)
theorem dX8_says_79 : decode cX8_says 79 = .ok (.imul, 1) := dk_104 (dk_at dksX8_says_3 7 rfl rfl)
theorem dX8_says_80 : decode cX8_says 80 = .ok (.iconst 2, 1) := dk_5 (dk_at dksX8_says_3 8 rfl rfl)
theorem dX8_says_81 : decode cX8_says 81 = .ok (.iadd, 1) := dk_96 (dk_at dksX8_says_3 9 rfl rfl)
theorem dX8_says_82 : decode cX8_says 82 = .ok (.iaload, 1) := dk_46 (dk_at dksX8_says_3 10 rfl rfl)
theorem dX8_says_83 : decode cX8_says 83 = .ok (.putfield 215, 3) := dk_181 0 215 (dk_at dksX8_says_3 11 rfl rfl)
theorem dX8_says_86 : decode cX8_says 86 = .ok (.aload_n 0, 1) := dk_42 (dk_at dksX8_says_3 14 rfl rfl)
theorem dX8_says_87 : decode cX8_says 87 = .ok (.aload_n 0, 1) := dk_42 (dk_at dksX8_says_3 15 rfl rfl)
theorem dX8_says_88 : decode cX8_says 88 = .ok (.getfield 29, 3) := dk_180 0 29 (dk_at dksX8_says_3 16 rfl rfl)
theorem dX8_says_91 : decode cX8_says 91 = .ok (.iconst 5, 1) := dk_8 (dk_at dksX8_says_3 19 rfl rfl)
theorem dX8_says_92 : decode cX8_says 92 = .ok (.iload_n 2, 1) := dk_28 (dk_at dksX8_says_3 20 rfl rfl)
theorem dX8_says_93 : decode cX8_says 93 = .ok (.imul, 1) := dk_104 (dk_at dksX8_says_3 21 rfl rfl)
theorem dX8_says_94 : decode cX8_says 94 = .ok (.iconst 3, 1) := dk_6 (dk_at dksX8_says_3 22 rfl rfl)
theorem dX8_says_95 : decode cX8_says 95 = .ok (.iadd, 1) := dk_96 (dk_at dksX8_says_3 23 rfl rfl)
theorem dX8_says_96 : decode cX8_says 96 = .ok (.iaload, 1) := dk_46 (dk_at dksX8_says_4 0 rfl rfl)
theorem dX8_says_97 : decode cX8_says 97 = .ok (.putfield 218, 3) := dk_181 0 218 (dk_at dksX8_says_4 1 rfl rfl)
theorem dX8_says_100 : decode cX8_says 100 = .ok (.aload_n 0, 1) := dk_42 (dk_at dksX8_says_4 4 rfl rfl)
theorem dX8_says_101 : decode cX8_says 101 = .ok (.aload_n 0, 1) := dk_42 (dk_at dksX8_says_4 5 rfl rfl)
theorem dX8_says_102 : decode cX8_says 102 = .ok (.getfield 127, 3) := dk_180 0 127 (dk_at dksX8_says_4 6 rfl rfl)
theorem dX8_says_105 : decode cX8_says 105 = .ok (.iload_n 1, 1) := dk_27 (dk_at dksX8_says_4 9 rfl rfl)
theorem dX8_says_106 : decode cX8_says 106 = .ok (.invokevirtual 348, 3) := dk_182 1 92 (dk_at dksX8_says_4 10 rfl rfl)
theorem dX8_says_109 : decode cX8_says 109 = .ok (.iload_n 1, 1) := dk_27 (dk_at dksX8_says_4 13 rfl rfl)
theorem dX8_says_110 : decode cX8_says 110 = .ok (.iconst 1, 1) := dk_4 (dk_at dksX8_says_4 14 rfl rfl)
theorem dX8_says_111 : decode cX8_says 111 = .ok (.if_icmp .ne 7, 3) := dk_160 0 7 (dk_at dksX8_says_4 15 rfl rfl)
theorem dX8_says_114 : decode cX8_says 114 = .ok (.iconst 0, 1) := dk_3 (dk_at dksX8_says_4 18 rfl rfl)
theorem dX8_says_115 : decode cX8_says 115 = .ok (.goto 5, 3) := dk_167 0 5 (dk_at dksX8_says_4 19 rfl rfl)
theorem dX8_says_118 : decode cX8_says 118 = .ok (.bipush (-99), 2) := dk_16 157 (dk_at dksX8_says_4 22 rfl rfl)
theorem dX8_says_120 : decode cX8_says 120 = .ok (.bipush 99, 2) := dk_16 99 (dk_at dksX8_says_5 0 rfl rfl)
theorem dX8_says_122 : decode cX8_says 122 = .ok (.invokestatic 354, 3) := dk_184 1 98 (dk_at dksX8_says_5 2 rfl rfl)
theorem dX8_says_125 : decode cX8_says 125 = .ok (.ireturn, 1) := dk_172 (dk_at dksX8_says_5 5 rfl rfl)
abbrev cX8_read : ByteArray := prog_16_method_63_code
def yX8_read : MethodName := ⟨RX8, "read", "(II)I"⟩
def dkwX8_read_6 : List UInt8 := [182, 0, 193, 28, 154, 0, 7, 29, 167, 0, 15, 28, 4, 160, 0, 8, 21, 4, 167, 0, 5, 21, 5, 172]
abbrev dktX8_read_6 : List UInt8 := dkwX8_read_6 ++ []
def dkwX8_read_5 : List UInt8 := [3, 182, 0, 199, 182, 1, 88, 54, 5, 42, 180, 0, 180, 154, 0, 14, 42, 180, 0, 165, 153, 0, 7, 42]
abbrev dktX8_read_5 : List UInt8 := dkwX8_read_5 ++ dktX8_read_6
def dkwX8_read_4 : List UInt8 := [180, 0, 180, 153, 0, 7, 3, 167, 0, 24, 42, 42, 16, 102, 16, 101, 16, 101, 16, 108, 16, 115, 3, 3]
abbrev dktX8_read_4 : List UInt8 := dkwX8_read_4 ++ dktX8_read_5
def dkwX8_read_3 : List UInt8 := [42, 16, 112, 16, 117, 16, 116, 16, 115, 3, 3, 3, 3, 182, 0, 199, 182, 1, 88, 54, 4, 42]
abbrev dktX8_read_3 : List UInt8 := dkwX8_read_3 ++ dktX8_read_4
def dkwX8_read_2 : List UInt8 := [16, 115, 3, 3, 3, 182, 0, 199, 182, 1, 88, 62, 42, 180, 0, 180, 153, 0, 7, 3, 167, 0, 23, 42]
abbrev dktX8_read_2 : List UInt8 := dkwX8_read_2 ++ dktX8_read_3
def dkwX8_read_1 : List UInt8 := [42, 3, 181, 0, 190, 42, 3, 181, 0, 180, 42, 182, 0, 196, 42, 42, 16, 116, 16, 97, 16, 107, 16, 101]
abbrev dktX8_read_1 : List UInt8 := dkwX8_read_1 ++ dktX8_read_2
def dkwX8_read_0 : List UInt8 := [42, 17, 0, 160, 27, 104, 181, 0, 153, 42, 42, 180, 0, 17, 27, 46, 181, 0, 150, 42, 3, 181, 0, 156]
abbrev dktX8_read_0 : List UInt8 := dkwX8_read_0 ++ dktX8_read_1
theorem dksX8_read_0 : cX8_read.data.toList.drop 0 = dktX8_read_0 := by decide +kernel
theorem dksX8_read_1 : cX8_read.data.toList.drop 24 = dktX8_read_1 := dk_seg dksX8_read_0 24 rfl rfl
theorem dksX8_read_2 : cX8_read.data.toList.drop 48 = dktX8_read_2 := dk_seg dksX8_read_1 24 rfl rfl
theorem dksX8_read_3 : cX8_read.data.toList.drop 72 = dktX8_read_3 := dk_seg dksX8_read_2 24 rfl rfl
theorem dksX8_read_4 : cX8_read.data.toList.drop 94 = dktX8_read_4 := dk_seg dksX8_read_3 22 rfl rfl
theorem dksX8_read_5 : cX8_read.data.toList.drop 118 = dktX8_read_5 := dk_seg dksX8_read_4 24 rfl rfl
theorem dksX8_read_6 : cX8_read.data.toList.drop 142 = dktX8_read_6 := dk_seg dksX8_read_5 24 rfl rfl
theorem dX8_read_0 : decode cX8_read 0 = .ok (.aload_n 0, 1) := dk_42 (dk_at dksX8_read_0 0 rfl rfl)
theorem dX8_read_1 : decode cX8_read 1 = .ok (.sipush 160, 3) := dk_17 0 160 (dk_at dksX8_read_0 1 rfl rfl)
theorem dX8_read_4 : decode cX8_read 4 = .ok (.iload_n 1, 1) := dk_27 (dk_at dksX8_read_0 4 rfl rfl)
theorem dX8_read_5 : decode cX8_read 5 = .ok (.imul, 1) := dk_104 (dk_at dksX8_read_0 5 rfl rfl)
theorem dX8_read_6 : decode cX8_read 6 = .ok (.putfield 153, 3) := dk_181 0 153 (dk_at dksX8_read_0 6 rfl rfl)
theorem dX8_read_9 : decode cX8_read 9 = .ok (.aload_n 0, 1) := dk_42 (dk_at dksX8_read_0 9 rfl rfl)
theorem dX8_read_10 : decode cX8_read 10 = .ok (.aload_n 0, 1) := dk_42 (dk_at dksX8_read_0 10 rfl rfl)
theorem dX8_read_11 : decode cX8_read 11 = .ok (.getfield 17, 3) := dk_180 0 17 (dk_at dksX8_read_0 11 rfl rfl)
theorem dX8_read_14 : decode cX8_read 14 = .ok (.iload_n 1, 1) := dk_27 (dk_at dksX8_read_0 14 rfl rfl)
theorem dX8_read_15 : decode cX8_read 15 = .ok (.iaload, 1) := dk_46 (dk_at dksX8_read_0 15 rfl rfl)
theorem dX8_read_16 : decode cX8_read 16 = .ok (.putfield 150, 3) := dk_181 0 150 (dk_at dksX8_read_0 16 rfl rfl)
theorem dX8_read_19 : decode cX8_read 19 = .ok (.aload_n 0, 1) := dk_42 (dk_at dksX8_read_0 19 rfl rfl)
theorem dX8_read_20 : decode cX8_read 20 = .ok (.iconst 0, 1) := dk_3 (dk_at dksX8_read_0 20 rfl rfl)
theorem dX8_read_21 : decode cX8_read 21 = .ok (.putfield 156, 3) := dk_181 0 156 (dk_at dksX8_read_0 21 rfl rfl)
theorem dX8_read_24 : decode cX8_read 24 = .ok (.aload_n 0, 1) := dk_42 (dk_at dksX8_read_1 0 rfl rfl)
theorem dX8_read_25 : decode cX8_read 25 = .ok (.iconst 0, 1) := dk_3 (dk_at dksX8_read_1 1 rfl rfl)
theorem dX8_read_26 : decode cX8_read 26 = .ok (.putfield 190, 3) := dk_181 0 190 (dk_at dksX8_read_1 2 rfl rfl)
theorem dX8_read_29 : decode cX8_read 29 = .ok (.aload_n 0, 1) := dk_42 (dk_at dksX8_read_1 5 rfl rfl)
theorem dX8_read_30 : decode cX8_read 30 = .ok (.iconst 0, 1) := dk_3 (dk_at dksX8_read_1 6 rfl rfl)
theorem dX8_read_31 : decode cX8_read 31 = .ok (.putfield 180, 3) := dk_181 0 180 (dk_at dksX8_read_1 7 rfl rfl)
theorem dX8_read_34 : decode cX8_read 34 = .ok (.aload_n 0, 1) := dk_42 (dk_at dksX8_read_1 10 rfl rfl)
theorem dX8_read_35 : decode cX8_read 35 = .ok (.invokevirtual 196, 3) := dk_182 0 196 (dk_at dksX8_read_1 11 rfl rfl)
theorem dX8_read_38 : decode cX8_read 38 = .ok (.aload_n 0, 1) := dk_42 (dk_at dksX8_read_1 14 rfl rfl)
theorem dX8_read_39 : decode cX8_read 39 = .ok (.aload_n 0, 1) := dk_42 (dk_at dksX8_read_1 15 rfl rfl)
theorem dX8_read_40 : decode cX8_read 40 = .ok (.bipush 116, 2) := dk_16 116 (dk_at dksX8_read_1 16 rfl rfl)
theorem dX8_read_42 : decode cX8_read 42 = .ok (.bipush 97, 2) := dk_16 97 (dk_at dksX8_read_1 18 rfl rfl)
theorem dX8_read_44 : decode cX8_read 44 = .ok (.bipush 107, 2) := dk_16 107 (dk_at dksX8_read_1 20 rfl rfl)
theorem dX8_read_46 : decode cX8_read 46 = .ok (.bipush 101, 2) := dk_16 101 (dk_at dksX8_read_1 22 rfl rfl)
theorem dX8_read_48 : decode cX8_read 48 = .ok (.bipush 115, 2) := dk_16 115 (dk_at dksX8_read_2 0 rfl rfl)
theorem dX8_read_50 : decode cX8_read 50 = .ok (.iconst 0, 1) := dk_3 (dk_at dksX8_read_2 2 rfl rfl)
theorem dX8_read_51 : decode cX8_read 51 = .ok (.iconst 0, 1) := dk_3 (dk_at dksX8_read_2 3 rfl rfl)
theorem dX8_read_52 : decode cX8_read 52 = .ok (.iconst 0, 1) := dk_3 (dk_at dksX8_read_2 4 rfl rfl)
theorem dX8_read_53 : decode cX8_read 53 = .ok (.invokevirtual 199, 3) := dk_182 0 199 (dk_at dksX8_read_2 5 rfl rfl)
theorem dX8_read_56 : decode cX8_read 56 = .ok (.invokevirtual 344, 3) := dk_182 1 88 (dk_at dksX8_read_2 8 rfl rfl)
theorem dX8_read_59 : decode cX8_read 59 = .ok (.istore_n 3, 1) := dk_62 (dk_at dksX8_read_2 11 rfl rfl)
theorem dX8_read_60 : decode cX8_read 60 = .ok (.aload_n 0, 1) := dk_42 (dk_at dksX8_read_2 12 rfl rfl)
theorem dX8_read_61 : decode cX8_read 61 = .ok (.getfield 180, 3) := dk_180 0 180 (dk_at dksX8_read_2 13 rfl rfl)
theorem dX8_read_64 : decode cX8_read 64 = .ok (.ifCond .eq 7, 3) := dk_153 0 7 (dk_at dksX8_read_2 16 rfl rfl)
theorem dX8_read_67 : decode cX8_read 67 = .ok (.iconst 0, 1) := dk_3 (dk_at dksX8_read_2 19 rfl rfl)
theorem dX8_read_68 : decode cX8_read 68 = .ok (.goto 23, 3) := dk_167 0 23 (dk_at dksX8_read_2 20 rfl rfl)
theorem dX8_read_71 : decode cX8_read 71 = .ok (.aload_n 0, 1) := dk_42 (dk_at dksX8_read_2 23 rfl rfl)
theorem dX8_read_72 : decode cX8_read 72 = .ok (.aload_n 0, 1) := dk_42 (dk_at dksX8_read_3 0 rfl rfl)
theorem dX8_read_73 : decode cX8_read 73 = .ok (.bipush 112, 2) := dk_16 112 (dk_at dksX8_read_3 1 rfl rfl)
theorem dX8_read_75 : decode cX8_read 75 = .ok (.bipush 117, 2) := dk_16 117 (dk_at dksX8_read_3 3 rfl rfl)
theorem dX8_read_77 : decode cX8_read 77 = .ok (.bipush 116, 2) := dk_16 116 (dk_at dksX8_read_3 5 rfl rfl)
theorem dX8_read_79 : decode cX8_read 79 = .ok (.bipush 115, 2) := dk_16 115 (dk_at dksX8_read_3 7 rfl rfl)
theorem dX8_read_81 : decode cX8_read 81 = .ok (.iconst 0, 1) := dk_3 (dk_at dksX8_read_3 9 rfl rfl)
theorem dX8_read_82 : decode cX8_read 82 = .ok (.iconst 0, 1) := dk_3 (dk_at dksX8_read_3 10 rfl rfl)
theorem dX8_read_83 : decode cX8_read 83 = .ok (.iconst 0, 1) := dk_3 (dk_at dksX8_read_3 11 rfl rfl)
theorem dX8_read_84 : decode cX8_read 84 = .ok (.iconst 0, 1) := dk_3 (dk_at dksX8_read_3 12 rfl rfl)
theorem dX8_read_85 : decode cX8_read 85 = .ok (.invokevirtual 199, 3) := dk_182 0 199 (dk_at dksX8_read_3 13 rfl rfl)
theorem dX8_read_88 : decode cX8_read 88 = .ok (.invokevirtual 344, 3) := dk_182 1 88 (dk_at dksX8_read_3 16 rfl rfl)
theorem dX8_read_91 : decode cX8_read 91 = .ok (.istore 4, 2) := dk_54 4 (dk_at dksX8_read_3 19 rfl rfl)
theorem dX8_read_93 : decode cX8_read 93 = .ok (.aload_n 0, 1) := dk_42 (dk_at dksX8_read_3 21 rfl rfl)
theorem dX8_read_94 : decode cX8_read 94 = .ok (.getfield 180, 3) := dk_180 0 180 (dk_at dksX8_read_4 0 rfl rfl)
theorem dX8_read_97 : decode cX8_read 97 = .ok (.ifCond .eq 7, 3) := dk_153 0 7 (dk_at dksX8_read_4 3 rfl rfl)
theorem dX8_read_100 : decode cX8_read 100 = .ok (.iconst 0, 1) := dk_3 (dk_at dksX8_read_4 6 rfl rfl)
theorem dX8_read_101 : decode cX8_read 101 = .ok (.goto 24, 3) := dk_167 0 24 (dk_at dksX8_read_4 7 rfl rfl)
theorem dX8_read_104 : decode cX8_read 104 = .ok (.aload_n 0, 1) := dk_42 (dk_at dksX8_read_4 10 rfl rfl)
theorem dX8_read_105 : decode cX8_read 105 = .ok (.aload_n 0, 1) := dk_42 (dk_at dksX8_read_4 11 rfl rfl)
theorem dX8_read_106 : decode cX8_read 106 = .ok (.bipush 102, 2) := dk_16 102 (dk_at dksX8_read_4 12 rfl rfl)
theorem dX8_read_108 : decode cX8_read 108 = .ok (.bipush 101, 2) := dk_16 101 (dk_at dksX8_read_4 14 rfl rfl)
theorem dX8_read_110 : decode cX8_read 110 = .ok (.bipush 101, 2) := dk_16 101 (dk_at dksX8_read_4 16 rfl rfl)
theorem dX8_read_112 : decode cX8_read 112 = .ok (.bipush 108, 2) := dk_16 108 (dk_at dksX8_read_4 18 rfl rfl)
theorem dX8_read_114 : decode cX8_read 114 = .ok (.bipush 115, 2) := dk_16 115 (dk_at dksX8_read_4 20 rfl rfl)
theorem dX8_read_116 : decode cX8_read 116 = .ok (.iconst 0, 1) := dk_3 (dk_at dksX8_read_4 22 rfl rfl)
theorem dX8_read_117 : decode cX8_read 117 = .ok (.iconst 0, 1) := dk_3 (dk_at dksX8_read_4 23 rfl rfl)
theorem dX8_read_118 : decode cX8_read 118 = .ok (.iconst 0, 1) := dk_3 (dk_at dksX8_read_5 0 rfl rfl)
theorem dX8_read_119 : decode cX8_read 119 = .ok (.invokevirtual 199, 3) := dk_182 0 199 (dk_at dksX8_read_5 1 rfl rfl)
theorem dX8_read_122 : decode cX8_read 122 = .ok (.invokevirtual 344, 3) := dk_182 1 88 (dk_at dksX8_read_5 4 rfl rfl)
theorem dX8_read_125 : decode cX8_read 125 = .ok (.istore 5, 2) := dk_54 5 (dk_at dksX8_read_5 7 rfl rfl)
theorem dX8_read_127 : decode cX8_read 127 = .ok (.aload_n 0, 1) := dk_42 (dk_at dksX8_read_5 9 rfl rfl)
theorem dX8_read_128 : decode cX8_read 128 = .ok (.getfield 180, 3) := dk_180 0 180 (dk_at dksX8_read_5 10 rfl rfl)
theorem dX8_read_131 : decode cX8_read 131 = .ok (.ifCond .ne 14, 3) := dk_154 0 14 (dk_at dksX8_read_5 13 rfl rfl)
theorem dX8_read_134 : decode cX8_read 134 = .ok (.aload_n 0, 1) := dk_42 (dk_at dksX8_read_5 16 rfl rfl)
theorem dX8_read_135 : decode cX8_read 135 = .ok (.getfield 165, 3) := dk_180 0 165 (dk_at dksX8_read_5 17 rfl rfl)
theorem dX8_read_138 : decode cX8_read 138 = .ok (.ifCond .eq 7, 3) := dk_153 0 7 (dk_at dksX8_read_5 20 rfl rfl)
theorem dX8_read_141 : decode cX8_read 141 = .ok (.aload_n 0, 1) := dk_42 (dk_at dksX8_read_5 23 rfl rfl)
theorem dX8_read_142 : decode cX8_read 142 = .ok (.invokevirtual 193, 3) := dk_182 0 193 (dk_at dksX8_read_6 0 rfl rfl)
theorem dX8_read_145 : decode cX8_read 145 = .ok (.iload_n 2, 1) := dk_28 (dk_at dksX8_read_6 3 rfl rfl)
theorem dX8_read_146 : decode cX8_read 146 = .ok (.ifCond .ne 7, 3) := dk_154 0 7 (dk_at dksX8_read_6 4 rfl rfl)
theorem dX8_read_149 : decode cX8_read 149 = .ok (.iload_n 3, 1) := dk_29 (dk_at dksX8_read_6 7 rfl rfl)
theorem dX8_read_150 : decode cX8_read 150 = .ok (.goto 15, 3) := dk_167 0 15 (dk_at dksX8_read_6 8 rfl rfl)
theorem dX8_read_153 : decode cX8_read 153 = .ok (.iload_n 2, 1) := dk_28 (dk_at dksX8_read_6 11 rfl rfl)
theorem dX8_read_154 : decode cX8_read 154 = .ok (.iconst 1, 1) := dk_4 (dk_at dksX8_read_6 12 rfl rfl)
theorem dX8_read_155 : decode cX8_read 155 = .ok (.if_icmp .ne 8, 3) := dk_160 0 8 (dk_at dksX8_read_6 13 rfl rfl)
theorem dX8_read_158 : decode cX8_read 158 = .ok (.iload 4, 2) := dk_21 4 (dk_at dksX8_read_6 16 rfl rfl)
theorem dX8_read_160 : decode cX8_read 160 = .ok (.goto 5, 3) := dk_167 0 5 (dk_at dksX8_read_6 18 rfl rfl)
theorem dX8_read_163 : decode cX8_read 163 = .ok (.iload 5, 2) := dk_21 5 (dk_at dksX8_read_6 21 rfl rfl)
theorem dX8_read_165 : decode cX8_read 165 = .ok (.ireturn, 1) := dk_172 (dk_at dksX8_read_6 23 rfl rfl)
abbrev cX8_next : ByteArray := prog_16_method_19_code
def yX8_next : MethodName := ⟨RX8, "next", "()V"⟩
def dkwX8_next_13 : List UInt8 := [181, 0, 165, 42, 27, 133, 181, 0, 176, 42, 89, 180, 0, 156, 4, 96, 181, 0, 156, 177]
abbrev dktX8_next_13 : List UInt8 := dkwX8_next_13 ++ []
def dkwX8_next_12 : List UInt8 := [159, 0, 21, 27, 16, 42, 159, 0, 15, 27, 16, 60, 159, 0, 9, 27, 16, 61, 160, 0, 24, 42, 6]
abbrev dktX8_next_12 : List UInt8 := dkwX8_next_12 ++ dktX8_next_13
def dkwX8_next_11 : List UInt8 := [159, 0, 45, 27, 16, 41, 159, 0, 39, 27, 16, 59, 159, 0, 33, 27, 16, 43, 159, 0, 27, 27, 16, 45]
abbrev dktX8_next_11 : List UInt8 := dkwX8_next_11 ++ dktX8_next_12
def dkwX8_next_10 : List UInt8 := [167, 255, 184, 42, 28, 7, 164, 0, 7, 7, 167, 0, 4, 5, 181, 0, 165, 167, 0, 72, 27, 16, 40]
abbrev dktX8_next_10 : List UInt8 := dkwX8_next_10 ++ dktX8_next_11
def dkwX8_next_9 : List UInt8 := [167, 0, 7, 42, 180, 0, 176, 181, 0, 176, 132, 2, 1, 42, 89, 180, 0, 156, 4, 96, 181, 0, 156]
abbrev dktX8_next_9 : List UInt8 := dkwX8_next_9 ++ dktX8_next_10
def dkwX8_next_8 : List UInt8 := [20, 0, 134, 42, 180, 0, 176, 105, 42, 42, 180, 0, 156, 182, 0, 159, 133, 97, 20, 0, 172, 101]
abbrev dktX8_next_8 : List UInt8 := dkwX8_next_8 ++ dktX8_next_9
def dkwX8_next_7 : List UInt8 := [182, 0, 159, 133, 20, 0, 172, 20, 0, 174, 184, 0, 86, 153, 0, 57, 42, 28, 7, 162, 0, 28]
abbrev dktX8_next_7 : List UInt8 := dkwX8_next_7 ++ dktX8_next_8
def dkwX8_next_6 : List UInt8 := [184, 0, 86, 153, 0, 107, 42, 5, 181, 0, 165, 42, 9, 181, 0, 176, 3, 61, 42, 42, 180, 0, 156]
abbrev dktX8_next_6 : List UInt8 := dkwX8_next_6 ++ dktX8_next_7
def dkwX8_next_5 : List UInt8 := [153, 0, 203, 42, 89, 180, 0, 156, 4, 96, 181, 0, 156, 167, 255, 225, 27, 133, 20, 0, 172, 20, 0, 174]
abbrev dktX8_next_5 : List UInt8 := dkwX8_next_5 ++ dktX8_next_6
def dkwX8_next_4 : List UInt8 := [42, 4, 181, 0, 165, 42, 42, 180, 0, 156, 182, 0, 159, 133, 20, 0, 168, 20, 0, 170, 184, 0, 86]
abbrev dktX8_next_4 : List UInt8 := dkwX8_next_4 ++ dktX8_next_5
def dkwX8_next_3 : List UInt8 := [42, 180, 0, 150, 181, 0, 162, 167, 0, 243, 27, 133, 20, 0, 168, 20, 0, 170, 184, 0, 86, 153, 0, 42]
abbrev dktX8_next_3 : List UInt8 := dkwX8_next_3 ++ dktX8_next_4
def dkwX8_next_2 : List UInt8 := [42, 42, 180, 0, 156, 182, 0, 159, 60, 42, 7, 181, 0, 165, 27, 156, 0, 19, 42, 3, 181, 0, 165, 42]
abbrev dktX8_next_2 : List UInt8 := dkwX8_next_2 ++ dktX8_next_3
def dkwX8_next_1 : List UInt8 := [160, 0, 16, 42, 89, 180, 0, 156, 4, 96, 181, 0, 156, 167, 255, 220, 42, 42, 180, 0, 156, 181, 0, 162]
abbrev dktX8_next_1 : List UInt8 := dkwX8_next_1 ++ dktX8_next_2
def dkwX8_next_0 : List UInt8 := [42, 42, 180, 0, 156, 182, 0, 159, 16, 32, 159, 0, 16, 42, 42, 180, 0, 156, 182, 0, 159, 16, 10]
abbrev dktX8_next_0 : List UInt8 := dkwX8_next_0 ++ dktX8_next_1
theorem dksX8_next_0 : cX8_next.data.toList.drop 0 = dktX8_next_0 := by decide +kernel
theorem dksX8_next_1 : cX8_next.data.toList.drop 23 = dktX8_next_1 := dk_seg dksX8_next_0 23 rfl rfl
theorem dksX8_next_2 : cX8_next.data.toList.drop 47 = dktX8_next_2 := dk_seg dksX8_next_1 24 rfl rfl
theorem dksX8_next_3 : cX8_next.data.toList.drop 71 = dktX8_next_3 := dk_seg dksX8_next_2 24 rfl rfl
theorem dksX8_next_4 : cX8_next.data.toList.drop 95 = dktX8_next_4 := dk_seg dksX8_next_3 24 rfl rfl
theorem dksX8_next_5 : cX8_next.data.toList.drop 118 = dktX8_next_5 := dk_seg dksX8_next_4 23 rfl rfl
theorem dksX8_next_6 : cX8_next.data.toList.drop 142 = dktX8_next_6 := dk_seg dksX8_next_5 24 rfl rfl
theorem dksX8_next_7 : cX8_next.data.toList.drop 165 = dktX8_next_7 := dk_seg dksX8_next_6 23 rfl rfl
theorem dksX8_next_8 : cX8_next.data.toList.drop 187 = dktX8_next_8 := dk_seg dksX8_next_7 22 rfl rfl
theorem dksX8_next_9 : cX8_next.data.toList.drop 209 = dktX8_next_9 := dk_seg dksX8_next_8 22 rfl rfl
theorem dksX8_next_10 : cX8_next.data.toList.drop 232 = dktX8_next_10 := dk_seg dksX8_next_9 23 rfl rfl
theorem dksX8_next_11 : cX8_next.data.toList.drop 255 = dktX8_next_11 := dk_seg dksX8_next_10 23 rfl rfl
theorem dksX8_next_12 : cX8_next.data.toList.drop 279 = dktX8_next_12 := dk_seg dksX8_next_11 24 rfl rfl
theorem dksX8_next_13 : cX8_next.data.toList.drop 302 = dktX8_next_13 := dk_seg dksX8_next_12 23 rfl rfl
theorem dX8_next_0 : decode cX8_next 0 = .ok (.aload_n 0, 1) := dk_42 (dk_at dksX8_next_0 0 rfl rfl)
theorem dX8_next_1 : decode cX8_next 1 = .ok (.aload_n 0, 1) := dk_42 (dk_at dksX8_next_0 1 rfl rfl)
theorem dX8_next_2 : decode cX8_next 2 = .ok (.getfield 156, 3) := dk_180 0 156 (dk_at dksX8_next_0 2 rfl rfl)
theorem dX8_next_5 : decode cX8_next 5 = .ok (.invokevirtual 159, 3) := dk_182 0 159 (dk_at dksX8_next_0 5 rfl rfl)
theorem dX8_next_8 : decode cX8_next 8 = .ok (.bipush 32, 2) := dk_16 32 (dk_at dksX8_next_0 8 rfl rfl)
theorem dX8_next_10 : decode cX8_next 10 = .ok (.if_icmp .eq 16, 3) := dk_159 0 16 (dk_at dksX8_next_0 10 rfl rfl)
theorem dX8_next_13 : decode cX8_next 13 = .ok (.aload_n 0, 1) := dk_42 (dk_at dksX8_next_0 13 rfl rfl)
theorem dX8_next_14 : decode cX8_next 14 = .ok (.aload_n 0, 1) := dk_42 (dk_at dksX8_next_0 14 rfl rfl)
theorem dX8_next_15 : decode cX8_next 15 = .ok (.getfield 156, 3) := dk_180 0 156 (dk_at dksX8_next_0 15 rfl rfl)
theorem dX8_next_18 : decode cX8_next 18 = .ok (.invokevirtual 159, 3) := dk_182 0 159 (dk_at dksX8_next_0 18 rfl rfl)
theorem dX8_next_21 : decode cX8_next 21 = .ok (.bipush 10, 2) := dk_16 10 (dk_at dksX8_next_0 21 rfl rfl)
theorem dX8_next_23 : decode cX8_next 23 = .ok (.if_icmp .ne 16, 3) := dk_160 0 16 (dk_at dksX8_next_1 0 rfl rfl)
theorem dX8_next_26 : decode cX8_next 26 = .ok (.aload_n 0, 1) := dk_42 (dk_at dksX8_next_1 3 rfl rfl)
theorem dX8_next_27 : decode cX8_next 27 = .ok (.dup, 1) := dk_89 (dk_at dksX8_next_1 4 rfl rfl)
theorem dX8_next_28 : decode cX8_next 28 = .ok (.getfield 156, 3) := dk_180 0 156 (dk_at dksX8_next_1 5 rfl rfl)
theorem dX8_next_31 : decode cX8_next 31 = .ok (.iconst 1, 1) := dk_4 (dk_at dksX8_next_1 8 rfl rfl)
theorem dX8_next_32 : decode cX8_next 32 = .ok (.iadd, 1) := dk_96 (dk_at dksX8_next_1 9 rfl rfl)
theorem dX8_next_33 : decode cX8_next 33 = .ok (.putfield 156, 3) := dk_181 0 156 (dk_at dksX8_next_1 10 rfl rfl)
theorem dX8_next_36 : decode cX8_next 36 = .ok (.goto (-36), 3) := dk_167 255 220 (dk_at dksX8_next_1 13 rfl rfl)
theorem dX8_next_39 : decode cX8_next 39 = .ok (.aload_n 0, 1) := dk_42 (dk_at dksX8_next_1 16 rfl rfl)
theorem dX8_next_40 : decode cX8_next 40 = .ok (.aload_n 0, 1) := dk_42 (dk_at dksX8_next_1 17 rfl rfl)
theorem dX8_next_41 : decode cX8_next 41 = .ok (.getfield 156, 3) := dk_180 0 156 (dk_at dksX8_next_1 18 rfl rfl)
theorem dX8_next_44 : decode cX8_next 44 = .ok (.putfield 162, 3) := dk_181 0 162 (dk_at dksX8_next_1 21 rfl rfl)
theorem dX8_next_47 : decode cX8_next 47 = .ok (.aload_n 0, 1) := dk_42 (dk_at dksX8_next_2 0 rfl rfl)
theorem dX8_next_48 : decode cX8_next 48 = .ok (.aload_n 0, 1) := dk_42 (dk_at dksX8_next_2 1 rfl rfl)
theorem dX8_next_49 : decode cX8_next 49 = .ok (.getfield 156, 3) := dk_180 0 156 (dk_at dksX8_next_2 2 rfl rfl)
theorem dX8_next_52 : decode cX8_next 52 = .ok (.invokevirtual 159, 3) := dk_182 0 159 (dk_at dksX8_next_2 5 rfl rfl)
theorem dX8_next_55 : decode cX8_next 55 = .ok (.istore_n 1, 1) := dk_60 (dk_at dksX8_next_2 8 rfl rfl)
theorem dX8_next_56 : decode cX8_next 56 = .ok (.aload_n 0, 1) := dk_42 (dk_at dksX8_next_2 9 rfl rfl)
theorem dX8_next_57 : decode cX8_next 57 = .ok (.iconst 4, 1) := dk_7 (dk_at dksX8_next_2 10 rfl rfl)
theorem dX8_next_58 : decode cX8_next 58 = .ok (.putfield 165, 3) := dk_181 0 165 (dk_at dksX8_next_2 11 rfl rfl)
theorem dX8_next_61 : decode cX8_next 61 = .ok (.iload_n 1, 1) := dk_27 (dk_at dksX8_next_2 14 rfl rfl)
theorem dX8_next_62 : decode cX8_next 62 = .ok (.ifCond .ge 19, 3) := dk_156 0 19 (dk_at dksX8_next_2 15 rfl rfl)
theorem dX8_next_65 : decode cX8_next 65 = .ok (.aload_n 0, 1) := dk_42 (dk_at dksX8_next_2 18 rfl rfl)
theorem dX8_next_66 : decode cX8_next 66 = .ok (.iconst 0, 1) := dk_3 (dk_at dksX8_next_2 19 rfl rfl)
theorem dX8_next_67 : decode cX8_next 67 = .ok (.putfield 165, 3) := dk_181 0 165 (dk_at dksX8_next_2 20 rfl rfl)
theorem dX8_next_70 : decode cX8_next 70 = .ok (.aload_n 0, 1) := dk_42 (dk_at dksX8_next_2 23 rfl rfl)
theorem dX8_next_71 : decode cX8_next 71 = .ok (.aload_n 0, 1) := dk_42 (dk_at dksX8_next_3 0 rfl rfl)
theorem dX8_next_72 : decode cX8_next 72 = .ok (.getfield 150, 3) := dk_180 0 150 (dk_at dksX8_next_3 1 rfl rfl)
theorem dX8_next_75 : decode cX8_next 75 = .ok (.putfield 162, 3) := dk_181 0 162 (dk_at dksX8_next_3 4 rfl rfl)
theorem dX8_next_78 : decode cX8_next 78 = .ok (.goto 243, 3) := dk_167 0 243 (dk_at dksX8_next_3 7 rfl rfl)
theorem dX8_next_81 : decode cX8_next 81 = .ok (.iload_n 1, 1) := dk_27 (dk_at dksX8_next_3 10 rfl rfl)
theorem dX8_next_82 : decode cX8_next 82 = .ok (.i2l, 1) := dk_133 (dk_at dksX8_next_3 11 rfl rfl)
theorem dX8_next_83 : decode cX8_next 83 = .ok (.ldc2_w 168, 3) := dk_20 0 168 (dk_at dksX8_next_3 12 rfl rfl)
theorem dX8_next_86 : decode cX8_next 86 = .ok (.ldc2_w 170, 3) := dk_20 0 170 (dk_at dksX8_next_3 15 rfl rfl)
theorem dX8_next_89 : decode cX8_next 89 = .ok (.invokestatic 86, 3) := dk_184 0 86 (dk_at dksX8_next_3 18 rfl rfl)
theorem dX8_next_92 : decode cX8_next 92 = .ok (.ifCond .eq 42, 3) := dk_153 0 42 (dk_at dksX8_next_3 21 rfl rfl)
theorem dX8_next_95 : decode cX8_next 95 = .ok (.aload_n 0, 1) := dk_42 (dk_at dksX8_next_4 0 rfl rfl)
theorem dX8_next_96 : decode cX8_next 96 = .ok (.iconst 1, 1) := dk_4 (dk_at dksX8_next_4 1 rfl rfl)
theorem dX8_next_97 : decode cX8_next 97 = .ok (.putfield 165, 3) := dk_181 0 165 (dk_at dksX8_next_4 2 rfl rfl)
theorem dX8_next_100 : decode cX8_next 100 = .ok (.aload_n 0, 1) := dk_42 (dk_at dksX8_next_4 5 rfl rfl)
theorem dX8_next_101 : decode cX8_next 101 = .ok (.aload_n 0, 1) := dk_42 (dk_at dksX8_next_4 6 rfl rfl)
theorem dX8_next_102 : decode cX8_next 102 = .ok (.getfield 156, 3) := dk_180 0 156 (dk_at dksX8_next_4 7 rfl rfl)
theorem dX8_next_105 : decode cX8_next 105 = .ok (.invokevirtual 159, 3) := dk_182 0 159 (dk_at dksX8_next_4 10 rfl rfl)
theorem dX8_next_108 : decode cX8_next 108 = .ok (.i2l, 1) := dk_133 (dk_at dksX8_next_4 13 rfl rfl)
theorem dX8_next_109 : decode cX8_next 109 = .ok (.ldc2_w 168, 3) := dk_20 0 168 (dk_at dksX8_next_4 14 rfl rfl)
theorem dX8_next_112 : decode cX8_next 112 = .ok (.ldc2_w 170, 3) := dk_20 0 170 (dk_at dksX8_next_4 17 rfl rfl)
theorem dX8_next_115 : decode cX8_next 115 = .ok (.invokestatic 86, 3) := dk_184 0 86 (dk_at dksX8_next_4 20 rfl rfl)
theorem dX8_next_118 : decode cX8_next 118 = .ok (.ifCond .eq 203, 3) := dk_153 0 203 (dk_at dksX8_next_5 0 rfl rfl)
theorem dX8_next_121 : decode cX8_next 121 = .ok (.aload_n 0, 1) := dk_42 (dk_at dksX8_next_5 3 rfl rfl)
theorem dX8_next_122 : decode cX8_next 122 = .ok (.dup, 1) := dk_89 (dk_at dksX8_next_5 4 rfl rfl)
theorem dX8_next_123 : decode cX8_next 123 = .ok (.getfield 156, 3) := dk_180 0 156 (dk_at dksX8_next_5 5 rfl rfl)
theorem dX8_next_126 : decode cX8_next 126 = .ok (.iconst 1, 1) := dk_4 (dk_at dksX8_next_5 8 rfl rfl)
theorem dX8_next_127 : decode cX8_next 127 = .ok (.iadd, 1) := dk_96 (dk_at dksX8_next_5 9 rfl rfl)
theorem dX8_next_128 : decode cX8_next 128 = .ok (.putfield 156, 3) := dk_181 0 156 (dk_at dksX8_next_5 10 rfl rfl)
theorem dX8_next_131 : decode cX8_next 131 = .ok (.goto (-31), 3) := dk_167 255 225 (dk_at dksX8_next_5 13 rfl rfl)
theorem dX8_next_134 : decode cX8_next 134 = .ok (.iload_n 1, 1) := dk_27 (dk_at dksX8_next_5 16 rfl rfl)
theorem dX8_next_135 : decode cX8_next 135 = .ok (.i2l, 1) := dk_133 (dk_at dksX8_next_5 17 rfl rfl)
theorem dX8_next_136 : decode cX8_next 136 = .ok (.ldc2_w 172, 3) := dk_20 0 172 (dk_at dksX8_next_5 18 rfl rfl)
theorem dX8_next_139 : decode cX8_next 139 = .ok (.ldc2_w 174, 3) := dk_20 0 174 (dk_at dksX8_next_5 21 rfl rfl)
theorem dX8_next_142 : decode cX8_next 142 = .ok (.invokestatic 86, 3) := dk_184 0 86 (dk_at dksX8_next_6 0 rfl rfl)
theorem dX8_next_145 : decode cX8_next 145 = .ok (.ifCond .eq 107, 3) := dk_153 0 107 (dk_at dksX8_next_6 3 rfl rfl)
theorem dX8_next_148 : decode cX8_next 148 = .ok (.aload_n 0, 1) := dk_42 (dk_at dksX8_next_6 6 rfl rfl)
theorem dX8_next_149 : decode cX8_next 149 = .ok (.iconst 2, 1) := dk_5 (dk_at dksX8_next_6 7 rfl rfl)
theorem dX8_next_150 : decode cX8_next 150 = .ok (.putfield 165, 3) := dk_181 0 165 (dk_at dksX8_next_6 8 rfl rfl)
theorem dX8_next_153 : decode cX8_next 153 = .ok (.aload_n 0, 1) := dk_42 (dk_at dksX8_next_6 11 rfl rfl)
theorem dX8_next_154 : decode cX8_next 154 = .ok (.lconst 0, 1) := dk_9 (dk_at dksX8_next_6 12 rfl rfl)
theorem dX8_next_155 : decode cX8_next 155 = .ok (.putfield 176, 3) := dk_181 0 176 (dk_at dksX8_next_6 13 rfl rfl)
theorem dX8_next_158 : decode cX8_next 158 = .ok (.iconst 0, 1) := dk_3 (dk_at dksX8_next_6 16 rfl rfl)
theorem dX8_next_159 : decode cX8_next 159 = .ok (.istore_n 2, 1) := dk_61 (dk_at dksX8_next_6 17 rfl rfl)
theorem dX8_next_160 : decode cX8_next 160 = .ok (.aload_n 0, 1) := dk_42 (dk_at dksX8_next_6 18 rfl rfl)
theorem dX8_next_161 : decode cX8_next 161 = .ok (.aload_n 0, 1) := dk_42 (dk_at dksX8_next_6 19 rfl rfl)
theorem dX8_next_162 : decode cX8_next 162 = .ok (.getfield 156, 3) := dk_180 0 156 (dk_at dksX8_next_6 20 rfl rfl)
theorem dX8_next_165 : decode cX8_next 165 = .ok (.invokevirtual 159, 3) := dk_182 0 159 (dk_at dksX8_next_7 0 rfl rfl)
theorem dX8_next_168 : decode cX8_next 168 = .ok (.i2l, 1) := dk_133 (dk_at dksX8_next_7 3 rfl rfl)
theorem dX8_next_169 : decode cX8_next 169 = .ok (.ldc2_w 172, 3) := dk_20 0 172 (dk_at dksX8_next_7 4 rfl rfl)
theorem dX8_next_172 : decode cX8_next 172 = .ok (.ldc2_w 174, 3) := dk_20 0 174 (dk_at dksX8_next_7 7 rfl rfl)
theorem dX8_next_175 : decode cX8_next 175 = .ok (.invokestatic 86, 3) := dk_184 0 86 (dk_at dksX8_next_7 10 rfl rfl)
theorem dX8_next_178 : decode cX8_next 178 = .ok (.ifCond .eq 57, 3) := dk_153 0 57 (dk_at dksX8_next_7 13 rfl rfl)
theorem dX8_next_181 : decode cX8_next 181 = .ok (.aload_n 0, 1) := dk_42 (dk_at dksX8_next_7 16 rfl rfl)
theorem dX8_next_182 : decode cX8_next 182 = .ok (.iload_n 2, 1) := dk_28 (dk_at dksX8_next_7 17 rfl rfl)
theorem dX8_next_183 : decode cX8_next 183 = .ok (.iconst 4, 1) := dk_7 (dk_at dksX8_next_7 18 rfl rfl)
theorem dX8_next_184 : decode cX8_next 184 = .ok (.if_icmp .ge 28, 3) := dk_162 0 28 (dk_at dksX8_next_7 19 rfl rfl)
theorem dX8_next_187 : decode cX8_next 187 = .ok (.ldc2_w 134, 3) := dk_20 0 134 (dk_at dksX8_next_8 0 rfl rfl)
theorem dX8_next_190 : decode cX8_next 190 = .ok (.aload_n 0, 1) := dk_42 (dk_at dksX8_next_8 3 rfl rfl)
theorem dX8_next_191 : decode cX8_next 191 = .ok (.getfield 176, 3) := dk_180 0 176 (dk_at dksX8_next_8 4 rfl rfl)
theorem dX8_next_194 : decode cX8_next 194 = .ok (.lmul, 1) := dk_105 (dk_at dksX8_next_8 7 rfl rfl)
theorem dX8_next_195 : decode cX8_next 195 = .ok (.aload_n 0, 1) := dk_42 (dk_at dksX8_next_8 8 rfl rfl)
theorem dX8_next_196 : decode cX8_next 196 = .ok (.aload_n 0, 1) := dk_42 (dk_at dksX8_next_8 9 rfl rfl)
theorem dX8_next_197 : decode cX8_next 197 = .ok (.getfield 156, 3) := dk_180 0 156 (dk_at dksX8_next_8 10 rfl rfl)
theorem dX8_next_200 : decode cX8_next 200 = .ok (.invokevirtual 159, 3) := dk_182 0 159 (dk_at dksX8_next_8 13 rfl rfl)
theorem dX8_next_203 : decode cX8_next 203 = .ok (.i2l, 1) := dk_133 (dk_at dksX8_next_8 16 rfl rfl)
theorem dX8_next_204 : decode cX8_next 204 = .ok (.ladd, 1) := dk_97 (dk_at dksX8_next_8 17 rfl rfl)
theorem dX8_next_205 : decode cX8_next 205 = .ok (.ldc2_w 172, 3) := dk_20 0 172 (dk_at dksX8_next_8 18 rfl rfl)
theorem dX8_next_208 : decode cX8_next 208 = .ok (.lsub, 1) := dk_101 (dk_at dksX8_next_8 21 rfl rfl)
theorem dX8_next_209 : decode cX8_next 209 = .ok (.goto 7, 3) := dk_167 0 7 (dk_at dksX8_next_9 0 rfl rfl)
theorem dX8_next_212 : decode cX8_next 212 = .ok (.aload_n 0, 1) := dk_42 (dk_at dksX8_next_9 3 rfl rfl)
theorem dX8_next_213 : decode cX8_next 213 = .ok (.getfield 176, 3) := dk_180 0 176 (dk_at dksX8_next_9 4 rfl rfl)
theorem dX8_next_216 : decode cX8_next 216 = .ok (.putfield 176, 3) := dk_181 0 176 (dk_at dksX8_next_9 7 rfl rfl)
theorem dX8_next_219 : decode cX8_next 219 = .ok (.iinc 2 1, 3) := dk_132 2 1 (dk_at dksX8_next_9 10 rfl rfl)
theorem dX8_next_222 : decode cX8_next 222 = .ok (.aload_n 0, 1) := dk_42 (dk_at dksX8_next_9 13 rfl rfl)
theorem dX8_next_223 : decode cX8_next 223 = .ok (.dup, 1) := dk_89 (dk_at dksX8_next_9 14 rfl rfl)
theorem dX8_next_224 : decode cX8_next 224 = .ok (.getfield 156, 3) := dk_180 0 156 (dk_at dksX8_next_9 15 rfl rfl)
theorem dX8_next_227 : decode cX8_next 227 = .ok (.iconst 1, 1) := dk_4 (dk_at dksX8_next_9 18 rfl rfl)
theorem dX8_next_228 : decode cX8_next 228 = .ok (.iadd, 1) := dk_96 (dk_at dksX8_next_9 19 rfl rfl)
theorem dX8_next_229 : decode cX8_next 229 = .ok (.putfield 156, 3) := dk_181 0 156 (dk_at dksX8_next_9 20 rfl rfl)
theorem dX8_next_232 : decode cX8_next 232 = .ok (.goto (-72), 3) := dk_167 255 184 (dk_at dksX8_next_10 0 rfl rfl)
theorem dX8_next_235 : decode cX8_next 235 = .ok (.aload_n 0, 1) := dk_42 (dk_at dksX8_next_10 3 rfl rfl)
theorem dX8_next_236 : decode cX8_next 236 = .ok (.iload_n 2, 1) := dk_28 (dk_at dksX8_next_10 4 rfl rfl)
theorem dX8_next_237 : decode cX8_next 237 = .ok (.iconst 4, 1) := dk_7 (dk_at dksX8_next_10 5 rfl rfl)
theorem dX8_next_238 : decode cX8_next 238 = .ok (.if_icmp .le 7, 3) := dk_164 0 7 (dk_at dksX8_next_10 6 rfl rfl)
theorem dX8_next_241 : decode cX8_next 241 = .ok (.iconst 4, 1) := dk_7 (dk_at dksX8_next_10 9 rfl rfl)
theorem dX8_next_242 : decode cX8_next 242 = .ok (.goto 4, 3) := dk_167 0 4 (dk_at dksX8_next_10 10 rfl rfl)
theorem dX8_next_245 : decode cX8_next 245 = .ok (.iconst 2, 1) := dk_5 (dk_at dksX8_next_10 13 rfl rfl)
theorem dX8_next_246 : decode cX8_next 246 = .ok (.putfield 165, 3) := dk_181 0 165 (dk_at dksX8_next_10 14 rfl rfl)
theorem dX8_next_249 : decode cX8_next 249 = .ok (.goto 72, 3) := dk_167 0 72 (dk_at dksX8_next_10 17 rfl rfl)
theorem dX8_next_252 : decode cX8_next 252 = .ok (.iload_n 1, 1) := dk_27 (dk_at dksX8_next_10 20 rfl rfl)
theorem dX8_next_253 : decode cX8_next 253 = .ok (.bipush 40, 2) := dk_16 40 (dk_at dksX8_next_10 21 rfl rfl)
theorem dX8_next_255 : decode cX8_next 255 = .ok (.if_icmp .eq 45, 3) := dk_159 0 45 (dk_at dksX8_next_11 0 rfl rfl)
theorem dX8_next_258 : decode cX8_next 258 = .ok (.iload_n 1, 1) := dk_27 (dk_at dksX8_next_11 3 rfl rfl)
theorem dX8_next_259 : decode cX8_next 259 = .ok (.bipush 41, 2) := dk_16 41 (dk_at dksX8_next_11 4 rfl rfl)
theorem dX8_next_261 : decode cX8_next 261 = .ok (.if_icmp .eq 39, 3) := dk_159 0 39 (dk_at dksX8_next_11 6 rfl rfl)
theorem dX8_next_264 : decode cX8_next 264 = .ok (.iload_n 1, 1) := dk_27 (dk_at dksX8_next_11 9 rfl rfl)
theorem dX8_next_265 : decode cX8_next 265 = .ok (.bipush 59, 2) := dk_16 59 (dk_at dksX8_next_11 10 rfl rfl)
theorem dX8_next_267 : decode cX8_next 267 = .ok (.if_icmp .eq 33, 3) := dk_159 0 33 (dk_at dksX8_next_11 12 rfl rfl)
theorem dX8_next_270 : decode cX8_next 270 = .ok (.iload_n 1, 1) := dk_27 (dk_at dksX8_next_11 15 rfl rfl)
theorem dX8_next_271 : decode cX8_next 271 = .ok (.bipush 43, 2) := dk_16 43 (dk_at dksX8_next_11 16 rfl rfl)
theorem dX8_next_273 : decode cX8_next 273 = .ok (.if_icmp .eq 27, 3) := dk_159 0 27 (dk_at dksX8_next_11 18 rfl rfl)
theorem dX8_next_276 : decode cX8_next 276 = .ok (.iload_n 1, 1) := dk_27 (dk_at dksX8_next_11 21 rfl rfl)
theorem dX8_next_277 : decode cX8_next 277 = .ok (.bipush 45, 2) := dk_16 45 (dk_at dksX8_next_11 22 rfl rfl)
theorem dX8_next_279 : decode cX8_next 279 = .ok (.if_icmp .eq 21, 3) := dk_159 0 21 (dk_at dksX8_next_12 0 rfl rfl)
theorem dX8_next_282 : decode cX8_next 282 = .ok (.iload_n 1, 1) := dk_27 (dk_at dksX8_next_12 3 rfl rfl)
theorem dX8_next_283 : decode cX8_next 283 = .ok (.bipush 42, 2) := dk_16 42 (dk_at dksX8_next_12 4 rfl rfl)
theorem dX8_next_285 : decode cX8_next 285 = .ok (.if_icmp .eq 15, 3) := dk_159 0 15 (dk_at dksX8_next_12 6 rfl rfl)
theorem dX8_next_288 : decode cX8_next 288 = .ok (.iload_n 1, 1) := dk_27 (dk_at dksX8_next_12 9 rfl rfl)
theorem dX8_next_289 : decode cX8_next 289 = .ok (.bipush 60, 2) := dk_16 60 (dk_at dksX8_next_12 10 rfl rfl)
theorem dX8_next_291 : decode cX8_next 291 = .ok (.if_icmp .eq 9, 3) := dk_159 0 9 (dk_at dksX8_next_12 12 rfl rfl)
theorem dX8_next_294 : decode cX8_next 294 = .ok (.iload_n 1, 1) := dk_27 (dk_at dksX8_next_12 15 rfl rfl)
theorem dX8_next_295 : decode cX8_next 295 = .ok (.bipush 61, 2) := dk_16 61 (dk_at dksX8_next_12 16 rfl rfl)
theorem dX8_next_297 : decode cX8_next 297 = .ok (.if_icmp .ne 24, 3) := dk_160 0 24 (dk_at dksX8_next_12 18 rfl rfl)
theorem dX8_next_300 : decode cX8_next 300 = .ok (.aload_n 0, 1) := dk_42 (dk_at dksX8_next_12 21 rfl rfl)
theorem dX8_next_301 : decode cX8_next 301 = .ok (.iconst 3, 1) := dk_6 (dk_at dksX8_next_12 22 rfl rfl)
theorem dX8_next_302 : decode cX8_next 302 = .ok (.putfield 165, 3) := dk_181 0 165 (dk_at dksX8_next_13 0 rfl rfl)
theorem dX8_next_305 : decode cX8_next 305 = .ok (.aload_n 0, 1) := dk_42 (dk_at dksX8_next_13 3 rfl rfl)
theorem dX8_next_306 : decode cX8_next 306 = .ok (.iload_n 1, 1) := dk_27 (dk_at dksX8_next_13 4 rfl rfl)
theorem dX8_next_307 : decode cX8_next 307 = .ok (.i2l, 1) := dk_133 (dk_at dksX8_next_13 5 rfl rfl)
theorem dX8_next_308 : decode cX8_next 308 = .ok (.putfield 176, 3) := dk_181 0 176 (dk_at dksX8_next_13 6 rfl rfl)
theorem dX8_next_311 : decode cX8_next 311 = .ok (.aload_n 0, 1) := dk_42 (dk_at dksX8_next_13 9 rfl rfl)
theorem dX8_next_312 : decode cX8_next 312 = .ok (.dup, 1) := dk_89 (dk_at dksX8_next_13 10 rfl rfl)
theorem dX8_next_313 : decode cX8_next 313 = .ok (.getfield 156, 3) := dk_180 0 156 (dk_at dksX8_next_13 11 rfl rfl)
theorem dX8_next_316 : decode cX8_next 316 = .ok (.iconst 1, 1) := dk_4 (dk_at dksX8_next_13 14 rfl rfl)
theorem dX8_next_317 : decode cX8_next 317 = .ok (.iadd, 1) := dk_96 (dk_at dksX8_next_13 15 rfl rfl)
theorem dX8_next_318 : decode cX8_next 318 = .ok (.putfield 156, 3) := dk_181 0 156 (dk_at dksX8_next_13 16 rfl rfl)
theorem dX8_next_321 : decode cX8_next 321 = .ok (.return_, 1) := dk_177 (dk_at dksX8_next_13 19 rfl rfl)
abbrev cX8_byteAt : ByteArray := prog_16_method_18_code
def yX8_byteAt : MethodName := ⟨RX8, "byteAt", "(I)I"⟩
def dkwX8_byteAt_0 : List UInt8 := [27, 42, 180, 0, 150, 162, 0, 17, 42, 180, 0, 13, 42, 180, 0, 153, 27, 96, 46, 167, 0, 4, 2, 172]
abbrev dktX8_byteAt_0 : List UInt8 := dkwX8_byteAt_0 ++ []
theorem dksX8_byteAt_0 : cX8_byteAt.data.toList.drop 0 = dktX8_byteAt_0 := by decide +kernel
theorem dX8_byteAt_0 : decode cX8_byteAt 0 = .ok (.iload_n 1, 1) := dk_27 (dk_at dksX8_byteAt_0 0 rfl rfl)
theorem dX8_byteAt_1 : decode cX8_byteAt 1 = .ok (.aload_n 0, 1) := dk_42 (dk_at dksX8_byteAt_0 1 rfl rfl)
theorem dX8_byteAt_2 : decode cX8_byteAt 2 = .ok (.getfield 150, 3) := dk_180 0 150 (dk_at dksX8_byteAt_0 2 rfl rfl)
theorem dX8_byteAt_5 : decode cX8_byteAt 5 = .ok (.if_icmp .ge 17, 3) := dk_162 0 17 (dk_at dksX8_byteAt_0 5 rfl rfl)
theorem dX8_byteAt_8 : decode cX8_byteAt 8 = .ok (.aload_n 0, 1) := dk_42 (dk_at dksX8_byteAt_0 8 rfl rfl)
theorem dX8_byteAt_9 : decode cX8_byteAt 9 = .ok (.getfield 13, 3) := dk_180 0 13 (dk_at dksX8_byteAt_0 9 rfl rfl)
theorem dX8_byteAt_12 : decode cX8_byteAt 12 = .ok (.aload_n 0, 1) := dk_42 (dk_at dksX8_byteAt_0 12 rfl rfl)
theorem dX8_byteAt_13 : decode cX8_byteAt 13 = .ok (.getfield 153, 3) := dk_180 0 153 (dk_at dksX8_byteAt_0 13 rfl rfl)
theorem dX8_byteAt_16 : decode cX8_byteAt 16 = .ok (.iload_n 1, 1) := dk_27 (dk_at dksX8_byteAt_0 16 rfl rfl)
theorem dX8_byteAt_17 : decode cX8_byteAt 17 = .ok (.iadd, 1) := dk_96 (dk_at dksX8_byteAt_0 17 rfl rfl)
theorem dX8_byteAt_18 : decode cX8_byteAt 18 = .ok (.iaload, 1) := dk_46 (dk_at dksX8_byteAt_0 18 rfl rfl)
theorem dX8_byteAt_19 : decode cX8_byteAt 19 = .ok (.goto 4, 3) := dk_167 0 4 (dk_at dksX8_byteAt_0 19 rfl rfl)
theorem dX8_byteAt_22 : decode cX8_byteAt 22 = .ok (.iconst (-1), 1) := dk_2 (dk_at dksX8_byteAt_0 22 rfl rfl)
theorem dX8_byteAt_23 : decode cX8_byteAt 23 = .ok (.ireturn, 1) := dk_172 (dk_at dksX8_byteAt_0 23 rfl rfl)
abbrev cX8_isWord : ByteArray := prog_16_method_22_code
def yX8_isWord : MethodName := ⟨RX8, "isWord", "(IIIIIIII)Z"⟩
def dkwX8_isWord_4 : List UInt8 := [153, 0, 18, 42, 16, 7, 21, 8, 182, 0, 187, 153, 0, 7, 4, 167, 0, 4, 3, 172]
abbrev dktX8_isWord_4 : List UInt8 := dkwX8_isWord_4 ++ []
def dkwX8_isWord_3 : List UInt8 := [182, 0, 187, 153, 0, 39, 42, 8, 21, 6, 182, 0, 187, 153, 0, 29, 42, 16, 6, 21, 7, 182, 0, 187]
abbrev dktX8_isWord_3 : List UInt8 := dkwX8_isWord_3 ++ dktX8_isWord_4
def dkwX8_isWord_2 : List UInt8 := [42, 5, 29, 182, 0, 187, 153, 0, 59, 42, 6, 21, 4, 182, 0, 187, 153, 0, 49, 42, 7, 21, 5]
abbrev dktX8_isWord_2 : List UInt8 := dkwX8_isWord_2 ++ dktX8_isWord_3
def dkwX8_isWord_1 : List UInt8 := [16, 8, 96, 163, 0, 86, 42, 3, 27, 182, 0, 187, 153, 0, 77, 42, 4, 28, 182, 0, 187, 153, 0, 68]
abbrev dktX8_isWord_1 : List UInt8 := dkwX8_isWord_1 ++ dktX8_isWord_2
def dkwX8_isWord_0 : List UInt8 := [42, 180, 0, 180, 154, 0, 108, 42, 180, 0, 165, 4, 160, 0, 100, 42, 180, 0, 156, 42, 180, 0, 162]
abbrev dktX8_isWord_0 : List UInt8 := dkwX8_isWord_0 ++ dktX8_isWord_1
theorem dksX8_isWord_0 : cX8_isWord.data.toList.drop 0 = dktX8_isWord_0 := by decide +kernel
theorem dksX8_isWord_1 : cX8_isWord.data.toList.drop 23 = dktX8_isWord_1 := dk_seg dksX8_isWord_0 23 rfl rfl
theorem dksX8_isWord_2 : cX8_isWord.data.toList.drop 47 = dktX8_isWord_2 := dk_seg dksX8_isWord_1 24 rfl rfl
theorem dksX8_isWord_3 : cX8_isWord.data.toList.drop 70 = dktX8_isWord_3 := dk_seg dksX8_isWord_2 23 rfl rfl
theorem dksX8_isWord_4 : cX8_isWord.data.toList.drop 94 = dktX8_isWord_4 := dk_seg dksX8_isWord_3 24 rfl rfl
theorem dX8_isWord_0 : decode cX8_isWord 0 = .ok (.aload_n 0, 1) := dk_42 (dk_at dksX8_isWord_0 0 rfl rfl)
theorem dX8_isWord_1 : decode cX8_isWord 1 = .ok (.getfield 180, 3) := dk_180 0 180 (dk_at dksX8_isWord_0 1 rfl rfl)
theorem dX8_isWord_4 : decode cX8_isWord 4 = .ok (.ifCond .ne 108, 3) := dk_154 0 108 (dk_at dksX8_isWord_0 4 rfl rfl)
theorem dX8_isWord_7 : decode cX8_isWord 7 = .ok (.aload_n 0, 1) := dk_42 (dk_at dksX8_isWord_0 7 rfl rfl)
theorem dX8_isWord_8 : decode cX8_isWord 8 = .ok (.getfield 165, 3) := dk_180 0 165 (dk_at dksX8_isWord_0 8 rfl rfl)
theorem dX8_isWord_11 : decode cX8_isWord 11 = .ok (.iconst 1, 1) := dk_4 (dk_at dksX8_isWord_0 11 rfl rfl)
theorem dX8_isWord_12 : decode cX8_isWord 12 = .ok (.if_icmp .ne 100, 3) := dk_160 0 100 (dk_at dksX8_isWord_0 12 rfl rfl)
theorem dX8_isWord_15 : decode cX8_isWord 15 = .ok (.aload_n 0, 1) := dk_42 (dk_at dksX8_isWord_0 15 rfl rfl)
theorem dX8_isWord_16 : decode cX8_isWord 16 = .ok (.getfield 156, 3) := dk_180 0 156 (dk_at dksX8_isWord_0 16 rfl rfl)
theorem dX8_isWord_19 : decode cX8_isWord 19 = .ok (.aload_n 0, 1) := dk_42 (dk_at dksX8_isWord_0 19 rfl rfl)
theorem dX8_isWord_20 : decode cX8_isWord 20 = .ok (.getfield 162, 3) := dk_180 0 162 (dk_at dksX8_isWord_0 20 rfl rfl)
theorem dX8_isWord_23 : decode cX8_isWord 23 = .ok (.bipush 8, 2) := dk_16 8 (dk_at dksX8_isWord_1 0 rfl rfl)
theorem dX8_isWord_25 : decode cX8_isWord 25 = .ok (.iadd, 1) := dk_96 (dk_at dksX8_isWord_1 2 rfl rfl)
theorem dX8_isWord_26 : decode cX8_isWord 26 = .ok (.if_icmp .gt 86, 3) := dk_163 0 86 (dk_at dksX8_isWord_1 3 rfl rfl)
theorem dX8_isWord_29 : decode cX8_isWord 29 = .ok (.aload_n 0, 1) := dk_42 (dk_at dksX8_isWord_1 6 rfl rfl)
theorem dX8_isWord_30 : decode cX8_isWord 30 = .ok (.iconst 0, 1) := dk_3 (dk_at dksX8_isWord_1 7 rfl rfl)
theorem dX8_isWord_31 : decode cX8_isWord 31 = .ok (.iload_n 1, 1) := dk_27 (dk_at dksX8_isWord_1 8 rfl rfl)
theorem dX8_isWord_32 : decode cX8_isWord 32 = .ok (.invokevirtual 187, 3) := dk_182 0 187 (dk_at dksX8_isWord_1 9 rfl rfl)
theorem dX8_isWord_35 : decode cX8_isWord 35 = .ok (.ifCond .eq 77, 3) := dk_153 0 77 (dk_at dksX8_isWord_1 12 rfl rfl)
theorem dX8_isWord_38 : decode cX8_isWord 38 = .ok (.aload_n 0, 1) := dk_42 (dk_at dksX8_isWord_1 15 rfl rfl)
theorem dX8_isWord_39 : decode cX8_isWord 39 = .ok (.iconst 1, 1) := dk_4 (dk_at dksX8_isWord_1 16 rfl rfl)
theorem dX8_isWord_40 : decode cX8_isWord 40 = .ok (.iload_n 2, 1) := dk_28 (dk_at dksX8_isWord_1 17 rfl rfl)
theorem dX8_isWord_41 : decode cX8_isWord 41 = .ok (.invokevirtual 187, 3) := dk_182 0 187 (dk_at dksX8_isWord_1 18 rfl rfl)
theorem dX8_isWord_44 : decode cX8_isWord 44 = .ok (.ifCond .eq 68, 3) := dk_153 0 68 (dk_at dksX8_isWord_1 21 rfl rfl)
theorem dX8_isWord_47 : decode cX8_isWord 47 = .ok (.aload_n 0, 1) := dk_42 (dk_at dksX8_isWord_2 0 rfl rfl)
theorem dX8_isWord_48 : decode cX8_isWord 48 = .ok (.iconst 2, 1) := dk_5 (dk_at dksX8_isWord_2 1 rfl rfl)
theorem dX8_isWord_49 : decode cX8_isWord 49 = .ok (.iload_n 3, 1) := dk_29 (dk_at dksX8_isWord_2 2 rfl rfl)
theorem dX8_isWord_50 : decode cX8_isWord 50 = .ok (.invokevirtual 187, 3) := dk_182 0 187 (dk_at dksX8_isWord_2 3 rfl rfl)
theorem dX8_isWord_53 : decode cX8_isWord 53 = .ok (.ifCond .eq 59, 3) := dk_153 0 59 (dk_at dksX8_isWord_2 6 rfl rfl)
theorem dX8_isWord_56 : decode cX8_isWord 56 = .ok (.aload_n 0, 1) := dk_42 (dk_at dksX8_isWord_2 9 rfl rfl)
theorem dX8_isWord_57 : decode cX8_isWord 57 = .ok (.iconst 3, 1) := dk_6 (dk_at dksX8_isWord_2 10 rfl rfl)
theorem dX8_isWord_58 : decode cX8_isWord 58 = .ok (.iload 4, 2) := dk_21 4 (dk_at dksX8_isWord_2 11 rfl rfl)
theorem dX8_isWord_60 : decode cX8_isWord 60 = .ok (.invokevirtual 187, 3) := dk_182 0 187 (dk_at dksX8_isWord_2 13 rfl rfl)
theorem dX8_isWord_63 : decode cX8_isWord 63 = .ok (.ifCond .eq 49, 3) := dk_153 0 49 (dk_at dksX8_isWord_2 16 rfl rfl)
theorem dX8_isWord_66 : decode cX8_isWord 66 = .ok (.aload_n 0, 1) := dk_42 (dk_at dksX8_isWord_2 19 rfl rfl)
theorem dX8_isWord_67 : decode cX8_isWord 67 = .ok (.iconst 4, 1) := dk_7 (dk_at dksX8_isWord_2 20 rfl rfl)
theorem dX8_isWord_68 : decode cX8_isWord 68 = .ok (.iload 5, 2) := dk_21 5 (dk_at dksX8_isWord_2 21 rfl rfl)
theorem dX8_isWord_70 : decode cX8_isWord 70 = .ok (.invokevirtual 187, 3) := dk_182 0 187 (dk_at dksX8_isWord_3 0 rfl rfl)
theorem dX8_isWord_73 : decode cX8_isWord 73 = .ok (.ifCond .eq 39, 3) := dk_153 0 39 (dk_at dksX8_isWord_3 3 rfl rfl)
theorem dX8_isWord_76 : decode cX8_isWord 76 = .ok (.aload_n 0, 1) := dk_42 (dk_at dksX8_isWord_3 6 rfl rfl)
theorem dX8_isWord_77 : decode cX8_isWord 77 = .ok (.iconst 5, 1) := dk_8 (dk_at dksX8_isWord_3 7 rfl rfl)
theorem dX8_isWord_78 : decode cX8_isWord 78 = .ok (.iload 6, 2) := dk_21 6 (dk_at dksX8_isWord_3 8 rfl rfl)
theorem dX8_isWord_80 : decode cX8_isWord 80 = .ok (.invokevirtual 187, 3) := dk_182 0 187 (dk_at dksX8_isWord_3 10 rfl rfl)
theorem dX8_isWord_83 : decode cX8_isWord 83 = .ok (.ifCond .eq 29, 3) := dk_153 0 29 (dk_at dksX8_isWord_3 13 rfl rfl)
theorem dX8_isWord_86 : decode cX8_isWord 86 = .ok (.aload_n 0, 1) := dk_42 (dk_at dksX8_isWord_3 16 rfl rfl)
theorem dX8_isWord_87 : decode cX8_isWord 87 = .ok (.bipush 6, 2) := dk_16 6 (dk_at dksX8_isWord_3 17 rfl rfl)
theorem dX8_isWord_89 : decode cX8_isWord 89 = .ok (.iload 7, 2) := dk_21 7 (dk_at dksX8_isWord_3 19 rfl rfl)
theorem dX8_isWord_91 : decode cX8_isWord 91 = .ok (.invokevirtual 187, 3) := dk_182 0 187 (dk_at dksX8_isWord_3 21 rfl rfl)
theorem dX8_isWord_94 : decode cX8_isWord 94 = .ok (.ifCond .eq 18, 3) := dk_153 0 18 (dk_at dksX8_isWord_4 0 rfl rfl)
theorem dX8_isWord_97 : decode cX8_isWord 97 = .ok (.aload_n 0, 1) := dk_42 (dk_at dksX8_isWord_4 3 rfl rfl)
theorem dX8_isWord_98 : decode cX8_isWord 98 = .ok (.bipush 7, 2) := dk_16 7 (dk_at dksX8_isWord_4 4 rfl rfl)
theorem dX8_isWord_100 : decode cX8_isWord 100 = .ok (.iload 8, 2) := dk_21 8 (dk_at dksX8_isWord_4 6 rfl rfl)
theorem dX8_isWord_102 : decode cX8_isWord 102 = .ok (.invokevirtual 187, 3) := dk_182 0 187 (dk_at dksX8_isWord_4 8 rfl rfl)
theorem dX8_isWord_105 : decode cX8_isWord 105 = .ok (.ifCond .eq 7, 3) := dk_153 0 7 (dk_at dksX8_isWord_4 11 rfl rfl)
theorem dX8_isWord_108 : decode cX8_isWord 108 = .ok (.iconst 1, 1) := dk_4 (dk_at dksX8_isWord_4 14 rfl rfl)
theorem dX8_isWord_109 : decode cX8_isWord 109 = .ok (.goto 4, 3) := dk_167 0 4 (dk_at dksX8_isWord_4 15 rfl rfl)
theorem dX8_isWord_112 : decode cX8_isWord 112 = .ok (.iconst 0, 1) := dk_3 (dk_at dksX8_isWord_4 18 rfl rfl)
theorem dX8_isWord_113 : decode cX8_isWord 113 = .ok (.ireturn, 1) := dk_172 (dk_at dksX8_isWord_4 19 rfl rfl)
abbrev cX8_isLetter : ByteArray := prog_16_method_21_code
def yX8_isLetter : MethodName := ⟨RX8, "isLetter", "(II)Z"⟩
def dkwX8_isLetter_1 : List UInt8 := [160, 0, 7, 4, 167, 0, 16, 3, 167, 0, 12, 28, 154, 0, 7, 4, 167, 0, 4, 3, 172]
abbrev dktX8_isLetter_1 : List UInt8 := dkwX8_isLetter_1 ++ []
def dkwX8_isLetter_0 : List UInt8 := [42, 180, 0, 162, 27, 96, 42, 180, 0, 156, 162, 0, 25, 42, 42, 180, 0, 162, 27, 96, 182, 0, 159, 28]
abbrev dktX8_isLetter_0 : List UInt8 := dkwX8_isLetter_0 ++ dktX8_isLetter_1
theorem dksX8_isLetter_0 : cX8_isLetter.data.toList.drop 0 = dktX8_isLetter_0 := by decide +kernel
theorem dksX8_isLetter_1 : cX8_isLetter.data.toList.drop 24 = dktX8_isLetter_1 := dk_seg dksX8_isLetter_0 24 rfl rfl
theorem dX8_isLetter_0 : decode cX8_isLetter 0 = .ok (.aload_n 0, 1) := dk_42 (dk_at dksX8_isLetter_0 0 rfl rfl)
theorem dX8_isLetter_1 : decode cX8_isLetter 1 = .ok (.getfield 162, 3) := dk_180 0 162 (dk_at dksX8_isLetter_0 1 rfl rfl)
theorem dX8_isLetter_4 : decode cX8_isLetter 4 = .ok (.iload_n 1, 1) := dk_27 (dk_at dksX8_isLetter_0 4 rfl rfl)
theorem dX8_isLetter_5 : decode cX8_isLetter 5 = .ok (.iadd, 1) := dk_96 (dk_at dksX8_isLetter_0 5 rfl rfl)
theorem dX8_isLetter_6 : decode cX8_isLetter 6 = .ok (.aload_n 0, 1) := dk_42 (dk_at dksX8_isLetter_0 6 rfl rfl)
theorem dX8_isLetter_7 : decode cX8_isLetter 7 = .ok (.getfield 156, 3) := dk_180 0 156 (dk_at dksX8_isLetter_0 7 rfl rfl)
theorem dX8_isLetter_10 : decode cX8_isLetter 10 = .ok (.if_icmp .ge 25, 3) := dk_162 0 25 (dk_at dksX8_isLetter_0 10 rfl rfl)
theorem dX8_isLetter_13 : decode cX8_isLetter 13 = .ok (.aload_n 0, 1) := dk_42 (dk_at dksX8_isLetter_0 13 rfl rfl)
theorem dX8_isLetter_14 : decode cX8_isLetter 14 = .ok (.aload_n 0, 1) := dk_42 (dk_at dksX8_isLetter_0 14 rfl rfl)
theorem dX8_isLetter_15 : decode cX8_isLetter 15 = .ok (.getfield 162, 3) := dk_180 0 162 (dk_at dksX8_isLetter_0 15 rfl rfl)
theorem dX8_isLetter_18 : decode cX8_isLetter 18 = .ok (.iload_n 1, 1) := dk_27 (dk_at dksX8_isLetter_0 18 rfl rfl)
theorem dX8_isLetter_19 : decode cX8_isLetter 19 = .ok (.iadd, 1) := dk_96 (dk_at dksX8_isLetter_0 19 rfl rfl)
theorem dX8_isLetter_20 : decode cX8_isLetter 20 = .ok (.invokevirtual 159, 3) := dk_182 0 159 (dk_at dksX8_isLetter_0 20 rfl rfl)
theorem dX8_isLetter_23 : decode cX8_isLetter 23 = .ok (.iload_n 2, 1) := dk_28 (dk_at dksX8_isLetter_0 23 rfl rfl)
theorem dX8_isLetter_24 : decode cX8_isLetter 24 = .ok (.if_icmp .ne 7, 3) := dk_160 0 7 (dk_at dksX8_isLetter_1 0 rfl rfl)
theorem dX8_isLetter_27 : decode cX8_isLetter 27 = .ok (.iconst 1, 1) := dk_4 (dk_at dksX8_isLetter_1 3 rfl rfl)
theorem dX8_isLetter_28 : decode cX8_isLetter 28 = .ok (.goto 16, 3) := dk_167 0 16 (dk_at dksX8_isLetter_1 4 rfl rfl)
theorem dX8_isLetter_31 : decode cX8_isLetter 31 = .ok (.iconst 0, 1) := dk_3 (dk_at dksX8_isLetter_1 7 rfl rfl)
theorem dX8_isLetter_32 : decode cX8_isLetter 32 = .ok (.goto 12, 3) := dk_167 0 12 (dk_at dksX8_isLetter_1 8 rfl rfl)
theorem dX8_isLetter_35 : decode cX8_isLetter 35 = .ok (.iload_n 2, 1) := dk_28 (dk_at dksX8_isLetter_1 11 rfl rfl)
theorem dX8_isLetter_36 : decode cX8_isLetter 36 = .ok (.ifCond .ne 7, 3) := dk_154 0 7 (dk_at dksX8_isLetter_1 12 rfl rfl)
theorem dX8_isLetter_39 : decode cX8_isLetter 39 = .ok (.iconst 1, 1) := dk_4 (dk_at dksX8_isLetter_1 15 rfl rfl)
theorem dX8_isLetter_40 : decode cX8_isLetter 40 = .ok (.goto 4, 3) := dk_167 0 4 (dk_at dksX8_isLetter_1 16 rfl rfl)
theorem dX8_isLetter_43 : decode cX8_isLetter 43 = .ok (.iconst 0, 1) := dk_3 (dk_at dksX8_isLetter_1 19 rfl rfl)
theorem dX8_isLetter_44 : decode cX8_isLetter 44 = .ok (.ireturn, 1) := dk_172 (dk_at dksX8_isLetter_1 20 rfl rfl)
abbrev cX8_part : ByteArray := prog_16_method_62_code
def yX8_part : MethodName := ⟨RX8, "part", "(Z)I"⟩
def dkwX8_part_2 : List UInt8 := [182, 0, 193, 42, 180, 0, 180, 154, 0, 7, 42, 182, 0, 196, 28, 172]
abbrev dktX8_part_2 : List UInt8 := dkwX8_part_2 ++ []
def dkwX8_part_1 : List UInt8 := [153, 0, 7, 3, 167, 0, 7, 42, 182, 1, 85, 61, 42, 16, 59, 182, 0, 221, 154, 0, 7, 42]
abbrev dktX8_part_1 : List UInt8 := dkwX8_part_1 ++ dktX8_part_2
def dkwX8_part_0 : List UInt8 := [27, 154, 0, 7, 42, 182, 0, 193, 42, 180, 0, 180, 154, 0, 7, 42, 182, 0, 196, 42, 180, 0, 180]
abbrev dktX8_part_0 : List UInt8 := dkwX8_part_0 ++ dktX8_part_1
theorem dksX8_part_0 : cX8_part.data.toList.drop 0 = dktX8_part_0 := by decide +kernel
theorem dksX8_part_1 : cX8_part.data.toList.drop 23 = dktX8_part_1 := dk_seg dksX8_part_0 23 rfl rfl
theorem dksX8_part_2 : cX8_part.data.toList.drop 45 = dktX8_part_2 := dk_seg dksX8_part_1 22 rfl rfl
theorem dX8_part_0 : decode cX8_part 0 = .ok (.iload_n 1, 1) := dk_27 (dk_at dksX8_part_0 0 rfl rfl)
theorem dX8_part_1 : decode cX8_part 1 = .ok (.ifCond .ne 7, 3) := dk_154 0 7 (dk_at dksX8_part_0 1 rfl rfl)
theorem dX8_part_4 : decode cX8_part 4 = .ok (.aload_n 0, 1) := dk_42 (dk_at dksX8_part_0 4 rfl rfl)
theorem dX8_part_5 : decode cX8_part 5 = .ok (.invokevirtual 193, 3) := dk_182 0 193 (dk_at dksX8_part_0 5 rfl rfl)
theorem dX8_part_8 : decode cX8_part 8 = .ok (.aload_n 0, 1) := dk_42 (dk_at dksX8_part_0 8 rfl rfl)
theorem dX8_part_9 : decode cX8_part 9 = .ok (.getfield 180, 3) := dk_180 0 180 (dk_at dksX8_part_0 9 rfl rfl)
theorem dX8_part_12 : decode cX8_part 12 = .ok (.ifCond .ne 7, 3) := dk_154 0 7 (dk_at dksX8_part_0 12 rfl rfl)
theorem dX8_part_15 : decode cX8_part 15 = .ok (.aload_n 0, 1) := dk_42 (dk_at dksX8_part_0 15 rfl rfl)
theorem dX8_part_16 : decode cX8_part 16 = .ok (.invokevirtual 196, 3) := dk_182 0 196 (dk_at dksX8_part_0 16 rfl rfl)
theorem dX8_part_19 : decode cX8_part 19 = .ok (.aload_n 0, 1) := dk_42 (dk_at dksX8_part_0 19 rfl rfl)
theorem dX8_part_20 : decode cX8_part 20 = .ok (.getfield 180, 3) := dk_180 0 180 (dk_at dksX8_part_0 20 rfl rfl)
theorem dX8_part_23 : decode cX8_part 23 = .ok (.ifCond .eq 7, 3) := dk_153 0 7 (dk_at dksX8_part_1 0 rfl rfl)
theorem dX8_part_26 : decode cX8_part 26 = .ok (.iconst 0, 1) := dk_3 (dk_at dksX8_part_1 3 rfl rfl)
theorem dX8_part_27 : decode cX8_part 27 = .ok (.goto 7, 3) := dk_167 0 7 (dk_at dksX8_part_1 4 rfl rfl)
theorem dX8_part_30 : decode cX8_part 30 = .ok (.aload_n 0, 1) := dk_42 (dk_at dksX8_part_1 7 rfl rfl)
theorem dX8_part_31 : decode cX8_part 31 = .ok (.invokevirtual 341, 3) := dk_182 1 85 (dk_at dksX8_part_1 8 rfl rfl)
theorem dX8_part_34 : decode cX8_part 34 = .ok (.istore_n 2, 1) := dk_61 (dk_at dksX8_part_1 11 rfl rfl)
theorem dX8_part_35 : decode cX8_part 35 = .ok (.aload_n 0, 1) := dk_42 (dk_at dksX8_part_1 12 rfl rfl)
theorem dX8_part_36 : decode cX8_part 36 = .ok (.bipush 59, 2) := dk_16 59 (dk_at dksX8_part_1 13 rfl rfl)
theorem dX8_part_38 : decode cX8_part 38 = .ok (.invokevirtual 221, 3) := dk_182 0 221 (dk_at dksX8_part_1 15 rfl rfl)
theorem dX8_part_41 : decode cX8_part 41 = .ok (.ifCond .ne 7, 3) := dk_154 0 7 (dk_at dksX8_part_1 18 rfl rfl)
theorem dX8_part_44 : decode cX8_part 44 = .ok (.aload_n 0, 1) := dk_42 (dk_at dksX8_part_1 21 rfl rfl)
theorem dX8_part_45 : decode cX8_part 45 = .ok (.invokevirtual 193, 3) := dk_182 0 193 (dk_at dksX8_part_2 0 rfl rfl)
theorem dX8_part_48 : decode cX8_part 48 = .ok (.aload_n 0, 1) := dk_42 (dk_at dksX8_part_2 3 rfl rfl)
theorem dX8_part_49 : decode cX8_part 49 = .ok (.getfield 180, 3) := dk_180 0 180 (dk_at dksX8_part_2 4 rfl rfl)
theorem dX8_part_52 : decode cX8_part 52 = .ok (.ifCond .ne 7, 3) := dk_154 0 7 (dk_at dksX8_part_2 7 rfl rfl)
theorem dX8_part_55 : decode cX8_part 55 = .ok (.aload_n 0, 1) := dk_42 (dk_at dksX8_part_2 10 rfl rfl)
theorem dX8_part_56 : decode cX8_part 56 = .ok (.invokevirtual 196, 3) := dk_182 0 196 (dk_at dksX8_part_2 11 rfl rfl)
theorem dX8_part_59 : decode cX8_part 59 = .ok (.iload_n 2, 1) := dk_28 (dk_at dksX8_part_2 14 rfl rfl)
theorem dX8_part_60 : decode cX8_part 60 = .ok (.ireturn, 1) := dk_172 (dk_at dksX8_part_2 15 rfl rfl)
abbrev cX8_fail : ByteArray := prog_16_method_20_code
def yX8_fail : MethodName := ⟨RX8, "fail", "()V"⟩
def dkwX8_fail_0 : List UInt8 := [42, 180, 0, 180, 154, 0, 16, 42, 4, 181, 0, 180, 42, 42, 180, 0, 162, 181, 0, 184, 177]
abbrev dktX8_fail_0 : List UInt8 := dkwX8_fail_0 ++ []
theorem dksX8_fail_0 : cX8_fail.data.toList.drop 0 = dktX8_fail_0 := by decide +kernel
theorem dX8_fail_0 : decode cX8_fail 0 = .ok (.aload_n 0, 1) := dk_42 (dk_at dksX8_fail_0 0 rfl rfl)
theorem dX8_fail_1 : decode cX8_fail 1 = .ok (.getfield 180, 3) := dk_180 0 180 (dk_at dksX8_fail_0 1 rfl rfl)
theorem dX8_fail_4 : decode cX8_fail 4 = .ok (.ifCond .ne 16, 3) := dk_154 0 16 (dk_at dksX8_fail_0 4 rfl rfl)
theorem dX8_fail_7 : decode cX8_fail 7 = .ok (.aload_n 0, 1) := dk_42 (dk_at dksX8_fail_0 7 rfl rfl)
theorem dX8_fail_8 : decode cX8_fail 8 = .ok (.iconst 1, 1) := dk_4 (dk_at dksX8_fail_0 8 rfl rfl)
theorem dX8_fail_9 : decode cX8_fail 9 = .ok (.putfield 180, 3) := dk_181 0 180 (dk_at dksX8_fail_0 9 rfl rfl)
theorem dX8_fail_12 : decode cX8_fail 12 = .ok (.aload_n 0, 1) := dk_42 (dk_at dksX8_fail_0 12 rfl rfl)
theorem dX8_fail_13 : decode cX8_fail 13 = .ok (.aload_n 0, 1) := dk_42 (dk_at dksX8_fail_0 13 rfl rfl)
theorem dX8_fail_14 : decode cX8_fail 14 = .ok (.getfield 162, 3) := dk_180 0 162 (dk_at dksX8_fail_0 14 rfl rfl)
theorem dX8_fail_17 : decode cX8_fail 17 = .ok (.putfield 184, 3) := dk_181 0 184 (dk_at dksX8_fail_0 17 rfl rfl)
theorem dX8_fail_20 : decode cX8_fail 20 = .ok (.return_, 1) := dk_177 (dk_at dksX8_fail_0 20 rfl rfl)
abbrev cX8_either0 : ByteArray := prog_16_method_61_code
def yX8_either0 : MethodName := ⟨RX8, "either0", "()I"⟩
def dkwX8_either0_2 : List UInt8 := [167, 255, 216, 27, 172]
abbrev dktX8_either0_2 : List UInt8 := dkwX8_either0_2 ++ []
def dkwX8_either0_1 : List UInt8 := [182, 0, 196, 42, 182, 1, 82, 61, 27, 154, 0, 7, 28, 153, 0, 7, 4, 167, 0, 4, 3, 60]
abbrev dktX8_either0_1 : List UInt8 := dkwX8_either0_1 ++ dktX8_either0_2
def dkwX8_either0_0 : List UInt8 := [42, 182, 1, 82, 60, 42, 16, 111, 16, 114, 3, 3, 3, 3, 3, 3, 182, 0, 199, 153, 0, 29, 42]
abbrev dktX8_either0_0 : List UInt8 := dkwX8_either0_0 ++ dktX8_either0_1
theorem dksX8_either0_0 : cX8_either0.data.toList.drop 0 = dktX8_either0_0 := by decide +kernel
theorem dksX8_either0_1 : cX8_either0.data.toList.drop 23 = dktX8_either0_1 := dk_seg dksX8_either0_0 23 rfl rfl
theorem dksX8_either0_2 : cX8_either0.data.toList.drop 45 = dktX8_either0_2 := dk_seg dksX8_either0_1 22 rfl rfl
theorem dX8_either0_0 : decode cX8_either0 0 = .ok (.aload_n 0, 1) := dk_42 (dk_at dksX8_either0_0 0 rfl rfl)
theorem dX8_either0_1 : decode cX8_either0 1 = .ok (.invokevirtual 338, 3) := dk_182 1 82 (dk_at dksX8_either0_0 1 rfl rfl)
theorem dX8_either0_4 : decode cX8_either0 4 = .ok (.istore_n 1, 1) := dk_60 (dk_at dksX8_either0_0 4 rfl rfl)
theorem dX8_either0_5 : decode cX8_either0 5 = .ok (.aload_n 0, 1) := dk_42 (dk_at dksX8_either0_0 5 rfl rfl)
theorem dX8_either0_6 : decode cX8_either0 6 = .ok (.bipush 111, 2) := dk_16 111 (dk_at dksX8_either0_0 6 rfl rfl)
theorem dX8_either0_8 : decode cX8_either0 8 = .ok (.bipush 114, 2) := dk_16 114 (dk_at dksX8_either0_0 8 rfl rfl)
theorem dX8_either0_10 : decode cX8_either0 10 = .ok (.iconst 0, 1) := dk_3 (dk_at dksX8_either0_0 10 rfl rfl)
theorem dX8_either0_11 : decode cX8_either0 11 = .ok (.iconst 0, 1) := dk_3 (dk_at dksX8_either0_0 11 rfl rfl)
theorem dX8_either0_12 : decode cX8_either0 12 = .ok (.iconst 0, 1) := dk_3 (dk_at dksX8_either0_0 12 rfl rfl)
theorem dX8_either0_13 : decode cX8_either0 13 = .ok (.iconst 0, 1) := dk_3 (dk_at dksX8_either0_0 13 rfl rfl)
theorem dX8_either0_14 : decode cX8_either0 14 = .ok (.iconst 0, 1) := dk_3 (dk_at dksX8_either0_0 14 rfl rfl)
theorem dX8_either0_15 : decode cX8_either0 15 = .ok (.iconst 0, 1) := dk_3 (dk_at dksX8_either0_0 15 rfl rfl)
theorem dX8_either0_16 : decode cX8_either0 16 = .ok (.invokevirtual 199, 3) := dk_182 0 199 (dk_at dksX8_either0_0 16 rfl rfl)
theorem dX8_either0_19 : decode cX8_either0 19 = .ok (.ifCond .eq 29, 3) := dk_153 0 29 (dk_at dksX8_either0_0 19 rfl rfl)
theorem dX8_either0_22 : decode cX8_either0 22 = .ok (.aload_n 0, 1) := dk_42 (dk_at dksX8_either0_0 22 rfl rfl)
theorem dX8_either0_23 : decode cX8_either0 23 = .ok (.invokevirtual 196, 3) := dk_182 0 196 (dk_at dksX8_either0_1 0 rfl rfl)
theorem dX8_either0_26 : decode cX8_either0 26 = .ok (.aload_n 0, 1) := dk_42 (dk_at dksX8_either0_1 3 rfl rfl)
theorem dX8_either0_27 : decode cX8_either0 27 = .ok (.invokevirtual 338, 3) := dk_182 1 82 (dk_at dksX8_either0_1 4 rfl rfl)
theorem dX8_either0_30 : decode cX8_either0 30 = .ok (.istore_n 2, 1) := dk_61 (dk_at dksX8_either0_1 7 rfl rfl)
theorem dX8_either0_31 : decode cX8_either0 31 = .ok (.iload_n 1, 1) := dk_27 (dk_at dksX8_either0_1 8 rfl rfl)
theorem dX8_either0_32 : decode cX8_either0 32 = .ok (.ifCond .ne 7, 3) := dk_154 0 7 (dk_at dksX8_either0_1 9 rfl rfl)
theorem dX8_either0_35 : decode cX8_either0 35 = .ok (.iload_n 2, 1) := dk_28 (dk_at dksX8_either0_1 12 rfl rfl)
theorem dX8_either0_36 : decode cX8_either0 36 = .ok (.ifCond .eq 7, 3) := dk_153 0 7 (dk_at dksX8_either0_1 13 rfl rfl)
theorem dX8_either0_39 : decode cX8_either0 39 = .ok (.iconst 1, 1) := dk_4 (dk_at dksX8_either0_1 16 rfl rfl)
theorem dX8_either0_40 : decode cX8_either0 40 = .ok (.goto 4, 3) := dk_167 0 4 (dk_at dksX8_either0_1 17 rfl rfl)
theorem dX8_either0_43 : decode cX8_either0 43 = .ok (.iconst 0, 1) := dk_3 (dk_at dksX8_either0_1 20 rfl rfl)
theorem dX8_either0_44 : decode cX8_either0 44 = .ok (.istore_n 1, 1) := dk_60 (dk_at dksX8_either0_1 21 rfl rfl)
theorem dX8_either0_45 : decode cX8_either0 45 = .ok (.goto (-40), 3) := dk_167 255 216 (dk_at dksX8_either0_2 0 rfl rfl)
theorem dX8_either0_48 : decode cX8_either0 48 = .ok (.iload_n 1, 1) := dk_27 (dk_at dksX8_either0_2 3 rfl rfl)
theorem dX8_either0_49 : decode cX8_either0 49 = .ok (.ireturn, 1) := dk_172 (dk_at dksX8_either0_2 4 rfl rfl)
abbrev cX8_both0 : ByteArray := prog_16_method_60_code
def yX8_both0 : MethodName := ⟨RX8, "both0", "()I"⟩
def dkwX8_both0_2 : List UInt8 := [167, 255, 215, 27, 172]
abbrev dktX8_both0_2 : List UInt8 := dkwX8_both0_2 ++ []
def dkwX8_both0_1 : List UInt8 := [182, 0, 196, 42, 182, 1, 79, 61, 27, 153, 0, 11, 28, 153, 0, 7, 4, 167, 0, 4, 3, 60]
abbrev dktX8_both0_1 : List UInt8 := dkwX8_both0_1 ++ dktX8_both0_2
def dkwX8_both0_0 : List UInt8 := [42, 182, 1, 79, 60, 42, 16, 97, 16, 110, 16, 100, 3, 3, 3, 3, 3, 182, 0, 199, 153, 0, 29, 42]
abbrev dktX8_both0_0 : List UInt8 := dkwX8_both0_0 ++ dktX8_both0_1
theorem dksX8_both0_0 : cX8_both0.data.toList.drop 0 = dktX8_both0_0 := by decide +kernel
theorem dksX8_both0_1 : cX8_both0.data.toList.drop 24 = dktX8_both0_1 := dk_seg dksX8_both0_0 24 rfl rfl
theorem dksX8_both0_2 : cX8_both0.data.toList.drop 46 = dktX8_both0_2 := dk_seg dksX8_both0_1 22 rfl rfl
theorem dX8_both0_0 : decode cX8_both0 0 = .ok (.aload_n 0, 1) := dk_42 (dk_at dksX8_both0_0 0 rfl rfl)
theorem dX8_both0_1 : decode cX8_both0 1 = .ok (.invokevirtual 335, 3) := dk_182 1 79 (dk_at dksX8_both0_0 1 rfl rfl)
theorem dX8_both0_4 : decode cX8_both0 4 = .ok (.istore_n 1, 1) := dk_60 (dk_at dksX8_both0_0 4 rfl rfl)
theorem dX8_both0_5 : decode cX8_both0 5 = .ok (.aload_n 0, 1) := dk_42 (dk_at dksX8_both0_0 5 rfl rfl)
theorem dX8_both0_6 : decode cX8_both0 6 = .ok (.bipush 97, 2) := dk_16 97 (dk_at dksX8_both0_0 6 rfl rfl)
theorem dX8_both0_8 : decode cX8_both0 8 = .ok (.bipush 110, 2) := dk_16 110 (dk_at dksX8_both0_0 8 rfl rfl)
theorem dX8_both0_10 : decode cX8_both0 10 = .ok (.bipush 100, 2) := dk_16 100 (dk_at dksX8_both0_0 10 rfl rfl)
theorem dX8_both0_12 : decode cX8_both0 12 = .ok (.iconst 0, 1) := dk_3 (dk_at dksX8_both0_0 12 rfl rfl)
theorem dX8_both0_13 : decode cX8_both0 13 = .ok (.iconst 0, 1) := dk_3 (dk_at dksX8_both0_0 13 rfl rfl)
theorem dX8_both0_14 : decode cX8_both0 14 = .ok (.iconst 0, 1) := dk_3 (dk_at dksX8_both0_0 14 rfl rfl)
theorem dX8_both0_15 : decode cX8_both0 15 = .ok (.iconst 0, 1) := dk_3 (dk_at dksX8_both0_0 15 rfl rfl)
theorem dX8_both0_16 : decode cX8_both0 16 = .ok (.iconst 0, 1) := dk_3 (dk_at dksX8_both0_0 16 rfl rfl)
theorem dX8_both0_17 : decode cX8_both0 17 = .ok (.invokevirtual 199, 3) := dk_182 0 199 (dk_at dksX8_both0_0 17 rfl rfl)
theorem dX8_both0_20 : decode cX8_both0 20 = .ok (.ifCond .eq 29, 3) := dk_153 0 29 (dk_at dksX8_both0_0 20 rfl rfl)
theorem dX8_both0_23 : decode cX8_both0 23 = .ok (.aload_n 0, 1) := dk_42 (dk_at dksX8_both0_0 23 rfl rfl)
theorem dX8_both0_24 : decode cX8_both0 24 = .ok (.invokevirtual 196, 3) := dk_182 0 196 (dk_at dksX8_both0_1 0 rfl rfl)
theorem dX8_both0_27 : decode cX8_both0 27 = .ok (.aload_n 0, 1) := dk_42 (dk_at dksX8_both0_1 3 rfl rfl)
theorem dX8_both0_28 : decode cX8_both0 28 = .ok (.invokevirtual 335, 3) := dk_182 1 79 (dk_at dksX8_both0_1 4 rfl rfl)
theorem dX8_both0_31 : decode cX8_both0 31 = .ok (.istore_n 2, 1) := dk_61 (dk_at dksX8_both0_1 7 rfl rfl)
theorem dX8_both0_32 : decode cX8_both0 32 = .ok (.iload_n 1, 1) := dk_27 (dk_at dksX8_both0_1 8 rfl rfl)
theorem dX8_both0_33 : decode cX8_both0 33 = .ok (.ifCond .eq 11, 3) := dk_153 0 11 (dk_at dksX8_both0_1 9 rfl rfl)
theorem dX8_both0_36 : decode cX8_both0 36 = .ok (.iload_n 2, 1) := dk_28 (dk_at dksX8_both0_1 12 rfl rfl)
theorem dX8_both0_37 : decode cX8_both0 37 = .ok (.ifCond .eq 7, 3) := dk_153 0 7 (dk_at dksX8_both0_1 13 rfl rfl)
theorem dX8_both0_40 : decode cX8_both0 40 = .ok (.iconst 1, 1) := dk_4 (dk_at dksX8_both0_1 16 rfl rfl)
theorem dX8_both0_41 : decode cX8_both0 41 = .ok (.goto 4, 3) := dk_167 0 4 (dk_at dksX8_both0_1 17 rfl rfl)
theorem dX8_both0_44 : decode cX8_both0 44 = .ok (.iconst 0, 1) := dk_3 (dk_at dksX8_both0_1 20 rfl rfl)
theorem dX8_both0_45 : decode cX8_both0 45 = .ok (.istore_n 1, 1) := dk_60 (dk_at dksX8_both0_1 21 rfl rfl)
theorem dX8_both0_46 : decode cX8_both0 46 = .ok (.goto (-41), 3) := dk_167 255 215 (dk_at dksX8_both0_2 0 rfl rfl)
theorem dX8_both0_49 : decode cX8_both0 49 = .ok (.iload_n 1, 1) := dk_27 (dk_at dksX8_both0_2 3 rfl rfl)
theorem dX8_both0_50 : decode cX8_both0 50 = .ok (.ireturn, 1) := dk_172 (dk_at dksX8_both0_2 4 rfl rfl)
abbrev cX8_not0 : ByteArray := prog_16_method_59_code
def yX8_not0 : MethodName := ⟨RX8, "not0", "()I"⟩
def dkwX8_not0_5 : List UInt8 := [160, 0, 7, 4, 167, 0, 4, 3, 172]
abbrev dktX8_not0_5 : List UInt8 := dkwX8_not0_5 ++ []
def dkwX8_not0_4 : List UInt8 := [61, 42, 182, 0, 196, 42, 182, 1, 76, 62, 28, 153, 0, 11, 27, 29, 162, 0, 15, 167, 0, 8, 27, 29]
abbrev dktX8_not0_4 : List UInt8 := dkwX8_not0_4 ++ dktX8_not0_5
def dkwX8_not0_3 : List UInt8 := [182, 0, 221, 154, 0, 5, 27, 172, 42, 180, 0, 176, 20, 0, 243, 148, 154, 0, 7, 4, 167, 0, 4, 3]
abbrev dktX8_not0_3 : List UInt8 := dkwX8_not0_3 ++ dktX8_not0_4
def dkwX8_not0_2 : List UInt8 := [4, 167, 0, 4, 3, 172, 42, 182, 1, 76, 60, 42, 16, 60, 182, 0, 221, 154, 0, 14, 42, 16, 61]
abbrev dktX8_not0_2 : List UInt8 := dkwX8_not0_2 ++ dktX8_not0_3
def dkwX8_not0_1 : List UInt8 := [154, 0, 5, 3, 172, 42, 182, 1, 61, 60, 42, 89, 180, 0, 190, 4, 100, 181, 0, 190, 27, 154, 0, 7]
abbrev dktX8_not0_1 : List UInt8 := dkwX8_not0_1 ++ dktX8_not0_2
def dkwX8_not0_0 : List UInt8 := [42, 16, 110, 16, 111, 16, 116, 3, 3, 3, 3, 3, 182, 0, 199, 153, 0, 37, 42, 182, 0, 224]
abbrev dktX8_not0_0 : List UInt8 := dkwX8_not0_0 ++ dktX8_not0_1
theorem dksX8_not0_0 : cX8_not0.data.toList.drop 0 = dktX8_not0_0 := by decide +kernel
theorem dksX8_not0_1 : cX8_not0.data.toList.drop 22 = dktX8_not0_1 := dk_seg dksX8_not0_0 22 rfl rfl
theorem dksX8_not0_2 : cX8_not0.data.toList.drop 46 = dktX8_not0_2 := dk_seg dksX8_not0_1 24 rfl rfl
theorem dksX8_not0_3 : cX8_not0.data.toList.drop 69 = dktX8_not0_3 := dk_seg dksX8_not0_2 23 rfl rfl
theorem dksX8_not0_4 : cX8_not0.data.toList.drop 93 = dktX8_not0_4 := dk_seg dksX8_not0_3 24 rfl rfl
theorem dksX8_not0_5 : cX8_not0.data.toList.drop 117 = dktX8_not0_5 := dk_seg dksX8_not0_4 24 rfl rfl
theorem dX8_not0_0 : decode cX8_not0 0 = .ok (.aload_n 0, 1) := dk_42 (dk_at dksX8_not0_0 0 rfl rfl)
theorem dX8_not0_1 : decode cX8_not0 1 = .ok (.bipush 110, 2) := dk_16 110 (dk_at dksX8_not0_0 1 rfl rfl)
theorem dX8_not0_3 : decode cX8_not0 3 = .ok (.bipush 111, 2) := dk_16 111 (dk_at dksX8_not0_0 3 rfl rfl)
theorem dX8_not0_5 : decode cX8_not0 5 = .ok (.bipush 116, 2) := dk_16 116 (dk_at dksX8_not0_0 5 rfl rfl)
theorem dX8_not0_7 : decode cX8_not0 7 = .ok (.iconst 0, 1) := dk_3 (dk_at dksX8_not0_0 7 rfl rfl)
theorem dX8_not0_8 : decode cX8_not0 8 = .ok (.iconst 0, 1) := dk_3 (dk_at dksX8_not0_0 8 rfl rfl)
theorem dX8_not0_9 : decode cX8_not0 9 = .ok (.iconst 0, 1) := dk_3 (dk_at dksX8_not0_0 9 rfl rfl)
theorem dX8_not0_10 : decode cX8_not0 10 = .ok (.iconst 0, 1) := dk_3 (dk_at dksX8_not0_0 10 rfl rfl)
theorem dX8_not0_11 : decode cX8_not0 11 = .ok (.iconst 0, 1) := dk_3 (dk_at dksX8_not0_0 11 rfl rfl)
theorem dX8_not0_12 : decode cX8_not0 12 = .ok (.invokevirtual 199, 3) := dk_182 0 199 (dk_at dksX8_not0_0 12 rfl rfl)
theorem dX8_not0_15 : decode cX8_not0 15 = .ok (.ifCond .eq 37, 3) := dk_153 0 37 (dk_at dksX8_not0_0 15 rfl rfl)
theorem dX8_not0_18 : decode cX8_not0 18 = .ok (.aload_n 0, 1) := dk_42 (dk_at dksX8_not0_0 18 rfl rfl)
theorem dX8_not0_19 : decode cX8_not0 19 = .ok (.invokevirtual 224, 3) := dk_182 0 224 (dk_at dksX8_not0_0 19 rfl rfl)
theorem dX8_not0_22 : decode cX8_not0 22 = .ok (.ifCond .ne 5, 3) := dk_154 0 5 (dk_at dksX8_not0_1 0 rfl rfl)
theorem dX8_not0_25 : decode cX8_not0 25 = .ok (.iconst 0, 1) := dk_3 (dk_at dksX8_not0_1 3 rfl rfl)
theorem dX8_not0_26 : decode cX8_not0 26 = .ok (.ireturn, 1) := dk_172 (dk_at dksX8_not0_1 4 rfl rfl)
theorem dX8_not0_27 : decode cX8_not0 27 = .ok (.aload_n 0, 1) := dk_42 (dk_at dksX8_not0_1 5 rfl rfl)
theorem dX8_not0_28 : decode cX8_not0 28 = .ok (.invokevirtual 317, 3) := dk_182 1 61 (dk_at dksX8_not0_1 6 rfl rfl)
theorem dX8_not0_31 : decode cX8_not0 31 = .ok (.istore_n 1, 1) := dk_60 (dk_at dksX8_not0_1 9 rfl rfl)
theorem dX8_not0_32 : decode cX8_not0 32 = .ok (.aload_n 0, 1) := dk_42 (dk_at dksX8_not0_1 10 rfl rfl)
theorem dX8_not0_33 : decode cX8_not0 33 = .ok (.dup, 1) := dk_89 (dk_at dksX8_not0_1 11 rfl rfl)
theorem dX8_not0_34 : decode cX8_not0 34 = .ok (.getfield 190, 3) := dk_180 0 190 (dk_at dksX8_not0_1 12 rfl rfl)
theorem dX8_not0_37 : decode cX8_not0 37 = .ok (.iconst 1, 1) := dk_4 (dk_at dksX8_not0_1 15 rfl rfl)
theorem dX8_not0_38 : decode cX8_not0 38 = .ok (.isub, 1) := dk_100 (dk_at dksX8_not0_1 16 rfl rfl)
theorem dX8_not0_39 : decode cX8_not0 39 = .ok (.putfield 190, 3) := dk_181 0 190 (dk_at dksX8_not0_1 17 rfl rfl)
theorem dX8_not0_42 : decode cX8_not0 42 = .ok (.iload_n 1, 1) := dk_27 (dk_at dksX8_not0_1 20 rfl rfl)
theorem dX8_not0_43 : decode cX8_not0 43 = .ok (.ifCond .ne 7, 3) := dk_154 0 7 (dk_at dksX8_not0_1 21 rfl rfl)
theorem dX8_not0_46 : decode cX8_not0 46 = .ok (.iconst 1, 1) := dk_4 (dk_at dksX8_not0_2 0 rfl rfl)
theorem dX8_not0_47 : decode cX8_not0 47 = .ok (.goto 4, 3) := dk_167 0 4 (dk_at dksX8_not0_2 1 rfl rfl)
theorem dX8_not0_50 : decode cX8_not0 50 = .ok (.iconst 0, 1) := dk_3 (dk_at dksX8_not0_2 4 rfl rfl)
theorem dX8_not0_51 : decode cX8_not0 51 = .ok (.ireturn, 1) := dk_172 (dk_at dksX8_not0_2 5 rfl rfl)
theorem dX8_not0_52 : decode cX8_not0 52 = .ok (.aload_n 0, 1) := dk_42 (dk_at dksX8_not0_2 6 rfl rfl)
theorem dX8_not0_53 : decode cX8_not0 53 = .ok (.invokevirtual 332, 3) := dk_182 1 76 (dk_at dksX8_not0_2 7 rfl rfl)
theorem dX8_not0_56 : decode cX8_not0 56 = .ok (.istore_n 1, 1) := dk_60 (dk_at dksX8_not0_2 10 rfl rfl)
theorem dX8_not0_57 : decode cX8_not0 57 = .ok (.aload_n 0, 1) := dk_42 (dk_at dksX8_not0_2 11 rfl rfl)
theorem dX8_not0_58 : decode cX8_not0 58 = .ok (.bipush 60, 2) := dk_16 60 (dk_at dksX8_not0_2 12 rfl rfl)
theorem dX8_not0_60 : decode cX8_not0 60 = .ok (.invokevirtual 221, 3) := dk_182 0 221 (dk_at dksX8_not0_2 14 rfl rfl)
theorem dX8_not0_63 : decode cX8_not0 63 = .ok (.ifCond .ne 14, 3) := dk_154 0 14 (dk_at dksX8_not0_2 17 rfl rfl)
theorem dX8_not0_66 : decode cX8_not0 66 = .ok (.aload_n 0, 1) := dk_42 (dk_at dksX8_not0_2 20 rfl rfl)
theorem dX8_not0_67 : decode cX8_not0 67 = .ok (.bipush 61, 2) := dk_16 61 (dk_at dksX8_not0_2 21 rfl rfl)
theorem dX8_not0_69 : decode cX8_not0 69 = .ok (.invokevirtual 221, 3) := dk_182 0 221 (dk_at dksX8_not0_3 0 rfl rfl)
theorem dX8_not0_72 : decode cX8_not0 72 = .ok (.ifCond .ne 5, 3) := dk_154 0 5 (dk_at dksX8_not0_3 3 rfl rfl)
theorem dX8_not0_75 : decode cX8_not0 75 = .ok (.iload_n 1, 1) := dk_27 (dk_at dksX8_not0_3 6 rfl rfl)
theorem dX8_not0_76 : decode cX8_not0 76 = .ok (.ireturn, 1) := dk_172 (dk_at dksX8_not0_3 7 rfl rfl)
theorem dX8_not0_77 : decode cX8_not0 77 = .ok (.aload_n 0, 1) := dk_42 (dk_at dksX8_not0_3 8 rfl rfl)
theorem dX8_not0_78 : decode cX8_not0 78 = .ok (.getfield 176, 3) := dk_180 0 176 (dk_at dksX8_not0_3 9 rfl rfl)
theorem dX8_not0_81 : decode cX8_not0 81 = .ok (.ldc2_w 243, 3) := dk_20 0 243 (dk_at dksX8_not0_3 12 rfl rfl)
theorem dX8_not0_84 : decode cX8_not0 84 = .ok (.lcmp, 1) := dk_148 (dk_at dksX8_not0_3 15 rfl rfl)
theorem dX8_not0_85 : decode cX8_not0 85 = .ok (.ifCond .ne 7, 3) := dk_154 0 7 (dk_at dksX8_not0_3 16 rfl rfl)
theorem dX8_not0_88 : decode cX8_not0 88 = .ok (.iconst 1, 1) := dk_4 (dk_at dksX8_not0_3 19 rfl rfl)
theorem dX8_not0_89 : decode cX8_not0 89 = .ok (.goto 4, 3) := dk_167 0 4 (dk_at dksX8_not0_3 20 rfl rfl)
theorem dX8_not0_92 : decode cX8_not0 92 = .ok (.iconst 0, 1) := dk_3 (dk_at dksX8_not0_3 23 rfl rfl)
theorem dX8_not0_93 : decode cX8_not0 93 = .ok (.istore_n 2, 1) := dk_61 (dk_at dksX8_not0_4 0 rfl rfl)
theorem dX8_not0_94 : decode cX8_not0 94 = .ok (.aload_n 0, 1) := dk_42 (dk_at dksX8_not0_4 1 rfl rfl)
theorem dX8_not0_95 : decode cX8_not0 95 = .ok (.invokevirtual 196, 3) := dk_182 0 196 (dk_at dksX8_not0_4 2 rfl rfl)
theorem dX8_not0_98 : decode cX8_not0 98 = .ok (.aload_n 0, 1) := dk_42 (dk_at dksX8_not0_4 5 rfl rfl)
theorem dX8_not0_99 : decode cX8_not0 99 = .ok (.invokevirtual 332, 3) := dk_182 1 76 (dk_at dksX8_not0_4 6 rfl rfl)
theorem dX8_not0_102 : decode cX8_not0 102 = .ok (.istore_n 3, 1) := dk_62 (dk_at dksX8_not0_4 9 rfl rfl)
theorem dX8_not0_103 : decode cX8_not0 103 = .ok (.iload_n 2, 1) := dk_28 (dk_at dksX8_not0_4 10 rfl rfl)
theorem dX8_not0_104 : decode cX8_not0 104 = .ok (.ifCond .eq 11, 3) := dk_153 0 11 (dk_at dksX8_not0_4 11 rfl rfl)
theorem dX8_not0_107 : decode cX8_not0 107 = .ok (.iload_n 1, 1) := dk_27 (dk_at dksX8_not0_4 14 rfl rfl)
theorem dX8_not0_108 : decode cX8_not0 108 = .ok (.iload_n 3, 1) := dk_29 (dk_at dksX8_not0_4 15 rfl rfl)
theorem dX8_not0_109 : decode cX8_not0 109 = .ok (.if_icmp .ge 15, 3) := dk_162 0 15 (dk_at dksX8_not0_4 16 rfl rfl)
theorem dX8_not0_112 : decode cX8_not0 112 = .ok (.goto 8, 3) := dk_167 0 8 (dk_at dksX8_not0_4 19 rfl rfl)
theorem dX8_not0_115 : decode cX8_not0 115 = .ok (.iload_n 1, 1) := dk_27 (dk_at dksX8_not0_4 22 rfl rfl)
theorem dX8_not0_116 : decode cX8_not0 116 = .ok (.iload_n 3, 1) := dk_29 (dk_at dksX8_not0_4 23 rfl rfl)
theorem dX8_not0_117 : decode cX8_not0 117 = .ok (.if_icmp .ne 7, 3) := dk_160 0 7 (dk_at dksX8_not0_5 0 rfl rfl)
theorem dX8_not0_120 : decode cX8_not0 120 = .ok (.iconst 1, 1) := dk_4 (dk_at dksX8_not0_5 3 rfl rfl)
theorem dX8_not0_121 : decode cX8_not0 121 = .ok (.goto 4, 3) := dk_167 0 4 (dk_at dksX8_not0_5 4 rfl rfl)
theorem dX8_not0_124 : decode cX8_not0 124 = .ok (.iconst 0, 1) := dk_3 (dk_at dksX8_not0_5 7 rfl rfl)
theorem dX8_not0_125 : decode cX8_not0 125 = .ok (.ireturn, 1) := dk_172 (dk_at dksX8_not0_5 8 rfl rfl)
abbrev cX8_opens : ByteArray := prog_16_method_24_code
def yX8_opens : MethodName := ⟨RX8, "opens", "()Z"⟩
def dkwX8_opens_1 : List UInt8 := [42, 182, 0, 196, 4, 172]
abbrev dktX8_opens_1 : List UInt8 := dkwX8_opens_1 ++ []
def dkwX8_opens_0 : List UInt8 := [42, 180, 0, 190, 8, 160, 0, 9, 42, 182, 0, 193, 3, 172, 42, 89, 180, 0, 190, 4, 96, 181, 0, 190]
abbrev dktX8_opens_0 : List UInt8 := dkwX8_opens_0 ++ dktX8_opens_1
theorem dksX8_opens_0 : cX8_opens.data.toList.drop 0 = dktX8_opens_0 := by decide +kernel
theorem dksX8_opens_1 : cX8_opens.data.toList.drop 24 = dktX8_opens_1 := dk_seg dksX8_opens_0 24 rfl rfl
theorem dX8_opens_0 : decode cX8_opens 0 = .ok (.aload_n 0, 1) := dk_42 (dk_at dksX8_opens_0 0 rfl rfl)
theorem dX8_opens_1 : decode cX8_opens 1 = .ok (.getfield 190, 3) := dk_180 0 190 (dk_at dksX8_opens_0 1 rfl rfl)
theorem dX8_opens_4 : decode cX8_opens 4 = .ok (.iconst 5, 1) := dk_8 (dk_at dksX8_opens_0 4 rfl rfl)
theorem dX8_opens_5 : decode cX8_opens 5 = .ok (.if_icmp .ne 9, 3) := dk_160 0 9 (dk_at dksX8_opens_0 5 rfl rfl)
theorem dX8_opens_8 : decode cX8_opens 8 = .ok (.aload_n 0, 1) := dk_42 (dk_at dksX8_opens_0 8 rfl rfl)
theorem dX8_opens_9 : decode cX8_opens 9 = .ok (.invokevirtual 193, 3) := dk_182 0 193 (dk_at dksX8_opens_0 9 rfl rfl)
theorem dX8_opens_12 : decode cX8_opens 12 = .ok (.iconst 0, 1) := dk_3 (dk_at dksX8_opens_0 12 rfl rfl)
theorem dX8_opens_13 : decode cX8_opens 13 = .ok (.ireturn, 1) := dk_172 (dk_at dksX8_opens_0 13 rfl rfl)
theorem dX8_opens_14 : decode cX8_opens 14 = .ok (.aload_n 0, 1) := dk_42 (dk_at dksX8_opens_0 14 rfl rfl)
theorem dX8_opens_15 : decode cX8_opens 15 = .ok (.dup, 1) := dk_89 (dk_at dksX8_opens_0 15 rfl rfl)
theorem dX8_opens_16 : decode cX8_opens 16 = .ok (.getfield 190, 3) := dk_180 0 190 (dk_at dksX8_opens_0 16 rfl rfl)
theorem dX8_opens_19 : decode cX8_opens 19 = .ok (.iconst 1, 1) := dk_4 (dk_at dksX8_opens_0 19 rfl rfl)
theorem dX8_opens_20 : decode cX8_opens 20 = .ok (.iadd, 1) := dk_96 (dk_at dksX8_opens_0 20 rfl rfl)
theorem dX8_opens_21 : decode cX8_opens 21 = .ok (.putfield 190, 3) := dk_181 0 190 (dk_at dksX8_opens_0 21 rfl rfl)
theorem dX8_opens_24 : decode cX8_opens 24 = .ok (.aload_n 0, 1) := dk_42 (dk_at dksX8_opens_1 0 rfl rfl)
theorem dX8_opens_25 : decode cX8_opens 25 = .ok (.invokevirtual 196, 3) := dk_182 0 196 (dk_at dksX8_opens_1 1 rfl rfl)
theorem dX8_opens_28 : decode cX8_opens 28 = .ok (.iconst 1, 1) := dk_4 (dk_at dksX8_opens_1 4 rfl rfl)
theorem dX8_opens_29 : decode cX8_opens 29 = .ok (.ireturn, 1) := dk_172 (dk_at dksX8_opens_1 5 rfl rfl)
abbrev cX8_not1 : ByteArray := prog_16_method_53_code
def yX8_not1 : MethodName := ⟨RX8, "not1", "()I"⟩
def dkwX8_not1_5 : List UInt8 := [160, 0, 7, 4, 167, 0, 4, 3, 172]
abbrev dktX8_not1_5 : List UInt8 := dkwX8_not1_5 ++ []
def dkwX8_not1_4 : List UInt8 := [61, 42, 182, 0, 196, 42, 182, 1, 58, 62, 28, 153, 0, 11, 27, 29, 162, 0, 15, 167, 0, 8, 27, 29]
abbrev dktX8_not1_4 : List UInt8 := dkwX8_not1_4 ++ dktX8_not1_5
def dkwX8_not1_3 : List UInt8 := [182, 0, 221, 154, 0, 5, 27, 172, 42, 180, 0, 176, 20, 0, 243, 148, 154, 0, 7, 4, 167, 0, 4, 3]
abbrev dktX8_not1_3 : List UInt8 := dkwX8_not1_3 ++ dktX8_not1_4
def dkwX8_not1_2 : List UInt8 := [4, 167, 0, 4, 3, 172, 42, 182, 1, 58, 60, 42, 16, 60, 182, 0, 221, 154, 0, 14, 42, 16, 61]
abbrev dktX8_not1_2 : List UInt8 := dkwX8_not1_2 ++ dktX8_not1_3
def dkwX8_not1_1 : List UInt8 := [154, 0, 5, 3, 172, 42, 182, 1, 43, 60, 42, 89, 180, 0, 190, 4, 100, 181, 0, 190, 27, 154, 0, 7]
abbrev dktX8_not1_1 : List UInt8 := dkwX8_not1_1 ++ dktX8_not1_2
def dkwX8_not1_0 : List UInt8 := [42, 16, 110, 16, 111, 16, 116, 3, 3, 3, 3, 3, 182, 0, 199, 153, 0, 37, 42, 182, 0, 224]
abbrev dktX8_not1_0 : List UInt8 := dkwX8_not1_0 ++ dktX8_not1_1
theorem dksX8_not1_0 : cX8_not1.data.toList.drop 0 = dktX8_not1_0 := by decide +kernel
theorem dksX8_not1_1 : cX8_not1.data.toList.drop 22 = dktX8_not1_1 := dk_seg dksX8_not1_0 22 rfl rfl
theorem dksX8_not1_2 : cX8_not1.data.toList.drop 46 = dktX8_not1_2 := dk_seg dksX8_not1_1 24 rfl rfl
theorem dksX8_not1_3 : cX8_not1.data.toList.drop 69 = dktX8_not1_3 := dk_seg dksX8_not1_2 23 rfl rfl
theorem dksX8_not1_4 : cX8_not1.data.toList.drop 93 = dktX8_not1_4 := dk_seg dksX8_not1_3 24 rfl rfl
theorem dksX8_not1_5 : cX8_not1.data.toList.drop 117 = dktX8_not1_5 := dk_seg dksX8_not1_4 24 rfl rfl
theorem dX8_not1_0 : decode cX8_not1 0 = .ok (.aload_n 0, 1) := dk_42 (dk_at dksX8_not1_0 0 rfl rfl)
theorem dX8_not1_1 : decode cX8_not1 1 = .ok (.bipush 110, 2) := dk_16 110 (dk_at dksX8_not1_0 1 rfl rfl)
theorem dX8_not1_3 : decode cX8_not1 3 = .ok (.bipush 111, 2) := dk_16 111 (dk_at dksX8_not1_0 3 rfl rfl)
theorem dX8_not1_5 : decode cX8_not1 5 = .ok (.bipush 116, 2) := dk_16 116 (dk_at dksX8_not1_0 5 rfl rfl)
theorem dX8_not1_7 : decode cX8_not1 7 = .ok (.iconst 0, 1) := dk_3 (dk_at dksX8_not1_0 7 rfl rfl)
theorem dX8_not1_8 : decode cX8_not1 8 = .ok (.iconst 0, 1) := dk_3 (dk_at dksX8_not1_0 8 rfl rfl)
theorem dX8_not1_9 : decode cX8_not1 9 = .ok (.iconst 0, 1) := dk_3 (dk_at dksX8_not1_0 9 rfl rfl)
theorem dX8_not1_10 : decode cX8_not1 10 = .ok (.iconst 0, 1) := dk_3 (dk_at dksX8_not1_0 10 rfl rfl)
theorem dX8_not1_11 : decode cX8_not1 11 = .ok (.iconst 0, 1) := dk_3 (dk_at dksX8_not1_0 11 rfl rfl)
theorem dX8_not1_12 : decode cX8_not1 12 = .ok (.invokevirtual 199, 3) := dk_182 0 199 (dk_at dksX8_not1_0 12 rfl rfl)
theorem dX8_not1_15 : decode cX8_not1 15 = .ok (.ifCond .eq 37, 3) := dk_153 0 37 (dk_at dksX8_not1_0 15 rfl rfl)
theorem dX8_not1_18 : decode cX8_not1 18 = .ok (.aload_n 0, 1) := dk_42 (dk_at dksX8_not1_0 18 rfl rfl)
theorem dX8_not1_19 : decode cX8_not1 19 = .ok (.invokevirtual 224, 3) := dk_182 0 224 (dk_at dksX8_not1_0 19 rfl rfl)
theorem dX8_not1_22 : decode cX8_not1 22 = .ok (.ifCond .ne 5, 3) := dk_154 0 5 (dk_at dksX8_not1_1 0 rfl rfl)
theorem dX8_not1_25 : decode cX8_not1 25 = .ok (.iconst 0, 1) := dk_3 (dk_at dksX8_not1_1 3 rfl rfl)
theorem dX8_not1_26 : decode cX8_not1 26 = .ok (.ireturn, 1) := dk_172 (dk_at dksX8_not1_1 4 rfl rfl)
theorem dX8_not1_27 : decode cX8_not1 27 = .ok (.aload_n 0, 1) := dk_42 (dk_at dksX8_not1_1 5 rfl rfl)
theorem dX8_not1_28 : decode cX8_not1 28 = .ok (.invokevirtual 299, 3) := dk_182 1 43 (dk_at dksX8_not1_1 6 rfl rfl)
theorem dX8_not1_31 : decode cX8_not1 31 = .ok (.istore_n 1, 1) := dk_60 (dk_at dksX8_not1_1 9 rfl rfl)
theorem dX8_not1_32 : decode cX8_not1 32 = .ok (.aload_n 0, 1) := dk_42 (dk_at dksX8_not1_1 10 rfl rfl)
theorem dX8_not1_33 : decode cX8_not1 33 = .ok (.dup, 1) := dk_89 (dk_at dksX8_not1_1 11 rfl rfl)
theorem dX8_not1_34 : decode cX8_not1 34 = .ok (.getfield 190, 3) := dk_180 0 190 (dk_at dksX8_not1_1 12 rfl rfl)
theorem dX8_not1_37 : decode cX8_not1 37 = .ok (.iconst 1, 1) := dk_4 (dk_at dksX8_not1_1 15 rfl rfl)
theorem dX8_not1_38 : decode cX8_not1 38 = .ok (.isub, 1) := dk_100 (dk_at dksX8_not1_1 16 rfl rfl)
theorem dX8_not1_39 : decode cX8_not1 39 = .ok (.putfield 190, 3) := dk_181 0 190 (dk_at dksX8_not1_1 17 rfl rfl)
theorem dX8_not1_42 : decode cX8_not1 42 = .ok (.iload_n 1, 1) := dk_27 (dk_at dksX8_not1_1 20 rfl rfl)
theorem dX8_not1_43 : decode cX8_not1 43 = .ok (.ifCond .ne 7, 3) := dk_154 0 7 (dk_at dksX8_not1_1 21 rfl rfl)
theorem dX8_not1_46 : decode cX8_not1 46 = .ok (.iconst 1, 1) := dk_4 (dk_at dksX8_not1_2 0 rfl rfl)
theorem dX8_not1_47 : decode cX8_not1 47 = .ok (.goto 4, 3) := dk_167 0 4 (dk_at dksX8_not1_2 1 rfl rfl)
theorem dX8_not1_50 : decode cX8_not1 50 = .ok (.iconst 0, 1) := dk_3 (dk_at dksX8_not1_2 4 rfl rfl)
theorem dX8_not1_51 : decode cX8_not1 51 = .ok (.ireturn, 1) := dk_172 (dk_at dksX8_not1_2 5 rfl rfl)
theorem dX8_not1_52 : decode cX8_not1 52 = .ok (.aload_n 0, 1) := dk_42 (dk_at dksX8_not1_2 6 rfl rfl)
theorem dX8_not1_53 : decode cX8_not1 53 = .ok (.invokevirtual 314, 3) := dk_182 1 58 (dk_at dksX8_not1_2 7 rfl rfl)
theorem dX8_not1_56 : decode cX8_not1 56 = .ok (.istore_n 1, 1) := dk_60 (dk_at dksX8_not1_2 10 rfl rfl)
theorem dX8_not1_57 : decode cX8_not1 57 = .ok (.aload_n 0, 1) := dk_42 (dk_at dksX8_not1_2 11 rfl rfl)
theorem dX8_not1_58 : decode cX8_not1 58 = .ok (.bipush 60, 2) := dk_16 60 (dk_at dksX8_not1_2 12 rfl rfl)
theorem dX8_not1_60 : decode cX8_not1 60 = .ok (.invokevirtual 221, 3) := dk_182 0 221 (dk_at dksX8_not1_2 14 rfl rfl)
theorem dX8_not1_63 : decode cX8_not1 63 = .ok (.ifCond .ne 14, 3) := dk_154 0 14 (dk_at dksX8_not1_2 17 rfl rfl)
theorem dX8_not1_66 : decode cX8_not1 66 = .ok (.aload_n 0, 1) := dk_42 (dk_at dksX8_not1_2 20 rfl rfl)
theorem dX8_not1_67 : decode cX8_not1 67 = .ok (.bipush 61, 2) := dk_16 61 (dk_at dksX8_not1_2 21 rfl rfl)
theorem dX8_not1_69 : decode cX8_not1 69 = .ok (.invokevirtual 221, 3) := dk_182 0 221 (dk_at dksX8_not1_3 0 rfl rfl)
theorem dX8_not1_72 : decode cX8_not1 72 = .ok (.ifCond .ne 5, 3) := dk_154 0 5 (dk_at dksX8_not1_3 3 rfl rfl)
theorem dX8_not1_75 : decode cX8_not1 75 = .ok (.iload_n 1, 1) := dk_27 (dk_at dksX8_not1_3 6 rfl rfl)
theorem dX8_not1_76 : decode cX8_not1 76 = .ok (.ireturn, 1) := dk_172 (dk_at dksX8_not1_3 7 rfl rfl)
theorem dX8_not1_77 : decode cX8_not1 77 = .ok (.aload_n 0, 1) := dk_42 (dk_at dksX8_not1_3 8 rfl rfl)
theorem dX8_not1_78 : decode cX8_not1 78 = .ok (.getfield 176, 3) := dk_180 0 176 (dk_at dksX8_not1_3 9 rfl rfl)
theorem dX8_not1_81 : decode cX8_not1 81 = .ok (.ldc2_w 243, 3) := dk_20 0 243 (dk_at dksX8_not1_3 12 rfl rfl)
theorem dX8_not1_84 : decode cX8_not1 84 = .ok (.lcmp, 1) := dk_148 (dk_at dksX8_not1_3 15 rfl rfl)
theorem dX8_not1_85 : decode cX8_not1 85 = .ok (.ifCond .ne 7, 3) := dk_154 0 7 (dk_at dksX8_not1_3 16 rfl rfl)
theorem dX8_not1_88 : decode cX8_not1 88 = .ok (.iconst 1, 1) := dk_4 (dk_at dksX8_not1_3 19 rfl rfl)
theorem dX8_not1_89 : decode cX8_not1 89 = .ok (.goto 4, 3) := dk_167 0 4 (dk_at dksX8_not1_3 20 rfl rfl)
theorem dX8_not1_92 : decode cX8_not1 92 = .ok (.iconst 0, 1) := dk_3 (dk_at dksX8_not1_3 23 rfl rfl)
theorem dX8_not1_93 : decode cX8_not1 93 = .ok (.istore_n 2, 1) := dk_61 (dk_at dksX8_not1_4 0 rfl rfl)
theorem dX8_not1_94 : decode cX8_not1 94 = .ok (.aload_n 0, 1) := dk_42 (dk_at dksX8_not1_4 1 rfl rfl)
theorem dX8_not1_95 : decode cX8_not1 95 = .ok (.invokevirtual 196, 3) := dk_182 0 196 (dk_at dksX8_not1_4 2 rfl rfl)
theorem dX8_not1_98 : decode cX8_not1 98 = .ok (.aload_n 0, 1) := dk_42 (dk_at dksX8_not1_4 5 rfl rfl)
theorem dX8_not1_99 : decode cX8_not1 99 = .ok (.invokevirtual 314, 3) := dk_182 1 58 (dk_at dksX8_not1_4 6 rfl rfl)
theorem dX8_not1_102 : decode cX8_not1 102 = .ok (.istore_n 3, 1) := dk_62 (dk_at dksX8_not1_4 9 rfl rfl)
theorem dX8_not1_103 : decode cX8_not1 103 = .ok (.iload_n 2, 1) := dk_28 (dk_at dksX8_not1_4 10 rfl rfl)
theorem dX8_not1_104 : decode cX8_not1 104 = .ok (.ifCond .eq 11, 3) := dk_153 0 11 (dk_at dksX8_not1_4 11 rfl rfl)
theorem dX8_not1_107 : decode cX8_not1 107 = .ok (.iload_n 1, 1) := dk_27 (dk_at dksX8_not1_4 14 rfl rfl)
theorem dX8_not1_108 : decode cX8_not1 108 = .ok (.iload_n 3, 1) := dk_29 (dk_at dksX8_not1_4 15 rfl rfl)
theorem dX8_not1_109 : decode cX8_not1 109 = .ok (.if_icmp .ge 15, 3) := dk_162 0 15 (dk_at dksX8_not1_4 16 rfl rfl)
theorem dX8_not1_112 : decode cX8_not1 112 = .ok (.goto 8, 3) := dk_167 0 8 (dk_at dksX8_not1_4 19 rfl rfl)
theorem dX8_not1_115 : decode cX8_not1 115 = .ok (.iload_n 1, 1) := dk_27 (dk_at dksX8_not1_4 22 rfl rfl)
theorem dX8_not1_116 : decode cX8_not1 116 = .ok (.iload_n 3, 1) := dk_29 (dk_at dksX8_not1_4 23 rfl rfl)
theorem dX8_not1_117 : decode cX8_not1 117 = .ok (.if_icmp .ne 7, 3) := dk_160 0 7 (dk_at dksX8_not1_5 0 rfl rfl)
theorem dX8_not1_120 : decode cX8_not1 120 = .ok (.iconst 1, 1) := dk_4 (dk_at dksX8_not1_5 3 rfl rfl)
theorem dX8_not1_121 : decode cX8_not1 121 = .ok (.goto 4, 3) := dk_167 0 4 (dk_at dksX8_not1_5 4 rfl rfl)
theorem dX8_not1_124 : decode cX8_not1 124 = .ok (.iconst 0, 1) := dk_3 (dk_at dksX8_not1_5 7 rfl rfl)
theorem dX8_not1_125 : decode cX8_not1 125 = .ok (.ireturn, 1) := dk_172 (dk_at dksX8_not1_5 8 rfl rfl)
abbrev cX8_not2 : ByteArray := prog_16_method_47_code
def yX8_not2 : MethodName := ⟨RX8, "not2", "()I"⟩
def dkwX8_not2_5 : List UInt8 := [160, 0, 7, 4, 167, 0, 4, 3, 172]
abbrev dktX8_not2_5 : List UInt8 := dkwX8_not2_5 ++ []
def dkwX8_not2_4 : List UInt8 := [61, 42, 182, 0, 196, 42, 182, 1, 40, 62, 28, 153, 0, 11, 27, 29, 162, 0, 15, 167, 0, 8, 27, 29]
abbrev dktX8_not2_4 : List UInt8 := dkwX8_not2_4 ++ dktX8_not2_5
def dkwX8_not2_3 : List UInt8 := [182, 0, 221, 154, 0, 5, 27, 172, 42, 180, 0, 176, 20, 0, 243, 148, 154, 0, 7, 4, 167, 0, 4, 3]
abbrev dktX8_not2_3 : List UInt8 := dkwX8_not2_3 ++ dktX8_not2_4
def dkwX8_not2_2 : List UInt8 := [4, 167, 0, 4, 3, 172, 42, 182, 1, 40, 60, 42, 16, 60, 182, 0, 221, 154, 0, 14, 42, 16, 61]
abbrev dktX8_not2_2 : List UInt8 := dkwX8_not2_2 ++ dktX8_not2_3
def dkwX8_not2_1 : List UInt8 := [154, 0, 5, 3, 172, 42, 182, 1, 25, 60, 42, 89, 180, 0, 190, 4, 100, 181, 0, 190, 27, 154, 0, 7]
abbrev dktX8_not2_1 : List UInt8 := dkwX8_not2_1 ++ dktX8_not2_2
def dkwX8_not2_0 : List UInt8 := [42, 16, 110, 16, 111, 16, 116, 3, 3, 3, 3, 3, 182, 0, 199, 153, 0, 37, 42, 182, 0, 224]
abbrev dktX8_not2_0 : List UInt8 := dkwX8_not2_0 ++ dktX8_not2_1
theorem dksX8_not2_0 : cX8_not2.data.toList.drop 0 = dktX8_not2_0 := by decide +kernel
theorem dksX8_not2_1 : cX8_not2.data.toList.drop 22 = dktX8_not2_1 := dk_seg dksX8_not2_0 22 rfl rfl
theorem dksX8_not2_2 : cX8_not2.data.toList.drop 46 = dktX8_not2_2 := dk_seg dksX8_not2_1 24 rfl rfl
theorem dksX8_not2_3 : cX8_not2.data.toList.drop 69 = dktX8_not2_3 := dk_seg dksX8_not2_2 23 rfl rfl
theorem dksX8_not2_4 : cX8_not2.data.toList.drop 93 = dktX8_not2_4 := dk_seg dksX8_not2_3 24 rfl rfl
theorem dksX8_not2_5 : cX8_not2.data.toList.drop 117 = dktX8_not2_5 := dk_seg dksX8_not2_4 24 rfl rfl
theorem dX8_not2_0 : decode cX8_not2 0 = .ok (.aload_n 0, 1) := dk_42 (dk_at dksX8_not2_0 0 rfl rfl)
theorem dX8_not2_1 : decode cX8_not2 1 = .ok (.bipush 110, 2) := dk_16 110 (dk_at dksX8_not2_0 1 rfl rfl)
theorem dX8_not2_3 : decode cX8_not2 3 = .ok (.bipush 111, 2) := dk_16 111 (dk_at dksX8_not2_0 3 rfl rfl)
theorem dX8_not2_5 : decode cX8_not2 5 = .ok (.bipush 116, 2) := dk_16 116 (dk_at dksX8_not2_0 5 rfl rfl)
theorem dX8_not2_7 : decode cX8_not2 7 = .ok (.iconst 0, 1) := dk_3 (dk_at dksX8_not2_0 7 rfl rfl)
theorem dX8_not2_8 : decode cX8_not2 8 = .ok (.iconst 0, 1) := dk_3 (dk_at dksX8_not2_0 8 rfl rfl)
theorem dX8_not2_9 : decode cX8_not2 9 = .ok (.iconst 0, 1) := dk_3 (dk_at dksX8_not2_0 9 rfl rfl)
theorem dX8_not2_10 : decode cX8_not2 10 = .ok (.iconst 0, 1) := dk_3 (dk_at dksX8_not2_0 10 rfl rfl)
theorem dX8_not2_11 : decode cX8_not2 11 = .ok (.iconst 0, 1) := dk_3 (dk_at dksX8_not2_0 11 rfl rfl)
theorem dX8_not2_12 : decode cX8_not2 12 = .ok (.invokevirtual 199, 3) := dk_182 0 199 (dk_at dksX8_not2_0 12 rfl rfl)
theorem dX8_not2_15 : decode cX8_not2 15 = .ok (.ifCond .eq 37, 3) := dk_153 0 37 (dk_at dksX8_not2_0 15 rfl rfl)
theorem dX8_not2_18 : decode cX8_not2 18 = .ok (.aload_n 0, 1) := dk_42 (dk_at dksX8_not2_0 18 rfl rfl)
theorem dX8_not2_19 : decode cX8_not2 19 = .ok (.invokevirtual 224, 3) := dk_182 0 224 (dk_at dksX8_not2_0 19 rfl rfl)
theorem dX8_not2_22 : decode cX8_not2 22 = .ok (.ifCond .ne 5, 3) := dk_154 0 5 (dk_at dksX8_not2_1 0 rfl rfl)
theorem dX8_not2_25 : decode cX8_not2 25 = .ok (.iconst 0, 1) := dk_3 (dk_at dksX8_not2_1 3 rfl rfl)
theorem dX8_not2_26 : decode cX8_not2 26 = .ok (.ireturn, 1) := dk_172 (dk_at dksX8_not2_1 4 rfl rfl)
theorem dX8_not2_27 : decode cX8_not2 27 = .ok (.aload_n 0, 1) := dk_42 (dk_at dksX8_not2_1 5 rfl rfl)
theorem dX8_not2_28 : decode cX8_not2 28 = .ok (.invokevirtual 281, 3) := dk_182 1 25 (dk_at dksX8_not2_1 6 rfl rfl)
theorem dX8_not2_31 : decode cX8_not2 31 = .ok (.istore_n 1, 1) := dk_60 (dk_at dksX8_not2_1 9 rfl rfl)
theorem dX8_not2_32 : decode cX8_not2 32 = .ok (.aload_n 0, 1) := dk_42 (dk_at dksX8_not2_1 10 rfl rfl)
theorem dX8_not2_33 : decode cX8_not2 33 = .ok (.dup, 1) := dk_89 (dk_at dksX8_not2_1 11 rfl rfl)
theorem dX8_not2_34 : decode cX8_not2 34 = .ok (.getfield 190, 3) := dk_180 0 190 (dk_at dksX8_not2_1 12 rfl rfl)
theorem dX8_not2_37 : decode cX8_not2 37 = .ok (.iconst 1, 1) := dk_4 (dk_at dksX8_not2_1 15 rfl rfl)
theorem dX8_not2_38 : decode cX8_not2 38 = .ok (.isub, 1) := dk_100 (dk_at dksX8_not2_1 16 rfl rfl)
theorem dX8_not2_39 : decode cX8_not2 39 = .ok (.putfield 190, 3) := dk_181 0 190 (dk_at dksX8_not2_1 17 rfl rfl)
theorem dX8_not2_42 : decode cX8_not2 42 = .ok (.iload_n 1, 1) := dk_27 (dk_at dksX8_not2_1 20 rfl rfl)
theorem dX8_not2_43 : decode cX8_not2 43 = .ok (.ifCond .ne 7, 3) := dk_154 0 7 (dk_at dksX8_not2_1 21 rfl rfl)
theorem dX8_not2_46 : decode cX8_not2 46 = .ok (.iconst 1, 1) := dk_4 (dk_at dksX8_not2_2 0 rfl rfl)
theorem dX8_not2_47 : decode cX8_not2 47 = .ok (.goto 4, 3) := dk_167 0 4 (dk_at dksX8_not2_2 1 rfl rfl)
theorem dX8_not2_50 : decode cX8_not2 50 = .ok (.iconst 0, 1) := dk_3 (dk_at dksX8_not2_2 4 rfl rfl)
theorem dX8_not2_51 : decode cX8_not2 51 = .ok (.ireturn, 1) := dk_172 (dk_at dksX8_not2_2 5 rfl rfl)
theorem dX8_not2_52 : decode cX8_not2 52 = .ok (.aload_n 0, 1) := dk_42 (dk_at dksX8_not2_2 6 rfl rfl)
theorem dX8_not2_53 : decode cX8_not2 53 = .ok (.invokevirtual 296, 3) := dk_182 1 40 (dk_at dksX8_not2_2 7 rfl rfl)
theorem dX8_not2_56 : decode cX8_not2 56 = .ok (.istore_n 1, 1) := dk_60 (dk_at dksX8_not2_2 10 rfl rfl)
theorem dX8_not2_57 : decode cX8_not2 57 = .ok (.aload_n 0, 1) := dk_42 (dk_at dksX8_not2_2 11 rfl rfl)
theorem dX8_not2_58 : decode cX8_not2 58 = .ok (.bipush 60, 2) := dk_16 60 (dk_at dksX8_not2_2 12 rfl rfl)
theorem dX8_not2_60 : decode cX8_not2 60 = .ok (.invokevirtual 221, 3) := dk_182 0 221 (dk_at dksX8_not2_2 14 rfl rfl)
theorem dX8_not2_63 : decode cX8_not2 63 = .ok (.ifCond .ne 14, 3) := dk_154 0 14 (dk_at dksX8_not2_2 17 rfl rfl)
theorem dX8_not2_66 : decode cX8_not2 66 = .ok (.aload_n 0, 1) := dk_42 (dk_at dksX8_not2_2 20 rfl rfl)
theorem dX8_not2_67 : decode cX8_not2 67 = .ok (.bipush 61, 2) := dk_16 61 (dk_at dksX8_not2_2 21 rfl rfl)
theorem dX8_not2_69 : decode cX8_not2 69 = .ok (.invokevirtual 221, 3) := dk_182 0 221 (dk_at dksX8_not2_3 0 rfl rfl)
theorem dX8_not2_72 : decode cX8_not2 72 = .ok (.ifCond .ne 5, 3) := dk_154 0 5 (dk_at dksX8_not2_3 3 rfl rfl)
theorem dX8_not2_75 : decode cX8_not2 75 = .ok (.iload_n 1, 1) := dk_27 (dk_at dksX8_not2_3 6 rfl rfl)
theorem dX8_not2_76 : decode cX8_not2 76 = .ok (.ireturn, 1) := dk_172 (dk_at dksX8_not2_3 7 rfl rfl)
theorem dX8_not2_77 : decode cX8_not2 77 = .ok (.aload_n 0, 1) := dk_42 (dk_at dksX8_not2_3 8 rfl rfl)
theorem dX8_not2_78 : decode cX8_not2 78 = .ok (.getfield 176, 3) := dk_180 0 176 (dk_at dksX8_not2_3 9 rfl rfl)
theorem dX8_not2_81 : decode cX8_not2 81 = .ok (.ldc2_w 243, 3) := dk_20 0 243 (dk_at dksX8_not2_3 12 rfl rfl)
theorem dX8_not2_84 : decode cX8_not2 84 = .ok (.lcmp, 1) := dk_148 (dk_at dksX8_not2_3 15 rfl rfl)
theorem dX8_not2_85 : decode cX8_not2 85 = .ok (.ifCond .ne 7, 3) := dk_154 0 7 (dk_at dksX8_not2_3 16 rfl rfl)
theorem dX8_not2_88 : decode cX8_not2 88 = .ok (.iconst 1, 1) := dk_4 (dk_at dksX8_not2_3 19 rfl rfl)
theorem dX8_not2_89 : decode cX8_not2 89 = .ok (.goto 4, 3) := dk_167 0 4 (dk_at dksX8_not2_3 20 rfl rfl)
theorem dX8_not2_92 : decode cX8_not2 92 = .ok (.iconst 0, 1) := dk_3 (dk_at dksX8_not2_3 23 rfl rfl)
theorem dX8_not2_93 : decode cX8_not2 93 = .ok (.istore_n 2, 1) := dk_61 (dk_at dksX8_not2_4 0 rfl rfl)
theorem dX8_not2_94 : decode cX8_not2 94 = .ok (.aload_n 0, 1) := dk_42 (dk_at dksX8_not2_4 1 rfl rfl)
theorem dX8_not2_95 : decode cX8_not2 95 = .ok (.invokevirtual 196, 3) := dk_182 0 196 (dk_at dksX8_not2_4 2 rfl rfl)
theorem dX8_not2_98 : decode cX8_not2 98 = .ok (.aload_n 0, 1) := dk_42 (dk_at dksX8_not2_4 5 rfl rfl)
theorem dX8_not2_99 : decode cX8_not2 99 = .ok (.invokevirtual 296, 3) := dk_182 1 40 (dk_at dksX8_not2_4 6 rfl rfl)
theorem dX8_not2_102 : decode cX8_not2 102 = .ok (.istore_n 3, 1) := dk_62 (dk_at dksX8_not2_4 9 rfl rfl)
theorem dX8_not2_103 : decode cX8_not2 103 = .ok (.iload_n 2, 1) := dk_28 (dk_at dksX8_not2_4 10 rfl rfl)
theorem dX8_not2_104 : decode cX8_not2 104 = .ok (.ifCond .eq 11, 3) := dk_153 0 11 (dk_at dksX8_not2_4 11 rfl rfl)
theorem dX8_not2_107 : decode cX8_not2 107 = .ok (.iload_n 1, 1) := dk_27 (dk_at dksX8_not2_4 14 rfl rfl)
theorem dX8_not2_108 : decode cX8_not2 108 = .ok (.iload_n 3, 1) := dk_29 (dk_at dksX8_not2_4 15 rfl rfl)
theorem dX8_not2_109 : decode cX8_not2 109 = .ok (.if_icmp .ge 15, 3) := dk_162 0 15 (dk_at dksX8_not2_4 16 rfl rfl)
theorem dX8_not2_112 : decode cX8_not2 112 = .ok (.goto 8, 3) := dk_167 0 8 (dk_at dksX8_not2_4 19 rfl rfl)
theorem dX8_not2_115 : decode cX8_not2 115 = .ok (.iload_n 1, 1) := dk_27 (dk_at dksX8_not2_4 22 rfl rfl)
theorem dX8_not2_116 : decode cX8_not2 116 = .ok (.iload_n 3, 1) := dk_29 (dk_at dksX8_not2_4 23 rfl rfl)
theorem dX8_not2_117 : decode cX8_not2 117 = .ok (.if_icmp .ne 7, 3) := dk_160 0 7 (dk_at dksX8_not2_5 0 rfl rfl)
theorem dX8_not2_120 : decode cX8_not2 120 = .ok (.iconst 1, 1) := dk_4 (dk_at dksX8_not2_5 3 rfl rfl)
theorem dX8_not2_121 : decode cX8_not2 121 = .ok (.goto 4, 3) := dk_167 0 4 (dk_at dksX8_not2_5 4 rfl rfl)
theorem dX8_not2_124 : decode cX8_not2 124 = .ok (.iconst 0, 1) := dk_3 (dk_at dksX8_not2_5 7 rfl rfl)
theorem dX8_not2_125 : decode cX8_not2 125 = .ok (.ireturn, 1) := dk_172 (dk_at dksX8_not2_5 8 rfl rfl)
abbrev cX8_not3 : ByteArray := prog_16_method_41_code
def yX8_not3 : MethodName := ⟨RX8, "not3", "()I"⟩
def dkwX8_not3_5 : List UInt8 := [160, 0, 7, 4, 167, 0, 4, 3, 172]
abbrev dktX8_not3_5 : List UInt8 := dkwX8_not3_5 ++ []
def dkwX8_not3_4 : List UInt8 := [61, 42, 182, 0, 196, 42, 182, 1, 22, 62, 28, 153, 0, 11, 27, 29, 162, 0, 15, 167, 0, 8, 27, 29]
abbrev dktX8_not3_4 : List UInt8 := dkwX8_not3_4 ++ dktX8_not3_5
def dkwX8_not3_3 : List UInt8 := [182, 0, 221, 154, 0, 5, 27, 172, 42, 180, 0, 176, 20, 0, 243, 148, 154, 0, 7, 4, 167, 0, 4, 3]
abbrev dktX8_not3_3 : List UInt8 := dkwX8_not3_3 ++ dktX8_not3_4
def dkwX8_not3_2 : List UInt8 := [4, 167, 0, 4, 3, 172, 42, 182, 1, 22, 60, 42, 16, 60, 182, 0, 221, 154, 0, 14, 42, 16, 61]
abbrev dktX8_not3_2 : List UInt8 := dkwX8_not3_2 ++ dktX8_not3_3
def dkwX8_not3_1 : List UInt8 := [154, 0, 5, 3, 172, 42, 182, 1, 7, 60, 42, 89, 180, 0, 190, 4, 100, 181, 0, 190, 27, 154, 0, 7]
abbrev dktX8_not3_1 : List UInt8 := dkwX8_not3_1 ++ dktX8_not3_2
def dkwX8_not3_0 : List UInt8 := [42, 16, 110, 16, 111, 16, 116, 3, 3, 3, 3, 3, 182, 0, 199, 153, 0, 37, 42, 182, 0, 224]
abbrev dktX8_not3_0 : List UInt8 := dkwX8_not3_0 ++ dktX8_not3_1
theorem dksX8_not3_0 : cX8_not3.data.toList.drop 0 = dktX8_not3_0 := by decide +kernel
theorem dksX8_not3_1 : cX8_not3.data.toList.drop 22 = dktX8_not3_1 := dk_seg dksX8_not3_0 22 rfl rfl
theorem dksX8_not3_2 : cX8_not3.data.toList.drop 46 = dktX8_not3_2 := dk_seg dksX8_not3_1 24 rfl rfl
theorem dksX8_not3_3 : cX8_not3.data.toList.drop 69 = dktX8_not3_3 := dk_seg dksX8_not3_2 23 rfl rfl
theorem dksX8_not3_4 : cX8_not3.data.toList.drop 93 = dktX8_not3_4 := dk_seg dksX8_not3_3 24 rfl rfl
theorem dksX8_not3_5 : cX8_not3.data.toList.drop 117 = dktX8_not3_5 := dk_seg dksX8_not3_4 24 rfl rfl
theorem dX8_not3_0 : decode cX8_not3 0 = .ok (.aload_n 0, 1) := dk_42 (dk_at dksX8_not3_0 0 rfl rfl)
theorem dX8_not3_1 : decode cX8_not3 1 = .ok (.bipush 110, 2) := dk_16 110 (dk_at dksX8_not3_0 1 rfl rfl)
theorem dX8_not3_3 : decode cX8_not3 3 = .ok (.bipush 111, 2) := dk_16 111 (dk_at dksX8_not3_0 3 rfl rfl)
theorem dX8_not3_5 : decode cX8_not3 5 = .ok (.bipush 116, 2) := dk_16 116 (dk_at dksX8_not3_0 5 rfl rfl)
theorem dX8_not3_7 : decode cX8_not3 7 = .ok (.iconst 0, 1) := dk_3 (dk_at dksX8_not3_0 7 rfl rfl)
theorem dX8_not3_8 : decode cX8_not3 8 = .ok (.iconst 0, 1) := dk_3 (dk_at dksX8_not3_0 8 rfl rfl)
theorem dX8_not3_9 : decode cX8_not3 9 = .ok (.iconst 0, 1) := dk_3 (dk_at dksX8_not3_0 9 rfl rfl)
theorem dX8_not3_10 : decode cX8_not3 10 = .ok (.iconst 0, 1) := dk_3 (dk_at dksX8_not3_0 10 rfl rfl)
theorem dX8_not3_11 : decode cX8_not3 11 = .ok (.iconst 0, 1) := dk_3 (dk_at dksX8_not3_0 11 rfl rfl)
theorem dX8_not3_12 : decode cX8_not3 12 = .ok (.invokevirtual 199, 3) := dk_182 0 199 (dk_at dksX8_not3_0 12 rfl rfl)
theorem dX8_not3_15 : decode cX8_not3 15 = .ok (.ifCond .eq 37, 3) := dk_153 0 37 (dk_at dksX8_not3_0 15 rfl rfl)
theorem dX8_not3_18 : decode cX8_not3 18 = .ok (.aload_n 0, 1) := dk_42 (dk_at dksX8_not3_0 18 rfl rfl)
theorem dX8_not3_19 : decode cX8_not3 19 = .ok (.invokevirtual 224, 3) := dk_182 0 224 (dk_at dksX8_not3_0 19 rfl rfl)
theorem dX8_not3_22 : decode cX8_not3 22 = .ok (.ifCond .ne 5, 3) := dk_154 0 5 (dk_at dksX8_not3_1 0 rfl rfl)
theorem dX8_not3_25 : decode cX8_not3 25 = .ok (.iconst 0, 1) := dk_3 (dk_at dksX8_not3_1 3 rfl rfl)
theorem dX8_not3_26 : decode cX8_not3 26 = .ok (.ireturn, 1) := dk_172 (dk_at dksX8_not3_1 4 rfl rfl)
theorem dX8_not3_27 : decode cX8_not3 27 = .ok (.aload_n 0, 1) := dk_42 (dk_at dksX8_not3_1 5 rfl rfl)
theorem dX8_not3_28 : decode cX8_not3 28 = .ok (.invokevirtual 263, 3) := dk_182 1 7 (dk_at dksX8_not3_1 6 rfl rfl)
theorem dX8_not3_31 : decode cX8_not3 31 = .ok (.istore_n 1, 1) := dk_60 (dk_at dksX8_not3_1 9 rfl rfl)
theorem dX8_not3_32 : decode cX8_not3 32 = .ok (.aload_n 0, 1) := dk_42 (dk_at dksX8_not3_1 10 rfl rfl)
theorem dX8_not3_33 : decode cX8_not3 33 = .ok (.dup, 1) := dk_89 (dk_at dksX8_not3_1 11 rfl rfl)
theorem dX8_not3_34 : decode cX8_not3 34 = .ok (.getfield 190, 3) := dk_180 0 190 (dk_at dksX8_not3_1 12 rfl rfl)
theorem dX8_not3_37 : decode cX8_not3 37 = .ok (.iconst 1, 1) := dk_4 (dk_at dksX8_not3_1 15 rfl rfl)
theorem dX8_not3_38 : decode cX8_not3 38 = .ok (.isub, 1) := dk_100 (dk_at dksX8_not3_1 16 rfl rfl)
theorem dX8_not3_39 : decode cX8_not3 39 = .ok (.putfield 190, 3) := dk_181 0 190 (dk_at dksX8_not3_1 17 rfl rfl)
theorem dX8_not3_42 : decode cX8_not3 42 = .ok (.iload_n 1, 1) := dk_27 (dk_at dksX8_not3_1 20 rfl rfl)
theorem dX8_not3_43 : decode cX8_not3 43 = .ok (.ifCond .ne 7, 3) := dk_154 0 7 (dk_at dksX8_not3_1 21 rfl rfl)
theorem dX8_not3_46 : decode cX8_not3 46 = .ok (.iconst 1, 1) := dk_4 (dk_at dksX8_not3_2 0 rfl rfl)
theorem dX8_not3_47 : decode cX8_not3 47 = .ok (.goto 4, 3) := dk_167 0 4 (dk_at dksX8_not3_2 1 rfl rfl)
theorem dX8_not3_50 : decode cX8_not3 50 = .ok (.iconst 0, 1) := dk_3 (dk_at dksX8_not3_2 4 rfl rfl)
theorem dX8_not3_51 : decode cX8_not3 51 = .ok (.ireturn, 1) := dk_172 (dk_at dksX8_not3_2 5 rfl rfl)
theorem dX8_not3_52 : decode cX8_not3 52 = .ok (.aload_n 0, 1) := dk_42 (dk_at dksX8_not3_2 6 rfl rfl)
theorem dX8_not3_53 : decode cX8_not3 53 = .ok (.invokevirtual 278, 3) := dk_182 1 22 (dk_at dksX8_not3_2 7 rfl rfl)
theorem dX8_not3_56 : decode cX8_not3 56 = .ok (.istore_n 1, 1) := dk_60 (dk_at dksX8_not3_2 10 rfl rfl)
theorem dX8_not3_57 : decode cX8_not3 57 = .ok (.aload_n 0, 1) := dk_42 (dk_at dksX8_not3_2 11 rfl rfl)
theorem dX8_not3_58 : decode cX8_not3 58 = .ok (.bipush 60, 2) := dk_16 60 (dk_at dksX8_not3_2 12 rfl rfl)
theorem dX8_not3_60 : decode cX8_not3 60 = .ok (.invokevirtual 221, 3) := dk_182 0 221 (dk_at dksX8_not3_2 14 rfl rfl)
theorem dX8_not3_63 : decode cX8_not3 63 = .ok (.ifCond .ne 14, 3) := dk_154 0 14 (dk_at dksX8_not3_2 17 rfl rfl)
theorem dX8_not3_66 : decode cX8_not3 66 = .ok (.aload_n 0, 1) := dk_42 (dk_at dksX8_not3_2 20 rfl rfl)
theorem dX8_not3_67 : decode cX8_not3 67 = .ok (.bipush 61, 2) := dk_16 61 (dk_at dksX8_not3_2 21 rfl rfl)
theorem dX8_not3_69 : decode cX8_not3 69 = .ok (.invokevirtual 221, 3) := dk_182 0 221 (dk_at dksX8_not3_3 0 rfl rfl)
theorem dX8_not3_72 : decode cX8_not3 72 = .ok (.ifCond .ne 5, 3) := dk_154 0 5 (dk_at dksX8_not3_3 3 rfl rfl)
theorem dX8_not3_75 : decode cX8_not3 75 = .ok (.iload_n 1, 1) := dk_27 (dk_at dksX8_not3_3 6 rfl rfl)
theorem dX8_not3_76 : decode cX8_not3 76 = .ok (.ireturn, 1) := dk_172 (dk_at dksX8_not3_3 7 rfl rfl)
theorem dX8_not3_77 : decode cX8_not3 77 = .ok (.aload_n 0, 1) := dk_42 (dk_at dksX8_not3_3 8 rfl rfl)
theorem dX8_not3_78 : decode cX8_not3 78 = .ok (.getfield 176, 3) := dk_180 0 176 (dk_at dksX8_not3_3 9 rfl rfl)
theorem dX8_not3_81 : decode cX8_not3 81 = .ok (.ldc2_w 243, 3) := dk_20 0 243 (dk_at dksX8_not3_3 12 rfl rfl)
theorem dX8_not3_84 : decode cX8_not3 84 = .ok (.lcmp, 1) := dk_148 (dk_at dksX8_not3_3 15 rfl rfl)
theorem dX8_not3_85 : decode cX8_not3 85 = .ok (.ifCond .ne 7, 3) := dk_154 0 7 (dk_at dksX8_not3_3 16 rfl rfl)
theorem dX8_not3_88 : decode cX8_not3 88 = .ok (.iconst 1, 1) := dk_4 (dk_at dksX8_not3_3 19 rfl rfl)
theorem dX8_not3_89 : decode cX8_not3 89 = .ok (.goto 4, 3) := dk_167 0 4 (dk_at dksX8_not3_3 20 rfl rfl)
theorem dX8_not3_92 : decode cX8_not3 92 = .ok (.iconst 0, 1) := dk_3 (dk_at dksX8_not3_3 23 rfl rfl)
theorem dX8_not3_93 : decode cX8_not3 93 = .ok (.istore_n 2, 1) := dk_61 (dk_at dksX8_not3_4 0 rfl rfl)
theorem dX8_not3_94 : decode cX8_not3 94 = .ok (.aload_n 0, 1) := dk_42 (dk_at dksX8_not3_4 1 rfl rfl)
theorem dX8_not3_95 : decode cX8_not3 95 = .ok (.invokevirtual 196, 3) := dk_182 0 196 (dk_at dksX8_not3_4 2 rfl rfl)
theorem dX8_not3_98 : decode cX8_not3 98 = .ok (.aload_n 0, 1) := dk_42 (dk_at dksX8_not3_4 5 rfl rfl)
theorem dX8_not3_99 : decode cX8_not3 99 = .ok (.invokevirtual 278, 3) := dk_182 1 22 (dk_at dksX8_not3_4 6 rfl rfl)
theorem dX8_not3_102 : decode cX8_not3 102 = .ok (.istore_n 3, 1) := dk_62 (dk_at dksX8_not3_4 9 rfl rfl)
theorem dX8_not3_103 : decode cX8_not3 103 = .ok (.iload_n 2, 1) := dk_28 (dk_at dksX8_not3_4 10 rfl rfl)
theorem dX8_not3_104 : decode cX8_not3 104 = .ok (.ifCond .eq 11, 3) := dk_153 0 11 (dk_at dksX8_not3_4 11 rfl rfl)
theorem dX8_not3_107 : decode cX8_not3 107 = .ok (.iload_n 1, 1) := dk_27 (dk_at dksX8_not3_4 14 rfl rfl)
theorem dX8_not3_108 : decode cX8_not3 108 = .ok (.iload_n 3, 1) := dk_29 (dk_at dksX8_not3_4 15 rfl rfl)
theorem dX8_not3_109 : decode cX8_not3 109 = .ok (.if_icmp .ge 15, 3) := dk_162 0 15 (dk_at dksX8_not3_4 16 rfl rfl)
theorem dX8_not3_112 : decode cX8_not3 112 = .ok (.goto 8, 3) := dk_167 0 8 (dk_at dksX8_not3_4 19 rfl rfl)
theorem dX8_not3_115 : decode cX8_not3 115 = .ok (.iload_n 1, 1) := dk_27 (dk_at dksX8_not3_4 22 rfl rfl)
theorem dX8_not3_116 : decode cX8_not3 116 = .ok (.iload_n 3, 1) := dk_29 (dk_at dksX8_not3_4 23 rfl rfl)
theorem dX8_not3_117 : decode cX8_not3 117 = .ok (.if_icmp .ne 7, 3) := dk_160 0 7 (dk_at dksX8_not3_5 0 rfl rfl)
theorem dX8_not3_120 : decode cX8_not3 120 = .ok (.iconst 1, 1) := dk_4 (dk_at dksX8_not3_5 3 rfl rfl)
theorem dX8_not3_121 : decode cX8_not3 121 = .ok (.goto 4, 3) := dk_167 0 4 (dk_at dksX8_not3_5 4 rfl rfl)
theorem dX8_not3_124 : decode cX8_not3 124 = .ok (.iconst 0, 1) := dk_3 (dk_at dksX8_not3_5 7 rfl rfl)
theorem dX8_not3_125 : decode cX8_not3 125 = .ok (.ireturn, 1) := dk_172 (dk_at dksX8_not3_5 8 rfl rfl)
abbrev cX8_not4 : ByteArray := prog_16_method_35_code
def yX8_not4 : MethodName := ⟨RX8, "not4", "()I"⟩
def dkwX8_not4_5 : List UInt8 := [160, 0, 7, 4, 167, 0, 4, 3, 172]
abbrev dktX8_not4_5 : List UInt8 := dkwX8_not4_5 ++ []
def dkwX8_not4_4 : List UInt8 := [61, 42, 182, 0, 196, 42, 182, 1, 4, 62, 28, 153, 0, 11, 27, 29, 162, 0, 15, 167, 0, 8, 27, 29]
abbrev dktX8_not4_4 : List UInt8 := dkwX8_not4_4 ++ dktX8_not4_5
def dkwX8_not4_3 : List UInt8 := [182, 0, 221, 154, 0, 5, 27, 172, 42, 180, 0, 176, 20, 0, 243, 148, 154, 0, 7, 4, 167, 0, 4, 3]
abbrev dktX8_not4_3 : List UInt8 := dkwX8_not4_3 ++ dktX8_not4_4
def dkwX8_not4_2 : List UInt8 := [4, 167, 0, 4, 3, 172, 42, 182, 1, 4, 60, 42, 16, 60, 182, 0, 221, 154, 0, 14, 42, 16, 61]
abbrev dktX8_not4_2 : List UInt8 := dkwX8_not4_2 ++ dktX8_not4_3
def dkwX8_not4_1 : List UInt8 := [154, 0, 5, 3, 172, 42, 182, 0, 245, 60, 42, 89, 180, 0, 190, 4, 100, 181, 0, 190, 27, 154, 0, 7]
abbrev dktX8_not4_1 : List UInt8 := dkwX8_not4_1 ++ dktX8_not4_2
def dkwX8_not4_0 : List UInt8 := [42, 16, 110, 16, 111, 16, 116, 3, 3, 3, 3, 3, 182, 0, 199, 153, 0, 37, 42, 182, 0, 224]
abbrev dktX8_not4_0 : List UInt8 := dkwX8_not4_0 ++ dktX8_not4_1
theorem dksX8_not4_0 : cX8_not4.data.toList.drop 0 = dktX8_not4_0 := by decide +kernel
theorem dksX8_not4_1 : cX8_not4.data.toList.drop 22 = dktX8_not4_1 := dk_seg dksX8_not4_0 22 rfl rfl
theorem dksX8_not4_2 : cX8_not4.data.toList.drop 46 = dktX8_not4_2 := dk_seg dksX8_not4_1 24 rfl rfl
theorem dksX8_not4_3 : cX8_not4.data.toList.drop 69 = dktX8_not4_3 := dk_seg dksX8_not4_2 23 rfl rfl
theorem dksX8_not4_4 : cX8_not4.data.toList.drop 93 = dktX8_not4_4 := dk_seg dksX8_not4_3 24 rfl rfl
theorem dksX8_not4_5 : cX8_not4.data.toList.drop 117 = dktX8_not4_5 := dk_seg dksX8_not4_4 24 rfl rfl
theorem dX8_not4_0 : decode cX8_not4 0 = .ok (.aload_n 0, 1) := dk_42 (dk_at dksX8_not4_0 0 rfl rfl)
theorem dX8_not4_1 : decode cX8_not4 1 = .ok (.bipush 110, 2) := dk_16 110 (dk_at dksX8_not4_0 1 rfl rfl)
theorem dX8_not4_3 : decode cX8_not4 3 = .ok (.bipush 111, 2) := dk_16 111 (dk_at dksX8_not4_0 3 rfl rfl)
theorem dX8_not4_5 : decode cX8_not4 5 = .ok (.bipush 116, 2) := dk_16 116 (dk_at dksX8_not4_0 5 rfl rfl)
theorem dX8_not4_7 : decode cX8_not4 7 = .ok (.iconst 0, 1) := dk_3 (dk_at dksX8_not4_0 7 rfl rfl)
theorem dX8_not4_8 : decode cX8_not4 8 = .ok (.iconst 0, 1) := dk_3 (dk_at dksX8_not4_0 8 rfl rfl)
theorem dX8_not4_9 : decode cX8_not4 9 = .ok (.iconst 0, 1) := dk_3 (dk_at dksX8_not4_0 9 rfl rfl)
theorem dX8_not4_10 : decode cX8_not4 10 = .ok (.iconst 0, 1) := dk_3 (dk_at dksX8_not4_0 10 rfl rfl)
theorem dX8_not4_11 : decode cX8_not4 11 = .ok (.iconst 0, 1) := dk_3 (dk_at dksX8_not4_0 11 rfl rfl)
theorem dX8_not4_12 : decode cX8_not4 12 = .ok (.invokevirtual 199, 3) := dk_182 0 199 (dk_at dksX8_not4_0 12 rfl rfl)
theorem dX8_not4_15 : decode cX8_not4 15 = .ok (.ifCond .eq 37, 3) := dk_153 0 37 (dk_at dksX8_not4_0 15 rfl rfl)
theorem dX8_not4_18 : decode cX8_not4 18 = .ok (.aload_n 0, 1) := dk_42 (dk_at dksX8_not4_0 18 rfl rfl)
theorem dX8_not4_19 : decode cX8_not4 19 = .ok (.invokevirtual 224, 3) := dk_182 0 224 (dk_at dksX8_not4_0 19 rfl rfl)
theorem dX8_not4_22 : decode cX8_not4 22 = .ok (.ifCond .ne 5, 3) := dk_154 0 5 (dk_at dksX8_not4_1 0 rfl rfl)
theorem dX8_not4_25 : decode cX8_not4 25 = .ok (.iconst 0, 1) := dk_3 (dk_at dksX8_not4_1 3 rfl rfl)
theorem dX8_not4_26 : decode cX8_not4 26 = .ok (.ireturn, 1) := dk_172 (dk_at dksX8_not4_1 4 rfl rfl)
theorem dX8_not4_27 : decode cX8_not4 27 = .ok (.aload_n 0, 1) := dk_42 (dk_at dksX8_not4_1 5 rfl rfl)
theorem dX8_not4_28 : decode cX8_not4 28 = .ok (.invokevirtual 245, 3) := dk_182 0 245 (dk_at dksX8_not4_1 6 rfl rfl)
theorem dX8_not4_31 : decode cX8_not4 31 = .ok (.istore_n 1, 1) := dk_60 (dk_at dksX8_not4_1 9 rfl rfl)
theorem dX8_not4_32 : decode cX8_not4 32 = .ok (.aload_n 0, 1) := dk_42 (dk_at dksX8_not4_1 10 rfl rfl)
theorem dX8_not4_33 : decode cX8_not4 33 = .ok (.dup, 1) := dk_89 (dk_at dksX8_not4_1 11 rfl rfl)
theorem dX8_not4_34 : decode cX8_not4 34 = .ok (.getfield 190, 3) := dk_180 0 190 (dk_at dksX8_not4_1 12 rfl rfl)
theorem dX8_not4_37 : decode cX8_not4 37 = .ok (.iconst 1, 1) := dk_4 (dk_at dksX8_not4_1 15 rfl rfl)
theorem dX8_not4_38 : decode cX8_not4 38 = .ok (.isub, 1) := dk_100 (dk_at dksX8_not4_1 16 rfl rfl)
theorem dX8_not4_39 : decode cX8_not4 39 = .ok (.putfield 190, 3) := dk_181 0 190 (dk_at dksX8_not4_1 17 rfl rfl)
theorem dX8_not4_42 : decode cX8_not4 42 = .ok (.iload_n 1, 1) := dk_27 (dk_at dksX8_not4_1 20 rfl rfl)
theorem dX8_not4_43 : decode cX8_not4 43 = .ok (.ifCond .ne 7, 3) := dk_154 0 7 (dk_at dksX8_not4_1 21 rfl rfl)
theorem dX8_not4_46 : decode cX8_not4 46 = .ok (.iconst 1, 1) := dk_4 (dk_at dksX8_not4_2 0 rfl rfl)
theorem dX8_not4_47 : decode cX8_not4 47 = .ok (.goto 4, 3) := dk_167 0 4 (dk_at dksX8_not4_2 1 rfl rfl)
theorem dX8_not4_50 : decode cX8_not4 50 = .ok (.iconst 0, 1) := dk_3 (dk_at dksX8_not4_2 4 rfl rfl)
theorem dX8_not4_51 : decode cX8_not4 51 = .ok (.ireturn, 1) := dk_172 (dk_at dksX8_not4_2 5 rfl rfl)
theorem dX8_not4_52 : decode cX8_not4 52 = .ok (.aload_n 0, 1) := dk_42 (dk_at dksX8_not4_2 6 rfl rfl)
theorem dX8_not4_53 : decode cX8_not4 53 = .ok (.invokevirtual 260, 3) := dk_182 1 4 (dk_at dksX8_not4_2 7 rfl rfl)
theorem dX8_not4_56 : decode cX8_not4 56 = .ok (.istore_n 1, 1) := dk_60 (dk_at dksX8_not4_2 10 rfl rfl)
theorem dX8_not4_57 : decode cX8_not4 57 = .ok (.aload_n 0, 1) := dk_42 (dk_at dksX8_not4_2 11 rfl rfl)
theorem dX8_not4_58 : decode cX8_not4 58 = .ok (.bipush 60, 2) := dk_16 60 (dk_at dksX8_not4_2 12 rfl rfl)
theorem dX8_not4_60 : decode cX8_not4 60 = .ok (.invokevirtual 221, 3) := dk_182 0 221 (dk_at dksX8_not4_2 14 rfl rfl)
theorem dX8_not4_63 : decode cX8_not4 63 = .ok (.ifCond .ne 14, 3) := dk_154 0 14 (dk_at dksX8_not4_2 17 rfl rfl)
theorem dX8_not4_66 : decode cX8_not4 66 = .ok (.aload_n 0, 1) := dk_42 (dk_at dksX8_not4_2 20 rfl rfl)
theorem dX8_not4_67 : decode cX8_not4 67 = .ok (.bipush 61, 2) := dk_16 61 (dk_at dksX8_not4_2 21 rfl rfl)
theorem dX8_not4_69 : decode cX8_not4 69 = .ok (.invokevirtual 221, 3) := dk_182 0 221 (dk_at dksX8_not4_3 0 rfl rfl)
theorem dX8_not4_72 : decode cX8_not4 72 = .ok (.ifCond .ne 5, 3) := dk_154 0 5 (dk_at dksX8_not4_3 3 rfl rfl)
theorem dX8_not4_75 : decode cX8_not4 75 = .ok (.iload_n 1, 1) := dk_27 (dk_at dksX8_not4_3 6 rfl rfl)
theorem dX8_not4_76 : decode cX8_not4 76 = .ok (.ireturn, 1) := dk_172 (dk_at dksX8_not4_3 7 rfl rfl)
theorem dX8_not4_77 : decode cX8_not4 77 = .ok (.aload_n 0, 1) := dk_42 (dk_at dksX8_not4_3 8 rfl rfl)
theorem dX8_not4_78 : decode cX8_not4 78 = .ok (.getfield 176, 3) := dk_180 0 176 (dk_at dksX8_not4_3 9 rfl rfl)
theorem dX8_not4_81 : decode cX8_not4 81 = .ok (.ldc2_w 243, 3) := dk_20 0 243 (dk_at dksX8_not4_3 12 rfl rfl)
theorem dX8_not4_84 : decode cX8_not4 84 = .ok (.lcmp, 1) := dk_148 (dk_at dksX8_not4_3 15 rfl rfl)
theorem dX8_not4_85 : decode cX8_not4 85 = .ok (.ifCond .ne 7, 3) := dk_154 0 7 (dk_at dksX8_not4_3 16 rfl rfl)
theorem dX8_not4_88 : decode cX8_not4 88 = .ok (.iconst 1, 1) := dk_4 (dk_at dksX8_not4_3 19 rfl rfl)
theorem dX8_not4_89 : decode cX8_not4 89 = .ok (.goto 4, 3) := dk_167 0 4 (dk_at dksX8_not4_3 20 rfl rfl)
theorem dX8_not4_92 : decode cX8_not4 92 = .ok (.iconst 0, 1) := dk_3 (dk_at dksX8_not4_3 23 rfl rfl)
theorem dX8_not4_93 : decode cX8_not4 93 = .ok (.istore_n 2, 1) := dk_61 (dk_at dksX8_not4_4 0 rfl rfl)
theorem dX8_not4_94 : decode cX8_not4 94 = .ok (.aload_n 0, 1) := dk_42 (dk_at dksX8_not4_4 1 rfl rfl)
theorem dX8_not4_95 : decode cX8_not4 95 = .ok (.invokevirtual 196, 3) := dk_182 0 196 (dk_at dksX8_not4_4 2 rfl rfl)
theorem dX8_not4_98 : decode cX8_not4 98 = .ok (.aload_n 0, 1) := dk_42 (dk_at dksX8_not4_4 5 rfl rfl)
theorem dX8_not4_99 : decode cX8_not4 99 = .ok (.invokevirtual 260, 3) := dk_182 1 4 (dk_at dksX8_not4_4 6 rfl rfl)
theorem dX8_not4_102 : decode cX8_not4 102 = .ok (.istore_n 3, 1) := dk_62 (dk_at dksX8_not4_4 9 rfl rfl)
theorem dX8_not4_103 : decode cX8_not4 103 = .ok (.iload_n 2, 1) := dk_28 (dk_at dksX8_not4_4 10 rfl rfl)
theorem dX8_not4_104 : decode cX8_not4 104 = .ok (.ifCond .eq 11, 3) := dk_153 0 11 (dk_at dksX8_not4_4 11 rfl rfl)
theorem dX8_not4_107 : decode cX8_not4 107 = .ok (.iload_n 1, 1) := dk_27 (dk_at dksX8_not4_4 14 rfl rfl)
theorem dX8_not4_108 : decode cX8_not4 108 = .ok (.iload_n 3, 1) := dk_29 (dk_at dksX8_not4_4 15 rfl rfl)
theorem dX8_not4_109 : decode cX8_not4 109 = .ok (.if_icmp .ge 15, 3) := dk_162 0 15 (dk_at dksX8_not4_4 16 rfl rfl)
theorem dX8_not4_112 : decode cX8_not4 112 = .ok (.goto 8, 3) := dk_167 0 8 (dk_at dksX8_not4_4 19 rfl rfl)
theorem dX8_not4_115 : decode cX8_not4 115 = .ok (.iload_n 1, 1) := dk_27 (dk_at dksX8_not4_4 22 rfl rfl)
theorem dX8_not4_116 : decode cX8_not4 116 = .ok (.iload_n 3, 1) := dk_29 (dk_at dksX8_not4_4 23 rfl rfl)
theorem dX8_not4_117 : decode cX8_not4 117 = .ok (.if_icmp .ne 7, 3) := dk_160 0 7 (dk_at dksX8_not4_5 0 rfl rfl)
theorem dX8_not4_120 : decode cX8_not4 120 = .ok (.iconst 1, 1) := dk_4 (dk_at dksX8_not4_5 3 rfl rfl)
theorem dX8_not4_121 : decode cX8_not4 121 = .ok (.goto 4, 3) := dk_167 0 4 (dk_at dksX8_not4_5 4 rfl rfl)
theorem dX8_not4_124 : decode cX8_not4 124 = .ok (.iconst 0, 1) := dk_3 (dk_at dksX8_not4_5 7 rfl rfl)
theorem dX8_not4_125 : decode cX8_not4 125 = .ok (.ireturn, 1) := dk_172 (dk_at dksX8_not4_5 8 rfl rfl)
abbrev cX8_not5 : ByteArray := prog_16_method_29_code
def yX8_not5 : MethodName := ⟨RX8, "not5", "()I"⟩
def dkwX8_not5_4 : List UInt8 := [167, 0, 4, 3, 172]
abbrev dktX8_not5_4 : List UInt8 := dkwX8_not5_4 ++ []
def dkwX8_not5_3 : List UInt8 := [182, 0, 240, 62, 28, 153, 0, 11, 27, 29, 162, 0, 15, 167, 0, 8, 27, 29, 160, 0, 7, 4]
abbrev dktX8_not5_3 : List UInt8 := dkwX8_not5_3 ++ dktX8_not5_4
def dkwX8_not5_2 : List UInt8 := [27, 172, 42, 180, 0, 176, 20, 0, 243, 148, 154, 0, 7, 4, 167, 0, 4, 3, 61, 42, 182, 0, 196, 42]
abbrev dktX8_not5_2 : List UInt8 := dkwX8_not5_2 ++ dktX8_not5_3
def dkwX8_not5_1 : List UInt8 := [172, 42, 182, 0, 240, 60, 42, 16, 60, 182, 0, 221, 154, 0, 14, 42, 16, 61, 182, 0, 221, 154, 0, 5]
abbrev dktX8_not5_1 : List UInt8 := dkwX8_not5_1 ++ dktX8_not5_2
def dkwX8_not5_0 : List UInt8 := [42, 16, 110, 16, 111, 16, 116, 3, 3, 3, 3, 3, 182, 0, 199, 153, 0, 10, 42, 182, 0, 224, 87, 3]
abbrev dktX8_not5_0 : List UInt8 := dkwX8_not5_0 ++ dktX8_not5_1
theorem dksX8_not5_0 : cX8_not5.data.toList.drop 0 = dktX8_not5_0 := by decide +kernel
theorem dksX8_not5_1 : cX8_not5.data.toList.drop 24 = dktX8_not5_1 := dk_seg dksX8_not5_0 24 rfl rfl
theorem dksX8_not5_2 : cX8_not5.data.toList.drop 48 = dktX8_not5_2 := dk_seg dksX8_not5_1 24 rfl rfl
theorem dksX8_not5_3 : cX8_not5.data.toList.drop 72 = dktX8_not5_3 := dk_seg dksX8_not5_2 24 rfl rfl
theorem dksX8_not5_4 : cX8_not5.data.toList.drop 94 = dktX8_not5_4 := dk_seg dksX8_not5_3 22 rfl rfl
theorem dX8_not5_0 : decode cX8_not5 0 = .ok (.aload_n 0, 1) := dk_42 (dk_at dksX8_not5_0 0 rfl rfl)
theorem dX8_not5_1 : decode cX8_not5 1 = .ok (.bipush 110, 2) := dk_16 110 (dk_at dksX8_not5_0 1 rfl rfl)
theorem dX8_not5_3 : decode cX8_not5 3 = .ok (.bipush 111, 2) := dk_16 111 (dk_at dksX8_not5_0 3 rfl rfl)
theorem dX8_not5_5 : decode cX8_not5 5 = .ok (.bipush 116, 2) := dk_16 116 (dk_at dksX8_not5_0 5 rfl rfl)
theorem dX8_not5_7 : decode cX8_not5 7 = .ok (.iconst 0, 1) := dk_3 (dk_at dksX8_not5_0 7 rfl rfl)
theorem dX8_not5_8 : decode cX8_not5 8 = .ok (.iconst 0, 1) := dk_3 (dk_at dksX8_not5_0 8 rfl rfl)
theorem dX8_not5_9 : decode cX8_not5 9 = .ok (.iconst 0, 1) := dk_3 (dk_at dksX8_not5_0 9 rfl rfl)
theorem dX8_not5_10 : decode cX8_not5 10 = .ok (.iconst 0, 1) := dk_3 (dk_at dksX8_not5_0 10 rfl rfl)
theorem dX8_not5_11 : decode cX8_not5 11 = .ok (.iconst 0, 1) := dk_3 (dk_at dksX8_not5_0 11 rfl rfl)
theorem dX8_not5_12 : decode cX8_not5 12 = .ok (.invokevirtual 199, 3) := dk_182 0 199 (dk_at dksX8_not5_0 12 rfl rfl)
theorem dX8_not5_15 : decode cX8_not5 15 = .ok (.ifCond .eq 10, 3) := dk_153 0 10 (dk_at dksX8_not5_0 15 rfl rfl)
theorem dX8_not5_18 : decode cX8_not5 18 = .ok (.aload_n 0, 1) := dk_42 (dk_at dksX8_not5_0 18 rfl rfl)
theorem dX8_not5_19 : decode cX8_not5 19 = .ok (.invokevirtual 224, 3) := dk_182 0 224 (dk_at dksX8_not5_0 19 rfl rfl)
theorem dX8_not5_22 : decode cX8_not5 22 = .ok (.pop, 1) := dk_87 (dk_at dksX8_not5_0 22 rfl rfl)
theorem dX8_not5_23 : decode cX8_not5 23 = .ok (.iconst 0, 1) := dk_3 (dk_at dksX8_not5_0 23 rfl rfl)
theorem dX8_not5_24 : decode cX8_not5 24 = .ok (.ireturn, 1) := dk_172 (dk_at dksX8_not5_1 0 rfl rfl)
theorem dX8_not5_25 : decode cX8_not5 25 = .ok (.aload_n 0, 1) := dk_42 (dk_at dksX8_not5_1 1 rfl rfl)
theorem dX8_not5_26 : decode cX8_not5 26 = .ok (.invokevirtual 240, 3) := dk_182 0 240 (dk_at dksX8_not5_1 2 rfl rfl)
theorem dX8_not5_29 : decode cX8_not5 29 = .ok (.istore_n 1, 1) := dk_60 (dk_at dksX8_not5_1 5 rfl rfl)
theorem dX8_not5_30 : decode cX8_not5 30 = .ok (.aload_n 0, 1) := dk_42 (dk_at dksX8_not5_1 6 rfl rfl)
theorem dX8_not5_31 : decode cX8_not5 31 = .ok (.bipush 60, 2) := dk_16 60 (dk_at dksX8_not5_1 7 rfl rfl)
theorem dX8_not5_33 : decode cX8_not5 33 = .ok (.invokevirtual 221, 3) := dk_182 0 221 (dk_at dksX8_not5_1 9 rfl rfl)
theorem dX8_not5_36 : decode cX8_not5 36 = .ok (.ifCond .ne 14, 3) := dk_154 0 14 (dk_at dksX8_not5_1 12 rfl rfl)
theorem dX8_not5_39 : decode cX8_not5 39 = .ok (.aload_n 0, 1) := dk_42 (dk_at dksX8_not5_1 15 rfl rfl)
theorem dX8_not5_40 : decode cX8_not5 40 = .ok (.bipush 61, 2) := dk_16 61 (dk_at dksX8_not5_1 16 rfl rfl)
theorem dX8_not5_42 : decode cX8_not5 42 = .ok (.invokevirtual 221, 3) := dk_182 0 221 (dk_at dksX8_not5_1 18 rfl rfl)
theorem dX8_not5_45 : decode cX8_not5 45 = .ok (.ifCond .ne 5, 3) := dk_154 0 5 (dk_at dksX8_not5_1 21 rfl rfl)
theorem dX8_not5_48 : decode cX8_not5 48 = .ok (.iload_n 1, 1) := dk_27 (dk_at dksX8_not5_2 0 rfl rfl)
theorem dX8_not5_49 : decode cX8_not5 49 = .ok (.ireturn, 1) := dk_172 (dk_at dksX8_not5_2 1 rfl rfl)
theorem dX8_not5_50 : decode cX8_not5 50 = .ok (.aload_n 0, 1) := dk_42 (dk_at dksX8_not5_2 2 rfl rfl)
theorem dX8_not5_51 : decode cX8_not5 51 = .ok (.getfield 176, 3) := dk_180 0 176 (dk_at dksX8_not5_2 3 rfl rfl)
theorem dX8_not5_54 : decode cX8_not5 54 = .ok (.ldc2_w 243, 3) := dk_20 0 243 (dk_at dksX8_not5_2 6 rfl rfl)
theorem dX8_not5_57 : decode cX8_not5 57 = .ok (.lcmp, 1) := dk_148 (dk_at dksX8_not5_2 9 rfl rfl)
theorem dX8_not5_58 : decode cX8_not5 58 = .ok (.ifCond .ne 7, 3) := dk_154 0 7 (dk_at dksX8_not5_2 10 rfl rfl)
theorem dX8_not5_61 : decode cX8_not5 61 = .ok (.iconst 1, 1) := dk_4 (dk_at dksX8_not5_2 13 rfl rfl)
theorem dX8_not5_62 : decode cX8_not5 62 = .ok (.goto 4, 3) := dk_167 0 4 (dk_at dksX8_not5_2 14 rfl rfl)
theorem dX8_not5_65 : decode cX8_not5 65 = .ok (.iconst 0, 1) := dk_3 (dk_at dksX8_not5_2 17 rfl rfl)
theorem dX8_not5_66 : decode cX8_not5 66 = .ok (.istore_n 2, 1) := dk_61 (dk_at dksX8_not5_2 18 rfl rfl)
theorem dX8_not5_67 : decode cX8_not5 67 = .ok (.aload_n 0, 1) := dk_42 (dk_at dksX8_not5_2 19 rfl rfl)
theorem dX8_not5_68 : decode cX8_not5 68 = .ok (.invokevirtual 196, 3) := dk_182 0 196 (dk_at dksX8_not5_2 20 rfl rfl)
theorem dX8_not5_71 : decode cX8_not5 71 = .ok (.aload_n 0, 1) := dk_42 (dk_at dksX8_not5_2 23 rfl rfl)
theorem dX8_not5_72 : decode cX8_not5 72 = .ok (.invokevirtual 240, 3) := dk_182 0 240 (dk_at dksX8_not5_3 0 rfl rfl)
theorem dX8_not5_75 : decode cX8_not5 75 = .ok (.istore_n 3, 1) := dk_62 (dk_at dksX8_not5_3 3 rfl rfl)
theorem dX8_not5_76 : decode cX8_not5 76 = .ok (.iload_n 2, 1) := dk_28 (dk_at dksX8_not5_3 4 rfl rfl)
theorem dX8_not5_77 : decode cX8_not5 77 = .ok (.ifCond .eq 11, 3) := dk_153 0 11 (dk_at dksX8_not5_3 5 rfl rfl)
theorem dX8_not5_80 : decode cX8_not5 80 = .ok (.iload_n 1, 1) := dk_27 (dk_at dksX8_not5_3 8 rfl rfl)
theorem dX8_not5_81 : decode cX8_not5 81 = .ok (.iload_n 3, 1) := dk_29 (dk_at dksX8_not5_3 9 rfl rfl)
theorem dX8_not5_82 : decode cX8_not5 82 = .ok (.if_icmp .ge 15, 3) := dk_162 0 15 (dk_at dksX8_not5_3 10 rfl rfl)
theorem dX8_not5_85 : decode cX8_not5 85 = .ok (.goto 8, 3) := dk_167 0 8 (dk_at dksX8_not5_3 13 rfl rfl)
theorem dX8_not5_88 : decode cX8_not5 88 = .ok (.iload_n 1, 1) := dk_27 (dk_at dksX8_not5_3 16 rfl rfl)
theorem dX8_not5_89 : decode cX8_not5 89 = .ok (.iload_n 3, 1) := dk_29 (dk_at dksX8_not5_3 17 rfl rfl)
theorem dX8_not5_90 : decode cX8_not5 90 = .ok (.if_icmp .ne 7, 3) := dk_160 0 7 (dk_at dksX8_not5_3 18 rfl rfl)
theorem dX8_not5_93 : decode cX8_not5 93 = .ok (.iconst 1, 1) := dk_4 (dk_at dksX8_not5_3 21 rfl rfl)
theorem dX8_not5_94 : decode cX8_not5 94 = .ok (.goto 4, 3) := dk_167 0 4 (dk_at dksX8_not5_4 0 rfl rfl)
theorem dX8_not5_97 : decode cX8_not5 97 = .ok (.iconst 0, 1) := dk_3 (dk_at dksX8_not5_4 3 rfl rfl)
theorem dX8_not5_98 : decode cX8_not5 98 = .ok (.ireturn, 1) := dk_172 (dk_at dksX8_not5_4 4 rfl rfl)
abbrev cX8_added5 : ByteArray := prog_16_method_28_code
def yX8_added5 : MethodName := ⟨RX8, "added5", "()I"⟩
def dkwX8_added5_2 : List UInt8 := [62, 28, 153, 0, 9, 27, 29, 96, 167, 0, 6, 27, 29, 100, 60, 167, 255, 198, 27, 172]
abbrev dktX8_added5_2 : List UInt8 := dkwX8_added5_2 ++ []
def dkwX8_added5_1 : List UInt8 := [180, 0, 176, 20, 0, 238, 148, 154, 0, 7, 4, 167, 0, 4, 3, 61, 42, 182, 0, 196, 42, 182, 0, 235]
abbrev dktX8_added5_1 : List UInt8 := dkwX8_added5_1 ++ dktX8_added5_2
def dkwX8_added5_0 : List UInt8 := [42, 182, 0, 235, 60, 42, 16, 43, 182, 0, 221, 154, 0, 12, 42, 16, 45, 182, 0, 221, 153, 0, 46, 42]
abbrev dktX8_added5_0 : List UInt8 := dkwX8_added5_0 ++ dktX8_added5_1
theorem dksX8_added5_0 : cX8_added5.data.toList.drop 0 = dktX8_added5_0 := by decide +kernel
theorem dksX8_added5_1 : cX8_added5.data.toList.drop 24 = dktX8_added5_1 := dk_seg dksX8_added5_0 24 rfl rfl
theorem dksX8_added5_2 : cX8_added5.data.toList.drop 48 = dktX8_added5_2 := dk_seg dksX8_added5_1 24 rfl rfl
theorem dX8_added5_0 : decode cX8_added5 0 = .ok (.aload_n 0, 1) := dk_42 (dk_at dksX8_added5_0 0 rfl rfl)
theorem dX8_added5_1 : decode cX8_added5 1 = .ok (.invokevirtual 235, 3) := dk_182 0 235 (dk_at dksX8_added5_0 1 rfl rfl)
theorem dX8_added5_4 : decode cX8_added5 4 = .ok (.istore_n 1, 1) := dk_60 (dk_at dksX8_added5_0 4 rfl rfl)
theorem dX8_added5_5 : decode cX8_added5 5 = .ok (.aload_n 0, 1) := dk_42 (dk_at dksX8_added5_0 5 rfl rfl)
theorem dX8_added5_6 : decode cX8_added5 6 = .ok (.bipush 43, 2) := dk_16 43 (dk_at dksX8_added5_0 6 rfl rfl)
theorem dX8_added5_8 : decode cX8_added5 8 = .ok (.invokevirtual 221, 3) := dk_182 0 221 (dk_at dksX8_added5_0 8 rfl rfl)
theorem dX8_added5_11 : decode cX8_added5 11 = .ok (.ifCond .ne 12, 3) := dk_154 0 12 (dk_at dksX8_added5_0 11 rfl rfl)
theorem dX8_added5_14 : decode cX8_added5 14 = .ok (.aload_n 0, 1) := dk_42 (dk_at dksX8_added5_0 14 rfl rfl)
theorem dX8_added5_15 : decode cX8_added5 15 = .ok (.bipush 45, 2) := dk_16 45 (dk_at dksX8_added5_0 15 rfl rfl)
theorem dX8_added5_17 : decode cX8_added5 17 = .ok (.invokevirtual 221, 3) := dk_182 0 221 (dk_at dksX8_added5_0 17 rfl rfl)
theorem dX8_added5_20 : decode cX8_added5 20 = .ok (.ifCond .eq 46, 3) := dk_153 0 46 (dk_at dksX8_added5_0 20 rfl rfl)
theorem dX8_added5_23 : decode cX8_added5 23 = .ok (.aload_n 0, 1) := dk_42 (dk_at dksX8_added5_0 23 rfl rfl)
theorem dX8_added5_24 : decode cX8_added5 24 = .ok (.getfield 176, 3) := dk_180 0 176 (dk_at dksX8_added5_1 0 rfl rfl)
theorem dX8_added5_27 : decode cX8_added5 27 = .ok (.ldc2_w 238, 3) := dk_20 0 238 (dk_at dksX8_added5_1 3 rfl rfl)
theorem dX8_added5_30 : decode cX8_added5 30 = .ok (.lcmp, 1) := dk_148 (dk_at dksX8_added5_1 6 rfl rfl)
theorem dX8_added5_31 : decode cX8_added5 31 = .ok (.ifCond .ne 7, 3) := dk_154 0 7 (dk_at dksX8_added5_1 7 rfl rfl)
theorem dX8_added5_34 : decode cX8_added5 34 = .ok (.iconst 1, 1) := dk_4 (dk_at dksX8_added5_1 10 rfl rfl)
theorem dX8_added5_35 : decode cX8_added5 35 = .ok (.goto 4, 3) := dk_167 0 4 (dk_at dksX8_added5_1 11 rfl rfl)
theorem dX8_added5_38 : decode cX8_added5 38 = .ok (.iconst 0, 1) := dk_3 (dk_at dksX8_added5_1 14 rfl rfl)
theorem dX8_added5_39 : decode cX8_added5 39 = .ok (.istore_n 2, 1) := dk_61 (dk_at dksX8_added5_1 15 rfl rfl)
theorem dX8_added5_40 : decode cX8_added5 40 = .ok (.aload_n 0, 1) := dk_42 (dk_at dksX8_added5_1 16 rfl rfl)
theorem dX8_added5_41 : decode cX8_added5 41 = .ok (.invokevirtual 196, 3) := dk_182 0 196 (dk_at dksX8_added5_1 17 rfl rfl)
theorem dX8_added5_44 : decode cX8_added5 44 = .ok (.aload_n 0, 1) := dk_42 (dk_at dksX8_added5_1 20 rfl rfl)
theorem dX8_added5_45 : decode cX8_added5 45 = .ok (.invokevirtual 235, 3) := dk_182 0 235 (dk_at dksX8_added5_1 21 rfl rfl)
theorem dX8_added5_48 : decode cX8_added5 48 = .ok (.istore_n 3, 1) := dk_62 (dk_at dksX8_added5_2 0 rfl rfl)
theorem dX8_added5_49 : decode cX8_added5 49 = .ok (.iload_n 2, 1) := dk_28 (dk_at dksX8_added5_2 1 rfl rfl)
theorem dX8_added5_50 : decode cX8_added5 50 = .ok (.ifCond .eq 9, 3) := dk_153 0 9 (dk_at dksX8_added5_2 2 rfl rfl)
theorem dX8_added5_53 : decode cX8_added5 53 = .ok (.iload_n 1, 1) := dk_27 (dk_at dksX8_added5_2 5 rfl rfl)
theorem dX8_added5_54 : decode cX8_added5 54 = .ok (.iload_n 3, 1) := dk_29 (dk_at dksX8_added5_2 6 rfl rfl)
theorem dX8_added5_55 : decode cX8_added5 55 = .ok (.iadd, 1) := dk_96 (dk_at dksX8_added5_2 7 rfl rfl)
theorem dX8_added5_56 : decode cX8_added5 56 = .ok (.goto 6, 3) := dk_167 0 6 (dk_at dksX8_added5_2 8 rfl rfl)
theorem dX8_added5_59 : decode cX8_added5 59 = .ok (.iload_n 1, 1) := dk_27 (dk_at dksX8_added5_2 11 rfl rfl)
theorem dX8_added5_60 : decode cX8_added5 60 = .ok (.iload_n 3, 1) := dk_29 (dk_at dksX8_added5_2 12 rfl rfl)
theorem dX8_added5_61 : decode cX8_added5 61 = .ok (.isub, 1) := dk_100 (dk_at dksX8_added5_2 13 rfl rfl)
theorem dX8_added5_62 : decode cX8_added5 62 = .ok (.istore_n 1, 1) := dk_60 (dk_at dksX8_added5_2 14 rfl rfl)
theorem dX8_added5_63 : decode cX8_added5 63 = .ok (.goto (-58), 3) := dk_167 255 198 (dk_at dksX8_added5_2 15 rfl rfl)
theorem dX8_added5_66 : decode cX8_added5 66 = .ok (.iload_n 1, 1) := dk_27 (dk_at dksX8_added5_2 18 rfl rfl)
theorem dX8_added5_67 : decode cX8_added5 67 = .ok (.ireturn, 1) := dk_172 (dk_at dksX8_added5_2 19 rfl rfl)
abbrev cX8_term5 : ByteArray := prog_16_method_27_code
def yX8_term5 : MethodName := ⟨RX8, "term5", "()I"⟩
def dkwX8_term5_1 : List UInt8 := [60, 167, 255, 236, 27, 172]
abbrev dktX8_term5_1 : List UInt8 := dkwX8_term5_1 ++ []
def dkwX8_term5_0 : List UInt8 := [42, 182, 0, 232, 60, 42, 16, 42, 182, 0, 221, 153, 0, 17, 42, 182, 0, 196, 27, 42, 182, 0, 232, 104]
abbrev dktX8_term5_0 : List UInt8 := dkwX8_term5_0 ++ dktX8_term5_1
theorem dksX8_term5_0 : cX8_term5.data.toList.drop 0 = dktX8_term5_0 := by decide +kernel
theorem dksX8_term5_1 : cX8_term5.data.toList.drop 24 = dktX8_term5_1 := dk_seg dksX8_term5_0 24 rfl rfl
theorem dX8_term5_0 : decode cX8_term5 0 = .ok (.aload_n 0, 1) := dk_42 (dk_at dksX8_term5_0 0 rfl rfl)
theorem dX8_term5_1 : decode cX8_term5 1 = .ok (.invokevirtual 232, 3) := dk_182 0 232 (dk_at dksX8_term5_0 1 rfl rfl)
theorem dX8_term5_4 : decode cX8_term5 4 = .ok (.istore_n 1, 1) := dk_60 (dk_at dksX8_term5_0 4 rfl rfl)
theorem dX8_term5_5 : decode cX8_term5 5 = .ok (.aload_n 0, 1) := dk_42 (dk_at dksX8_term5_0 5 rfl rfl)
theorem dX8_term5_6 : decode cX8_term5 6 = .ok (.bipush 42, 2) := dk_16 42 (dk_at dksX8_term5_0 6 rfl rfl)
theorem dX8_term5_8 : decode cX8_term5 8 = .ok (.invokevirtual 221, 3) := dk_182 0 221 (dk_at dksX8_term5_0 8 rfl rfl)
theorem dX8_term5_11 : decode cX8_term5 11 = .ok (.ifCond .eq 17, 3) := dk_153 0 17 (dk_at dksX8_term5_0 11 rfl rfl)
theorem dX8_term5_14 : decode cX8_term5 14 = .ok (.aload_n 0, 1) := dk_42 (dk_at dksX8_term5_0 14 rfl rfl)
theorem dX8_term5_15 : decode cX8_term5 15 = .ok (.invokevirtual 196, 3) := dk_182 0 196 (dk_at dksX8_term5_0 15 rfl rfl)
theorem dX8_term5_18 : decode cX8_term5 18 = .ok (.iload_n 1, 1) := dk_27 (dk_at dksX8_term5_0 18 rfl rfl)
theorem dX8_term5_19 : decode cX8_term5 19 = .ok (.aload_n 0, 1) := dk_42 (dk_at dksX8_term5_0 19 rfl rfl)
theorem dX8_term5_20 : decode cX8_term5 20 = .ok (.invokevirtual 232, 3) := dk_182 0 232 (dk_at dksX8_term5_0 20 rfl rfl)
theorem dX8_term5_23 : decode cX8_term5 23 = .ok (.imul, 1) := dk_104 (dk_at dksX8_term5_0 23 rfl rfl)
theorem dX8_term5_24 : decode cX8_term5 24 = .ok (.istore_n 1, 1) := dk_60 (dk_at dksX8_term5_1 0 rfl rfl)
theorem dX8_term5_25 : decode cX8_term5 25 = .ok (.goto (-20), 3) := dk_167 255 236 (dk_at dksX8_term5_1 1 rfl rfl)
theorem dX8_term5_28 : decode cX8_term5 28 = .ok (.iload_n 1, 1) := dk_27 (dk_at dksX8_term5_1 4 rfl rfl)
theorem dX8_term5_29 : decode cX8_term5 29 = .ok (.ireturn, 1) := dk_172 (dk_at dksX8_term5_1 5 rfl rfl)
abbrev cX8_atom5 : ByteArray := prog_16_method_26_code
def yX8_atom5 : MethodName := ⟨RX8, "atom5", "()I"⟩
def dkwX8_atom5_4 : List UInt8 := [182, 0, 196, 167, 0, 7, 42, 182, 0, 193, 27, 172]
abbrev dktX8_atom5_4 : List UInt8 := dkwX8_atom5_4 ++ []
def dkwX8_atom5_3 : List UInt8 := [154, 0, 30, 42, 180, 0, 165, 4, 160, 0, 22, 42, 182, 0, 228, 60, 42, 180, 0, 180, 154, 0, 14, 42]
abbrev dktX8_atom5_3 : List UInt8 := dkwX8_atom5_3 ++ dktX8_atom5_4
def dkwX8_atom5_2 : List UInt8 := [180, 0, 165, 5, 160, 0, 16, 42, 180, 0, 176, 136, 60, 42, 182, 0, 196, 167, 0, 41, 42, 180, 0, 180]
abbrev dktX8_atom5_2 : List UInt8 := dkwX8_atom5_2 ++ dktX8_atom5_3
def dkwX8_atom5_1 : List UInt8 := [182, 0, 221, 153, 0, 11, 42, 182, 0, 224, 87, 167, 0, 69, 42, 180, 0, 180, 154, 0, 24, 42]
abbrev dktX8_atom5_1 : List UInt8 := dkwX8_atom5_1 ++ dktX8_atom5_2
def dkwX8_atom5_0 : List UInt8 := [3, 60, 42, 16, 45, 182, 0, 221, 153, 0, 11, 42, 182, 0, 224, 87, 167, 0, 86, 42, 16, 40]
abbrev dktX8_atom5_0 : List UInt8 := dkwX8_atom5_0 ++ dktX8_atom5_1
theorem dksX8_atom5_0 : cX8_atom5.data.toList.drop 0 = dktX8_atom5_0 := by decide +kernel
theorem dksX8_atom5_1 : cX8_atom5.data.toList.drop 22 = dktX8_atom5_1 := dk_seg dksX8_atom5_0 22 rfl rfl
theorem dksX8_atom5_2 : cX8_atom5.data.toList.drop 44 = dktX8_atom5_2 := dk_seg dksX8_atom5_1 22 rfl rfl
theorem dksX8_atom5_3 : cX8_atom5.data.toList.drop 68 = dktX8_atom5_3 := dk_seg dksX8_atom5_2 24 rfl rfl
theorem dksX8_atom5_4 : cX8_atom5.data.toList.drop 92 = dktX8_atom5_4 := dk_seg dksX8_atom5_3 24 rfl rfl
theorem dX8_atom5_0 : decode cX8_atom5 0 = .ok (.iconst 0, 1) := dk_3 (dk_at dksX8_atom5_0 0 rfl rfl)
theorem dX8_atom5_1 : decode cX8_atom5 1 = .ok (.istore_n 1, 1) := dk_60 (dk_at dksX8_atom5_0 1 rfl rfl)
theorem dX8_atom5_2 : decode cX8_atom5 2 = .ok (.aload_n 0, 1) := dk_42 (dk_at dksX8_atom5_0 2 rfl rfl)
theorem dX8_atom5_3 : decode cX8_atom5 3 = .ok (.bipush 45, 2) := dk_16 45 (dk_at dksX8_atom5_0 3 rfl rfl)
theorem dX8_atom5_5 : decode cX8_atom5 5 = .ok (.invokevirtual 221, 3) := dk_182 0 221 (dk_at dksX8_atom5_0 5 rfl rfl)
theorem dX8_atom5_8 : decode cX8_atom5 8 = .ok (.ifCond .eq 11, 3) := dk_153 0 11 (dk_at dksX8_atom5_0 8 rfl rfl)
theorem dX8_atom5_11 : decode cX8_atom5 11 = .ok (.aload_n 0, 1) := dk_42 (dk_at dksX8_atom5_0 11 rfl rfl)
theorem dX8_atom5_12 : decode cX8_atom5 12 = .ok (.invokevirtual 224, 3) := dk_182 0 224 (dk_at dksX8_atom5_0 12 rfl rfl)
theorem dX8_atom5_15 : decode cX8_atom5 15 = .ok (.pop, 1) := dk_87 (dk_at dksX8_atom5_0 15 rfl rfl)
theorem dX8_atom5_16 : decode cX8_atom5 16 = .ok (.goto 86, 3) := dk_167 0 86 (dk_at dksX8_atom5_0 16 rfl rfl)
theorem dX8_atom5_19 : decode cX8_atom5 19 = .ok (.aload_n 0, 1) := dk_42 (dk_at dksX8_atom5_0 19 rfl rfl)
theorem dX8_atom5_20 : decode cX8_atom5 20 = .ok (.bipush 40, 2) := dk_16 40 (dk_at dksX8_atom5_0 20 rfl rfl)
theorem dX8_atom5_22 : decode cX8_atom5 22 = .ok (.invokevirtual 221, 3) := dk_182 0 221 (dk_at dksX8_atom5_1 0 rfl rfl)
theorem dX8_atom5_25 : decode cX8_atom5 25 = .ok (.ifCond .eq 11, 3) := dk_153 0 11 (dk_at dksX8_atom5_1 3 rfl rfl)
theorem dX8_atom5_28 : decode cX8_atom5 28 = .ok (.aload_n 0, 1) := dk_42 (dk_at dksX8_atom5_1 6 rfl rfl)
theorem dX8_atom5_29 : decode cX8_atom5 29 = .ok (.invokevirtual 224, 3) := dk_182 0 224 (dk_at dksX8_atom5_1 7 rfl rfl)
theorem dX8_atom5_32 : decode cX8_atom5 32 = .ok (.pop, 1) := dk_87 (dk_at dksX8_atom5_1 10 rfl rfl)
theorem dX8_atom5_33 : decode cX8_atom5 33 = .ok (.goto 69, 3) := dk_167 0 69 (dk_at dksX8_atom5_1 11 rfl rfl)
theorem dX8_atom5_36 : decode cX8_atom5 36 = .ok (.aload_n 0, 1) := dk_42 (dk_at dksX8_atom5_1 14 rfl rfl)
theorem dX8_atom5_37 : decode cX8_atom5 37 = .ok (.getfield 180, 3) := dk_180 0 180 (dk_at dksX8_atom5_1 15 rfl rfl)
theorem dX8_atom5_40 : decode cX8_atom5 40 = .ok (.ifCond .ne 24, 3) := dk_154 0 24 (dk_at dksX8_atom5_1 18 rfl rfl)
theorem dX8_atom5_43 : decode cX8_atom5 43 = .ok (.aload_n 0, 1) := dk_42 (dk_at dksX8_atom5_1 21 rfl rfl)
theorem dX8_atom5_44 : decode cX8_atom5 44 = .ok (.getfield 165, 3) := dk_180 0 165 (dk_at dksX8_atom5_2 0 rfl rfl)
theorem dX8_atom5_47 : decode cX8_atom5 47 = .ok (.iconst 2, 1) := dk_5 (dk_at dksX8_atom5_2 3 rfl rfl)
theorem dX8_atom5_48 : decode cX8_atom5 48 = .ok (.if_icmp .ne 16, 3) := dk_160 0 16 (dk_at dksX8_atom5_2 4 rfl rfl)
theorem dX8_atom5_51 : decode cX8_atom5 51 = .ok (.aload_n 0, 1) := dk_42 (dk_at dksX8_atom5_2 7 rfl rfl)
theorem dX8_atom5_52 : decode cX8_atom5 52 = .ok (.getfield 176, 3) := dk_180 0 176 (dk_at dksX8_atom5_2 8 rfl rfl)
theorem dX8_atom5_55 : decode cX8_atom5 55 = .ok (.l2i, 1) := dk_136 (dk_at dksX8_atom5_2 11 rfl rfl)
theorem dX8_atom5_56 : decode cX8_atom5 56 = .ok (.istore_n 1, 1) := dk_60 (dk_at dksX8_atom5_2 12 rfl rfl)
theorem dX8_atom5_57 : decode cX8_atom5 57 = .ok (.aload_n 0, 1) := dk_42 (dk_at dksX8_atom5_2 13 rfl rfl)
theorem dX8_atom5_58 : decode cX8_atom5 58 = .ok (.invokevirtual 196, 3) := dk_182 0 196 (dk_at dksX8_atom5_2 14 rfl rfl)
theorem dX8_atom5_61 : decode cX8_atom5 61 = .ok (.goto 41, 3) := dk_167 0 41 (dk_at dksX8_atom5_2 17 rfl rfl)
theorem dX8_atom5_64 : decode cX8_atom5 64 = .ok (.aload_n 0, 1) := dk_42 (dk_at dksX8_atom5_2 20 rfl rfl)
theorem dX8_atom5_65 : decode cX8_atom5 65 = .ok (.getfield 180, 3) := dk_180 0 180 (dk_at dksX8_atom5_2 21 rfl rfl)
theorem dX8_atom5_68 : decode cX8_atom5 68 = .ok (.ifCond .ne 30, 3) := dk_154 0 30 (dk_at dksX8_atom5_3 0 rfl rfl)
theorem dX8_atom5_71 : decode cX8_atom5 71 = .ok (.aload_n 0, 1) := dk_42 (dk_at dksX8_atom5_3 3 rfl rfl)
theorem dX8_atom5_72 : decode cX8_atom5 72 = .ok (.getfield 165, 3) := dk_180 0 165 (dk_at dksX8_atom5_3 4 rfl rfl)
theorem dX8_atom5_75 : decode cX8_atom5 75 = .ok (.iconst 1, 1) := dk_4 (dk_at dksX8_atom5_3 7 rfl rfl)
theorem dX8_atom5_76 : decode cX8_atom5 76 = .ok (.if_icmp .ne 22, 3) := dk_160 0 22 (dk_at dksX8_atom5_3 8 rfl rfl)
theorem dX8_atom5_79 : decode cX8_atom5 79 = .ok (.aload_n 0, 1) := dk_42 (dk_at dksX8_atom5_3 11 rfl rfl)
theorem dX8_atom5_80 : decode cX8_atom5 80 = .ok (.invokevirtual 228, 3) := dk_182 0 228 (dk_at dksX8_atom5_3 12 rfl rfl)
theorem dX8_atom5_83 : decode cX8_atom5 83 = .ok (.istore_n 1, 1) := dk_60 (dk_at dksX8_atom5_3 15 rfl rfl)
theorem dX8_atom5_84 : decode cX8_atom5 84 = .ok (.aload_n 0, 1) := dk_42 (dk_at dksX8_atom5_3 16 rfl rfl)
theorem dX8_atom5_85 : decode cX8_atom5 85 = .ok (.getfield 180, 3) := dk_180 0 180 (dk_at dksX8_atom5_3 17 rfl rfl)
theorem dX8_atom5_88 : decode cX8_atom5 88 = .ok (.ifCond .ne 14, 3) := dk_154 0 14 (dk_at dksX8_atom5_3 20 rfl rfl)
theorem dX8_atom5_91 : decode cX8_atom5 91 = .ok (.aload_n 0, 1) := dk_42 (dk_at dksX8_atom5_3 23 rfl rfl)
theorem dX8_atom5_92 : decode cX8_atom5 92 = .ok (.invokevirtual 196, 3) := dk_182 0 196 (dk_at dksX8_atom5_4 0 rfl rfl)
theorem dX8_atom5_95 : decode cX8_atom5 95 = .ok (.goto 7, 3) := dk_167 0 7 (dk_at dksX8_atom5_4 3 rfl rfl)
theorem dX8_atom5_98 : decode cX8_atom5 98 = .ok (.aload_n 0, 1) := dk_42 (dk_at dksX8_atom5_4 6 rfl rfl)
theorem dX8_atom5_99 : decode cX8_atom5 99 = .ok (.invokevirtual 193, 3) := dk_182 0 193 (dk_at dksX8_atom5_4 7 rfl rfl)
theorem dX8_atom5_102 : decode cX8_atom5 102 = .ok (.iload_n 1, 1) := dk_27 (dk_at dksX8_atom5_4 10 rfl rfl)
theorem dX8_atom5_103 : decode cX8_atom5 103 = .ok (.ireturn, 1) := dk_172 (dk_at dksX8_atom5_4 11 rfl rfl)
abbrev cX8_isSign : ByteArray := prog_16_method_23_code
def yX8_isSign : MethodName := ⟨RX8, "isSign", "(I)Z"⟩
def dkwX8_isSign_1 : List UInt8 := [154, 0, 7, 4, 167, 0, 4, 3, 172]
abbrev dktX8_isSign_1 : List UInt8 := dkwX8_isSign_1 ++ []
def dkwX8_isSign_0 : List UInt8 := [42, 180, 0, 180, 154, 0, 25, 42, 180, 0, 165, 6, 160, 0, 17, 42, 180, 0, 176, 27, 133, 148]
abbrev dktX8_isSign_0 : List UInt8 := dkwX8_isSign_0 ++ dktX8_isSign_1
theorem dksX8_isSign_0 : cX8_isSign.data.toList.drop 0 = dktX8_isSign_0 := by decide +kernel
theorem dksX8_isSign_1 : cX8_isSign.data.toList.drop 22 = dktX8_isSign_1 := dk_seg dksX8_isSign_0 22 rfl rfl
theorem dX8_isSign_0 : decode cX8_isSign 0 = .ok (.aload_n 0, 1) := dk_42 (dk_at dksX8_isSign_0 0 rfl rfl)
theorem dX8_isSign_1 : decode cX8_isSign 1 = .ok (.getfield 180, 3) := dk_180 0 180 (dk_at dksX8_isSign_0 1 rfl rfl)
theorem dX8_isSign_4 : decode cX8_isSign 4 = .ok (.ifCond .ne 25, 3) := dk_154 0 25 (dk_at dksX8_isSign_0 4 rfl rfl)
theorem dX8_isSign_7 : decode cX8_isSign 7 = .ok (.aload_n 0, 1) := dk_42 (dk_at dksX8_isSign_0 7 rfl rfl)
theorem dX8_isSign_8 : decode cX8_isSign 8 = .ok (.getfield 165, 3) := dk_180 0 165 (dk_at dksX8_isSign_0 8 rfl rfl)
theorem dX8_isSign_11 : decode cX8_isSign 11 = .ok (.iconst 3, 1) := dk_6 (dk_at dksX8_isSign_0 11 rfl rfl)
theorem dX8_isSign_12 : decode cX8_isSign 12 = .ok (.if_icmp .ne 17, 3) := dk_160 0 17 (dk_at dksX8_isSign_0 12 rfl rfl)
theorem dX8_isSign_15 : decode cX8_isSign 15 = .ok (.aload_n 0, 1) := dk_42 (dk_at dksX8_isSign_0 15 rfl rfl)
theorem dX8_isSign_16 : decode cX8_isSign 16 = .ok (.getfield 176, 3) := dk_180 0 176 (dk_at dksX8_isSign_0 16 rfl rfl)
theorem dX8_isSign_19 : decode cX8_isSign 19 = .ok (.iload_n 1, 1) := dk_27 (dk_at dksX8_isSign_0 19 rfl rfl)
theorem dX8_isSign_20 : decode cX8_isSign 20 = .ok (.i2l, 1) := dk_133 (dk_at dksX8_isSign_0 20 rfl rfl)
theorem dX8_isSign_21 : decode cX8_isSign 21 = .ok (.lcmp, 1) := dk_148 (dk_at dksX8_isSign_0 21 rfl rfl)
theorem dX8_isSign_22 : decode cX8_isSign 22 = .ok (.ifCond .ne 7, 3) := dk_154 0 7 (dk_at dksX8_isSign_1 0 rfl rfl)
theorem dX8_isSign_25 : decode cX8_isSign 25 = .ok (.iconst 1, 1) := dk_4 (dk_at dksX8_isSign_1 3 rfl rfl)
theorem dX8_isSign_26 : decode cX8_isSign 26 = .ok (.goto 4, 3) := dk_167 0 4 (dk_at dksX8_isSign_1 4 rfl rfl)
theorem dX8_isSign_29 : decode cX8_isSign 29 = .ok (.iconst 0, 1) := dk_3 (dk_at dksX8_isSign_1 7 rfl rfl)
theorem dX8_isSign_30 : decode cX8_isSign 30 = .ok (.ireturn, 1) := dk_172 (dk_at dksX8_isSign_1 8 rfl rfl)
abbrev cX8_name : ByteArray := prog_16_method_25_code
def yX8_name : MethodName := ⟨RX8, "name", "()I"⟩
def dkwX8_name_6 : List UInt8 := [182, 0, 199, 153, 0, 8, 42, 180, 0, 218, 172, 42, 182, 0, 193, 3, 172]
abbrev dktX8_name_6 : List UInt8 := dkwX8_name_6 ++ []
def dkwX8_name_5 : List UInt8 := [153, 0, 8, 42, 180, 0, 215, 172, 42, 16, 101, 16, 97, 16, 116, 16, 101, 16, 110, 3, 3, 3]
abbrev dktX8_name_5 : List UInt8 := dkwX8_name_5 ++ dktX8_name_6
def dkwX8_name_4 : List UInt8 := [153, 0, 8, 42, 180, 0, 212, 172, 42, 16, 109, 16, 111, 16, 111, 16, 100, 3, 3, 3, 3, 182, 0, 199]
abbrev dktX8_name_4 : List UInt8 := dkwX8_name_4 ++ dktX8_name_5
def dkwX8_name_3 : List UInt8 := [153, 0, 8, 42, 180, 0, 209, 172, 42, 16, 121, 16, 101, 16, 97, 16, 114, 3, 3, 3, 3, 182, 0, 199]
abbrev dktX8_name_3 : List UInt8 := dkwX8_name_3 ++ dktX8_name_4
def dkwX8_name_2 : List UInt8 := [180, 0, 206, 172, 42, 16, 110, 16, 117, 16, 109, 16, 98, 16, 101, 16, 114, 3, 3, 182, 0, 199]
abbrev dktX8_name_2 : List UInt8 := dkwX8_name_2 ++ dktX8_name_3
def dkwX8_name_1 : List UInt8 := [180, 0, 203, 172, 42, 16, 106, 16, 97, 16, 114, 3, 3, 3, 3, 3, 182, 0, 199, 153, 0, 8, 42]
abbrev dktX8_name_1 : List UInt8 := dkwX8_name_1 ++ dktX8_name_2
def dkwX8_name_0 : List UInt8 := [42, 16, 99, 16, 114, 16, 111, 16, 115, 16, 115, 16, 105, 16, 110, 16, 103, 182, 0, 199, 153, 0, 8, 42]
abbrev dktX8_name_0 : List UInt8 := dkwX8_name_0 ++ dktX8_name_1
theorem dksX8_name_0 : cX8_name.data.toList.drop 0 = dktX8_name_0 := by decide +kernel
theorem dksX8_name_1 : cX8_name.data.toList.drop 24 = dktX8_name_1 := dk_seg dksX8_name_0 24 rfl rfl
theorem dksX8_name_2 : cX8_name.data.toList.drop 47 = dktX8_name_2 := dk_seg dksX8_name_1 23 rfl rfl
theorem dksX8_name_3 : cX8_name.data.toList.drop 69 = dktX8_name_3 := dk_seg dksX8_name_2 22 rfl rfl
theorem dksX8_name_4 : cX8_name.data.toList.drop 93 = dktX8_name_4 := dk_seg dksX8_name_3 24 rfl rfl
theorem dksX8_name_5 : cX8_name.data.toList.drop 117 = dktX8_name_5 := dk_seg dksX8_name_4 24 rfl rfl
theorem dksX8_name_6 : cX8_name.data.toList.drop 139 = dktX8_name_6 := dk_seg dksX8_name_5 22 rfl rfl
theorem dX8_name_0 : decode cX8_name 0 = .ok (.aload_n 0, 1) := dk_42 (dk_at dksX8_name_0 0 rfl rfl)
theorem dX8_name_1 : decode cX8_name 1 = .ok (.bipush 99, 2) := dk_16 99 (dk_at dksX8_name_0 1 rfl rfl)
theorem dX8_name_3 : decode cX8_name 3 = .ok (.bipush 114, 2) := dk_16 114 (dk_at dksX8_name_0 3 rfl rfl)
theorem dX8_name_5 : decode cX8_name 5 = .ok (.bipush 111, 2) := dk_16 111 (dk_at dksX8_name_0 5 rfl rfl)
theorem dX8_name_7 : decode cX8_name 7 = .ok (.bipush 115, 2) := dk_16 115 (dk_at dksX8_name_0 7 rfl rfl)
theorem dX8_name_9 : decode cX8_name 9 = .ok (.bipush 115, 2) := dk_16 115 (dk_at dksX8_name_0 9 rfl rfl)
theorem dX8_name_11 : decode cX8_name 11 = .ok (.bipush 105, 2) := dk_16 105 (dk_at dksX8_name_0 11 rfl rfl)
theorem dX8_name_13 : decode cX8_name 13 = .ok (.bipush 110, 2) := dk_16 110 (dk_at dksX8_name_0 13 rfl rfl)
theorem dX8_name_15 : decode cX8_name 15 = .ok (.bipush 103, 2) := dk_16 103 (dk_at dksX8_name_0 15 rfl rfl)
theorem dX8_name_17 : decode cX8_name 17 = .ok (.invokevirtual 199, 3) := dk_182 0 199 (dk_at dksX8_name_0 17 rfl rfl)
theorem dX8_name_20 : decode cX8_name 20 = .ok (.ifCond .eq 8, 3) := dk_153 0 8 (dk_at dksX8_name_0 20 rfl rfl)
theorem dX8_name_23 : decode cX8_name 23 = .ok (.aload_n 0, 1) := dk_42 (dk_at dksX8_name_0 23 rfl rfl)
theorem dX8_name_24 : decode cX8_name 24 = .ok (.getfield 203, 3) := dk_180 0 203 (dk_at dksX8_name_1 0 rfl rfl)
theorem dX8_name_27 : decode cX8_name 27 = .ok (.ireturn, 1) := dk_172 (dk_at dksX8_name_1 3 rfl rfl)
theorem dX8_name_28 : decode cX8_name 28 = .ok (.aload_n 0, 1) := dk_42 (dk_at dksX8_name_1 4 rfl rfl)
theorem dX8_name_29 : decode cX8_name 29 = .ok (.bipush 106, 2) := dk_16 106 (dk_at dksX8_name_1 5 rfl rfl)
theorem dX8_name_31 : decode cX8_name 31 = .ok (.bipush 97, 2) := dk_16 97 (dk_at dksX8_name_1 7 rfl rfl)
theorem dX8_name_33 : decode cX8_name 33 = .ok (.bipush 114, 2) := dk_16 114 (dk_at dksX8_name_1 9 rfl rfl)
theorem dX8_name_35 : decode cX8_name 35 = .ok (.iconst 0, 1) := dk_3 (dk_at dksX8_name_1 11 rfl rfl)
theorem dX8_name_36 : decode cX8_name 36 = .ok (.iconst 0, 1) := dk_3 (dk_at dksX8_name_1 12 rfl rfl)
theorem dX8_name_37 : decode cX8_name 37 = .ok (.iconst 0, 1) := dk_3 (dk_at dksX8_name_1 13 rfl rfl)
theorem dX8_name_38 : decode cX8_name 38 = .ok (.iconst 0, 1) := dk_3 (dk_at dksX8_name_1 14 rfl rfl)
theorem dX8_name_39 : decode cX8_name 39 = .ok (.iconst 0, 1) := dk_3 (dk_at dksX8_name_1 15 rfl rfl)
theorem dX8_name_40 : decode cX8_name 40 = .ok (.invokevirtual 199, 3) := dk_182 0 199 (dk_at dksX8_name_1 16 rfl rfl)
theorem dX8_name_43 : decode cX8_name 43 = .ok (.ifCond .eq 8, 3) := dk_153 0 8 (dk_at dksX8_name_1 19 rfl rfl)
theorem dX8_name_46 : decode cX8_name 46 = .ok (.aload_n 0, 1) := dk_42 (dk_at dksX8_name_1 22 rfl rfl)
theorem dX8_name_47 : decode cX8_name 47 = .ok (.getfield 206, 3) := dk_180 0 206 (dk_at dksX8_name_2 0 rfl rfl)
theorem dX8_name_50 : decode cX8_name 50 = .ok (.ireturn, 1) := dk_172 (dk_at dksX8_name_2 3 rfl rfl)
theorem dX8_name_51 : decode cX8_name 51 = .ok (.aload_n 0, 1) := dk_42 (dk_at dksX8_name_2 4 rfl rfl)
theorem dX8_name_52 : decode cX8_name 52 = .ok (.bipush 110, 2) := dk_16 110 (dk_at dksX8_name_2 5 rfl rfl)
theorem dX8_name_54 : decode cX8_name 54 = .ok (.bipush 117, 2) := dk_16 117 (dk_at dksX8_name_2 7 rfl rfl)
theorem dX8_name_56 : decode cX8_name 56 = .ok (.bipush 109, 2) := dk_16 109 (dk_at dksX8_name_2 9 rfl rfl)
theorem dX8_name_58 : decode cX8_name 58 = .ok (.bipush 98, 2) := dk_16 98 (dk_at dksX8_name_2 11 rfl rfl)
theorem dX8_name_60 : decode cX8_name 60 = .ok (.bipush 101, 2) := dk_16 101 (dk_at dksX8_name_2 13 rfl rfl)
theorem dX8_name_62 : decode cX8_name 62 = .ok (.bipush 114, 2) := dk_16 114 (dk_at dksX8_name_2 15 rfl rfl)
theorem dX8_name_64 : decode cX8_name 64 = .ok (.iconst 0, 1) := dk_3 (dk_at dksX8_name_2 17 rfl rfl)
theorem dX8_name_65 : decode cX8_name 65 = .ok (.iconst 0, 1) := dk_3 (dk_at dksX8_name_2 18 rfl rfl)
theorem dX8_name_66 : decode cX8_name 66 = .ok (.invokevirtual 199, 3) := dk_182 0 199 (dk_at dksX8_name_2 19 rfl rfl)
theorem dX8_name_69 : decode cX8_name 69 = .ok (.ifCond .eq 8, 3) := dk_153 0 8 (dk_at dksX8_name_3 0 rfl rfl)
theorem dX8_name_72 : decode cX8_name 72 = .ok (.aload_n 0, 1) := dk_42 (dk_at dksX8_name_3 3 rfl rfl)
theorem dX8_name_73 : decode cX8_name 73 = .ok (.getfield 209, 3) := dk_180 0 209 (dk_at dksX8_name_3 4 rfl rfl)
theorem dX8_name_76 : decode cX8_name 76 = .ok (.ireturn, 1) := dk_172 (dk_at dksX8_name_3 7 rfl rfl)
theorem dX8_name_77 : decode cX8_name 77 = .ok (.aload_n 0, 1) := dk_42 (dk_at dksX8_name_3 8 rfl rfl)
theorem dX8_name_78 : decode cX8_name 78 = .ok (.bipush 121, 2) := dk_16 121 (dk_at dksX8_name_3 9 rfl rfl)
theorem dX8_name_80 : decode cX8_name 80 = .ok (.bipush 101, 2) := dk_16 101 (dk_at dksX8_name_3 11 rfl rfl)
theorem dX8_name_82 : decode cX8_name 82 = .ok (.bipush 97, 2) := dk_16 97 (dk_at dksX8_name_3 13 rfl rfl)
theorem dX8_name_84 : decode cX8_name 84 = .ok (.bipush 114, 2) := dk_16 114 (dk_at dksX8_name_3 15 rfl rfl)
theorem dX8_name_86 : decode cX8_name 86 = .ok (.iconst 0, 1) := dk_3 (dk_at dksX8_name_3 17 rfl rfl)
theorem dX8_name_87 : decode cX8_name 87 = .ok (.iconst 0, 1) := dk_3 (dk_at dksX8_name_3 18 rfl rfl)
theorem dX8_name_88 : decode cX8_name 88 = .ok (.iconst 0, 1) := dk_3 (dk_at dksX8_name_3 19 rfl rfl)
theorem dX8_name_89 : decode cX8_name 89 = .ok (.iconst 0, 1) := dk_3 (dk_at dksX8_name_3 20 rfl rfl)
theorem dX8_name_90 : decode cX8_name 90 = .ok (.invokevirtual 199, 3) := dk_182 0 199 (dk_at dksX8_name_3 21 rfl rfl)
theorem dX8_name_93 : decode cX8_name 93 = .ok (.ifCond .eq 8, 3) := dk_153 0 8 (dk_at dksX8_name_4 0 rfl rfl)
theorem dX8_name_96 : decode cX8_name 96 = .ok (.aload_n 0, 1) := dk_42 (dk_at dksX8_name_4 3 rfl rfl)
theorem dX8_name_97 : decode cX8_name 97 = .ok (.getfield 212, 3) := dk_180 0 212 (dk_at dksX8_name_4 4 rfl rfl)
theorem dX8_name_100 : decode cX8_name 100 = .ok (.ireturn, 1) := dk_172 (dk_at dksX8_name_4 7 rfl rfl)
theorem dX8_name_101 : decode cX8_name 101 = .ok (.aload_n 0, 1) := dk_42 (dk_at dksX8_name_4 8 rfl rfl)
theorem dX8_name_102 : decode cX8_name 102 = .ok (.bipush 109, 2) := dk_16 109 (dk_at dksX8_name_4 9 rfl rfl)
theorem dX8_name_104 : decode cX8_name 104 = .ok (.bipush 111, 2) := dk_16 111 (dk_at dksX8_name_4 11 rfl rfl)
theorem dX8_name_106 : decode cX8_name 106 = .ok (.bipush 111, 2) := dk_16 111 (dk_at dksX8_name_4 13 rfl rfl)
theorem dX8_name_108 : decode cX8_name 108 = .ok (.bipush 100, 2) := dk_16 100 (dk_at dksX8_name_4 15 rfl rfl)
theorem dX8_name_110 : decode cX8_name 110 = .ok (.iconst 0, 1) := dk_3 (dk_at dksX8_name_4 17 rfl rfl)
theorem dX8_name_111 : decode cX8_name 111 = .ok (.iconst 0, 1) := dk_3 (dk_at dksX8_name_4 18 rfl rfl)
theorem dX8_name_112 : decode cX8_name 112 = .ok (.iconst 0, 1) := dk_3 (dk_at dksX8_name_4 19 rfl rfl)
theorem dX8_name_113 : decode cX8_name 113 = .ok (.iconst 0, 1) := dk_3 (dk_at dksX8_name_4 20 rfl rfl)
theorem dX8_name_114 : decode cX8_name 114 = .ok (.invokevirtual 199, 3) := dk_182 0 199 (dk_at dksX8_name_4 21 rfl rfl)
theorem dX8_name_117 : decode cX8_name 117 = .ok (.ifCond .eq 8, 3) := dk_153 0 8 (dk_at dksX8_name_5 0 rfl rfl)
theorem dX8_name_120 : decode cX8_name 120 = .ok (.aload_n 0, 1) := dk_42 (dk_at dksX8_name_5 3 rfl rfl)
theorem dX8_name_121 : decode cX8_name 121 = .ok (.getfield 215, 3) := dk_180 0 215 (dk_at dksX8_name_5 4 rfl rfl)
theorem dX8_name_124 : decode cX8_name 124 = .ok (.ireturn, 1) := dk_172 (dk_at dksX8_name_5 7 rfl rfl)
theorem dX8_name_125 : decode cX8_name 125 = .ok (.aload_n 0, 1) := dk_42 (dk_at dksX8_name_5 8 rfl rfl)
theorem dX8_name_126 : decode cX8_name 126 = .ok (.bipush 101, 2) := dk_16 101 (dk_at dksX8_name_5 9 rfl rfl)
theorem dX8_name_128 : decode cX8_name 128 = .ok (.bipush 97, 2) := dk_16 97 (dk_at dksX8_name_5 11 rfl rfl)
theorem dX8_name_130 : decode cX8_name 130 = .ok (.bipush 116, 2) := dk_16 116 (dk_at dksX8_name_5 13 rfl rfl)
theorem dX8_name_132 : decode cX8_name 132 = .ok (.bipush 101, 2) := dk_16 101 (dk_at dksX8_name_5 15 rfl rfl)
theorem dX8_name_134 : decode cX8_name 134 = .ok (.bipush 110, 2) := dk_16 110 (dk_at dksX8_name_5 17 rfl rfl)
theorem dX8_name_136 : decode cX8_name 136 = .ok (.iconst 0, 1) := dk_3 (dk_at dksX8_name_5 19 rfl rfl)
theorem dX8_name_137 : decode cX8_name 137 = .ok (.iconst 0, 1) := dk_3 (dk_at dksX8_name_5 20 rfl rfl)
theorem dX8_name_138 : decode cX8_name 138 = .ok (.iconst 0, 1) := dk_3 (dk_at dksX8_name_5 21 rfl rfl)
theorem dX8_name_139 : decode cX8_name 139 = .ok (.invokevirtual 199, 3) := dk_182 0 199 (dk_at dksX8_name_6 0 rfl rfl)
theorem dX8_name_142 : decode cX8_name 142 = .ok (.ifCond .eq 8, 3) := dk_153 0 8 (dk_at dksX8_name_6 3 rfl rfl)
theorem dX8_name_145 : decode cX8_name 145 = .ok (.aload_n 0, 1) := dk_42 (dk_at dksX8_name_6 6 rfl rfl)
theorem dX8_name_146 : decode cX8_name 146 = .ok (.getfield 218, 3) := dk_180 0 218 (dk_at dksX8_name_6 7 rfl rfl)
theorem dX8_name_149 : decode cX8_name 149 = .ok (.ireturn, 1) := dk_172 (dk_at dksX8_name_6 10 rfl rfl)
theorem dX8_name_150 : decode cX8_name 150 = .ok (.aload_n 0, 1) := dk_42 (dk_at dksX8_name_6 11 rfl rfl)
theorem dX8_name_151 : decode cX8_name 151 = .ok (.invokevirtual 193, 3) := dk_182 0 193 (dk_at dksX8_name_6 12 rfl rfl)
theorem dX8_name_154 : decode cX8_name 154 = .ok (.iconst 0, 1) := dk_3 (dk_at dksX8_name_6 15 rfl rfl)
theorem dX8_name_155 : decode cX8_name 155 = .ok (.ireturn, 1) := dk_172 (dk_at dksX8_name_6 16 rfl rfl)
abbrev cX8_added4 : ByteArray := prog_16_method_34_code
def yX8_added4 : MethodName := ⟨RX8, "added4", "()I"⟩
def dkwX8_added4_2 : List UInt8 := [62, 28, 153, 0, 9, 27, 29, 96, 167, 0, 6, 27, 29, 100, 60, 167, 255, 198, 27, 172]
abbrev dktX8_added4_2 : List UInt8 := dkwX8_added4_2 ++ []
def dkwX8_added4_1 : List UInt8 := [180, 0, 176, 20, 0, 238, 148, 154, 0, 7, 4, 167, 0, 4, 3, 61, 42, 182, 0, 196, 42, 182, 1, 1]
abbrev dktX8_added4_1 : List UInt8 := dkwX8_added4_1 ++ dktX8_added4_2
def dkwX8_added4_0 : List UInt8 := [42, 182, 1, 1, 60, 42, 16, 43, 182, 0, 221, 154, 0, 12, 42, 16, 45, 182, 0, 221, 153, 0, 46, 42]
abbrev dktX8_added4_0 : List UInt8 := dkwX8_added4_0 ++ dktX8_added4_1
theorem dksX8_added4_0 : cX8_added4.data.toList.drop 0 = dktX8_added4_0 := by decide +kernel
theorem dksX8_added4_1 : cX8_added4.data.toList.drop 24 = dktX8_added4_1 := dk_seg dksX8_added4_0 24 rfl rfl
theorem dksX8_added4_2 : cX8_added4.data.toList.drop 48 = dktX8_added4_2 := dk_seg dksX8_added4_1 24 rfl rfl
theorem dX8_added4_0 : decode cX8_added4 0 = .ok (.aload_n 0, 1) := dk_42 (dk_at dksX8_added4_0 0 rfl rfl)
theorem dX8_added4_1 : decode cX8_added4 1 = .ok (.invokevirtual 257, 3) := dk_182 1 1 (dk_at dksX8_added4_0 1 rfl rfl)
theorem dX8_added4_4 : decode cX8_added4 4 = .ok (.istore_n 1, 1) := dk_60 (dk_at dksX8_added4_0 4 rfl rfl)
theorem dX8_added4_5 : decode cX8_added4 5 = .ok (.aload_n 0, 1) := dk_42 (dk_at dksX8_added4_0 5 rfl rfl)
theorem dX8_added4_6 : decode cX8_added4 6 = .ok (.bipush 43, 2) := dk_16 43 (dk_at dksX8_added4_0 6 rfl rfl)
theorem dX8_added4_8 : decode cX8_added4 8 = .ok (.invokevirtual 221, 3) := dk_182 0 221 (dk_at dksX8_added4_0 8 rfl rfl)
theorem dX8_added4_11 : decode cX8_added4 11 = .ok (.ifCond .ne 12, 3) := dk_154 0 12 (dk_at dksX8_added4_0 11 rfl rfl)
theorem dX8_added4_14 : decode cX8_added4 14 = .ok (.aload_n 0, 1) := dk_42 (dk_at dksX8_added4_0 14 rfl rfl)
theorem dX8_added4_15 : decode cX8_added4 15 = .ok (.bipush 45, 2) := dk_16 45 (dk_at dksX8_added4_0 15 rfl rfl)
theorem dX8_added4_17 : decode cX8_added4 17 = .ok (.invokevirtual 221, 3) := dk_182 0 221 (dk_at dksX8_added4_0 17 rfl rfl)
theorem dX8_added4_20 : decode cX8_added4 20 = .ok (.ifCond .eq 46, 3) := dk_153 0 46 (dk_at dksX8_added4_0 20 rfl rfl)
theorem dX8_added4_23 : decode cX8_added4 23 = .ok (.aload_n 0, 1) := dk_42 (dk_at dksX8_added4_0 23 rfl rfl)
theorem dX8_added4_24 : decode cX8_added4 24 = .ok (.getfield 176, 3) := dk_180 0 176 (dk_at dksX8_added4_1 0 rfl rfl)
theorem dX8_added4_27 : decode cX8_added4 27 = .ok (.ldc2_w 238, 3) := dk_20 0 238 (dk_at dksX8_added4_1 3 rfl rfl)
theorem dX8_added4_30 : decode cX8_added4 30 = .ok (.lcmp, 1) := dk_148 (dk_at dksX8_added4_1 6 rfl rfl)
theorem dX8_added4_31 : decode cX8_added4 31 = .ok (.ifCond .ne 7, 3) := dk_154 0 7 (dk_at dksX8_added4_1 7 rfl rfl)
theorem dX8_added4_34 : decode cX8_added4 34 = .ok (.iconst 1, 1) := dk_4 (dk_at dksX8_added4_1 10 rfl rfl)
theorem dX8_added4_35 : decode cX8_added4 35 = .ok (.goto 4, 3) := dk_167 0 4 (dk_at dksX8_added4_1 11 rfl rfl)
theorem dX8_added4_38 : decode cX8_added4 38 = .ok (.iconst 0, 1) := dk_3 (dk_at dksX8_added4_1 14 rfl rfl)
theorem dX8_added4_39 : decode cX8_added4 39 = .ok (.istore_n 2, 1) := dk_61 (dk_at dksX8_added4_1 15 rfl rfl)
theorem dX8_added4_40 : decode cX8_added4 40 = .ok (.aload_n 0, 1) := dk_42 (dk_at dksX8_added4_1 16 rfl rfl)
theorem dX8_added4_41 : decode cX8_added4 41 = .ok (.invokevirtual 196, 3) := dk_182 0 196 (dk_at dksX8_added4_1 17 rfl rfl)
theorem dX8_added4_44 : decode cX8_added4 44 = .ok (.aload_n 0, 1) := dk_42 (dk_at dksX8_added4_1 20 rfl rfl)
theorem dX8_added4_45 : decode cX8_added4 45 = .ok (.invokevirtual 257, 3) := dk_182 1 1 (dk_at dksX8_added4_1 21 rfl rfl)
theorem dX8_added4_48 : decode cX8_added4 48 = .ok (.istore_n 3, 1) := dk_62 (dk_at dksX8_added4_2 0 rfl rfl)
theorem dX8_added4_49 : decode cX8_added4 49 = .ok (.iload_n 2, 1) := dk_28 (dk_at dksX8_added4_2 1 rfl rfl)
theorem dX8_added4_50 : decode cX8_added4 50 = .ok (.ifCond .eq 9, 3) := dk_153 0 9 (dk_at dksX8_added4_2 2 rfl rfl)
theorem dX8_added4_53 : decode cX8_added4 53 = .ok (.iload_n 1, 1) := dk_27 (dk_at dksX8_added4_2 5 rfl rfl)
theorem dX8_added4_54 : decode cX8_added4 54 = .ok (.iload_n 3, 1) := dk_29 (dk_at dksX8_added4_2 6 rfl rfl)
theorem dX8_added4_55 : decode cX8_added4 55 = .ok (.iadd, 1) := dk_96 (dk_at dksX8_added4_2 7 rfl rfl)
theorem dX8_added4_56 : decode cX8_added4 56 = .ok (.goto 6, 3) := dk_167 0 6 (dk_at dksX8_added4_2 8 rfl rfl)
theorem dX8_added4_59 : decode cX8_added4 59 = .ok (.iload_n 1, 1) := dk_27 (dk_at dksX8_added4_2 11 rfl rfl)
theorem dX8_added4_60 : decode cX8_added4 60 = .ok (.iload_n 3, 1) := dk_29 (dk_at dksX8_added4_2 12 rfl rfl)
theorem dX8_added4_61 : decode cX8_added4 61 = .ok (.isub, 1) := dk_100 (dk_at dksX8_added4_2 13 rfl rfl)
theorem dX8_added4_62 : decode cX8_added4 62 = .ok (.istore_n 1, 1) := dk_60 (dk_at dksX8_added4_2 14 rfl rfl)
theorem dX8_added4_63 : decode cX8_added4 63 = .ok (.goto (-58), 3) := dk_167 255 198 (dk_at dksX8_added4_2 15 rfl rfl)
theorem dX8_added4_66 : decode cX8_added4 66 = .ok (.iload_n 1, 1) := dk_27 (dk_at dksX8_added4_2 18 rfl rfl)
theorem dX8_added4_67 : decode cX8_added4 67 = .ok (.ireturn, 1) := dk_172 (dk_at dksX8_added4_2 19 rfl rfl)
abbrev cX8_term4 : ByteArray := prog_16_method_33_code
def yX8_term4 : MethodName := ⟨RX8, "term4", "()I"⟩
def dkwX8_term4_1 : List UInt8 := [60, 167, 255, 236, 27, 172]
abbrev dktX8_term4_1 : List UInt8 := dkwX8_term4_1 ++ []
def dkwX8_term4_0 : List UInt8 := [42, 182, 0, 254, 60, 42, 16, 42, 182, 0, 221, 153, 0, 17, 42, 182, 0, 196, 27, 42, 182, 0, 254, 104]
abbrev dktX8_term4_0 : List UInt8 := dkwX8_term4_0 ++ dktX8_term4_1
theorem dksX8_term4_0 : cX8_term4.data.toList.drop 0 = dktX8_term4_0 := by decide +kernel
theorem dksX8_term4_1 : cX8_term4.data.toList.drop 24 = dktX8_term4_1 := dk_seg dksX8_term4_0 24 rfl rfl
theorem dX8_term4_0 : decode cX8_term4 0 = .ok (.aload_n 0, 1) := dk_42 (dk_at dksX8_term4_0 0 rfl rfl)
theorem dX8_term4_1 : decode cX8_term4 1 = .ok (.invokevirtual 254, 3) := dk_182 0 254 (dk_at dksX8_term4_0 1 rfl rfl)
theorem dX8_term4_4 : decode cX8_term4 4 = .ok (.istore_n 1, 1) := dk_60 (dk_at dksX8_term4_0 4 rfl rfl)
theorem dX8_term4_5 : decode cX8_term4 5 = .ok (.aload_n 0, 1) := dk_42 (dk_at dksX8_term4_0 5 rfl rfl)
theorem dX8_term4_6 : decode cX8_term4 6 = .ok (.bipush 42, 2) := dk_16 42 (dk_at dksX8_term4_0 6 rfl rfl)
theorem dX8_term4_8 : decode cX8_term4 8 = .ok (.invokevirtual 221, 3) := dk_182 0 221 (dk_at dksX8_term4_0 8 rfl rfl)
theorem dX8_term4_11 : decode cX8_term4 11 = .ok (.ifCond .eq 17, 3) := dk_153 0 17 (dk_at dksX8_term4_0 11 rfl rfl)
theorem dX8_term4_14 : decode cX8_term4 14 = .ok (.aload_n 0, 1) := dk_42 (dk_at dksX8_term4_0 14 rfl rfl)
theorem dX8_term4_15 : decode cX8_term4 15 = .ok (.invokevirtual 196, 3) := dk_182 0 196 (dk_at dksX8_term4_0 15 rfl rfl)
theorem dX8_term4_18 : decode cX8_term4 18 = .ok (.iload_n 1, 1) := dk_27 (dk_at dksX8_term4_0 18 rfl rfl)
theorem dX8_term4_19 : decode cX8_term4 19 = .ok (.aload_n 0, 1) := dk_42 (dk_at dksX8_term4_0 19 rfl rfl)
theorem dX8_term4_20 : decode cX8_term4 20 = .ok (.invokevirtual 254, 3) := dk_182 0 254 (dk_at dksX8_term4_0 20 rfl rfl)
theorem dX8_term4_23 : decode cX8_term4 23 = .ok (.imul, 1) := dk_104 (dk_at dksX8_term4_0 23 rfl rfl)
theorem dX8_term4_24 : decode cX8_term4 24 = .ok (.istore_n 1, 1) := dk_60 (dk_at dksX8_term4_1 0 rfl rfl)
theorem dX8_term4_25 : decode cX8_term4 25 = .ok (.goto (-20), 3) := dk_167 255 236 (dk_at dksX8_term4_1 1 rfl rfl)
theorem dX8_term4_28 : decode cX8_term4 28 = .ok (.iload_n 1, 1) := dk_27 (dk_at dksX8_term4_1 4 rfl rfl)
theorem dX8_term4_29 : decode cX8_term4 29 = .ok (.ireturn, 1) := dk_172 (dk_at dksX8_term4_1 5 rfl rfl)
abbrev cX8_atom4 : ByteArray := prog_16_method_32_code
def yX8_atom4 : MethodName := ⟨RX8, "atom4", "()I"⟩
def dkwX8_atom4_6 : List UInt8 := [182, 0, 228, 60, 42, 180, 0, 180, 154, 0, 14, 42, 182, 0, 196, 167, 0, 7, 42, 182, 0, 193, 27, 172]
abbrev dktX8_atom4_6 : List UInt8 := dkwX8_atom4_6 ++ []
def dkwX8_atom4_5 : List UInt8 := [182, 0, 196, 167, 0, 41, 42, 180, 0, 180, 154, 0, 30, 42, 180, 0, 165, 4, 160, 0, 22, 42]
abbrev dktX8_atom4_5 : List UInt8 := dkwX8_atom4_5 ++ dktX8_atom4_6
def dkwX8_atom4_4 : List UInt8 := [42, 180, 0, 180, 154, 0, 24, 42, 180, 0, 165, 5, 160, 0, 16, 42, 180, 0, 176, 136, 60, 42]
abbrev dktX8_atom4_4 : List UInt8 := dkwX8_atom4_4 ++ dktX8_atom4_5
def dkwX8_atom4_3 : List UInt8 := [42, 89, 180, 0, 190, 4, 100, 181, 0, 190, 42, 180, 0, 180, 154, 0, 76, 42, 182, 0, 196, 167, 0, 69]
abbrev dktX8_atom4_3 : List UInt8 := dkwX8_atom4_3 ++ dktX8_atom4_4
def dkwX8_atom4_2 : List UInt8 := [182, 0, 224, 153, 0, 111, 42, 182, 0, 251, 60, 42, 16, 41, 182, 0, 221, 154, 0, 7, 42, 182, 0, 193]
abbrev dktX8_atom4_2 : List UInt8 := dkwX8_atom4_2 ++ dktX8_atom4_3
def dkwX8_atom4_1 : List UInt8 := [42, 89, 180, 0, 190, 4, 100, 181, 0, 190, 167, 0, 127, 42, 16, 40, 182, 0, 221, 153, 0, 52, 42]
abbrev dktX8_atom4_1 : List UInt8 := dkwX8_atom4_1 ++ dktX8_atom4_2
def dkwX8_atom4_0 : List UInt8 := [3, 60, 42, 16, 45, 182, 0, 221, 153, 0, 29, 42, 182, 0, 224, 153, 0, 146, 42, 182, 0, 232, 116, 60]
abbrev dktX8_atom4_0 : List UInt8 := dkwX8_atom4_0 ++ dktX8_atom4_1
theorem dksX8_atom4_0 : cX8_atom4.data.toList.drop 0 = dktX8_atom4_0 := by decide +kernel
theorem dksX8_atom4_1 : cX8_atom4.data.toList.drop 24 = dktX8_atom4_1 := dk_seg dksX8_atom4_0 24 rfl rfl
theorem dksX8_atom4_2 : cX8_atom4.data.toList.drop 47 = dktX8_atom4_2 := dk_seg dksX8_atom4_1 23 rfl rfl
theorem dksX8_atom4_3 : cX8_atom4.data.toList.drop 71 = dktX8_atom4_3 := dk_seg dksX8_atom4_2 24 rfl rfl
theorem dksX8_atom4_4 : cX8_atom4.data.toList.drop 95 = dktX8_atom4_4 := dk_seg dksX8_atom4_3 24 rfl rfl
theorem dksX8_atom4_5 : cX8_atom4.data.toList.drop 117 = dktX8_atom4_5 := dk_seg dksX8_atom4_4 22 rfl rfl
theorem dksX8_atom4_6 : cX8_atom4.data.toList.drop 139 = dktX8_atom4_6 := dk_seg dksX8_atom4_5 22 rfl rfl
theorem dX8_atom4_0 : decode cX8_atom4 0 = .ok (.iconst 0, 1) := dk_3 (dk_at dksX8_atom4_0 0 rfl rfl)
theorem dX8_atom4_1 : decode cX8_atom4 1 = .ok (.istore_n 1, 1) := dk_60 (dk_at dksX8_atom4_0 1 rfl rfl)
theorem dX8_atom4_2 : decode cX8_atom4 2 = .ok (.aload_n 0, 1) := dk_42 (dk_at dksX8_atom4_0 2 rfl rfl)
theorem dX8_atom4_3 : decode cX8_atom4 3 = .ok (.bipush 45, 2) := dk_16 45 (dk_at dksX8_atom4_0 3 rfl rfl)
theorem dX8_atom4_5 : decode cX8_atom4 5 = .ok (.invokevirtual 221, 3) := dk_182 0 221 (dk_at dksX8_atom4_0 5 rfl rfl)
theorem dX8_atom4_8 : decode cX8_atom4 8 = .ok (.ifCond .eq 29, 3) := dk_153 0 29 (dk_at dksX8_atom4_0 8 rfl rfl)
theorem dX8_atom4_11 : decode cX8_atom4 11 = .ok (.aload_n 0, 1) := dk_42 (dk_at dksX8_atom4_0 11 rfl rfl)
theorem dX8_atom4_12 : decode cX8_atom4 12 = .ok (.invokevirtual 224, 3) := dk_182 0 224 (dk_at dksX8_atom4_0 12 rfl rfl)
theorem dX8_atom4_15 : decode cX8_atom4 15 = .ok (.ifCond .eq 146, 3) := dk_153 0 146 (dk_at dksX8_atom4_0 15 rfl rfl)
theorem dX8_atom4_18 : decode cX8_atom4 18 = .ok (.aload_n 0, 1) := dk_42 (dk_at dksX8_atom4_0 18 rfl rfl)
theorem dX8_atom4_19 : decode cX8_atom4 19 = .ok (.invokevirtual 232, 3) := dk_182 0 232 (dk_at dksX8_atom4_0 19 rfl rfl)
theorem dX8_atom4_22 : decode cX8_atom4 22 = .ok (.ineg, 1) := dk_116 (dk_at dksX8_atom4_0 22 rfl rfl)
theorem dX8_atom4_23 : decode cX8_atom4 23 = .ok (.istore_n 1, 1) := dk_60 (dk_at dksX8_atom4_0 23 rfl rfl)
theorem dX8_atom4_24 : decode cX8_atom4 24 = .ok (.aload_n 0, 1) := dk_42 (dk_at dksX8_atom4_1 0 rfl rfl)
theorem dX8_atom4_25 : decode cX8_atom4 25 = .ok (.dup, 1) := dk_89 (dk_at dksX8_atom4_1 1 rfl rfl)
theorem dX8_atom4_26 : decode cX8_atom4 26 = .ok (.getfield 190, 3) := dk_180 0 190 (dk_at dksX8_atom4_1 2 rfl rfl)
theorem dX8_atom4_29 : decode cX8_atom4 29 = .ok (.iconst 1, 1) := dk_4 (dk_at dksX8_atom4_1 5 rfl rfl)
theorem dX8_atom4_30 : decode cX8_atom4 30 = .ok (.isub, 1) := dk_100 (dk_at dksX8_atom4_1 6 rfl rfl)
theorem dX8_atom4_31 : decode cX8_atom4 31 = .ok (.putfield 190, 3) := dk_181 0 190 (dk_at dksX8_atom4_1 7 rfl rfl)
theorem dX8_atom4_34 : decode cX8_atom4 34 = .ok (.goto 127, 3) := dk_167 0 127 (dk_at dksX8_atom4_1 10 rfl rfl)
theorem dX8_atom4_37 : decode cX8_atom4 37 = .ok (.aload_n 0, 1) := dk_42 (dk_at dksX8_atom4_1 13 rfl rfl)
theorem dX8_atom4_38 : decode cX8_atom4 38 = .ok (.bipush 40, 2) := dk_16 40 (dk_at dksX8_atom4_1 14 rfl rfl)
theorem dX8_atom4_40 : decode cX8_atom4 40 = .ok (.invokevirtual 221, 3) := dk_182 0 221 (dk_at dksX8_atom4_1 16 rfl rfl)
theorem dX8_atom4_43 : decode cX8_atom4 43 = .ok (.ifCond .eq 52, 3) := dk_153 0 52 (dk_at dksX8_atom4_1 19 rfl rfl)
theorem dX8_atom4_46 : decode cX8_atom4 46 = .ok (.aload_n 0, 1) := dk_42 (dk_at dksX8_atom4_1 22 rfl rfl)
theorem dX8_atom4_47 : decode cX8_atom4 47 = .ok (.invokevirtual 224, 3) := dk_182 0 224 (dk_at dksX8_atom4_2 0 rfl rfl)
theorem dX8_atom4_50 : decode cX8_atom4 50 = .ok (.ifCond .eq 111, 3) := dk_153 0 111 (dk_at dksX8_atom4_2 3 rfl rfl)
theorem dX8_atom4_53 : decode cX8_atom4 53 = .ok (.aload_n 0, 1) := dk_42 (dk_at dksX8_atom4_2 6 rfl rfl)
theorem dX8_atom4_54 : decode cX8_atom4 54 = .ok (.invokevirtual 251, 3) := dk_182 0 251 (dk_at dksX8_atom4_2 7 rfl rfl)
theorem dX8_atom4_57 : decode cX8_atom4 57 = .ok (.istore_n 1, 1) := dk_60 (dk_at dksX8_atom4_2 10 rfl rfl)
theorem dX8_atom4_58 : decode cX8_atom4 58 = .ok (.aload_n 0, 1) := dk_42 (dk_at dksX8_atom4_2 11 rfl rfl)
theorem dX8_atom4_59 : decode cX8_atom4 59 = .ok (.bipush 41, 2) := dk_16 41 (dk_at dksX8_atom4_2 12 rfl rfl)
theorem dX8_atom4_61 : decode cX8_atom4 61 = .ok (.invokevirtual 221, 3) := dk_182 0 221 (dk_at dksX8_atom4_2 14 rfl rfl)
theorem dX8_atom4_64 : decode cX8_atom4 64 = .ok (.ifCond .ne 7, 3) := dk_154 0 7 (dk_at dksX8_atom4_2 17 rfl rfl)
theorem dX8_atom4_67 : decode cX8_atom4 67 = .ok (.aload_n 0, 1) := dk_42 (dk_at dksX8_atom4_2 20 rfl rfl)
theorem dX8_atom4_68 : decode cX8_atom4 68 = .ok (.invokevirtual 193, 3) := dk_182 0 193 (dk_at dksX8_atom4_2 21 rfl rfl)
theorem dX8_atom4_71 : decode cX8_atom4 71 = .ok (.aload_n 0, 1) := dk_42 (dk_at dksX8_atom4_3 0 rfl rfl)
theorem dX8_atom4_72 : decode cX8_atom4 72 = .ok (.dup, 1) := dk_89 (dk_at dksX8_atom4_3 1 rfl rfl)
theorem dX8_atom4_73 : decode cX8_atom4 73 = .ok (.getfield 190, 3) := dk_180 0 190 (dk_at dksX8_atom4_3 2 rfl rfl)
theorem dX8_atom4_76 : decode cX8_atom4 76 = .ok (.iconst 1, 1) := dk_4 (dk_at dksX8_atom4_3 5 rfl rfl)
theorem dX8_atom4_77 : decode cX8_atom4 77 = .ok (.isub, 1) := dk_100 (dk_at dksX8_atom4_3 6 rfl rfl)
theorem dX8_atom4_78 : decode cX8_atom4 78 = .ok (.putfield 190, 3) := dk_181 0 190 (dk_at dksX8_atom4_3 7 rfl rfl)
theorem dX8_atom4_81 : decode cX8_atom4 81 = .ok (.aload_n 0, 1) := dk_42 (dk_at dksX8_atom4_3 10 rfl rfl)
theorem dX8_atom4_82 : decode cX8_atom4 82 = .ok (.getfield 180, 3) := dk_180 0 180 (dk_at dksX8_atom4_3 11 rfl rfl)
theorem dX8_atom4_85 : decode cX8_atom4 85 = .ok (.ifCond .ne 76, 3) := dk_154 0 76 (dk_at dksX8_atom4_3 14 rfl rfl)
theorem dX8_atom4_88 : decode cX8_atom4 88 = .ok (.aload_n 0, 1) := dk_42 (dk_at dksX8_atom4_3 17 rfl rfl)
theorem dX8_atom4_89 : decode cX8_atom4 89 = .ok (.invokevirtual 196, 3) := dk_182 0 196 (dk_at dksX8_atom4_3 18 rfl rfl)
theorem dX8_atom4_92 : decode cX8_atom4 92 = .ok (.goto 69, 3) := dk_167 0 69 (dk_at dksX8_atom4_3 21 rfl rfl)
theorem dX8_atom4_95 : decode cX8_atom4 95 = .ok (.aload_n 0, 1) := dk_42 (dk_at dksX8_atom4_4 0 rfl rfl)
theorem dX8_atom4_96 : decode cX8_atom4 96 = .ok (.getfield 180, 3) := dk_180 0 180 (dk_at dksX8_atom4_4 1 rfl rfl)
theorem dX8_atom4_99 : decode cX8_atom4 99 = .ok (.ifCond .ne 24, 3) := dk_154 0 24 (dk_at dksX8_atom4_4 4 rfl rfl)
theorem dX8_atom4_102 : decode cX8_atom4 102 = .ok (.aload_n 0, 1) := dk_42 (dk_at dksX8_atom4_4 7 rfl rfl)
theorem dX8_atom4_103 : decode cX8_atom4 103 = .ok (.getfield 165, 3) := dk_180 0 165 (dk_at dksX8_atom4_4 8 rfl rfl)
theorem dX8_atom4_106 : decode cX8_atom4 106 = .ok (.iconst 2, 1) := dk_5 (dk_at dksX8_atom4_4 11 rfl rfl)
theorem dX8_atom4_107 : decode cX8_atom4 107 = .ok (.if_icmp .ne 16, 3) := dk_160 0 16 (dk_at dksX8_atom4_4 12 rfl rfl)
theorem dX8_atom4_110 : decode cX8_atom4 110 = .ok (.aload_n 0, 1) := dk_42 (dk_at dksX8_atom4_4 15 rfl rfl)
theorem dX8_atom4_111 : decode cX8_atom4 111 = .ok (.getfield 176, 3) := dk_180 0 176 (dk_at dksX8_atom4_4 16 rfl rfl)
theorem dX8_atom4_114 : decode cX8_atom4 114 = .ok (.l2i, 1) := dk_136 (dk_at dksX8_atom4_4 19 rfl rfl)
theorem dX8_atom4_115 : decode cX8_atom4 115 = .ok (.istore_n 1, 1) := dk_60 (dk_at dksX8_atom4_4 20 rfl rfl)
theorem dX8_atom4_116 : decode cX8_atom4 116 = .ok (.aload_n 0, 1) := dk_42 (dk_at dksX8_atom4_4 21 rfl rfl)
theorem dX8_atom4_117 : decode cX8_atom4 117 = .ok (.invokevirtual 196, 3) := dk_182 0 196 (dk_at dksX8_atom4_5 0 rfl rfl)
theorem dX8_atom4_120 : decode cX8_atom4 120 = .ok (.goto 41, 3) := dk_167 0 41 (dk_at dksX8_atom4_5 3 rfl rfl)
theorem dX8_atom4_123 : decode cX8_atom4 123 = .ok (.aload_n 0, 1) := dk_42 (dk_at dksX8_atom4_5 6 rfl rfl)
theorem dX8_atom4_124 : decode cX8_atom4 124 = .ok (.getfield 180, 3) := dk_180 0 180 (dk_at dksX8_atom4_5 7 rfl rfl)
theorem dX8_atom4_127 : decode cX8_atom4 127 = .ok (.ifCond .ne 30, 3) := dk_154 0 30 (dk_at dksX8_atom4_5 10 rfl rfl)
theorem dX8_atom4_130 : decode cX8_atom4 130 = .ok (.aload_n 0, 1) := dk_42 (dk_at dksX8_atom4_5 13 rfl rfl)
theorem dX8_atom4_131 : decode cX8_atom4 131 = .ok (.getfield 165, 3) := dk_180 0 165 (dk_at dksX8_atom4_5 14 rfl rfl)
theorem dX8_atom4_134 : decode cX8_atom4 134 = .ok (.iconst 1, 1) := dk_4 (dk_at dksX8_atom4_5 17 rfl rfl)
theorem dX8_atom4_135 : decode cX8_atom4 135 = .ok (.if_icmp .ne 22, 3) := dk_160 0 22 (dk_at dksX8_atom4_5 18 rfl rfl)
theorem dX8_atom4_138 : decode cX8_atom4 138 = .ok (.aload_n 0, 1) := dk_42 (dk_at dksX8_atom4_5 21 rfl rfl)
theorem dX8_atom4_139 : decode cX8_atom4 139 = .ok (.invokevirtual 228, 3) := dk_182 0 228 (dk_at dksX8_atom4_6 0 rfl rfl)
theorem dX8_atom4_142 : decode cX8_atom4 142 = .ok (.istore_n 1, 1) := dk_60 (dk_at dksX8_atom4_6 3 rfl rfl)
theorem dX8_atom4_143 : decode cX8_atom4 143 = .ok (.aload_n 0, 1) := dk_42 (dk_at dksX8_atom4_6 4 rfl rfl)
theorem dX8_atom4_144 : decode cX8_atom4 144 = .ok (.getfield 180, 3) := dk_180 0 180 (dk_at dksX8_atom4_6 5 rfl rfl)
theorem dX8_atom4_147 : decode cX8_atom4 147 = .ok (.ifCond .ne 14, 3) := dk_154 0 14 (dk_at dksX8_atom4_6 8 rfl rfl)
theorem dX8_atom4_150 : decode cX8_atom4 150 = .ok (.aload_n 0, 1) := dk_42 (dk_at dksX8_atom4_6 11 rfl rfl)
theorem dX8_atom4_151 : decode cX8_atom4 151 = .ok (.invokevirtual 196, 3) := dk_182 0 196 (dk_at dksX8_atom4_6 12 rfl rfl)
theorem dX8_atom4_154 : decode cX8_atom4 154 = .ok (.goto 7, 3) := dk_167 0 7 (dk_at dksX8_atom4_6 15 rfl rfl)
theorem dX8_atom4_157 : decode cX8_atom4 157 = .ok (.aload_n 0, 1) := dk_42 (dk_at dksX8_atom4_6 18 rfl rfl)
theorem dX8_atom4_158 : decode cX8_atom4 158 = .ok (.invokevirtual 193, 3) := dk_182 0 193 (dk_at dksX8_atom4_6 19 rfl rfl)
theorem dX8_atom4_161 : decode cX8_atom4 161 = .ok (.iload_n 1, 1) := dk_27 (dk_at dksX8_atom4_6 22 rfl rfl)
theorem dX8_atom4_162 : decode cX8_atom4 162 = .ok (.ireturn, 1) := dk_172 (dk_at dksX8_atom4_6 23 rfl rfl)
abbrev cX8_either5 : ByteArray := prog_16_method_31_code
def yX8_either5 : MethodName := ⟨RX8, "either5", "()I"⟩
def dkwX8_either5_2 : List UInt8 := [167, 255, 216, 27, 172]
abbrev dktX8_either5_2 : List UInt8 := dkwX8_either5_2 ++ []
def dkwX8_either5_1 : List UInt8 := [182, 0, 196, 42, 182, 0, 248, 61, 27, 154, 0, 7, 28, 153, 0, 7, 4, 167, 0, 4, 3, 60]
abbrev dktX8_either5_1 : List UInt8 := dkwX8_either5_1 ++ dktX8_either5_2
def dkwX8_either5_0 : List UInt8 := [42, 182, 0, 248, 60, 42, 16, 111, 16, 114, 3, 3, 3, 3, 3, 3, 182, 0, 199, 153, 0, 29, 42]
abbrev dktX8_either5_0 : List UInt8 := dkwX8_either5_0 ++ dktX8_either5_1
theorem dksX8_either5_0 : cX8_either5.data.toList.drop 0 = dktX8_either5_0 := by decide +kernel
theorem dksX8_either5_1 : cX8_either5.data.toList.drop 23 = dktX8_either5_1 := dk_seg dksX8_either5_0 23 rfl rfl
theorem dksX8_either5_2 : cX8_either5.data.toList.drop 45 = dktX8_either5_2 := dk_seg dksX8_either5_1 22 rfl rfl
theorem dX8_either5_0 : decode cX8_either5 0 = .ok (.aload_n 0, 1) := dk_42 (dk_at dksX8_either5_0 0 rfl rfl)
theorem dX8_either5_1 : decode cX8_either5 1 = .ok (.invokevirtual 248, 3) := dk_182 0 248 (dk_at dksX8_either5_0 1 rfl rfl)
theorem dX8_either5_4 : decode cX8_either5 4 = .ok (.istore_n 1, 1) := dk_60 (dk_at dksX8_either5_0 4 rfl rfl)
theorem dX8_either5_5 : decode cX8_either5 5 = .ok (.aload_n 0, 1) := dk_42 (dk_at dksX8_either5_0 5 rfl rfl)
theorem dX8_either5_6 : decode cX8_either5 6 = .ok (.bipush 111, 2) := dk_16 111 (dk_at dksX8_either5_0 6 rfl rfl)
theorem dX8_either5_8 : decode cX8_either5 8 = .ok (.bipush 114, 2) := dk_16 114 (dk_at dksX8_either5_0 8 rfl rfl)
theorem dX8_either5_10 : decode cX8_either5 10 = .ok (.iconst 0, 1) := dk_3 (dk_at dksX8_either5_0 10 rfl rfl)
theorem dX8_either5_11 : decode cX8_either5 11 = .ok (.iconst 0, 1) := dk_3 (dk_at dksX8_either5_0 11 rfl rfl)
theorem dX8_either5_12 : decode cX8_either5 12 = .ok (.iconst 0, 1) := dk_3 (dk_at dksX8_either5_0 12 rfl rfl)
theorem dX8_either5_13 : decode cX8_either5 13 = .ok (.iconst 0, 1) := dk_3 (dk_at dksX8_either5_0 13 rfl rfl)
theorem dX8_either5_14 : decode cX8_either5 14 = .ok (.iconst 0, 1) := dk_3 (dk_at dksX8_either5_0 14 rfl rfl)
theorem dX8_either5_15 : decode cX8_either5 15 = .ok (.iconst 0, 1) := dk_3 (dk_at dksX8_either5_0 15 rfl rfl)
theorem dX8_either5_16 : decode cX8_either5 16 = .ok (.invokevirtual 199, 3) := dk_182 0 199 (dk_at dksX8_either5_0 16 rfl rfl)
theorem dX8_either5_19 : decode cX8_either5 19 = .ok (.ifCond .eq 29, 3) := dk_153 0 29 (dk_at dksX8_either5_0 19 rfl rfl)
theorem dX8_either5_22 : decode cX8_either5 22 = .ok (.aload_n 0, 1) := dk_42 (dk_at dksX8_either5_0 22 rfl rfl)
theorem dX8_either5_23 : decode cX8_either5 23 = .ok (.invokevirtual 196, 3) := dk_182 0 196 (dk_at dksX8_either5_1 0 rfl rfl)
theorem dX8_either5_26 : decode cX8_either5 26 = .ok (.aload_n 0, 1) := dk_42 (dk_at dksX8_either5_1 3 rfl rfl)
theorem dX8_either5_27 : decode cX8_either5 27 = .ok (.invokevirtual 248, 3) := dk_182 0 248 (dk_at dksX8_either5_1 4 rfl rfl)
theorem dX8_either5_30 : decode cX8_either5 30 = .ok (.istore_n 2, 1) := dk_61 (dk_at dksX8_either5_1 7 rfl rfl)
theorem dX8_either5_31 : decode cX8_either5 31 = .ok (.iload_n 1, 1) := dk_27 (dk_at dksX8_either5_1 8 rfl rfl)
theorem dX8_either5_32 : decode cX8_either5 32 = .ok (.ifCond .ne 7, 3) := dk_154 0 7 (dk_at dksX8_either5_1 9 rfl rfl)
theorem dX8_either5_35 : decode cX8_either5 35 = .ok (.iload_n 2, 1) := dk_28 (dk_at dksX8_either5_1 12 rfl rfl)
theorem dX8_either5_36 : decode cX8_either5 36 = .ok (.ifCond .eq 7, 3) := dk_153 0 7 (dk_at dksX8_either5_1 13 rfl rfl)
theorem dX8_either5_39 : decode cX8_either5 39 = .ok (.iconst 1, 1) := dk_4 (dk_at dksX8_either5_1 16 rfl rfl)
theorem dX8_either5_40 : decode cX8_either5 40 = .ok (.goto 4, 3) := dk_167 0 4 (dk_at dksX8_either5_1 17 rfl rfl)
theorem dX8_either5_43 : decode cX8_either5 43 = .ok (.iconst 0, 1) := dk_3 (dk_at dksX8_either5_1 20 rfl rfl)
theorem dX8_either5_44 : decode cX8_either5 44 = .ok (.istore_n 1, 1) := dk_60 (dk_at dksX8_either5_1 21 rfl rfl)
theorem dX8_either5_45 : decode cX8_either5 45 = .ok (.goto (-40), 3) := dk_167 255 216 (dk_at dksX8_either5_2 0 rfl rfl)
theorem dX8_either5_48 : decode cX8_either5 48 = .ok (.iload_n 1, 1) := dk_27 (dk_at dksX8_either5_2 3 rfl rfl)
theorem dX8_either5_49 : decode cX8_either5 49 = .ok (.ireturn, 1) := dk_172 (dk_at dksX8_either5_2 4 rfl rfl)
abbrev cX8_both5 : ByteArray := prog_16_method_30_code
def yX8_both5 : MethodName := ⟨RX8, "both5", "()I"⟩
def dkwX8_both5_2 : List UInt8 := [167, 255, 215, 27, 172]
abbrev dktX8_both5_2 : List UInt8 := dkwX8_both5_2 ++ []
def dkwX8_both5_1 : List UInt8 := [182, 0, 196, 42, 182, 0, 245, 61, 27, 153, 0, 11, 28, 153, 0, 7, 4, 167, 0, 4, 3, 60]
abbrev dktX8_both5_1 : List UInt8 := dkwX8_both5_1 ++ dktX8_both5_2
def dkwX8_both5_0 : List UInt8 := [42, 182, 0, 245, 60, 42, 16, 97, 16, 110, 16, 100, 3, 3, 3, 3, 3, 182, 0, 199, 153, 0, 29, 42]
abbrev dktX8_both5_0 : List UInt8 := dkwX8_both5_0 ++ dktX8_both5_1
theorem dksX8_both5_0 : cX8_both5.data.toList.drop 0 = dktX8_both5_0 := by decide +kernel
theorem dksX8_both5_1 : cX8_both5.data.toList.drop 24 = dktX8_both5_1 := dk_seg dksX8_both5_0 24 rfl rfl
theorem dksX8_both5_2 : cX8_both5.data.toList.drop 46 = dktX8_both5_2 := dk_seg dksX8_both5_1 22 rfl rfl
theorem dX8_both5_0 : decode cX8_both5 0 = .ok (.aload_n 0, 1) := dk_42 (dk_at dksX8_both5_0 0 rfl rfl)
theorem dX8_both5_1 : decode cX8_both5 1 = .ok (.invokevirtual 245, 3) := dk_182 0 245 (dk_at dksX8_both5_0 1 rfl rfl)
theorem dX8_both5_4 : decode cX8_both5 4 = .ok (.istore_n 1, 1) := dk_60 (dk_at dksX8_both5_0 4 rfl rfl)
theorem dX8_both5_5 : decode cX8_both5 5 = .ok (.aload_n 0, 1) := dk_42 (dk_at dksX8_both5_0 5 rfl rfl)
theorem dX8_both5_6 : decode cX8_both5 6 = .ok (.bipush 97, 2) := dk_16 97 (dk_at dksX8_both5_0 6 rfl rfl)
theorem dX8_both5_8 : decode cX8_both5 8 = .ok (.bipush 110, 2) := dk_16 110 (dk_at dksX8_both5_0 8 rfl rfl)
theorem dX8_both5_10 : decode cX8_both5 10 = .ok (.bipush 100, 2) := dk_16 100 (dk_at dksX8_both5_0 10 rfl rfl)
theorem dX8_both5_12 : decode cX8_both5 12 = .ok (.iconst 0, 1) := dk_3 (dk_at dksX8_both5_0 12 rfl rfl)
theorem dX8_both5_13 : decode cX8_both5 13 = .ok (.iconst 0, 1) := dk_3 (dk_at dksX8_both5_0 13 rfl rfl)
theorem dX8_both5_14 : decode cX8_both5 14 = .ok (.iconst 0, 1) := dk_3 (dk_at dksX8_both5_0 14 rfl rfl)
theorem dX8_both5_15 : decode cX8_both5 15 = .ok (.iconst 0, 1) := dk_3 (dk_at dksX8_both5_0 15 rfl rfl)
theorem dX8_both5_16 : decode cX8_both5 16 = .ok (.iconst 0, 1) := dk_3 (dk_at dksX8_both5_0 16 rfl rfl)
theorem dX8_both5_17 : decode cX8_both5 17 = .ok (.invokevirtual 199, 3) := dk_182 0 199 (dk_at dksX8_both5_0 17 rfl rfl)
theorem dX8_both5_20 : decode cX8_both5 20 = .ok (.ifCond .eq 29, 3) := dk_153 0 29 (dk_at dksX8_both5_0 20 rfl rfl)
theorem dX8_both5_23 : decode cX8_both5 23 = .ok (.aload_n 0, 1) := dk_42 (dk_at dksX8_both5_0 23 rfl rfl)
theorem dX8_both5_24 : decode cX8_both5 24 = .ok (.invokevirtual 196, 3) := dk_182 0 196 (dk_at dksX8_both5_1 0 rfl rfl)
theorem dX8_both5_27 : decode cX8_both5 27 = .ok (.aload_n 0, 1) := dk_42 (dk_at dksX8_both5_1 3 rfl rfl)
theorem dX8_both5_28 : decode cX8_both5 28 = .ok (.invokevirtual 245, 3) := dk_182 0 245 (dk_at dksX8_both5_1 4 rfl rfl)
theorem dX8_both5_31 : decode cX8_both5 31 = .ok (.istore_n 2, 1) := dk_61 (dk_at dksX8_both5_1 7 rfl rfl)
theorem dX8_both5_32 : decode cX8_both5 32 = .ok (.iload_n 1, 1) := dk_27 (dk_at dksX8_both5_1 8 rfl rfl)
theorem dX8_both5_33 : decode cX8_both5 33 = .ok (.ifCond .eq 11, 3) := dk_153 0 11 (dk_at dksX8_both5_1 9 rfl rfl)
theorem dX8_both5_36 : decode cX8_both5 36 = .ok (.iload_n 2, 1) := dk_28 (dk_at dksX8_both5_1 12 rfl rfl)
theorem dX8_both5_37 : decode cX8_both5 37 = .ok (.ifCond .eq 7, 3) := dk_153 0 7 (dk_at dksX8_both5_1 13 rfl rfl)
theorem dX8_both5_40 : decode cX8_both5 40 = .ok (.iconst 1, 1) := dk_4 (dk_at dksX8_both5_1 16 rfl rfl)
theorem dX8_both5_41 : decode cX8_both5 41 = .ok (.goto 4, 3) := dk_167 0 4 (dk_at dksX8_both5_1 17 rfl rfl)
theorem dX8_both5_44 : decode cX8_both5 44 = .ok (.iconst 0, 1) := dk_3 (dk_at dksX8_both5_1 20 rfl rfl)
theorem dX8_both5_45 : decode cX8_both5 45 = .ok (.istore_n 1, 1) := dk_60 (dk_at dksX8_both5_1 21 rfl rfl)
theorem dX8_both5_46 : decode cX8_both5 46 = .ok (.goto (-41), 3) := dk_167 255 215 (dk_at dksX8_both5_2 0 rfl rfl)
theorem dX8_both5_49 : decode cX8_both5 49 = .ok (.iload_n 1, 1) := dk_27 (dk_at dksX8_both5_2 3 rfl rfl)
theorem dX8_both5_50 : decode cX8_both5 50 = .ok (.ireturn, 1) := dk_172 (dk_at dksX8_both5_2 4 rfl rfl)
abbrev cX8_added3 : ByteArray := prog_16_method_40_code
def yX8_added3 : MethodName := ⟨RX8, "added3", "()I"⟩
def dkwX8_added3_2 : List UInt8 := [62, 28, 153, 0, 9, 27, 29, 96, 167, 0, 6, 27, 29, 100, 60, 167, 255, 198, 27, 172]
abbrev dktX8_added3_2 : List UInt8 := dkwX8_added3_2 ++ []
def dkwX8_added3_1 : List UInt8 := [180, 0, 176, 20, 0, 238, 148, 154, 0, 7, 4, 167, 0, 4, 3, 61, 42, 182, 0, 196, 42, 182, 1, 19]
abbrev dktX8_added3_1 : List UInt8 := dkwX8_added3_1 ++ dktX8_added3_2
def dkwX8_added3_0 : List UInt8 := [42, 182, 1, 19, 60, 42, 16, 43, 182, 0, 221, 154, 0, 12, 42, 16, 45, 182, 0, 221, 153, 0, 46, 42]
abbrev dktX8_added3_0 : List UInt8 := dkwX8_added3_0 ++ dktX8_added3_1
theorem dksX8_added3_0 : cX8_added3.data.toList.drop 0 = dktX8_added3_0 := by decide +kernel
theorem dksX8_added3_1 : cX8_added3.data.toList.drop 24 = dktX8_added3_1 := dk_seg dksX8_added3_0 24 rfl rfl
theorem dksX8_added3_2 : cX8_added3.data.toList.drop 48 = dktX8_added3_2 := dk_seg dksX8_added3_1 24 rfl rfl
theorem dX8_added3_0 : decode cX8_added3 0 = .ok (.aload_n 0, 1) := dk_42 (dk_at dksX8_added3_0 0 rfl rfl)
theorem dX8_added3_1 : decode cX8_added3 1 = .ok (.invokevirtual 275, 3) := dk_182 1 19 (dk_at dksX8_added3_0 1 rfl rfl)
theorem dX8_added3_4 : decode cX8_added3 4 = .ok (.istore_n 1, 1) := dk_60 (dk_at dksX8_added3_0 4 rfl rfl)
theorem dX8_added3_5 : decode cX8_added3 5 = .ok (.aload_n 0, 1) := dk_42 (dk_at dksX8_added3_0 5 rfl rfl)
theorem dX8_added3_6 : decode cX8_added3 6 = .ok (.bipush 43, 2) := dk_16 43 (dk_at dksX8_added3_0 6 rfl rfl)
theorem dX8_added3_8 : decode cX8_added3 8 = .ok (.invokevirtual 221, 3) := dk_182 0 221 (dk_at dksX8_added3_0 8 rfl rfl)
theorem dX8_added3_11 : decode cX8_added3 11 = .ok (.ifCond .ne 12, 3) := dk_154 0 12 (dk_at dksX8_added3_0 11 rfl rfl)
theorem dX8_added3_14 : decode cX8_added3 14 = .ok (.aload_n 0, 1) := dk_42 (dk_at dksX8_added3_0 14 rfl rfl)
theorem dX8_added3_15 : decode cX8_added3 15 = .ok (.bipush 45, 2) := dk_16 45 (dk_at dksX8_added3_0 15 rfl rfl)
theorem dX8_added3_17 : decode cX8_added3 17 = .ok (.invokevirtual 221, 3) := dk_182 0 221 (dk_at dksX8_added3_0 17 rfl rfl)
theorem dX8_added3_20 : decode cX8_added3 20 = .ok (.ifCond .eq 46, 3) := dk_153 0 46 (dk_at dksX8_added3_0 20 rfl rfl)
theorem dX8_added3_23 : decode cX8_added3 23 = .ok (.aload_n 0, 1) := dk_42 (dk_at dksX8_added3_0 23 rfl rfl)
theorem dX8_added3_24 : decode cX8_added3 24 = .ok (.getfield 176, 3) := dk_180 0 176 (dk_at dksX8_added3_1 0 rfl rfl)
theorem dX8_added3_27 : decode cX8_added3 27 = .ok (.ldc2_w 238, 3) := dk_20 0 238 (dk_at dksX8_added3_1 3 rfl rfl)
theorem dX8_added3_30 : decode cX8_added3 30 = .ok (.lcmp, 1) := dk_148 (dk_at dksX8_added3_1 6 rfl rfl)
theorem dX8_added3_31 : decode cX8_added3 31 = .ok (.ifCond .ne 7, 3) := dk_154 0 7 (dk_at dksX8_added3_1 7 rfl rfl)
theorem dX8_added3_34 : decode cX8_added3 34 = .ok (.iconst 1, 1) := dk_4 (dk_at dksX8_added3_1 10 rfl rfl)
theorem dX8_added3_35 : decode cX8_added3 35 = .ok (.goto 4, 3) := dk_167 0 4 (dk_at dksX8_added3_1 11 rfl rfl)
theorem dX8_added3_38 : decode cX8_added3 38 = .ok (.iconst 0, 1) := dk_3 (dk_at dksX8_added3_1 14 rfl rfl)
theorem dX8_added3_39 : decode cX8_added3 39 = .ok (.istore_n 2, 1) := dk_61 (dk_at dksX8_added3_1 15 rfl rfl)
theorem dX8_added3_40 : decode cX8_added3 40 = .ok (.aload_n 0, 1) := dk_42 (dk_at dksX8_added3_1 16 rfl rfl)
theorem dX8_added3_41 : decode cX8_added3 41 = .ok (.invokevirtual 196, 3) := dk_182 0 196 (dk_at dksX8_added3_1 17 rfl rfl)
theorem dX8_added3_44 : decode cX8_added3 44 = .ok (.aload_n 0, 1) := dk_42 (dk_at dksX8_added3_1 20 rfl rfl)
theorem dX8_added3_45 : decode cX8_added3 45 = .ok (.invokevirtual 275, 3) := dk_182 1 19 (dk_at dksX8_added3_1 21 rfl rfl)
theorem dX8_added3_48 : decode cX8_added3 48 = .ok (.istore_n 3, 1) := dk_62 (dk_at dksX8_added3_2 0 rfl rfl)
theorem dX8_added3_49 : decode cX8_added3 49 = .ok (.iload_n 2, 1) := dk_28 (dk_at dksX8_added3_2 1 rfl rfl)
theorem dX8_added3_50 : decode cX8_added3 50 = .ok (.ifCond .eq 9, 3) := dk_153 0 9 (dk_at dksX8_added3_2 2 rfl rfl)
theorem dX8_added3_53 : decode cX8_added3 53 = .ok (.iload_n 1, 1) := dk_27 (dk_at dksX8_added3_2 5 rfl rfl)
theorem dX8_added3_54 : decode cX8_added3 54 = .ok (.iload_n 3, 1) := dk_29 (dk_at dksX8_added3_2 6 rfl rfl)
theorem dX8_added3_55 : decode cX8_added3 55 = .ok (.iadd, 1) := dk_96 (dk_at dksX8_added3_2 7 rfl rfl)
theorem dX8_added3_56 : decode cX8_added3 56 = .ok (.goto 6, 3) := dk_167 0 6 (dk_at dksX8_added3_2 8 rfl rfl)
theorem dX8_added3_59 : decode cX8_added3 59 = .ok (.iload_n 1, 1) := dk_27 (dk_at dksX8_added3_2 11 rfl rfl)
theorem dX8_added3_60 : decode cX8_added3 60 = .ok (.iload_n 3, 1) := dk_29 (dk_at dksX8_added3_2 12 rfl rfl)
theorem dX8_added3_61 : decode cX8_added3 61 = .ok (.isub, 1) := dk_100 (dk_at dksX8_added3_2 13 rfl rfl)
theorem dX8_added3_62 : decode cX8_added3 62 = .ok (.istore_n 1, 1) := dk_60 (dk_at dksX8_added3_2 14 rfl rfl)
theorem dX8_added3_63 : decode cX8_added3 63 = .ok (.goto (-58), 3) := dk_167 255 198 (dk_at dksX8_added3_2 15 rfl rfl)
theorem dX8_added3_66 : decode cX8_added3 66 = .ok (.iload_n 1, 1) := dk_27 (dk_at dksX8_added3_2 18 rfl rfl)
theorem dX8_added3_67 : decode cX8_added3 67 = .ok (.ireturn, 1) := dk_172 (dk_at dksX8_added3_2 19 rfl rfl)
abbrev cX8_term3 : ByteArray := prog_16_method_39_code
def yX8_term3 : MethodName := ⟨RX8, "term3", "()I"⟩
def dkwX8_term3_1 : List UInt8 := [60, 167, 255, 236, 27, 172]
abbrev dktX8_term3_1 : List UInt8 := dkwX8_term3_1 ++ []
def dkwX8_term3_0 : List UInt8 := [42, 182, 1, 16, 60, 42, 16, 42, 182, 0, 221, 153, 0, 17, 42, 182, 0, 196, 27, 42, 182, 1, 16, 104]
abbrev dktX8_term3_0 : List UInt8 := dkwX8_term3_0 ++ dktX8_term3_1
theorem dksX8_term3_0 : cX8_term3.data.toList.drop 0 = dktX8_term3_0 := by decide +kernel
theorem dksX8_term3_1 : cX8_term3.data.toList.drop 24 = dktX8_term3_1 := dk_seg dksX8_term3_0 24 rfl rfl
theorem dX8_term3_0 : decode cX8_term3 0 = .ok (.aload_n 0, 1) := dk_42 (dk_at dksX8_term3_0 0 rfl rfl)
theorem dX8_term3_1 : decode cX8_term3 1 = .ok (.invokevirtual 272, 3) := dk_182 1 16 (dk_at dksX8_term3_0 1 rfl rfl)
theorem dX8_term3_4 : decode cX8_term3 4 = .ok (.istore_n 1, 1) := dk_60 (dk_at dksX8_term3_0 4 rfl rfl)
theorem dX8_term3_5 : decode cX8_term3 5 = .ok (.aload_n 0, 1) := dk_42 (dk_at dksX8_term3_0 5 rfl rfl)
theorem dX8_term3_6 : decode cX8_term3 6 = .ok (.bipush 42, 2) := dk_16 42 (dk_at dksX8_term3_0 6 rfl rfl)
theorem dX8_term3_8 : decode cX8_term3 8 = .ok (.invokevirtual 221, 3) := dk_182 0 221 (dk_at dksX8_term3_0 8 rfl rfl)
theorem dX8_term3_11 : decode cX8_term3 11 = .ok (.ifCond .eq 17, 3) := dk_153 0 17 (dk_at dksX8_term3_0 11 rfl rfl)
theorem dX8_term3_14 : decode cX8_term3 14 = .ok (.aload_n 0, 1) := dk_42 (dk_at dksX8_term3_0 14 rfl rfl)
theorem dX8_term3_15 : decode cX8_term3 15 = .ok (.invokevirtual 196, 3) := dk_182 0 196 (dk_at dksX8_term3_0 15 rfl rfl)
theorem dX8_term3_18 : decode cX8_term3 18 = .ok (.iload_n 1, 1) := dk_27 (dk_at dksX8_term3_0 18 rfl rfl)
theorem dX8_term3_19 : decode cX8_term3 19 = .ok (.aload_n 0, 1) := dk_42 (dk_at dksX8_term3_0 19 rfl rfl)
theorem dX8_term3_20 : decode cX8_term3 20 = .ok (.invokevirtual 272, 3) := dk_182 1 16 (dk_at dksX8_term3_0 20 rfl rfl)
theorem dX8_term3_23 : decode cX8_term3 23 = .ok (.imul, 1) := dk_104 (dk_at dksX8_term3_0 23 rfl rfl)
theorem dX8_term3_24 : decode cX8_term3 24 = .ok (.istore_n 1, 1) := dk_60 (dk_at dksX8_term3_1 0 rfl rfl)
theorem dX8_term3_25 : decode cX8_term3 25 = .ok (.goto (-20), 3) := dk_167 255 236 (dk_at dksX8_term3_1 1 rfl rfl)
theorem dX8_term3_28 : decode cX8_term3 28 = .ok (.iload_n 1, 1) := dk_27 (dk_at dksX8_term3_1 4 rfl rfl)
theorem dX8_term3_29 : decode cX8_term3 29 = .ok (.ireturn, 1) := dk_172 (dk_at dksX8_term3_1 5 rfl rfl)
abbrev cX8_atom3 : ByteArray := prog_16_method_38_code
def yX8_atom3 : MethodName := ⟨RX8, "atom3", "()I"⟩
def dkwX8_atom3_6 : List UInt8 := [182, 0, 228, 60, 42, 180, 0, 180, 154, 0, 14, 42, 182, 0, 196, 167, 0, 7, 42, 182, 0, 193, 27, 172]
abbrev dktX8_atom3_6 : List UInt8 := dkwX8_atom3_6 ++ []
def dkwX8_atom3_5 : List UInt8 := [182, 0, 196, 167, 0, 41, 42, 180, 0, 180, 154, 0, 30, 42, 180, 0, 165, 4, 160, 0, 22, 42]
abbrev dktX8_atom3_5 : List UInt8 := dkwX8_atom3_5 ++ dktX8_atom3_6
def dkwX8_atom3_4 : List UInt8 := [42, 180, 0, 180, 154, 0, 24, 42, 180, 0, 165, 5, 160, 0, 16, 42, 180, 0, 176, 136, 60, 42]
abbrev dktX8_atom3_4 : List UInt8 := dkwX8_atom3_4 ++ dktX8_atom3_5
def dkwX8_atom3_3 : List UInt8 := [42, 89, 180, 0, 190, 4, 100, 181, 0, 190, 42, 180, 0, 180, 154, 0, 76, 42, 182, 0, 196, 167, 0, 69]
abbrev dktX8_atom3_3 : List UInt8 := dkwX8_atom3_3 ++ dktX8_atom3_4
def dkwX8_atom3_2 : List UInt8 := [182, 0, 224, 153, 0, 111, 42, 182, 1, 13, 60, 42, 16, 41, 182, 0, 221, 154, 0, 7, 42, 182, 0, 193]
abbrev dktX8_atom3_2 : List UInt8 := dkwX8_atom3_2 ++ dktX8_atom3_3
def dkwX8_atom3_1 : List UInt8 := [42, 89, 180, 0, 190, 4, 100, 181, 0, 190, 167, 0, 127, 42, 16, 40, 182, 0, 221, 153, 0, 52, 42]
abbrev dktX8_atom3_1 : List UInt8 := dkwX8_atom3_1 ++ dktX8_atom3_2
def dkwX8_atom3_0 : List UInt8 := [3, 60, 42, 16, 45, 182, 0, 221, 153, 0, 29, 42, 182, 0, 224, 153, 0, 146, 42, 182, 0, 254, 116, 60]
abbrev dktX8_atom3_0 : List UInt8 := dkwX8_atom3_0 ++ dktX8_atom3_1
theorem dksX8_atom3_0 : cX8_atom3.data.toList.drop 0 = dktX8_atom3_0 := by decide +kernel
theorem dksX8_atom3_1 : cX8_atom3.data.toList.drop 24 = dktX8_atom3_1 := dk_seg dksX8_atom3_0 24 rfl rfl
theorem dksX8_atom3_2 : cX8_atom3.data.toList.drop 47 = dktX8_atom3_2 := dk_seg dksX8_atom3_1 23 rfl rfl
theorem dksX8_atom3_3 : cX8_atom3.data.toList.drop 71 = dktX8_atom3_3 := dk_seg dksX8_atom3_2 24 rfl rfl
theorem dksX8_atom3_4 : cX8_atom3.data.toList.drop 95 = dktX8_atom3_4 := dk_seg dksX8_atom3_3 24 rfl rfl
theorem dksX8_atom3_5 : cX8_atom3.data.toList.drop 117 = dktX8_atom3_5 := dk_seg dksX8_atom3_4 22 rfl rfl
theorem dksX8_atom3_6 : cX8_atom3.data.toList.drop 139 = dktX8_atom3_6 := dk_seg dksX8_atom3_5 22 rfl rfl
theorem dX8_atom3_0 : decode cX8_atom3 0 = .ok (.iconst 0, 1) := dk_3 (dk_at dksX8_atom3_0 0 rfl rfl)
theorem dX8_atom3_1 : decode cX8_atom3 1 = .ok (.istore_n 1, 1) := dk_60 (dk_at dksX8_atom3_0 1 rfl rfl)
theorem dX8_atom3_2 : decode cX8_atom3 2 = .ok (.aload_n 0, 1) := dk_42 (dk_at dksX8_atom3_0 2 rfl rfl)
theorem dX8_atom3_3 : decode cX8_atom3 3 = .ok (.bipush 45, 2) := dk_16 45 (dk_at dksX8_atom3_0 3 rfl rfl)
theorem dX8_atom3_5 : decode cX8_atom3 5 = .ok (.invokevirtual 221, 3) := dk_182 0 221 (dk_at dksX8_atom3_0 5 rfl rfl)
theorem dX8_atom3_8 : decode cX8_atom3 8 = .ok (.ifCond .eq 29, 3) := dk_153 0 29 (dk_at dksX8_atom3_0 8 rfl rfl)
theorem dX8_atom3_11 : decode cX8_atom3 11 = .ok (.aload_n 0, 1) := dk_42 (dk_at dksX8_atom3_0 11 rfl rfl)
theorem dX8_atom3_12 : decode cX8_atom3 12 = .ok (.invokevirtual 224, 3) := dk_182 0 224 (dk_at dksX8_atom3_0 12 rfl rfl)
theorem dX8_atom3_15 : decode cX8_atom3 15 = .ok (.ifCond .eq 146, 3) := dk_153 0 146 (dk_at dksX8_atom3_0 15 rfl rfl)
theorem dX8_atom3_18 : decode cX8_atom3 18 = .ok (.aload_n 0, 1) := dk_42 (dk_at dksX8_atom3_0 18 rfl rfl)
theorem dX8_atom3_19 : decode cX8_atom3 19 = .ok (.invokevirtual 254, 3) := dk_182 0 254 (dk_at dksX8_atom3_0 19 rfl rfl)
theorem dX8_atom3_22 : decode cX8_atom3 22 = .ok (.ineg, 1) := dk_116 (dk_at dksX8_atom3_0 22 rfl rfl)
theorem dX8_atom3_23 : decode cX8_atom3 23 = .ok (.istore_n 1, 1) := dk_60 (dk_at dksX8_atom3_0 23 rfl rfl)
theorem dX8_atom3_24 : decode cX8_atom3 24 = .ok (.aload_n 0, 1) := dk_42 (dk_at dksX8_atom3_1 0 rfl rfl)
theorem dX8_atom3_25 : decode cX8_atom3 25 = .ok (.dup, 1) := dk_89 (dk_at dksX8_atom3_1 1 rfl rfl)
theorem dX8_atom3_26 : decode cX8_atom3 26 = .ok (.getfield 190, 3) := dk_180 0 190 (dk_at dksX8_atom3_1 2 rfl rfl)
theorem dX8_atom3_29 : decode cX8_atom3 29 = .ok (.iconst 1, 1) := dk_4 (dk_at dksX8_atom3_1 5 rfl rfl)
theorem dX8_atom3_30 : decode cX8_atom3 30 = .ok (.isub, 1) := dk_100 (dk_at dksX8_atom3_1 6 rfl rfl)
theorem dX8_atom3_31 : decode cX8_atom3 31 = .ok (.putfield 190, 3) := dk_181 0 190 (dk_at dksX8_atom3_1 7 rfl rfl)
theorem dX8_atom3_34 : decode cX8_atom3 34 = .ok (.goto 127, 3) := dk_167 0 127 (dk_at dksX8_atom3_1 10 rfl rfl)
theorem dX8_atom3_37 : decode cX8_atom3 37 = .ok (.aload_n 0, 1) := dk_42 (dk_at dksX8_atom3_1 13 rfl rfl)
theorem dX8_atom3_38 : decode cX8_atom3 38 = .ok (.bipush 40, 2) := dk_16 40 (dk_at dksX8_atom3_1 14 rfl rfl)
theorem dX8_atom3_40 : decode cX8_atom3 40 = .ok (.invokevirtual 221, 3) := dk_182 0 221 (dk_at dksX8_atom3_1 16 rfl rfl)
theorem dX8_atom3_43 : decode cX8_atom3 43 = .ok (.ifCond .eq 52, 3) := dk_153 0 52 (dk_at dksX8_atom3_1 19 rfl rfl)
theorem dX8_atom3_46 : decode cX8_atom3 46 = .ok (.aload_n 0, 1) := dk_42 (dk_at dksX8_atom3_1 22 rfl rfl)
theorem dX8_atom3_47 : decode cX8_atom3 47 = .ok (.invokevirtual 224, 3) := dk_182 0 224 (dk_at dksX8_atom3_2 0 rfl rfl)
theorem dX8_atom3_50 : decode cX8_atom3 50 = .ok (.ifCond .eq 111, 3) := dk_153 0 111 (dk_at dksX8_atom3_2 3 rfl rfl)
theorem dX8_atom3_53 : decode cX8_atom3 53 = .ok (.aload_n 0, 1) := dk_42 (dk_at dksX8_atom3_2 6 rfl rfl)
theorem dX8_atom3_54 : decode cX8_atom3 54 = .ok (.invokevirtual 269, 3) := dk_182 1 13 (dk_at dksX8_atom3_2 7 rfl rfl)
theorem dX8_atom3_57 : decode cX8_atom3 57 = .ok (.istore_n 1, 1) := dk_60 (dk_at dksX8_atom3_2 10 rfl rfl)
theorem dX8_atom3_58 : decode cX8_atom3 58 = .ok (.aload_n 0, 1) := dk_42 (dk_at dksX8_atom3_2 11 rfl rfl)
theorem dX8_atom3_59 : decode cX8_atom3 59 = .ok (.bipush 41, 2) := dk_16 41 (dk_at dksX8_atom3_2 12 rfl rfl)
theorem dX8_atom3_61 : decode cX8_atom3 61 = .ok (.invokevirtual 221, 3) := dk_182 0 221 (dk_at dksX8_atom3_2 14 rfl rfl)
theorem dX8_atom3_64 : decode cX8_atom3 64 = .ok (.ifCond .ne 7, 3) := dk_154 0 7 (dk_at dksX8_atom3_2 17 rfl rfl)
theorem dX8_atom3_67 : decode cX8_atom3 67 = .ok (.aload_n 0, 1) := dk_42 (dk_at dksX8_atom3_2 20 rfl rfl)
theorem dX8_atom3_68 : decode cX8_atom3 68 = .ok (.invokevirtual 193, 3) := dk_182 0 193 (dk_at dksX8_atom3_2 21 rfl rfl)
theorem dX8_atom3_71 : decode cX8_atom3 71 = .ok (.aload_n 0, 1) := dk_42 (dk_at dksX8_atom3_3 0 rfl rfl)
theorem dX8_atom3_72 : decode cX8_atom3 72 = .ok (.dup, 1) := dk_89 (dk_at dksX8_atom3_3 1 rfl rfl)
theorem dX8_atom3_73 : decode cX8_atom3 73 = .ok (.getfield 190, 3) := dk_180 0 190 (dk_at dksX8_atom3_3 2 rfl rfl)
theorem dX8_atom3_76 : decode cX8_atom3 76 = .ok (.iconst 1, 1) := dk_4 (dk_at dksX8_atom3_3 5 rfl rfl)
theorem dX8_atom3_77 : decode cX8_atom3 77 = .ok (.isub, 1) := dk_100 (dk_at dksX8_atom3_3 6 rfl rfl)
theorem dX8_atom3_78 : decode cX8_atom3 78 = .ok (.putfield 190, 3) := dk_181 0 190 (dk_at dksX8_atom3_3 7 rfl rfl)
theorem dX8_atom3_81 : decode cX8_atom3 81 = .ok (.aload_n 0, 1) := dk_42 (dk_at dksX8_atom3_3 10 rfl rfl)
theorem dX8_atom3_82 : decode cX8_atom3 82 = .ok (.getfield 180, 3) := dk_180 0 180 (dk_at dksX8_atom3_3 11 rfl rfl)
theorem dX8_atom3_85 : decode cX8_atom3 85 = .ok (.ifCond .ne 76, 3) := dk_154 0 76 (dk_at dksX8_atom3_3 14 rfl rfl)
theorem dX8_atom3_88 : decode cX8_atom3 88 = .ok (.aload_n 0, 1) := dk_42 (dk_at dksX8_atom3_3 17 rfl rfl)
theorem dX8_atom3_89 : decode cX8_atom3 89 = .ok (.invokevirtual 196, 3) := dk_182 0 196 (dk_at dksX8_atom3_3 18 rfl rfl)
theorem dX8_atom3_92 : decode cX8_atom3 92 = .ok (.goto 69, 3) := dk_167 0 69 (dk_at dksX8_atom3_3 21 rfl rfl)
theorem dX8_atom3_95 : decode cX8_atom3 95 = .ok (.aload_n 0, 1) := dk_42 (dk_at dksX8_atom3_4 0 rfl rfl)
theorem dX8_atom3_96 : decode cX8_atom3 96 = .ok (.getfield 180, 3) := dk_180 0 180 (dk_at dksX8_atom3_4 1 rfl rfl)
theorem dX8_atom3_99 : decode cX8_atom3 99 = .ok (.ifCond .ne 24, 3) := dk_154 0 24 (dk_at dksX8_atom3_4 4 rfl rfl)
theorem dX8_atom3_102 : decode cX8_atom3 102 = .ok (.aload_n 0, 1) := dk_42 (dk_at dksX8_atom3_4 7 rfl rfl)
theorem dX8_atom3_103 : decode cX8_atom3 103 = .ok (.getfield 165, 3) := dk_180 0 165 (dk_at dksX8_atom3_4 8 rfl rfl)
theorem dX8_atom3_106 : decode cX8_atom3 106 = .ok (.iconst 2, 1) := dk_5 (dk_at dksX8_atom3_4 11 rfl rfl)
theorem dX8_atom3_107 : decode cX8_atom3 107 = .ok (.if_icmp .ne 16, 3) := dk_160 0 16 (dk_at dksX8_atom3_4 12 rfl rfl)
theorem dX8_atom3_110 : decode cX8_atom3 110 = .ok (.aload_n 0, 1) := dk_42 (dk_at dksX8_atom3_4 15 rfl rfl)
theorem dX8_atom3_111 : decode cX8_atom3 111 = .ok (.getfield 176, 3) := dk_180 0 176 (dk_at dksX8_atom3_4 16 rfl rfl)
theorem dX8_atom3_114 : decode cX8_atom3 114 = .ok (.l2i, 1) := dk_136 (dk_at dksX8_atom3_4 19 rfl rfl)
theorem dX8_atom3_115 : decode cX8_atom3 115 = .ok (.istore_n 1, 1) := dk_60 (dk_at dksX8_atom3_4 20 rfl rfl)
theorem dX8_atom3_116 : decode cX8_atom3 116 = .ok (.aload_n 0, 1) := dk_42 (dk_at dksX8_atom3_4 21 rfl rfl)
theorem dX8_atom3_117 : decode cX8_atom3 117 = .ok (.invokevirtual 196, 3) := dk_182 0 196 (dk_at dksX8_atom3_5 0 rfl rfl)
theorem dX8_atom3_120 : decode cX8_atom3 120 = .ok (.goto 41, 3) := dk_167 0 41 (dk_at dksX8_atom3_5 3 rfl rfl)
theorem dX8_atom3_123 : decode cX8_atom3 123 = .ok (.aload_n 0, 1) := dk_42 (dk_at dksX8_atom3_5 6 rfl rfl)
theorem dX8_atom3_124 : decode cX8_atom3 124 = .ok (.getfield 180, 3) := dk_180 0 180 (dk_at dksX8_atom3_5 7 rfl rfl)
theorem dX8_atom3_127 : decode cX8_atom3 127 = .ok (.ifCond .ne 30, 3) := dk_154 0 30 (dk_at dksX8_atom3_5 10 rfl rfl)
theorem dX8_atom3_130 : decode cX8_atom3 130 = .ok (.aload_n 0, 1) := dk_42 (dk_at dksX8_atom3_5 13 rfl rfl)
theorem dX8_atom3_131 : decode cX8_atom3 131 = .ok (.getfield 165, 3) := dk_180 0 165 (dk_at dksX8_atom3_5 14 rfl rfl)
theorem dX8_atom3_134 : decode cX8_atom3 134 = .ok (.iconst 1, 1) := dk_4 (dk_at dksX8_atom3_5 17 rfl rfl)
theorem dX8_atom3_135 : decode cX8_atom3 135 = .ok (.if_icmp .ne 22, 3) := dk_160 0 22 (dk_at dksX8_atom3_5 18 rfl rfl)
theorem dX8_atom3_138 : decode cX8_atom3 138 = .ok (.aload_n 0, 1) := dk_42 (dk_at dksX8_atom3_5 21 rfl rfl)
theorem dX8_atom3_139 : decode cX8_atom3 139 = .ok (.invokevirtual 228, 3) := dk_182 0 228 (dk_at dksX8_atom3_6 0 rfl rfl)
theorem dX8_atom3_142 : decode cX8_atom3 142 = .ok (.istore_n 1, 1) := dk_60 (dk_at dksX8_atom3_6 3 rfl rfl)
theorem dX8_atom3_143 : decode cX8_atom3 143 = .ok (.aload_n 0, 1) := dk_42 (dk_at dksX8_atom3_6 4 rfl rfl)
theorem dX8_atom3_144 : decode cX8_atom3 144 = .ok (.getfield 180, 3) := dk_180 0 180 (dk_at dksX8_atom3_6 5 rfl rfl)
theorem dX8_atom3_147 : decode cX8_atom3 147 = .ok (.ifCond .ne 14, 3) := dk_154 0 14 (dk_at dksX8_atom3_6 8 rfl rfl)
theorem dX8_atom3_150 : decode cX8_atom3 150 = .ok (.aload_n 0, 1) := dk_42 (dk_at dksX8_atom3_6 11 rfl rfl)
theorem dX8_atom3_151 : decode cX8_atom3 151 = .ok (.invokevirtual 196, 3) := dk_182 0 196 (dk_at dksX8_atom3_6 12 rfl rfl)
theorem dX8_atom3_154 : decode cX8_atom3 154 = .ok (.goto 7, 3) := dk_167 0 7 (dk_at dksX8_atom3_6 15 rfl rfl)
theorem dX8_atom3_157 : decode cX8_atom3 157 = .ok (.aload_n 0, 1) := dk_42 (dk_at dksX8_atom3_6 18 rfl rfl)
theorem dX8_atom3_158 : decode cX8_atom3 158 = .ok (.invokevirtual 193, 3) := dk_182 0 193 (dk_at dksX8_atom3_6 19 rfl rfl)
theorem dX8_atom3_161 : decode cX8_atom3 161 = .ok (.iload_n 1, 1) := dk_27 (dk_at dksX8_atom3_6 22 rfl rfl)
theorem dX8_atom3_162 : decode cX8_atom3 162 = .ok (.ireturn, 1) := dk_172 (dk_at dksX8_atom3_6 23 rfl rfl)
abbrev cX8_either4 : ByteArray := prog_16_method_37_code
def yX8_either4 : MethodName := ⟨RX8, "either4", "()I"⟩
def dkwX8_either4_2 : List UInt8 := [167, 255, 216, 27, 172]
abbrev dktX8_either4_2 : List UInt8 := dkwX8_either4_2 ++ []
def dkwX8_either4_1 : List UInt8 := [182, 0, 196, 42, 182, 1, 10, 61, 27, 154, 0, 7, 28, 153, 0, 7, 4, 167, 0, 4, 3, 60]
abbrev dktX8_either4_1 : List UInt8 := dkwX8_either4_1 ++ dktX8_either4_2
def dkwX8_either4_0 : List UInt8 := [42, 182, 1, 10, 60, 42, 16, 111, 16, 114, 3, 3, 3, 3, 3, 3, 182, 0, 199, 153, 0, 29, 42]
abbrev dktX8_either4_0 : List UInt8 := dkwX8_either4_0 ++ dktX8_either4_1
theorem dksX8_either4_0 : cX8_either4.data.toList.drop 0 = dktX8_either4_0 := by decide +kernel
theorem dksX8_either4_1 : cX8_either4.data.toList.drop 23 = dktX8_either4_1 := dk_seg dksX8_either4_0 23 rfl rfl
theorem dksX8_either4_2 : cX8_either4.data.toList.drop 45 = dktX8_either4_2 := dk_seg dksX8_either4_1 22 rfl rfl
theorem dX8_either4_0 : decode cX8_either4 0 = .ok (.aload_n 0, 1) := dk_42 (dk_at dksX8_either4_0 0 rfl rfl)
theorem dX8_either4_1 : decode cX8_either4 1 = .ok (.invokevirtual 266, 3) := dk_182 1 10 (dk_at dksX8_either4_0 1 rfl rfl)
theorem dX8_either4_4 : decode cX8_either4 4 = .ok (.istore_n 1, 1) := dk_60 (dk_at dksX8_either4_0 4 rfl rfl)
theorem dX8_either4_5 : decode cX8_either4 5 = .ok (.aload_n 0, 1) := dk_42 (dk_at dksX8_either4_0 5 rfl rfl)
theorem dX8_either4_6 : decode cX8_either4 6 = .ok (.bipush 111, 2) := dk_16 111 (dk_at dksX8_either4_0 6 rfl rfl)
theorem dX8_either4_8 : decode cX8_either4 8 = .ok (.bipush 114, 2) := dk_16 114 (dk_at dksX8_either4_0 8 rfl rfl)
theorem dX8_either4_10 : decode cX8_either4 10 = .ok (.iconst 0, 1) := dk_3 (dk_at dksX8_either4_0 10 rfl rfl)
theorem dX8_either4_11 : decode cX8_either4 11 = .ok (.iconst 0, 1) := dk_3 (dk_at dksX8_either4_0 11 rfl rfl)
theorem dX8_either4_12 : decode cX8_either4 12 = .ok (.iconst 0, 1) := dk_3 (dk_at dksX8_either4_0 12 rfl rfl)
theorem dX8_either4_13 : decode cX8_either4 13 = .ok (.iconst 0, 1) := dk_3 (dk_at dksX8_either4_0 13 rfl rfl)
theorem dX8_either4_14 : decode cX8_either4 14 = .ok (.iconst 0, 1) := dk_3 (dk_at dksX8_either4_0 14 rfl rfl)
theorem dX8_either4_15 : decode cX8_either4 15 = .ok (.iconst 0, 1) := dk_3 (dk_at dksX8_either4_0 15 rfl rfl)
theorem dX8_either4_16 : decode cX8_either4 16 = .ok (.invokevirtual 199, 3) := dk_182 0 199 (dk_at dksX8_either4_0 16 rfl rfl)
theorem dX8_either4_19 : decode cX8_either4 19 = .ok (.ifCond .eq 29, 3) := dk_153 0 29 (dk_at dksX8_either4_0 19 rfl rfl)
theorem dX8_either4_22 : decode cX8_either4 22 = .ok (.aload_n 0, 1) := dk_42 (dk_at dksX8_either4_0 22 rfl rfl)
theorem dX8_either4_23 : decode cX8_either4 23 = .ok (.invokevirtual 196, 3) := dk_182 0 196 (dk_at dksX8_either4_1 0 rfl rfl)
theorem dX8_either4_26 : decode cX8_either4 26 = .ok (.aload_n 0, 1) := dk_42 (dk_at dksX8_either4_1 3 rfl rfl)
theorem dX8_either4_27 : decode cX8_either4 27 = .ok (.invokevirtual 266, 3) := dk_182 1 10 (dk_at dksX8_either4_1 4 rfl rfl)
theorem dX8_either4_30 : decode cX8_either4 30 = .ok (.istore_n 2, 1) := dk_61 (dk_at dksX8_either4_1 7 rfl rfl)
theorem dX8_either4_31 : decode cX8_either4 31 = .ok (.iload_n 1, 1) := dk_27 (dk_at dksX8_either4_1 8 rfl rfl)
theorem dX8_either4_32 : decode cX8_either4 32 = .ok (.ifCond .ne 7, 3) := dk_154 0 7 (dk_at dksX8_either4_1 9 rfl rfl)
theorem dX8_either4_35 : decode cX8_either4 35 = .ok (.iload_n 2, 1) := dk_28 (dk_at dksX8_either4_1 12 rfl rfl)
theorem dX8_either4_36 : decode cX8_either4 36 = .ok (.ifCond .eq 7, 3) := dk_153 0 7 (dk_at dksX8_either4_1 13 rfl rfl)
theorem dX8_either4_39 : decode cX8_either4 39 = .ok (.iconst 1, 1) := dk_4 (dk_at dksX8_either4_1 16 rfl rfl)
theorem dX8_either4_40 : decode cX8_either4 40 = .ok (.goto 4, 3) := dk_167 0 4 (dk_at dksX8_either4_1 17 rfl rfl)
theorem dX8_either4_43 : decode cX8_either4 43 = .ok (.iconst 0, 1) := dk_3 (dk_at dksX8_either4_1 20 rfl rfl)
theorem dX8_either4_44 : decode cX8_either4 44 = .ok (.istore_n 1, 1) := dk_60 (dk_at dksX8_either4_1 21 rfl rfl)
theorem dX8_either4_45 : decode cX8_either4 45 = .ok (.goto (-40), 3) := dk_167 255 216 (dk_at dksX8_either4_2 0 rfl rfl)
theorem dX8_either4_48 : decode cX8_either4 48 = .ok (.iload_n 1, 1) := dk_27 (dk_at dksX8_either4_2 3 rfl rfl)
theorem dX8_either4_49 : decode cX8_either4 49 = .ok (.ireturn, 1) := dk_172 (dk_at dksX8_either4_2 4 rfl rfl)
abbrev cX8_both4 : ByteArray := prog_16_method_36_code
def yX8_both4 : MethodName := ⟨RX8, "both4", "()I"⟩
def dkwX8_both4_2 : List UInt8 := [167, 255, 215, 27, 172]
abbrev dktX8_both4_2 : List UInt8 := dkwX8_both4_2 ++ []
def dkwX8_both4_1 : List UInt8 := [182, 0, 196, 42, 182, 1, 7, 61, 27, 153, 0, 11, 28, 153, 0, 7, 4, 167, 0, 4, 3, 60]
abbrev dktX8_both4_1 : List UInt8 := dkwX8_both4_1 ++ dktX8_both4_2
def dkwX8_both4_0 : List UInt8 := [42, 182, 1, 7, 60, 42, 16, 97, 16, 110, 16, 100, 3, 3, 3, 3, 3, 182, 0, 199, 153, 0, 29, 42]
abbrev dktX8_both4_0 : List UInt8 := dkwX8_both4_0 ++ dktX8_both4_1
theorem dksX8_both4_0 : cX8_both4.data.toList.drop 0 = dktX8_both4_0 := by decide +kernel
theorem dksX8_both4_1 : cX8_both4.data.toList.drop 24 = dktX8_both4_1 := dk_seg dksX8_both4_0 24 rfl rfl
theorem dksX8_both4_2 : cX8_both4.data.toList.drop 46 = dktX8_both4_2 := dk_seg dksX8_both4_1 22 rfl rfl
theorem dX8_both4_0 : decode cX8_both4 0 = .ok (.aload_n 0, 1) := dk_42 (dk_at dksX8_both4_0 0 rfl rfl)
theorem dX8_both4_1 : decode cX8_both4 1 = .ok (.invokevirtual 263, 3) := dk_182 1 7 (dk_at dksX8_both4_0 1 rfl rfl)
theorem dX8_both4_4 : decode cX8_both4 4 = .ok (.istore_n 1, 1) := dk_60 (dk_at dksX8_both4_0 4 rfl rfl)
theorem dX8_both4_5 : decode cX8_both4 5 = .ok (.aload_n 0, 1) := dk_42 (dk_at dksX8_both4_0 5 rfl rfl)
theorem dX8_both4_6 : decode cX8_both4 6 = .ok (.bipush 97, 2) := dk_16 97 (dk_at dksX8_both4_0 6 rfl rfl)
theorem dX8_both4_8 : decode cX8_both4 8 = .ok (.bipush 110, 2) := dk_16 110 (dk_at dksX8_both4_0 8 rfl rfl)
theorem dX8_both4_10 : decode cX8_both4 10 = .ok (.bipush 100, 2) := dk_16 100 (dk_at dksX8_both4_0 10 rfl rfl)
theorem dX8_both4_12 : decode cX8_both4 12 = .ok (.iconst 0, 1) := dk_3 (dk_at dksX8_both4_0 12 rfl rfl)
theorem dX8_both4_13 : decode cX8_both4 13 = .ok (.iconst 0, 1) := dk_3 (dk_at dksX8_both4_0 13 rfl rfl)
theorem dX8_both4_14 : decode cX8_both4 14 = .ok (.iconst 0, 1) := dk_3 (dk_at dksX8_both4_0 14 rfl rfl)
theorem dX8_both4_15 : decode cX8_both4 15 = .ok (.iconst 0, 1) := dk_3 (dk_at dksX8_both4_0 15 rfl rfl)
theorem dX8_both4_16 : decode cX8_both4 16 = .ok (.iconst 0, 1) := dk_3 (dk_at dksX8_both4_0 16 rfl rfl)
theorem dX8_both4_17 : decode cX8_both4 17 = .ok (.invokevirtual 199, 3) := dk_182 0 199 (dk_at dksX8_both4_0 17 rfl rfl)
theorem dX8_both4_20 : decode cX8_both4 20 = .ok (.ifCond .eq 29, 3) := dk_153 0 29 (dk_at dksX8_both4_0 20 rfl rfl)
theorem dX8_both4_23 : decode cX8_both4 23 = .ok (.aload_n 0, 1) := dk_42 (dk_at dksX8_both4_0 23 rfl rfl)
theorem dX8_both4_24 : decode cX8_both4 24 = .ok (.invokevirtual 196, 3) := dk_182 0 196 (dk_at dksX8_both4_1 0 rfl rfl)
theorem dX8_both4_27 : decode cX8_both4 27 = .ok (.aload_n 0, 1) := dk_42 (dk_at dksX8_both4_1 3 rfl rfl)
theorem dX8_both4_28 : decode cX8_both4 28 = .ok (.invokevirtual 263, 3) := dk_182 1 7 (dk_at dksX8_both4_1 4 rfl rfl)
theorem dX8_both4_31 : decode cX8_both4 31 = .ok (.istore_n 2, 1) := dk_61 (dk_at dksX8_both4_1 7 rfl rfl)
theorem dX8_both4_32 : decode cX8_both4 32 = .ok (.iload_n 1, 1) := dk_27 (dk_at dksX8_both4_1 8 rfl rfl)
theorem dX8_both4_33 : decode cX8_both4 33 = .ok (.ifCond .eq 11, 3) := dk_153 0 11 (dk_at dksX8_both4_1 9 rfl rfl)
theorem dX8_both4_36 : decode cX8_both4 36 = .ok (.iload_n 2, 1) := dk_28 (dk_at dksX8_both4_1 12 rfl rfl)
theorem dX8_both4_37 : decode cX8_both4 37 = .ok (.ifCond .eq 7, 3) := dk_153 0 7 (dk_at dksX8_both4_1 13 rfl rfl)
theorem dX8_both4_40 : decode cX8_both4 40 = .ok (.iconst 1, 1) := dk_4 (dk_at dksX8_both4_1 16 rfl rfl)
theorem dX8_both4_41 : decode cX8_both4 41 = .ok (.goto 4, 3) := dk_167 0 4 (dk_at dksX8_both4_1 17 rfl rfl)
theorem dX8_both4_44 : decode cX8_both4 44 = .ok (.iconst 0, 1) := dk_3 (dk_at dksX8_both4_1 20 rfl rfl)
theorem dX8_both4_45 : decode cX8_both4 45 = .ok (.istore_n 1, 1) := dk_60 (dk_at dksX8_both4_1 21 rfl rfl)
theorem dX8_both4_46 : decode cX8_both4 46 = .ok (.goto (-41), 3) := dk_167 255 215 (dk_at dksX8_both4_2 0 rfl rfl)
theorem dX8_both4_49 : decode cX8_both4 49 = .ok (.iload_n 1, 1) := dk_27 (dk_at dksX8_both4_2 3 rfl rfl)
theorem dX8_both4_50 : decode cX8_both4 50 = .ok (.ireturn, 1) := dk_172 (dk_at dksX8_both4_2 4 rfl rfl)
abbrev cX8_added2 : ByteArray := prog_16_method_46_code
def yX8_added2 : MethodName := ⟨RX8, "added2", "()I"⟩
def dkwX8_added2_2 : List UInt8 := [62, 28, 153, 0, 9, 27, 29, 96, 167, 0, 6, 27, 29, 100, 60, 167, 255, 198, 27, 172]
abbrev dktX8_added2_2 : List UInt8 := dkwX8_added2_2 ++ []
def dkwX8_added2_1 : List UInt8 := [180, 0, 176, 20, 0, 238, 148, 154, 0, 7, 4, 167, 0, 4, 3, 61, 42, 182, 0, 196, 42, 182, 1, 37]
abbrev dktX8_added2_1 : List UInt8 := dkwX8_added2_1 ++ dktX8_added2_2
def dkwX8_added2_0 : List UInt8 := [42, 182, 1, 37, 60, 42, 16, 43, 182, 0, 221, 154, 0, 12, 42, 16, 45, 182, 0, 221, 153, 0, 46, 42]
abbrev dktX8_added2_0 : List UInt8 := dkwX8_added2_0 ++ dktX8_added2_1
theorem dksX8_added2_0 : cX8_added2.data.toList.drop 0 = dktX8_added2_0 := by decide +kernel
theorem dksX8_added2_1 : cX8_added2.data.toList.drop 24 = dktX8_added2_1 := dk_seg dksX8_added2_0 24 rfl rfl
theorem dksX8_added2_2 : cX8_added2.data.toList.drop 48 = dktX8_added2_2 := dk_seg dksX8_added2_1 24 rfl rfl
theorem dX8_added2_0 : decode cX8_added2 0 = .ok (.aload_n 0, 1) := dk_42 (dk_at dksX8_added2_0 0 rfl rfl)
theorem dX8_added2_1 : decode cX8_added2 1 = .ok (.invokevirtual 293, 3) := dk_182 1 37 (dk_at dksX8_added2_0 1 rfl rfl)
theorem dX8_added2_4 : decode cX8_added2 4 = .ok (.istore_n 1, 1) := dk_60 (dk_at dksX8_added2_0 4 rfl rfl)
theorem dX8_added2_5 : decode cX8_added2 5 = .ok (.aload_n 0, 1) := dk_42 (dk_at dksX8_added2_0 5 rfl rfl)
theorem dX8_added2_6 : decode cX8_added2 6 = .ok (.bipush 43, 2) := dk_16 43 (dk_at dksX8_added2_0 6 rfl rfl)
theorem dX8_added2_8 : decode cX8_added2 8 = .ok (.invokevirtual 221, 3) := dk_182 0 221 (dk_at dksX8_added2_0 8 rfl rfl)
theorem dX8_added2_11 : decode cX8_added2 11 = .ok (.ifCond .ne 12, 3) := dk_154 0 12 (dk_at dksX8_added2_0 11 rfl rfl)
theorem dX8_added2_14 : decode cX8_added2 14 = .ok (.aload_n 0, 1) := dk_42 (dk_at dksX8_added2_0 14 rfl rfl)
theorem dX8_added2_15 : decode cX8_added2 15 = .ok (.bipush 45, 2) := dk_16 45 (dk_at dksX8_added2_0 15 rfl rfl)
theorem dX8_added2_17 : decode cX8_added2 17 = .ok (.invokevirtual 221, 3) := dk_182 0 221 (dk_at dksX8_added2_0 17 rfl rfl)
theorem dX8_added2_20 : decode cX8_added2 20 = .ok (.ifCond .eq 46, 3) := dk_153 0 46 (dk_at dksX8_added2_0 20 rfl rfl)
theorem dX8_added2_23 : decode cX8_added2 23 = .ok (.aload_n 0, 1) := dk_42 (dk_at dksX8_added2_0 23 rfl rfl)
theorem dX8_added2_24 : decode cX8_added2 24 = .ok (.getfield 176, 3) := dk_180 0 176 (dk_at dksX8_added2_1 0 rfl rfl)
theorem dX8_added2_27 : decode cX8_added2 27 = .ok (.ldc2_w 238, 3) := dk_20 0 238 (dk_at dksX8_added2_1 3 rfl rfl)
theorem dX8_added2_30 : decode cX8_added2 30 = .ok (.lcmp, 1) := dk_148 (dk_at dksX8_added2_1 6 rfl rfl)
theorem dX8_added2_31 : decode cX8_added2 31 = .ok (.ifCond .ne 7, 3) := dk_154 0 7 (dk_at dksX8_added2_1 7 rfl rfl)
theorem dX8_added2_34 : decode cX8_added2 34 = .ok (.iconst 1, 1) := dk_4 (dk_at dksX8_added2_1 10 rfl rfl)
theorem dX8_added2_35 : decode cX8_added2 35 = .ok (.goto 4, 3) := dk_167 0 4 (dk_at dksX8_added2_1 11 rfl rfl)
theorem dX8_added2_38 : decode cX8_added2 38 = .ok (.iconst 0, 1) := dk_3 (dk_at dksX8_added2_1 14 rfl rfl)
theorem dX8_added2_39 : decode cX8_added2 39 = .ok (.istore_n 2, 1) := dk_61 (dk_at dksX8_added2_1 15 rfl rfl)
theorem dX8_added2_40 : decode cX8_added2 40 = .ok (.aload_n 0, 1) := dk_42 (dk_at dksX8_added2_1 16 rfl rfl)
theorem dX8_added2_41 : decode cX8_added2 41 = .ok (.invokevirtual 196, 3) := dk_182 0 196 (dk_at dksX8_added2_1 17 rfl rfl)
theorem dX8_added2_44 : decode cX8_added2 44 = .ok (.aload_n 0, 1) := dk_42 (dk_at dksX8_added2_1 20 rfl rfl)
theorem dX8_added2_45 : decode cX8_added2 45 = .ok (.invokevirtual 293, 3) := dk_182 1 37 (dk_at dksX8_added2_1 21 rfl rfl)
theorem dX8_added2_48 : decode cX8_added2 48 = .ok (.istore_n 3, 1) := dk_62 (dk_at dksX8_added2_2 0 rfl rfl)
theorem dX8_added2_49 : decode cX8_added2 49 = .ok (.iload_n 2, 1) := dk_28 (dk_at dksX8_added2_2 1 rfl rfl)
theorem dX8_added2_50 : decode cX8_added2 50 = .ok (.ifCond .eq 9, 3) := dk_153 0 9 (dk_at dksX8_added2_2 2 rfl rfl)
theorem dX8_added2_53 : decode cX8_added2 53 = .ok (.iload_n 1, 1) := dk_27 (dk_at dksX8_added2_2 5 rfl rfl)
theorem dX8_added2_54 : decode cX8_added2 54 = .ok (.iload_n 3, 1) := dk_29 (dk_at dksX8_added2_2 6 rfl rfl)
theorem dX8_added2_55 : decode cX8_added2 55 = .ok (.iadd, 1) := dk_96 (dk_at dksX8_added2_2 7 rfl rfl)
theorem dX8_added2_56 : decode cX8_added2 56 = .ok (.goto 6, 3) := dk_167 0 6 (dk_at dksX8_added2_2 8 rfl rfl)
theorem dX8_added2_59 : decode cX8_added2 59 = .ok (.iload_n 1, 1) := dk_27 (dk_at dksX8_added2_2 11 rfl rfl)
theorem dX8_added2_60 : decode cX8_added2 60 = .ok (.iload_n 3, 1) := dk_29 (dk_at dksX8_added2_2 12 rfl rfl)
theorem dX8_added2_61 : decode cX8_added2 61 = .ok (.isub, 1) := dk_100 (dk_at dksX8_added2_2 13 rfl rfl)
theorem dX8_added2_62 : decode cX8_added2 62 = .ok (.istore_n 1, 1) := dk_60 (dk_at dksX8_added2_2 14 rfl rfl)
theorem dX8_added2_63 : decode cX8_added2 63 = .ok (.goto (-58), 3) := dk_167 255 198 (dk_at dksX8_added2_2 15 rfl rfl)
theorem dX8_added2_66 : decode cX8_added2 66 = .ok (.iload_n 1, 1) := dk_27 (dk_at dksX8_added2_2 18 rfl rfl)
theorem dX8_added2_67 : decode cX8_added2 67 = .ok (.ireturn, 1) := dk_172 (dk_at dksX8_added2_2 19 rfl rfl)
abbrev cX8_term2 : ByteArray := prog_16_method_45_code
def yX8_term2 : MethodName := ⟨RX8, "term2", "()I"⟩
def dkwX8_term2_1 : List UInt8 := [60, 167, 255, 236, 27, 172]
abbrev dktX8_term2_1 : List UInt8 := dkwX8_term2_1 ++ []
def dkwX8_term2_0 : List UInt8 := [42, 182, 1, 34, 60, 42, 16, 42, 182, 0, 221, 153, 0, 17, 42, 182, 0, 196, 27, 42, 182, 1, 34, 104]
abbrev dktX8_term2_0 : List UInt8 := dkwX8_term2_0 ++ dktX8_term2_1
theorem dksX8_term2_0 : cX8_term2.data.toList.drop 0 = dktX8_term2_0 := by decide +kernel
theorem dksX8_term2_1 : cX8_term2.data.toList.drop 24 = dktX8_term2_1 := dk_seg dksX8_term2_0 24 rfl rfl
theorem dX8_term2_0 : decode cX8_term2 0 = .ok (.aload_n 0, 1) := dk_42 (dk_at dksX8_term2_0 0 rfl rfl)
theorem dX8_term2_1 : decode cX8_term2 1 = .ok (.invokevirtual 290, 3) := dk_182 1 34 (dk_at dksX8_term2_0 1 rfl rfl)
theorem dX8_term2_4 : decode cX8_term2 4 = .ok (.istore_n 1, 1) := dk_60 (dk_at dksX8_term2_0 4 rfl rfl)
theorem dX8_term2_5 : decode cX8_term2 5 = .ok (.aload_n 0, 1) := dk_42 (dk_at dksX8_term2_0 5 rfl rfl)
theorem dX8_term2_6 : decode cX8_term2 6 = .ok (.bipush 42, 2) := dk_16 42 (dk_at dksX8_term2_0 6 rfl rfl)
theorem dX8_term2_8 : decode cX8_term2 8 = .ok (.invokevirtual 221, 3) := dk_182 0 221 (dk_at dksX8_term2_0 8 rfl rfl)
theorem dX8_term2_11 : decode cX8_term2 11 = .ok (.ifCond .eq 17, 3) := dk_153 0 17 (dk_at dksX8_term2_0 11 rfl rfl)
theorem dX8_term2_14 : decode cX8_term2 14 = .ok (.aload_n 0, 1) := dk_42 (dk_at dksX8_term2_0 14 rfl rfl)
theorem dX8_term2_15 : decode cX8_term2 15 = .ok (.invokevirtual 196, 3) := dk_182 0 196 (dk_at dksX8_term2_0 15 rfl rfl)
theorem dX8_term2_18 : decode cX8_term2 18 = .ok (.iload_n 1, 1) := dk_27 (dk_at dksX8_term2_0 18 rfl rfl)
theorem dX8_term2_19 : decode cX8_term2 19 = .ok (.aload_n 0, 1) := dk_42 (dk_at dksX8_term2_0 19 rfl rfl)
theorem dX8_term2_20 : decode cX8_term2 20 = .ok (.invokevirtual 290, 3) := dk_182 1 34 (dk_at dksX8_term2_0 20 rfl rfl)
theorem dX8_term2_23 : decode cX8_term2 23 = .ok (.imul, 1) := dk_104 (dk_at dksX8_term2_0 23 rfl rfl)
theorem dX8_term2_24 : decode cX8_term2 24 = .ok (.istore_n 1, 1) := dk_60 (dk_at dksX8_term2_1 0 rfl rfl)
theorem dX8_term2_25 : decode cX8_term2 25 = .ok (.goto (-20), 3) := dk_167 255 236 (dk_at dksX8_term2_1 1 rfl rfl)
theorem dX8_term2_28 : decode cX8_term2 28 = .ok (.iload_n 1, 1) := dk_27 (dk_at dksX8_term2_1 4 rfl rfl)
theorem dX8_term2_29 : decode cX8_term2 29 = .ok (.ireturn, 1) := dk_172 (dk_at dksX8_term2_1 5 rfl rfl)
abbrev cX8_atom2 : ByteArray := prog_16_method_44_code
def yX8_atom2 : MethodName := ⟨RX8, "atom2", "()I"⟩
def dkwX8_atom2_6 : List UInt8 := [182, 0, 228, 60, 42, 180, 0, 180, 154, 0, 14, 42, 182, 0, 196, 167, 0, 7, 42, 182, 0, 193, 27, 172]
abbrev dktX8_atom2_6 : List UInt8 := dkwX8_atom2_6 ++ []
def dkwX8_atom2_5 : List UInt8 := [182, 0, 196, 167, 0, 41, 42, 180, 0, 180, 154, 0, 30, 42, 180, 0, 165, 4, 160, 0, 22, 42]
abbrev dktX8_atom2_5 : List UInt8 := dkwX8_atom2_5 ++ dktX8_atom2_6
def dkwX8_atom2_4 : List UInt8 := [42, 180, 0, 180, 154, 0, 24, 42, 180, 0, 165, 5, 160, 0, 16, 42, 180, 0, 176, 136, 60, 42]
abbrev dktX8_atom2_4 : List UInt8 := dkwX8_atom2_4 ++ dktX8_atom2_5
def dkwX8_atom2_3 : List UInt8 := [42, 89, 180, 0, 190, 4, 100, 181, 0, 190, 42, 180, 0, 180, 154, 0, 76, 42, 182, 0, 196, 167, 0, 69]
abbrev dktX8_atom2_3 : List UInt8 := dkwX8_atom2_3 ++ dktX8_atom2_4
def dkwX8_atom2_2 : List UInt8 := [182, 0, 224, 153, 0, 111, 42, 182, 1, 31, 60, 42, 16, 41, 182, 0, 221, 154, 0, 7, 42, 182, 0, 193]
abbrev dktX8_atom2_2 : List UInt8 := dkwX8_atom2_2 ++ dktX8_atom2_3
def dkwX8_atom2_1 : List UInt8 := [42, 89, 180, 0, 190, 4, 100, 181, 0, 190, 167, 0, 127, 42, 16, 40, 182, 0, 221, 153, 0, 52, 42]
abbrev dktX8_atom2_1 : List UInt8 := dkwX8_atom2_1 ++ dktX8_atom2_2
def dkwX8_atom2_0 : List UInt8 := [3, 60, 42, 16, 45, 182, 0, 221, 153, 0, 29, 42, 182, 0, 224, 153, 0, 146, 42, 182, 1, 16, 116, 60]
abbrev dktX8_atom2_0 : List UInt8 := dkwX8_atom2_0 ++ dktX8_atom2_1
theorem dksX8_atom2_0 : cX8_atom2.data.toList.drop 0 = dktX8_atom2_0 := by decide +kernel
theorem dksX8_atom2_1 : cX8_atom2.data.toList.drop 24 = dktX8_atom2_1 := dk_seg dksX8_atom2_0 24 rfl rfl
theorem dksX8_atom2_2 : cX8_atom2.data.toList.drop 47 = dktX8_atom2_2 := dk_seg dksX8_atom2_1 23 rfl rfl
theorem dksX8_atom2_3 : cX8_atom2.data.toList.drop 71 = dktX8_atom2_3 := dk_seg dksX8_atom2_2 24 rfl rfl
theorem dksX8_atom2_4 : cX8_atom2.data.toList.drop 95 = dktX8_atom2_4 := dk_seg dksX8_atom2_3 24 rfl rfl
theorem dksX8_atom2_5 : cX8_atom2.data.toList.drop 117 = dktX8_atom2_5 := dk_seg dksX8_atom2_4 22 rfl rfl
theorem dksX8_atom2_6 : cX8_atom2.data.toList.drop 139 = dktX8_atom2_6 := dk_seg dksX8_atom2_5 22 rfl rfl
theorem dX8_atom2_0 : decode cX8_atom2 0 = .ok (.iconst 0, 1) := dk_3 (dk_at dksX8_atom2_0 0 rfl rfl)
theorem dX8_atom2_1 : decode cX8_atom2 1 = .ok (.istore_n 1, 1) := dk_60 (dk_at dksX8_atom2_0 1 rfl rfl)
theorem dX8_atom2_2 : decode cX8_atom2 2 = .ok (.aload_n 0, 1) := dk_42 (dk_at dksX8_atom2_0 2 rfl rfl)
theorem dX8_atom2_3 : decode cX8_atom2 3 = .ok (.bipush 45, 2) := dk_16 45 (dk_at dksX8_atom2_0 3 rfl rfl)
theorem dX8_atom2_5 : decode cX8_atom2 5 = .ok (.invokevirtual 221, 3) := dk_182 0 221 (dk_at dksX8_atom2_0 5 rfl rfl)
theorem dX8_atom2_8 : decode cX8_atom2 8 = .ok (.ifCond .eq 29, 3) := dk_153 0 29 (dk_at dksX8_atom2_0 8 rfl rfl)
theorem dX8_atom2_11 : decode cX8_atom2 11 = .ok (.aload_n 0, 1) := dk_42 (dk_at dksX8_atom2_0 11 rfl rfl)
theorem dX8_atom2_12 : decode cX8_atom2 12 = .ok (.invokevirtual 224, 3) := dk_182 0 224 (dk_at dksX8_atom2_0 12 rfl rfl)
theorem dX8_atom2_15 : decode cX8_atom2 15 = .ok (.ifCond .eq 146, 3) := dk_153 0 146 (dk_at dksX8_atom2_0 15 rfl rfl)
theorem dX8_atom2_18 : decode cX8_atom2 18 = .ok (.aload_n 0, 1) := dk_42 (dk_at dksX8_atom2_0 18 rfl rfl)
theorem dX8_atom2_19 : decode cX8_atom2 19 = .ok (.invokevirtual 272, 3) := dk_182 1 16 (dk_at dksX8_atom2_0 19 rfl rfl)
theorem dX8_atom2_22 : decode cX8_atom2 22 = .ok (.ineg, 1) := dk_116 (dk_at dksX8_atom2_0 22 rfl rfl)
theorem dX8_atom2_23 : decode cX8_atom2 23 = .ok (.istore_n 1, 1) := dk_60 (dk_at dksX8_atom2_0 23 rfl rfl)
theorem dX8_atom2_24 : decode cX8_atom2 24 = .ok (.aload_n 0, 1) := dk_42 (dk_at dksX8_atom2_1 0 rfl rfl)
theorem dX8_atom2_25 : decode cX8_atom2 25 = .ok (.dup, 1) := dk_89 (dk_at dksX8_atom2_1 1 rfl rfl)
theorem dX8_atom2_26 : decode cX8_atom2 26 = .ok (.getfield 190, 3) := dk_180 0 190 (dk_at dksX8_atom2_1 2 rfl rfl)
theorem dX8_atom2_29 : decode cX8_atom2 29 = .ok (.iconst 1, 1) := dk_4 (dk_at dksX8_atom2_1 5 rfl rfl)
theorem dX8_atom2_30 : decode cX8_atom2 30 = .ok (.isub, 1) := dk_100 (dk_at dksX8_atom2_1 6 rfl rfl)
theorem dX8_atom2_31 : decode cX8_atom2 31 = .ok (.putfield 190, 3) := dk_181 0 190 (dk_at dksX8_atom2_1 7 rfl rfl)
theorem dX8_atom2_34 : decode cX8_atom2 34 = .ok (.goto 127, 3) := dk_167 0 127 (dk_at dksX8_atom2_1 10 rfl rfl)
theorem dX8_atom2_37 : decode cX8_atom2 37 = .ok (.aload_n 0, 1) := dk_42 (dk_at dksX8_atom2_1 13 rfl rfl)
theorem dX8_atom2_38 : decode cX8_atom2 38 = .ok (.bipush 40, 2) := dk_16 40 (dk_at dksX8_atom2_1 14 rfl rfl)
theorem dX8_atom2_40 : decode cX8_atom2 40 = .ok (.invokevirtual 221, 3) := dk_182 0 221 (dk_at dksX8_atom2_1 16 rfl rfl)
theorem dX8_atom2_43 : decode cX8_atom2 43 = .ok (.ifCond .eq 52, 3) := dk_153 0 52 (dk_at dksX8_atom2_1 19 rfl rfl)
theorem dX8_atom2_46 : decode cX8_atom2 46 = .ok (.aload_n 0, 1) := dk_42 (dk_at dksX8_atom2_1 22 rfl rfl)
theorem dX8_atom2_47 : decode cX8_atom2 47 = .ok (.invokevirtual 224, 3) := dk_182 0 224 (dk_at dksX8_atom2_2 0 rfl rfl)
theorem dX8_atom2_50 : decode cX8_atom2 50 = .ok (.ifCond .eq 111, 3) := dk_153 0 111 (dk_at dksX8_atom2_2 3 rfl rfl)
theorem dX8_atom2_53 : decode cX8_atom2 53 = .ok (.aload_n 0, 1) := dk_42 (dk_at dksX8_atom2_2 6 rfl rfl)
theorem dX8_atom2_54 : decode cX8_atom2 54 = .ok (.invokevirtual 287, 3) := dk_182 1 31 (dk_at dksX8_atom2_2 7 rfl rfl)
theorem dX8_atom2_57 : decode cX8_atom2 57 = .ok (.istore_n 1, 1) := dk_60 (dk_at dksX8_atom2_2 10 rfl rfl)
theorem dX8_atom2_58 : decode cX8_atom2 58 = .ok (.aload_n 0, 1) := dk_42 (dk_at dksX8_atom2_2 11 rfl rfl)
theorem dX8_atom2_59 : decode cX8_atom2 59 = .ok (.bipush 41, 2) := dk_16 41 (dk_at dksX8_atom2_2 12 rfl rfl)
theorem dX8_atom2_61 : decode cX8_atom2 61 = .ok (.invokevirtual 221, 3) := dk_182 0 221 (dk_at dksX8_atom2_2 14 rfl rfl)
theorem dX8_atom2_64 : decode cX8_atom2 64 = .ok (.ifCond .ne 7, 3) := dk_154 0 7 (dk_at dksX8_atom2_2 17 rfl rfl)
theorem dX8_atom2_67 : decode cX8_atom2 67 = .ok (.aload_n 0, 1) := dk_42 (dk_at dksX8_atom2_2 20 rfl rfl)
theorem dX8_atom2_68 : decode cX8_atom2 68 = .ok (.invokevirtual 193, 3) := dk_182 0 193 (dk_at dksX8_atom2_2 21 rfl rfl)
theorem dX8_atom2_71 : decode cX8_atom2 71 = .ok (.aload_n 0, 1) := dk_42 (dk_at dksX8_atom2_3 0 rfl rfl)
theorem dX8_atom2_72 : decode cX8_atom2 72 = .ok (.dup, 1) := dk_89 (dk_at dksX8_atom2_3 1 rfl rfl)
theorem dX8_atom2_73 : decode cX8_atom2 73 = .ok (.getfield 190, 3) := dk_180 0 190 (dk_at dksX8_atom2_3 2 rfl rfl)
theorem dX8_atom2_76 : decode cX8_atom2 76 = .ok (.iconst 1, 1) := dk_4 (dk_at dksX8_atom2_3 5 rfl rfl)
theorem dX8_atom2_77 : decode cX8_atom2 77 = .ok (.isub, 1) := dk_100 (dk_at dksX8_atom2_3 6 rfl rfl)
theorem dX8_atom2_78 : decode cX8_atom2 78 = .ok (.putfield 190, 3) := dk_181 0 190 (dk_at dksX8_atom2_3 7 rfl rfl)
theorem dX8_atom2_81 : decode cX8_atom2 81 = .ok (.aload_n 0, 1) := dk_42 (dk_at dksX8_atom2_3 10 rfl rfl)
theorem dX8_atom2_82 : decode cX8_atom2 82 = .ok (.getfield 180, 3) := dk_180 0 180 (dk_at dksX8_atom2_3 11 rfl rfl)
theorem dX8_atom2_85 : decode cX8_atom2 85 = .ok (.ifCond .ne 76, 3) := dk_154 0 76 (dk_at dksX8_atom2_3 14 rfl rfl)
theorem dX8_atom2_88 : decode cX8_atom2 88 = .ok (.aload_n 0, 1) := dk_42 (dk_at dksX8_atom2_3 17 rfl rfl)
theorem dX8_atom2_89 : decode cX8_atom2 89 = .ok (.invokevirtual 196, 3) := dk_182 0 196 (dk_at dksX8_atom2_3 18 rfl rfl)
theorem dX8_atom2_92 : decode cX8_atom2 92 = .ok (.goto 69, 3) := dk_167 0 69 (dk_at dksX8_atom2_3 21 rfl rfl)
theorem dX8_atom2_95 : decode cX8_atom2 95 = .ok (.aload_n 0, 1) := dk_42 (dk_at dksX8_atom2_4 0 rfl rfl)
theorem dX8_atom2_96 : decode cX8_atom2 96 = .ok (.getfield 180, 3) := dk_180 0 180 (dk_at dksX8_atom2_4 1 rfl rfl)
theorem dX8_atom2_99 : decode cX8_atom2 99 = .ok (.ifCond .ne 24, 3) := dk_154 0 24 (dk_at dksX8_atom2_4 4 rfl rfl)
theorem dX8_atom2_102 : decode cX8_atom2 102 = .ok (.aload_n 0, 1) := dk_42 (dk_at dksX8_atom2_4 7 rfl rfl)
theorem dX8_atom2_103 : decode cX8_atom2 103 = .ok (.getfield 165, 3) := dk_180 0 165 (dk_at dksX8_atom2_4 8 rfl rfl)
theorem dX8_atom2_106 : decode cX8_atom2 106 = .ok (.iconst 2, 1) := dk_5 (dk_at dksX8_atom2_4 11 rfl rfl)
theorem dX8_atom2_107 : decode cX8_atom2 107 = .ok (.if_icmp .ne 16, 3) := dk_160 0 16 (dk_at dksX8_atom2_4 12 rfl rfl)
theorem dX8_atom2_110 : decode cX8_atom2 110 = .ok (.aload_n 0, 1) := dk_42 (dk_at dksX8_atom2_4 15 rfl rfl)
theorem dX8_atom2_111 : decode cX8_atom2 111 = .ok (.getfield 176, 3) := dk_180 0 176 (dk_at dksX8_atom2_4 16 rfl rfl)
theorem dX8_atom2_114 : decode cX8_atom2 114 = .ok (.l2i, 1) := dk_136 (dk_at dksX8_atom2_4 19 rfl rfl)
theorem dX8_atom2_115 : decode cX8_atom2 115 = .ok (.istore_n 1, 1) := dk_60 (dk_at dksX8_atom2_4 20 rfl rfl)
theorem dX8_atom2_116 : decode cX8_atom2 116 = .ok (.aload_n 0, 1) := dk_42 (dk_at dksX8_atom2_4 21 rfl rfl)
theorem dX8_atom2_117 : decode cX8_atom2 117 = .ok (.invokevirtual 196, 3) := dk_182 0 196 (dk_at dksX8_atom2_5 0 rfl rfl)
theorem dX8_atom2_120 : decode cX8_atom2 120 = .ok (.goto 41, 3) := dk_167 0 41 (dk_at dksX8_atom2_5 3 rfl rfl)
theorem dX8_atom2_123 : decode cX8_atom2 123 = .ok (.aload_n 0, 1) := dk_42 (dk_at dksX8_atom2_5 6 rfl rfl)
theorem dX8_atom2_124 : decode cX8_atom2 124 = .ok (.getfield 180, 3) := dk_180 0 180 (dk_at dksX8_atom2_5 7 rfl rfl)
theorem dX8_atom2_127 : decode cX8_atom2 127 = .ok (.ifCond .ne 30, 3) := dk_154 0 30 (dk_at dksX8_atom2_5 10 rfl rfl)
theorem dX8_atom2_130 : decode cX8_atom2 130 = .ok (.aload_n 0, 1) := dk_42 (dk_at dksX8_atom2_5 13 rfl rfl)
theorem dX8_atom2_131 : decode cX8_atom2 131 = .ok (.getfield 165, 3) := dk_180 0 165 (dk_at dksX8_atom2_5 14 rfl rfl)
theorem dX8_atom2_134 : decode cX8_atom2 134 = .ok (.iconst 1, 1) := dk_4 (dk_at dksX8_atom2_5 17 rfl rfl)
theorem dX8_atom2_135 : decode cX8_atom2 135 = .ok (.if_icmp .ne 22, 3) := dk_160 0 22 (dk_at dksX8_atom2_5 18 rfl rfl)
theorem dX8_atom2_138 : decode cX8_atom2 138 = .ok (.aload_n 0, 1) := dk_42 (dk_at dksX8_atom2_5 21 rfl rfl)
theorem dX8_atom2_139 : decode cX8_atom2 139 = .ok (.invokevirtual 228, 3) := dk_182 0 228 (dk_at dksX8_atom2_6 0 rfl rfl)
theorem dX8_atom2_142 : decode cX8_atom2 142 = .ok (.istore_n 1, 1) := dk_60 (dk_at dksX8_atom2_6 3 rfl rfl)
theorem dX8_atom2_143 : decode cX8_atom2 143 = .ok (.aload_n 0, 1) := dk_42 (dk_at dksX8_atom2_6 4 rfl rfl)
theorem dX8_atom2_144 : decode cX8_atom2 144 = .ok (.getfield 180, 3) := dk_180 0 180 (dk_at dksX8_atom2_6 5 rfl rfl)
theorem dX8_atom2_147 : decode cX8_atom2 147 = .ok (.ifCond .ne 14, 3) := dk_154 0 14 (dk_at dksX8_atom2_6 8 rfl rfl)
theorem dX8_atom2_150 : decode cX8_atom2 150 = .ok (.aload_n 0, 1) := dk_42 (dk_at dksX8_atom2_6 11 rfl rfl)
theorem dX8_atom2_151 : decode cX8_atom2 151 = .ok (.invokevirtual 196, 3) := dk_182 0 196 (dk_at dksX8_atom2_6 12 rfl rfl)
theorem dX8_atom2_154 : decode cX8_atom2 154 = .ok (.goto 7, 3) := dk_167 0 7 (dk_at dksX8_atom2_6 15 rfl rfl)
theorem dX8_atom2_157 : decode cX8_atom2 157 = .ok (.aload_n 0, 1) := dk_42 (dk_at dksX8_atom2_6 18 rfl rfl)
theorem dX8_atom2_158 : decode cX8_atom2 158 = .ok (.invokevirtual 193, 3) := dk_182 0 193 (dk_at dksX8_atom2_6 19 rfl rfl)
theorem dX8_atom2_161 : decode cX8_atom2 161 = .ok (.iload_n 1, 1) := dk_27 (dk_at dksX8_atom2_6 22 rfl rfl)
theorem dX8_atom2_162 : decode cX8_atom2 162 = .ok (.ireturn, 1) := dk_172 (dk_at dksX8_atom2_6 23 rfl rfl)
abbrev cX8_either3 : ByteArray := prog_16_method_43_code
def yX8_either3 : MethodName := ⟨RX8, "either3", "()I"⟩
def dkwX8_either3_2 : List UInt8 := [167, 255, 216, 27, 172]
abbrev dktX8_either3_2 : List UInt8 := dkwX8_either3_2 ++ []
def dkwX8_either3_1 : List UInt8 := [182, 0, 196, 42, 182, 1, 28, 61, 27, 154, 0, 7, 28, 153, 0, 7, 4, 167, 0, 4, 3, 60]
abbrev dktX8_either3_1 : List UInt8 := dkwX8_either3_1 ++ dktX8_either3_2
def dkwX8_either3_0 : List UInt8 := [42, 182, 1, 28, 60, 42, 16, 111, 16, 114, 3, 3, 3, 3, 3, 3, 182, 0, 199, 153, 0, 29, 42]
abbrev dktX8_either3_0 : List UInt8 := dkwX8_either3_0 ++ dktX8_either3_1
theorem dksX8_either3_0 : cX8_either3.data.toList.drop 0 = dktX8_either3_0 := by decide +kernel
theorem dksX8_either3_1 : cX8_either3.data.toList.drop 23 = dktX8_either3_1 := dk_seg dksX8_either3_0 23 rfl rfl
theorem dksX8_either3_2 : cX8_either3.data.toList.drop 45 = dktX8_either3_2 := dk_seg dksX8_either3_1 22 rfl rfl
theorem dX8_either3_0 : decode cX8_either3 0 = .ok (.aload_n 0, 1) := dk_42 (dk_at dksX8_either3_0 0 rfl rfl)
theorem dX8_either3_1 : decode cX8_either3 1 = .ok (.invokevirtual 284, 3) := dk_182 1 28 (dk_at dksX8_either3_0 1 rfl rfl)
theorem dX8_either3_4 : decode cX8_either3 4 = .ok (.istore_n 1, 1) := dk_60 (dk_at dksX8_either3_0 4 rfl rfl)
theorem dX8_either3_5 : decode cX8_either3 5 = .ok (.aload_n 0, 1) := dk_42 (dk_at dksX8_either3_0 5 rfl rfl)
theorem dX8_either3_6 : decode cX8_either3 6 = .ok (.bipush 111, 2) := dk_16 111 (dk_at dksX8_either3_0 6 rfl rfl)
theorem dX8_either3_8 : decode cX8_either3 8 = .ok (.bipush 114, 2) := dk_16 114 (dk_at dksX8_either3_0 8 rfl rfl)
theorem dX8_either3_10 : decode cX8_either3 10 = .ok (.iconst 0, 1) := dk_3 (dk_at dksX8_either3_0 10 rfl rfl)
theorem dX8_either3_11 : decode cX8_either3 11 = .ok (.iconst 0, 1) := dk_3 (dk_at dksX8_either3_0 11 rfl rfl)
theorem dX8_either3_12 : decode cX8_either3 12 = .ok (.iconst 0, 1) := dk_3 (dk_at dksX8_either3_0 12 rfl rfl)
theorem dX8_either3_13 : decode cX8_either3 13 = .ok (.iconst 0, 1) := dk_3 (dk_at dksX8_either3_0 13 rfl rfl)
theorem dX8_either3_14 : decode cX8_either3 14 = .ok (.iconst 0, 1) := dk_3 (dk_at dksX8_either3_0 14 rfl rfl)
theorem dX8_either3_15 : decode cX8_either3 15 = .ok (.iconst 0, 1) := dk_3 (dk_at dksX8_either3_0 15 rfl rfl)
theorem dX8_either3_16 : decode cX8_either3 16 = .ok (.invokevirtual 199, 3) := dk_182 0 199 (dk_at dksX8_either3_0 16 rfl rfl)
theorem dX8_either3_19 : decode cX8_either3 19 = .ok (.ifCond .eq 29, 3) := dk_153 0 29 (dk_at dksX8_either3_0 19 rfl rfl)
theorem dX8_either3_22 : decode cX8_either3 22 = .ok (.aload_n 0, 1) := dk_42 (dk_at dksX8_either3_0 22 rfl rfl)
theorem dX8_either3_23 : decode cX8_either3 23 = .ok (.invokevirtual 196, 3) := dk_182 0 196 (dk_at dksX8_either3_1 0 rfl rfl)
theorem dX8_either3_26 : decode cX8_either3 26 = .ok (.aload_n 0, 1) := dk_42 (dk_at dksX8_either3_1 3 rfl rfl)
theorem dX8_either3_27 : decode cX8_either3 27 = .ok (.invokevirtual 284, 3) := dk_182 1 28 (dk_at dksX8_either3_1 4 rfl rfl)
theorem dX8_either3_30 : decode cX8_either3 30 = .ok (.istore_n 2, 1) := dk_61 (dk_at dksX8_either3_1 7 rfl rfl)
theorem dX8_either3_31 : decode cX8_either3 31 = .ok (.iload_n 1, 1) := dk_27 (dk_at dksX8_either3_1 8 rfl rfl)
theorem dX8_either3_32 : decode cX8_either3 32 = .ok (.ifCond .ne 7, 3) := dk_154 0 7 (dk_at dksX8_either3_1 9 rfl rfl)
theorem dX8_either3_35 : decode cX8_either3 35 = .ok (.iload_n 2, 1) := dk_28 (dk_at dksX8_either3_1 12 rfl rfl)
theorem dX8_either3_36 : decode cX8_either3 36 = .ok (.ifCond .eq 7, 3) := dk_153 0 7 (dk_at dksX8_either3_1 13 rfl rfl)
theorem dX8_either3_39 : decode cX8_either3 39 = .ok (.iconst 1, 1) := dk_4 (dk_at dksX8_either3_1 16 rfl rfl)
theorem dX8_either3_40 : decode cX8_either3 40 = .ok (.goto 4, 3) := dk_167 0 4 (dk_at dksX8_either3_1 17 rfl rfl)
theorem dX8_either3_43 : decode cX8_either3 43 = .ok (.iconst 0, 1) := dk_3 (dk_at dksX8_either3_1 20 rfl rfl)
theorem dX8_either3_44 : decode cX8_either3 44 = .ok (.istore_n 1, 1) := dk_60 (dk_at dksX8_either3_1 21 rfl rfl)
theorem dX8_either3_45 : decode cX8_either3 45 = .ok (.goto (-40), 3) := dk_167 255 216 (dk_at dksX8_either3_2 0 rfl rfl)
theorem dX8_either3_48 : decode cX8_either3 48 = .ok (.iload_n 1, 1) := dk_27 (dk_at dksX8_either3_2 3 rfl rfl)
theorem dX8_either3_49 : decode cX8_either3 49 = .ok (.ireturn, 1) := dk_172 (dk_at dksX8_either3_2 4 rfl rfl)
abbrev cX8_both3 : ByteArray := prog_16_method_42_code
def yX8_both3 : MethodName := ⟨RX8, "both3", "()I"⟩
def dkwX8_both3_2 : List UInt8 := [167, 255, 215, 27, 172]
abbrev dktX8_both3_2 : List UInt8 := dkwX8_both3_2 ++ []
def dkwX8_both3_1 : List UInt8 := [182, 0, 196, 42, 182, 1, 25, 61, 27, 153, 0, 11, 28, 153, 0, 7, 4, 167, 0, 4, 3, 60]
abbrev dktX8_both3_1 : List UInt8 := dkwX8_both3_1 ++ dktX8_both3_2
def dkwX8_both3_0 : List UInt8 := [42, 182, 1, 25, 60, 42, 16, 97, 16, 110, 16, 100, 3, 3, 3, 3, 3, 182, 0, 199, 153, 0, 29, 42]
abbrev dktX8_both3_0 : List UInt8 := dkwX8_both3_0 ++ dktX8_both3_1
theorem dksX8_both3_0 : cX8_both3.data.toList.drop 0 = dktX8_both3_0 := by decide +kernel
theorem dksX8_both3_1 : cX8_both3.data.toList.drop 24 = dktX8_both3_1 := dk_seg dksX8_both3_0 24 rfl rfl
theorem dksX8_both3_2 : cX8_both3.data.toList.drop 46 = dktX8_both3_2 := dk_seg dksX8_both3_1 22 rfl rfl
theorem dX8_both3_0 : decode cX8_both3 0 = .ok (.aload_n 0, 1) := dk_42 (dk_at dksX8_both3_0 0 rfl rfl)
theorem dX8_both3_1 : decode cX8_both3 1 = .ok (.invokevirtual 281, 3) := dk_182 1 25 (dk_at dksX8_both3_0 1 rfl rfl)
theorem dX8_both3_4 : decode cX8_both3 4 = .ok (.istore_n 1, 1) := dk_60 (dk_at dksX8_both3_0 4 rfl rfl)
theorem dX8_both3_5 : decode cX8_both3 5 = .ok (.aload_n 0, 1) := dk_42 (dk_at dksX8_both3_0 5 rfl rfl)
theorem dX8_both3_6 : decode cX8_both3 6 = .ok (.bipush 97, 2) := dk_16 97 (dk_at dksX8_both3_0 6 rfl rfl)
theorem dX8_both3_8 : decode cX8_both3 8 = .ok (.bipush 110, 2) := dk_16 110 (dk_at dksX8_both3_0 8 rfl rfl)
theorem dX8_both3_10 : decode cX8_both3 10 = .ok (.bipush 100, 2) := dk_16 100 (dk_at dksX8_both3_0 10 rfl rfl)
theorem dX8_both3_12 : decode cX8_both3 12 = .ok (.iconst 0, 1) := dk_3 (dk_at dksX8_both3_0 12 rfl rfl)
theorem dX8_both3_13 : decode cX8_both3 13 = .ok (.iconst 0, 1) := dk_3 (dk_at dksX8_both3_0 13 rfl rfl)
theorem dX8_both3_14 : decode cX8_both3 14 = .ok (.iconst 0, 1) := dk_3 (dk_at dksX8_both3_0 14 rfl rfl)
theorem dX8_both3_15 : decode cX8_both3 15 = .ok (.iconst 0, 1) := dk_3 (dk_at dksX8_both3_0 15 rfl rfl)
theorem dX8_both3_16 : decode cX8_both3 16 = .ok (.iconst 0, 1) := dk_3 (dk_at dksX8_both3_0 16 rfl rfl)
theorem dX8_both3_17 : decode cX8_both3 17 = .ok (.invokevirtual 199, 3) := dk_182 0 199 (dk_at dksX8_both3_0 17 rfl rfl)
theorem dX8_both3_20 : decode cX8_both3 20 = .ok (.ifCond .eq 29, 3) := dk_153 0 29 (dk_at dksX8_both3_0 20 rfl rfl)
theorem dX8_both3_23 : decode cX8_both3 23 = .ok (.aload_n 0, 1) := dk_42 (dk_at dksX8_both3_0 23 rfl rfl)
theorem dX8_both3_24 : decode cX8_both3 24 = .ok (.invokevirtual 196, 3) := dk_182 0 196 (dk_at dksX8_both3_1 0 rfl rfl)
theorem dX8_both3_27 : decode cX8_both3 27 = .ok (.aload_n 0, 1) := dk_42 (dk_at dksX8_both3_1 3 rfl rfl)
theorem dX8_both3_28 : decode cX8_both3 28 = .ok (.invokevirtual 281, 3) := dk_182 1 25 (dk_at dksX8_both3_1 4 rfl rfl)
theorem dX8_both3_31 : decode cX8_both3 31 = .ok (.istore_n 2, 1) := dk_61 (dk_at dksX8_both3_1 7 rfl rfl)
theorem dX8_both3_32 : decode cX8_both3 32 = .ok (.iload_n 1, 1) := dk_27 (dk_at dksX8_both3_1 8 rfl rfl)
theorem dX8_both3_33 : decode cX8_both3 33 = .ok (.ifCond .eq 11, 3) := dk_153 0 11 (dk_at dksX8_both3_1 9 rfl rfl)
theorem dX8_both3_36 : decode cX8_both3 36 = .ok (.iload_n 2, 1) := dk_28 (dk_at dksX8_both3_1 12 rfl rfl)
theorem dX8_both3_37 : decode cX8_both3 37 = .ok (.ifCond .eq 7, 3) := dk_153 0 7 (dk_at dksX8_both3_1 13 rfl rfl)
theorem dX8_both3_40 : decode cX8_both3 40 = .ok (.iconst 1, 1) := dk_4 (dk_at dksX8_both3_1 16 rfl rfl)
theorem dX8_both3_41 : decode cX8_both3 41 = .ok (.goto 4, 3) := dk_167 0 4 (dk_at dksX8_both3_1 17 rfl rfl)
theorem dX8_both3_44 : decode cX8_both3 44 = .ok (.iconst 0, 1) := dk_3 (dk_at dksX8_both3_1 20 rfl rfl)
theorem dX8_both3_45 : decode cX8_both3 45 = .ok (.istore_n 1, 1) := dk_60 (dk_at dksX8_both3_1 21 rfl rfl)
theorem dX8_both3_46 : decode cX8_both3 46 = .ok (.goto (-41), 3) := dk_167 255 215 (dk_at dksX8_both3_2 0 rfl rfl)
theorem dX8_both3_49 : decode cX8_both3 49 = .ok (.iload_n 1, 1) := dk_27 (dk_at dksX8_both3_2 3 rfl rfl)
theorem dX8_both3_50 : decode cX8_both3 50 = .ok (.ireturn, 1) := dk_172 (dk_at dksX8_both3_2 4 rfl rfl)
abbrev cX8_added1 : ByteArray := prog_16_method_52_code
def yX8_added1 : MethodName := ⟨RX8, "added1", "()I"⟩
def dkwX8_added1_2 : List UInt8 := [62, 28, 153, 0, 9, 27, 29, 96, 167, 0, 6, 27, 29, 100, 60, 167, 255, 198, 27, 172]
abbrev dktX8_added1_2 : List UInt8 := dkwX8_added1_2 ++ []
def dkwX8_added1_1 : List UInt8 := [180, 0, 176, 20, 0, 238, 148, 154, 0, 7, 4, 167, 0, 4, 3, 61, 42, 182, 0, 196, 42, 182, 1, 55]
abbrev dktX8_added1_1 : List UInt8 := dkwX8_added1_1 ++ dktX8_added1_2
def dkwX8_added1_0 : List UInt8 := [42, 182, 1, 55, 60, 42, 16, 43, 182, 0, 221, 154, 0, 12, 42, 16, 45, 182, 0, 221, 153, 0, 46, 42]
abbrev dktX8_added1_0 : List UInt8 := dkwX8_added1_0 ++ dktX8_added1_1
theorem dksX8_added1_0 : cX8_added1.data.toList.drop 0 = dktX8_added1_0 := by decide +kernel
theorem dksX8_added1_1 : cX8_added1.data.toList.drop 24 = dktX8_added1_1 := dk_seg dksX8_added1_0 24 rfl rfl
theorem dksX8_added1_2 : cX8_added1.data.toList.drop 48 = dktX8_added1_2 := dk_seg dksX8_added1_1 24 rfl rfl
theorem dX8_added1_0 : decode cX8_added1 0 = .ok (.aload_n 0, 1) := dk_42 (dk_at dksX8_added1_0 0 rfl rfl)
theorem dX8_added1_1 : decode cX8_added1 1 = .ok (.invokevirtual 311, 3) := dk_182 1 55 (dk_at dksX8_added1_0 1 rfl rfl)
theorem dX8_added1_4 : decode cX8_added1 4 = .ok (.istore_n 1, 1) := dk_60 (dk_at dksX8_added1_0 4 rfl rfl)
theorem dX8_added1_5 : decode cX8_added1 5 = .ok (.aload_n 0, 1) := dk_42 (dk_at dksX8_added1_0 5 rfl rfl)
theorem dX8_added1_6 : decode cX8_added1 6 = .ok (.bipush 43, 2) := dk_16 43 (dk_at dksX8_added1_0 6 rfl rfl)
theorem dX8_added1_8 : decode cX8_added1 8 = .ok (.invokevirtual 221, 3) := dk_182 0 221 (dk_at dksX8_added1_0 8 rfl rfl)
theorem dX8_added1_11 : decode cX8_added1 11 = .ok (.ifCond .ne 12, 3) := dk_154 0 12 (dk_at dksX8_added1_0 11 rfl rfl)
theorem dX8_added1_14 : decode cX8_added1 14 = .ok (.aload_n 0, 1) := dk_42 (dk_at dksX8_added1_0 14 rfl rfl)
theorem dX8_added1_15 : decode cX8_added1 15 = .ok (.bipush 45, 2) := dk_16 45 (dk_at dksX8_added1_0 15 rfl rfl)
theorem dX8_added1_17 : decode cX8_added1 17 = .ok (.invokevirtual 221, 3) := dk_182 0 221 (dk_at dksX8_added1_0 17 rfl rfl)
theorem dX8_added1_20 : decode cX8_added1 20 = .ok (.ifCond .eq 46, 3) := dk_153 0 46 (dk_at dksX8_added1_0 20 rfl rfl)
theorem dX8_added1_23 : decode cX8_added1 23 = .ok (.aload_n 0, 1) := dk_42 (dk_at dksX8_added1_0 23 rfl rfl)
theorem dX8_added1_24 : decode cX8_added1 24 = .ok (.getfield 176, 3) := dk_180 0 176 (dk_at dksX8_added1_1 0 rfl rfl)
theorem dX8_added1_27 : decode cX8_added1 27 = .ok (.ldc2_w 238, 3) := dk_20 0 238 (dk_at dksX8_added1_1 3 rfl rfl)
theorem dX8_added1_30 : decode cX8_added1 30 = .ok (.lcmp, 1) := dk_148 (dk_at dksX8_added1_1 6 rfl rfl)
theorem dX8_added1_31 : decode cX8_added1 31 = .ok (.ifCond .ne 7, 3) := dk_154 0 7 (dk_at dksX8_added1_1 7 rfl rfl)
theorem dX8_added1_34 : decode cX8_added1 34 = .ok (.iconst 1, 1) := dk_4 (dk_at dksX8_added1_1 10 rfl rfl)
theorem dX8_added1_35 : decode cX8_added1 35 = .ok (.goto 4, 3) := dk_167 0 4 (dk_at dksX8_added1_1 11 rfl rfl)
theorem dX8_added1_38 : decode cX8_added1 38 = .ok (.iconst 0, 1) := dk_3 (dk_at dksX8_added1_1 14 rfl rfl)
theorem dX8_added1_39 : decode cX8_added1 39 = .ok (.istore_n 2, 1) := dk_61 (dk_at dksX8_added1_1 15 rfl rfl)
theorem dX8_added1_40 : decode cX8_added1 40 = .ok (.aload_n 0, 1) := dk_42 (dk_at dksX8_added1_1 16 rfl rfl)
theorem dX8_added1_41 : decode cX8_added1 41 = .ok (.invokevirtual 196, 3) := dk_182 0 196 (dk_at dksX8_added1_1 17 rfl rfl)
theorem dX8_added1_44 : decode cX8_added1 44 = .ok (.aload_n 0, 1) := dk_42 (dk_at dksX8_added1_1 20 rfl rfl)
theorem dX8_added1_45 : decode cX8_added1 45 = .ok (.invokevirtual 311, 3) := dk_182 1 55 (dk_at dksX8_added1_1 21 rfl rfl)
theorem dX8_added1_48 : decode cX8_added1 48 = .ok (.istore_n 3, 1) := dk_62 (dk_at dksX8_added1_2 0 rfl rfl)
theorem dX8_added1_49 : decode cX8_added1 49 = .ok (.iload_n 2, 1) := dk_28 (dk_at dksX8_added1_2 1 rfl rfl)
theorem dX8_added1_50 : decode cX8_added1 50 = .ok (.ifCond .eq 9, 3) := dk_153 0 9 (dk_at dksX8_added1_2 2 rfl rfl)
theorem dX8_added1_53 : decode cX8_added1 53 = .ok (.iload_n 1, 1) := dk_27 (dk_at dksX8_added1_2 5 rfl rfl)
theorem dX8_added1_54 : decode cX8_added1 54 = .ok (.iload_n 3, 1) := dk_29 (dk_at dksX8_added1_2 6 rfl rfl)
theorem dX8_added1_55 : decode cX8_added1 55 = .ok (.iadd, 1) := dk_96 (dk_at dksX8_added1_2 7 rfl rfl)
theorem dX8_added1_56 : decode cX8_added1 56 = .ok (.goto 6, 3) := dk_167 0 6 (dk_at dksX8_added1_2 8 rfl rfl)
theorem dX8_added1_59 : decode cX8_added1 59 = .ok (.iload_n 1, 1) := dk_27 (dk_at dksX8_added1_2 11 rfl rfl)
theorem dX8_added1_60 : decode cX8_added1 60 = .ok (.iload_n 3, 1) := dk_29 (dk_at dksX8_added1_2 12 rfl rfl)
theorem dX8_added1_61 : decode cX8_added1 61 = .ok (.isub, 1) := dk_100 (dk_at dksX8_added1_2 13 rfl rfl)
theorem dX8_added1_62 : decode cX8_added1 62 = .ok (.istore_n 1, 1) := dk_60 (dk_at dksX8_added1_2 14 rfl rfl)
theorem dX8_added1_63 : decode cX8_added1 63 = .ok (.goto (-58), 3) := dk_167 255 198 (dk_at dksX8_added1_2 15 rfl rfl)
theorem dX8_added1_66 : decode cX8_added1 66 = .ok (.iload_n 1, 1) := dk_27 (dk_at dksX8_added1_2 18 rfl rfl)
theorem dX8_added1_67 : decode cX8_added1 67 = .ok (.ireturn, 1) := dk_172 (dk_at dksX8_added1_2 19 rfl rfl)
abbrev cX8_term1 : ByteArray := prog_16_method_51_code
def yX8_term1 : MethodName := ⟨RX8, "term1", "()I"⟩
def dkwX8_term1_1 : List UInt8 := [60, 167, 255, 236, 27, 172]
abbrev dktX8_term1_1 : List UInt8 := dkwX8_term1_1 ++ []
def dkwX8_term1_0 : List UInt8 := [42, 182, 1, 52, 60, 42, 16, 42, 182, 0, 221, 153, 0, 17, 42, 182, 0, 196, 27, 42, 182, 1, 52, 104]
abbrev dktX8_term1_0 : List UInt8 := dkwX8_term1_0 ++ dktX8_term1_1
theorem dksX8_term1_0 : cX8_term1.data.toList.drop 0 = dktX8_term1_0 := by decide +kernel
theorem dksX8_term1_1 : cX8_term1.data.toList.drop 24 = dktX8_term1_1 := dk_seg dksX8_term1_0 24 rfl rfl
theorem dX8_term1_0 : decode cX8_term1 0 = .ok (.aload_n 0, 1) := dk_42 (dk_at dksX8_term1_0 0 rfl rfl)
theorem dX8_term1_1 : decode cX8_term1 1 = .ok (.invokevirtual 308, 3) := dk_182 1 52 (dk_at dksX8_term1_0 1 rfl rfl)
theorem dX8_term1_4 : decode cX8_term1 4 = .ok (.istore_n 1, 1) := dk_60 (dk_at dksX8_term1_0 4 rfl rfl)
theorem dX8_term1_5 : decode cX8_term1 5 = .ok (.aload_n 0, 1) := dk_42 (dk_at dksX8_term1_0 5 rfl rfl)
theorem dX8_term1_6 : decode cX8_term1 6 = .ok (.bipush 42, 2) := dk_16 42 (dk_at dksX8_term1_0 6 rfl rfl)
theorem dX8_term1_8 : decode cX8_term1 8 = .ok (.invokevirtual 221, 3) := dk_182 0 221 (dk_at dksX8_term1_0 8 rfl rfl)
theorem dX8_term1_11 : decode cX8_term1 11 = .ok (.ifCond .eq 17, 3) := dk_153 0 17 (dk_at dksX8_term1_0 11 rfl rfl)
theorem dX8_term1_14 : decode cX8_term1 14 = .ok (.aload_n 0, 1) := dk_42 (dk_at dksX8_term1_0 14 rfl rfl)
theorem dX8_term1_15 : decode cX8_term1 15 = .ok (.invokevirtual 196, 3) := dk_182 0 196 (dk_at dksX8_term1_0 15 rfl rfl)
theorem dX8_term1_18 : decode cX8_term1 18 = .ok (.iload_n 1, 1) := dk_27 (dk_at dksX8_term1_0 18 rfl rfl)
theorem dX8_term1_19 : decode cX8_term1 19 = .ok (.aload_n 0, 1) := dk_42 (dk_at dksX8_term1_0 19 rfl rfl)
theorem dX8_term1_20 : decode cX8_term1 20 = .ok (.invokevirtual 308, 3) := dk_182 1 52 (dk_at dksX8_term1_0 20 rfl rfl)
theorem dX8_term1_23 : decode cX8_term1 23 = .ok (.imul, 1) := dk_104 (dk_at dksX8_term1_0 23 rfl rfl)
theorem dX8_term1_24 : decode cX8_term1 24 = .ok (.istore_n 1, 1) := dk_60 (dk_at dksX8_term1_1 0 rfl rfl)
theorem dX8_term1_25 : decode cX8_term1 25 = .ok (.goto (-20), 3) := dk_167 255 236 (dk_at dksX8_term1_1 1 rfl rfl)
theorem dX8_term1_28 : decode cX8_term1 28 = .ok (.iload_n 1, 1) := dk_27 (dk_at dksX8_term1_1 4 rfl rfl)
theorem dX8_term1_29 : decode cX8_term1 29 = .ok (.ireturn, 1) := dk_172 (dk_at dksX8_term1_1 5 rfl rfl)
abbrev cX8_atom1 : ByteArray := prog_16_method_50_code
def yX8_atom1 : MethodName := ⟨RX8, "atom1", "()I"⟩
def dkwX8_atom1_6 : List UInt8 := [182, 0, 228, 60, 42, 180, 0, 180, 154, 0, 14, 42, 182, 0, 196, 167, 0, 7, 42, 182, 0, 193, 27, 172]
abbrev dktX8_atom1_6 : List UInt8 := dkwX8_atom1_6 ++ []
def dkwX8_atom1_5 : List UInt8 := [182, 0, 196, 167, 0, 41, 42, 180, 0, 180, 154, 0, 30, 42, 180, 0, 165, 4, 160, 0, 22, 42]
abbrev dktX8_atom1_5 : List UInt8 := dkwX8_atom1_5 ++ dktX8_atom1_6
def dkwX8_atom1_4 : List UInt8 := [42, 180, 0, 180, 154, 0, 24, 42, 180, 0, 165, 5, 160, 0, 16, 42, 180, 0, 176, 136, 60, 42]
abbrev dktX8_atom1_4 : List UInt8 := dkwX8_atom1_4 ++ dktX8_atom1_5
def dkwX8_atom1_3 : List UInt8 := [42, 89, 180, 0, 190, 4, 100, 181, 0, 190, 42, 180, 0, 180, 154, 0, 76, 42, 182, 0, 196, 167, 0, 69]
abbrev dktX8_atom1_3 : List UInt8 := dkwX8_atom1_3 ++ dktX8_atom1_4
def dkwX8_atom1_2 : List UInt8 := [182, 0, 224, 153, 0, 111, 42, 182, 1, 49, 60, 42, 16, 41, 182, 0, 221, 154, 0, 7, 42, 182, 0, 193]
abbrev dktX8_atom1_2 : List UInt8 := dkwX8_atom1_2 ++ dktX8_atom1_3
def dkwX8_atom1_1 : List UInt8 := [42, 89, 180, 0, 190, 4, 100, 181, 0, 190, 167, 0, 127, 42, 16, 40, 182, 0, 221, 153, 0, 52, 42]
abbrev dktX8_atom1_1 : List UInt8 := dkwX8_atom1_1 ++ dktX8_atom1_2
def dkwX8_atom1_0 : List UInt8 := [3, 60, 42, 16, 45, 182, 0, 221, 153, 0, 29, 42, 182, 0, 224, 153, 0, 146, 42, 182, 1, 34, 116, 60]
abbrev dktX8_atom1_0 : List UInt8 := dkwX8_atom1_0 ++ dktX8_atom1_1
theorem dksX8_atom1_0 : cX8_atom1.data.toList.drop 0 = dktX8_atom1_0 := by decide +kernel
theorem dksX8_atom1_1 : cX8_atom1.data.toList.drop 24 = dktX8_atom1_1 := dk_seg dksX8_atom1_0 24 rfl rfl
theorem dksX8_atom1_2 : cX8_atom1.data.toList.drop 47 = dktX8_atom1_2 := dk_seg dksX8_atom1_1 23 rfl rfl
theorem dksX8_atom1_3 : cX8_atom1.data.toList.drop 71 = dktX8_atom1_3 := dk_seg dksX8_atom1_2 24 rfl rfl
theorem dksX8_atom1_4 : cX8_atom1.data.toList.drop 95 = dktX8_atom1_4 := dk_seg dksX8_atom1_3 24 rfl rfl
theorem dksX8_atom1_5 : cX8_atom1.data.toList.drop 117 = dktX8_atom1_5 := dk_seg dksX8_atom1_4 22 rfl rfl
theorem dksX8_atom1_6 : cX8_atom1.data.toList.drop 139 = dktX8_atom1_6 := dk_seg dksX8_atom1_5 22 rfl rfl
theorem dX8_atom1_0 : decode cX8_atom1 0 = .ok (.iconst 0, 1) := dk_3 (dk_at dksX8_atom1_0 0 rfl rfl)
theorem dX8_atom1_1 : decode cX8_atom1 1 = .ok (.istore_n 1, 1) := dk_60 (dk_at dksX8_atom1_0 1 rfl rfl)
theorem dX8_atom1_2 : decode cX8_atom1 2 = .ok (.aload_n 0, 1) := dk_42 (dk_at dksX8_atom1_0 2 rfl rfl)
theorem dX8_atom1_3 : decode cX8_atom1 3 = .ok (.bipush 45, 2) := dk_16 45 (dk_at dksX8_atom1_0 3 rfl rfl)
theorem dX8_atom1_5 : decode cX8_atom1 5 = .ok (.invokevirtual 221, 3) := dk_182 0 221 (dk_at dksX8_atom1_0 5 rfl rfl)
theorem dX8_atom1_8 : decode cX8_atom1 8 = .ok (.ifCond .eq 29, 3) := dk_153 0 29 (dk_at dksX8_atom1_0 8 rfl rfl)
theorem dX8_atom1_11 : decode cX8_atom1 11 = .ok (.aload_n 0, 1) := dk_42 (dk_at dksX8_atom1_0 11 rfl rfl)
theorem dX8_atom1_12 : decode cX8_atom1 12 = .ok (.invokevirtual 224, 3) := dk_182 0 224 (dk_at dksX8_atom1_0 12 rfl rfl)
theorem dX8_atom1_15 : decode cX8_atom1 15 = .ok (.ifCond .eq 146, 3) := dk_153 0 146 (dk_at dksX8_atom1_0 15 rfl rfl)
theorem dX8_atom1_18 : decode cX8_atom1 18 = .ok (.aload_n 0, 1) := dk_42 (dk_at dksX8_atom1_0 18 rfl rfl)
theorem dX8_atom1_19 : decode cX8_atom1 19 = .ok (.invokevirtual 290, 3) := dk_182 1 34 (dk_at dksX8_atom1_0 19 rfl rfl)
theorem dX8_atom1_22 : decode cX8_atom1 22 = .ok (.ineg, 1) := dk_116 (dk_at dksX8_atom1_0 22 rfl rfl)
theorem dX8_atom1_23 : decode cX8_atom1 23 = .ok (.istore_n 1, 1) := dk_60 (dk_at dksX8_atom1_0 23 rfl rfl)
theorem dX8_atom1_24 : decode cX8_atom1 24 = .ok (.aload_n 0, 1) := dk_42 (dk_at dksX8_atom1_1 0 rfl rfl)
theorem dX8_atom1_25 : decode cX8_atom1 25 = .ok (.dup, 1) := dk_89 (dk_at dksX8_atom1_1 1 rfl rfl)
theorem dX8_atom1_26 : decode cX8_atom1 26 = .ok (.getfield 190, 3) := dk_180 0 190 (dk_at dksX8_atom1_1 2 rfl rfl)
theorem dX8_atom1_29 : decode cX8_atom1 29 = .ok (.iconst 1, 1) := dk_4 (dk_at dksX8_atom1_1 5 rfl rfl)
theorem dX8_atom1_30 : decode cX8_atom1 30 = .ok (.isub, 1) := dk_100 (dk_at dksX8_atom1_1 6 rfl rfl)
theorem dX8_atom1_31 : decode cX8_atom1 31 = .ok (.putfield 190, 3) := dk_181 0 190 (dk_at dksX8_atom1_1 7 rfl rfl)
theorem dX8_atom1_34 : decode cX8_atom1 34 = .ok (.goto 127, 3) := dk_167 0 127 (dk_at dksX8_atom1_1 10 rfl rfl)
theorem dX8_atom1_37 : decode cX8_atom1 37 = .ok (.aload_n 0, 1) := dk_42 (dk_at dksX8_atom1_1 13 rfl rfl)
theorem dX8_atom1_38 : decode cX8_atom1 38 = .ok (.bipush 40, 2) := dk_16 40 (dk_at dksX8_atom1_1 14 rfl rfl)
theorem dX8_atom1_40 : decode cX8_atom1 40 = .ok (.invokevirtual 221, 3) := dk_182 0 221 (dk_at dksX8_atom1_1 16 rfl rfl)
theorem dX8_atom1_43 : decode cX8_atom1 43 = .ok (.ifCond .eq 52, 3) := dk_153 0 52 (dk_at dksX8_atom1_1 19 rfl rfl)
theorem dX8_atom1_46 : decode cX8_atom1 46 = .ok (.aload_n 0, 1) := dk_42 (dk_at dksX8_atom1_1 22 rfl rfl)
theorem dX8_atom1_47 : decode cX8_atom1 47 = .ok (.invokevirtual 224, 3) := dk_182 0 224 (dk_at dksX8_atom1_2 0 rfl rfl)
theorem dX8_atom1_50 : decode cX8_atom1 50 = .ok (.ifCond .eq 111, 3) := dk_153 0 111 (dk_at dksX8_atom1_2 3 rfl rfl)
theorem dX8_atom1_53 : decode cX8_atom1 53 = .ok (.aload_n 0, 1) := dk_42 (dk_at dksX8_atom1_2 6 rfl rfl)
theorem dX8_atom1_54 : decode cX8_atom1 54 = .ok (.invokevirtual 305, 3) := dk_182 1 49 (dk_at dksX8_atom1_2 7 rfl rfl)
theorem dX8_atom1_57 : decode cX8_atom1 57 = .ok (.istore_n 1, 1) := dk_60 (dk_at dksX8_atom1_2 10 rfl rfl)
theorem dX8_atom1_58 : decode cX8_atom1 58 = .ok (.aload_n 0, 1) := dk_42 (dk_at dksX8_atom1_2 11 rfl rfl)
theorem dX8_atom1_59 : decode cX8_atom1 59 = .ok (.bipush 41, 2) := dk_16 41 (dk_at dksX8_atom1_2 12 rfl rfl)
theorem dX8_atom1_61 : decode cX8_atom1 61 = .ok (.invokevirtual 221, 3) := dk_182 0 221 (dk_at dksX8_atom1_2 14 rfl rfl)
theorem dX8_atom1_64 : decode cX8_atom1 64 = .ok (.ifCond .ne 7, 3) := dk_154 0 7 (dk_at dksX8_atom1_2 17 rfl rfl)
theorem dX8_atom1_67 : decode cX8_atom1 67 = .ok (.aload_n 0, 1) := dk_42 (dk_at dksX8_atom1_2 20 rfl rfl)
theorem dX8_atom1_68 : decode cX8_atom1 68 = .ok (.invokevirtual 193, 3) := dk_182 0 193 (dk_at dksX8_atom1_2 21 rfl rfl)
theorem dX8_atom1_71 : decode cX8_atom1 71 = .ok (.aload_n 0, 1) := dk_42 (dk_at dksX8_atom1_3 0 rfl rfl)
theorem dX8_atom1_72 : decode cX8_atom1 72 = .ok (.dup, 1) := dk_89 (dk_at dksX8_atom1_3 1 rfl rfl)
theorem dX8_atom1_73 : decode cX8_atom1 73 = .ok (.getfield 190, 3) := dk_180 0 190 (dk_at dksX8_atom1_3 2 rfl rfl)
theorem dX8_atom1_76 : decode cX8_atom1 76 = .ok (.iconst 1, 1) := dk_4 (dk_at dksX8_atom1_3 5 rfl rfl)
theorem dX8_atom1_77 : decode cX8_atom1 77 = .ok (.isub, 1) := dk_100 (dk_at dksX8_atom1_3 6 rfl rfl)
theorem dX8_atom1_78 : decode cX8_atom1 78 = .ok (.putfield 190, 3) := dk_181 0 190 (dk_at dksX8_atom1_3 7 rfl rfl)
theorem dX8_atom1_81 : decode cX8_atom1 81 = .ok (.aload_n 0, 1) := dk_42 (dk_at dksX8_atom1_3 10 rfl rfl)
theorem dX8_atom1_82 : decode cX8_atom1 82 = .ok (.getfield 180, 3) := dk_180 0 180 (dk_at dksX8_atom1_3 11 rfl rfl)
theorem dX8_atom1_85 : decode cX8_atom1 85 = .ok (.ifCond .ne 76, 3) := dk_154 0 76 (dk_at dksX8_atom1_3 14 rfl rfl)
theorem dX8_atom1_88 : decode cX8_atom1 88 = .ok (.aload_n 0, 1) := dk_42 (dk_at dksX8_atom1_3 17 rfl rfl)
theorem dX8_atom1_89 : decode cX8_atom1 89 = .ok (.invokevirtual 196, 3) := dk_182 0 196 (dk_at dksX8_atom1_3 18 rfl rfl)
theorem dX8_atom1_92 : decode cX8_atom1 92 = .ok (.goto 69, 3) := dk_167 0 69 (dk_at dksX8_atom1_3 21 rfl rfl)
theorem dX8_atom1_95 : decode cX8_atom1 95 = .ok (.aload_n 0, 1) := dk_42 (dk_at dksX8_atom1_4 0 rfl rfl)
theorem dX8_atom1_96 : decode cX8_atom1 96 = .ok (.getfield 180, 3) := dk_180 0 180 (dk_at dksX8_atom1_4 1 rfl rfl)
theorem dX8_atom1_99 : decode cX8_atom1 99 = .ok (.ifCond .ne 24, 3) := dk_154 0 24 (dk_at dksX8_atom1_4 4 rfl rfl)
theorem dX8_atom1_102 : decode cX8_atom1 102 = .ok (.aload_n 0, 1) := dk_42 (dk_at dksX8_atom1_4 7 rfl rfl)
theorem dX8_atom1_103 : decode cX8_atom1 103 = .ok (.getfield 165, 3) := dk_180 0 165 (dk_at dksX8_atom1_4 8 rfl rfl)
theorem dX8_atom1_106 : decode cX8_atom1 106 = .ok (.iconst 2, 1) := dk_5 (dk_at dksX8_atom1_4 11 rfl rfl)
theorem dX8_atom1_107 : decode cX8_atom1 107 = .ok (.if_icmp .ne 16, 3) := dk_160 0 16 (dk_at dksX8_atom1_4 12 rfl rfl)
theorem dX8_atom1_110 : decode cX8_atom1 110 = .ok (.aload_n 0, 1) := dk_42 (dk_at dksX8_atom1_4 15 rfl rfl)
theorem dX8_atom1_111 : decode cX8_atom1 111 = .ok (.getfield 176, 3) := dk_180 0 176 (dk_at dksX8_atom1_4 16 rfl rfl)
theorem dX8_atom1_114 : decode cX8_atom1 114 = .ok (.l2i, 1) := dk_136 (dk_at dksX8_atom1_4 19 rfl rfl)
theorem dX8_atom1_115 : decode cX8_atom1 115 = .ok (.istore_n 1, 1) := dk_60 (dk_at dksX8_atom1_4 20 rfl rfl)
theorem dX8_atom1_116 : decode cX8_atom1 116 = .ok (.aload_n 0, 1) := dk_42 (dk_at dksX8_atom1_4 21 rfl rfl)
theorem dX8_atom1_117 : decode cX8_atom1 117 = .ok (.invokevirtual 196, 3) := dk_182 0 196 (dk_at dksX8_atom1_5 0 rfl rfl)
theorem dX8_atom1_120 : decode cX8_atom1 120 = .ok (.goto 41, 3) := dk_167 0 41 (dk_at dksX8_atom1_5 3 rfl rfl)
theorem dX8_atom1_123 : decode cX8_atom1 123 = .ok (.aload_n 0, 1) := dk_42 (dk_at dksX8_atom1_5 6 rfl rfl)
theorem dX8_atom1_124 : decode cX8_atom1 124 = .ok (.getfield 180, 3) := dk_180 0 180 (dk_at dksX8_atom1_5 7 rfl rfl)
theorem dX8_atom1_127 : decode cX8_atom1 127 = .ok (.ifCond .ne 30, 3) := dk_154 0 30 (dk_at dksX8_atom1_5 10 rfl rfl)
theorem dX8_atom1_130 : decode cX8_atom1 130 = .ok (.aload_n 0, 1) := dk_42 (dk_at dksX8_atom1_5 13 rfl rfl)
theorem dX8_atom1_131 : decode cX8_atom1 131 = .ok (.getfield 165, 3) := dk_180 0 165 (dk_at dksX8_atom1_5 14 rfl rfl)
theorem dX8_atom1_134 : decode cX8_atom1 134 = .ok (.iconst 1, 1) := dk_4 (dk_at dksX8_atom1_5 17 rfl rfl)
theorem dX8_atom1_135 : decode cX8_atom1 135 = .ok (.if_icmp .ne 22, 3) := dk_160 0 22 (dk_at dksX8_atom1_5 18 rfl rfl)
theorem dX8_atom1_138 : decode cX8_atom1 138 = .ok (.aload_n 0, 1) := dk_42 (dk_at dksX8_atom1_5 21 rfl rfl)
theorem dX8_atom1_139 : decode cX8_atom1 139 = .ok (.invokevirtual 228, 3) := dk_182 0 228 (dk_at dksX8_atom1_6 0 rfl rfl)
theorem dX8_atom1_142 : decode cX8_atom1 142 = .ok (.istore_n 1, 1) := dk_60 (dk_at dksX8_atom1_6 3 rfl rfl)
theorem dX8_atom1_143 : decode cX8_atom1 143 = .ok (.aload_n 0, 1) := dk_42 (dk_at dksX8_atom1_6 4 rfl rfl)
theorem dX8_atom1_144 : decode cX8_atom1 144 = .ok (.getfield 180, 3) := dk_180 0 180 (dk_at dksX8_atom1_6 5 rfl rfl)
theorem dX8_atom1_147 : decode cX8_atom1 147 = .ok (.ifCond .ne 14, 3) := dk_154 0 14 (dk_at dksX8_atom1_6 8 rfl rfl)
theorem dX8_atom1_150 : decode cX8_atom1 150 = .ok (.aload_n 0, 1) := dk_42 (dk_at dksX8_atom1_6 11 rfl rfl)
theorem dX8_atom1_151 : decode cX8_atom1 151 = .ok (.invokevirtual 196, 3) := dk_182 0 196 (dk_at dksX8_atom1_6 12 rfl rfl)
theorem dX8_atom1_154 : decode cX8_atom1 154 = .ok (.goto 7, 3) := dk_167 0 7 (dk_at dksX8_atom1_6 15 rfl rfl)
theorem dX8_atom1_157 : decode cX8_atom1 157 = .ok (.aload_n 0, 1) := dk_42 (dk_at dksX8_atom1_6 18 rfl rfl)
theorem dX8_atom1_158 : decode cX8_atom1 158 = .ok (.invokevirtual 193, 3) := dk_182 0 193 (dk_at dksX8_atom1_6 19 rfl rfl)
theorem dX8_atom1_161 : decode cX8_atom1 161 = .ok (.iload_n 1, 1) := dk_27 (dk_at dksX8_atom1_6 22 rfl rfl)
theorem dX8_atom1_162 : decode cX8_atom1 162 = .ok (.ireturn, 1) := dk_172 (dk_at dksX8_atom1_6 23 rfl rfl)
abbrev cX8_either2 : ByteArray := prog_16_method_49_code
def yX8_either2 : MethodName := ⟨RX8, "either2", "()I"⟩
def dkwX8_either2_2 : List UInt8 := [167, 255, 216, 27, 172]
abbrev dktX8_either2_2 : List UInt8 := dkwX8_either2_2 ++ []
def dkwX8_either2_1 : List UInt8 := [182, 0, 196, 42, 182, 1, 46, 61, 27, 154, 0, 7, 28, 153, 0, 7, 4, 167, 0, 4, 3, 60]
abbrev dktX8_either2_1 : List UInt8 := dkwX8_either2_1 ++ dktX8_either2_2
def dkwX8_either2_0 : List UInt8 := [42, 182, 1, 46, 60, 42, 16, 111, 16, 114, 3, 3, 3, 3, 3, 3, 182, 0, 199, 153, 0, 29, 42]
abbrev dktX8_either2_0 : List UInt8 := dkwX8_either2_0 ++ dktX8_either2_1
theorem dksX8_either2_0 : cX8_either2.data.toList.drop 0 = dktX8_either2_0 := by decide +kernel
theorem dksX8_either2_1 : cX8_either2.data.toList.drop 23 = dktX8_either2_1 := dk_seg dksX8_either2_0 23 rfl rfl
theorem dksX8_either2_2 : cX8_either2.data.toList.drop 45 = dktX8_either2_2 := dk_seg dksX8_either2_1 22 rfl rfl
theorem dX8_either2_0 : decode cX8_either2 0 = .ok (.aload_n 0, 1) := dk_42 (dk_at dksX8_either2_0 0 rfl rfl)
theorem dX8_either2_1 : decode cX8_either2 1 = .ok (.invokevirtual 302, 3) := dk_182 1 46 (dk_at dksX8_either2_0 1 rfl rfl)
theorem dX8_either2_4 : decode cX8_either2 4 = .ok (.istore_n 1, 1) := dk_60 (dk_at dksX8_either2_0 4 rfl rfl)
theorem dX8_either2_5 : decode cX8_either2 5 = .ok (.aload_n 0, 1) := dk_42 (dk_at dksX8_either2_0 5 rfl rfl)
theorem dX8_either2_6 : decode cX8_either2 6 = .ok (.bipush 111, 2) := dk_16 111 (dk_at dksX8_either2_0 6 rfl rfl)
theorem dX8_either2_8 : decode cX8_either2 8 = .ok (.bipush 114, 2) := dk_16 114 (dk_at dksX8_either2_0 8 rfl rfl)
theorem dX8_either2_10 : decode cX8_either2 10 = .ok (.iconst 0, 1) := dk_3 (dk_at dksX8_either2_0 10 rfl rfl)
theorem dX8_either2_11 : decode cX8_either2 11 = .ok (.iconst 0, 1) := dk_3 (dk_at dksX8_either2_0 11 rfl rfl)
theorem dX8_either2_12 : decode cX8_either2 12 = .ok (.iconst 0, 1) := dk_3 (dk_at dksX8_either2_0 12 rfl rfl)
theorem dX8_either2_13 : decode cX8_either2 13 = .ok (.iconst 0, 1) := dk_3 (dk_at dksX8_either2_0 13 rfl rfl)
theorem dX8_either2_14 : decode cX8_either2 14 = .ok (.iconst 0, 1) := dk_3 (dk_at dksX8_either2_0 14 rfl rfl)
theorem dX8_either2_15 : decode cX8_either2 15 = .ok (.iconst 0, 1) := dk_3 (dk_at dksX8_either2_0 15 rfl rfl)
theorem dX8_either2_16 : decode cX8_either2 16 = .ok (.invokevirtual 199, 3) := dk_182 0 199 (dk_at dksX8_either2_0 16 rfl rfl)
theorem dX8_either2_19 : decode cX8_either2 19 = .ok (.ifCond .eq 29, 3) := dk_153 0 29 (dk_at dksX8_either2_0 19 rfl rfl)
theorem dX8_either2_22 : decode cX8_either2 22 = .ok (.aload_n 0, 1) := dk_42 (dk_at dksX8_either2_0 22 rfl rfl)
theorem dX8_either2_23 : decode cX8_either2 23 = .ok (.invokevirtual 196, 3) := dk_182 0 196 (dk_at dksX8_either2_1 0 rfl rfl)
theorem dX8_either2_26 : decode cX8_either2 26 = .ok (.aload_n 0, 1) := dk_42 (dk_at dksX8_either2_1 3 rfl rfl)
theorem dX8_either2_27 : decode cX8_either2 27 = .ok (.invokevirtual 302, 3) := dk_182 1 46 (dk_at dksX8_either2_1 4 rfl rfl)
theorem dX8_either2_30 : decode cX8_either2 30 = .ok (.istore_n 2, 1) := dk_61 (dk_at dksX8_either2_1 7 rfl rfl)
theorem dX8_either2_31 : decode cX8_either2 31 = .ok (.iload_n 1, 1) := dk_27 (dk_at dksX8_either2_1 8 rfl rfl)
theorem dX8_either2_32 : decode cX8_either2 32 = .ok (.ifCond .ne 7, 3) := dk_154 0 7 (dk_at dksX8_either2_1 9 rfl rfl)
theorem dX8_either2_35 : decode cX8_either2 35 = .ok (.iload_n 2, 1) := dk_28 (dk_at dksX8_either2_1 12 rfl rfl)
theorem dX8_either2_36 : decode cX8_either2 36 = .ok (.ifCond .eq 7, 3) := dk_153 0 7 (dk_at dksX8_either2_1 13 rfl rfl)
theorem dX8_either2_39 : decode cX8_either2 39 = .ok (.iconst 1, 1) := dk_4 (dk_at dksX8_either2_1 16 rfl rfl)
theorem dX8_either2_40 : decode cX8_either2 40 = .ok (.goto 4, 3) := dk_167 0 4 (dk_at dksX8_either2_1 17 rfl rfl)
theorem dX8_either2_43 : decode cX8_either2 43 = .ok (.iconst 0, 1) := dk_3 (dk_at dksX8_either2_1 20 rfl rfl)
theorem dX8_either2_44 : decode cX8_either2 44 = .ok (.istore_n 1, 1) := dk_60 (dk_at dksX8_either2_1 21 rfl rfl)
theorem dX8_either2_45 : decode cX8_either2 45 = .ok (.goto (-40), 3) := dk_167 255 216 (dk_at dksX8_either2_2 0 rfl rfl)
theorem dX8_either2_48 : decode cX8_either2 48 = .ok (.iload_n 1, 1) := dk_27 (dk_at dksX8_either2_2 3 rfl rfl)
theorem dX8_either2_49 : decode cX8_either2 49 = .ok (.ireturn, 1) := dk_172 (dk_at dksX8_either2_2 4 rfl rfl)
abbrev cX8_both2 : ByteArray := prog_16_method_48_code
def yX8_both2 : MethodName := ⟨RX8, "both2", "()I"⟩
def dkwX8_both2_2 : List UInt8 := [167, 255, 215, 27, 172]
abbrev dktX8_both2_2 : List UInt8 := dkwX8_both2_2 ++ []
def dkwX8_both2_1 : List UInt8 := [182, 0, 196, 42, 182, 1, 43, 61, 27, 153, 0, 11, 28, 153, 0, 7, 4, 167, 0, 4, 3, 60]
abbrev dktX8_both2_1 : List UInt8 := dkwX8_both2_1 ++ dktX8_both2_2
def dkwX8_both2_0 : List UInt8 := [42, 182, 1, 43, 60, 42, 16, 97, 16, 110, 16, 100, 3, 3, 3, 3, 3, 182, 0, 199, 153, 0, 29, 42]
abbrev dktX8_both2_0 : List UInt8 := dkwX8_both2_0 ++ dktX8_both2_1
theorem dksX8_both2_0 : cX8_both2.data.toList.drop 0 = dktX8_both2_0 := by decide +kernel
theorem dksX8_both2_1 : cX8_both2.data.toList.drop 24 = dktX8_both2_1 := dk_seg dksX8_both2_0 24 rfl rfl
theorem dksX8_both2_2 : cX8_both2.data.toList.drop 46 = dktX8_both2_2 := dk_seg dksX8_both2_1 22 rfl rfl
theorem dX8_both2_0 : decode cX8_both2 0 = .ok (.aload_n 0, 1) := dk_42 (dk_at dksX8_both2_0 0 rfl rfl)
theorem dX8_both2_1 : decode cX8_both2 1 = .ok (.invokevirtual 299, 3) := dk_182 1 43 (dk_at dksX8_both2_0 1 rfl rfl)
theorem dX8_both2_4 : decode cX8_both2 4 = .ok (.istore_n 1, 1) := dk_60 (dk_at dksX8_both2_0 4 rfl rfl)
theorem dX8_both2_5 : decode cX8_both2 5 = .ok (.aload_n 0, 1) := dk_42 (dk_at dksX8_both2_0 5 rfl rfl)
theorem dX8_both2_6 : decode cX8_both2 6 = .ok (.bipush 97, 2) := dk_16 97 (dk_at dksX8_both2_0 6 rfl rfl)
theorem dX8_both2_8 : decode cX8_both2 8 = .ok (.bipush 110, 2) := dk_16 110 (dk_at dksX8_both2_0 8 rfl rfl)
theorem dX8_both2_10 : decode cX8_both2 10 = .ok (.bipush 100, 2) := dk_16 100 (dk_at dksX8_both2_0 10 rfl rfl)
theorem dX8_both2_12 : decode cX8_both2 12 = .ok (.iconst 0, 1) := dk_3 (dk_at dksX8_both2_0 12 rfl rfl)
theorem dX8_both2_13 : decode cX8_both2 13 = .ok (.iconst 0, 1) := dk_3 (dk_at dksX8_both2_0 13 rfl rfl)
theorem dX8_both2_14 : decode cX8_both2 14 = .ok (.iconst 0, 1) := dk_3 (dk_at dksX8_both2_0 14 rfl rfl)
theorem dX8_both2_15 : decode cX8_both2 15 = .ok (.iconst 0, 1) := dk_3 (dk_at dksX8_both2_0 15 rfl rfl)
theorem dX8_both2_16 : decode cX8_both2 16 = .ok (.iconst 0, 1) := dk_3 (dk_at dksX8_both2_0 16 rfl rfl)
theorem dX8_both2_17 : decode cX8_both2 17 = .ok (.invokevirtual 199, 3) := dk_182 0 199 (dk_at dksX8_both2_0 17 rfl rfl)
theorem dX8_both2_20 : decode cX8_both2 20 = .ok (.ifCond .eq 29, 3) := dk_153 0 29 (dk_at dksX8_both2_0 20 rfl rfl)
theorem dX8_both2_23 : decode cX8_both2 23 = .ok (.aload_n 0, 1) := dk_42 (dk_at dksX8_both2_0 23 rfl rfl)
theorem dX8_both2_24 : decode cX8_both2 24 = .ok (.invokevirtual 196, 3) := dk_182 0 196 (dk_at dksX8_both2_1 0 rfl rfl)
theorem dX8_both2_27 : decode cX8_both2 27 = .ok (.aload_n 0, 1) := dk_42 (dk_at dksX8_both2_1 3 rfl rfl)
theorem dX8_both2_28 : decode cX8_both2 28 = .ok (.invokevirtual 299, 3) := dk_182 1 43 (dk_at dksX8_both2_1 4 rfl rfl)
theorem dX8_both2_31 : decode cX8_both2 31 = .ok (.istore_n 2, 1) := dk_61 (dk_at dksX8_both2_1 7 rfl rfl)
theorem dX8_both2_32 : decode cX8_both2 32 = .ok (.iload_n 1, 1) := dk_27 (dk_at dksX8_both2_1 8 rfl rfl)
theorem dX8_both2_33 : decode cX8_both2 33 = .ok (.ifCond .eq 11, 3) := dk_153 0 11 (dk_at dksX8_both2_1 9 rfl rfl)
theorem dX8_both2_36 : decode cX8_both2 36 = .ok (.iload_n 2, 1) := dk_28 (dk_at dksX8_both2_1 12 rfl rfl)
theorem dX8_both2_37 : decode cX8_both2 37 = .ok (.ifCond .eq 7, 3) := dk_153 0 7 (dk_at dksX8_both2_1 13 rfl rfl)
theorem dX8_both2_40 : decode cX8_both2 40 = .ok (.iconst 1, 1) := dk_4 (dk_at dksX8_both2_1 16 rfl rfl)
theorem dX8_both2_41 : decode cX8_both2 41 = .ok (.goto 4, 3) := dk_167 0 4 (dk_at dksX8_both2_1 17 rfl rfl)
theorem dX8_both2_44 : decode cX8_both2 44 = .ok (.iconst 0, 1) := dk_3 (dk_at dksX8_both2_1 20 rfl rfl)
theorem dX8_both2_45 : decode cX8_both2 45 = .ok (.istore_n 1, 1) := dk_60 (dk_at dksX8_both2_1 21 rfl rfl)
theorem dX8_both2_46 : decode cX8_both2 46 = .ok (.goto (-41), 3) := dk_167 255 215 (dk_at dksX8_both2_2 0 rfl rfl)
theorem dX8_both2_49 : decode cX8_both2 49 = .ok (.iload_n 1, 1) := dk_27 (dk_at dksX8_both2_2 3 rfl rfl)
theorem dX8_both2_50 : decode cX8_both2 50 = .ok (.ireturn, 1) := dk_172 (dk_at dksX8_both2_2 4 rfl rfl)
abbrev cX8_added0 : ByteArray := prog_16_method_58_code
def yX8_added0 : MethodName := ⟨RX8, "added0", "()I"⟩
def dkwX8_added0_2 : List UInt8 := [62, 28, 153, 0, 9, 27, 29, 96, 167, 0, 6, 27, 29, 100, 60, 167, 255, 198, 27, 172]
abbrev dktX8_added0_2 : List UInt8 := dkwX8_added0_2 ++ []
def dkwX8_added0_1 : List UInt8 := [180, 0, 176, 20, 0, 238, 148, 154, 0, 7, 4, 167, 0, 4, 3, 61, 42, 182, 0, 196, 42, 182, 1, 73]
abbrev dktX8_added0_1 : List UInt8 := dkwX8_added0_1 ++ dktX8_added0_2
def dkwX8_added0_0 : List UInt8 := [42, 182, 1, 73, 60, 42, 16, 43, 182, 0, 221, 154, 0, 12, 42, 16, 45, 182, 0, 221, 153, 0, 46, 42]
abbrev dktX8_added0_0 : List UInt8 := dkwX8_added0_0 ++ dktX8_added0_1
theorem dksX8_added0_0 : cX8_added0.data.toList.drop 0 = dktX8_added0_0 := by decide +kernel
theorem dksX8_added0_1 : cX8_added0.data.toList.drop 24 = dktX8_added0_1 := dk_seg dksX8_added0_0 24 rfl rfl
theorem dksX8_added0_2 : cX8_added0.data.toList.drop 48 = dktX8_added0_2 := dk_seg dksX8_added0_1 24 rfl rfl
theorem dX8_added0_0 : decode cX8_added0 0 = .ok (.aload_n 0, 1) := dk_42 (dk_at dksX8_added0_0 0 rfl rfl)
theorem dX8_added0_1 : decode cX8_added0 1 = .ok (.invokevirtual 329, 3) := dk_182 1 73 (dk_at dksX8_added0_0 1 rfl rfl)
theorem dX8_added0_4 : decode cX8_added0 4 = .ok (.istore_n 1, 1) := dk_60 (dk_at dksX8_added0_0 4 rfl rfl)
theorem dX8_added0_5 : decode cX8_added0 5 = .ok (.aload_n 0, 1) := dk_42 (dk_at dksX8_added0_0 5 rfl rfl)
theorem dX8_added0_6 : decode cX8_added0 6 = .ok (.bipush 43, 2) := dk_16 43 (dk_at dksX8_added0_0 6 rfl rfl)
theorem dX8_added0_8 : decode cX8_added0 8 = .ok (.invokevirtual 221, 3) := dk_182 0 221 (dk_at dksX8_added0_0 8 rfl rfl)
theorem dX8_added0_11 : decode cX8_added0 11 = .ok (.ifCond .ne 12, 3) := dk_154 0 12 (dk_at dksX8_added0_0 11 rfl rfl)
theorem dX8_added0_14 : decode cX8_added0 14 = .ok (.aload_n 0, 1) := dk_42 (dk_at dksX8_added0_0 14 rfl rfl)
theorem dX8_added0_15 : decode cX8_added0 15 = .ok (.bipush 45, 2) := dk_16 45 (dk_at dksX8_added0_0 15 rfl rfl)
theorem dX8_added0_17 : decode cX8_added0 17 = .ok (.invokevirtual 221, 3) := dk_182 0 221 (dk_at dksX8_added0_0 17 rfl rfl)
theorem dX8_added0_20 : decode cX8_added0 20 = .ok (.ifCond .eq 46, 3) := dk_153 0 46 (dk_at dksX8_added0_0 20 rfl rfl)
theorem dX8_added0_23 : decode cX8_added0 23 = .ok (.aload_n 0, 1) := dk_42 (dk_at dksX8_added0_0 23 rfl rfl)
theorem dX8_added0_24 : decode cX8_added0 24 = .ok (.getfield 176, 3) := dk_180 0 176 (dk_at dksX8_added0_1 0 rfl rfl)
theorem dX8_added0_27 : decode cX8_added0 27 = .ok (.ldc2_w 238, 3) := dk_20 0 238 (dk_at dksX8_added0_1 3 rfl rfl)
theorem dX8_added0_30 : decode cX8_added0 30 = .ok (.lcmp, 1) := dk_148 (dk_at dksX8_added0_1 6 rfl rfl)
theorem dX8_added0_31 : decode cX8_added0 31 = .ok (.ifCond .ne 7, 3) := dk_154 0 7 (dk_at dksX8_added0_1 7 rfl rfl)
theorem dX8_added0_34 : decode cX8_added0 34 = .ok (.iconst 1, 1) := dk_4 (dk_at dksX8_added0_1 10 rfl rfl)
theorem dX8_added0_35 : decode cX8_added0 35 = .ok (.goto 4, 3) := dk_167 0 4 (dk_at dksX8_added0_1 11 rfl rfl)
theorem dX8_added0_38 : decode cX8_added0 38 = .ok (.iconst 0, 1) := dk_3 (dk_at dksX8_added0_1 14 rfl rfl)
theorem dX8_added0_39 : decode cX8_added0 39 = .ok (.istore_n 2, 1) := dk_61 (dk_at dksX8_added0_1 15 rfl rfl)
theorem dX8_added0_40 : decode cX8_added0 40 = .ok (.aload_n 0, 1) := dk_42 (dk_at dksX8_added0_1 16 rfl rfl)
theorem dX8_added0_41 : decode cX8_added0 41 = .ok (.invokevirtual 196, 3) := dk_182 0 196 (dk_at dksX8_added0_1 17 rfl rfl)
theorem dX8_added0_44 : decode cX8_added0 44 = .ok (.aload_n 0, 1) := dk_42 (dk_at dksX8_added0_1 20 rfl rfl)
theorem dX8_added0_45 : decode cX8_added0 45 = .ok (.invokevirtual 329, 3) := dk_182 1 73 (dk_at dksX8_added0_1 21 rfl rfl)
theorem dX8_added0_48 : decode cX8_added0 48 = .ok (.istore_n 3, 1) := dk_62 (dk_at dksX8_added0_2 0 rfl rfl)
theorem dX8_added0_49 : decode cX8_added0 49 = .ok (.iload_n 2, 1) := dk_28 (dk_at dksX8_added0_2 1 rfl rfl)
theorem dX8_added0_50 : decode cX8_added0 50 = .ok (.ifCond .eq 9, 3) := dk_153 0 9 (dk_at dksX8_added0_2 2 rfl rfl)
theorem dX8_added0_53 : decode cX8_added0 53 = .ok (.iload_n 1, 1) := dk_27 (dk_at dksX8_added0_2 5 rfl rfl)
theorem dX8_added0_54 : decode cX8_added0 54 = .ok (.iload_n 3, 1) := dk_29 (dk_at dksX8_added0_2 6 rfl rfl)
theorem dX8_added0_55 : decode cX8_added0 55 = .ok (.iadd, 1) := dk_96 (dk_at dksX8_added0_2 7 rfl rfl)
theorem dX8_added0_56 : decode cX8_added0 56 = .ok (.goto 6, 3) := dk_167 0 6 (dk_at dksX8_added0_2 8 rfl rfl)
theorem dX8_added0_59 : decode cX8_added0 59 = .ok (.iload_n 1, 1) := dk_27 (dk_at dksX8_added0_2 11 rfl rfl)
theorem dX8_added0_60 : decode cX8_added0 60 = .ok (.iload_n 3, 1) := dk_29 (dk_at dksX8_added0_2 12 rfl rfl)
theorem dX8_added0_61 : decode cX8_added0 61 = .ok (.isub, 1) := dk_100 (dk_at dksX8_added0_2 13 rfl rfl)
theorem dX8_added0_62 : decode cX8_added0 62 = .ok (.istore_n 1, 1) := dk_60 (dk_at dksX8_added0_2 14 rfl rfl)
theorem dX8_added0_63 : decode cX8_added0 63 = .ok (.goto (-58), 3) := dk_167 255 198 (dk_at dksX8_added0_2 15 rfl rfl)
theorem dX8_added0_66 : decode cX8_added0 66 = .ok (.iload_n 1, 1) := dk_27 (dk_at dksX8_added0_2 18 rfl rfl)
theorem dX8_added0_67 : decode cX8_added0 67 = .ok (.ireturn, 1) := dk_172 (dk_at dksX8_added0_2 19 rfl rfl)
abbrev cX8_term0 : ByteArray := prog_16_method_57_code
def yX8_term0 : MethodName := ⟨RX8, "term0", "()I"⟩
def dkwX8_term0_1 : List UInt8 := [60, 167, 255, 236, 27, 172]
abbrev dktX8_term0_1 : List UInt8 := dkwX8_term0_1 ++ []
def dkwX8_term0_0 : List UInt8 := [42, 182, 1, 70, 60, 42, 16, 42, 182, 0, 221, 153, 0, 17, 42, 182, 0, 196, 27, 42, 182, 1, 70, 104]
abbrev dktX8_term0_0 : List UInt8 := dkwX8_term0_0 ++ dktX8_term0_1
theorem dksX8_term0_0 : cX8_term0.data.toList.drop 0 = dktX8_term0_0 := by decide +kernel
theorem dksX8_term0_1 : cX8_term0.data.toList.drop 24 = dktX8_term0_1 := dk_seg dksX8_term0_0 24 rfl rfl
theorem dX8_term0_0 : decode cX8_term0 0 = .ok (.aload_n 0, 1) := dk_42 (dk_at dksX8_term0_0 0 rfl rfl)
theorem dX8_term0_1 : decode cX8_term0 1 = .ok (.invokevirtual 326, 3) := dk_182 1 70 (dk_at dksX8_term0_0 1 rfl rfl)
theorem dX8_term0_4 : decode cX8_term0 4 = .ok (.istore_n 1, 1) := dk_60 (dk_at dksX8_term0_0 4 rfl rfl)
theorem dX8_term0_5 : decode cX8_term0 5 = .ok (.aload_n 0, 1) := dk_42 (dk_at dksX8_term0_0 5 rfl rfl)
theorem dX8_term0_6 : decode cX8_term0 6 = .ok (.bipush 42, 2) := dk_16 42 (dk_at dksX8_term0_0 6 rfl rfl)
theorem dX8_term0_8 : decode cX8_term0 8 = .ok (.invokevirtual 221, 3) := dk_182 0 221 (dk_at dksX8_term0_0 8 rfl rfl)
theorem dX8_term0_11 : decode cX8_term0 11 = .ok (.ifCond .eq 17, 3) := dk_153 0 17 (dk_at dksX8_term0_0 11 rfl rfl)
theorem dX8_term0_14 : decode cX8_term0 14 = .ok (.aload_n 0, 1) := dk_42 (dk_at dksX8_term0_0 14 rfl rfl)
theorem dX8_term0_15 : decode cX8_term0 15 = .ok (.invokevirtual 196, 3) := dk_182 0 196 (dk_at dksX8_term0_0 15 rfl rfl)
theorem dX8_term0_18 : decode cX8_term0 18 = .ok (.iload_n 1, 1) := dk_27 (dk_at dksX8_term0_0 18 rfl rfl)
theorem dX8_term0_19 : decode cX8_term0 19 = .ok (.aload_n 0, 1) := dk_42 (dk_at dksX8_term0_0 19 rfl rfl)
theorem dX8_term0_20 : decode cX8_term0 20 = .ok (.invokevirtual 326, 3) := dk_182 1 70 (dk_at dksX8_term0_0 20 rfl rfl)
theorem dX8_term0_23 : decode cX8_term0 23 = .ok (.imul, 1) := dk_104 (dk_at dksX8_term0_0 23 rfl rfl)
theorem dX8_term0_24 : decode cX8_term0 24 = .ok (.istore_n 1, 1) := dk_60 (dk_at dksX8_term0_1 0 rfl rfl)
theorem dX8_term0_25 : decode cX8_term0 25 = .ok (.goto (-20), 3) := dk_167 255 236 (dk_at dksX8_term0_1 1 rfl rfl)
theorem dX8_term0_28 : decode cX8_term0 28 = .ok (.iload_n 1, 1) := dk_27 (dk_at dksX8_term0_1 4 rfl rfl)
theorem dX8_term0_29 : decode cX8_term0 29 = .ok (.ireturn, 1) := dk_172 (dk_at dksX8_term0_1 5 rfl rfl)
abbrev cX8_atom0 : ByteArray := prog_16_method_56_code
def yX8_atom0 : MethodName := ⟨RX8, "atom0", "()I"⟩
def dkwX8_atom0_6 : List UInt8 := [182, 0, 228, 60, 42, 180, 0, 180, 154, 0, 14, 42, 182, 0, 196, 167, 0, 7, 42, 182, 0, 193, 27, 172]
abbrev dktX8_atom0_6 : List UInt8 := dkwX8_atom0_6 ++ []
def dkwX8_atom0_5 : List UInt8 := [182, 0, 196, 167, 0, 41, 42, 180, 0, 180, 154, 0, 30, 42, 180, 0, 165, 4, 160, 0, 22, 42]
abbrev dktX8_atom0_5 : List UInt8 := dkwX8_atom0_5 ++ dktX8_atom0_6
def dkwX8_atom0_4 : List UInt8 := [42, 180, 0, 180, 154, 0, 24, 42, 180, 0, 165, 5, 160, 0, 16, 42, 180, 0, 176, 136, 60, 42]
abbrev dktX8_atom0_4 : List UInt8 := dkwX8_atom0_4 ++ dktX8_atom0_5
def dkwX8_atom0_3 : List UInt8 := [42, 89, 180, 0, 190, 4, 100, 181, 0, 190, 42, 180, 0, 180, 154, 0, 76, 42, 182, 0, 196, 167, 0, 69]
abbrev dktX8_atom0_3 : List UInt8 := dkwX8_atom0_3 ++ dktX8_atom0_4
def dkwX8_atom0_2 : List UInt8 := [182, 0, 224, 153, 0, 111, 42, 182, 1, 67, 60, 42, 16, 41, 182, 0, 221, 154, 0, 7, 42, 182, 0, 193]
abbrev dktX8_atom0_2 : List UInt8 := dkwX8_atom0_2 ++ dktX8_atom0_3
def dkwX8_atom0_1 : List UInt8 := [42, 89, 180, 0, 190, 4, 100, 181, 0, 190, 167, 0, 127, 42, 16, 40, 182, 0, 221, 153, 0, 52, 42]
abbrev dktX8_atom0_1 : List UInt8 := dkwX8_atom0_1 ++ dktX8_atom0_2
def dkwX8_atom0_0 : List UInt8 := [3, 60, 42, 16, 45, 182, 0, 221, 153, 0, 29, 42, 182, 0, 224, 153, 0, 146, 42, 182, 1, 52, 116, 60]
abbrev dktX8_atom0_0 : List UInt8 := dkwX8_atom0_0 ++ dktX8_atom0_1
theorem dksX8_atom0_0 : cX8_atom0.data.toList.drop 0 = dktX8_atom0_0 := by decide +kernel
theorem dksX8_atom0_1 : cX8_atom0.data.toList.drop 24 = dktX8_atom0_1 := dk_seg dksX8_atom0_0 24 rfl rfl
theorem dksX8_atom0_2 : cX8_atom0.data.toList.drop 47 = dktX8_atom0_2 := dk_seg dksX8_atom0_1 23 rfl rfl
theorem dksX8_atom0_3 : cX8_atom0.data.toList.drop 71 = dktX8_atom0_3 := dk_seg dksX8_atom0_2 24 rfl rfl
theorem dksX8_atom0_4 : cX8_atom0.data.toList.drop 95 = dktX8_atom0_4 := dk_seg dksX8_atom0_3 24 rfl rfl
theorem dksX8_atom0_5 : cX8_atom0.data.toList.drop 117 = dktX8_atom0_5 := dk_seg dksX8_atom0_4 22 rfl rfl
theorem dksX8_atom0_6 : cX8_atom0.data.toList.drop 139 = dktX8_atom0_6 := dk_seg dksX8_atom0_5 22 rfl rfl
theorem dX8_atom0_0 : decode cX8_atom0 0 = .ok (.iconst 0, 1) := dk_3 (dk_at dksX8_atom0_0 0 rfl rfl)
theorem dX8_atom0_1 : decode cX8_atom0 1 = .ok (.istore_n 1, 1) := dk_60 (dk_at dksX8_atom0_0 1 rfl rfl)
theorem dX8_atom0_2 : decode cX8_atom0 2 = .ok (.aload_n 0, 1) := dk_42 (dk_at dksX8_atom0_0 2 rfl rfl)
theorem dX8_atom0_3 : decode cX8_atom0 3 = .ok (.bipush 45, 2) := dk_16 45 (dk_at dksX8_atom0_0 3 rfl rfl)
theorem dX8_atom0_5 : decode cX8_atom0 5 = .ok (.invokevirtual 221, 3) := dk_182 0 221 (dk_at dksX8_atom0_0 5 rfl rfl)
theorem dX8_atom0_8 : decode cX8_atom0 8 = .ok (.ifCond .eq 29, 3) := dk_153 0 29 (dk_at dksX8_atom0_0 8 rfl rfl)
theorem dX8_atom0_11 : decode cX8_atom0 11 = .ok (.aload_n 0, 1) := dk_42 (dk_at dksX8_atom0_0 11 rfl rfl)
theorem dX8_atom0_12 : decode cX8_atom0 12 = .ok (.invokevirtual 224, 3) := dk_182 0 224 (dk_at dksX8_atom0_0 12 rfl rfl)
theorem dX8_atom0_15 : decode cX8_atom0 15 = .ok (.ifCond .eq 146, 3) := dk_153 0 146 (dk_at dksX8_atom0_0 15 rfl rfl)
theorem dX8_atom0_18 : decode cX8_atom0 18 = .ok (.aload_n 0, 1) := dk_42 (dk_at dksX8_atom0_0 18 rfl rfl)
theorem dX8_atom0_19 : decode cX8_atom0 19 = .ok (.invokevirtual 308, 3) := dk_182 1 52 (dk_at dksX8_atom0_0 19 rfl rfl)
theorem dX8_atom0_22 : decode cX8_atom0 22 = .ok (.ineg, 1) := dk_116 (dk_at dksX8_atom0_0 22 rfl rfl)
theorem dX8_atom0_23 : decode cX8_atom0 23 = .ok (.istore_n 1, 1) := dk_60 (dk_at dksX8_atom0_0 23 rfl rfl)
theorem dX8_atom0_24 : decode cX8_atom0 24 = .ok (.aload_n 0, 1) := dk_42 (dk_at dksX8_atom0_1 0 rfl rfl)
theorem dX8_atom0_25 : decode cX8_atom0 25 = .ok (.dup, 1) := dk_89 (dk_at dksX8_atom0_1 1 rfl rfl)
theorem dX8_atom0_26 : decode cX8_atom0 26 = .ok (.getfield 190, 3) := dk_180 0 190 (dk_at dksX8_atom0_1 2 rfl rfl)
theorem dX8_atom0_29 : decode cX8_atom0 29 = .ok (.iconst 1, 1) := dk_4 (dk_at dksX8_atom0_1 5 rfl rfl)
theorem dX8_atom0_30 : decode cX8_atom0 30 = .ok (.isub, 1) := dk_100 (dk_at dksX8_atom0_1 6 rfl rfl)
theorem dX8_atom0_31 : decode cX8_atom0 31 = .ok (.putfield 190, 3) := dk_181 0 190 (dk_at dksX8_atom0_1 7 rfl rfl)
theorem dX8_atom0_34 : decode cX8_atom0 34 = .ok (.goto 127, 3) := dk_167 0 127 (dk_at dksX8_atom0_1 10 rfl rfl)
theorem dX8_atom0_37 : decode cX8_atom0 37 = .ok (.aload_n 0, 1) := dk_42 (dk_at dksX8_atom0_1 13 rfl rfl)
theorem dX8_atom0_38 : decode cX8_atom0 38 = .ok (.bipush 40, 2) := dk_16 40 (dk_at dksX8_atom0_1 14 rfl rfl)
theorem dX8_atom0_40 : decode cX8_atom0 40 = .ok (.invokevirtual 221, 3) := dk_182 0 221 (dk_at dksX8_atom0_1 16 rfl rfl)
theorem dX8_atom0_43 : decode cX8_atom0 43 = .ok (.ifCond .eq 52, 3) := dk_153 0 52 (dk_at dksX8_atom0_1 19 rfl rfl)
theorem dX8_atom0_46 : decode cX8_atom0 46 = .ok (.aload_n 0, 1) := dk_42 (dk_at dksX8_atom0_1 22 rfl rfl)
theorem dX8_atom0_47 : decode cX8_atom0 47 = .ok (.invokevirtual 224, 3) := dk_182 0 224 (dk_at dksX8_atom0_2 0 rfl rfl)
theorem dX8_atom0_50 : decode cX8_atom0 50 = .ok (.ifCond .eq 111, 3) := dk_153 0 111 (dk_at dksX8_atom0_2 3 rfl rfl)
theorem dX8_atom0_53 : decode cX8_atom0 53 = .ok (.aload_n 0, 1) := dk_42 (dk_at dksX8_atom0_2 6 rfl rfl)
theorem dX8_atom0_54 : decode cX8_atom0 54 = .ok (.invokevirtual 323, 3) := dk_182 1 67 (dk_at dksX8_atom0_2 7 rfl rfl)
theorem dX8_atom0_57 : decode cX8_atom0 57 = .ok (.istore_n 1, 1) := dk_60 (dk_at dksX8_atom0_2 10 rfl rfl)
theorem dX8_atom0_58 : decode cX8_atom0 58 = .ok (.aload_n 0, 1) := dk_42 (dk_at dksX8_atom0_2 11 rfl rfl)
theorem dX8_atom0_59 : decode cX8_atom0 59 = .ok (.bipush 41, 2) := dk_16 41 (dk_at dksX8_atom0_2 12 rfl rfl)
theorem dX8_atom0_61 : decode cX8_atom0 61 = .ok (.invokevirtual 221, 3) := dk_182 0 221 (dk_at dksX8_atom0_2 14 rfl rfl)
theorem dX8_atom0_64 : decode cX8_atom0 64 = .ok (.ifCond .ne 7, 3) := dk_154 0 7 (dk_at dksX8_atom0_2 17 rfl rfl)
theorem dX8_atom0_67 : decode cX8_atom0 67 = .ok (.aload_n 0, 1) := dk_42 (dk_at dksX8_atom0_2 20 rfl rfl)
theorem dX8_atom0_68 : decode cX8_atom0 68 = .ok (.invokevirtual 193, 3) := dk_182 0 193 (dk_at dksX8_atom0_2 21 rfl rfl)
theorem dX8_atom0_71 : decode cX8_atom0 71 = .ok (.aload_n 0, 1) := dk_42 (dk_at dksX8_atom0_3 0 rfl rfl)
theorem dX8_atom0_72 : decode cX8_atom0 72 = .ok (.dup, 1) := dk_89 (dk_at dksX8_atom0_3 1 rfl rfl)
theorem dX8_atom0_73 : decode cX8_atom0 73 = .ok (.getfield 190, 3) := dk_180 0 190 (dk_at dksX8_atom0_3 2 rfl rfl)
theorem dX8_atom0_76 : decode cX8_atom0 76 = .ok (.iconst 1, 1) := dk_4 (dk_at dksX8_atom0_3 5 rfl rfl)
theorem dX8_atom0_77 : decode cX8_atom0 77 = .ok (.isub, 1) := dk_100 (dk_at dksX8_atom0_3 6 rfl rfl)
theorem dX8_atom0_78 : decode cX8_atom0 78 = .ok (.putfield 190, 3) := dk_181 0 190 (dk_at dksX8_atom0_3 7 rfl rfl)
theorem dX8_atom0_81 : decode cX8_atom0 81 = .ok (.aload_n 0, 1) := dk_42 (dk_at dksX8_atom0_3 10 rfl rfl)
theorem dX8_atom0_82 : decode cX8_atom0 82 = .ok (.getfield 180, 3) := dk_180 0 180 (dk_at dksX8_atom0_3 11 rfl rfl)
theorem dX8_atom0_85 : decode cX8_atom0 85 = .ok (.ifCond .ne 76, 3) := dk_154 0 76 (dk_at dksX8_atom0_3 14 rfl rfl)
theorem dX8_atom0_88 : decode cX8_atom0 88 = .ok (.aload_n 0, 1) := dk_42 (dk_at dksX8_atom0_3 17 rfl rfl)
theorem dX8_atom0_89 : decode cX8_atom0 89 = .ok (.invokevirtual 196, 3) := dk_182 0 196 (dk_at dksX8_atom0_3 18 rfl rfl)
theorem dX8_atom0_92 : decode cX8_atom0 92 = .ok (.goto 69, 3) := dk_167 0 69 (dk_at dksX8_atom0_3 21 rfl rfl)
theorem dX8_atom0_95 : decode cX8_atom0 95 = .ok (.aload_n 0, 1) := dk_42 (dk_at dksX8_atom0_4 0 rfl rfl)
theorem dX8_atom0_96 : decode cX8_atom0 96 = .ok (.getfield 180, 3) := dk_180 0 180 (dk_at dksX8_atom0_4 1 rfl rfl)
theorem dX8_atom0_99 : decode cX8_atom0 99 = .ok (.ifCond .ne 24, 3) := dk_154 0 24 (dk_at dksX8_atom0_4 4 rfl rfl)
theorem dX8_atom0_102 : decode cX8_atom0 102 = .ok (.aload_n 0, 1) := dk_42 (dk_at dksX8_atom0_4 7 rfl rfl)
theorem dX8_atom0_103 : decode cX8_atom0 103 = .ok (.getfield 165, 3) := dk_180 0 165 (dk_at dksX8_atom0_4 8 rfl rfl)
theorem dX8_atom0_106 : decode cX8_atom0 106 = .ok (.iconst 2, 1) := dk_5 (dk_at dksX8_atom0_4 11 rfl rfl)
theorem dX8_atom0_107 : decode cX8_atom0 107 = .ok (.if_icmp .ne 16, 3) := dk_160 0 16 (dk_at dksX8_atom0_4 12 rfl rfl)
theorem dX8_atom0_110 : decode cX8_atom0 110 = .ok (.aload_n 0, 1) := dk_42 (dk_at dksX8_atom0_4 15 rfl rfl)
theorem dX8_atom0_111 : decode cX8_atom0 111 = .ok (.getfield 176, 3) := dk_180 0 176 (dk_at dksX8_atom0_4 16 rfl rfl)
theorem dX8_atom0_114 : decode cX8_atom0 114 = .ok (.l2i, 1) := dk_136 (dk_at dksX8_atom0_4 19 rfl rfl)
theorem dX8_atom0_115 : decode cX8_atom0 115 = .ok (.istore_n 1, 1) := dk_60 (dk_at dksX8_atom0_4 20 rfl rfl)
theorem dX8_atom0_116 : decode cX8_atom0 116 = .ok (.aload_n 0, 1) := dk_42 (dk_at dksX8_atom0_4 21 rfl rfl)
theorem dX8_atom0_117 : decode cX8_atom0 117 = .ok (.invokevirtual 196, 3) := dk_182 0 196 (dk_at dksX8_atom0_5 0 rfl rfl)
theorem dX8_atom0_120 : decode cX8_atom0 120 = .ok (.goto 41, 3) := dk_167 0 41 (dk_at dksX8_atom0_5 3 rfl rfl)
theorem dX8_atom0_123 : decode cX8_atom0 123 = .ok (.aload_n 0, 1) := dk_42 (dk_at dksX8_atom0_5 6 rfl rfl)
theorem dX8_atom0_124 : decode cX8_atom0 124 = .ok (.getfield 180, 3) := dk_180 0 180 (dk_at dksX8_atom0_5 7 rfl rfl)
theorem dX8_atom0_127 : decode cX8_atom0 127 = .ok (.ifCond .ne 30, 3) := dk_154 0 30 (dk_at dksX8_atom0_5 10 rfl rfl)
theorem dX8_atom0_130 : decode cX8_atom0 130 = .ok (.aload_n 0, 1) := dk_42 (dk_at dksX8_atom0_5 13 rfl rfl)
theorem dX8_atom0_131 : decode cX8_atom0 131 = .ok (.getfield 165, 3) := dk_180 0 165 (dk_at dksX8_atom0_5 14 rfl rfl)
theorem dX8_atom0_134 : decode cX8_atom0 134 = .ok (.iconst 1, 1) := dk_4 (dk_at dksX8_atom0_5 17 rfl rfl)
theorem dX8_atom0_135 : decode cX8_atom0 135 = .ok (.if_icmp .ne 22, 3) := dk_160 0 22 (dk_at dksX8_atom0_5 18 rfl rfl)
theorem dX8_atom0_138 : decode cX8_atom0 138 = .ok (.aload_n 0, 1) := dk_42 (dk_at dksX8_atom0_5 21 rfl rfl)
theorem dX8_atom0_139 : decode cX8_atom0 139 = .ok (.invokevirtual 228, 3) := dk_182 0 228 (dk_at dksX8_atom0_6 0 rfl rfl)
theorem dX8_atom0_142 : decode cX8_atom0 142 = .ok (.istore_n 1, 1) := dk_60 (dk_at dksX8_atom0_6 3 rfl rfl)
theorem dX8_atom0_143 : decode cX8_atom0 143 = .ok (.aload_n 0, 1) := dk_42 (dk_at dksX8_atom0_6 4 rfl rfl)
theorem dX8_atom0_144 : decode cX8_atom0 144 = .ok (.getfield 180, 3) := dk_180 0 180 (dk_at dksX8_atom0_6 5 rfl rfl)
theorem dX8_atom0_147 : decode cX8_atom0 147 = .ok (.ifCond .ne 14, 3) := dk_154 0 14 (dk_at dksX8_atom0_6 8 rfl rfl)
theorem dX8_atom0_150 : decode cX8_atom0 150 = .ok (.aload_n 0, 1) := dk_42 (dk_at dksX8_atom0_6 11 rfl rfl)
theorem dX8_atom0_151 : decode cX8_atom0 151 = .ok (.invokevirtual 196, 3) := dk_182 0 196 (dk_at dksX8_atom0_6 12 rfl rfl)
theorem dX8_atom0_154 : decode cX8_atom0 154 = .ok (.goto 7, 3) := dk_167 0 7 (dk_at dksX8_atom0_6 15 rfl rfl)
theorem dX8_atom0_157 : decode cX8_atom0 157 = .ok (.aload_n 0, 1) := dk_42 (dk_at dksX8_atom0_6 18 rfl rfl)
theorem dX8_atom0_158 : decode cX8_atom0 158 = .ok (.invokevirtual 193, 3) := dk_182 0 193 (dk_at dksX8_atom0_6 19 rfl rfl)
theorem dX8_atom0_161 : decode cX8_atom0 161 = .ok (.iload_n 1, 1) := dk_27 (dk_at dksX8_atom0_6 22 rfl rfl)
theorem dX8_atom0_162 : decode cX8_atom0 162 = .ok (.ireturn, 1) := dk_172 (dk_at dksX8_atom0_6 23 rfl rfl)
abbrev cX8_either1 : ByteArray := prog_16_method_55_code
def yX8_either1 : MethodName := ⟨RX8, "either1", "()I"⟩
def dkwX8_either1_2 : List UInt8 := [167, 255, 216, 27, 172]
abbrev dktX8_either1_2 : List UInt8 := dkwX8_either1_2 ++ []
def dkwX8_either1_1 : List UInt8 := [182, 0, 196, 42, 182, 1, 64, 61, 27, 154, 0, 7, 28, 153, 0, 7, 4, 167, 0, 4, 3, 60]
abbrev dktX8_either1_1 : List UInt8 := dkwX8_either1_1 ++ dktX8_either1_2
def dkwX8_either1_0 : List UInt8 := [42, 182, 1, 64, 60, 42, 16, 111, 16, 114, 3, 3, 3, 3, 3, 3, 182, 0, 199, 153, 0, 29, 42]
abbrev dktX8_either1_0 : List UInt8 := dkwX8_either1_0 ++ dktX8_either1_1
theorem dksX8_either1_0 : cX8_either1.data.toList.drop 0 = dktX8_either1_0 := by decide +kernel
theorem dksX8_either1_1 : cX8_either1.data.toList.drop 23 = dktX8_either1_1 := dk_seg dksX8_either1_0 23 rfl rfl
theorem dksX8_either1_2 : cX8_either1.data.toList.drop 45 = dktX8_either1_2 := dk_seg dksX8_either1_1 22 rfl rfl
theorem dX8_either1_0 : decode cX8_either1 0 = .ok (.aload_n 0, 1) := dk_42 (dk_at dksX8_either1_0 0 rfl rfl)
theorem dX8_either1_1 : decode cX8_either1 1 = .ok (.invokevirtual 320, 3) := dk_182 1 64 (dk_at dksX8_either1_0 1 rfl rfl)
theorem dX8_either1_4 : decode cX8_either1 4 = .ok (.istore_n 1, 1) := dk_60 (dk_at dksX8_either1_0 4 rfl rfl)
theorem dX8_either1_5 : decode cX8_either1 5 = .ok (.aload_n 0, 1) := dk_42 (dk_at dksX8_either1_0 5 rfl rfl)
theorem dX8_either1_6 : decode cX8_either1 6 = .ok (.bipush 111, 2) := dk_16 111 (dk_at dksX8_either1_0 6 rfl rfl)
theorem dX8_either1_8 : decode cX8_either1 8 = .ok (.bipush 114, 2) := dk_16 114 (dk_at dksX8_either1_0 8 rfl rfl)
theorem dX8_either1_10 : decode cX8_either1 10 = .ok (.iconst 0, 1) := dk_3 (dk_at dksX8_either1_0 10 rfl rfl)
theorem dX8_either1_11 : decode cX8_either1 11 = .ok (.iconst 0, 1) := dk_3 (dk_at dksX8_either1_0 11 rfl rfl)
theorem dX8_either1_12 : decode cX8_either1 12 = .ok (.iconst 0, 1) := dk_3 (dk_at dksX8_either1_0 12 rfl rfl)
theorem dX8_either1_13 : decode cX8_either1 13 = .ok (.iconst 0, 1) := dk_3 (dk_at dksX8_either1_0 13 rfl rfl)
theorem dX8_either1_14 : decode cX8_either1 14 = .ok (.iconst 0, 1) := dk_3 (dk_at dksX8_either1_0 14 rfl rfl)
theorem dX8_either1_15 : decode cX8_either1 15 = .ok (.iconst 0, 1) := dk_3 (dk_at dksX8_either1_0 15 rfl rfl)
theorem dX8_either1_16 : decode cX8_either1 16 = .ok (.invokevirtual 199, 3) := dk_182 0 199 (dk_at dksX8_either1_0 16 rfl rfl)
theorem dX8_either1_19 : decode cX8_either1 19 = .ok (.ifCond .eq 29, 3) := dk_153 0 29 (dk_at dksX8_either1_0 19 rfl rfl)
theorem dX8_either1_22 : decode cX8_either1 22 = .ok (.aload_n 0, 1) := dk_42 (dk_at dksX8_either1_0 22 rfl rfl)
theorem dX8_either1_23 : decode cX8_either1 23 = .ok (.invokevirtual 196, 3) := dk_182 0 196 (dk_at dksX8_either1_1 0 rfl rfl)
theorem dX8_either1_26 : decode cX8_either1 26 = .ok (.aload_n 0, 1) := dk_42 (dk_at dksX8_either1_1 3 rfl rfl)
theorem dX8_either1_27 : decode cX8_either1 27 = .ok (.invokevirtual 320, 3) := dk_182 1 64 (dk_at dksX8_either1_1 4 rfl rfl)
theorem dX8_either1_30 : decode cX8_either1 30 = .ok (.istore_n 2, 1) := dk_61 (dk_at dksX8_either1_1 7 rfl rfl)
theorem dX8_either1_31 : decode cX8_either1 31 = .ok (.iload_n 1, 1) := dk_27 (dk_at dksX8_either1_1 8 rfl rfl)
theorem dX8_either1_32 : decode cX8_either1 32 = .ok (.ifCond .ne 7, 3) := dk_154 0 7 (dk_at dksX8_either1_1 9 rfl rfl)
theorem dX8_either1_35 : decode cX8_either1 35 = .ok (.iload_n 2, 1) := dk_28 (dk_at dksX8_either1_1 12 rfl rfl)
theorem dX8_either1_36 : decode cX8_either1 36 = .ok (.ifCond .eq 7, 3) := dk_153 0 7 (dk_at dksX8_either1_1 13 rfl rfl)
theorem dX8_either1_39 : decode cX8_either1 39 = .ok (.iconst 1, 1) := dk_4 (dk_at dksX8_either1_1 16 rfl rfl)
theorem dX8_either1_40 : decode cX8_either1 40 = .ok (.goto 4, 3) := dk_167 0 4 (dk_at dksX8_either1_1 17 rfl rfl)
theorem dX8_either1_43 : decode cX8_either1 43 = .ok (.iconst 0, 1) := dk_3 (dk_at dksX8_either1_1 20 rfl rfl)
theorem dX8_either1_44 : decode cX8_either1 44 = .ok (.istore_n 1, 1) := dk_60 (dk_at dksX8_either1_1 21 rfl rfl)
theorem dX8_either1_45 : decode cX8_either1 45 = .ok (.goto (-40), 3) := dk_167 255 216 (dk_at dksX8_either1_2 0 rfl rfl)
theorem dX8_either1_48 : decode cX8_either1 48 = .ok (.iload_n 1, 1) := dk_27 (dk_at dksX8_either1_2 3 rfl rfl)
theorem dX8_either1_49 : decode cX8_either1 49 = .ok (.ireturn, 1) := dk_172 (dk_at dksX8_either1_2 4 rfl rfl)
abbrev cX8_both1 : ByteArray := prog_16_method_54_code
def yX8_both1 : MethodName := ⟨RX8, "both1", "()I"⟩
def dkwX8_both1_2 : List UInt8 := [167, 255, 215, 27, 172]
abbrev dktX8_both1_2 : List UInt8 := dkwX8_both1_2 ++ []
def dkwX8_both1_1 : List UInt8 := [182, 0, 196, 42, 182, 1, 61, 61, 27, 153, 0, 11, 28, 153, 0, 7, 4, 167, 0, 4, 3, 60]
abbrev dktX8_both1_1 : List UInt8 := dkwX8_both1_1 ++ dktX8_both1_2
def dkwX8_both1_0 : List UInt8 := [42, 182, 1, 61, 60, 42, 16, 97, 16, 110, 16, 100, 3, 3, 3, 3, 3, 182, 0, 199, 153, 0, 29, 42]
abbrev dktX8_both1_0 : List UInt8 := dkwX8_both1_0 ++ dktX8_both1_1
theorem dksX8_both1_0 : cX8_both1.data.toList.drop 0 = dktX8_both1_0 := by decide +kernel
theorem dksX8_both1_1 : cX8_both1.data.toList.drop 24 = dktX8_both1_1 := dk_seg dksX8_both1_0 24 rfl rfl
theorem dksX8_both1_2 : cX8_both1.data.toList.drop 46 = dktX8_both1_2 := dk_seg dksX8_both1_1 22 rfl rfl
theorem dX8_both1_0 : decode cX8_both1 0 = .ok (.aload_n 0, 1) := dk_42 (dk_at dksX8_both1_0 0 rfl rfl)
theorem dX8_both1_1 : decode cX8_both1 1 = .ok (.invokevirtual 317, 3) := dk_182 1 61 (dk_at dksX8_both1_0 1 rfl rfl)
theorem dX8_both1_4 : decode cX8_both1 4 = .ok (.istore_n 1, 1) := dk_60 (dk_at dksX8_both1_0 4 rfl rfl)
theorem dX8_both1_5 : decode cX8_both1 5 = .ok (.aload_n 0, 1) := dk_42 (dk_at dksX8_both1_0 5 rfl rfl)
theorem dX8_both1_6 : decode cX8_both1 6 = .ok (.bipush 97, 2) := dk_16 97 (dk_at dksX8_both1_0 6 rfl rfl)
theorem dX8_both1_8 : decode cX8_both1 8 = .ok (.bipush 110, 2) := dk_16 110 (dk_at dksX8_both1_0 8 rfl rfl)
theorem dX8_both1_10 : decode cX8_both1 10 = .ok (.bipush 100, 2) := dk_16 100 (dk_at dksX8_both1_0 10 rfl rfl)
theorem dX8_both1_12 : decode cX8_both1 12 = .ok (.iconst 0, 1) := dk_3 (dk_at dksX8_both1_0 12 rfl rfl)
theorem dX8_both1_13 : decode cX8_both1 13 = .ok (.iconst 0, 1) := dk_3 (dk_at dksX8_both1_0 13 rfl rfl)
theorem dX8_both1_14 : decode cX8_both1 14 = .ok (.iconst 0, 1) := dk_3 (dk_at dksX8_both1_0 14 rfl rfl)
theorem dX8_both1_15 : decode cX8_both1 15 = .ok (.iconst 0, 1) := dk_3 (dk_at dksX8_both1_0 15 rfl rfl)
theorem dX8_both1_16 : decode cX8_both1 16 = .ok (.iconst 0, 1) := dk_3 (dk_at dksX8_both1_0 16 rfl rfl)
theorem dX8_both1_17 : decode cX8_both1 17 = .ok (.invokevirtual 199, 3) := dk_182 0 199 (dk_at dksX8_both1_0 17 rfl rfl)
theorem dX8_both1_20 : decode cX8_both1 20 = .ok (.ifCond .eq 29, 3) := dk_153 0 29 (dk_at dksX8_both1_0 20 rfl rfl)
theorem dX8_both1_23 : decode cX8_both1 23 = .ok (.aload_n 0, 1) := dk_42 (dk_at dksX8_both1_0 23 rfl rfl)
theorem dX8_both1_24 : decode cX8_both1 24 = .ok (.invokevirtual 196, 3) := dk_182 0 196 (dk_at dksX8_both1_1 0 rfl rfl)
theorem dX8_both1_27 : decode cX8_both1 27 = .ok (.aload_n 0, 1) := dk_42 (dk_at dksX8_both1_1 3 rfl rfl)
theorem dX8_both1_28 : decode cX8_both1 28 = .ok (.invokevirtual 317, 3) := dk_182 1 61 (dk_at dksX8_both1_1 4 rfl rfl)
theorem dX8_both1_31 : decode cX8_both1 31 = .ok (.istore_n 2, 1) := dk_61 (dk_at dksX8_both1_1 7 rfl rfl)
theorem dX8_both1_32 : decode cX8_both1 32 = .ok (.iload_n 1, 1) := dk_27 (dk_at dksX8_both1_1 8 rfl rfl)
theorem dX8_both1_33 : decode cX8_both1 33 = .ok (.ifCond .eq 11, 3) := dk_153 0 11 (dk_at dksX8_both1_1 9 rfl rfl)
theorem dX8_both1_36 : decode cX8_both1 36 = .ok (.iload_n 2, 1) := dk_28 (dk_at dksX8_both1_1 12 rfl rfl)
theorem dX8_both1_37 : decode cX8_both1 37 = .ok (.ifCond .eq 7, 3) := dk_153 0 7 (dk_at dksX8_both1_1 13 rfl rfl)
theorem dX8_both1_40 : decode cX8_both1 40 = .ok (.iconst 1, 1) := dk_4 (dk_at dksX8_both1_1 16 rfl rfl)
theorem dX8_both1_41 : decode cX8_both1 41 = .ok (.goto 4, 3) := dk_167 0 4 (dk_at dksX8_both1_1 17 rfl rfl)
theorem dX8_both1_44 : decode cX8_both1 44 = .ok (.iconst 0, 1) := dk_3 (dk_at dksX8_both1_1 20 rfl rfl)
theorem dX8_both1_45 : decode cX8_both1 45 = .ok (.istore_n 1, 1) := dk_60 (dk_at dksX8_both1_1 21 rfl rfl)
theorem dX8_both1_46 : decode cX8_both1 46 = .ok (.goto (-41), 3) := dk_167 255 215 (dk_at dksX8_both1_2 0 rfl rfl)
theorem dX8_both1_49 : decode cX8_both1 49 = .ok (.iload_n 1, 1) := dk_27 (dk_at dksX8_both1_2 3 rfl rfl)
theorem dX8_both1_50 : decode cX8_both1 50 = .ok (.ireturn, 1) := dk_172 (dk_at dksX8_both1_2 4 rfl rfl)
abbrev cX8_within : ByteArray := prog_16_method_3_code
def yX8_within : MethodName := ⟨RX8, "within", "(III)I"⟩
def dkwX8_within_0 : List UInt8 := [26, 27, 162, 0, 7, 27, 167, 0, 13, 26, 28, 164, 0, 7, 28, 167, 0, 4, 26, 172]
abbrev dktX8_within_0 : List UInt8 := dkwX8_within_0 ++ []
theorem dksX8_within_0 : cX8_within.data.toList.drop 0 = dktX8_within_0 := by decide +kernel
theorem dX8_within_0 : decode cX8_within 0 = .ok (.iload_n 0, 1) := dk_26 (dk_at dksX8_within_0 0 rfl rfl)
theorem dX8_within_1 : decode cX8_within 1 = .ok (.iload_n 1, 1) := dk_27 (dk_at dksX8_within_0 1 rfl rfl)
theorem dX8_within_2 : decode cX8_within 2 = .ok (.if_icmp .ge 7, 3) := dk_162 0 7 (dk_at dksX8_within_0 2 rfl rfl)
theorem dX8_within_5 : decode cX8_within 5 = .ok (.iload_n 1, 1) := dk_27 (dk_at dksX8_within_0 5 rfl rfl)
theorem dX8_within_6 : decode cX8_within 6 = .ok (.goto 13, 3) := dk_167 0 13 (dk_at dksX8_within_0 6 rfl rfl)
theorem dX8_within_9 : decode cX8_within 9 = .ok (.iload_n 0, 1) := dk_26 (dk_at dksX8_within_0 9 rfl rfl)
theorem dX8_within_10 : decode cX8_within 10 = .ok (.iload_n 2, 1) := dk_28 (dk_at dksX8_within_0 10 rfl rfl)
theorem dX8_within_11 : decode cX8_within 11 = .ok (.if_icmp .le 7, 3) := dk_164 0 7 (dk_at dksX8_within_0 11 rfl rfl)
theorem dX8_within_14 : decode cX8_within 14 = .ok (.iload_n 2, 1) := dk_28 (dk_at dksX8_within_0 14 rfl rfl)
theorem dX8_within_15 : decode cX8_within 15 = .ok (.goto 4, 3) := dk_167 0 4 (dk_at dksX8_within_0 15 rfl rfl)
theorem dX8_within_18 : decode cX8_within 18 = .ok (.iload_n 0, 1) := dk_26 (dk_at dksX8_within_0 18 rfl rfl)
theorem dX8_within_19 : decode cX8_within 19 = .ok (.ireturn, 1) := dk_172 (dk_at dksX8_within_0 19 rfl rfl)
abbrev cX8_putsOf : ByteArray := prog_16_method_68_code
def yX8_putsOf : MethodName := ⟨RX8, "putsOf", "(I)I"⟩
def dkwX8_putsOf_4 : List UInt8 := [172]
abbrev dktX8_putsOf_4 : List UInt8 := dkwX8_putsOf_4 ++ []
def dkwX8_putsOf_3 : List UInt8 := [46, 96, 167, 0, 16, 28, 7, 160, 0, 10, 21, 5, 5, 108, 167, 0, 4, 29, 3, 16, 99, 184, 1, 98]
abbrev dktX8_putsOf_3 : List UInt8 := dkwX8_putsOf_3 ++ dktX8_putsOf_4
def dkwX8_putsOf_2 : List UInt8 := [28, 5, 160, 0, 8, 21, 5, 167, 0, 35, 28, 6, 160, 0, 17, 21, 4, 42, 180, 0, 29, 8, 27, 104]
abbrev dktX8_putsOf_2 : List UInt8 := dkwX8_putsOf_2 ++ dktX8_putsOf_3
def dkwX8_putsOf_1 : List UInt8 := [182, 1, 102, 62, 5, 29, 104, 54, 4, 29, 4, 96, 54, 5, 28, 4, 160, 0, 8, 21, 4, 167, 0, 45]
abbrev dktX8_putsOf_1 : List UInt8 := dkwX8_putsOf_1 ++ dktX8_putsOf_2
def dkwX8_putsOf_0 : List UInt8 := [42, 180, 0, 29, 8, 27, 104, 7, 96, 46, 61, 28, 8, 160, 0, 5, 3, 172, 42, 4, 27, 2]
abbrev dktX8_putsOf_0 : List UInt8 := dkwX8_putsOf_0 ++ dktX8_putsOf_1
theorem dksX8_putsOf_0 : cX8_putsOf.data.toList.drop 0 = dktX8_putsOf_0 := by decide +kernel
theorem dksX8_putsOf_1 : cX8_putsOf.data.toList.drop 22 = dktX8_putsOf_1 := dk_seg dksX8_putsOf_0 22 rfl rfl
theorem dksX8_putsOf_2 : cX8_putsOf.data.toList.drop 46 = dktX8_putsOf_2 := dk_seg dksX8_putsOf_1 24 rfl rfl
theorem dksX8_putsOf_3 : cX8_putsOf.data.toList.drop 70 = dktX8_putsOf_3 := dk_seg dksX8_putsOf_2 24 rfl rfl
theorem dksX8_putsOf_4 : cX8_putsOf.data.toList.drop 94 = dktX8_putsOf_4 := dk_seg dksX8_putsOf_3 24 rfl rfl
theorem dX8_putsOf_0 : decode cX8_putsOf 0 = .ok (.aload_n 0, 1) := dk_42 (dk_at dksX8_putsOf_0 0 rfl rfl)
theorem dX8_putsOf_1 : decode cX8_putsOf 1 = .ok (.getfield 29, 3) := dk_180 0 29 (dk_at dksX8_putsOf_0 1 rfl rfl)
theorem dX8_putsOf_4 : decode cX8_putsOf 4 = .ok (.iconst 5, 1) := dk_8 (dk_at dksX8_putsOf_0 4 rfl rfl)
theorem dX8_putsOf_5 : decode cX8_putsOf 5 = .ok (.iload_n 1, 1) := dk_27 (dk_at dksX8_putsOf_0 5 rfl rfl)
theorem dX8_putsOf_6 : decode cX8_putsOf 6 = .ok (.imul, 1) := dk_104 (dk_at dksX8_putsOf_0 6 rfl rfl)
theorem dX8_putsOf_7 : decode cX8_putsOf 7 = .ok (.iconst 4, 1) := dk_7 (dk_at dksX8_putsOf_0 7 rfl rfl)
theorem dX8_putsOf_8 : decode cX8_putsOf 8 = .ok (.iadd, 1) := dk_96 (dk_at dksX8_putsOf_0 8 rfl rfl)
theorem dX8_putsOf_9 : decode cX8_putsOf 9 = .ok (.iaload, 1) := dk_46 (dk_at dksX8_putsOf_0 9 rfl rfl)
theorem dX8_putsOf_10 : decode cX8_putsOf 10 = .ok (.istore_n 2, 1) := dk_61 (dk_at dksX8_putsOf_0 10 rfl rfl)
theorem dX8_putsOf_11 : decode cX8_putsOf 11 = .ok (.iload_n 2, 1) := dk_28 (dk_at dksX8_putsOf_0 11 rfl rfl)
theorem dX8_putsOf_12 : decode cX8_putsOf 12 = .ok (.iconst 5, 1) := dk_8 (dk_at dksX8_putsOf_0 12 rfl rfl)
theorem dX8_putsOf_13 : decode cX8_putsOf 13 = .ok (.if_icmp .ne 5, 3) := dk_160 0 5 (dk_at dksX8_putsOf_0 13 rfl rfl)
theorem dX8_putsOf_16 : decode cX8_putsOf 16 = .ok (.iconst 0, 1) := dk_3 (dk_at dksX8_putsOf_0 16 rfl rfl)
theorem dX8_putsOf_17 : decode cX8_putsOf 17 = .ok (.ireturn, 1) := dk_172 (dk_at dksX8_putsOf_0 17 rfl rfl)
theorem dX8_putsOf_18 : decode cX8_putsOf 18 = .ok (.aload_n 0, 1) := dk_42 (dk_at dksX8_putsOf_0 18 rfl rfl)
theorem dX8_putsOf_19 : decode cX8_putsOf 19 = .ok (.iconst 1, 1) := dk_4 (dk_at dksX8_putsOf_0 19 rfl rfl)
theorem dX8_putsOf_20 : decode cX8_putsOf 20 = .ok (.iload_n 1, 1) := dk_27 (dk_at dksX8_putsOf_0 20 rfl rfl)
theorem dX8_putsOf_21 : decode cX8_putsOf 21 = .ok (.iconst (-1), 1) := dk_2 (dk_at dksX8_putsOf_0 21 rfl rfl)
theorem dX8_putsOf_22 : decode cX8_putsOf 22 = .ok (.invokevirtual 358, 3) := dk_182 1 102 (dk_at dksX8_putsOf_1 0 rfl rfl)
theorem dX8_putsOf_25 : decode cX8_putsOf 25 = .ok (.istore_n 3, 1) := dk_62 (dk_at dksX8_putsOf_1 3 rfl rfl)
theorem dX8_putsOf_26 : decode cX8_putsOf 26 = .ok (.iconst 2, 1) := dk_5 (dk_at dksX8_putsOf_1 4 rfl rfl)
theorem dX8_putsOf_27 : decode cX8_putsOf 27 = .ok (.iload_n 3, 1) := dk_29 (dk_at dksX8_putsOf_1 5 rfl rfl)
theorem dX8_putsOf_28 : decode cX8_putsOf 28 = .ok (.imul, 1) := dk_104 (dk_at dksX8_putsOf_1 6 rfl rfl)
theorem dX8_putsOf_29 : decode cX8_putsOf 29 = .ok (.istore 4, 2) := dk_54 4 (dk_at dksX8_putsOf_1 7 rfl rfl)
theorem dX8_putsOf_31 : decode cX8_putsOf 31 = .ok (.iload_n 3, 1) := dk_29 (dk_at dksX8_putsOf_1 9 rfl rfl)
theorem dX8_putsOf_32 : decode cX8_putsOf 32 = .ok (.iconst 1, 1) := dk_4 (dk_at dksX8_putsOf_1 10 rfl rfl)
theorem dX8_putsOf_33 : decode cX8_putsOf 33 = .ok (.iadd, 1) := dk_96 (dk_at dksX8_putsOf_1 11 rfl rfl)
theorem dX8_putsOf_34 : decode cX8_putsOf 34 = .ok (.istore 5, 2) := dk_54 5 (dk_at dksX8_putsOf_1 12 rfl rfl)
theorem dX8_putsOf_36 : decode cX8_putsOf 36 = .ok (.iload_n 2, 1) := dk_28 (dk_at dksX8_putsOf_1 14 rfl rfl)
theorem dX8_putsOf_37 : decode cX8_putsOf 37 = .ok (.iconst 1, 1) := dk_4 (dk_at dksX8_putsOf_1 15 rfl rfl)
theorem dX8_putsOf_38 : decode cX8_putsOf 38 = .ok (.if_icmp .ne 8, 3) := dk_160 0 8 (dk_at dksX8_putsOf_1 16 rfl rfl)
theorem dX8_putsOf_41 : decode cX8_putsOf 41 = .ok (.iload 4, 2) := dk_21 4 (dk_at dksX8_putsOf_1 19 rfl rfl)
theorem dX8_putsOf_43 : decode cX8_putsOf 43 = .ok (.goto 45, 3) := dk_167 0 45 (dk_at dksX8_putsOf_1 21 rfl rfl)
theorem dX8_putsOf_46 : decode cX8_putsOf 46 = .ok (.iload_n 2, 1) := dk_28 (dk_at dksX8_putsOf_2 0 rfl rfl)
theorem dX8_putsOf_47 : decode cX8_putsOf 47 = .ok (.iconst 2, 1) := dk_5 (dk_at dksX8_putsOf_2 1 rfl rfl)
theorem dX8_putsOf_48 : decode cX8_putsOf 48 = .ok (.if_icmp .ne 8, 3) := dk_160 0 8 (dk_at dksX8_putsOf_2 2 rfl rfl)
theorem dX8_putsOf_51 : decode cX8_putsOf 51 = .ok (.iload 5, 2) := dk_21 5 (dk_at dksX8_putsOf_2 5 rfl rfl)
theorem dX8_putsOf_53 : decode cX8_putsOf 53 = .ok (.goto 35, 3) := dk_167 0 35 (dk_at dksX8_putsOf_2 7 rfl rfl)
theorem dX8_putsOf_56 : decode cX8_putsOf 56 = .ok (.iload_n 2, 1) := dk_28 (dk_at dksX8_putsOf_2 10 rfl rfl)
theorem dX8_putsOf_57 : decode cX8_putsOf 57 = .ok (.iconst 3, 1) := dk_6 (dk_at dksX8_putsOf_2 11 rfl rfl)
theorem dX8_putsOf_58 : decode cX8_putsOf 58 = .ok (.if_icmp .ne 17, 3) := dk_160 0 17 (dk_at dksX8_putsOf_2 12 rfl rfl)
theorem dX8_putsOf_61 : decode cX8_putsOf 61 = .ok (.iload 4, 2) := dk_21 4 (dk_at dksX8_putsOf_2 15 rfl rfl)
theorem dX8_putsOf_63 : decode cX8_putsOf 63 = .ok (.aload_n 0, 1) := dk_42 (dk_at dksX8_putsOf_2 17 rfl rfl)
theorem dX8_putsOf_64 : decode cX8_putsOf 64 = .ok (.getfield 29, 3) := dk_180 0 29 (dk_at dksX8_putsOf_2 18 rfl rfl)
theorem dX8_putsOf_67 : decode cX8_putsOf 67 = .ok (.iconst 5, 1) := dk_8 (dk_at dksX8_putsOf_2 21 rfl rfl)
theorem dX8_putsOf_68 : decode cX8_putsOf 68 = .ok (.iload_n 1, 1) := dk_27 (dk_at dksX8_putsOf_2 22 rfl rfl)
theorem dX8_putsOf_69 : decode cX8_putsOf 69 = .ok (.imul, 1) := dk_104 (dk_at dksX8_putsOf_2 23 rfl rfl)
theorem dX8_putsOf_70 : decode cX8_putsOf 70 = .ok (.iaload, 1) := dk_46 (dk_at dksX8_putsOf_3 0 rfl rfl)
theorem dX8_putsOf_71 : decode cX8_putsOf 71 = .ok (.iadd, 1) := dk_96 (dk_at dksX8_putsOf_3 1 rfl rfl)
theorem dX8_putsOf_72 : decode cX8_putsOf 72 = .ok (.goto 16, 3) := dk_167 0 16 (dk_at dksX8_putsOf_3 2 rfl rfl)
theorem dX8_putsOf_75 : decode cX8_putsOf 75 = .ok (.iload_n 2, 1) := dk_28 (dk_at dksX8_putsOf_3 5 rfl rfl)
theorem dX8_putsOf_76 : decode cX8_putsOf 76 = .ok (.iconst 4, 1) := dk_7 (dk_at dksX8_putsOf_3 6 rfl rfl)
theorem dX8_putsOf_77 : decode cX8_putsOf 77 = .ok (.if_icmp .ne 10, 3) := dk_160 0 10 (dk_at dksX8_putsOf_3 7 rfl rfl)
theorem dX8_putsOf_80 : decode cX8_putsOf 80 = .ok (.iload 5, 2) := dk_21 5 (dk_at dksX8_putsOf_3 10 rfl rfl)
theorem dX8_putsOf_82 : decode cX8_putsOf 82 = .ok (.iconst 2, 1) := dk_5 (dk_at dksX8_putsOf_3 12 rfl rfl)
theorem dX8_putsOf_83 : decode cX8_putsOf 83 = .ok (.idiv, 1) := dk_108 (dk_at dksX8_putsOf_3 13 rfl rfl)
theorem dX8_putsOf_84 : decode cX8_putsOf 84 = .ok (.goto 4, 3) := dk_167 0 4 (dk_at dksX8_putsOf_3 14 rfl rfl)
theorem dX8_putsOf_87 : decode cX8_putsOf 87 = .ok (.iload_n 3, 1) := dk_29 (dk_at dksX8_putsOf_3 17 rfl rfl)
theorem dX8_putsOf_88 : decode cX8_putsOf 88 = .ok (.iconst 0, 1) := dk_3 (dk_at dksX8_putsOf_3 18 rfl rfl)
theorem dX8_putsOf_89 : decode cX8_putsOf 89 = .ok (.bipush 99, 2) := dk_16 99 (dk_at dksX8_putsOf_3 19 rfl rfl)
theorem dX8_putsOf_91 : decode cX8_putsOf 91 = .ok (.invokestatic 354, 3) := dk_184 1 98 (dk_at dksX8_putsOf_3 21 rfl rfl)
theorem dX8_putsOf_94 : decode cX8_putsOf 94 = .ok (.ireturn, 1) := dk_172 (dk_at dksX8_putsOf_4 0 rfl rfl)
abbrev cX8_whoAt : ByteArray := prog_16_method_15_code
def yX8_whoAt : MethodName := ⟨RX8, "whoAt", "(I)I"⟩
def dkwX8_whoAt_1 : List UInt8 := [160, 0, 7, 4, 167, 0, 4, 3, 29, 120, 128, 61, 132, 3, 1, 167, 255, 221, 28, 172]
abbrev dktX8_whoAt_1 : List UInt8 := dkwX8_whoAt_1 ++ []
def dkwX8_whoAt_0 : List UInt8 := [3, 61, 3, 62, 29, 42, 180, 0, 83, 162, 0, 33, 28, 42, 180, 0, 29, 8, 29, 104, 4, 96, 46, 27]
abbrev dktX8_whoAt_0 : List UInt8 := dkwX8_whoAt_0 ++ dktX8_whoAt_1
theorem dksX8_whoAt_0 : cX8_whoAt.data.toList.drop 0 = dktX8_whoAt_0 := by decide +kernel
theorem dksX8_whoAt_1 : cX8_whoAt.data.toList.drop 24 = dktX8_whoAt_1 := dk_seg dksX8_whoAt_0 24 rfl rfl
theorem dX8_whoAt_0 : decode cX8_whoAt 0 = .ok (.iconst 0, 1) := dk_3 (dk_at dksX8_whoAt_0 0 rfl rfl)
theorem dX8_whoAt_1 : decode cX8_whoAt 1 = .ok (.istore_n 2, 1) := dk_61 (dk_at dksX8_whoAt_0 1 rfl rfl)
theorem dX8_whoAt_2 : decode cX8_whoAt 2 = .ok (.iconst 0, 1) := dk_3 (dk_at dksX8_whoAt_0 2 rfl rfl)
theorem dX8_whoAt_3 : decode cX8_whoAt 3 = .ok (.istore_n 3, 1) := dk_62 (dk_at dksX8_whoAt_0 3 rfl rfl)
theorem dX8_whoAt_4 : decode cX8_whoAt 4 = .ok (.iload_n 3, 1) := dk_29 (dk_at dksX8_whoAt_0 4 rfl rfl)
theorem dX8_whoAt_5 : decode cX8_whoAt 5 = .ok (.aload_n 0, 1) := dk_42 (dk_at dksX8_whoAt_0 5 rfl rfl)
theorem dX8_whoAt_6 : decode cX8_whoAt 6 = .ok (.getfield 83, 3) := dk_180 0 83 (dk_at dksX8_whoAt_0 6 rfl rfl)
theorem dX8_whoAt_9 : decode cX8_whoAt 9 = .ok (.if_icmp .ge 33, 3) := dk_162 0 33 (dk_at dksX8_whoAt_0 9 rfl rfl)
theorem dX8_whoAt_12 : decode cX8_whoAt 12 = .ok (.iload_n 2, 1) := dk_28 (dk_at dksX8_whoAt_0 12 rfl rfl)
theorem dX8_whoAt_13 : decode cX8_whoAt 13 = .ok (.aload_n 0, 1) := dk_42 (dk_at dksX8_whoAt_0 13 rfl rfl)
theorem dX8_whoAt_14 : decode cX8_whoAt 14 = .ok (.getfield 29, 3) := dk_180 0 29 (dk_at dksX8_whoAt_0 14 rfl rfl)
theorem dX8_whoAt_17 : decode cX8_whoAt 17 = .ok (.iconst 5, 1) := dk_8 (dk_at dksX8_whoAt_0 17 rfl rfl)
theorem dX8_whoAt_18 : decode cX8_whoAt 18 = .ok (.iload_n 3, 1) := dk_29 (dk_at dksX8_whoAt_0 18 rfl rfl)
theorem dX8_whoAt_19 : decode cX8_whoAt 19 = .ok (.imul, 1) := dk_104 (dk_at dksX8_whoAt_0 19 rfl rfl)
theorem dX8_whoAt_20 : decode cX8_whoAt 20 = .ok (.iconst 1, 1) := dk_4 (dk_at dksX8_whoAt_0 20 rfl rfl)
theorem dX8_whoAt_21 : decode cX8_whoAt 21 = .ok (.iadd, 1) := dk_96 (dk_at dksX8_whoAt_0 21 rfl rfl)
theorem dX8_whoAt_22 : decode cX8_whoAt 22 = .ok (.iaload, 1) := dk_46 (dk_at dksX8_whoAt_0 22 rfl rfl)
theorem dX8_whoAt_23 : decode cX8_whoAt 23 = .ok (.iload_n 1, 1) := dk_27 (dk_at dksX8_whoAt_0 23 rfl rfl)
theorem dX8_whoAt_24 : decode cX8_whoAt 24 = .ok (.if_icmp .ne 7, 3) := dk_160 0 7 (dk_at dksX8_whoAt_1 0 rfl rfl)
theorem dX8_whoAt_27 : decode cX8_whoAt 27 = .ok (.iconst 1, 1) := dk_4 (dk_at dksX8_whoAt_1 3 rfl rfl)
theorem dX8_whoAt_28 : decode cX8_whoAt 28 = .ok (.goto 4, 3) := dk_167 0 4 (dk_at dksX8_whoAt_1 4 rfl rfl)
theorem dX8_whoAt_31 : decode cX8_whoAt 31 = .ok (.iconst 0, 1) := dk_3 (dk_at dksX8_whoAt_1 7 rfl rfl)
theorem dX8_whoAt_32 : decode cX8_whoAt 32 = .ok (.iload_n 3, 1) := dk_29 (dk_at dksX8_whoAt_1 8 rfl rfl)
theorem dX8_whoAt_33 : decode cX8_whoAt 33 = .ok (.ishl, 1) := dk_120 (dk_at dksX8_whoAt_1 9 rfl rfl)
theorem dX8_whoAt_34 : decode cX8_whoAt 34 = .ok (.ior, 1) := dk_128 (dk_at dksX8_whoAt_1 10 rfl rfl)
theorem dX8_whoAt_35 : decode cX8_whoAt 35 = .ok (.istore_n 2, 1) := dk_61 (dk_at dksX8_whoAt_1 11 rfl rfl)
theorem dX8_whoAt_36 : decode cX8_whoAt 36 = .ok (.iinc 3 1, 3) := dk_132 3 1 (dk_at dksX8_whoAt_1 12 rfl rfl)
theorem dX8_whoAt_39 : decode cX8_whoAt 39 = .ok (.goto (-35), 3) := dk_167 255 221 (dk_at dksX8_whoAt_1 15 rfl rfl)
theorem dX8_whoAt_42 : decode cX8_whoAt 42 = .ok (.iload_n 2, 1) := dk_28 (dk_at dksX8_whoAt_1 18 rfl rfl)
theorem dX8_whoAt_43 : decode cX8_whoAt 43 = .ok (.ireturn, 1) := dk_172 (dk_at dksX8_whoAt_1 19 rfl rfl)
abbrev cX8_lays : ByteArray := prog_16_method_12_code
def yX8_lays : MethodName := ⟨RX8, "lays", "(III)V"⟩
def dkwX8_lays_2 : List UInt8 := [42, 180, 0, 29, 8, 28, 104, 27, 96, 6, 100, 29, 79, 167, 0, 8, 42, 29, 181, 0, 127, 177]
abbrev dktX8_lays_2 : List UInt8 := dkwX8_lays_2 ++ []
def dkwX8_lays_1 : List UInt8 := [29, 79, 167, 0, 43, 27, 5, 160, 0, 11, 42, 29, 181, 0, 124, 167, 0, 30, 27, 16, 8, 162, 0, 19]
abbrev dktX8_lays_1 : List UInt8 := dkwX8_lays_1 ++ dktX8_lays_2
def dkwX8_lays_0 : List UInt8 := [27, 154, 0, 13, 42, 180, 0, 23, 28, 29, 79, 167, 0, 58, 27, 4, 160, 0, 13, 42, 180, 0, 26, 28]
abbrev dktX8_lays_0 : List UInt8 := dkwX8_lays_0 ++ dktX8_lays_1
theorem dksX8_lays_0 : cX8_lays.data.toList.drop 0 = dktX8_lays_0 := by decide +kernel
theorem dksX8_lays_1 : cX8_lays.data.toList.drop 24 = dktX8_lays_1 := dk_seg dksX8_lays_0 24 rfl rfl
theorem dksX8_lays_2 : cX8_lays.data.toList.drop 48 = dktX8_lays_2 := dk_seg dksX8_lays_1 24 rfl rfl
theorem dX8_lays_0 : decode cX8_lays 0 = .ok (.iload_n 1, 1) := dk_27 (dk_at dksX8_lays_0 0 rfl rfl)
theorem dX8_lays_1 : decode cX8_lays 1 = .ok (.ifCond .ne 13, 3) := dk_154 0 13 (dk_at dksX8_lays_0 1 rfl rfl)
theorem dX8_lays_4 : decode cX8_lays 4 = .ok (.aload_n 0, 1) := dk_42 (dk_at dksX8_lays_0 4 rfl rfl)
theorem dX8_lays_5 : decode cX8_lays 5 = .ok (.getfield 23, 3) := dk_180 0 23 (dk_at dksX8_lays_0 5 rfl rfl)
theorem dX8_lays_8 : decode cX8_lays 8 = .ok (.iload_n 2, 1) := dk_28 (dk_at dksX8_lays_0 8 rfl rfl)
theorem dX8_lays_9 : decode cX8_lays 9 = .ok (.iload_n 3, 1) := dk_29 (dk_at dksX8_lays_0 9 rfl rfl)
theorem dX8_lays_10 : decode cX8_lays 10 = .ok (.iastore, 1) := dk_79 (dk_at dksX8_lays_0 10 rfl rfl)
theorem dX8_lays_11 : decode cX8_lays 11 = .ok (.goto 58, 3) := dk_167 0 58 (dk_at dksX8_lays_0 11 rfl rfl)
theorem dX8_lays_14 : decode cX8_lays 14 = .ok (.iload_n 1, 1) := dk_27 (dk_at dksX8_lays_0 14 rfl rfl)
theorem dX8_lays_15 : decode cX8_lays 15 = .ok (.iconst 1, 1) := dk_4 (dk_at dksX8_lays_0 15 rfl rfl)
theorem dX8_lays_16 : decode cX8_lays 16 = .ok (.if_icmp .ne 13, 3) := dk_160 0 13 (dk_at dksX8_lays_0 16 rfl rfl)
theorem dX8_lays_19 : decode cX8_lays 19 = .ok (.aload_n 0, 1) := dk_42 (dk_at dksX8_lays_0 19 rfl rfl)
theorem dX8_lays_20 : decode cX8_lays 20 = .ok (.getfield 26, 3) := dk_180 0 26 (dk_at dksX8_lays_0 20 rfl rfl)
theorem dX8_lays_23 : decode cX8_lays 23 = .ok (.iload_n 2, 1) := dk_28 (dk_at dksX8_lays_0 23 rfl rfl)
theorem dX8_lays_24 : decode cX8_lays 24 = .ok (.iload_n 3, 1) := dk_29 (dk_at dksX8_lays_1 0 rfl rfl)
theorem dX8_lays_25 : decode cX8_lays 25 = .ok (.iastore, 1) := dk_79 (dk_at dksX8_lays_1 1 rfl rfl)
theorem dX8_lays_26 : decode cX8_lays 26 = .ok (.goto 43, 3) := dk_167 0 43 (dk_at dksX8_lays_1 2 rfl rfl)
theorem dX8_lays_29 : decode cX8_lays 29 = .ok (.iload_n 1, 1) := dk_27 (dk_at dksX8_lays_1 5 rfl rfl)
theorem dX8_lays_30 : decode cX8_lays 30 = .ok (.iconst 2, 1) := dk_5 (dk_at dksX8_lays_1 6 rfl rfl)
theorem dX8_lays_31 : decode cX8_lays 31 = .ok (.if_icmp .ne 11, 3) := dk_160 0 11 (dk_at dksX8_lays_1 7 rfl rfl)
theorem dX8_lays_34 : decode cX8_lays 34 = .ok (.aload_n 0, 1) := dk_42 (dk_at dksX8_lays_1 10 rfl rfl)
theorem dX8_lays_35 : decode cX8_lays 35 = .ok (.iload_n 3, 1) := dk_29 (dk_at dksX8_lays_1 11 rfl rfl)
theorem dX8_lays_36 : decode cX8_lays 36 = .ok (.putfield 124, 3) := dk_181 0 124 (dk_at dksX8_lays_1 12 rfl rfl)
theorem dX8_lays_39 : decode cX8_lays 39 = .ok (.goto 30, 3) := dk_167 0 30 (dk_at dksX8_lays_1 15 rfl rfl)
theorem dX8_lays_42 : decode cX8_lays 42 = .ok (.iload_n 1, 1) := dk_27 (dk_at dksX8_lays_1 18 rfl rfl)
theorem dX8_lays_43 : decode cX8_lays 43 = .ok (.bipush 8, 2) := dk_16 8 (dk_at dksX8_lays_1 19 rfl rfl)
theorem dX8_lays_45 : decode cX8_lays 45 = .ok (.if_icmp .ge 19, 3) := dk_162 0 19 (dk_at dksX8_lays_1 21 rfl rfl)
theorem dX8_lays_48 : decode cX8_lays 48 = .ok (.aload_n 0, 1) := dk_42 (dk_at dksX8_lays_2 0 rfl rfl)
theorem dX8_lays_49 : decode cX8_lays 49 = .ok (.getfield 29, 3) := dk_180 0 29 (dk_at dksX8_lays_2 1 rfl rfl)
theorem dX8_lays_52 : decode cX8_lays 52 = .ok (.iconst 5, 1) := dk_8 (dk_at dksX8_lays_2 4 rfl rfl)
theorem dX8_lays_53 : decode cX8_lays 53 = .ok (.iload_n 2, 1) := dk_28 (dk_at dksX8_lays_2 5 rfl rfl)
theorem dX8_lays_54 : decode cX8_lays 54 = .ok (.imul, 1) := dk_104 (dk_at dksX8_lays_2 6 rfl rfl)
theorem dX8_lays_55 : decode cX8_lays 55 = .ok (.iload_n 1, 1) := dk_27 (dk_at dksX8_lays_2 7 rfl rfl)
theorem dX8_lays_56 : decode cX8_lays 56 = .ok (.iadd, 1) := dk_96 (dk_at dksX8_lays_2 8 rfl rfl)
theorem dX8_lays_57 : decode cX8_lays 57 = .ok (.iconst 3, 1) := dk_6 (dk_at dksX8_lays_2 9 rfl rfl)
theorem dX8_lays_58 : decode cX8_lays 58 = .ok (.isub, 1) := dk_100 (dk_at dksX8_lays_2 10 rfl rfl)
theorem dX8_lays_59 : decode cX8_lays 59 = .ok (.iload_n 3, 1) := dk_29 (dk_at dksX8_lays_2 11 rfl rfl)
theorem dX8_lays_60 : decode cX8_lays 60 = .ok (.iastore, 1) := dk_79 (dk_at dksX8_lays_2 12 rfl rfl)
theorem dX8_lays_61 : decode cX8_lays 61 = .ok (.goto 8, 3) := dk_167 0 8 (dk_at dksX8_lays_2 13 rfl rfl)
theorem dX8_lays_64 : decode cX8_lays 64 = .ok (.aload_n 0, 1) := dk_42 (dk_at dksX8_lays_2 16 rfl rfl)
theorem dX8_lays_65 : decode cX8_lays 65 = .ok (.iload_n 3, 1) := dk_29 (dk_at dksX8_lays_2 17 rfl rfl)
theorem dX8_lays_66 : decode cX8_lays 66 = .ok (.putfield 127, 3) := dk_181 0 127 (dk_at dksX8_lays_2 18 rfl rfl)
theorem dX8_lays_69 : decode cX8_lays 69 = .ok (.return_, 1) := dk_177 (dk_at dksX8_lays_2 21 rfl rfl)
abbrev cX8_life : ByteArray := prog_16_method_13_code
def yX8_life : MethodName := ⟨RX8, "life", "(III)I"⟩
def dkwX8_life_5 : List UInt8 := [4, 96, 181, 0, 83, 42, 180, 0, 83, 4, 100, 172]
abbrev dktX8_life_5 : List UInt8 := dkwX8_life_5 ++ []
def dkwX8_life_4 : List UInt8 := [104, 6, 96, 3, 79, 42, 180, 0, 29, 8, 42, 180, 0, 83, 104, 7, 96, 27, 79, 42, 89, 180, 0, 83]
abbrev dktX8_life_4 : List UInt8 := dkwX8_life_4 ++ dktX8_life_5
def dkwX8_life_3 : List UInt8 := [79, 42, 180, 0, 29, 8, 42, 180, 0, 83, 104, 5, 96, 3, 79, 42, 180, 0, 29, 8, 42, 180, 0, 83]
abbrev dktX8_life_3 : List UInt8 := dkwX8_life_3 ++ dktX8_life_4
def dkwX8_life_2 : List UInt8 := [180, 0, 29, 8, 42, 180, 0, 83, 104, 28, 79, 42, 180, 0, 29, 8, 42, 180, 0, 83, 104, 4, 96, 29]
abbrev dktX8_life_2 : List UInt8 := dkwX8_life_2 ++ dktX8_life_3
def dkwX8_life_1 : List UInt8 := [29, 184, 0, 98, 154, 0, 6, 16, 254, 172, 42, 180, 0, 83, 8, 160, 0, 6, 16, 252, 172, 42]
abbrev dktX8_life_1 : List UInt8 := dkwX8_life_1 ++ dktX8_life_2
def dkwX8_life_0 : List UInt8 := [27, 133, 9, 20, 0, 130, 184, 0, 86, 153, 0, 22, 28, 133, 9, 20, 0, 132, 184, 0, 86, 153, 0, 10]
abbrev dktX8_life_0 : List UInt8 := dkwX8_life_0 ++ dktX8_life_1
theorem dksX8_life_0 : cX8_life.data.toList.drop 0 = dktX8_life_0 := by decide +kernel
theorem dksX8_life_1 : cX8_life.data.toList.drop 24 = dktX8_life_1 := dk_seg dksX8_life_0 24 rfl rfl
theorem dksX8_life_2 : cX8_life.data.toList.drop 46 = dktX8_life_2 := dk_seg dksX8_life_1 22 rfl rfl
theorem dksX8_life_3 : cX8_life.data.toList.drop 70 = dktX8_life_3 := dk_seg dksX8_life_2 24 rfl rfl
theorem dksX8_life_4 : cX8_life.data.toList.drop 94 = dktX8_life_4 := dk_seg dksX8_life_3 24 rfl rfl
theorem dksX8_life_5 : cX8_life.data.toList.drop 118 = dktX8_life_5 := dk_seg dksX8_life_4 24 rfl rfl
theorem dX8_life_0 : decode cX8_life 0 = .ok (.iload_n 1, 1) := dk_27 (dk_at dksX8_life_0 0 rfl rfl)
theorem dX8_life_1 : decode cX8_life 1 = .ok (.i2l, 1) := dk_133 (dk_at dksX8_life_0 1 rfl rfl)
theorem dX8_life_2 : decode cX8_life 2 = .ok (.lconst 0, 1) := dk_9 (dk_at dksX8_life_0 2 rfl rfl)
theorem dX8_life_3 : decode cX8_life 3 = .ok (.ldc2_w 130, 3) := dk_20 0 130 (dk_at dksX8_life_0 3 rfl rfl)
theorem dX8_life_6 : decode cX8_life 6 = .ok (.invokestatic 86, 3) := dk_184 0 86 (dk_at dksX8_life_0 6 rfl rfl)
theorem dX8_life_9 : decode cX8_life 9 = .ok (.ifCond .eq 22, 3) := dk_153 0 22 (dk_at dksX8_life_0 9 rfl rfl)
theorem dX8_life_12 : decode cX8_life 12 = .ok (.iload_n 2, 1) := dk_28 (dk_at dksX8_life_0 12 rfl rfl)
theorem dX8_life_13 : decode cX8_life 13 = .ok (.i2l, 1) := dk_133 (dk_at dksX8_life_0 13 rfl rfl)
theorem dX8_life_14 : decode cX8_life 14 = .ok (.lconst 0, 1) := dk_9 (dk_at dksX8_life_0 14 rfl rfl)
theorem dX8_life_15 : decode cX8_life 15 = .ok (.ldc2_w 132, 3) := dk_20 0 132 (dk_at dksX8_life_0 15 rfl rfl)
theorem dX8_life_18 : decode cX8_life 18 = .ok (.invokestatic 86, 3) := dk_184 0 86 (dk_at dksX8_life_0 18 rfl rfl)
theorem dX8_life_21 : decode cX8_life 21 = .ok (.ifCond .eq 10, 3) := dk_153 0 10 (dk_at dksX8_life_0 21 rfl rfl)
theorem dX8_life_24 : decode cX8_life 24 = .ok (.iload_n 3, 1) := dk_29 (dk_at dksX8_life_1 0 rfl rfl)
theorem dX8_life_25 : decode cX8_life 25 = .ok (.invokestatic 98, 3) := dk_184 0 98 (dk_at dksX8_life_1 1 rfl rfl)
theorem dX8_life_28 : decode cX8_life 28 = .ok (.ifCond .ne 6, 3) := dk_154 0 6 (dk_at dksX8_life_1 4 rfl rfl)
theorem dX8_life_31 : decode cX8_life 31 = .ok (.bipush (-2), 2) := dk_16 254 (dk_at dksX8_life_1 7 rfl rfl)
theorem dX8_life_33 : decode cX8_life 33 = .ok (.ireturn, 1) := dk_172 (dk_at dksX8_life_1 9 rfl rfl)
theorem dX8_life_34 : decode cX8_life 34 = .ok (.aload_n 0, 1) := dk_42 (dk_at dksX8_life_1 10 rfl rfl)
theorem dX8_life_35 : decode cX8_life 35 = .ok (.getfield 83, 3) := dk_180 0 83 (dk_at dksX8_life_1 11 rfl rfl)
theorem dX8_life_38 : decode cX8_life 38 = .ok (.iconst 5, 1) := dk_8 (dk_at dksX8_life_1 14 rfl rfl)
theorem dX8_life_39 : decode cX8_life 39 = .ok (.if_icmp .ne 6, 3) := dk_160 0 6 (dk_at dksX8_life_1 15 rfl rfl)
theorem dX8_life_42 : decode cX8_life 42 = .ok (.bipush (-4), 2) := dk_16 252 (dk_at dksX8_life_1 18 rfl rfl)
theorem dX8_life_44 : decode cX8_life 44 = .ok (.ireturn, 1) := dk_172 (dk_at dksX8_life_1 20 rfl rfl)
theorem dX8_life_45 : decode cX8_life 45 = .ok (.aload_n 0, 1) := dk_42 (dk_at dksX8_life_1 21 rfl rfl)
theorem dX8_life_46 : decode cX8_life 46 = .ok (.getfield 29, 3) := dk_180 0 29 (dk_at dksX8_life_2 0 rfl rfl)
theorem dX8_life_49 : decode cX8_life 49 = .ok (.iconst 5, 1) := dk_8 (dk_at dksX8_life_2 3 rfl rfl)
theorem dX8_life_50 : decode cX8_life 50 = .ok (.aload_n 0, 1) := dk_42 (dk_at dksX8_life_2 4 rfl rfl)
theorem dX8_life_51 : decode cX8_life 51 = .ok (.getfield 83, 3) := dk_180 0 83 (dk_at dksX8_life_2 5 rfl rfl)
theorem dX8_life_54 : decode cX8_life 54 = .ok (.imul, 1) := dk_104 (dk_at dksX8_life_2 8 rfl rfl)
theorem dX8_life_55 : decode cX8_life 55 = .ok (.iload_n 2, 1) := dk_28 (dk_at dksX8_life_2 9 rfl rfl)
theorem dX8_life_56 : decode cX8_life 56 = .ok (.iastore, 1) := dk_79 (dk_at dksX8_life_2 10 rfl rfl)
theorem dX8_life_57 : decode cX8_life 57 = .ok (.aload_n 0, 1) := dk_42 (dk_at dksX8_life_2 11 rfl rfl)
theorem dX8_life_58 : decode cX8_life 58 = .ok (.getfield 29, 3) := dk_180 0 29 (dk_at dksX8_life_2 12 rfl rfl)
theorem dX8_life_61 : decode cX8_life 61 = .ok (.iconst 5, 1) := dk_8 (dk_at dksX8_life_2 15 rfl rfl)
theorem dX8_life_62 : decode cX8_life 62 = .ok (.aload_n 0, 1) := dk_42 (dk_at dksX8_life_2 16 rfl rfl)
theorem dX8_life_63 : decode cX8_life 63 = .ok (.getfield 83, 3) := dk_180 0 83 (dk_at dksX8_life_2 17 rfl rfl)
theorem dX8_life_66 : decode cX8_life 66 = .ok (.imul, 1) := dk_104 (dk_at dksX8_life_2 20 rfl rfl)
theorem dX8_life_67 : decode cX8_life 67 = .ok (.iconst 1, 1) := dk_4 (dk_at dksX8_life_2 21 rfl rfl)
theorem dX8_life_68 : decode cX8_life 68 = .ok (.iadd, 1) := dk_96 (dk_at dksX8_life_2 22 rfl rfl)
theorem dX8_life_69 : decode cX8_life 69 = .ok (.iload_n 3, 1) := dk_29 (dk_at dksX8_life_2 23 rfl rfl)
theorem dX8_life_70 : decode cX8_life 70 = .ok (.iastore, 1) := dk_79 (dk_at dksX8_life_3 0 rfl rfl)
theorem dX8_life_71 : decode cX8_life 71 = .ok (.aload_n 0, 1) := dk_42 (dk_at dksX8_life_3 1 rfl rfl)
theorem dX8_life_72 : decode cX8_life 72 = .ok (.getfield 29, 3) := dk_180 0 29 (dk_at dksX8_life_3 2 rfl rfl)
theorem dX8_life_75 : decode cX8_life 75 = .ok (.iconst 5, 1) := dk_8 (dk_at dksX8_life_3 5 rfl rfl)
theorem dX8_life_76 : decode cX8_life 76 = .ok (.aload_n 0, 1) := dk_42 (dk_at dksX8_life_3 6 rfl rfl)
theorem dX8_life_77 : decode cX8_life 77 = .ok (.getfield 83, 3) := dk_180 0 83 (dk_at dksX8_life_3 7 rfl rfl)
theorem dX8_life_80 : decode cX8_life 80 = .ok (.imul, 1) := dk_104 (dk_at dksX8_life_3 10 rfl rfl)
theorem dX8_life_81 : decode cX8_life 81 = .ok (.iconst 2, 1) := dk_5 (dk_at dksX8_life_3 11 rfl rfl)
theorem dX8_life_82 : decode cX8_life 82 = .ok (.iadd, 1) := dk_96 (dk_at dksX8_life_3 12 rfl rfl)
theorem dX8_life_83 : decode cX8_life 83 = .ok (.iconst 0, 1) := dk_3 (dk_at dksX8_life_3 13 rfl rfl)
theorem dX8_life_84 : decode cX8_life 84 = .ok (.iastore, 1) := dk_79 (dk_at dksX8_life_3 14 rfl rfl)
theorem dX8_life_85 : decode cX8_life 85 = .ok (.aload_n 0, 1) := dk_42 (dk_at dksX8_life_3 15 rfl rfl)
theorem dX8_life_86 : decode cX8_life 86 = .ok (.getfield 29, 3) := dk_180 0 29 (dk_at dksX8_life_3 16 rfl rfl)
theorem dX8_life_89 : decode cX8_life 89 = .ok (.iconst 5, 1) := dk_8 (dk_at dksX8_life_3 19 rfl rfl)
theorem dX8_life_90 : decode cX8_life 90 = .ok (.aload_n 0, 1) := dk_42 (dk_at dksX8_life_3 20 rfl rfl)
theorem dX8_life_91 : decode cX8_life 91 = .ok (.getfield 83, 3) := dk_180 0 83 (dk_at dksX8_life_3 21 rfl rfl)
theorem dX8_life_94 : decode cX8_life 94 = .ok (.imul, 1) := dk_104 (dk_at dksX8_life_4 0 rfl rfl)
theorem dX8_life_95 : decode cX8_life 95 = .ok (.iconst 3, 1) := dk_6 (dk_at dksX8_life_4 1 rfl rfl)
theorem dX8_life_96 : decode cX8_life 96 = .ok (.iadd, 1) := dk_96 (dk_at dksX8_life_4 2 rfl rfl)
theorem dX8_life_97 : decode cX8_life 97 = .ok (.iconst 0, 1) := dk_3 (dk_at dksX8_life_4 3 rfl rfl)
theorem dX8_life_98 : decode cX8_life 98 = .ok (.iastore, 1) := dk_79 (dk_at dksX8_life_4 4 rfl rfl)
theorem dX8_life_99 : decode cX8_life 99 = .ok (.aload_n 0, 1) := dk_42 (dk_at dksX8_life_4 5 rfl rfl)
theorem dX8_life_100 : decode cX8_life 100 = .ok (.getfield 29, 3) := dk_180 0 29 (dk_at dksX8_life_4 6 rfl rfl)
theorem dX8_life_103 : decode cX8_life 103 = .ok (.iconst 5, 1) := dk_8 (dk_at dksX8_life_4 9 rfl rfl)
theorem dX8_life_104 : decode cX8_life 104 = .ok (.aload_n 0, 1) := dk_42 (dk_at dksX8_life_4 10 rfl rfl)
theorem dX8_life_105 : decode cX8_life 105 = .ok (.getfield 83, 3) := dk_180 0 83 (dk_at dksX8_life_4 11 rfl rfl)
theorem dX8_life_108 : decode cX8_life 108 = .ok (.imul, 1) := dk_104 (dk_at dksX8_life_4 14 rfl rfl)
theorem dX8_life_109 : decode cX8_life 109 = .ok (.iconst 4, 1) := dk_7 (dk_at dksX8_life_4 15 rfl rfl)
theorem dX8_life_110 : decode cX8_life 110 = .ok (.iadd, 1) := dk_96 (dk_at dksX8_life_4 16 rfl rfl)
theorem dX8_life_111 : decode cX8_life 111 = .ok (.iload_n 1, 1) := dk_27 (dk_at dksX8_life_4 17 rfl rfl)
theorem dX8_life_112 : decode cX8_life 112 = .ok (.iastore, 1) := dk_79 (dk_at dksX8_life_4 18 rfl rfl)
theorem dX8_life_113 : decode cX8_life 113 = .ok (.aload_n 0, 1) := dk_42 (dk_at dksX8_life_4 19 rfl rfl)
theorem dX8_life_114 : decode cX8_life 114 = .ok (.dup, 1) := dk_89 (dk_at dksX8_life_4 20 rfl rfl)
theorem dX8_life_115 : decode cX8_life 115 = .ok (.getfield 83, 3) := dk_180 0 83 (dk_at dksX8_life_4 21 rfl rfl)
theorem dX8_life_118 : decode cX8_life 118 = .ok (.iconst 1, 1) := dk_4 (dk_at dksX8_life_5 0 rfl rfl)
theorem dX8_life_119 : decode cX8_life 119 = .ok (.iadd, 1) := dk_96 (dk_at dksX8_life_5 1 rfl rfl)
theorem dX8_life_120 : decode cX8_life 120 = .ok (.putfield 83, 3) := dk_181 0 83 (dk_at dksX8_life_5 2 rfl rfl)
theorem dX8_life_123 : decode cX8_life 123 = .ok (.aload_n 0, 1) := dk_42 (dk_at dksX8_life_5 5 rfl rfl)
theorem dX8_life_124 : decode cX8_life 124 = .ok (.getfield 83, 3) := dk_180 0 83 (dk_at dksX8_life_5 6 rfl rfl)
theorem dX8_life_127 : decode cX8_life 127 = .ok (.iconst 1, 1) := dk_4 (dk_at dksX8_life_5 9 rfl rfl)
theorem dX8_life_128 : decode cX8_life 128 = .ok (.isub, 1) := dk_100 (dk_at dksX8_life_5 10 rfl rfl)
theorem dX8_life_129 : decode cX8_life 129 = .ok (.ireturn, 1) := dk_172 (dk_at dksX8_life_5 11 rfl rfl)
abbrev cX8_feed : ByteArray := prog_16_method_17_code
def yX8_feed : MethodName := ⟨RX8, "feed", "(I)I"⟩
def dkwX8_feed_2 : List UInt8 := [181, 0, 147, 42, 180, 0, 147, 172]
abbrev dktX8_feed_2 : List UInt8 := dkwX8_feed_2 ++ []
def dkwX8_feed_1 : List UInt8 := [160, 0, 6, 16, 252, 172, 42, 180, 0, 20, 42, 180, 0, 147, 27, 79, 42, 89, 180, 0, 147, 4, 96]
abbrev dktX8_feed_1 : List UInt8 := dkwX8_feed_1 ++ dktX8_feed_2
def dkwX8_feed_0 : List UInt8 := [27, 133, 9, 20, 0, 145, 184, 0, 86, 154, 0, 6, 16, 254, 172, 42, 180, 0, 147, 17, 0, 160]
abbrev dktX8_feed_0 : List UInt8 := dkwX8_feed_0 ++ dktX8_feed_1
theorem dksX8_feed_0 : cX8_feed.data.toList.drop 0 = dktX8_feed_0 := by decide +kernel
theorem dksX8_feed_1 : cX8_feed.data.toList.drop 22 = dktX8_feed_1 := dk_seg dksX8_feed_0 22 rfl rfl
theorem dksX8_feed_2 : cX8_feed.data.toList.drop 45 = dktX8_feed_2 := dk_seg dksX8_feed_1 23 rfl rfl
theorem dX8_feed_0 : decode cX8_feed 0 = .ok (.iload_n 1, 1) := dk_27 (dk_at dksX8_feed_0 0 rfl rfl)
theorem dX8_feed_1 : decode cX8_feed 1 = .ok (.i2l, 1) := dk_133 (dk_at dksX8_feed_0 1 rfl rfl)
theorem dX8_feed_2 : decode cX8_feed 2 = .ok (.lconst 0, 1) := dk_9 (dk_at dksX8_feed_0 2 rfl rfl)
theorem dX8_feed_3 : decode cX8_feed 3 = .ok (.ldc2_w 145, 3) := dk_20 0 145 (dk_at dksX8_feed_0 3 rfl rfl)
theorem dX8_feed_6 : decode cX8_feed 6 = .ok (.invokestatic 86, 3) := dk_184 0 86 (dk_at dksX8_feed_0 6 rfl rfl)
theorem dX8_feed_9 : decode cX8_feed 9 = .ok (.ifCond .ne 6, 3) := dk_154 0 6 (dk_at dksX8_feed_0 9 rfl rfl)
theorem dX8_feed_12 : decode cX8_feed 12 = .ok (.bipush (-2), 2) := dk_16 254 (dk_at dksX8_feed_0 12 rfl rfl)
theorem dX8_feed_14 : decode cX8_feed 14 = .ok (.ireturn, 1) := dk_172 (dk_at dksX8_feed_0 14 rfl rfl)
theorem dX8_feed_15 : decode cX8_feed 15 = .ok (.aload_n 0, 1) := dk_42 (dk_at dksX8_feed_0 15 rfl rfl)
theorem dX8_feed_16 : decode cX8_feed 16 = .ok (.getfield 147, 3) := dk_180 0 147 (dk_at dksX8_feed_0 16 rfl rfl)
theorem dX8_feed_19 : decode cX8_feed 19 = .ok (.sipush 160, 3) := dk_17 0 160 (dk_at dksX8_feed_0 19 rfl rfl)
theorem dX8_feed_22 : decode cX8_feed 22 = .ok (.if_icmp .ne 6, 3) := dk_160 0 6 (dk_at dksX8_feed_1 0 rfl rfl)
theorem dX8_feed_25 : decode cX8_feed 25 = .ok (.bipush (-4), 2) := dk_16 252 (dk_at dksX8_feed_1 3 rfl rfl)
theorem dX8_feed_27 : decode cX8_feed 27 = .ok (.ireturn, 1) := dk_172 (dk_at dksX8_feed_1 5 rfl rfl)
theorem dX8_feed_28 : decode cX8_feed 28 = .ok (.aload_n 0, 1) := dk_42 (dk_at dksX8_feed_1 6 rfl rfl)
theorem dX8_feed_29 : decode cX8_feed 29 = .ok (.getfield 20, 3) := dk_180 0 20 (dk_at dksX8_feed_1 7 rfl rfl)
theorem dX8_feed_32 : decode cX8_feed 32 = .ok (.aload_n 0, 1) := dk_42 (dk_at dksX8_feed_1 10 rfl rfl)
theorem dX8_feed_33 : decode cX8_feed 33 = .ok (.getfield 147, 3) := dk_180 0 147 (dk_at dksX8_feed_1 11 rfl rfl)
theorem dX8_feed_36 : decode cX8_feed 36 = .ok (.iload_n 1, 1) := dk_27 (dk_at dksX8_feed_1 14 rfl rfl)
theorem dX8_feed_37 : decode cX8_feed 37 = .ok (.iastore, 1) := dk_79 (dk_at dksX8_feed_1 15 rfl rfl)
theorem dX8_feed_38 : decode cX8_feed 38 = .ok (.aload_n 0, 1) := dk_42 (dk_at dksX8_feed_1 16 rfl rfl)
theorem dX8_feed_39 : decode cX8_feed 39 = .ok (.dup, 1) := dk_89 (dk_at dksX8_feed_1 17 rfl rfl)
theorem dX8_feed_40 : decode cX8_feed 40 = .ok (.getfield 147, 3) := dk_180 0 147 (dk_at dksX8_feed_1 18 rfl rfl)
theorem dX8_feed_43 : decode cX8_feed 43 = .ok (.iconst 1, 1) := dk_4 (dk_at dksX8_feed_1 21 rfl rfl)
theorem dX8_feed_44 : decode cX8_feed 44 = .ok (.iadd, 1) := dk_96 (dk_at dksX8_feed_1 22 rfl rfl)
theorem dX8_feed_45 : decode cX8_feed 45 = .ok (.putfield 147, 3) := dk_181 0 147 (dk_at dksX8_feed_2 0 rfl rfl)
theorem dX8_feed_48 : decode cX8_feed 48 = .ok (.aload_n 0, 1) := dk_42 (dk_at dksX8_feed_2 3 rfl rfl)
theorem dX8_feed_49 : decode cX8_feed 49 = .ok (.getfield 147, 3) := dk_180 0 147 (dk_at dksX8_feed_2 4 rfl rfl)
theorem dX8_feed_52 : decode cX8_feed 52 = .ok (.ireturn, 1) := dk_172 (dk_at dksX8_feed_2 7 rfl rfl)
abbrev cX8_text : ByteArray := prog_16_method_64_code
def yX8_text : MethodName := ⟨RX8, "text", "()I"⟩
def dkwX8_text_4 : List UInt8 := [89, 180, 0, 80, 4, 96, 181, 0, 80, 42, 180, 0, 80, 4, 100, 172]
abbrev dktX8_text_4 : List UInt8 := dkwX8_text_4 ++ []
def dkwX8_text_3 : List UInt8 := [180, 0, 80, 3, 182, 1, 92, 60, 42, 180, 0, 180, 153, 0, 11, 16, 156, 42, 180, 0, 184, 100, 172, 42]
abbrev dktX8_text_3 : List UInt8 := dkwX8_text_3 ++ dktX8_text_4
def dkwX8_text_2 : List UInt8 := [167, 255, 224, 42, 180, 0, 17, 42, 180, 0, 80, 42, 180, 0, 147, 79, 42, 3, 181, 0, 147, 42, 42]
abbrev dktX8_text_2 : List UInt8 := dkwX8_text_2 ++ dktX8_text_3
def dkwX8_text_1 : List UInt8 := [180, 0, 13, 17, 0, 160, 42, 180, 0, 80, 104, 27, 96, 42, 180, 0, 20, 27, 46, 79, 132, 1, 1]
abbrev dktX8_text_1 : List UInt8 := dkwX8_text_1 ++ dktX8_text_2
def dkwX8_text_0 : List UInt8 := [42, 180, 0, 80, 16, 6, 160, 0, 6, 16, 252, 172, 3, 60, 27, 42, 180, 0, 147, 162, 0, 30, 42]
abbrev dktX8_text_0 : List UInt8 := dkwX8_text_0 ++ dktX8_text_1
theorem dksX8_text_0 : cX8_text.data.toList.drop 0 = dktX8_text_0 := by decide +kernel
theorem dksX8_text_1 : cX8_text.data.toList.drop 23 = dktX8_text_1 := dk_seg dksX8_text_0 23 rfl rfl
theorem dksX8_text_2 : cX8_text.data.toList.drop 46 = dktX8_text_2 := dk_seg dksX8_text_1 23 rfl rfl
theorem dksX8_text_3 : cX8_text.data.toList.drop 69 = dktX8_text_3 := dk_seg dksX8_text_2 23 rfl rfl
theorem dksX8_text_4 : cX8_text.data.toList.drop 93 = dktX8_text_4 := dk_seg dksX8_text_3 24 rfl rfl
theorem dX8_text_0 : decode cX8_text 0 = .ok (.aload_n 0, 1) := dk_42 (dk_at dksX8_text_0 0 rfl rfl)
theorem dX8_text_1 : decode cX8_text 1 = .ok (.getfield 80, 3) := dk_180 0 80 (dk_at dksX8_text_0 1 rfl rfl)
theorem dX8_text_4 : decode cX8_text 4 = .ok (.bipush 6, 2) := dk_16 6 (dk_at dksX8_text_0 4 rfl rfl)
theorem dX8_text_6 : decode cX8_text 6 = .ok (.if_icmp .ne 6, 3) := dk_160 0 6 (dk_at dksX8_text_0 6 rfl rfl)
theorem dX8_text_9 : decode cX8_text 9 = .ok (.bipush (-4), 2) := dk_16 252 (dk_at dksX8_text_0 9 rfl rfl)
theorem dX8_text_11 : decode cX8_text 11 = .ok (.ireturn, 1) := dk_172 (dk_at dksX8_text_0 11 rfl rfl)
theorem dX8_text_12 : decode cX8_text 12 = .ok (.iconst 0, 1) := dk_3 (dk_at dksX8_text_0 12 rfl rfl)
theorem dX8_text_13 : decode cX8_text 13 = .ok (.istore_n 1, 1) := dk_60 (dk_at dksX8_text_0 13 rfl rfl)
theorem dX8_text_14 : decode cX8_text 14 = .ok (.iload_n 1, 1) := dk_27 (dk_at dksX8_text_0 14 rfl rfl)
theorem dX8_text_15 : decode cX8_text 15 = .ok (.aload_n 0, 1) := dk_42 (dk_at dksX8_text_0 15 rfl rfl)
theorem dX8_text_16 : decode cX8_text 16 = .ok (.getfield 147, 3) := dk_180 0 147 (dk_at dksX8_text_0 16 rfl rfl)
theorem dX8_text_19 : decode cX8_text 19 = .ok (.if_icmp .ge 30, 3) := dk_162 0 30 (dk_at dksX8_text_0 19 rfl rfl)
theorem dX8_text_22 : decode cX8_text 22 = .ok (.aload_n 0, 1) := dk_42 (dk_at dksX8_text_0 22 rfl rfl)
theorem dX8_text_23 : decode cX8_text 23 = .ok (.getfield 13, 3) := dk_180 0 13 (dk_at dksX8_text_1 0 rfl rfl)
theorem dX8_text_26 : decode cX8_text 26 = .ok (.sipush 160, 3) := dk_17 0 160 (dk_at dksX8_text_1 3 rfl rfl)
theorem dX8_text_29 : decode cX8_text 29 = .ok (.aload_n 0, 1) := dk_42 (dk_at dksX8_text_1 6 rfl rfl)
theorem dX8_text_30 : decode cX8_text 30 = .ok (.getfield 80, 3) := dk_180 0 80 (dk_at dksX8_text_1 7 rfl rfl)
theorem dX8_text_33 : decode cX8_text 33 = .ok (.imul, 1) := dk_104 (dk_at dksX8_text_1 10 rfl rfl)
theorem dX8_text_34 : decode cX8_text 34 = .ok (.iload_n 1, 1) := dk_27 (dk_at dksX8_text_1 11 rfl rfl)
theorem dX8_text_35 : decode cX8_text 35 = .ok (.iadd, 1) := dk_96 (dk_at dksX8_text_1 12 rfl rfl)
theorem dX8_text_36 : decode cX8_text 36 = .ok (.aload_n 0, 1) := dk_42 (dk_at dksX8_text_1 13 rfl rfl)
theorem dX8_text_37 : decode cX8_text 37 = .ok (.getfield 20, 3) := dk_180 0 20 (dk_at dksX8_text_1 14 rfl rfl)
theorem dX8_text_40 : decode cX8_text 40 = .ok (.iload_n 1, 1) := dk_27 (dk_at dksX8_text_1 17 rfl rfl)
theorem dX8_text_41 : decode cX8_text 41 = .ok (.iaload, 1) := dk_46 (dk_at dksX8_text_1 18 rfl rfl)
theorem dX8_text_42 : decode cX8_text 42 = .ok (.iastore, 1) := dk_79 (dk_at dksX8_text_1 19 rfl rfl)
theorem dX8_text_43 : decode cX8_text 43 = .ok (.iinc 1 1, 3) := dk_132 1 1 (dk_at dksX8_text_1 20 rfl rfl)
theorem dX8_text_46 : decode cX8_text 46 = .ok (.goto (-32), 3) := dk_167 255 224 (dk_at dksX8_text_2 0 rfl rfl)
theorem dX8_text_49 : decode cX8_text 49 = .ok (.aload_n 0, 1) := dk_42 (dk_at dksX8_text_2 3 rfl rfl)
theorem dX8_text_50 : decode cX8_text 50 = .ok (.getfield 17, 3) := dk_180 0 17 (dk_at dksX8_text_2 4 rfl rfl)
theorem dX8_text_53 : decode cX8_text 53 = .ok (.aload_n 0, 1) := dk_42 (dk_at dksX8_text_2 7 rfl rfl)
theorem dX8_text_54 : decode cX8_text 54 = .ok (.getfield 80, 3) := dk_180 0 80 (dk_at dksX8_text_2 8 rfl rfl)
theorem dX8_text_57 : decode cX8_text 57 = .ok (.aload_n 0, 1) := dk_42 (dk_at dksX8_text_2 11 rfl rfl)
theorem dX8_text_58 : decode cX8_text 58 = .ok (.getfield 147, 3) := dk_180 0 147 (dk_at dksX8_text_2 12 rfl rfl)
theorem dX8_text_61 : decode cX8_text 61 = .ok (.iastore, 1) := dk_79 (dk_at dksX8_text_2 15 rfl rfl)
theorem dX8_text_62 : decode cX8_text 62 = .ok (.aload_n 0, 1) := dk_42 (dk_at dksX8_text_2 16 rfl rfl)
theorem dX8_text_63 : decode cX8_text 63 = .ok (.iconst 0, 1) := dk_3 (dk_at dksX8_text_2 17 rfl rfl)
theorem dX8_text_64 : decode cX8_text 64 = .ok (.putfield 147, 3) := dk_181 0 147 (dk_at dksX8_text_2 18 rfl rfl)
theorem dX8_text_67 : decode cX8_text 67 = .ok (.aload_n 0, 1) := dk_42 (dk_at dksX8_text_2 21 rfl rfl)
theorem dX8_text_68 : decode cX8_text 68 = .ok (.aload_n 0, 1) := dk_42 (dk_at dksX8_text_2 22 rfl rfl)
theorem dX8_text_69 : decode cX8_text 69 = .ok (.getfield 80, 3) := dk_180 0 80 (dk_at dksX8_text_3 0 rfl rfl)
theorem dX8_text_72 : decode cX8_text 72 = .ok (.iconst 0, 1) := dk_3 (dk_at dksX8_text_3 3 rfl rfl)
theorem dX8_text_73 : decode cX8_text 73 = .ok (.invokevirtual 348, 3) := dk_182 1 92 (dk_at dksX8_text_3 4 rfl rfl)
theorem dX8_text_76 : decode cX8_text 76 = .ok (.istore_n 1, 1) := dk_60 (dk_at dksX8_text_3 7 rfl rfl)
theorem dX8_text_77 : decode cX8_text 77 = .ok (.aload_n 0, 1) := dk_42 (dk_at dksX8_text_3 8 rfl rfl)
theorem dX8_text_78 : decode cX8_text 78 = .ok (.getfield 180, 3) := dk_180 0 180 (dk_at dksX8_text_3 9 rfl rfl)
theorem dX8_text_81 : decode cX8_text 81 = .ok (.ifCond .eq 11, 3) := dk_153 0 11 (dk_at dksX8_text_3 12 rfl rfl)
theorem dX8_text_84 : decode cX8_text 84 = .ok (.bipush (-100), 2) := dk_16 156 (dk_at dksX8_text_3 15 rfl rfl)
theorem dX8_text_86 : decode cX8_text 86 = .ok (.aload_n 0, 1) := dk_42 (dk_at dksX8_text_3 17 rfl rfl)
theorem dX8_text_87 : decode cX8_text 87 = .ok (.getfield 184, 3) := dk_180 0 184 (dk_at dksX8_text_3 18 rfl rfl)
theorem dX8_text_90 : decode cX8_text 90 = .ok (.isub, 1) := dk_100 (dk_at dksX8_text_3 21 rfl rfl)
theorem dX8_text_91 : decode cX8_text 91 = .ok (.ireturn, 1) := dk_172 (dk_at dksX8_text_3 22 rfl rfl)
theorem dX8_text_92 : decode cX8_text 92 = .ok (.aload_n 0, 1) := dk_42 (dk_at dksX8_text_3 23 rfl rfl)
theorem dX8_text_93 : decode cX8_text 93 = .ok (.dup, 1) := dk_89 (dk_at dksX8_text_4 0 rfl rfl)
theorem dX8_text_94 : decode cX8_text 94 = .ok (.getfield 80, 3) := dk_180 0 80 (dk_at dksX8_text_4 1 rfl rfl)
theorem dX8_text_97 : decode cX8_text 97 = .ok (.iconst 1, 1) := dk_4 (dk_at dksX8_text_4 4 rfl rfl)
theorem dX8_text_98 : decode cX8_text 98 = .ok (.iadd, 1) := dk_96 (dk_at dksX8_text_4 5 rfl rfl)
theorem dX8_text_99 : decode cX8_text 99 = .ok (.putfield 80, 3) := dk_181 0 80 (dk_at dksX8_text_4 6 rfl rfl)
theorem dX8_text_102 : decode cX8_text 102 = .ok (.aload_n 0, 1) := dk_42 (dk_at dksX8_text_4 9 rfl rfl)
theorem dX8_text_103 : decode cX8_text 103 = .ok (.getfield 80, 3) := dk_180 0 80 (dk_at dksX8_text_4 10 rfl rfl)
theorem dX8_text_106 : decode cX8_text 106 = .ok (.iconst 1, 1) := dk_4 (dk_at dksX8_text_4 13 rfl rfl)
theorem dX8_text_107 : decode cX8_text 107 = .ok (.isub, 1) := dk_100 (dk_at dksX8_text_4 14 rfl rfl)
theorem dX8_text_108 : decode cX8_text 108 = .ok (.ireturn, 1) := dk_172 (dk_at dksX8_text_4 15 rfl rfl)
abbrev cX8_force : ByteArray := prog_16_method_65_code
def yX8_force : MethodName := ⟨RX8, "force", "(I)I"⟩
def dkwX8_force_1 : List UInt8 := [42, 27, 181, 0, 127, 28, 172]
abbrev dktX8_force_1 : List UInt8 := dkwX8_force_1 ++ []
def dkwX8_force_0 : List UInt8 := [27, 133, 9, 42, 180, 0, 80, 4, 100, 133, 184, 0, 86, 154, 0, 6, 16, 254, 172, 42, 180, 0, 127, 61]
abbrev dktX8_force_0 : List UInt8 := dkwX8_force_0 ++ dktX8_force_1
theorem dksX8_force_0 : cX8_force.data.toList.drop 0 = dktX8_force_0 := by decide +kernel
theorem dksX8_force_1 : cX8_force.data.toList.drop 24 = dktX8_force_1 := dk_seg dksX8_force_0 24 rfl rfl
theorem dX8_force_0 : decode cX8_force 0 = .ok (.iload_n 1, 1) := dk_27 (dk_at dksX8_force_0 0 rfl rfl)
theorem dX8_force_1 : decode cX8_force 1 = .ok (.i2l, 1) := dk_133 (dk_at dksX8_force_0 1 rfl rfl)
theorem dX8_force_2 : decode cX8_force 2 = .ok (.lconst 0, 1) := dk_9 (dk_at dksX8_force_0 2 rfl rfl)
theorem dX8_force_3 : decode cX8_force 3 = .ok (.aload_n 0, 1) := dk_42 (dk_at dksX8_force_0 3 rfl rfl)
theorem dX8_force_4 : decode cX8_force 4 = .ok (.getfield 80, 3) := dk_180 0 80 (dk_at dksX8_force_0 4 rfl rfl)
theorem dX8_force_7 : decode cX8_force 7 = .ok (.iconst 1, 1) := dk_4 (dk_at dksX8_force_0 7 rfl rfl)
theorem dX8_force_8 : decode cX8_force 8 = .ok (.isub, 1) := dk_100 (dk_at dksX8_force_0 8 rfl rfl)
theorem dX8_force_9 : decode cX8_force 9 = .ok (.i2l, 1) := dk_133 (dk_at dksX8_force_0 9 rfl rfl)
theorem dX8_force_10 : decode cX8_force 10 = .ok (.invokestatic 86, 3) := dk_184 0 86 (dk_at dksX8_force_0 10 rfl rfl)
theorem dX8_force_13 : decode cX8_force 13 = .ok (.ifCond .ne 6, 3) := dk_154 0 6 (dk_at dksX8_force_0 13 rfl rfl)
theorem dX8_force_16 : decode cX8_force 16 = .ok (.bipush (-2), 2) := dk_16 254 (dk_at dksX8_force_0 16 rfl rfl)
theorem dX8_force_18 : decode cX8_force 18 = .ok (.ireturn, 1) := dk_172 (dk_at dksX8_force_0 18 rfl rfl)
theorem dX8_force_19 : decode cX8_force 19 = .ok (.aload_n 0, 1) := dk_42 (dk_at dksX8_force_0 19 rfl rfl)
theorem dX8_force_20 : decode cX8_force 20 = .ok (.getfield 127, 3) := dk_180 0 127 (dk_at dksX8_force_0 20 rfl rfl)
theorem dX8_force_23 : decode cX8_force 23 = .ok (.istore_n 2, 1) := dk_61 (dk_at dksX8_force_0 23 rfl rfl)
theorem dX8_force_24 : decode cX8_force 24 = .ok (.aload_n 0, 1) := dk_42 (dk_at dksX8_force_1 0 rfl rfl)
theorem dX8_force_25 : decode cX8_force 25 = .ok (.iload_n 1, 1) := dk_27 (dk_at dksX8_force_1 1 rfl rfl)
theorem dX8_force_26 : decode cX8_force 26 = .ok (.putfield 127, 3) := dk_181 0 127 (dk_at dksX8_force_1 2 rfl rfl)
theorem dX8_force_29 : decode cX8_force 29 = .ok (.iload_n 2, 1) := dk_28 (dk_at dksX8_force_1 5 rfl rfl)
theorem dX8_force_30 : decode cX8_force 30 = .ok (.ireturn, 1) := dk_172 (dk_at dksX8_force_1 6 rfl rfl)
abbrev cX8_tastes : ByteArray := prog_16_method_70_code
def yX8_tastes : MethodName := ⟨RX8, "tastes", "(II)I"⟩
def dkwX8_tastes_1 : List UInt8 := [17, 252, 24, 172]
abbrev dktX8_tastes_1 : List UInt8 := dkwX8_tastes_1 ++ []
def dkwX8_tastes_0 : List UInt8 := [42, 27, 182, 0, 101, 153, 0, 19, 28, 184, 0, 94, 153, 0, 12, 42, 27, 28, 182, 1, 105, 167, 0, 6]
abbrev dktX8_tastes_0 : List UInt8 := dkwX8_tastes_0 ++ dktX8_tastes_1
theorem dksX8_tastes_0 : cX8_tastes.data.toList.drop 0 = dktX8_tastes_0 := by decide +kernel
theorem dksX8_tastes_1 : cX8_tastes.data.toList.drop 24 = dktX8_tastes_1 := dk_seg dksX8_tastes_0 24 rfl rfl
theorem dX8_tastes_0 : decode cX8_tastes 0 = .ok (.aload_n 0, 1) := dk_42 (dk_at dksX8_tastes_0 0 rfl rfl)
theorem dX8_tastes_1 : decode cX8_tastes 1 = .ok (.iload_n 1, 1) := dk_27 (dk_at dksX8_tastes_0 1 rfl rfl)
theorem dX8_tastes_2 : decode cX8_tastes 2 = .ok (.invokevirtual 101, 3) := dk_182 0 101 (dk_at dksX8_tastes_0 2 rfl rfl)
theorem dX8_tastes_5 : decode cX8_tastes 5 = .ok (.ifCond .eq 19, 3) := dk_153 0 19 (dk_at dksX8_tastes_0 5 rfl rfl)
theorem dX8_tastes_8 : decode cX8_tastes 8 = .ok (.iload_n 2, 1) := dk_28 (dk_at dksX8_tastes_0 8 rfl rfl)
theorem dX8_tastes_9 : decode cX8_tastes 9 = .ok (.invokestatic 94, 3) := dk_184 0 94 (dk_at dksX8_tastes_0 9 rfl rfl)
theorem dX8_tastes_12 : decode cX8_tastes 12 = .ok (.ifCond .eq 12, 3) := dk_153 0 12 (dk_at dksX8_tastes_0 12 rfl rfl)
theorem dX8_tastes_15 : decode cX8_tastes 15 = .ok (.aload_n 0, 1) := dk_42 (dk_at dksX8_tastes_0 15 rfl rfl)
theorem dX8_tastes_16 : decode cX8_tastes 16 = .ok (.iload_n 1, 1) := dk_27 (dk_at dksX8_tastes_0 16 rfl rfl)
theorem dX8_tastes_17 : decode cX8_tastes 17 = .ok (.iload_n 2, 1) := dk_28 (dk_at dksX8_tastes_0 17 rfl rfl)
theorem dX8_tastes_18 : decode cX8_tastes 18 = .ok (.invokevirtual 361, 3) := dk_182 1 105 (dk_at dksX8_tastes_0 18 rfl rfl)
theorem dX8_tastes_21 : decode cX8_tastes 21 = .ok (.goto 6, 3) := dk_167 0 6 (dk_at dksX8_tastes_0 21 rfl rfl)
theorem dX8_tastes_24 : decode cX8_tastes 24 = .ok (.sipush (-1000), 3) := dk_17 252 24 (dk_at dksX8_tastes_1 0 rfl rfl)
theorem dX8_tastes_27 : decode cX8_tastes 27 = .ok (.ireturn, 1) := dk_172 (dk_at dksX8_tastes_1 3 rfl rfl)
abbrev cX8_feelsOf : ByteArray := prog_16_method_69_code
def yX8_feelsOf : MethodName := ⟨RX8, "feelsOf", "(II)I"⟩
def dkwX8_feelsOf_5 : List UInt8 := [172]
abbrev dktX8_feelsOf_5 : List UInt8 := dkwX8_feelsOf_5 ++ []
def dkwX8_feelsOf_4 : List UInt8 := [167, 0, 24, 29, 7, 160, 0, 17, 21, 6, 42, 180, 0, 29, 8, 27, 104, 46, 96, 167, 0, 5, 21, 4]
abbrev dktX8_feelsOf_4 : List UInt8 := dkwX8_feelsOf_4 ++ dktX8_feelsOf_5
def dkwX8_feelsOf_3 : List UInt8 := [21, 5, 167, 0, 46, 29, 6, 160, 0, 10, 5, 21, 5, 104, 167, 0, 34, 29, 5, 160, 0, 8, 21, 6]
abbrev dktX8_feelsOf_3 : List UInt8 := dkwX8_feelsOf_3 ++ dktX8_feelsOf_4
def dkwX8_feelsOf_2 : List UInt8 := [104, 6, 96, 46, 5, 164, 0, 9, 21, 4, 116, 167, 0, 5, 21, 4, 54, 6, 29, 4, 160, 0, 8]
abbrev dktX8_feelsOf_2 : List UInt8 := dkwX8_feelsOf_2 ++ dktX8_feelsOf_3
def dkwX8_feelsOf_1 : List UInt8 := [182, 1, 102, 54, 4, 21, 4, 156, 0, 7, 3, 167, 0, 5, 21, 4, 54, 5, 42, 180, 0, 29, 8, 27]
abbrev dktX8_feelsOf_1 : List UInt8 := dkwX8_feelsOf_1 ++ dktX8_feelsOf_2
def dkwX8_feelsOf_0 : List UInt8 := [42, 180, 0, 29, 8, 27, 104, 7, 96, 46, 62, 29, 8, 160, 0, 5, 3, 172, 42, 5, 27, 28]
abbrev dktX8_feelsOf_0 : List UInt8 := dkwX8_feelsOf_0 ++ dktX8_feelsOf_1
theorem dksX8_feelsOf_0 : cX8_feelsOf.data.toList.drop 0 = dktX8_feelsOf_0 := by decide +kernel
theorem dksX8_feelsOf_1 : cX8_feelsOf.data.toList.drop 22 = dktX8_feelsOf_1 := dk_seg dksX8_feelsOf_0 22 rfl rfl
theorem dksX8_feelsOf_2 : cX8_feelsOf.data.toList.drop 46 = dktX8_feelsOf_2 := dk_seg dksX8_feelsOf_1 24 rfl rfl
theorem dksX8_feelsOf_3 : cX8_feelsOf.data.toList.drop 69 = dktX8_feelsOf_3 := dk_seg dksX8_feelsOf_2 23 rfl rfl
theorem dksX8_feelsOf_4 : cX8_feelsOf.data.toList.drop 93 = dktX8_feelsOf_4 := dk_seg dksX8_feelsOf_3 24 rfl rfl
theorem dksX8_feelsOf_5 : cX8_feelsOf.data.toList.drop 117 = dktX8_feelsOf_5 := dk_seg dksX8_feelsOf_4 24 rfl rfl
theorem dX8_feelsOf_0 : decode cX8_feelsOf 0 = .ok (.aload_n 0, 1) := dk_42 (dk_at dksX8_feelsOf_0 0 rfl rfl)
theorem dX8_feelsOf_1 : decode cX8_feelsOf 1 = .ok (.getfield 29, 3) := dk_180 0 29 (dk_at dksX8_feelsOf_0 1 rfl rfl)
theorem dX8_feelsOf_4 : decode cX8_feelsOf 4 = .ok (.iconst 5, 1) := dk_8 (dk_at dksX8_feelsOf_0 4 rfl rfl)
theorem dX8_feelsOf_5 : decode cX8_feelsOf 5 = .ok (.iload_n 1, 1) := dk_27 (dk_at dksX8_feelsOf_0 5 rfl rfl)
theorem dX8_feelsOf_6 : decode cX8_feelsOf 6 = .ok (.imul, 1) := dk_104 (dk_at dksX8_feelsOf_0 6 rfl rfl)
theorem dX8_feelsOf_7 : decode cX8_feelsOf 7 = .ok (.iconst 4, 1) := dk_7 (dk_at dksX8_feelsOf_0 7 rfl rfl)
theorem dX8_feelsOf_8 : decode cX8_feelsOf 8 = .ok (.iadd, 1) := dk_96 (dk_at dksX8_feelsOf_0 8 rfl rfl)
theorem dX8_feelsOf_9 : decode cX8_feelsOf 9 = .ok (.iaload, 1) := dk_46 (dk_at dksX8_feelsOf_0 9 rfl rfl)
theorem dX8_feelsOf_10 : decode cX8_feelsOf 10 = .ok (.istore_n 3, 1) := dk_62 (dk_at dksX8_feelsOf_0 10 rfl rfl)
theorem dX8_feelsOf_11 : decode cX8_feelsOf 11 = .ok (.iload_n 3, 1) := dk_29 (dk_at dksX8_feelsOf_0 11 rfl rfl)
theorem dX8_feelsOf_12 : decode cX8_feelsOf 12 = .ok (.iconst 5, 1) := dk_8 (dk_at dksX8_feelsOf_0 12 rfl rfl)
theorem dX8_feelsOf_13 : decode cX8_feelsOf 13 = .ok (.if_icmp .ne 5, 3) := dk_160 0 5 (dk_at dksX8_feelsOf_0 13 rfl rfl)
theorem dX8_feelsOf_16 : decode cX8_feelsOf 16 = .ok (.iconst 0, 1) := dk_3 (dk_at dksX8_feelsOf_0 16 rfl rfl)
theorem dX8_feelsOf_17 : decode cX8_feelsOf 17 = .ok (.ireturn, 1) := dk_172 (dk_at dksX8_feelsOf_0 17 rfl rfl)
theorem dX8_feelsOf_18 : decode cX8_feelsOf 18 = .ok (.aload_n 0, 1) := dk_42 (dk_at dksX8_feelsOf_0 18 rfl rfl)
theorem dX8_feelsOf_19 : decode cX8_feelsOf 19 = .ok (.iconst 2, 1) := dk_5 (dk_at dksX8_feelsOf_0 19 rfl rfl)
theorem dX8_feelsOf_20 : decode cX8_feelsOf 20 = .ok (.iload_n 1, 1) := dk_27 (dk_at dksX8_feelsOf_0 20 rfl rfl)
theorem dX8_feelsOf_21 : decode cX8_feelsOf 21 = .ok (.iload_n 2, 1) := dk_28 (dk_at dksX8_feelsOf_0 21 rfl rfl)
theorem dX8_feelsOf_22 : decode cX8_feelsOf 22 = .ok (.invokevirtual 358, 3) := dk_182 1 102 (dk_at dksX8_feelsOf_1 0 rfl rfl)
theorem dX8_feelsOf_25 : decode cX8_feelsOf 25 = .ok (.istore 4, 2) := dk_54 4 (dk_at dksX8_feelsOf_1 3 rfl rfl)
theorem dX8_feelsOf_27 : decode cX8_feelsOf 27 = .ok (.iload 4, 2) := dk_21 4 (dk_at dksX8_feelsOf_1 5 rfl rfl)
theorem dX8_feelsOf_29 : decode cX8_feelsOf 29 = .ok (.ifCond .ge 7, 3) := dk_156 0 7 (dk_at dksX8_feelsOf_1 7 rfl rfl)
theorem dX8_feelsOf_32 : decode cX8_feelsOf 32 = .ok (.iconst 0, 1) := dk_3 (dk_at dksX8_feelsOf_1 10 rfl rfl)
theorem dX8_feelsOf_33 : decode cX8_feelsOf 33 = .ok (.goto 5, 3) := dk_167 0 5 (dk_at dksX8_feelsOf_1 11 rfl rfl)
theorem dX8_feelsOf_36 : decode cX8_feelsOf 36 = .ok (.iload 4, 2) := dk_21 4 (dk_at dksX8_feelsOf_1 14 rfl rfl)
theorem dX8_feelsOf_38 : decode cX8_feelsOf 38 = .ok (.istore 5, 2) := dk_54 5 (dk_at dksX8_feelsOf_1 16 rfl rfl)
theorem dX8_feelsOf_40 : decode cX8_feelsOf 40 = .ok (.aload_n 0, 1) := dk_42 (dk_at dksX8_feelsOf_1 18 rfl rfl)
theorem dX8_feelsOf_41 : decode cX8_feelsOf 41 = .ok (.getfield 29, 3) := dk_180 0 29 (dk_at dksX8_feelsOf_1 19 rfl rfl)
theorem dX8_feelsOf_44 : decode cX8_feelsOf 44 = .ok (.iconst 5, 1) := dk_8 (dk_at dksX8_feelsOf_1 22 rfl rfl)
theorem dX8_feelsOf_45 : decode cX8_feelsOf 45 = .ok (.iload_n 1, 1) := dk_27 (dk_at dksX8_feelsOf_1 23 rfl rfl)
theorem dX8_feelsOf_46 : decode cX8_feelsOf 46 = .ok (.imul, 1) := dk_104 (dk_at dksX8_feelsOf_2 0 rfl rfl)
theorem dX8_feelsOf_47 : decode cX8_feelsOf 47 = .ok (.iconst 3, 1) := dk_6 (dk_at dksX8_feelsOf_2 1 rfl rfl)
theorem dX8_feelsOf_48 : decode cX8_feelsOf 48 = .ok (.iadd, 1) := dk_96 (dk_at dksX8_feelsOf_2 2 rfl rfl)
theorem dX8_feelsOf_49 : decode cX8_feelsOf 49 = .ok (.iaload, 1) := dk_46 (dk_at dksX8_feelsOf_2 3 rfl rfl)
theorem dX8_feelsOf_50 : decode cX8_feelsOf 50 = .ok (.iconst 2, 1) := dk_5 (dk_at dksX8_feelsOf_2 4 rfl rfl)
theorem dX8_feelsOf_51 : decode cX8_feelsOf 51 = .ok (.if_icmp .le 9, 3) := dk_164 0 9 (dk_at dksX8_feelsOf_2 5 rfl rfl)
theorem dX8_feelsOf_54 : decode cX8_feelsOf 54 = .ok (.iload 4, 2) := dk_21 4 (dk_at dksX8_feelsOf_2 8 rfl rfl)
theorem dX8_feelsOf_56 : decode cX8_feelsOf 56 = .ok (.ineg, 1) := dk_116 (dk_at dksX8_feelsOf_2 10 rfl rfl)
theorem dX8_feelsOf_57 : decode cX8_feelsOf 57 = .ok (.goto 5, 3) := dk_167 0 5 (dk_at dksX8_feelsOf_2 11 rfl rfl)
theorem dX8_feelsOf_60 : decode cX8_feelsOf 60 = .ok (.iload 4, 2) := dk_21 4 (dk_at dksX8_feelsOf_2 14 rfl rfl)
theorem dX8_feelsOf_62 : decode cX8_feelsOf 62 = .ok (.istore 6, 2) := dk_54 6 (dk_at dksX8_feelsOf_2 16 rfl rfl)
theorem dX8_feelsOf_64 : decode cX8_feelsOf 64 = .ok (.iload_n 3, 1) := dk_29 (dk_at dksX8_feelsOf_2 18 rfl rfl)
theorem dX8_feelsOf_65 : decode cX8_feelsOf 65 = .ok (.iconst 1, 1) := dk_4 (dk_at dksX8_feelsOf_2 19 rfl rfl)
theorem dX8_feelsOf_66 : decode cX8_feelsOf 66 = .ok (.if_icmp .ne 8, 3) := dk_160 0 8 (dk_at dksX8_feelsOf_2 20 rfl rfl)
theorem dX8_feelsOf_69 : decode cX8_feelsOf 69 = .ok (.iload 5, 2) := dk_21 5 (dk_at dksX8_feelsOf_3 0 rfl rfl)
theorem dX8_feelsOf_71 : decode cX8_feelsOf 71 = .ok (.goto 46, 3) := dk_167 0 46 (dk_at dksX8_feelsOf_3 2 rfl rfl)
theorem dX8_feelsOf_74 : decode cX8_feelsOf 74 = .ok (.iload_n 3, 1) := dk_29 (dk_at dksX8_feelsOf_3 5 rfl rfl)
theorem dX8_feelsOf_75 : decode cX8_feelsOf 75 = .ok (.iconst 3, 1) := dk_6 (dk_at dksX8_feelsOf_3 6 rfl rfl)
theorem dX8_feelsOf_76 : decode cX8_feelsOf 76 = .ok (.if_icmp .ne 10, 3) := dk_160 0 10 (dk_at dksX8_feelsOf_3 7 rfl rfl)
theorem dX8_feelsOf_79 : decode cX8_feelsOf 79 = .ok (.iconst 2, 1) := dk_5 (dk_at dksX8_feelsOf_3 10 rfl rfl)
theorem dX8_feelsOf_80 : decode cX8_feelsOf 80 = .ok (.iload 5, 2) := dk_21 5 (dk_at dksX8_feelsOf_3 11 rfl rfl)
theorem dX8_feelsOf_82 : decode cX8_feelsOf 82 = .ok (.imul, 1) := dk_104 (dk_at dksX8_feelsOf_3 13 rfl rfl)
theorem dX8_feelsOf_83 : decode cX8_feelsOf 83 = .ok (.goto 34, 3) := dk_167 0 34 (dk_at dksX8_feelsOf_3 14 rfl rfl)
theorem dX8_feelsOf_86 : decode cX8_feelsOf 86 = .ok (.iload_n 3, 1) := dk_29 (dk_at dksX8_feelsOf_3 17 rfl rfl)
theorem dX8_feelsOf_87 : decode cX8_feelsOf 87 = .ok (.iconst 2, 1) := dk_5 (dk_at dksX8_feelsOf_3 18 rfl rfl)
theorem dX8_feelsOf_88 : decode cX8_feelsOf 88 = .ok (.if_icmp .ne 8, 3) := dk_160 0 8 (dk_at dksX8_feelsOf_3 19 rfl rfl)
theorem dX8_feelsOf_91 : decode cX8_feelsOf 91 = .ok (.iload 6, 2) := dk_21 6 (dk_at dksX8_feelsOf_3 22 rfl rfl)
theorem dX8_feelsOf_93 : decode cX8_feelsOf 93 = .ok (.goto 24, 3) := dk_167 0 24 (dk_at dksX8_feelsOf_4 0 rfl rfl)
theorem dX8_feelsOf_96 : decode cX8_feelsOf 96 = .ok (.iload_n 3, 1) := dk_29 (dk_at dksX8_feelsOf_4 3 rfl rfl)
theorem dX8_feelsOf_97 : decode cX8_feelsOf 97 = .ok (.iconst 4, 1) := dk_7 (dk_at dksX8_feelsOf_4 4 rfl rfl)
theorem dX8_feelsOf_98 : decode cX8_feelsOf 98 = .ok (.if_icmp .ne 17, 3) := dk_160 0 17 (dk_at dksX8_feelsOf_4 5 rfl rfl)
theorem dX8_feelsOf_101 : decode cX8_feelsOf 101 = .ok (.iload 6, 2) := dk_21 6 (dk_at dksX8_feelsOf_4 8 rfl rfl)
theorem dX8_feelsOf_103 : decode cX8_feelsOf 103 = .ok (.aload_n 0, 1) := dk_42 (dk_at dksX8_feelsOf_4 10 rfl rfl)
theorem dX8_feelsOf_104 : decode cX8_feelsOf 104 = .ok (.getfield 29, 3) := dk_180 0 29 (dk_at dksX8_feelsOf_4 11 rfl rfl)
theorem dX8_feelsOf_107 : decode cX8_feelsOf 107 = .ok (.iconst 5, 1) := dk_8 (dk_at dksX8_feelsOf_4 14 rfl rfl)
theorem dX8_feelsOf_108 : decode cX8_feelsOf 108 = .ok (.iload_n 1, 1) := dk_27 (dk_at dksX8_feelsOf_4 15 rfl rfl)
theorem dX8_feelsOf_109 : decode cX8_feelsOf 109 = .ok (.imul, 1) := dk_104 (dk_at dksX8_feelsOf_4 16 rfl rfl)
theorem dX8_feelsOf_110 : decode cX8_feelsOf 110 = .ok (.iaload, 1) := dk_46 (dk_at dksX8_feelsOf_4 17 rfl rfl)
theorem dX8_feelsOf_111 : decode cX8_feelsOf 111 = .ok (.iadd, 1) := dk_96 (dk_at dksX8_feelsOf_4 18 rfl rfl)
theorem dX8_feelsOf_112 : decode cX8_feelsOf 112 = .ok (.goto 5, 3) := dk_167 0 5 (dk_at dksX8_feelsOf_4 19 rfl rfl)
theorem dX8_feelsOf_115 : decode cX8_feelsOf 115 = .ok (.iload 4, 2) := dk_21 4 (dk_at dksX8_feelsOf_4 22 rfl rfl)
theorem dX8_feelsOf_117 : decode cX8_feelsOf 117 = .ok (.ireturn, 1) := dk_172 (dk_at dksX8_feelsOf_5 0 rfl rfl)
abbrev cX8_year : ByteArray := prog_16_method_74_code
def yX8_year : MethodName := ⟨RX8, "year", "()I"⟩
def dkwX8_year_0 : List UInt8 := [42, 180, 0, 124, 17, 3, 231, 160, 0, 6, 16, 253, 172, 42, 182, 1, 112, 42, 182, 1, 115, 172]
abbrev dktX8_year_0 : List UInt8 := dkwX8_year_0 ++ []
theorem dksX8_year_0 : cX8_year.data.toList.drop 0 = dktX8_year_0 := by decide +kernel
theorem dX8_year_0 : decode cX8_year 0 = .ok (.aload_n 0, 1) := dk_42 (dk_at dksX8_year_0 0 rfl rfl)
theorem dX8_year_1 : decode cX8_year 1 = .ok (.getfield 124, 3) := dk_180 0 124 (dk_at dksX8_year_0 1 rfl rfl)
theorem dX8_year_4 : decode cX8_year 4 = .ok (.sipush 999, 3) := dk_17 3 231 (dk_at dksX8_year_0 4 rfl rfl)
theorem dX8_year_7 : decode cX8_year 7 = .ok (.if_icmp .ne 6, 3) := dk_160 0 6 (dk_at dksX8_year_0 7 rfl rfl)
theorem dX8_year_10 : decode cX8_year 10 = .ok (.bipush (-3), 2) := dk_16 253 (dk_at dksX8_year_0 10 rfl rfl)
theorem dX8_year_12 : decode cX8_year 12 = .ok (.ireturn, 1) := dk_172 (dk_at dksX8_year_0 12 rfl rfl)
theorem dX8_year_13 : decode cX8_year 13 = .ok (.aload_n 0, 1) := dk_42 (dk_at dksX8_year_0 13 rfl rfl)
theorem dX8_year_14 : decode cX8_year 14 = .ok (.invokevirtual 368, 3) := dk_182 1 112 (dk_at dksX8_year_0 14 rfl rfl)
theorem dX8_year_17 : decode cX8_year 17 = .ok (.aload_n 0, 1) := dk_42 (dk_at dksX8_year_0 17 rfl rfl)
theorem dX8_year_18 : decode cX8_year 18 = .ok (.invokevirtual 371, 3) := dk_182 1 115 (dk_at dksX8_year_0 18 rfl rfl)
theorem dX8_year_21 : decode cX8_year 21 = .ok (.ireturn, 1) := dk_172 (dk_at dksX8_year_0 21 rfl rfl)
abbrev cX8_passes : ByteArray := prog_16_method_73_code
def yX8_passes : MethodName := ⟨RX8, "passes", "()V"⟩
def dkwX8_passes_1 : List UInt8 := [180, 0, 124, 4, 96, 181, 0, 124, 177]
abbrev dktX8_passes_1 : List UInt8 := dkwX8_passes_1 ++ []
def dkwX8_passes_0 : List UInt8 := [3, 60, 27, 42, 180, 0, 83, 162, 0, 15, 42, 27, 3, 182, 1, 108, 132, 1, 1, 167, 255, 239, 42, 89]
abbrev dktX8_passes_0 : List UInt8 := dkwX8_passes_0 ++ dktX8_passes_1
theorem dksX8_passes_0 : cX8_passes.data.toList.drop 0 = dktX8_passes_0 := by decide +kernel
theorem dksX8_passes_1 : cX8_passes.data.toList.drop 24 = dktX8_passes_1 := dk_seg dksX8_passes_0 24 rfl rfl
theorem dX8_passes_0 : decode cX8_passes 0 = .ok (.iconst 0, 1) := dk_3 (dk_at dksX8_passes_0 0 rfl rfl)
theorem dX8_passes_1 : decode cX8_passes 1 = .ok (.istore_n 1, 1) := dk_60 (dk_at dksX8_passes_0 1 rfl rfl)
theorem dX8_passes_2 : decode cX8_passes 2 = .ok (.iload_n 1, 1) := dk_27 (dk_at dksX8_passes_0 2 rfl rfl)
theorem dX8_passes_3 : decode cX8_passes 3 = .ok (.aload_n 0, 1) := dk_42 (dk_at dksX8_passes_0 3 rfl rfl)
theorem dX8_passes_4 : decode cX8_passes 4 = .ok (.getfield 83, 3) := dk_180 0 83 (dk_at dksX8_passes_0 4 rfl rfl)
theorem dX8_passes_7 : decode cX8_passes 7 = .ok (.if_icmp .ge 15, 3) := dk_162 0 15 (dk_at dksX8_passes_0 7 rfl rfl)
theorem dX8_passes_10 : decode cX8_passes 10 = .ok (.aload_n 0, 1) := dk_42 (dk_at dksX8_passes_0 10 rfl rfl)
theorem dX8_passes_11 : decode cX8_passes 11 = .ok (.iload_n 1, 1) := dk_27 (dk_at dksX8_passes_0 11 rfl rfl)
theorem dX8_passes_12 : decode cX8_passes 12 = .ok (.iconst 0, 1) := dk_3 (dk_at dksX8_passes_0 12 rfl rfl)
theorem dX8_passes_13 : decode cX8_passes 13 = .ok (.invokevirtual 364, 3) := dk_182 1 108 (dk_at dksX8_passes_0 13 rfl rfl)
theorem dX8_passes_16 : decode cX8_passes 16 = .ok (.iinc 1 1, 3) := dk_132 1 1 (dk_at dksX8_passes_0 16 rfl rfl)
theorem dX8_passes_19 : decode cX8_passes 19 = .ok (.goto (-17), 3) := dk_167 255 239 (dk_at dksX8_passes_0 19 rfl rfl)
theorem dX8_passes_22 : decode cX8_passes 22 = .ok (.aload_n 0, 1) := dk_42 (dk_at dksX8_passes_0 22 rfl rfl)
theorem dX8_passes_23 : decode cX8_passes 23 = .ok (.dup, 1) := dk_89 (dk_at dksX8_passes_0 23 rfl rfl)
theorem dX8_passes_24 : decode cX8_passes 24 = .ok (.getfield 124, 3) := dk_180 0 124 (dk_at dksX8_passes_1 0 rfl rfl)
theorem dX8_passes_27 : decode cX8_passes 27 = .ok (.iconst 1, 1) := dk_4 (dk_at dksX8_passes_1 3 rfl rfl)
theorem dX8_passes_28 : decode cX8_passes 28 = .ok (.iadd, 1) := dk_96 (dk_at dksX8_passes_1 4 rfl rfl)
theorem dX8_passes_29 : decode cX8_passes 29 = .ok (.putfield 124, 3) := dk_181 0 124 (dk_at dksX8_passes_1 5 rfl rfl)
theorem dX8_passes_32 : decode cX8_passes 32 = .ok (.return_, 1) := dk_177 (dk_at dksX8_passes_1 8 rfl rfl)
abbrev cX8_goes : ByteArray := prog_16_method_72_code
def yX8_goes : MethodName := ⟨RX8, "goes", "(II)V"⟩
def dkwX8_goes_3 : List UInt8 := [21, 5, 104, 29, 96, 46, 79, 177]
abbrev dktX8_goes_3 : List UInt8 := dkwX8_goes_3 ++ []
def dkwX8_goes_2 : List UInt8 := [96, 3, 17, 3, 231, 184, 1, 98, 79, 42, 180, 0, 29, 8, 27, 104, 4, 96, 42, 180, 0, 23, 5]
abbrev dktX8_goes_2 : List UInt8 := dkwX8_goes_2 ++ dktX8_goes_3
def dkwX8_goes_1 : List UInt8 := [21, 5, 104, 4, 96, 29, 100, 54, 6, 42, 180, 0, 26, 21, 6, 42, 180, 0, 26, 21, 6, 46, 21, 4]
abbrev dktX8_goes_1 : List UInt8 := dkwX8_goes_1 ++ dktX8_goes_2
def dkwX8_goes_0 : List UInt8 := [42, 27, 182, 0, 136, 28, 130, 62, 42, 27, 182, 0, 139, 54, 4, 42, 27, 182, 1, 95, 54, 5, 5]
abbrev dktX8_goes_0 : List UInt8 := dkwX8_goes_0 ++ dktX8_goes_1
theorem dksX8_goes_0 : cX8_goes.data.toList.drop 0 = dktX8_goes_0 := by decide +kernel
theorem dksX8_goes_1 : cX8_goes.data.toList.drop 23 = dktX8_goes_1 := dk_seg dksX8_goes_0 23 rfl rfl
theorem dksX8_goes_2 : cX8_goes.data.toList.drop 47 = dktX8_goes_2 := dk_seg dksX8_goes_1 24 rfl rfl
theorem dksX8_goes_3 : cX8_goes.data.toList.drop 70 = dktX8_goes_3 := dk_seg dksX8_goes_2 23 rfl rfl
theorem dX8_goes_0 : decode cX8_goes 0 = .ok (.aload_n 0, 1) := dk_42 (dk_at dksX8_goes_0 0 rfl rfl)
theorem dX8_goes_1 : decode cX8_goes 1 = .ok (.iload_n 1, 1) := dk_27 (dk_at dksX8_goes_0 1 rfl rfl)
theorem dX8_goes_2 : decode cX8_goes 2 = .ok (.invokevirtual 136, 3) := dk_182 0 136 (dk_at dksX8_goes_0 2 rfl rfl)
theorem dX8_goes_5 : decode cX8_goes 5 = .ok (.iload_n 2, 1) := dk_28 (dk_at dksX8_goes_0 5 rfl rfl)
theorem dX8_goes_6 : decode cX8_goes 6 = .ok (.ixor, 1) := dk_130 (dk_at dksX8_goes_0 6 rfl rfl)
theorem dX8_goes_7 : decode cX8_goes 7 = .ok (.istore_n 3, 1) := dk_62 (dk_at dksX8_goes_0 7 rfl rfl)
theorem dX8_goes_8 : decode cX8_goes 8 = .ok (.aload_n 0, 1) := dk_42 (dk_at dksX8_goes_0 8 rfl rfl)
theorem dX8_goes_9 : decode cX8_goes 9 = .ok (.iload_n 1, 1) := dk_27 (dk_at dksX8_goes_0 9 rfl rfl)
theorem dX8_goes_10 : decode cX8_goes 10 = .ok (.invokevirtual 139, 3) := dk_182 0 139 (dk_at dksX8_goes_0 10 rfl rfl)
theorem dX8_goes_13 : decode cX8_goes 13 = .ok (.istore 4, 2) := dk_54 4 (dk_at dksX8_goes_0 13 rfl rfl)
theorem dX8_goes_15 : decode cX8_goes 15 = .ok (.aload_n 0, 1) := dk_42 (dk_at dksX8_goes_0 15 rfl rfl)
theorem dX8_goes_16 : decode cX8_goes 16 = .ok (.iload_n 1, 1) := dk_27 (dk_at dksX8_goes_0 16 rfl rfl)
theorem dX8_goes_17 : decode cX8_goes 17 = .ok (.invokevirtual 351, 3) := dk_182 1 95 (dk_at dksX8_goes_0 17 rfl rfl)
theorem dX8_goes_20 : decode cX8_goes 20 = .ok (.istore 5, 2) := dk_54 5 (dk_at dksX8_goes_0 20 rfl rfl)
theorem dX8_goes_22 : decode cX8_goes 22 = .ok (.iconst 2, 1) := dk_5 (dk_at dksX8_goes_0 22 rfl rfl)
theorem dX8_goes_23 : decode cX8_goes 23 = .ok (.iload 5, 2) := dk_21 5 (dk_at dksX8_goes_1 0 rfl rfl)
theorem dX8_goes_25 : decode cX8_goes 25 = .ok (.imul, 1) := dk_104 (dk_at dksX8_goes_1 2 rfl rfl)
theorem dX8_goes_26 : decode cX8_goes 26 = .ok (.iconst 1, 1) := dk_4 (dk_at dksX8_goes_1 3 rfl rfl)
theorem dX8_goes_27 : decode cX8_goes 27 = .ok (.iadd, 1) := dk_96 (dk_at dksX8_goes_1 4 rfl rfl)
theorem dX8_goes_28 : decode cX8_goes 28 = .ok (.iload_n 3, 1) := dk_29 (dk_at dksX8_goes_1 5 rfl rfl)
theorem dX8_goes_29 : decode cX8_goes 29 = .ok (.isub, 1) := dk_100 (dk_at dksX8_goes_1 6 rfl rfl)
theorem dX8_goes_30 : decode cX8_goes 30 = .ok (.istore 6, 2) := dk_54 6 (dk_at dksX8_goes_1 7 rfl rfl)
theorem dX8_goes_32 : decode cX8_goes 32 = .ok (.aload_n 0, 1) := dk_42 (dk_at dksX8_goes_1 9 rfl rfl)
theorem dX8_goes_33 : decode cX8_goes 33 = .ok (.getfield 26, 3) := dk_180 0 26 (dk_at dksX8_goes_1 10 rfl rfl)
theorem dX8_goes_36 : decode cX8_goes 36 = .ok (.iload 6, 2) := dk_21 6 (dk_at dksX8_goes_1 13 rfl rfl)
theorem dX8_goes_38 : decode cX8_goes 38 = .ok (.aload_n 0, 1) := dk_42 (dk_at dksX8_goes_1 15 rfl rfl)
theorem dX8_goes_39 : decode cX8_goes 39 = .ok (.getfield 26, 3) := dk_180 0 26 (dk_at dksX8_goes_1 16 rfl rfl)
theorem dX8_goes_42 : decode cX8_goes 42 = .ok (.iload 6, 2) := dk_21 6 (dk_at dksX8_goes_1 19 rfl rfl)
theorem dX8_goes_44 : decode cX8_goes 44 = .ok (.iaload, 1) := dk_46 (dk_at dksX8_goes_1 21 rfl rfl)
theorem dX8_goes_45 : decode cX8_goes 45 = .ok (.iload 4, 2) := dk_21 4 (dk_at dksX8_goes_1 22 rfl rfl)
theorem dX8_goes_47 : decode cX8_goes 47 = .ok (.iadd, 1) := dk_96 (dk_at dksX8_goes_2 0 rfl rfl)
theorem dX8_goes_48 : decode cX8_goes 48 = .ok (.iconst 0, 1) := dk_3 (dk_at dksX8_goes_2 1 rfl rfl)
theorem dX8_goes_49 : decode cX8_goes 49 = .ok (.sipush 999, 3) := dk_17 3 231 (dk_at dksX8_goes_2 2 rfl rfl)
theorem dX8_goes_52 : decode cX8_goes 52 = .ok (.invokestatic 354, 3) := dk_184 1 98 (dk_at dksX8_goes_2 5 rfl rfl)
theorem dX8_goes_55 : decode cX8_goes 55 = .ok (.iastore, 1) := dk_79 (dk_at dksX8_goes_2 8 rfl rfl)
theorem dX8_goes_56 : decode cX8_goes 56 = .ok (.aload_n 0, 1) := dk_42 (dk_at dksX8_goes_2 9 rfl rfl)
theorem dX8_goes_57 : decode cX8_goes 57 = .ok (.getfield 29, 3) := dk_180 0 29 (dk_at dksX8_goes_2 10 rfl rfl)
theorem dX8_goes_60 : decode cX8_goes 60 = .ok (.iconst 5, 1) := dk_8 (dk_at dksX8_goes_2 13 rfl rfl)
theorem dX8_goes_61 : decode cX8_goes 61 = .ok (.iload_n 1, 1) := dk_27 (dk_at dksX8_goes_2 14 rfl rfl)
theorem dX8_goes_62 : decode cX8_goes 62 = .ok (.imul, 1) := dk_104 (dk_at dksX8_goes_2 15 rfl rfl)
theorem dX8_goes_63 : decode cX8_goes 63 = .ok (.iconst 1, 1) := dk_4 (dk_at dksX8_goes_2 16 rfl rfl)
theorem dX8_goes_64 : decode cX8_goes 64 = .ok (.iadd, 1) := dk_96 (dk_at dksX8_goes_2 17 rfl rfl)
theorem dX8_goes_65 : decode cX8_goes 65 = .ok (.aload_n 0, 1) := dk_42 (dk_at dksX8_goes_2 18 rfl rfl)
theorem dX8_goes_66 : decode cX8_goes 66 = .ok (.getfield 23, 3) := dk_180 0 23 (dk_at dksX8_goes_2 19 rfl rfl)
theorem dX8_goes_69 : decode cX8_goes 69 = .ok (.iconst 2, 1) := dk_5 (dk_at dksX8_goes_2 22 rfl rfl)
theorem dX8_goes_70 : decode cX8_goes 70 = .ok (.iload 5, 2) := dk_21 5 (dk_at dksX8_goes_3 0 rfl rfl)
theorem dX8_goes_72 : decode cX8_goes 72 = .ok (.imul, 1) := dk_104 (dk_at dksX8_goes_3 2 rfl rfl)
theorem dX8_goes_73 : decode cX8_goes 73 = .ok (.iload_n 3, 1) := dk_29 (dk_at dksX8_goes_3 3 rfl rfl)
theorem dX8_goes_74 : decode cX8_goes 74 = .ok (.iadd, 1) := dk_96 (dk_at dksX8_goes_3 4 rfl rfl)
theorem dX8_goes_75 : decode cX8_goes 75 = .ok (.iaload, 1) := dk_46 (dk_at dksX8_goes_3 5 rfl rfl)
theorem dX8_goes_76 : decode cX8_goes 76 = .ok (.iastore, 1) := dk_79 (dk_at dksX8_goes_3 6 rfl rfl)
theorem dX8_goes_77 : decode cX8_goes 77 = .ok (.return_, 1) := dk_177 (dk_at dksX8_goes_3 7 rfl rfl)
abbrev cX8_jarsAll : ByteArray := prog_16_method_71_code
def yX8_jarsAll : MethodName := ⟨RX8, "jarsAll", "()I"⟩
def dkwX8_jarsAll_1 : List UInt8 := [167, 255, 238, 27, 172]
abbrev dktX8_jarsAll_1 : List UInt8 := dkwX8_jarsAll_1 ++ []
def dkwX8_jarsAll_0 : List UInt8 := [3, 60, 3, 61, 28, 16, 24, 162, 0, 18, 27, 42, 180, 0, 26, 28, 46, 96, 60, 132, 2, 1]
abbrev dktX8_jarsAll_0 : List UInt8 := dkwX8_jarsAll_0 ++ dktX8_jarsAll_1
theorem dksX8_jarsAll_0 : cX8_jarsAll.data.toList.drop 0 = dktX8_jarsAll_0 := by decide +kernel
theorem dksX8_jarsAll_1 : cX8_jarsAll.data.toList.drop 22 = dktX8_jarsAll_1 := dk_seg dksX8_jarsAll_0 22 rfl rfl
theorem dX8_jarsAll_0 : decode cX8_jarsAll 0 = .ok (.iconst 0, 1) := dk_3 (dk_at dksX8_jarsAll_0 0 rfl rfl)
theorem dX8_jarsAll_1 : decode cX8_jarsAll 1 = .ok (.istore_n 1, 1) := dk_60 (dk_at dksX8_jarsAll_0 1 rfl rfl)
theorem dX8_jarsAll_2 : decode cX8_jarsAll 2 = .ok (.iconst 0, 1) := dk_3 (dk_at dksX8_jarsAll_0 2 rfl rfl)
theorem dX8_jarsAll_3 : decode cX8_jarsAll 3 = .ok (.istore_n 2, 1) := dk_61 (dk_at dksX8_jarsAll_0 3 rfl rfl)
theorem dX8_jarsAll_4 : decode cX8_jarsAll 4 = .ok (.iload_n 2, 1) := dk_28 (dk_at dksX8_jarsAll_0 4 rfl rfl)
theorem dX8_jarsAll_5 : decode cX8_jarsAll 5 = .ok (.bipush 24, 2) := dk_16 24 (dk_at dksX8_jarsAll_0 5 rfl rfl)
theorem dX8_jarsAll_7 : decode cX8_jarsAll 7 = .ok (.if_icmp .ge 18, 3) := dk_162 0 18 (dk_at dksX8_jarsAll_0 7 rfl rfl)
theorem dX8_jarsAll_10 : decode cX8_jarsAll 10 = .ok (.iload_n 1, 1) := dk_27 (dk_at dksX8_jarsAll_0 10 rfl rfl)
theorem dX8_jarsAll_11 : decode cX8_jarsAll 11 = .ok (.aload_n 0, 1) := dk_42 (dk_at dksX8_jarsAll_0 11 rfl rfl)
theorem dX8_jarsAll_12 : decode cX8_jarsAll 12 = .ok (.getfield 26, 3) := dk_180 0 26 (dk_at dksX8_jarsAll_0 12 rfl rfl)
theorem dX8_jarsAll_15 : decode cX8_jarsAll 15 = .ok (.iload_n 2, 1) := dk_28 (dk_at dksX8_jarsAll_0 15 rfl rfl)
theorem dX8_jarsAll_16 : decode cX8_jarsAll 16 = .ok (.iaload, 1) := dk_46 (dk_at dksX8_jarsAll_0 16 rfl rfl)
theorem dX8_jarsAll_17 : decode cX8_jarsAll 17 = .ok (.iadd, 1) := dk_96 (dk_at dksX8_jarsAll_0 17 rfl rfl)
theorem dX8_jarsAll_18 : decode cX8_jarsAll 18 = .ok (.istore_n 1, 1) := dk_60 (dk_at dksX8_jarsAll_0 18 rfl rfl)
theorem dX8_jarsAll_19 : decode cX8_jarsAll 19 = .ok (.iinc 2 1, 3) := dk_132 2 1 (dk_at dksX8_jarsAll_0 19 rfl rfl)
theorem dX8_jarsAll_22 : decode cX8_jarsAll 22 = .ok (.goto (-18), 3) := dk_167 255 238 (dk_at dksX8_jarsAll_1 0 rfl rfl)
theorem dX8_jarsAll_25 : decode cX8_jarsAll 25 = .ok (.iload_n 1, 1) := dk_27 (dk_at dksX8_jarsAll_1 3 rfl rfl)
theorem dX8_jarsAll_26 : decode cX8_jarsAll 26 = .ok (.ireturn, 1) := dk_172 (dk_at dksX8_jarsAll_1 4 rfl rfl)
abbrev cX8_spoon : ByteArray := prog_16_method_75_code
def yX8_spoon : MethodName := ⟨RX8, "spoon", "(II)I"⟩
def dkwX8_spoon_4 : List UInt8 := [180, 0, 26, 28, 92, 46, 4, 100, 79, 42, 180, 0, 29, 8, 27, 104, 5, 96, 46, 172]
abbrev dktX8_spoon_4 : List UInt8 := dkwX8_spoon_4 ++ []
def dkwX8_spoon_3 : List UInt8 := [104, 6, 96, 42, 180, 0, 29, 8, 27, 104, 6, 96, 46, 4, 96, 3, 17, 3, 231, 184, 1, 98, 79, 42]
abbrev dktX8_spoon_3 : List UInt8 := dkwX8_spoon_3 ++ dktX8_spoon_4
def dkwX8_spoon_2 : List UInt8 := [5, 96, 46, 42, 27, 28, 182, 1, 105, 96, 16, 157, 16, 99, 184, 1, 98, 79, 42, 180, 0, 29, 8, 27]
abbrev dktX8_spoon_2 : List UInt8 := dkwX8_spoon_2 ++ dktX8_spoon_3
def dkwX8_spoon_1 : List UInt8 := [46, 154, 0, 7, 17, 252, 21, 172, 42, 180, 0, 29, 8, 27, 104, 5, 96, 42, 180, 0, 29, 8, 27, 104]
abbrev dktX8_spoon_1 : List UInt8 := dkwX8_spoon_1 ++ dktX8_spoon_2
def dkwX8_spoon_0 : List UInt8 := [42, 27, 182, 0, 101, 153, 0, 10, 28, 184, 0, 94, 154, 0, 7, 17, 252, 24, 172, 42, 180, 0, 26, 28]
abbrev dktX8_spoon_0 : List UInt8 := dkwX8_spoon_0 ++ dktX8_spoon_1
theorem dksX8_spoon_0 : cX8_spoon.data.toList.drop 0 = dktX8_spoon_0 := by decide +kernel
theorem dksX8_spoon_1 : cX8_spoon.data.toList.drop 24 = dktX8_spoon_1 := dk_seg dksX8_spoon_0 24 rfl rfl
theorem dksX8_spoon_2 : cX8_spoon.data.toList.drop 48 = dktX8_spoon_2 := dk_seg dksX8_spoon_1 24 rfl rfl
theorem dksX8_spoon_3 : cX8_spoon.data.toList.drop 72 = dktX8_spoon_3 := dk_seg dksX8_spoon_2 24 rfl rfl
theorem dksX8_spoon_4 : cX8_spoon.data.toList.drop 96 = dktX8_spoon_4 := dk_seg dksX8_spoon_3 24 rfl rfl
theorem dX8_spoon_0 : decode cX8_spoon 0 = .ok (.aload_n 0, 1) := dk_42 (dk_at dksX8_spoon_0 0 rfl rfl)
theorem dX8_spoon_1 : decode cX8_spoon 1 = .ok (.iload_n 1, 1) := dk_27 (dk_at dksX8_spoon_0 1 rfl rfl)
theorem dX8_spoon_2 : decode cX8_spoon 2 = .ok (.invokevirtual 101, 3) := dk_182 0 101 (dk_at dksX8_spoon_0 2 rfl rfl)
theorem dX8_spoon_5 : decode cX8_spoon 5 = .ok (.ifCond .eq 10, 3) := dk_153 0 10 (dk_at dksX8_spoon_0 5 rfl rfl)
theorem dX8_spoon_8 : decode cX8_spoon 8 = .ok (.iload_n 2, 1) := dk_28 (dk_at dksX8_spoon_0 8 rfl rfl)
theorem dX8_spoon_9 : decode cX8_spoon 9 = .ok (.invokestatic 94, 3) := dk_184 0 94 (dk_at dksX8_spoon_0 9 rfl rfl)
theorem dX8_spoon_12 : decode cX8_spoon 12 = .ok (.ifCond .ne 7, 3) := dk_154 0 7 (dk_at dksX8_spoon_0 12 rfl rfl)
theorem dX8_spoon_15 : decode cX8_spoon 15 = .ok (.sipush (-1000), 3) := dk_17 252 24 (dk_at dksX8_spoon_0 15 rfl rfl)
theorem dX8_spoon_18 : decode cX8_spoon 18 = .ok (.ireturn, 1) := dk_172 (dk_at dksX8_spoon_0 18 rfl rfl)
theorem dX8_spoon_19 : decode cX8_spoon 19 = .ok (.aload_n 0, 1) := dk_42 (dk_at dksX8_spoon_0 19 rfl rfl)
theorem dX8_spoon_20 : decode cX8_spoon 20 = .ok (.getfield 26, 3) := dk_180 0 26 (dk_at dksX8_spoon_0 20 rfl rfl)
theorem dX8_spoon_23 : decode cX8_spoon 23 = .ok (.iload_n 2, 1) := dk_28 (dk_at dksX8_spoon_0 23 rfl rfl)
theorem dX8_spoon_24 : decode cX8_spoon 24 = .ok (.iaload, 1) := dk_46 (dk_at dksX8_spoon_1 0 rfl rfl)
theorem dX8_spoon_25 : decode cX8_spoon 25 = .ok (.ifCond .ne 7, 3) := dk_154 0 7 (dk_at dksX8_spoon_1 1 rfl rfl)
theorem dX8_spoon_28 : decode cX8_spoon 28 = .ok (.sipush (-1003), 3) := dk_17 252 21 (dk_at dksX8_spoon_1 4 rfl rfl)
theorem dX8_spoon_31 : decode cX8_spoon 31 = .ok (.ireturn, 1) := dk_172 (dk_at dksX8_spoon_1 7 rfl rfl)
theorem dX8_spoon_32 : decode cX8_spoon 32 = .ok (.aload_n 0, 1) := dk_42 (dk_at dksX8_spoon_1 8 rfl rfl)
theorem dX8_spoon_33 : decode cX8_spoon 33 = .ok (.getfield 29, 3) := dk_180 0 29 (dk_at dksX8_spoon_1 9 rfl rfl)
theorem dX8_spoon_36 : decode cX8_spoon 36 = .ok (.iconst 5, 1) := dk_8 (dk_at dksX8_spoon_1 12 rfl rfl)
theorem dX8_spoon_37 : decode cX8_spoon 37 = .ok (.iload_n 1, 1) := dk_27 (dk_at dksX8_spoon_1 13 rfl rfl)
theorem dX8_spoon_38 : decode cX8_spoon 38 = .ok (.imul, 1) := dk_104 (dk_at dksX8_spoon_1 14 rfl rfl)
theorem dX8_spoon_39 : decode cX8_spoon 39 = .ok (.iconst 2, 1) := dk_5 (dk_at dksX8_spoon_1 15 rfl rfl)
theorem dX8_spoon_40 : decode cX8_spoon 40 = .ok (.iadd, 1) := dk_96 (dk_at dksX8_spoon_1 16 rfl rfl)
theorem dX8_spoon_41 : decode cX8_spoon 41 = .ok (.aload_n 0, 1) := dk_42 (dk_at dksX8_spoon_1 17 rfl rfl)
theorem dX8_spoon_42 : decode cX8_spoon 42 = .ok (.getfield 29, 3) := dk_180 0 29 (dk_at dksX8_spoon_1 18 rfl rfl)
theorem dX8_spoon_45 : decode cX8_spoon 45 = .ok (.iconst 5, 1) := dk_8 (dk_at dksX8_spoon_1 21 rfl rfl)
theorem dX8_spoon_46 : decode cX8_spoon 46 = .ok (.iload_n 1, 1) := dk_27 (dk_at dksX8_spoon_1 22 rfl rfl)
theorem dX8_spoon_47 : decode cX8_spoon 47 = .ok (.imul, 1) := dk_104 (dk_at dksX8_spoon_1 23 rfl rfl)
theorem dX8_spoon_48 : decode cX8_spoon 48 = .ok (.iconst 2, 1) := dk_5 (dk_at dksX8_spoon_2 0 rfl rfl)
theorem dX8_spoon_49 : decode cX8_spoon 49 = .ok (.iadd, 1) := dk_96 (dk_at dksX8_spoon_2 1 rfl rfl)
theorem dX8_spoon_50 : decode cX8_spoon 50 = .ok (.iaload, 1) := dk_46 (dk_at dksX8_spoon_2 2 rfl rfl)
theorem dX8_spoon_51 : decode cX8_spoon 51 = .ok (.aload_n 0, 1) := dk_42 (dk_at dksX8_spoon_2 3 rfl rfl)
theorem dX8_spoon_52 : decode cX8_spoon 52 = .ok (.iload_n 1, 1) := dk_27 (dk_at dksX8_spoon_2 4 rfl rfl)
theorem dX8_spoon_53 : decode cX8_spoon 53 = .ok (.iload_n 2, 1) := dk_28 (dk_at dksX8_spoon_2 5 rfl rfl)
theorem dX8_spoon_54 : decode cX8_spoon 54 = .ok (.invokevirtual 361, 3) := dk_182 1 105 (dk_at dksX8_spoon_2 6 rfl rfl)
theorem dX8_spoon_57 : decode cX8_spoon 57 = .ok (.iadd, 1) := dk_96 (dk_at dksX8_spoon_2 9 rfl rfl)
theorem dX8_spoon_58 : decode cX8_spoon 58 = .ok (.bipush (-99), 2) := dk_16 157 (dk_at dksX8_spoon_2 10 rfl rfl)
theorem dX8_spoon_60 : decode cX8_spoon 60 = .ok (.bipush 99, 2) := dk_16 99 (dk_at dksX8_spoon_2 12 rfl rfl)
theorem dX8_spoon_62 : decode cX8_spoon 62 = .ok (.invokestatic 354, 3) := dk_184 1 98 (dk_at dksX8_spoon_2 14 rfl rfl)
theorem dX8_spoon_65 : decode cX8_spoon 65 = .ok (.iastore, 1) := dk_79 (dk_at dksX8_spoon_2 17 rfl rfl)
theorem dX8_spoon_66 : decode cX8_spoon 66 = .ok (.aload_n 0, 1) := dk_42 (dk_at dksX8_spoon_2 18 rfl rfl)
theorem dX8_spoon_67 : decode cX8_spoon 67 = .ok (.getfield 29, 3) := dk_180 0 29 (dk_at dksX8_spoon_2 19 rfl rfl)
theorem dX8_spoon_70 : decode cX8_spoon 70 = .ok (.iconst 5, 1) := dk_8 (dk_at dksX8_spoon_2 22 rfl rfl)
theorem dX8_spoon_71 : decode cX8_spoon 71 = .ok (.iload_n 1, 1) := dk_27 (dk_at dksX8_spoon_2 23 rfl rfl)
theorem dX8_spoon_72 : decode cX8_spoon 72 = .ok (.imul, 1) := dk_104 (dk_at dksX8_spoon_3 0 rfl rfl)
theorem dX8_spoon_73 : decode cX8_spoon 73 = .ok (.iconst 3, 1) := dk_6 (dk_at dksX8_spoon_3 1 rfl rfl)
theorem dX8_spoon_74 : decode cX8_spoon 74 = .ok (.iadd, 1) := dk_96 (dk_at dksX8_spoon_3 2 rfl rfl)
theorem dX8_spoon_75 : decode cX8_spoon 75 = .ok (.aload_n 0, 1) := dk_42 (dk_at dksX8_spoon_3 3 rfl rfl)
theorem dX8_spoon_76 : decode cX8_spoon 76 = .ok (.getfield 29, 3) := dk_180 0 29 (dk_at dksX8_spoon_3 4 rfl rfl)
theorem dX8_spoon_79 : decode cX8_spoon 79 = .ok (.iconst 5, 1) := dk_8 (dk_at dksX8_spoon_3 7 rfl rfl)
theorem dX8_spoon_80 : decode cX8_spoon 80 = .ok (.iload_n 1, 1) := dk_27 (dk_at dksX8_spoon_3 8 rfl rfl)
theorem dX8_spoon_81 : decode cX8_spoon 81 = .ok (.imul, 1) := dk_104 (dk_at dksX8_spoon_3 9 rfl rfl)
theorem dX8_spoon_82 : decode cX8_spoon 82 = .ok (.iconst 3, 1) := dk_6 (dk_at dksX8_spoon_3 10 rfl rfl)
theorem dX8_spoon_83 : decode cX8_spoon 83 = .ok (.iadd, 1) := dk_96 (dk_at dksX8_spoon_3 11 rfl rfl)
theorem dX8_spoon_84 : decode cX8_spoon 84 = .ok (.iaload, 1) := dk_46 (dk_at dksX8_spoon_3 12 rfl rfl)
theorem dX8_spoon_85 : decode cX8_spoon 85 = .ok (.iconst 1, 1) := dk_4 (dk_at dksX8_spoon_3 13 rfl rfl)
theorem dX8_spoon_86 : decode cX8_spoon 86 = .ok (.iadd, 1) := dk_96 (dk_at dksX8_spoon_3 14 rfl rfl)
theorem dX8_spoon_87 : decode cX8_spoon 87 = .ok (.iconst 0, 1) := dk_3 (dk_at dksX8_spoon_3 15 rfl rfl)
theorem dX8_spoon_88 : decode cX8_spoon 88 = .ok (.sipush 999, 3) := dk_17 3 231 (dk_at dksX8_spoon_3 16 rfl rfl)
theorem dX8_spoon_91 : decode cX8_spoon 91 = .ok (.invokestatic 354, 3) := dk_184 1 98 (dk_at dksX8_spoon_3 19 rfl rfl)
theorem dX8_spoon_94 : decode cX8_spoon 94 = .ok (.iastore, 1) := dk_79 (dk_at dksX8_spoon_3 22 rfl rfl)
theorem dX8_spoon_95 : decode cX8_spoon 95 = .ok (.aload_n 0, 1) := dk_42 (dk_at dksX8_spoon_3 23 rfl rfl)
theorem dX8_spoon_96 : decode cX8_spoon 96 = .ok (.getfield 26, 3) := dk_180 0 26 (dk_at dksX8_spoon_4 0 rfl rfl)
theorem dX8_spoon_99 : decode cX8_spoon 99 = .ok (.iload_n 2, 1) := dk_28 (dk_at dksX8_spoon_4 3 rfl rfl)
theorem dX8_spoon_100 : decode cX8_spoon 100 = .ok (.dup2, 1) := dk_92 (dk_at dksX8_spoon_4 4 rfl rfl)
theorem dX8_spoon_101 : decode cX8_spoon 101 = .ok (.iaload, 1) := dk_46 (dk_at dksX8_spoon_4 5 rfl rfl)
theorem dX8_spoon_102 : decode cX8_spoon 102 = .ok (.iconst 1, 1) := dk_4 (dk_at dksX8_spoon_4 6 rfl rfl)
theorem dX8_spoon_103 : decode cX8_spoon 103 = .ok (.isub, 1) := dk_100 (dk_at dksX8_spoon_4 7 rfl rfl)
theorem dX8_spoon_104 : decode cX8_spoon 104 = .ok (.iastore, 1) := dk_79 (dk_at dksX8_spoon_4 8 rfl rfl)
theorem dX8_spoon_105 : decode cX8_spoon 105 = .ok (.aload_n 0, 1) := dk_42 (dk_at dksX8_spoon_4 9 rfl rfl)
theorem dX8_spoon_106 : decode cX8_spoon 106 = .ok (.getfield 29, 3) := dk_180 0 29 (dk_at dksX8_spoon_4 10 rfl rfl)
theorem dX8_spoon_109 : decode cX8_spoon 109 = .ok (.iconst 5, 1) := dk_8 (dk_at dksX8_spoon_4 13 rfl rfl)
theorem dX8_spoon_110 : decode cX8_spoon 110 = .ok (.iload_n 1, 1) := dk_27 (dk_at dksX8_spoon_4 14 rfl rfl)
theorem dX8_spoon_111 : decode cX8_spoon 111 = .ok (.imul, 1) := dk_104 (dk_at dksX8_spoon_4 15 rfl rfl)
theorem dX8_spoon_112 : decode cX8_spoon 112 = .ok (.iconst 2, 1) := dk_5 (dk_at dksX8_spoon_4 16 rfl rfl)
theorem dX8_spoon_113 : decode cX8_spoon 113 = .ok (.iadd, 1) := dk_96 (dk_at dksX8_spoon_4 17 rfl rfl)
theorem dX8_spoon_114 : decode cX8_spoon 114 = .ok (.iaload, 1) := dk_46 (dk_at dksX8_spoon_4 18 rfl rfl)
theorem dX8_spoon_115 : decode cX8_spoon 115 = .ok (.ireturn, 1) := dk_172 (dk_at dksX8_spoon_4 19 rfl rfl)
abbrev cX8_run : ByteArray := prog_16_method_78_code
def yX8_run : MethodName := ⟨RX8, "run", "(III)I"⟩
def dkwX8_run_6 : List UInt8 := [54, 5, 42, 182, 1, 125, 21, 5, 172]
abbrev dktX8_run_6 : List UInt8 := dkwX8_run_6 ++ []
def dkwX8_run_5 : List UInt8 := [167, 0, 24, 29, 5, 160, 0, 10, 42, 182, 1, 115, 167, 0, 12, 42, 180, 0, 26, 29, 16, 10, 100, 46]
abbrev dktX8_run_5 : List UInt8 := dkwX8_run_5 ++ dktX8_run_6
def dkwX8_run_4 : List UInt8 := [167, 255, 231, 29, 154, 0, 11, 42, 27, 182, 1, 95, 167, 0, 34, 29, 4, 160, 0, 8, 21, 4]
abbrev dktX8_run_4 : List UInt8 := dkwX8_run_4 ++ dktX8_run_5
def dkwX8_run_3 : List UInt8 := [162, 0, 25, 42, 182, 1, 112, 21, 4, 4, 42, 27, 182, 1, 95, 120, 128, 54, 4, 132, 5, 1]
abbrev dktX8_run_3 : List UInt8 := dkwX8_run_3 ++ dktX8_run_4
def dkwX8_run_2 : List UInt8 := [16, 254, 172, 42, 182, 1, 122, 4, 42, 27, 182, 1, 95, 120, 54, 4, 3, 54, 5, 21, 5, 28]
abbrev dktX8_run_2 : List UInt8 := dkwX8_run_2 ++ dktX8_run_3
def dkwX8_run_1 : List UInt8 := [20, 1, 118, 184, 0, 86, 154, 0, 20, 29, 133, 20, 0, 134, 20, 1, 120, 184, 0, 86, 154, 0, 6]
abbrev dktX8_run_1 : List UInt8 := dkwX8_run_1 ++ dktX8_run_2
def dkwX8_run_0 : List UInt8 := [42, 27, 182, 0, 101, 153, 0, 41, 28, 133, 9, 20, 0, 243, 184, 0, 86, 153, 0, 29, 29, 133, 9]
abbrev dktX8_run_0 : List UInt8 := dkwX8_run_0 ++ dktX8_run_1
theorem dksX8_run_0 : cX8_run.data.toList.drop 0 = dktX8_run_0 := by decide +kernel
theorem dksX8_run_1 : cX8_run.data.toList.drop 23 = dktX8_run_1 := dk_seg dksX8_run_0 23 rfl rfl
theorem dksX8_run_2 : cX8_run.data.toList.drop 46 = dktX8_run_2 := dk_seg dksX8_run_1 23 rfl rfl
theorem dksX8_run_3 : cX8_run.data.toList.drop 68 = dktX8_run_3 := dk_seg dksX8_run_2 22 rfl rfl
theorem dksX8_run_4 : cX8_run.data.toList.drop 90 = dktX8_run_4 := dk_seg dksX8_run_3 22 rfl rfl
theorem dksX8_run_5 : cX8_run.data.toList.drop 112 = dktX8_run_5 := dk_seg dksX8_run_4 22 rfl rfl
theorem dksX8_run_6 : cX8_run.data.toList.drop 136 = dktX8_run_6 := dk_seg dksX8_run_5 24 rfl rfl
theorem dX8_run_0 : decode cX8_run 0 = .ok (.aload_n 0, 1) := dk_42 (dk_at dksX8_run_0 0 rfl rfl)
theorem dX8_run_1 : decode cX8_run 1 = .ok (.iload_n 1, 1) := dk_27 (dk_at dksX8_run_0 1 rfl rfl)
theorem dX8_run_2 : decode cX8_run 2 = .ok (.invokevirtual 101, 3) := dk_182 0 101 (dk_at dksX8_run_0 2 rfl rfl)
theorem dX8_run_5 : decode cX8_run 5 = .ok (.ifCond .eq 41, 3) := dk_153 0 41 (dk_at dksX8_run_0 5 rfl rfl)
theorem dX8_run_8 : decode cX8_run 8 = .ok (.iload_n 2, 1) := dk_28 (dk_at dksX8_run_0 8 rfl rfl)
theorem dX8_run_9 : decode cX8_run 9 = .ok (.i2l, 1) := dk_133 (dk_at dksX8_run_0 9 rfl rfl)
theorem dX8_run_10 : decode cX8_run 10 = .ok (.lconst 0, 1) := dk_9 (dk_at dksX8_run_0 10 rfl rfl)
theorem dX8_run_11 : decode cX8_run 11 = .ok (.ldc2_w 243, 3) := dk_20 0 243 (dk_at dksX8_run_0 11 rfl rfl)
theorem dX8_run_14 : decode cX8_run 14 = .ok (.invokestatic 86, 3) := dk_184 0 86 (dk_at dksX8_run_0 14 rfl rfl)
theorem dX8_run_17 : decode cX8_run 17 = .ok (.ifCond .eq 29, 3) := dk_153 0 29 (dk_at dksX8_run_0 17 rfl rfl)
theorem dX8_run_20 : decode cX8_run 20 = .ok (.iload_n 3, 1) := dk_29 (dk_at dksX8_run_0 20 rfl rfl)
theorem dX8_run_21 : decode cX8_run 21 = .ok (.i2l, 1) := dk_133 (dk_at dksX8_run_0 21 rfl rfl)
theorem dX8_run_22 : decode cX8_run 22 = .ok (.lconst 0, 1) := dk_9 (dk_at dksX8_run_0 22 rfl rfl)
theorem dX8_run_23 : decode cX8_run 23 = .ok (.ldc2_w 374, 3) := dk_20 1 118 (dk_at dksX8_run_1 0 rfl rfl)
theorem dX8_run_26 : decode cX8_run 26 = .ok (.invokestatic 86, 3) := dk_184 0 86 (dk_at dksX8_run_1 3 rfl rfl)
theorem dX8_run_29 : decode cX8_run 29 = .ok (.ifCond .ne 20, 3) := dk_154 0 20 (dk_at dksX8_run_1 6 rfl rfl)
theorem dX8_run_32 : decode cX8_run 32 = .ok (.iload_n 3, 1) := dk_29 (dk_at dksX8_run_1 9 rfl rfl)
theorem dX8_run_33 : decode cX8_run 33 = .ok (.i2l, 1) := dk_133 (dk_at dksX8_run_1 10 rfl rfl)
theorem dX8_run_34 : decode cX8_run 34 = .ok (.ldc2_w 134, 3) := dk_20 0 134 (dk_at dksX8_run_1 11 rfl rfl)
theorem dX8_run_37 : decode cX8_run 37 = .ok (.ldc2_w 376, 3) := dk_20 1 120 (dk_at dksX8_run_1 14 rfl rfl)
theorem dX8_run_40 : decode cX8_run 40 = .ok (.invokestatic 86, 3) := dk_184 0 86 (dk_at dksX8_run_1 17 rfl rfl)
theorem dX8_run_43 : decode cX8_run 43 = .ok (.ifCond .ne 6, 3) := dk_154 0 6 (dk_at dksX8_run_1 20 rfl rfl)
theorem dX8_run_46 : decode cX8_run 46 = .ok (.bipush (-2), 2) := dk_16 254 (dk_at dksX8_run_2 0 rfl rfl)
theorem dX8_run_48 : decode cX8_run 48 = .ok (.ireturn, 1) := dk_172 (dk_at dksX8_run_2 2 rfl rfl)
theorem dX8_run_49 : decode cX8_run 49 = .ok (.aload_n 0, 1) := dk_42 (dk_at dksX8_run_2 3 rfl rfl)
theorem dX8_run_50 : decode cX8_run 50 = .ok (.invokevirtual 378, 3) := dk_182 1 122 (dk_at dksX8_run_2 4 rfl rfl)
theorem dX8_run_53 : decode cX8_run 53 = .ok (.iconst 1, 1) := dk_4 (dk_at dksX8_run_2 7 rfl rfl)
theorem dX8_run_54 : decode cX8_run 54 = .ok (.aload_n 0, 1) := dk_42 (dk_at dksX8_run_2 8 rfl rfl)
theorem dX8_run_55 : decode cX8_run 55 = .ok (.iload_n 1, 1) := dk_27 (dk_at dksX8_run_2 9 rfl rfl)
theorem dX8_run_56 : decode cX8_run 56 = .ok (.invokevirtual 351, 3) := dk_182 1 95 (dk_at dksX8_run_2 10 rfl rfl)
theorem dX8_run_59 : decode cX8_run 59 = .ok (.ishl, 1) := dk_120 (dk_at dksX8_run_2 13 rfl rfl)
theorem dX8_run_60 : decode cX8_run 60 = .ok (.istore 4, 2) := dk_54 4 (dk_at dksX8_run_2 14 rfl rfl)
theorem dX8_run_62 : decode cX8_run 62 = .ok (.iconst 0, 1) := dk_3 (dk_at dksX8_run_2 16 rfl rfl)
theorem dX8_run_63 : decode cX8_run 63 = .ok (.istore 5, 2) := dk_54 5 (dk_at dksX8_run_2 17 rfl rfl)
theorem dX8_run_65 : decode cX8_run 65 = .ok (.iload 5, 2) := dk_21 5 (dk_at dksX8_run_2 19 rfl rfl)
theorem dX8_run_67 : decode cX8_run 67 = .ok (.iload_n 2, 1) := dk_28 (dk_at dksX8_run_2 21 rfl rfl)
theorem dX8_run_68 : decode cX8_run 68 = .ok (.if_icmp .ge 25, 3) := dk_162 0 25 (dk_at dksX8_run_3 0 rfl rfl)
theorem dX8_run_71 : decode cX8_run 71 = .ok (.aload_n 0, 1) := dk_42 (dk_at dksX8_run_3 3 rfl rfl)
theorem dX8_run_72 : decode cX8_run 72 = .ok (.invokevirtual 368, 3) := dk_182 1 112 (dk_at dksX8_run_3 4 rfl rfl)
theorem dX8_run_75 : decode cX8_run 75 = .ok (.iload 4, 2) := dk_21 4 (dk_at dksX8_run_3 7 rfl rfl)
theorem dX8_run_77 : decode cX8_run 77 = .ok (.iconst 1, 1) := dk_4 (dk_at dksX8_run_3 9 rfl rfl)
theorem dX8_run_78 : decode cX8_run 78 = .ok (.aload_n 0, 1) := dk_42 (dk_at dksX8_run_3 10 rfl rfl)
theorem dX8_run_79 : decode cX8_run 79 = .ok (.iload_n 1, 1) := dk_27 (dk_at dksX8_run_3 11 rfl rfl)
theorem dX8_run_80 : decode cX8_run 80 = .ok (.invokevirtual 351, 3) := dk_182 1 95 (dk_at dksX8_run_3 12 rfl rfl)
theorem dX8_run_83 : decode cX8_run 83 = .ok (.ishl, 1) := dk_120 (dk_at dksX8_run_3 15 rfl rfl)
theorem dX8_run_84 : decode cX8_run 84 = .ok (.ior, 1) := dk_128 (dk_at dksX8_run_3 16 rfl rfl)
theorem dX8_run_85 : decode cX8_run 85 = .ok (.istore 4, 2) := dk_54 4 (dk_at dksX8_run_3 17 rfl rfl)
theorem dX8_run_87 : decode cX8_run 87 = .ok (.iinc 5 1, 3) := dk_132 5 1 (dk_at dksX8_run_3 19 rfl rfl)
theorem dX8_run_90 : decode cX8_run 90 = .ok (.goto (-25), 3) := dk_167 255 231 (dk_at dksX8_run_4 0 rfl rfl)
theorem dX8_run_93 : decode cX8_run 93 = .ok (.iload_n 3, 1) := dk_29 (dk_at dksX8_run_4 3 rfl rfl)
theorem dX8_run_94 : decode cX8_run 94 = .ok (.ifCond .ne 11, 3) := dk_154 0 11 (dk_at dksX8_run_4 4 rfl rfl)
theorem dX8_run_97 : decode cX8_run 97 = .ok (.aload_n 0, 1) := dk_42 (dk_at dksX8_run_4 7 rfl rfl)
theorem dX8_run_98 : decode cX8_run 98 = .ok (.iload_n 1, 1) := dk_27 (dk_at dksX8_run_4 8 rfl rfl)
theorem dX8_run_99 : decode cX8_run 99 = .ok (.invokevirtual 351, 3) := dk_182 1 95 (dk_at dksX8_run_4 9 rfl rfl)
theorem dX8_run_102 : decode cX8_run 102 = .ok (.goto 34, 3) := dk_167 0 34 (dk_at dksX8_run_4 12 rfl rfl)
theorem dX8_run_105 : decode cX8_run 105 = .ok (.iload_n 3, 1) := dk_29 (dk_at dksX8_run_4 15 rfl rfl)
theorem dX8_run_106 : decode cX8_run 106 = .ok (.iconst 1, 1) := dk_4 (dk_at dksX8_run_4 16 rfl rfl)
theorem dX8_run_107 : decode cX8_run 107 = .ok (.if_icmp .ne 8, 3) := dk_160 0 8 (dk_at dksX8_run_4 17 rfl rfl)
theorem dX8_run_110 : decode cX8_run 110 = .ok (.iload 4, 2) := dk_21 4 (dk_at dksX8_run_4 20 rfl rfl)
theorem dX8_run_112 : decode cX8_run 112 = .ok (.goto 24, 3) := dk_167 0 24 (dk_at dksX8_run_5 0 rfl rfl)
theorem dX8_run_115 : decode cX8_run 115 = .ok (.iload_n 3, 1) := dk_29 (dk_at dksX8_run_5 3 rfl rfl)
theorem dX8_run_116 : decode cX8_run 116 = .ok (.iconst 2, 1) := dk_5 (dk_at dksX8_run_5 4 rfl rfl)
theorem dX8_run_117 : decode cX8_run 117 = .ok (.if_icmp .ne 10, 3) := dk_160 0 10 (dk_at dksX8_run_5 5 rfl rfl)
theorem dX8_run_120 : decode cX8_run 120 = .ok (.aload_n 0, 1) := dk_42 (dk_at dksX8_run_5 8 rfl rfl)
theorem dX8_run_121 : decode cX8_run 121 = .ok (.invokevirtual 371, 3) := dk_182 1 115 (dk_at dksX8_run_5 9 rfl rfl)
theorem dX8_run_124 : decode cX8_run 124 = .ok (.goto 12, 3) := dk_167 0 12 (dk_at dksX8_run_5 12 rfl rfl)
theorem dX8_run_127 : decode cX8_run 127 = .ok (.aload_n 0, 1) := dk_42 (dk_at dksX8_run_5 15 rfl rfl)
theorem dX8_run_128 : decode cX8_run 128 = .ok (.getfield 26, 3) := dk_180 0 26 (dk_at dksX8_run_5 16 rfl rfl)
theorem dX8_run_131 : decode cX8_run 131 = .ok (.iload_n 3, 1) := dk_29 (dk_at dksX8_run_5 19 rfl rfl)
theorem dX8_run_132 : decode cX8_run 132 = .ok (.bipush 10, 2) := dk_16 10 (dk_at dksX8_run_5 20 rfl rfl)
theorem dX8_run_134 : decode cX8_run 134 = .ok (.isub, 1) := dk_100 (dk_at dksX8_run_5 22 rfl rfl)
theorem dX8_run_135 : decode cX8_run 135 = .ok (.iaload, 1) := dk_46 (dk_at dksX8_run_5 23 rfl rfl)
theorem dX8_run_136 : decode cX8_run 136 = .ok (.istore 5, 2) := dk_54 5 (dk_at dksX8_run_6 0 rfl rfl)
theorem dX8_run_138 : decode cX8_run 138 = .ok (.aload_n 0, 1) := dk_42 (dk_at dksX8_run_6 2 rfl rfl)
theorem dX8_run_139 : decode cX8_run 139 = .ok (.invokevirtual 381, 3) := dk_182 1 125 (dk_at dksX8_run_6 3 rfl rfl)
theorem dX8_run_142 : decode cX8_run 142 = .ok (.iload 5, 2) := dk_21 5 (dk_at dksX8_run_6 6 rfl rfl)
theorem dX8_run_144 : decode cX8_run 144 = .ok (.ireturn, 1) := dk_172 (dk_at dksX8_run_6 8 rfl rfl)
abbrev cX8_laysAside : ByteArray := prog_16_method_76_code
def yX8_laysAside : MethodName := ⟨RX8, "laysAside", "()V"⟩
def dkwX8_laysAside_2 : List UInt8 := [46, 79, 132, 1, 1, 167, 255, 232, 42, 180, 0, 32, 16, 49, 42, 180, 0, 124, 79, 177]
abbrev dktX8_laysAside_2 : List UInt8 := dkwX8_laysAside_2 ++ []
def dkwX8_laysAside_1 : List UInt8 := [167, 255, 235, 3, 60, 27, 16, 25, 162, 0, 24, 42, 180, 0, 32, 16, 24, 27, 96, 42, 180, 0, 29, 27]
abbrev dktX8_laysAside_1 : List UInt8 := dkwX8_laysAside_1 ++ dktX8_laysAside_2
def dkwX8_laysAside_0 : List UInt8 := [3, 60, 27, 16, 24, 162, 0, 21, 42, 180, 0, 32, 27, 42, 180, 0, 26, 27, 46, 79, 132, 1, 1]
abbrev dktX8_laysAside_0 : List UInt8 := dkwX8_laysAside_0 ++ dktX8_laysAside_1
theorem dksX8_laysAside_0 : cX8_laysAside.data.toList.drop 0 = dktX8_laysAside_0 := by decide +kernel
theorem dksX8_laysAside_1 : cX8_laysAside.data.toList.drop 23 = dktX8_laysAside_1 := dk_seg dksX8_laysAside_0 23 rfl rfl
theorem dksX8_laysAside_2 : cX8_laysAside.data.toList.drop 47 = dktX8_laysAside_2 := dk_seg dksX8_laysAside_1 24 rfl rfl
theorem dX8_laysAside_0 : decode cX8_laysAside 0 = .ok (.iconst 0, 1) := dk_3 (dk_at dksX8_laysAside_0 0 rfl rfl)
theorem dX8_laysAside_1 : decode cX8_laysAside 1 = .ok (.istore_n 1, 1) := dk_60 (dk_at dksX8_laysAside_0 1 rfl rfl)
theorem dX8_laysAside_2 : decode cX8_laysAside 2 = .ok (.iload_n 1, 1) := dk_27 (dk_at dksX8_laysAside_0 2 rfl rfl)
theorem dX8_laysAside_3 : decode cX8_laysAside 3 = .ok (.bipush 24, 2) := dk_16 24 (dk_at dksX8_laysAside_0 3 rfl rfl)
theorem dX8_laysAside_5 : decode cX8_laysAside 5 = .ok (.if_icmp .ge 21, 3) := dk_162 0 21 (dk_at dksX8_laysAside_0 5 rfl rfl)
theorem dX8_laysAside_8 : decode cX8_laysAside 8 = .ok (.aload_n 0, 1) := dk_42 (dk_at dksX8_laysAside_0 8 rfl rfl)
theorem dX8_laysAside_9 : decode cX8_laysAside 9 = .ok (.getfield 32, 3) := dk_180 0 32 (dk_at dksX8_laysAside_0 9 rfl rfl)
theorem dX8_laysAside_12 : decode cX8_laysAside 12 = .ok (.iload_n 1, 1) := dk_27 (dk_at dksX8_laysAside_0 12 rfl rfl)
theorem dX8_laysAside_13 : decode cX8_laysAside 13 = .ok (.aload_n 0, 1) := dk_42 (dk_at dksX8_laysAside_0 13 rfl rfl)
theorem dX8_laysAside_14 : decode cX8_laysAside 14 = .ok (.getfield 26, 3) := dk_180 0 26 (dk_at dksX8_laysAside_0 14 rfl rfl)
theorem dX8_laysAside_17 : decode cX8_laysAside 17 = .ok (.iload_n 1, 1) := dk_27 (dk_at dksX8_laysAside_0 17 rfl rfl)
theorem dX8_laysAside_18 : decode cX8_laysAside 18 = .ok (.iaload, 1) := dk_46 (dk_at dksX8_laysAside_0 18 rfl rfl)
theorem dX8_laysAside_19 : decode cX8_laysAside 19 = .ok (.iastore, 1) := dk_79 (dk_at dksX8_laysAside_0 19 rfl rfl)
theorem dX8_laysAside_20 : decode cX8_laysAside 20 = .ok (.iinc 1 1, 3) := dk_132 1 1 (dk_at dksX8_laysAside_0 20 rfl rfl)
theorem dX8_laysAside_23 : decode cX8_laysAside 23 = .ok (.goto (-21), 3) := dk_167 255 235 (dk_at dksX8_laysAside_1 0 rfl rfl)
theorem dX8_laysAside_26 : decode cX8_laysAside 26 = .ok (.iconst 0, 1) := dk_3 (dk_at dksX8_laysAside_1 3 rfl rfl)
theorem dX8_laysAside_27 : decode cX8_laysAside 27 = .ok (.istore_n 1, 1) := dk_60 (dk_at dksX8_laysAside_1 4 rfl rfl)
theorem dX8_laysAside_28 : decode cX8_laysAside 28 = .ok (.iload_n 1, 1) := dk_27 (dk_at dksX8_laysAside_1 5 rfl rfl)
theorem dX8_laysAside_29 : decode cX8_laysAside 29 = .ok (.bipush 25, 2) := dk_16 25 (dk_at dksX8_laysAside_1 6 rfl rfl)
theorem dX8_laysAside_31 : decode cX8_laysAside 31 = .ok (.if_icmp .ge 24, 3) := dk_162 0 24 (dk_at dksX8_laysAside_1 8 rfl rfl)
theorem dX8_laysAside_34 : decode cX8_laysAside 34 = .ok (.aload_n 0, 1) := dk_42 (dk_at dksX8_laysAside_1 11 rfl rfl)
theorem dX8_laysAside_35 : decode cX8_laysAside 35 = .ok (.getfield 32, 3) := dk_180 0 32 (dk_at dksX8_laysAside_1 12 rfl rfl)
theorem dX8_laysAside_38 : decode cX8_laysAside 38 = .ok (.bipush 24, 2) := dk_16 24 (dk_at dksX8_laysAside_1 15 rfl rfl)
theorem dX8_laysAside_40 : decode cX8_laysAside 40 = .ok (.iload_n 1, 1) := dk_27 (dk_at dksX8_laysAside_1 17 rfl rfl)
theorem dX8_laysAside_41 : decode cX8_laysAside 41 = .ok (.iadd, 1) := dk_96 (dk_at dksX8_laysAside_1 18 rfl rfl)
theorem dX8_laysAside_42 : decode cX8_laysAside 42 = .ok (.aload_n 0, 1) := dk_42 (dk_at dksX8_laysAside_1 19 rfl rfl)
theorem dX8_laysAside_43 : decode cX8_laysAside 43 = .ok (.getfield 29, 3) := dk_180 0 29 (dk_at dksX8_laysAside_1 20 rfl rfl)
theorem dX8_laysAside_46 : decode cX8_laysAside 46 = .ok (.iload_n 1, 1) := dk_27 (dk_at dksX8_laysAside_1 23 rfl rfl)
theorem dX8_laysAside_47 : decode cX8_laysAside 47 = .ok (.iaload, 1) := dk_46 (dk_at dksX8_laysAside_2 0 rfl rfl)
theorem dX8_laysAside_48 : decode cX8_laysAside 48 = .ok (.iastore, 1) := dk_79 (dk_at dksX8_laysAside_2 1 rfl rfl)
theorem dX8_laysAside_49 : decode cX8_laysAside 49 = .ok (.iinc 1 1, 3) := dk_132 1 1 (dk_at dksX8_laysAside_2 2 rfl rfl)
theorem dX8_laysAside_52 : decode cX8_laysAside 52 = .ok (.goto (-24), 3) := dk_167 255 232 (dk_at dksX8_laysAside_2 5 rfl rfl)
theorem dX8_laysAside_55 : decode cX8_laysAside 55 = .ok (.aload_n 0, 1) := dk_42 (dk_at dksX8_laysAside_2 8 rfl rfl)
theorem dX8_laysAside_56 : decode cX8_laysAside 56 = .ok (.getfield 32, 3) := dk_180 0 32 (dk_at dksX8_laysAside_2 9 rfl rfl)
theorem dX8_laysAside_59 : decode cX8_laysAside 59 = .ok (.bipush 49, 2) := dk_16 49 (dk_at dksX8_laysAside_2 12 rfl rfl)
theorem dX8_laysAside_61 : decode cX8_laysAside 61 = .ok (.aload_n 0, 1) := dk_42 (dk_at dksX8_laysAside_2 14 rfl rfl)
theorem dX8_laysAside_62 : decode cX8_laysAside 62 = .ok (.getfield 124, 3) := dk_180 0 124 (dk_at dksX8_laysAside_2 15 rfl rfl)
theorem dX8_laysAside_65 : decode cX8_laysAside 65 = .ok (.iastore, 1) := dk_79 (dk_at dksX8_laysAside_2 18 rfl rfl)
theorem dX8_laysAside_66 : decode cX8_laysAside 66 = .ok (.return_, 1) := dk_177 (dk_at dksX8_laysAside_2 19 rfl rfl)
abbrev cX8_laysBack : ByteArray := prog_16_method_77_code
def yX8_laysBack : MethodName := ⟨RX8, "laysBack", "()V"⟩
def dkwX8_laysBack_2 : List UInt8 := [46, 79, 132, 1, 1, 167, 255, 232, 42, 42, 180, 0, 32, 16, 49, 46, 181, 0, 124, 177]
abbrev dktX8_laysBack_2 : List UInt8 := dkwX8_laysBack_2 ++ []
def dkwX8_laysBack_1 : List UInt8 := [167, 255, 235, 3, 60, 27, 16, 25, 162, 0, 24, 42, 180, 0, 29, 27, 42, 180, 0, 32, 16, 24, 27, 96]
abbrev dktX8_laysBack_1 : List UInt8 := dkwX8_laysBack_1 ++ dktX8_laysBack_2
def dkwX8_laysBack_0 : List UInt8 := [3, 60, 27, 16, 24, 162, 0, 21, 42, 180, 0, 26, 27, 42, 180, 0, 32, 27, 46, 79, 132, 1, 1]
abbrev dktX8_laysBack_0 : List UInt8 := dkwX8_laysBack_0 ++ dktX8_laysBack_1
theorem dksX8_laysBack_0 : cX8_laysBack.data.toList.drop 0 = dktX8_laysBack_0 := by decide +kernel
theorem dksX8_laysBack_1 : cX8_laysBack.data.toList.drop 23 = dktX8_laysBack_1 := dk_seg dksX8_laysBack_0 23 rfl rfl
theorem dksX8_laysBack_2 : cX8_laysBack.data.toList.drop 47 = dktX8_laysBack_2 := dk_seg dksX8_laysBack_1 24 rfl rfl
theorem dX8_laysBack_0 : decode cX8_laysBack 0 = .ok (.iconst 0, 1) := dk_3 (dk_at dksX8_laysBack_0 0 rfl rfl)
theorem dX8_laysBack_1 : decode cX8_laysBack 1 = .ok (.istore_n 1, 1) := dk_60 (dk_at dksX8_laysBack_0 1 rfl rfl)
theorem dX8_laysBack_2 : decode cX8_laysBack 2 = .ok (.iload_n 1, 1) := dk_27 (dk_at dksX8_laysBack_0 2 rfl rfl)
theorem dX8_laysBack_3 : decode cX8_laysBack 3 = .ok (.bipush 24, 2) := dk_16 24 (dk_at dksX8_laysBack_0 3 rfl rfl)
theorem dX8_laysBack_5 : decode cX8_laysBack 5 = .ok (.if_icmp .ge 21, 3) := dk_162 0 21 (dk_at dksX8_laysBack_0 5 rfl rfl)
theorem dX8_laysBack_8 : decode cX8_laysBack 8 = .ok (.aload_n 0, 1) := dk_42 (dk_at dksX8_laysBack_0 8 rfl rfl)
theorem dX8_laysBack_9 : decode cX8_laysBack 9 = .ok (.getfield 26, 3) := dk_180 0 26 (dk_at dksX8_laysBack_0 9 rfl rfl)
theorem dX8_laysBack_12 : decode cX8_laysBack 12 = .ok (.iload_n 1, 1) := dk_27 (dk_at dksX8_laysBack_0 12 rfl rfl)
theorem dX8_laysBack_13 : decode cX8_laysBack 13 = .ok (.aload_n 0, 1) := dk_42 (dk_at dksX8_laysBack_0 13 rfl rfl)
theorem dX8_laysBack_14 : decode cX8_laysBack 14 = .ok (.getfield 32, 3) := dk_180 0 32 (dk_at dksX8_laysBack_0 14 rfl rfl)
theorem dX8_laysBack_17 : decode cX8_laysBack 17 = .ok (.iload_n 1, 1) := dk_27 (dk_at dksX8_laysBack_0 17 rfl rfl)
theorem dX8_laysBack_18 : decode cX8_laysBack 18 = .ok (.iaload, 1) := dk_46 (dk_at dksX8_laysBack_0 18 rfl rfl)
theorem dX8_laysBack_19 : decode cX8_laysBack 19 = .ok (.iastore, 1) := dk_79 (dk_at dksX8_laysBack_0 19 rfl rfl)
theorem dX8_laysBack_20 : decode cX8_laysBack 20 = .ok (.iinc 1 1, 3) := dk_132 1 1 (dk_at dksX8_laysBack_0 20 rfl rfl)
theorem dX8_laysBack_23 : decode cX8_laysBack 23 = .ok (.goto (-21), 3) := dk_167 255 235 (dk_at dksX8_laysBack_1 0 rfl rfl)
theorem dX8_laysBack_26 : decode cX8_laysBack 26 = .ok (.iconst 0, 1) := dk_3 (dk_at dksX8_laysBack_1 3 rfl rfl)
theorem dX8_laysBack_27 : decode cX8_laysBack 27 = .ok (.istore_n 1, 1) := dk_60 (dk_at dksX8_laysBack_1 4 rfl rfl)
theorem dX8_laysBack_28 : decode cX8_laysBack 28 = .ok (.iload_n 1, 1) := dk_27 (dk_at dksX8_laysBack_1 5 rfl rfl)
theorem dX8_laysBack_29 : decode cX8_laysBack 29 = .ok (.bipush 25, 2) := dk_16 25 (dk_at dksX8_laysBack_1 6 rfl rfl)
theorem dX8_laysBack_31 : decode cX8_laysBack 31 = .ok (.if_icmp .ge 24, 3) := dk_162 0 24 (dk_at dksX8_laysBack_1 8 rfl rfl)
theorem dX8_laysBack_34 : decode cX8_laysBack 34 = .ok (.aload_n 0, 1) := dk_42 (dk_at dksX8_laysBack_1 11 rfl rfl)
theorem dX8_laysBack_35 : decode cX8_laysBack 35 = .ok (.getfield 29, 3) := dk_180 0 29 (dk_at dksX8_laysBack_1 12 rfl rfl)
theorem dX8_laysBack_38 : decode cX8_laysBack 38 = .ok (.iload_n 1, 1) := dk_27 (dk_at dksX8_laysBack_1 15 rfl rfl)
theorem dX8_laysBack_39 : decode cX8_laysBack 39 = .ok (.aload_n 0, 1) := dk_42 (dk_at dksX8_laysBack_1 16 rfl rfl)
theorem dX8_laysBack_40 : decode cX8_laysBack 40 = .ok (.getfield 32, 3) := dk_180 0 32 (dk_at dksX8_laysBack_1 17 rfl rfl)
theorem dX8_laysBack_43 : decode cX8_laysBack 43 = .ok (.bipush 24, 2) := dk_16 24 (dk_at dksX8_laysBack_1 20 rfl rfl)
theorem dX8_laysBack_45 : decode cX8_laysBack 45 = .ok (.iload_n 1, 1) := dk_27 (dk_at dksX8_laysBack_1 22 rfl rfl)
theorem dX8_laysBack_46 : decode cX8_laysBack 46 = .ok (.iadd, 1) := dk_96 (dk_at dksX8_laysBack_1 23 rfl rfl)
theorem dX8_laysBack_47 : decode cX8_laysBack 47 = .ok (.iaload, 1) := dk_46 (dk_at dksX8_laysBack_2 0 rfl rfl)
theorem dX8_laysBack_48 : decode cX8_laysBack 48 = .ok (.iastore, 1) := dk_79 (dk_at dksX8_laysBack_2 1 rfl rfl)
theorem dX8_laysBack_49 : decode cX8_laysBack 49 = .ok (.iinc 1 1, 3) := dk_132 1 1 (dk_at dksX8_laysBack_2 2 rfl rfl)
theorem dX8_laysBack_52 : decode cX8_laysBack 52 = .ok (.goto (-24), 3) := dk_167 255 232 (dk_at dksX8_laysBack_2 5 rfl rfl)
theorem dX8_laysBack_55 : decode cX8_laysBack 55 = .ok (.aload_n 0, 1) := dk_42 (dk_at dksX8_laysBack_2 8 rfl rfl)
theorem dX8_laysBack_56 : decode cX8_laysBack 56 = .ok (.aload_n 0, 1) := dk_42 (dk_at dksX8_laysBack_2 9 rfl rfl)
theorem dX8_laysBack_57 : decode cX8_laysBack 57 = .ok (.getfield 32, 3) := dk_180 0 32 (dk_at dksX8_laysBack_2 10 rfl rfl)
theorem dX8_laysBack_60 : decode cX8_laysBack 60 = .ok (.bipush 49, 2) := dk_16 49 (dk_at dksX8_laysBack_2 13 rfl rfl)
theorem dX8_laysBack_62 : decode cX8_laysBack 62 = .ok (.iaload, 1) := dk_46 (dk_at dksX8_laysBack_2 15 rfl rfl)
theorem dX8_laysBack_63 : decode cX8_laysBack 63 = .ok (.putfield 124, 3) := dk_181 0 124 (dk_at dksX8_laysBack_2 16 rfl rfl)
theorem dX8_laysBack_66 : decode cX8_laysBack 66 = .ok (.return_, 1) := dk_177 (dk_at dksX8_laysBack_2 19 rfl rfl)
abbrev cX8_otherwise : ByteArray := prog_16_method_79_code
def yX8_otherwise : MethodName := ⟨RX8, "otherwise", "(III)I"⟩
def dkwX8_otherwise_5 : List UInt8 := [182, 1, 125, 21, 4, 172]
abbrev dktX8_otherwise_5 : List UInt8 := dkwX8_otherwise_5 ++ []
def dkwX8_otherwise_4 : List UInt8 := [180, 0, 124, 4, 96, 181, 0, 124, 132, 4, 1, 167, 255, 196, 42, 27, 182, 1, 95, 54, 4, 42]
abbrev dktX8_otherwise_4 : List UInt8 := dkwX8_otherwise_4 ++ dktX8_otherwise_5
def dkwX8_otherwise_3 : List UInt8 := [21, 4, 29, 160, 0, 7, 4, 167, 0, 4, 3, 182, 1, 108, 132, 5, 1, 167, 255, 221, 42, 89]
abbrev dktX8_otherwise_3 : List UInt8 := dkwX8_otherwise_3 ++ dktX8_otherwise_4
def dkwX8_otherwise_2 : List UInt8 := [162, 0, 60, 3, 54, 5, 21, 5, 42, 180, 0, 83, 162, 0, 32, 42, 21, 5, 21, 5, 27, 160, 0, 13]
abbrev dktX8_otherwise_2 : List UInt8 := dkwX8_otherwise_2 ++ dktX8_otherwise_3
def dkwX8_otherwise_1 : List UInt8 := [4, 100, 133, 184, 0, 86, 154, 0, 6, 16, 254, 172, 42, 182, 1, 122, 3, 54, 4, 21, 4, 28]
abbrev dktX8_otherwise_1 : List UInt8 := dkwX8_otherwise_1 ++ dktX8_otherwise_2
def dkwX8_otherwise_0 : List UInt8 := [42, 27, 182, 0, 101, 153, 0, 28, 28, 133, 10, 20, 1, 128, 184, 0, 86, 153, 0, 16, 29, 133, 9, 28]
abbrev dktX8_otherwise_0 : List UInt8 := dkwX8_otherwise_0 ++ dktX8_otherwise_1
theorem dksX8_otherwise_0 : cX8_otherwise.data.toList.drop 0 = dktX8_otherwise_0 := by decide +kernel
theorem dksX8_otherwise_1 : cX8_otherwise.data.toList.drop 24 = dktX8_otherwise_1 := dk_seg dksX8_otherwise_0 24 rfl rfl
theorem dksX8_otherwise_2 : cX8_otherwise.data.toList.drop 46 = dktX8_otherwise_2 := dk_seg dksX8_otherwise_1 22 rfl rfl
theorem dksX8_otherwise_3 : cX8_otherwise.data.toList.drop 70 = dktX8_otherwise_3 := dk_seg dksX8_otherwise_2 24 rfl rfl
theorem dksX8_otherwise_4 : cX8_otherwise.data.toList.drop 92 = dktX8_otherwise_4 := dk_seg dksX8_otherwise_3 22 rfl rfl
theorem dksX8_otherwise_5 : cX8_otherwise.data.toList.drop 114 = dktX8_otherwise_5 := dk_seg dksX8_otherwise_4 22 rfl rfl
theorem dX8_otherwise_0 : decode cX8_otherwise 0 = .ok (.aload_n 0, 1) := dk_42 (dk_at dksX8_otherwise_0 0 rfl rfl)
theorem dX8_otherwise_1 : decode cX8_otherwise 1 = .ok (.iload_n 1, 1) := dk_27 (dk_at dksX8_otherwise_0 1 rfl rfl)
theorem dX8_otherwise_2 : decode cX8_otherwise 2 = .ok (.invokevirtual 101, 3) := dk_182 0 101 (dk_at dksX8_otherwise_0 2 rfl rfl)
theorem dX8_otherwise_5 : decode cX8_otherwise 5 = .ok (.ifCond .eq 28, 3) := dk_153 0 28 (dk_at dksX8_otherwise_0 5 rfl rfl)
theorem dX8_otherwise_8 : decode cX8_otherwise 8 = .ok (.iload_n 2, 1) := dk_28 (dk_at dksX8_otherwise_0 8 rfl rfl)
theorem dX8_otherwise_9 : decode cX8_otherwise 9 = .ok (.i2l, 1) := dk_133 (dk_at dksX8_otherwise_0 9 rfl rfl)
theorem dX8_otherwise_10 : decode cX8_otherwise 10 = .ok (.lconst 1, 1) := dk_10 (dk_at dksX8_otherwise_0 10 rfl rfl)
theorem dX8_otherwise_11 : decode cX8_otherwise 11 = .ok (.ldc2_w 384, 3) := dk_20 1 128 (dk_at dksX8_otherwise_0 11 rfl rfl)
theorem dX8_otherwise_14 : decode cX8_otherwise 14 = .ok (.invokestatic 86, 3) := dk_184 0 86 (dk_at dksX8_otherwise_0 14 rfl rfl)
theorem dX8_otherwise_17 : decode cX8_otherwise 17 = .ok (.ifCond .eq 16, 3) := dk_153 0 16 (dk_at dksX8_otherwise_0 17 rfl rfl)
theorem dX8_otherwise_20 : decode cX8_otherwise 20 = .ok (.iload_n 3, 1) := dk_29 (dk_at dksX8_otherwise_0 20 rfl rfl)
theorem dX8_otherwise_21 : decode cX8_otherwise 21 = .ok (.i2l, 1) := dk_133 (dk_at dksX8_otherwise_0 21 rfl rfl)
theorem dX8_otherwise_22 : decode cX8_otherwise 22 = .ok (.lconst 0, 1) := dk_9 (dk_at dksX8_otherwise_0 22 rfl rfl)
theorem dX8_otherwise_23 : decode cX8_otherwise 23 = .ok (.iload_n 2, 1) := dk_28 (dk_at dksX8_otherwise_0 23 rfl rfl)
theorem dX8_otherwise_24 : decode cX8_otherwise 24 = .ok (.iconst 1, 1) := dk_4 (dk_at dksX8_otherwise_1 0 rfl rfl)
theorem dX8_otherwise_25 : decode cX8_otherwise 25 = .ok (.isub, 1) := dk_100 (dk_at dksX8_otherwise_1 1 rfl rfl)
theorem dX8_otherwise_26 : decode cX8_otherwise 26 = .ok (.i2l, 1) := dk_133 (dk_at dksX8_otherwise_1 2 rfl rfl)
theorem dX8_otherwise_27 : decode cX8_otherwise 27 = .ok (.invokestatic 86, 3) := dk_184 0 86 (dk_at dksX8_otherwise_1 3 rfl rfl)
theorem dX8_otherwise_30 : decode cX8_otherwise 30 = .ok (.ifCond .ne 6, 3) := dk_154 0 6 (dk_at dksX8_otherwise_1 6 rfl rfl)
theorem dX8_otherwise_33 : decode cX8_otherwise 33 = .ok (.bipush (-2), 2) := dk_16 254 (dk_at dksX8_otherwise_1 9 rfl rfl)
theorem dX8_otherwise_35 : decode cX8_otherwise 35 = .ok (.ireturn, 1) := dk_172 (dk_at dksX8_otherwise_1 11 rfl rfl)
theorem dX8_otherwise_36 : decode cX8_otherwise 36 = .ok (.aload_n 0, 1) := dk_42 (dk_at dksX8_otherwise_1 12 rfl rfl)
theorem dX8_otherwise_37 : decode cX8_otherwise 37 = .ok (.invokevirtual 378, 3) := dk_182 1 122 (dk_at dksX8_otherwise_1 13 rfl rfl)
theorem dX8_otherwise_40 : decode cX8_otherwise 40 = .ok (.iconst 0, 1) := dk_3 (dk_at dksX8_otherwise_1 16 rfl rfl)
theorem dX8_otherwise_41 : decode cX8_otherwise 41 = .ok (.istore 4, 2) := dk_54 4 (dk_at dksX8_otherwise_1 17 rfl rfl)
theorem dX8_otherwise_43 : decode cX8_otherwise 43 = .ok (.iload 4, 2) := dk_21 4 (dk_at dksX8_otherwise_1 19 rfl rfl)
theorem dX8_otherwise_45 : decode cX8_otherwise 45 = .ok (.iload_n 2, 1) := dk_28 (dk_at dksX8_otherwise_1 21 rfl rfl)
theorem dX8_otherwise_46 : decode cX8_otherwise 46 = .ok (.if_icmp .ge 60, 3) := dk_162 0 60 (dk_at dksX8_otherwise_2 0 rfl rfl)
theorem dX8_otherwise_49 : decode cX8_otherwise 49 = .ok (.iconst 0, 1) := dk_3 (dk_at dksX8_otherwise_2 3 rfl rfl)
theorem dX8_otherwise_50 : decode cX8_otherwise 50 = .ok (.istore 5, 2) := dk_54 5 (dk_at dksX8_otherwise_2 4 rfl rfl)
theorem dX8_otherwise_52 : decode cX8_otherwise 52 = .ok (.iload 5, 2) := dk_21 5 (dk_at dksX8_otherwise_2 6 rfl rfl)
theorem dX8_otherwise_54 : decode cX8_otherwise 54 = .ok (.aload_n 0, 1) := dk_42 (dk_at dksX8_otherwise_2 8 rfl rfl)
theorem dX8_otherwise_55 : decode cX8_otherwise 55 = .ok (.getfield 83, 3) := dk_180 0 83 (dk_at dksX8_otherwise_2 9 rfl rfl)
theorem dX8_otherwise_58 : decode cX8_otherwise 58 = .ok (.if_icmp .ge 32, 3) := dk_162 0 32 (dk_at dksX8_otherwise_2 12 rfl rfl)
theorem dX8_otherwise_61 : decode cX8_otherwise 61 = .ok (.aload_n 0, 1) := dk_42 (dk_at dksX8_otherwise_2 15 rfl rfl)
theorem dX8_otherwise_62 : decode cX8_otherwise 62 = .ok (.iload 5, 2) := dk_21 5 (dk_at dksX8_otherwise_2 16 rfl rfl)
theorem dX8_otherwise_64 : decode cX8_otherwise 64 = .ok (.iload 5, 2) := dk_21 5 (dk_at dksX8_otherwise_2 18 rfl rfl)
theorem dX8_otherwise_66 : decode cX8_otherwise 66 = .ok (.iload_n 1, 1) := dk_27 (dk_at dksX8_otherwise_2 20 rfl rfl)
theorem dX8_otherwise_67 : decode cX8_otherwise 67 = .ok (.if_icmp .ne 13, 3) := dk_160 0 13 (dk_at dksX8_otherwise_2 21 rfl rfl)
theorem dX8_otherwise_70 : decode cX8_otherwise 70 = .ok (.iload 4, 2) := dk_21 4 (dk_at dksX8_otherwise_3 0 rfl rfl)
theorem dX8_otherwise_72 : decode cX8_otherwise 72 = .ok (.iload_n 3, 1) := dk_29 (dk_at dksX8_otherwise_3 2 rfl rfl)
theorem dX8_otherwise_73 : decode cX8_otherwise 73 = .ok (.if_icmp .ne 7, 3) := dk_160 0 7 (dk_at dksX8_otherwise_3 3 rfl rfl)
theorem dX8_otherwise_76 : decode cX8_otherwise 76 = .ok (.iconst 1, 1) := dk_4 (dk_at dksX8_otherwise_3 6 rfl rfl)
theorem dX8_otherwise_77 : decode cX8_otherwise 77 = .ok (.goto 4, 3) := dk_167 0 4 (dk_at dksX8_otherwise_3 7 rfl rfl)
theorem dX8_otherwise_80 : decode cX8_otherwise 80 = .ok (.iconst 0, 1) := dk_3 (dk_at dksX8_otherwise_3 10 rfl rfl)
theorem dX8_otherwise_81 : decode cX8_otherwise 81 = .ok (.invokevirtual 364, 3) := dk_182 1 108 (dk_at dksX8_otherwise_3 11 rfl rfl)
theorem dX8_otherwise_84 : decode cX8_otherwise 84 = .ok (.iinc 5 1, 3) := dk_132 5 1 (dk_at dksX8_otherwise_3 14 rfl rfl)
theorem dX8_otherwise_87 : decode cX8_otherwise 87 = .ok (.goto (-35), 3) := dk_167 255 221 (dk_at dksX8_otherwise_3 17 rfl rfl)
theorem dX8_otherwise_90 : decode cX8_otherwise 90 = .ok (.aload_n 0, 1) := dk_42 (dk_at dksX8_otherwise_3 20 rfl rfl)
theorem dX8_otherwise_91 : decode cX8_otherwise 91 = .ok (.dup, 1) := dk_89 (dk_at dksX8_otherwise_3 21 rfl rfl)
theorem dX8_otherwise_92 : decode cX8_otherwise 92 = .ok (.getfield 124, 3) := dk_180 0 124 (dk_at dksX8_otherwise_4 0 rfl rfl)
theorem dX8_otherwise_95 : decode cX8_otherwise 95 = .ok (.iconst 1, 1) := dk_4 (dk_at dksX8_otherwise_4 3 rfl rfl)
theorem dX8_otherwise_96 : decode cX8_otherwise 96 = .ok (.iadd, 1) := dk_96 (dk_at dksX8_otherwise_4 4 rfl rfl)
theorem dX8_otherwise_97 : decode cX8_otherwise 97 = .ok (.putfield 124, 3) := dk_181 0 124 (dk_at dksX8_otherwise_4 5 rfl rfl)
theorem dX8_otherwise_100 : decode cX8_otherwise 100 = .ok (.iinc 4 1, 3) := dk_132 4 1 (dk_at dksX8_otherwise_4 8 rfl rfl)
theorem dX8_otherwise_103 : decode cX8_otherwise 103 = .ok (.goto (-60), 3) := dk_167 255 196 (dk_at dksX8_otherwise_4 11 rfl rfl)
theorem dX8_otherwise_106 : decode cX8_otherwise 106 = .ok (.aload_n 0, 1) := dk_42 (dk_at dksX8_otherwise_4 14 rfl rfl)
theorem dX8_otherwise_107 : decode cX8_otherwise 107 = .ok (.iload_n 1, 1) := dk_27 (dk_at dksX8_otherwise_4 15 rfl rfl)
theorem dX8_otherwise_108 : decode cX8_otherwise 108 = .ok (.invokevirtual 351, 3) := dk_182 1 95 (dk_at dksX8_otherwise_4 16 rfl rfl)
theorem dX8_otherwise_111 : decode cX8_otherwise 111 = .ok (.istore 4, 2) := dk_54 4 (dk_at dksX8_otherwise_4 19 rfl rfl)
theorem dX8_otherwise_113 : decode cX8_otherwise 113 = .ok (.aload_n 0, 1) := dk_42 (dk_at dksX8_otherwise_4 21 rfl rfl)
theorem dX8_otherwise_114 : decode cX8_otherwise 114 = .ok (.invokevirtual 381, 3) := dk_182 1 125 (dk_at dksX8_otherwise_5 0 rfl rfl)
theorem dX8_otherwise_117 : decode cX8_otherwise 117 = .ok (.iload 4, 2) := dk_21 4 (dk_at dksX8_otherwise_5 3 rfl rfl)
theorem dX8_otherwise_119 : decode cX8_otherwise 119 = .ok (.ireturn, 1) := dk_172 (dk_at dksX8_otherwise_5 5 rfl rfl)
abbrev cX8_turns : ByteArray := prog_16_method_81_code
def yX8_turns : MethodName := ⟨RX8, "turns", "(III)J"⟩
def dkwX8_turns_1 : List UInt8 := [153, 0, 13, 42, 27, 28, 29, 182, 1, 132, 167, 0, 6, 20, 1, 136, 173]
abbrev dktX8_turns_1 : List UInt8 := dkwX8_turns_1 ++ []
def dkwX8_turns_0 : List UInt8 := [27, 184, 0, 98, 153, 0, 32, 28, 184, 0, 98, 153, 0, 25, 29, 133, 9, 20, 1, 130, 184, 0, 86]
abbrev dktX8_turns_0 : List UInt8 := dkwX8_turns_0 ++ dktX8_turns_1
theorem dksX8_turns_0 : cX8_turns.data.toList.drop 0 = dktX8_turns_0 := by decide +kernel
theorem dksX8_turns_1 : cX8_turns.data.toList.drop 23 = dktX8_turns_1 := dk_seg dksX8_turns_0 23 rfl rfl
theorem dX8_turns_0 : decode cX8_turns 0 = .ok (.iload_n 1, 1) := dk_27 (dk_at dksX8_turns_0 0 rfl rfl)
theorem dX8_turns_1 : decode cX8_turns 1 = .ok (.invokestatic 98, 3) := dk_184 0 98 (dk_at dksX8_turns_0 1 rfl rfl)
theorem dX8_turns_4 : decode cX8_turns 4 = .ok (.ifCond .eq 32, 3) := dk_153 0 32 (dk_at dksX8_turns_0 4 rfl rfl)
theorem dX8_turns_7 : decode cX8_turns 7 = .ok (.iload_n 2, 1) := dk_28 (dk_at dksX8_turns_0 7 rfl rfl)
theorem dX8_turns_8 : decode cX8_turns 8 = .ok (.invokestatic 98, 3) := dk_184 0 98 (dk_at dksX8_turns_0 8 rfl rfl)
theorem dX8_turns_11 : decode cX8_turns 11 = .ok (.ifCond .eq 25, 3) := dk_153 0 25 (dk_at dksX8_turns_0 11 rfl rfl)
theorem dX8_turns_14 : decode cX8_turns 14 = .ok (.iload_n 3, 1) := dk_29 (dk_at dksX8_turns_0 14 rfl rfl)
theorem dX8_turns_15 : decode cX8_turns 15 = .ok (.i2l, 1) := dk_133 (dk_at dksX8_turns_0 15 rfl rfl)
theorem dX8_turns_16 : decode cX8_turns 16 = .ok (.lconst 0, 1) := dk_9 (dk_at dksX8_turns_0 16 rfl rfl)
theorem dX8_turns_17 : decode cX8_turns 17 = .ok (.ldc2_w 386, 3) := dk_20 1 130 (dk_at dksX8_turns_0 17 rfl rfl)
theorem dX8_turns_20 : decode cX8_turns 20 = .ok (.invokestatic 86, 3) := dk_184 0 86 (dk_at dksX8_turns_0 20 rfl rfl)
theorem dX8_turns_23 : decode cX8_turns 23 = .ok (.ifCond .eq 13, 3) := dk_153 0 13 (dk_at dksX8_turns_1 0 rfl rfl)
theorem dX8_turns_26 : decode cX8_turns 26 = .ok (.aload_n 0, 1) := dk_42 (dk_at dksX8_turns_1 3 rfl rfl)
theorem dX8_turns_27 : decode cX8_turns 27 = .ok (.iload_n 1, 1) := dk_27 (dk_at dksX8_turns_1 4 rfl rfl)
theorem dX8_turns_28 : decode cX8_turns 28 = .ok (.iload_n 2, 1) := dk_28 (dk_at dksX8_turns_1 5 rfl rfl)
theorem dX8_turns_29 : decode cX8_turns 29 = .ok (.iload_n 3, 1) := dk_29 (dk_at dksX8_turns_1 6 rfl rfl)
theorem dX8_turns_30 : decode cX8_turns 30 = .ok (.invokevirtual 388, 3) := dk_182 1 132 (dk_at dksX8_turns_1 7 rfl rfl)
theorem dX8_turns_33 : decode cX8_turns 33 = .ok (.goto 6, 3) := dk_167 0 6 (dk_at dksX8_turns_1 10 rfl rfl)
theorem dX8_turns_36 : decode cX8_turns 36 = .ok (.ldc2_w 392, 3) := dk_20 1 136 (dk_at dksX8_turns_1 13 rfl rfl)
theorem dX8_turns_39 : decode cX8_turns 39 = .ok (.lreturn, 1) := dk_173 (dk_at dksX8_turns_1 16 rfl rfl)
abbrev cX8_waysTo : ByteArray := prog_16_method_80_code
def yX8_waysTo : MethodName := ⟨RX8, "waysTo", "(III)J"⟩
def dkwX8_waysTo_6 : List UInt8 := [167, 255, 153, 42, 180, 0, 35, 28, 47, 173]
abbrev dktX8_waysTo_6 : List UInt8 := dkwX8_waysTo_6 ++ []
def dkwX8_waysTo_5 : List UInt8 := [180, 0, 35, 21, 5, 42, 180, 0, 39, 21, 5, 47, 80, 132, 5, 1, 167, 255, 232, 132, 4, 1]
abbrev dktX8_waysTo_5 : List UInt8 := dkwX8_waysTo_5 ++ dktX8_waysTo_6
def dkwX8_waysTo_4 : List UInt8 := [21, 5, 5, 108, 47, 97, 80, 132, 5, 1, 167, 255, 222, 3, 54, 5, 21, 5, 16, 12, 162, 0, 23, 42]
abbrev dktX8_waysTo_4 : List UInt8 := dkwX8_waysTo_4 ++ dktX8_waysTo_5
def dkwX8_waysTo_3 : List UInt8 := [21, 5, 16, 24, 162, 0, 33, 42, 180, 0, 39, 42, 180, 0, 23, 21, 5, 46, 92, 47, 42, 180, 0, 35]
abbrev dktX8_waysTo_3 : List UInt8 := dkwX8_waysTo_3 ++ dktX8_waysTo_4
def dkwX8_waysTo_2 : List UInt8 := [21, 5, 16, 12, 162, 0, 17, 42, 180, 0, 39, 21, 5, 9, 80, 132, 5, 1, 167, 255, 238, 3, 54, 5]
abbrev dktX8_waysTo_2 : List UInt8 := dkwX8_waysTo_2 ++ dktX8_waysTo_3
def dkwX8_waysTo_1 : List UInt8 := [167, 0, 4, 9, 80, 132, 4, 1, 167, 255, 228, 3, 54, 4, 21, 4, 29, 162, 0, 103, 3, 54, 5]
abbrev dktX8_waysTo_1 : List UInt8 := dkwX8_waysTo_1 ++ dktX8_waysTo_2
def dkwX8_waysTo_0 : List UInt8 := [3, 54, 4, 21, 4, 16, 12, 162, 0, 27, 42, 180, 0, 35, 21, 4, 21, 4, 27, 160, 0, 7, 10]
abbrev dktX8_waysTo_0 : List UInt8 := dkwX8_waysTo_0 ++ dktX8_waysTo_1
theorem dksX8_waysTo_0 : cX8_waysTo.data.toList.drop 0 = dktX8_waysTo_0 := by decide +kernel
theorem dksX8_waysTo_1 : cX8_waysTo.data.toList.drop 23 = dktX8_waysTo_1 := dk_seg dksX8_waysTo_0 23 rfl rfl
theorem dksX8_waysTo_2 : cX8_waysTo.data.toList.drop 46 = dktX8_waysTo_2 := dk_seg dksX8_waysTo_1 23 rfl rfl
theorem dksX8_waysTo_3 : cX8_waysTo.data.toList.drop 70 = dktX8_waysTo_3 := dk_seg dksX8_waysTo_2 24 rfl rfl
theorem dksX8_waysTo_4 : cX8_waysTo.data.toList.drop 94 = dktX8_waysTo_4 := dk_seg dksX8_waysTo_3 24 rfl rfl
theorem dksX8_waysTo_5 : cX8_waysTo.data.toList.drop 118 = dktX8_waysTo_5 := dk_seg dksX8_waysTo_4 24 rfl rfl
theorem dksX8_waysTo_6 : cX8_waysTo.data.toList.drop 140 = dktX8_waysTo_6 := dk_seg dksX8_waysTo_5 22 rfl rfl
theorem dX8_waysTo_0 : decode cX8_waysTo 0 = .ok (.iconst 0, 1) := dk_3 (dk_at dksX8_waysTo_0 0 rfl rfl)
theorem dX8_waysTo_1 : decode cX8_waysTo 1 = .ok (.istore 4, 2) := dk_54 4 (dk_at dksX8_waysTo_0 1 rfl rfl)
theorem dX8_waysTo_3 : decode cX8_waysTo 3 = .ok (.iload 4, 2) := dk_21 4 (dk_at dksX8_waysTo_0 3 rfl rfl)
theorem dX8_waysTo_5 : decode cX8_waysTo 5 = .ok (.bipush 12, 2) := dk_16 12 (dk_at dksX8_waysTo_0 5 rfl rfl)
theorem dX8_waysTo_7 : decode cX8_waysTo 7 = .ok (.if_icmp .ge 27, 3) := dk_162 0 27 (dk_at dksX8_waysTo_0 7 rfl rfl)
theorem dX8_waysTo_10 : decode cX8_waysTo 10 = .ok (.aload_n 0, 1) := dk_42 (dk_at dksX8_waysTo_0 10 rfl rfl)
theorem dX8_waysTo_11 : decode cX8_waysTo 11 = .ok (.getfield 35, 3) := dk_180 0 35 (dk_at dksX8_waysTo_0 11 rfl rfl)
theorem dX8_waysTo_14 : decode cX8_waysTo 14 = .ok (.iload 4, 2) := dk_21 4 (dk_at dksX8_waysTo_0 14 rfl rfl)
theorem dX8_waysTo_16 : decode cX8_waysTo 16 = .ok (.iload 4, 2) := dk_21 4 (dk_at dksX8_waysTo_0 16 rfl rfl)
theorem dX8_waysTo_18 : decode cX8_waysTo 18 = .ok (.iload_n 1, 1) := dk_27 (dk_at dksX8_waysTo_0 18 rfl rfl)
theorem dX8_waysTo_19 : decode cX8_waysTo 19 = .ok (.if_icmp .ne 7, 3) := dk_160 0 7 (dk_at dksX8_waysTo_0 19 rfl rfl)
theorem dX8_waysTo_22 : decode cX8_waysTo 22 = .ok (.lconst 1, 1) := dk_10 (dk_at dksX8_waysTo_0 22 rfl rfl)
theorem dX8_waysTo_23 : decode cX8_waysTo 23 = .ok (.goto 4, 3) := dk_167 0 4 (dk_at dksX8_waysTo_1 0 rfl rfl)
theorem dX8_waysTo_26 : decode cX8_waysTo 26 = .ok (.lconst 0, 1) := dk_9 (dk_at dksX8_waysTo_1 3 rfl rfl)
theorem dX8_waysTo_27 : decode cX8_waysTo 27 = .ok (.lastore, 1) := dk_80 (dk_at dksX8_waysTo_1 4 rfl rfl)
theorem dX8_waysTo_28 : decode cX8_waysTo 28 = .ok (.iinc 4 1, 3) := dk_132 4 1 (dk_at dksX8_waysTo_1 5 rfl rfl)
theorem dX8_waysTo_31 : decode cX8_waysTo 31 = .ok (.goto (-28), 3) := dk_167 255 228 (dk_at dksX8_waysTo_1 8 rfl rfl)
theorem dX8_waysTo_34 : decode cX8_waysTo 34 = .ok (.iconst 0, 1) := dk_3 (dk_at dksX8_waysTo_1 11 rfl rfl)
theorem dX8_waysTo_35 : decode cX8_waysTo 35 = .ok (.istore 4, 2) := dk_54 4 (dk_at dksX8_waysTo_1 12 rfl rfl)
theorem dX8_waysTo_37 : decode cX8_waysTo 37 = .ok (.iload 4, 2) := dk_21 4 (dk_at dksX8_waysTo_1 14 rfl rfl)
theorem dX8_waysTo_39 : decode cX8_waysTo 39 = .ok (.iload_n 3, 1) := dk_29 (dk_at dksX8_waysTo_1 16 rfl rfl)
theorem dX8_waysTo_40 : decode cX8_waysTo 40 = .ok (.if_icmp .ge 103, 3) := dk_162 0 103 (dk_at dksX8_waysTo_1 17 rfl rfl)
theorem dX8_waysTo_43 : decode cX8_waysTo 43 = .ok (.iconst 0, 1) := dk_3 (dk_at dksX8_waysTo_1 20 rfl rfl)
theorem dX8_waysTo_44 : decode cX8_waysTo 44 = .ok (.istore 5, 2) := dk_54 5 (dk_at dksX8_waysTo_1 21 rfl rfl)
theorem dX8_waysTo_46 : decode cX8_waysTo 46 = .ok (.iload 5, 2) := dk_21 5 (dk_at dksX8_waysTo_2 0 rfl rfl)
theorem dX8_waysTo_48 : decode cX8_waysTo 48 = .ok (.bipush 12, 2) := dk_16 12 (dk_at dksX8_waysTo_2 2 rfl rfl)
theorem dX8_waysTo_50 : decode cX8_waysTo 50 = .ok (.if_icmp .ge 17, 3) := dk_162 0 17 (dk_at dksX8_waysTo_2 4 rfl rfl)
theorem dX8_waysTo_53 : decode cX8_waysTo 53 = .ok (.aload_n 0, 1) := dk_42 (dk_at dksX8_waysTo_2 7 rfl rfl)
theorem dX8_waysTo_54 : decode cX8_waysTo 54 = .ok (.getfield 39, 3) := dk_180 0 39 (dk_at dksX8_waysTo_2 8 rfl rfl)
theorem dX8_waysTo_57 : decode cX8_waysTo 57 = .ok (.iload 5, 2) := dk_21 5 (dk_at dksX8_waysTo_2 11 rfl rfl)
theorem dX8_waysTo_59 : decode cX8_waysTo 59 = .ok (.lconst 0, 1) := dk_9 (dk_at dksX8_waysTo_2 13 rfl rfl)
theorem dX8_waysTo_60 : decode cX8_waysTo 60 = .ok (.lastore, 1) := dk_80 (dk_at dksX8_waysTo_2 14 rfl rfl)
theorem dX8_waysTo_61 : decode cX8_waysTo 61 = .ok (.iinc 5 1, 3) := dk_132 5 1 (dk_at dksX8_waysTo_2 15 rfl rfl)
theorem dX8_waysTo_64 : decode cX8_waysTo 64 = .ok (.goto (-18), 3) := dk_167 255 238 (dk_at dksX8_waysTo_2 18 rfl rfl)
theorem dX8_waysTo_67 : decode cX8_waysTo 67 = .ok (.iconst 0, 1) := dk_3 (dk_at dksX8_waysTo_2 21 rfl rfl)
theorem dX8_waysTo_68 : decode cX8_waysTo 68 = .ok (.istore 5, 2) := dk_54 5 (dk_at dksX8_waysTo_2 22 rfl rfl)
theorem dX8_waysTo_70 : decode cX8_waysTo 70 = .ok (.iload 5, 2) := dk_21 5 (dk_at dksX8_waysTo_3 0 rfl rfl)
theorem dX8_waysTo_72 : decode cX8_waysTo 72 = .ok (.bipush 24, 2) := dk_16 24 (dk_at dksX8_waysTo_3 2 rfl rfl)
theorem dX8_waysTo_74 : decode cX8_waysTo 74 = .ok (.if_icmp .ge 33, 3) := dk_162 0 33 (dk_at dksX8_waysTo_3 4 rfl rfl)
theorem dX8_waysTo_77 : decode cX8_waysTo 77 = .ok (.aload_n 0, 1) := dk_42 (dk_at dksX8_waysTo_3 7 rfl rfl)
theorem dX8_waysTo_78 : decode cX8_waysTo 78 = .ok (.getfield 39, 3) := dk_180 0 39 (dk_at dksX8_waysTo_3 8 rfl rfl)
theorem dX8_waysTo_81 : decode cX8_waysTo 81 = .ok (.aload_n 0, 1) := dk_42 (dk_at dksX8_waysTo_3 11 rfl rfl)
theorem dX8_waysTo_82 : decode cX8_waysTo 82 = .ok (.getfield 23, 3) := dk_180 0 23 (dk_at dksX8_waysTo_3 12 rfl rfl)
theorem dX8_waysTo_85 : decode cX8_waysTo 85 = .ok (.iload 5, 2) := dk_21 5 (dk_at dksX8_waysTo_3 15 rfl rfl)
theorem dX8_waysTo_87 : decode cX8_waysTo 87 = .ok (.iaload, 1) := dk_46 (dk_at dksX8_waysTo_3 17 rfl rfl)
theorem dX8_waysTo_88 : decode cX8_waysTo 88 = .ok (.dup2, 1) := dk_92 (dk_at dksX8_waysTo_3 18 rfl rfl)
theorem dX8_waysTo_89 : decode cX8_waysTo 89 = .ok (.laload, 1) := dk_47 (dk_at dksX8_waysTo_3 19 rfl rfl)
theorem dX8_waysTo_90 : decode cX8_waysTo 90 = .ok (.aload_n 0, 1) := dk_42 (dk_at dksX8_waysTo_3 20 rfl rfl)
theorem dX8_waysTo_91 : decode cX8_waysTo 91 = .ok (.getfield 35, 3) := dk_180 0 35 (dk_at dksX8_waysTo_3 21 rfl rfl)
theorem dX8_waysTo_94 : decode cX8_waysTo 94 = .ok (.iload 5, 2) := dk_21 5 (dk_at dksX8_waysTo_4 0 rfl rfl)
theorem dX8_waysTo_96 : decode cX8_waysTo 96 = .ok (.iconst 2, 1) := dk_5 (dk_at dksX8_waysTo_4 2 rfl rfl)
theorem dX8_waysTo_97 : decode cX8_waysTo 97 = .ok (.idiv, 1) := dk_108 (dk_at dksX8_waysTo_4 3 rfl rfl)
theorem dX8_waysTo_98 : decode cX8_waysTo 98 = .ok (.laload, 1) := dk_47 (dk_at dksX8_waysTo_4 4 rfl rfl)
theorem dX8_waysTo_99 : decode cX8_waysTo 99 = .ok (.ladd, 1) := dk_97 (dk_at dksX8_waysTo_4 5 rfl rfl)
theorem dX8_waysTo_100 : decode cX8_waysTo 100 = .ok (.lastore, 1) := dk_80 (dk_at dksX8_waysTo_4 6 rfl rfl)
theorem dX8_waysTo_101 : decode cX8_waysTo 101 = .ok (.iinc 5 1, 3) := dk_132 5 1 (dk_at dksX8_waysTo_4 7 rfl rfl)
theorem dX8_waysTo_104 : decode cX8_waysTo 104 = .ok (.goto (-34), 3) := dk_167 255 222 (dk_at dksX8_waysTo_4 10 rfl rfl)
theorem dX8_waysTo_107 : decode cX8_waysTo 107 = .ok (.iconst 0, 1) := dk_3 (dk_at dksX8_waysTo_4 13 rfl rfl)
theorem dX8_waysTo_108 : decode cX8_waysTo 108 = .ok (.istore 5, 2) := dk_54 5 (dk_at dksX8_waysTo_4 14 rfl rfl)
theorem dX8_waysTo_110 : decode cX8_waysTo 110 = .ok (.iload 5, 2) := dk_21 5 (dk_at dksX8_waysTo_4 16 rfl rfl)
theorem dX8_waysTo_112 : decode cX8_waysTo 112 = .ok (.bipush 12, 2) := dk_16 12 (dk_at dksX8_waysTo_4 18 rfl rfl)
theorem dX8_waysTo_114 : decode cX8_waysTo 114 = .ok (.if_icmp .ge 23, 3) := dk_162 0 23 (dk_at dksX8_waysTo_4 20 rfl rfl)
theorem dX8_waysTo_117 : decode cX8_waysTo 117 = .ok (.aload_n 0, 1) := dk_42 (dk_at dksX8_waysTo_4 23 rfl rfl)
theorem dX8_waysTo_118 : decode cX8_waysTo 118 = .ok (.getfield 35, 3) := dk_180 0 35 (dk_at dksX8_waysTo_5 0 rfl rfl)
theorem dX8_waysTo_121 : decode cX8_waysTo 121 = .ok (.iload 5, 2) := dk_21 5 (dk_at dksX8_waysTo_5 3 rfl rfl)
theorem dX8_waysTo_123 : decode cX8_waysTo 123 = .ok (.aload_n 0, 1) := dk_42 (dk_at dksX8_waysTo_5 5 rfl rfl)
theorem dX8_waysTo_124 : decode cX8_waysTo 124 = .ok (.getfield 39, 3) := dk_180 0 39 (dk_at dksX8_waysTo_5 6 rfl rfl)
theorem dX8_waysTo_127 : decode cX8_waysTo 127 = .ok (.iload 5, 2) := dk_21 5 (dk_at dksX8_waysTo_5 9 rfl rfl)
theorem dX8_waysTo_129 : decode cX8_waysTo 129 = .ok (.laload, 1) := dk_47 (dk_at dksX8_waysTo_5 11 rfl rfl)
theorem dX8_waysTo_130 : decode cX8_waysTo 130 = .ok (.lastore, 1) := dk_80 (dk_at dksX8_waysTo_5 12 rfl rfl)
theorem dX8_waysTo_131 : decode cX8_waysTo 131 = .ok (.iinc 5 1, 3) := dk_132 5 1 (dk_at dksX8_waysTo_5 13 rfl rfl)
theorem dX8_waysTo_134 : decode cX8_waysTo 134 = .ok (.goto (-24), 3) := dk_167 255 232 (dk_at dksX8_waysTo_5 16 rfl rfl)
theorem dX8_waysTo_137 : decode cX8_waysTo 137 = .ok (.iinc 4 1, 3) := dk_132 4 1 (dk_at dksX8_waysTo_5 19 rfl rfl)
theorem dX8_waysTo_140 : decode cX8_waysTo 140 = .ok (.goto (-103), 3) := dk_167 255 153 (dk_at dksX8_waysTo_6 0 rfl rfl)
theorem dX8_waysTo_143 : decode cX8_waysTo 143 = .ok (.aload_n 0, 1) := dk_42 (dk_at dksX8_waysTo_6 3 rfl rfl)
theorem dX8_waysTo_144 : decode cX8_waysTo 144 = .ok (.getfield 35, 3) := dk_180 0 35 (dk_at dksX8_waysTo_6 4 rfl rfl)
theorem dX8_waysTo_147 : decode cX8_waysTo 147 = .ok (.iload_n 2, 1) := dk_28 (dk_at dksX8_waysTo_6 7 rfl rfl)
theorem dX8_waysTo_148 : decode cX8_waysTo 148 = .ok (.laload, 1) := dk_47 (dk_at dksX8_waysTo_6 8 rfl rfl)
theorem dX8_waysTo_149 : decode cX8_waysTo 149 = .ok (.lreturn, 1) := dk_173 (dk_at dksX8_waysTo_6 9 rfl rfl)
abbrev cX8_likely : ByteArray := prog_16_method_83_code
def yX8_likely : MethodName := ⟨RX8, "likely", "(IIII)J"⟩
def dkwX8_likely_2 : List UInt8 := [182, 1, 132, 10, 29, 121, 21, 4, 184, 1, 138, 173]
abbrev dktX8_likely_2 : List UInt8 := dkwX8_likely_2 ++ []
def dkwX8_likely_1 : List UInt8 := [153, 0, 14, 21, 4, 133, 9, 10, 184, 0, 86, 154, 0, 7, 20, 1, 136, 173, 42, 27, 28, 29]
abbrev dktX8_likely_1 : List UInt8 := dkwX8_likely_1 ++ dktX8_likely_2
def dkwX8_likely_0 : List UInt8 := [27, 184, 0, 98, 153, 0, 33, 28, 184, 0, 98, 153, 0, 26, 29, 133, 9, 20, 1, 130, 184, 0, 86]
abbrev dktX8_likely_0 : List UInt8 := dkwX8_likely_0 ++ dktX8_likely_1
theorem dksX8_likely_0 : cX8_likely.data.toList.drop 0 = dktX8_likely_0 := by decide +kernel
theorem dksX8_likely_1 : cX8_likely.data.toList.drop 23 = dktX8_likely_1 := dk_seg dksX8_likely_0 23 rfl rfl
theorem dksX8_likely_2 : cX8_likely.data.toList.drop 45 = dktX8_likely_2 := dk_seg dksX8_likely_1 22 rfl rfl
theorem dX8_likely_0 : decode cX8_likely 0 = .ok (.iload_n 1, 1) := dk_27 (dk_at dksX8_likely_0 0 rfl rfl)
theorem dX8_likely_1 : decode cX8_likely 1 = .ok (.invokestatic 98, 3) := dk_184 0 98 (dk_at dksX8_likely_0 1 rfl rfl)
theorem dX8_likely_4 : decode cX8_likely 4 = .ok (.ifCond .eq 33, 3) := dk_153 0 33 (dk_at dksX8_likely_0 4 rfl rfl)
theorem dX8_likely_7 : decode cX8_likely 7 = .ok (.iload_n 2, 1) := dk_28 (dk_at dksX8_likely_0 7 rfl rfl)
theorem dX8_likely_8 : decode cX8_likely 8 = .ok (.invokestatic 98, 3) := dk_184 0 98 (dk_at dksX8_likely_0 8 rfl rfl)
theorem dX8_likely_11 : decode cX8_likely 11 = .ok (.ifCond .eq 26, 3) := dk_153 0 26 (dk_at dksX8_likely_0 11 rfl rfl)
theorem dX8_likely_14 : decode cX8_likely 14 = .ok (.iload_n 3, 1) := dk_29 (dk_at dksX8_likely_0 14 rfl rfl)
theorem dX8_likely_15 : decode cX8_likely 15 = .ok (.i2l, 1) := dk_133 (dk_at dksX8_likely_0 15 rfl rfl)
theorem dX8_likely_16 : decode cX8_likely 16 = .ok (.lconst 0, 1) := dk_9 (dk_at dksX8_likely_0 16 rfl rfl)
theorem dX8_likely_17 : decode cX8_likely 17 = .ok (.ldc2_w 386, 3) := dk_20 1 130 (dk_at dksX8_likely_0 17 rfl rfl)
theorem dX8_likely_20 : decode cX8_likely 20 = .ok (.invokestatic 86, 3) := dk_184 0 86 (dk_at dksX8_likely_0 20 rfl rfl)
theorem dX8_likely_23 : decode cX8_likely 23 = .ok (.ifCond .eq 14, 3) := dk_153 0 14 (dk_at dksX8_likely_1 0 rfl rfl)
theorem dX8_likely_26 : decode cX8_likely 26 = .ok (.iload 4, 2) := dk_21 4 (dk_at dksX8_likely_1 3 rfl rfl)
theorem dX8_likely_28 : decode cX8_likely 28 = .ok (.i2l, 1) := dk_133 (dk_at dksX8_likely_1 5 rfl rfl)
theorem dX8_likely_29 : decode cX8_likely 29 = .ok (.lconst 0, 1) := dk_9 (dk_at dksX8_likely_1 6 rfl rfl)
theorem dX8_likely_30 : decode cX8_likely 30 = .ok (.lconst 1, 1) := dk_10 (dk_at dksX8_likely_1 7 rfl rfl)
theorem dX8_likely_31 : decode cX8_likely 31 = .ok (.invokestatic 86, 3) := dk_184 0 86 (dk_at dksX8_likely_1 8 rfl rfl)
theorem dX8_likely_34 : decode cX8_likely 34 = .ok (.ifCond .ne 7, 3) := dk_154 0 7 (dk_at dksX8_likely_1 11 rfl rfl)
theorem dX8_likely_37 : decode cX8_likely 37 = .ok (.ldc2_w 392, 3) := dk_20 1 136 (dk_at dksX8_likely_1 14 rfl rfl)
theorem dX8_likely_40 : decode cX8_likely 40 = .ok (.lreturn, 1) := dk_173 (dk_at dksX8_likely_1 17 rfl rfl)
theorem dX8_likely_41 : decode cX8_likely 41 = .ok (.aload_n 0, 1) := dk_42 (dk_at dksX8_likely_1 18 rfl rfl)
theorem dX8_likely_42 : decode cX8_likely 42 = .ok (.iload_n 1, 1) := dk_27 (dk_at dksX8_likely_1 19 rfl rfl)
theorem dX8_likely_43 : decode cX8_likely 43 = .ok (.iload_n 2, 1) := dk_28 (dk_at dksX8_likely_1 20 rfl rfl)
theorem dX8_likely_44 : decode cX8_likely 44 = .ok (.iload_n 3, 1) := dk_29 (dk_at dksX8_likely_1 21 rfl rfl)
theorem dX8_likely_45 : decode cX8_likely 45 = .ok (.invokevirtual 388, 3) := dk_182 1 132 (dk_at dksX8_likely_2 0 rfl rfl)
theorem dX8_likely_48 : decode cX8_likely 48 = .ok (.lconst 1, 1) := dk_10 (dk_at dksX8_likely_2 3 rfl rfl)
theorem dX8_likely_49 : decode cX8_likely 49 = .ok (.iload_n 3, 1) := dk_29 (dk_at dksX8_likely_2 4 rfl rfl)
theorem dX8_likely_50 : decode cX8_likely 50 = .ok (.lshl, 1) := dk_121 (dk_at dksX8_likely_2 5 rfl rfl)
theorem dX8_likely_51 : decode cX8_likely 51 = .ok (.iload 4, 2) := dk_21 4 (dk_at dksX8_likely_2 6 rfl rfl)
theorem dX8_likely_53 : decode cX8_likely 53 = .ok (.invokestatic 394, 3) := dk_184 1 138 (dk_at dksX8_likely_2 8 rfl rfl)
theorem dX8_likely_56 : decode cX8_likely 56 = .ok (.lreturn, 1) := dk_173 (dk_at dksX8_likely_2 11 rfl rfl)
abbrev cX8_lowest : ByteArray := prog_16_method_82_code
def yX8_lowest : MethodName := ⟨RX8, "lowest", "(JJI)J"⟩
def dkwX8_lowest_1 : List UInt8 := [22, 9, 55, 7, 167, 255, 234, 21, 4, 154, 0, 10, 30, 22, 5, 109, 167, 0, 7, 32, 22, 5, 109, 173]
abbrev dktX8_lowest_1 : List UInt8 := dkwX8_lowest_1 ++ []
def dkwX8_lowest_0 : List UInt8 := [30, 55, 5, 32, 55, 7, 22, 7, 9, 148, 153, 0, 21, 22, 5, 22, 7, 113, 55, 9, 22, 7, 55, 5]
abbrev dktX8_lowest_0 : List UInt8 := dkwX8_lowest_0 ++ dktX8_lowest_1
theorem dksX8_lowest_0 : cX8_lowest.data.toList.drop 0 = dktX8_lowest_0 := by decide +kernel
theorem dksX8_lowest_1 : cX8_lowest.data.toList.drop 24 = dktX8_lowest_1 := dk_seg dksX8_lowest_0 24 rfl rfl
theorem dX8_lowest_0 : decode cX8_lowest 0 = .ok (.lload_n 0, 1) := dk_30 (dk_at dksX8_lowest_0 0 rfl rfl)
theorem dX8_lowest_1 : decode cX8_lowest 1 = .ok (.lstore 5, 2) := dk_55 5 (dk_at dksX8_lowest_0 1 rfl rfl)
theorem dX8_lowest_3 : decode cX8_lowest 3 = .ok (.lload_n 2, 1) := dk_32 (dk_at dksX8_lowest_0 3 rfl rfl)
theorem dX8_lowest_4 : decode cX8_lowest 4 = .ok (.lstore 7, 2) := dk_55 7 (dk_at dksX8_lowest_0 4 rfl rfl)
theorem dX8_lowest_6 : decode cX8_lowest 6 = .ok (.lload 7, 2) := dk_22 7 (dk_at dksX8_lowest_0 6 rfl rfl)
theorem dX8_lowest_8 : decode cX8_lowest 8 = .ok (.lconst 0, 1) := dk_9 (dk_at dksX8_lowest_0 8 rfl rfl)
theorem dX8_lowest_9 : decode cX8_lowest 9 = .ok (.lcmp, 1) := dk_148 (dk_at dksX8_lowest_0 9 rfl rfl)
theorem dX8_lowest_10 : decode cX8_lowest 10 = .ok (.ifCond .eq 21, 3) := dk_153 0 21 (dk_at dksX8_lowest_0 10 rfl rfl)
theorem dX8_lowest_13 : decode cX8_lowest 13 = .ok (.lload 5, 2) := dk_22 5 (dk_at dksX8_lowest_0 13 rfl rfl)
theorem dX8_lowest_15 : decode cX8_lowest 15 = .ok (.lload 7, 2) := dk_22 7 (dk_at dksX8_lowest_0 15 rfl rfl)
theorem dX8_lowest_17 : decode cX8_lowest 17 = .ok (.lrem, 1) := dk_113 (dk_at dksX8_lowest_0 17 rfl rfl)
theorem dX8_lowest_18 : decode cX8_lowest 18 = .ok (.lstore 9, 2) := dk_55 9 (dk_at dksX8_lowest_0 18 rfl rfl)
theorem dX8_lowest_20 : decode cX8_lowest 20 = .ok (.lload 7, 2) := dk_22 7 (dk_at dksX8_lowest_0 20 rfl rfl)
theorem dX8_lowest_22 : decode cX8_lowest 22 = .ok (.lstore 5, 2) := dk_55 5 (dk_at dksX8_lowest_0 22 rfl rfl)
theorem dX8_lowest_24 : decode cX8_lowest 24 = .ok (.lload 9, 2) := dk_22 9 (dk_at dksX8_lowest_1 0 rfl rfl)
theorem dX8_lowest_26 : decode cX8_lowest 26 = .ok (.lstore 7, 2) := dk_55 7 (dk_at dksX8_lowest_1 2 rfl rfl)
theorem dX8_lowest_28 : decode cX8_lowest 28 = .ok (.goto (-22), 3) := dk_167 255 234 (dk_at dksX8_lowest_1 4 rfl rfl)
theorem dX8_lowest_31 : decode cX8_lowest 31 = .ok (.iload 4, 2) := dk_21 4 (dk_at dksX8_lowest_1 7 rfl rfl)
theorem dX8_lowest_33 : decode cX8_lowest 33 = .ok (.ifCond .ne 10, 3) := dk_154 0 10 (dk_at dksX8_lowest_1 9 rfl rfl)
theorem dX8_lowest_36 : decode cX8_lowest 36 = .ok (.lload_n 0, 1) := dk_30 (dk_at dksX8_lowest_1 12 rfl rfl)
theorem dX8_lowest_37 : decode cX8_lowest 37 = .ok (.lload 5, 2) := dk_22 5 (dk_at dksX8_lowest_1 13 rfl rfl)
theorem dX8_lowest_39 : decode cX8_lowest 39 = .ok (.ldiv, 1) := dk_109 (dk_at dksX8_lowest_1 15 rfl rfl)
theorem dX8_lowest_40 : decode cX8_lowest 40 = .ok (.goto 7, 3) := dk_167 0 7 (dk_at dksX8_lowest_1 16 rfl rfl)
theorem dX8_lowest_43 : decode cX8_lowest 43 = .ok (.lload_n 2, 1) := dk_32 (dk_at dksX8_lowest_1 19 rfl rfl)
theorem dX8_lowest_44 : decode cX8_lowest 44 = .ok (.lload 5, 2) := dk_22 5 (dk_at dksX8_lowest_1 20 rfl rfl)
theorem dX8_lowest_46 : decode cX8_lowest 46 = .ok (.ldiv, 1) := dk_109 (dk_at dksX8_lowest_1 22 rfl rfl)
theorem dX8_lowest_47 : decode cX8_lowest 47 = .ok (.lreturn, 1) := dk_173 (dk_at dksX8_lowest_1 23 rfl rfl)
abbrev cX8_fewest : ByteArray := prog_16_method_84_code
def yX8_fewest : MethodName := ⟨RX8, "fewest", "(III)I"⟩
def dkwX8_fewest_12 : List UInt8 := [180, 0, 42, 28, 46, 172]
abbrev dktX8_fewest_12 : List UInt8 := dkwX8_fewest_12 ++ []
def dkwX8_fewest_11 : List UInt8 := [167, 255, 76, 42, 182, 1, 125, 42, 180, 0, 42, 28, 46, 17, 3, 232, 161, 0, 7, 2, 167, 0, 9, 42]
abbrev dktX8_fewest_11 : List UInt8 := dkwX8_fewest_11 ++ dktX8_fewest_12
def dkwX8_fewest_10 : List UInt8 := [21, 5, 46, 79, 132, 5, 1, 167, 255, 232, 42, 89, 180, 0, 124, 4, 96, 181, 0, 124, 132, 4, 1]
abbrev dktX8_fewest_10 : List UInt8 := dkwX8_fewest_10 ++ dktX8_fewest_11
def dkwX8_fewest_9 : List UInt8 := [167, 255, 157, 3, 54, 5, 21, 5, 16, 12, 162, 0, 23, 42, 180, 0, 42, 21, 5, 42, 180, 0, 45]
abbrev dktX8_fewest_9 : List UInt8 := dkwX8_fewest_9 ++ dktX8_fewest_10
def dkwX8_fewest_8 : List UInt8 := [162, 0, 8, 21, 6, 167, 0, 15, 42, 180, 0, 45, 42, 180, 0, 23, 21, 5, 46, 46, 79, 132, 5, 1]
abbrev dktX8_fewest_8 : List UInt8 := dkwX8_fewest_8 ++ dktX8_fewest_9
def dkwX8_fewest_7 : List UInt8 := [180, 0, 45, 42, 180, 0, 23, 21, 5, 46, 21, 6, 42, 180, 0, 45, 42, 180, 0, 23, 21, 5, 46, 46]
abbrev dktX8_fewest_7 : List UInt8 := dkwX8_fewest_7 ++ dktX8_fewest_8
def dkwX8_fewest_6 : List UInt8 := [108, 46, 42, 27, 182, 0, 136, 21, 5, 5, 112, 160, 0, 7, 3, 167, 0, 4, 4, 96, 54, 6, 42]
abbrev dktX8_fewest_6 : List UInt8 := dkwX8_fewest_6 ++ dktX8_fewest_7
def dkwX8_fewest_5 : List UInt8 := [162, 0, 98, 42, 180, 0, 29, 8, 27, 104, 4, 96, 21, 5, 5, 108, 79, 42, 180, 0, 42, 21, 5, 5]
abbrev dktX8_fewest_5 : List UInt8 := dkwX8_fewest_5 ++ dktX8_fewest_6
def dkwX8_fewest_4 : List UInt8 := [180, 0, 45, 21, 5, 17, 3, 232, 79, 132, 5, 1, 167, 255, 236, 3, 54, 5, 21, 5, 16, 24]
abbrev dktX8_fewest_4 : List UInt8 := dkwX8_fewest_4 ++ dktX8_fewest_5
def dkwX8_fewest_3 : List UInt8 := [167, 255, 222, 3, 54, 4, 21, 4, 29, 162, 0, 180, 3, 54, 5, 21, 5, 16, 12, 162, 0, 19, 42]
abbrev dktX8_fewest_3 : List UInt8 := dkwX8_fewest_3 ++ dktX8_fewest_4
def dkwX8_fewest_2 : List UInt8 := [21, 4, 21, 4, 42, 27, 182, 1, 95, 160, 0, 7, 3, 167, 0, 6, 17, 3, 232, 79, 132, 4, 1]
abbrev dktX8_fewest_2 : List UInt8 := dkwX8_fewest_2 ++ dktX8_fewest_3
def dkwX8_fewest_1 : List UInt8 := [154, 0, 6, 16, 254, 172, 42, 182, 1, 122, 3, 54, 4, 21, 4, 16, 12, 162, 0, 33, 42, 180, 0, 42]
abbrev dktX8_fewest_1 : List UInt8 := dkwX8_fewest_1 ++ dktX8_fewest_2
def dkwX8_fewest_0 : List UInt8 := [42, 27, 182, 0, 101, 153, 0, 22, 28, 184, 0, 98, 153, 0, 15, 29, 133, 9, 20, 1, 130, 184, 0, 86]
abbrev dktX8_fewest_0 : List UInt8 := dkwX8_fewest_0 ++ dktX8_fewest_1
theorem dksX8_fewest_0 : cX8_fewest.data.toList.drop 0 = dktX8_fewest_0 := by decide +kernel
theorem dksX8_fewest_1 : cX8_fewest.data.toList.drop 24 = dktX8_fewest_1 := dk_seg dksX8_fewest_0 24 rfl rfl
theorem dksX8_fewest_2 : cX8_fewest.data.toList.drop 48 = dktX8_fewest_2 := dk_seg dksX8_fewest_1 24 rfl rfl
theorem dksX8_fewest_3 : cX8_fewest.data.toList.drop 71 = dktX8_fewest_3 := dk_seg dksX8_fewest_2 23 rfl rfl
theorem dksX8_fewest_4 : cX8_fewest.data.toList.drop 94 = dktX8_fewest_4 := dk_seg dksX8_fewest_3 23 rfl rfl
theorem dksX8_fewest_5 : cX8_fewest.data.toList.drop 116 = dktX8_fewest_5 := dk_seg dksX8_fewest_4 22 rfl rfl
theorem dksX8_fewest_6 : cX8_fewest.data.toList.drop 140 = dktX8_fewest_6 := dk_seg dksX8_fewest_5 24 rfl rfl
theorem dksX8_fewest_7 : cX8_fewest.data.toList.drop 163 = dktX8_fewest_7 := dk_seg dksX8_fewest_6 23 rfl rfl
theorem dksX8_fewest_8 : cX8_fewest.data.toList.drop 187 = dktX8_fewest_8 := dk_seg dksX8_fewest_7 24 rfl rfl
theorem dksX8_fewest_9 : cX8_fewest.data.toList.drop 211 = dktX8_fewest_9 := dk_seg dksX8_fewest_8 24 rfl rfl
theorem dksX8_fewest_10 : cX8_fewest.data.toList.drop 234 = dktX8_fewest_10 := dk_seg dksX8_fewest_9 23 rfl rfl
theorem dksX8_fewest_11 : cX8_fewest.data.toList.drop 257 = dktX8_fewest_11 := dk_seg dksX8_fewest_10 23 rfl rfl
theorem dksX8_fewest_12 : cX8_fewest.data.toList.drop 281 = dktX8_fewest_12 := dk_seg dksX8_fewest_11 24 rfl rfl
theorem dX8_fewest_0 : decode cX8_fewest 0 = .ok (.aload_n 0, 1) := dk_42 (dk_at dksX8_fewest_0 0 rfl rfl)
theorem dX8_fewest_1 : decode cX8_fewest 1 = .ok (.iload_n 1, 1) := dk_27 (dk_at dksX8_fewest_0 1 rfl rfl)
theorem dX8_fewest_2 : decode cX8_fewest 2 = .ok (.invokevirtual 101, 3) := dk_182 0 101 (dk_at dksX8_fewest_0 2 rfl rfl)
theorem dX8_fewest_5 : decode cX8_fewest 5 = .ok (.ifCond .eq 22, 3) := dk_153 0 22 (dk_at dksX8_fewest_0 5 rfl rfl)
theorem dX8_fewest_8 : decode cX8_fewest 8 = .ok (.iload_n 2, 1) := dk_28 (dk_at dksX8_fewest_0 8 rfl rfl)
theorem dX8_fewest_9 : decode cX8_fewest 9 = .ok (.invokestatic 98, 3) := dk_184 0 98 (dk_at dksX8_fewest_0 9 rfl rfl)
theorem dX8_fewest_12 : decode cX8_fewest 12 = .ok (.ifCond .eq 15, 3) := dk_153 0 15 (dk_at dksX8_fewest_0 12 rfl rfl)
theorem dX8_fewest_15 : decode cX8_fewest 15 = .ok (.iload_n 3, 1) := dk_29 (dk_at dksX8_fewest_0 15 rfl rfl)
theorem dX8_fewest_16 : decode cX8_fewest 16 = .ok (.i2l, 1) := dk_133 (dk_at dksX8_fewest_0 16 rfl rfl)
theorem dX8_fewest_17 : decode cX8_fewest 17 = .ok (.lconst 0, 1) := dk_9 (dk_at dksX8_fewest_0 17 rfl rfl)
theorem dX8_fewest_18 : decode cX8_fewest 18 = .ok (.ldc2_w 386, 3) := dk_20 1 130 (dk_at dksX8_fewest_0 18 rfl rfl)
theorem dX8_fewest_21 : decode cX8_fewest 21 = .ok (.invokestatic 86, 3) := dk_184 0 86 (dk_at dksX8_fewest_0 21 rfl rfl)
theorem dX8_fewest_24 : decode cX8_fewest 24 = .ok (.ifCond .ne 6, 3) := dk_154 0 6 (dk_at dksX8_fewest_1 0 rfl rfl)
theorem dX8_fewest_27 : decode cX8_fewest 27 = .ok (.bipush (-2), 2) := dk_16 254 (dk_at dksX8_fewest_1 3 rfl rfl)
theorem dX8_fewest_29 : decode cX8_fewest 29 = .ok (.ireturn, 1) := dk_172 (dk_at dksX8_fewest_1 5 rfl rfl)
theorem dX8_fewest_30 : decode cX8_fewest 30 = .ok (.aload_n 0, 1) := dk_42 (dk_at dksX8_fewest_1 6 rfl rfl)
theorem dX8_fewest_31 : decode cX8_fewest 31 = .ok (.invokevirtual 378, 3) := dk_182 1 122 (dk_at dksX8_fewest_1 7 rfl rfl)
theorem dX8_fewest_34 : decode cX8_fewest 34 = .ok (.iconst 0, 1) := dk_3 (dk_at dksX8_fewest_1 10 rfl rfl)
theorem dX8_fewest_35 : decode cX8_fewest 35 = .ok (.istore 4, 2) := dk_54 4 (dk_at dksX8_fewest_1 11 rfl rfl)
theorem dX8_fewest_37 : decode cX8_fewest 37 = .ok (.iload 4, 2) := dk_21 4 (dk_at dksX8_fewest_1 13 rfl rfl)
theorem dX8_fewest_39 : decode cX8_fewest 39 = .ok (.bipush 12, 2) := dk_16 12 (dk_at dksX8_fewest_1 15 rfl rfl)
theorem dX8_fewest_41 : decode cX8_fewest 41 = .ok (.if_icmp .ge 33, 3) := dk_162 0 33 (dk_at dksX8_fewest_1 17 rfl rfl)
theorem dX8_fewest_44 : decode cX8_fewest 44 = .ok (.aload_n 0, 1) := dk_42 (dk_at dksX8_fewest_1 20 rfl rfl)
theorem dX8_fewest_45 : decode cX8_fewest 45 = .ok (.getfield 42, 3) := dk_180 0 42 (dk_at dksX8_fewest_1 21 rfl rfl)
theorem dX8_fewest_48 : decode cX8_fewest 48 = .ok (.iload 4, 2) := dk_21 4 (dk_at dksX8_fewest_2 0 rfl rfl)
theorem dX8_fewest_50 : decode cX8_fewest 50 = .ok (.iload 4, 2) := dk_21 4 (dk_at dksX8_fewest_2 2 rfl rfl)
theorem dX8_fewest_52 : decode cX8_fewest 52 = .ok (.aload_n 0, 1) := dk_42 (dk_at dksX8_fewest_2 4 rfl rfl)
theorem dX8_fewest_53 : decode cX8_fewest 53 = .ok (.iload_n 1, 1) := dk_27 (dk_at dksX8_fewest_2 5 rfl rfl)
theorem dX8_fewest_54 : decode cX8_fewest 54 = .ok (.invokevirtual 351, 3) := dk_182 1 95 (dk_at dksX8_fewest_2 6 rfl rfl)
theorem dX8_fewest_57 : decode cX8_fewest 57 = .ok (.if_icmp .ne 7, 3) := dk_160 0 7 (dk_at dksX8_fewest_2 9 rfl rfl)
theorem dX8_fewest_60 : decode cX8_fewest 60 = .ok (.iconst 0, 1) := dk_3 (dk_at dksX8_fewest_2 12 rfl rfl)
theorem dX8_fewest_61 : decode cX8_fewest 61 = .ok (.goto 6, 3) := dk_167 0 6 (dk_at dksX8_fewest_2 13 rfl rfl)
theorem dX8_fewest_64 : decode cX8_fewest 64 = .ok (.sipush 1000, 3) := dk_17 3 232 (dk_at dksX8_fewest_2 16 rfl rfl)
theorem dX8_fewest_67 : decode cX8_fewest 67 = .ok (.iastore, 1) := dk_79 (dk_at dksX8_fewest_2 19 rfl rfl)
theorem dX8_fewest_68 : decode cX8_fewest 68 = .ok (.iinc 4 1, 3) := dk_132 4 1 (dk_at dksX8_fewest_2 20 rfl rfl)
theorem dX8_fewest_71 : decode cX8_fewest 71 = .ok (.goto (-34), 3) := dk_167 255 222 (dk_at dksX8_fewest_3 0 rfl rfl)
theorem dX8_fewest_74 : decode cX8_fewest 74 = .ok (.iconst 0, 1) := dk_3 (dk_at dksX8_fewest_3 3 rfl rfl)
theorem dX8_fewest_75 : decode cX8_fewest 75 = .ok (.istore 4, 2) := dk_54 4 (dk_at dksX8_fewest_3 4 rfl rfl)
theorem dX8_fewest_77 : decode cX8_fewest 77 = .ok (.iload 4, 2) := dk_21 4 (dk_at dksX8_fewest_3 6 rfl rfl)
theorem dX8_fewest_79 : decode cX8_fewest 79 = .ok (.iload_n 3, 1) := dk_29 (dk_at dksX8_fewest_3 8 rfl rfl)
theorem dX8_fewest_80 : decode cX8_fewest 80 = .ok (.if_icmp .ge 180, 3) := dk_162 0 180 (dk_at dksX8_fewest_3 9 rfl rfl)
theorem dX8_fewest_83 : decode cX8_fewest 83 = .ok (.iconst 0, 1) := dk_3 (dk_at dksX8_fewest_3 12 rfl rfl)
theorem dX8_fewest_84 : decode cX8_fewest 84 = .ok (.istore 5, 2) := dk_54 5 (dk_at dksX8_fewest_3 13 rfl rfl)
theorem dX8_fewest_86 : decode cX8_fewest 86 = .ok (.iload 5, 2) := dk_21 5 (dk_at dksX8_fewest_3 15 rfl rfl)
theorem dX8_fewest_88 : decode cX8_fewest 88 = .ok (.bipush 12, 2) := dk_16 12 (dk_at dksX8_fewest_3 17 rfl rfl)
theorem dX8_fewest_90 : decode cX8_fewest 90 = .ok (.if_icmp .ge 19, 3) := dk_162 0 19 (dk_at dksX8_fewest_3 19 rfl rfl)
theorem dX8_fewest_93 : decode cX8_fewest 93 = .ok (.aload_n 0, 1) := dk_42 (dk_at dksX8_fewest_3 22 rfl rfl)
theorem dX8_fewest_94 : decode cX8_fewest 94 = .ok (.getfield 45, 3) := dk_180 0 45 (dk_at dksX8_fewest_4 0 rfl rfl)
theorem dX8_fewest_97 : decode cX8_fewest 97 = .ok (.iload 5, 2) := dk_21 5 (dk_at dksX8_fewest_4 3 rfl rfl)
theorem dX8_fewest_99 : decode cX8_fewest 99 = .ok (.sipush 1000, 3) := dk_17 3 232 (dk_at dksX8_fewest_4 5 rfl rfl)
theorem dX8_fewest_102 : decode cX8_fewest 102 = .ok (.iastore, 1) := dk_79 (dk_at dksX8_fewest_4 8 rfl rfl)
theorem dX8_fewest_103 : decode cX8_fewest 103 = .ok (.iinc 5 1, 3) := dk_132 5 1 (dk_at dksX8_fewest_4 9 rfl rfl)
theorem dX8_fewest_106 : decode cX8_fewest 106 = .ok (.goto (-20), 3) := dk_167 255 236 (dk_at dksX8_fewest_4 12 rfl rfl)
theorem dX8_fewest_109 : decode cX8_fewest 109 = .ok (.iconst 0, 1) := dk_3 (dk_at dksX8_fewest_4 15 rfl rfl)
theorem dX8_fewest_110 : decode cX8_fewest 110 = .ok (.istore 5, 2) := dk_54 5 (dk_at dksX8_fewest_4 16 rfl rfl)
theorem dX8_fewest_112 : decode cX8_fewest 112 = .ok (.iload 5, 2) := dk_21 5 (dk_at dksX8_fewest_4 18 rfl rfl)
theorem dX8_fewest_114 : decode cX8_fewest 114 = .ok (.bipush 24, 2) := dk_16 24 (dk_at dksX8_fewest_4 20 rfl rfl)
theorem dX8_fewest_116 : decode cX8_fewest 116 = .ok (.if_icmp .ge 98, 3) := dk_162 0 98 (dk_at dksX8_fewest_5 0 rfl rfl)
theorem dX8_fewest_119 : decode cX8_fewest 119 = .ok (.aload_n 0, 1) := dk_42 (dk_at dksX8_fewest_5 3 rfl rfl)
theorem dX8_fewest_120 : decode cX8_fewest 120 = .ok (.getfield 29, 3) := dk_180 0 29 (dk_at dksX8_fewest_5 4 rfl rfl)
theorem dX8_fewest_123 : decode cX8_fewest 123 = .ok (.iconst 5, 1) := dk_8 (dk_at dksX8_fewest_5 7 rfl rfl)
theorem dX8_fewest_124 : decode cX8_fewest 124 = .ok (.iload_n 1, 1) := dk_27 (dk_at dksX8_fewest_5 8 rfl rfl)
theorem dX8_fewest_125 : decode cX8_fewest 125 = .ok (.imul, 1) := dk_104 (dk_at dksX8_fewest_5 9 rfl rfl)
theorem dX8_fewest_126 : decode cX8_fewest 126 = .ok (.iconst 1, 1) := dk_4 (dk_at dksX8_fewest_5 10 rfl rfl)
theorem dX8_fewest_127 : decode cX8_fewest 127 = .ok (.iadd, 1) := dk_96 (dk_at dksX8_fewest_5 11 rfl rfl)
theorem dX8_fewest_128 : decode cX8_fewest 128 = .ok (.iload 5, 2) := dk_21 5 (dk_at dksX8_fewest_5 12 rfl rfl)
theorem dX8_fewest_130 : decode cX8_fewest 130 = .ok (.iconst 2, 1) := dk_5 (dk_at dksX8_fewest_5 14 rfl rfl)
theorem dX8_fewest_131 : decode cX8_fewest 131 = .ok (.idiv, 1) := dk_108 (dk_at dksX8_fewest_5 15 rfl rfl)
theorem dX8_fewest_132 : decode cX8_fewest 132 = .ok (.iastore, 1) := dk_79 (dk_at dksX8_fewest_5 16 rfl rfl)
theorem dX8_fewest_133 : decode cX8_fewest 133 = .ok (.aload_n 0, 1) := dk_42 (dk_at dksX8_fewest_5 17 rfl rfl)
theorem dX8_fewest_134 : decode cX8_fewest 134 = .ok (.getfield 42, 3) := dk_180 0 42 (dk_at dksX8_fewest_5 18 rfl rfl)
theorem dX8_fewest_137 : decode cX8_fewest 137 = .ok (.iload 5, 2) := dk_21 5 (dk_at dksX8_fewest_5 21 rfl rfl)
theorem dX8_fewest_139 : decode cX8_fewest 139 = .ok (.iconst 2, 1) := dk_5 (dk_at dksX8_fewest_5 23 rfl rfl)
theorem dX8_fewest_140 : decode cX8_fewest 140 = .ok (.idiv, 1) := dk_108 (dk_at dksX8_fewest_6 0 rfl rfl)
theorem dX8_fewest_141 : decode cX8_fewest 141 = .ok (.iaload, 1) := dk_46 (dk_at dksX8_fewest_6 1 rfl rfl)
theorem dX8_fewest_142 : decode cX8_fewest 142 = .ok (.aload_n 0, 1) := dk_42 (dk_at dksX8_fewest_6 2 rfl rfl)
theorem dX8_fewest_143 : decode cX8_fewest 143 = .ok (.iload_n 1, 1) := dk_27 (dk_at dksX8_fewest_6 3 rfl rfl)
theorem dX8_fewest_144 : decode cX8_fewest 144 = .ok (.invokevirtual 136, 3) := dk_182 0 136 (dk_at dksX8_fewest_6 4 rfl rfl)
theorem dX8_fewest_147 : decode cX8_fewest 147 = .ok (.iload 5, 2) := dk_21 5 (dk_at dksX8_fewest_6 7 rfl rfl)
theorem dX8_fewest_149 : decode cX8_fewest 149 = .ok (.iconst 2, 1) := dk_5 (dk_at dksX8_fewest_6 9 rfl rfl)
theorem dX8_fewest_150 : decode cX8_fewest 150 = .ok (.irem, 1) := dk_112 (dk_at dksX8_fewest_6 10 rfl rfl)
theorem dX8_fewest_151 : decode cX8_fewest 151 = .ok (.if_icmp .ne 7, 3) := dk_160 0 7 (dk_at dksX8_fewest_6 11 rfl rfl)
theorem dX8_fewest_154 : decode cX8_fewest 154 = .ok (.iconst 0, 1) := dk_3 (dk_at dksX8_fewest_6 14 rfl rfl)
theorem dX8_fewest_155 : decode cX8_fewest 155 = .ok (.goto 4, 3) := dk_167 0 4 (dk_at dksX8_fewest_6 15 rfl rfl)
theorem dX8_fewest_158 : decode cX8_fewest 158 = .ok (.iconst 1, 1) := dk_4 (dk_at dksX8_fewest_6 18 rfl rfl)
theorem dX8_fewest_159 : decode cX8_fewest 159 = .ok (.iadd, 1) := dk_96 (dk_at dksX8_fewest_6 19 rfl rfl)
theorem dX8_fewest_160 : decode cX8_fewest 160 = .ok (.istore 6, 2) := dk_54 6 (dk_at dksX8_fewest_6 20 rfl rfl)
theorem dX8_fewest_162 : decode cX8_fewest 162 = .ok (.aload_n 0, 1) := dk_42 (dk_at dksX8_fewest_6 22 rfl rfl)
theorem dX8_fewest_163 : decode cX8_fewest 163 = .ok (.getfield 45, 3) := dk_180 0 45 (dk_at dksX8_fewest_7 0 rfl rfl)
theorem dX8_fewest_166 : decode cX8_fewest 166 = .ok (.aload_n 0, 1) := dk_42 (dk_at dksX8_fewest_7 3 rfl rfl)
theorem dX8_fewest_167 : decode cX8_fewest 167 = .ok (.getfield 23, 3) := dk_180 0 23 (dk_at dksX8_fewest_7 4 rfl rfl)
theorem dX8_fewest_170 : decode cX8_fewest 170 = .ok (.iload 5, 2) := dk_21 5 (dk_at dksX8_fewest_7 7 rfl rfl)
theorem dX8_fewest_172 : decode cX8_fewest 172 = .ok (.iaload, 1) := dk_46 (dk_at dksX8_fewest_7 9 rfl rfl)
theorem dX8_fewest_173 : decode cX8_fewest 173 = .ok (.iload 6, 2) := dk_21 6 (dk_at dksX8_fewest_7 10 rfl rfl)
theorem dX8_fewest_175 : decode cX8_fewest 175 = .ok (.aload_n 0, 1) := dk_42 (dk_at dksX8_fewest_7 12 rfl rfl)
theorem dX8_fewest_176 : decode cX8_fewest 176 = .ok (.getfield 45, 3) := dk_180 0 45 (dk_at dksX8_fewest_7 13 rfl rfl)
theorem dX8_fewest_179 : decode cX8_fewest 179 = .ok (.aload_n 0, 1) := dk_42 (dk_at dksX8_fewest_7 16 rfl rfl)
theorem dX8_fewest_180 : decode cX8_fewest 180 = .ok (.getfield 23, 3) := dk_180 0 23 (dk_at dksX8_fewest_7 17 rfl rfl)
theorem dX8_fewest_183 : decode cX8_fewest 183 = .ok (.iload 5, 2) := dk_21 5 (dk_at dksX8_fewest_7 20 rfl rfl)
theorem dX8_fewest_185 : decode cX8_fewest 185 = .ok (.iaload, 1) := dk_46 (dk_at dksX8_fewest_7 22 rfl rfl)
theorem dX8_fewest_186 : decode cX8_fewest 186 = .ok (.iaload, 1) := dk_46 (dk_at dksX8_fewest_7 23 rfl rfl)
theorem dX8_fewest_187 : decode cX8_fewest 187 = .ok (.if_icmp .ge 8, 3) := dk_162 0 8 (dk_at dksX8_fewest_8 0 rfl rfl)
theorem dX8_fewest_190 : decode cX8_fewest 190 = .ok (.iload 6, 2) := dk_21 6 (dk_at dksX8_fewest_8 3 rfl rfl)
theorem dX8_fewest_192 : decode cX8_fewest 192 = .ok (.goto 15, 3) := dk_167 0 15 (dk_at dksX8_fewest_8 5 rfl rfl)
theorem dX8_fewest_195 : decode cX8_fewest 195 = .ok (.aload_n 0, 1) := dk_42 (dk_at dksX8_fewest_8 8 rfl rfl)
theorem dX8_fewest_196 : decode cX8_fewest 196 = .ok (.getfield 45, 3) := dk_180 0 45 (dk_at dksX8_fewest_8 9 rfl rfl)
theorem dX8_fewest_199 : decode cX8_fewest 199 = .ok (.aload_n 0, 1) := dk_42 (dk_at dksX8_fewest_8 12 rfl rfl)
theorem dX8_fewest_200 : decode cX8_fewest 200 = .ok (.getfield 23, 3) := dk_180 0 23 (dk_at dksX8_fewest_8 13 rfl rfl)
theorem dX8_fewest_203 : decode cX8_fewest 203 = .ok (.iload 5, 2) := dk_21 5 (dk_at dksX8_fewest_8 16 rfl rfl)
theorem dX8_fewest_205 : decode cX8_fewest 205 = .ok (.iaload, 1) := dk_46 (dk_at dksX8_fewest_8 18 rfl rfl)
theorem dX8_fewest_206 : decode cX8_fewest 206 = .ok (.iaload, 1) := dk_46 (dk_at dksX8_fewest_8 19 rfl rfl)
theorem dX8_fewest_207 : decode cX8_fewest 207 = .ok (.iastore, 1) := dk_79 (dk_at dksX8_fewest_8 20 rfl rfl)
theorem dX8_fewest_208 : decode cX8_fewest 208 = .ok (.iinc 5 1, 3) := dk_132 5 1 (dk_at dksX8_fewest_8 21 rfl rfl)
theorem dX8_fewest_211 : decode cX8_fewest 211 = .ok (.goto (-99), 3) := dk_167 255 157 (dk_at dksX8_fewest_9 0 rfl rfl)
theorem dX8_fewest_214 : decode cX8_fewest 214 = .ok (.iconst 0, 1) := dk_3 (dk_at dksX8_fewest_9 3 rfl rfl)
theorem dX8_fewest_215 : decode cX8_fewest 215 = .ok (.istore 5, 2) := dk_54 5 (dk_at dksX8_fewest_9 4 rfl rfl)
theorem dX8_fewest_217 : decode cX8_fewest 217 = .ok (.iload 5, 2) := dk_21 5 (dk_at dksX8_fewest_9 6 rfl rfl)
theorem dX8_fewest_219 : decode cX8_fewest 219 = .ok (.bipush 12, 2) := dk_16 12 (dk_at dksX8_fewest_9 8 rfl rfl)
theorem dX8_fewest_221 : decode cX8_fewest 221 = .ok (.if_icmp .ge 23, 3) := dk_162 0 23 (dk_at dksX8_fewest_9 10 rfl rfl)
theorem dX8_fewest_224 : decode cX8_fewest 224 = .ok (.aload_n 0, 1) := dk_42 (dk_at dksX8_fewest_9 13 rfl rfl)
theorem dX8_fewest_225 : decode cX8_fewest 225 = .ok (.getfield 42, 3) := dk_180 0 42 (dk_at dksX8_fewest_9 14 rfl rfl)
theorem dX8_fewest_228 : decode cX8_fewest 228 = .ok (.iload 5, 2) := dk_21 5 (dk_at dksX8_fewest_9 17 rfl rfl)
theorem dX8_fewest_230 : decode cX8_fewest 230 = .ok (.aload_n 0, 1) := dk_42 (dk_at dksX8_fewest_9 19 rfl rfl)
theorem dX8_fewest_231 : decode cX8_fewest 231 = .ok (.getfield 45, 3) := dk_180 0 45 (dk_at dksX8_fewest_9 20 rfl rfl)
theorem dX8_fewest_234 : decode cX8_fewest 234 = .ok (.iload 5, 2) := dk_21 5 (dk_at dksX8_fewest_10 0 rfl rfl)
theorem dX8_fewest_236 : decode cX8_fewest 236 = .ok (.iaload, 1) := dk_46 (dk_at dksX8_fewest_10 2 rfl rfl)
theorem dX8_fewest_237 : decode cX8_fewest 237 = .ok (.iastore, 1) := dk_79 (dk_at dksX8_fewest_10 3 rfl rfl)
theorem dX8_fewest_238 : decode cX8_fewest 238 = .ok (.iinc 5 1, 3) := dk_132 5 1 (dk_at dksX8_fewest_10 4 rfl rfl)
theorem dX8_fewest_241 : decode cX8_fewest 241 = .ok (.goto (-24), 3) := dk_167 255 232 (dk_at dksX8_fewest_10 7 rfl rfl)
theorem dX8_fewest_244 : decode cX8_fewest 244 = .ok (.aload_n 0, 1) := dk_42 (dk_at dksX8_fewest_10 10 rfl rfl)
theorem dX8_fewest_245 : decode cX8_fewest 245 = .ok (.dup, 1) := dk_89 (dk_at dksX8_fewest_10 11 rfl rfl)
theorem dX8_fewest_246 : decode cX8_fewest 246 = .ok (.getfield 124, 3) := dk_180 0 124 (dk_at dksX8_fewest_10 12 rfl rfl)
theorem dX8_fewest_249 : decode cX8_fewest 249 = .ok (.iconst 1, 1) := dk_4 (dk_at dksX8_fewest_10 15 rfl rfl)
theorem dX8_fewest_250 : decode cX8_fewest 250 = .ok (.iadd, 1) := dk_96 (dk_at dksX8_fewest_10 16 rfl rfl)
theorem dX8_fewest_251 : decode cX8_fewest 251 = .ok (.putfield 124, 3) := dk_181 0 124 (dk_at dksX8_fewest_10 17 rfl rfl)
theorem dX8_fewest_254 : decode cX8_fewest 254 = .ok (.iinc 4 1, 3) := dk_132 4 1 (dk_at dksX8_fewest_10 20 rfl rfl)
theorem dX8_fewest_257 : decode cX8_fewest 257 = .ok (.goto (-180), 3) := dk_167 255 76 (dk_at dksX8_fewest_11 0 rfl rfl)
theorem dX8_fewest_260 : decode cX8_fewest 260 = .ok (.aload_n 0, 1) := dk_42 (dk_at dksX8_fewest_11 3 rfl rfl)
theorem dX8_fewest_261 : decode cX8_fewest 261 = .ok (.invokevirtual 381, 3) := dk_182 1 125 (dk_at dksX8_fewest_11 4 rfl rfl)
theorem dX8_fewest_264 : decode cX8_fewest 264 = .ok (.aload_n 0, 1) := dk_42 (dk_at dksX8_fewest_11 7 rfl rfl)
theorem dX8_fewest_265 : decode cX8_fewest 265 = .ok (.getfield 42, 3) := dk_180 0 42 (dk_at dksX8_fewest_11 8 rfl rfl)
theorem dX8_fewest_268 : decode cX8_fewest 268 = .ok (.iload_n 2, 1) := dk_28 (dk_at dksX8_fewest_11 11 rfl rfl)
theorem dX8_fewest_269 : decode cX8_fewest 269 = .ok (.iaload, 1) := dk_46 (dk_at dksX8_fewest_11 12 rfl rfl)
theorem dX8_fewest_270 : decode cX8_fewest 270 = .ok (.sipush 1000, 3) := dk_17 3 232 (dk_at dksX8_fewest_11 13 rfl rfl)
theorem dX8_fewest_273 : decode cX8_fewest 273 = .ok (.if_icmp .lt 7, 3) := dk_161 0 7 (dk_at dksX8_fewest_11 16 rfl rfl)
theorem dX8_fewest_276 : decode cX8_fewest 276 = .ok (.iconst (-1), 1) := dk_2 (dk_at dksX8_fewest_11 19 rfl rfl)
theorem dX8_fewest_277 : decode cX8_fewest 277 = .ok (.goto 9, 3) := dk_167 0 9 (dk_at dksX8_fewest_11 20 rfl rfl)
theorem dX8_fewest_280 : decode cX8_fewest 280 = .ok (.aload_n 0, 1) := dk_42 (dk_at dksX8_fewest_11 23 rfl rfl)
theorem dX8_fewest_281 : decode cX8_fewest 281 = .ok (.getfield 42, 3) := dk_180 0 42 (dk_at dksX8_fewest_12 0 rfl rfl)
theorem dX8_fewest_284 : decode cX8_fewest 284 = .ok (.iload_n 2, 1) := dk_28 (dk_at dksX8_fewest_12 3 rfl rfl)
theorem dX8_fewest_285 : decode cX8_fewest 285 = .ok (.iaload, 1) := dk_46 (dk_at dksX8_fewest_12 4 rfl rfl)
theorem dX8_fewest_286 : decode cX8_fewest 286 = .ok (.ireturn, 1) := dk_172 (dk_at dksX8_fewest_12 5 rfl rfl)
abbrev cX8_meet : ByteArray := prog_16_method_85_code
def yX8_meet : MethodName := ⟨RX8, "meet", "(II)I"⟩
def dkwX8_meet_3 : List UInt8 := [167, 0, 4, 29, 172]
abbrev dktX8_meet_3 : List UInt8 := dkwX8_meet_3 ++ []
def dkwX8_meet_2 : List UInt8 := [159, 0, 13, 42, 182, 1, 112, 132, 3, 1, 167, 255, 230, 42, 182, 1, 125, 29, 16, 60, 164, 0, 7, 2]
abbrev dktX8_meet_2 : List UInt8 := dkwX8_meet_2 ++ dktX8_meet_3
def dkwX8_meet_1 : List UInt8 := [42, 182, 1, 122, 3, 62, 29, 16, 60, 163, 0, 26, 42, 27, 182, 1, 95, 42, 28, 182, 1, 95]
abbrev dktX8_meet_1 : List UInt8 := dkwX8_meet_1 ++ dktX8_meet_2
def dkwX8_meet_0 : List UInt8 := [42, 27, 182, 0, 101, 153, 0, 16, 42, 28, 182, 0, 101, 153, 0, 8, 27, 28, 160, 0, 6, 16, 254, 172]
abbrev dktX8_meet_0 : List UInt8 := dkwX8_meet_0 ++ dktX8_meet_1
theorem dksX8_meet_0 : cX8_meet.data.toList.drop 0 = dktX8_meet_0 := by decide +kernel
theorem dksX8_meet_1 : cX8_meet.data.toList.drop 24 = dktX8_meet_1 := dk_seg dksX8_meet_0 24 rfl rfl
theorem dksX8_meet_2 : cX8_meet.data.toList.drop 46 = dktX8_meet_2 := dk_seg dksX8_meet_1 22 rfl rfl
theorem dksX8_meet_3 : cX8_meet.data.toList.drop 70 = dktX8_meet_3 := dk_seg dksX8_meet_2 24 rfl rfl
theorem dX8_meet_0 : decode cX8_meet 0 = .ok (.aload_n 0, 1) := dk_42 (dk_at dksX8_meet_0 0 rfl rfl)
theorem dX8_meet_1 : decode cX8_meet 1 = .ok (.iload_n 1, 1) := dk_27 (dk_at dksX8_meet_0 1 rfl rfl)
theorem dX8_meet_2 : decode cX8_meet 2 = .ok (.invokevirtual 101, 3) := dk_182 0 101 (dk_at dksX8_meet_0 2 rfl rfl)
theorem dX8_meet_5 : decode cX8_meet 5 = .ok (.ifCond .eq 16, 3) := dk_153 0 16 (dk_at dksX8_meet_0 5 rfl rfl)
theorem dX8_meet_8 : decode cX8_meet 8 = .ok (.aload_n 0, 1) := dk_42 (dk_at dksX8_meet_0 8 rfl rfl)
theorem dX8_meet_9 : decode cX8_meet 9 = .ok (.iload_n 2, 1) := dk_28 (dk_at dksX8_meet_0 9 rfl rfl)
theorem dX8_meet_10 : decode cX8_meet 10 = .ok (.invokevirtual 101, 3) := dk_182 0 101 (dk_at dksX8_meet_0 10 rfl rfl)
theorem dX8_meet_13 : decode cX8_meet 13 = .ok (.ifCond .eq 8, 3) := dk_153 0 8 (dk_at dksX8_meet_0 13 rfl rfl)
theorem dX8_meet_16 : decode cX8_meet 16 = .ok (.iload_n 1, 1) := dk_27 (dk_at dksX8_meet_0 16 rfl rfl)
theorem dX8_meet_17 : decode cX8_meet 17 = .ok (.iload_n 2, 1) := dk_28 (dk_at dksX8_meet_0 17 rfl rfl)
theorem dX8_meet_18 : decode cX8_meet 18 = .ok (.if_icmp .ne 6, 3) := dk_160 0 6 (dk_at dksX8_meet_0 18 rfl rfl)
theorem dX8_meet_21 : decode cX8_meet 21 = .ok (.bipush (-2), 2) := dk_16 254 (dk_at dksX8_meet_0 21 rfl rfl)
theorem dX8_meet_23 : decode cX8_meet 23 = .ok (.ireturn, 1) := dk_172 (dk_at dksX8_meet_0 23 rfl rfl)
theorem dX8_meet_24 : decode cX8_meet 24 = .ok (.aload_n 0, 1) := dk_42 (dk_at dksX8_meet_1 0 rfl rfl)
theorem dX8_meet_25 : decode cX8_meet 25 = .ok (.invokevirtual 378, 3) := dk_182 1 122 (dk_at dksX8_meet_1 1 rfl rfl)
theorem dX8_meet_28 : decode cX8_meet 28 = .ok (.iconst 0, 1) := dk_3 (dk_at dksX8_meet_1 4 rfl rfl)
theorem dX8_meet_29 : decode cX8_meet 29 = .ok (.istore_n 3, 1) := dk_62 (dk_at dksX8_meet_1 5 rfl rfl)
theorem dX8_meet_30 : decode cX8_meet 30 = .ok (.iload_n 3, 1) := dk_29 (dk_at dksX8_meet_1 6 rfl rfl)
theorem dX8_meet_31 : decode cX8_meet 31 = .ok (.bipush 60, 2) := dk_16 60 (dk_at dksX8_meet_1 7 rfl rfl)
theorem dX8_meet_33 : decode cX8_meet 33 = .ok (.if_icmp .gt 26, 3) := dk_163 0 26 (dk_at dksX8_meet_1 9 rfl rfl)
theorem dX8_meet_36 : decode cX8_meet 36 = .ok (.aload_n 0, 1) := dk_42 (dk_at dksX8_meet_1 12 rfl rfl)
theorem dX8_meet_37 : decode cX8_meet 37 = .ok (.iload_n 1, 1) := dk_27 (dk_at dksX8_meet_1 13 rfl rfl)
theorem dX8_meet_38 : decode cX8_meet 38 = .ok (.invokevirtual 351, 3) := dk_182 1 95 (dk_at dksX8_meet_1 14 rfl rfl)
theorem dX8_meet_41 : decode cX8_meet 41 = .ok (.aload_n 0, 1) := dk_42 (dk_at dksX8_meet_1 17 rfl rfl)
theorem dX8_meet_42 : decode cX8_meet 42 = .ok (.iload_n 2, 1) := dk_28 (dk_at dksX8_meet_1 18 rfl rfl)
theorem dX8_meet_43 : decode cX8_meet 43 = .ok (.invokevirtual 351, 3) := dk_182 1 95 (dk_at dksX8_meet_1 19 rfl rfl)
theorem dX8_meet_46 : decode cX8_meet 46 = .ok (.if_icmp .eq 13, 3) := dk_159 0 13 (dk_at dksX8_meet_2 0 rfl rfl)
theorem dX8_meet_49 : decode cX8_meet 49 = .ok (.aload_n 0, 1) := dk_42 (dk_at dksX8_meet_2 3 rfl rfl)
theorem dX8_meet_50 : decode cX8_meet 50 = .ok (.invokevirtual 368, 3) := dk_182 1 112 (dk_at dksX8_meet_2 4 rfl rfl)
theorem dX8_meet_53 : decode cX8_meet 53 = .ok (.iinc 3 1, 3) := dk_132 3 1 (dk_at dksX8_meet_2 7 rfl rfl)
theorem dX8_meet_56 : decode cX8_meet 56 = .ok (.goto (-26), 3) := dk_167 255 230 (dk_at dksX8_meet_2 10 rfl rfl)
theorem dX8_meet_59 : decode cX8_meet 59 = .ok (.aload_n 0, 1) := dk_42 (dk_at dksX8_meet_2 13 rfl rfl)
theorem dX8_meet_60 : decode cX8_meet 60 = .ok (.invokevirtual 381, 3) := dk_182 1 125 (dk_at dksX8_meet_2 14 rfl rfl)
theorem dX8_meet_63 : decode cX8_meet 63 = .ok (.iload_n 3, 1) := dk_29 (dk_at dksX8_meet_2 17 rfl rfl)
theorem dX8_meet_64 : decode cX8_meet 64 = .ok (.bipush 60, 2) := dk_16 60 (dk_at dksX8_meet_2 18 rfl rfl)
theorem dX8_meet_66 : decode cX8_meet 66 = .ok (.if_icmp .le 7, 3) := dk_164 0 7 (dk_at dksX8_meet_2 20 rfl rfl)
theorem dX8_meet_69 : decode cX8_meet 69 = .ok (.iconst (-1), 1) := dk_2 (dk_at dksX8_meet_2 23 rfl rfl)
theorem dX8_meet_70 : decode cX8_meet 70 = .ok (.goto 4, 3) := dk_167 0 4 (dk_at dksX8_meet_3 0 rfl rfl)
theorem dX8_meet_73 : decode cX8_meet 73 = .ok (.iload_n 3, 1) := dk_29 (dk_at dksX8_meet_3 3 rfl rfl)
theorem dX8_meet_74 : decode cX8_meet 74 = .ok (.ireturn, 1) := dk_172 (dk_at dksX8_meet_3 4 rfl rfl)
abbrev cX8_shut : ByteArray := prog_16_method_87_code
def yX8_shut : MethodName := ⟨RX8, "shut", "(II)I"⟩
def dkwX8_shut_7 : List UInt8 := [180, 0, 48, 21, 5, 46, 79, 132, 5, 1, 167, 255, 232, 28, 154, 0, 7, 29, 167, 0, 5, 21, 4, 172]
abbrev dktX8_shut_7 : List UInt8 := dkwX8_shut_7 ++ []
def dkwX8_shut_6 : List UInt8 := [132, 5, 1, 167, 255, 173, 3, 54, 5, 21, 5, 16, 24, 162, 0, 23, 42, 180, 0, 23, 21, 5, 42]
abbrev dktX8_shut_6 : List UInt8 := dkwX8_shut_6 ++ dktX8_shut_7
def dkwX8_shut_5 : List UInt8 := [167, 255, 210, 42, 27, 182, 1, 142, 54, 6, 21, 6, 21, 4, 164, 0, 10, 21, 5, 62, 21, 6, 54, 4]
abbrev dktX8_shut_5 : List UInt8 := dkwX8_shut_5 ++ dktX8_shut_6
def dkwX8_shut_4 : List UInt8 := [160, 0, 13, 21, 5, 4, 96, 16, 12, 112, 167, 0, 10, 42, 180, 0, 48, 21, 6, 46, 79, 132, 6, 1]
abbrev dktX8_shut_4 : List UInt8 := dkwX8_shut_4 ++ dktX8_shut_5
def dkwX8_shut_3 : List UInt8 := [54, 6, 21, 6, 16, 24, 162, 0, 45, 42, 180, 0, 23, 21, 6, 42, 180, 0, 48, 21, 6, 46, 21, 5]
abbrev dktX8_shut_3 : List UInt8 := dkwX8_shut_3 ++ dktX8_shut_4
def dkwX8_shut_2 : List UInt8 := [167, 255, 235, 2, 62, 42, 27, 182, 1, 142, 54, 4, 3, 54, 5, 21, 5, 16, 12, 162, 0, 82, 3]
abbrev dktX8_shut_2 : List UInt8 := dkwX8_shut_2 ++ dktX8_shut_3
def dkwX8_shut_1 : List UInt8 := [172, 3, 62, 29, 16, 24, 162, 0, 21, 42, 180, 0, 48, 29, 42, 180, 0, 23, 29, 46, 79, 132, 3, 1]
abbrev dktX8_shut_1 : List UInt8 := dkwX8_shut_1 ++ dktX8_shut_2
def dkwX8_shut_0 : List UInt8 := [27, 133, 9, 20, 1, 128, 184, 0, 86, 153, 0, 13, 28, 133, 9, 10, 184, 0, 86, 154, 0, 6, 16, 254]
abbrev dktX8_shut_0 : List UInt8 := dkwX8_shut_0 ++ dktX8_shut_1
theorem dksX8_shut_0 : cX8_shut.data.toList.drop 0 = dktX8_shut_0 := by decide +kernel
theorem dksX8_shut_1 : cX8_shut.data.toList.drop 24 = dktX8_shut_1 := dk_seg dksX8_shut_0 24 rfl rfl
theorem dksX8_shut_2 : cX8_shut.data.toList.drop 48 = dktX8_shut_2 := dk_seg dksX8_shut_1 24 rfl rfl
theorem dksX8_shut_3 : cX8_shut.data.toList.drop 71 = dktX8_shut_3 := dk_seg dksX8_shut_2 23 rfl rfl
theorem dksX8_shut_4 : cX8_shut.data.toList.drop 95 = dktX8_shut_4 := dk_seg dksX8_shut_3 24 rfl rfl
theorem dksX8_shut_5 : cX8_shut.data.toList.drop 119 = dktX8_shut_5 := dk_seg dksX8_shut_4 24 rfl rfl
theorem dksX8_shut_6 : cX8_shut.data.toList.drop 143 = dktX8_shut_6 := dk_seg dksX8_shut_5 24 rfl rfl
theorem dksX8_shut_7 : cX8_shut.data.toList.drop 166 = dktX8_shut_7 := dk_seg dksX8_shut_6 23 rfl rfl
theorem dX8_shut_0 : decode cX8_shut 0 = .ok (.iload_n 1, 1) := dk_27 (dk_at dksX8_shut_0 0 rfl rfl)
theorem dX8_shut_1 : decode cX8_shut 1 = .ok (.i2l, 1) := dk_133 (dk_at dksX8_shut_0 1 rfl rfl)
theorem dX8_shut_2 : decode cX8_shut 2 = .ok (.lconst 0, 1) := dk_9 (dk_at dksX8_shut_0 2 rfl rfl)
theorem dX8_shut_3 : decode cX8_shut 3 = .ok (.ldc2_w 384, 3) := dk_20 1 128 (dk_at dksX8_shut_0 3 rfl rfl)
theorem dX8_shut_6 : decode cX8_shut 6 = .ok (.invokestatic 86, 3) := dk_184 0 86 (dk_at dksX8_shut_0 6 rfl rfl)
theorem dX8_shut_9 : decode cX8_shut 9 = .ok (.ifCond .eq 13, 3) := dk_153 0 13 (dk_at dksX8_shut_0 9 rfl rfl)
theorem dX8_shut_12 : decode cX8_shut 12 = .ok (.iload_n 2, 1) := dk_28 (dk_at dksX8_shut_0 12 rfl rfl)
theorem dX8_shut_13 : decode cX8_shut 13 = .ok (.i2l, 1) := dk_133 (dk_at dksX8_shut_0 13 rfl rfl)
theorem dX8_shut_14 : decode cX8_shut 14 = .ok (.lconst 0, 1) := dk_9 (dk_at dksX8_shut_0 14 rfl rfl)
theorem dX8_shut_15 : decode cX8_shut 15 = .ok (.lconst 1, 1) := dk_10 (dk_at dksX8_shut_0 15 rfl rfl)
theorem dX8_shut_16 : decode cX8_shut 16 = .ok (.invokestatic 86, 3) := dk_184 0 86 (dk_at dksX8_shut_0 16 rfl rfl)
theorem dX8_shut_19 : decode cX8_shut 19 = .ok (.ifCond .ne 6, 3) := dk_154 0 6 (dk_at dksX8_shut_0 19 rfl rfl)
theorem dX8_shut_22 : decode cX8_shut 22 = .ok (.bipush (-2), 2) := dk_16 254 (dk_at dksX8_shut_0 22 rfl rfl)
theorem dX8_shut_24 : decode cX8_shut 24 = .ok (.ireturn, 1) := dk_172 (dk_at dksX8_shut_1 0 rfl rfl)
theorem dX8_shut_25 : decode cX8_shut 25 = .ok (.iconst 0, 1) := dk_3 (dk_at dksX8_shut_1 1 rfl rfl)
theorem dX8_shut_26 : decode cX8_shut 26 = .ok (.istore_n 3, 1) := dk_62 (dk_at dksX8_shut_1 2 rfl rfl)
theorem dX8_shut_27 : decode cX8_shut 27 = .ok (.iload_n 3, 1) := dk_29 (dk_at dksX8_shut_1 3 rfl rfl)
theorem dX8_shut_28 : decode cX8_shut 28 = .ok (.bipush 24, 2) := dk_16 24 (dk_at dksX8_shut_1 4 rfl rfl)
theorem dX8_shut_30 : decode cX8_shut 30 = .ok (.if_icmp .ge 21, 3) := dk_162 0 21 (dk_at dksX8_shut_1 6 rfl rfl)
theorem dX8_shut_33 : decode cX8_shut 33 = .ok (.aload_n 0, 1) := dk_42 (dk_at dksX8_shut_1 9 rfl rfl)
theorem dX8_shut_34 : decode cX8_shut 34 = .ok (.getfield 48, 3) := dk_180 0 48 (dk_at dksX8_shut_1 10 rfl rfl)
theorem dX8_shut_37 : decode cX8_shut 37 = .ok (.iload_n 3, 1) := dk_29 (dk_at dksX8_shut_1 13 rfl rfl)
theorem dX8_shut_38 : decode cX8_shut 38 = .ok (.aload_n 0, 1) := dk_42 (dk_at dksX8_shut_1 14 rfl rfl)
theorem dX8_shut_39 : decode cX8_shut 39 = .ok (.getfield 23, 3) := dk_180 0 23 (dk_at dksX8_shut_1 15 rfl rfl)
theorem dX8_shut_42 : decode cX8_shut 42 = .ok (.iload_n 3, 1) := dk_29 (dk_at dksX8_shut_1 18 rfl rfl)
theorem dX8_shut_43 : decode cX8_shut 43 = .ok (.iaload, 1) := dk_46 (dk_at dksX8_shut_1 19 rfl rfl)
theorem dX8_shut_44 : decode cX8_shut 44 = .ok (.iastore, 1) := dk_79 (dk_at dksX8_shut_1 20 rfl rfl)
theorem dX8_shut_45 : decode cX8_shut 45 = .ok (.iinc 3 1, 3) := dk_132 3 1 (dk_at dksX8_shut_1 21 rfl rfl)
theorem dX8_shut_48 : decode cX8_shut 48 = .ok (.goto (-21), 3) := dk_167 255 235 (dk_at dksX8_shut_2 0 rfl rfl)
theorem dX8_shut_51 : decode cX8_shut 51 = .ok (.iconst (-1), 1) := dk_2 (dk_at dksX8_shut_2 3 rfl rfl)
theorem dX8_shut_52 : decode cX8_shut 52 = .ok (.istore_n 3, 1) := dk_62 (dk_at dksX8_shut_2 4 rfl rfl)
theorem dX8_shut_53 : decode cX8_shut 53 = .ok (.aload_n 0, 1) := dk_42 (dk_at dksX8_shut_2 5 rfl rfl)
theorem dX8_shut_54 : decode cX8_shut 54 = .ok (.iload_n 1, 1) := dk_27 (dk_at dksX8_shut_2 6 rfl rfl)
theorem dX8_shut_55 : decode cX8_shut 55 = .ok (.invokevirtual 398, 3) := dk_182 1 142 (dk_at dksX8_shut_2 7 rfl rfl)
theorem dX8_shut_58 : decode cX8_shut 58 = .ok (.istore 4, 2) := dk_54 4 (dk_at dksX8_shut_2 10 rfl rfl)
theorem dX8_shut_60 : decode cX8_shut 60 = .ok (.iconst 0, 1) := dk_3 (dk_at dksX8_shut_2 12 rfl rfl)
theorem dX8_shut_61 : decode cX8_shut 61 = .ok (.istore 5, 2) := dk_54 5 (dk_at dksX8_shut_2 13 rfl rfl)
theorem dX8_shut_63 : decode cX8_shut 63 = .ok (.iload 5, 2) := dk_21 5 (dk_at dksX8_shut_2 15 rfl rfl)
theorem dX8_shut_65 : decode cX8_shut 65 = .ok (.bipush 12, 2) := dk_16 12 (dk_at dksX8_shut_2 17 rfl rfl)
theorem dX8_shut_67 : decode cX8_shut 67 = .ok (.if_icmp .ge 82, 3) := dk_162 0 82 (dk_at dksX8_shut_2 19 rfl rfl)
theorem dX8_shut_70 : decode cX8_shut 70 = .ok (.iconst 0, 1) := dk_3 (dk_at dksX8_shut_2 22 rfl rfl)
theorem dX8_shut_71 : decode cX8_shut 71 = .ok (.istore 6, 2) := dk_54 6 (dk_at dksX8_shut_3 0 rfl rfl)
theorem dX8_shut_73 : decode cX8_shut 73 = .ok (.iload 6, 2) := dk_21 6 (dk_at dksX8_shut_3 2 rfl rfl)
theorem dX8_shut_75 : decode cX8_shut 75 = .ok (.bipush 24, 2) := dk_16 24 (dk_at dksX8_shut_3 4 rfl rfl)
theorem dX8_shut_77 : decode cX8_shut 77 = .ok (.if_icmp .ge 45, 3) := dk_162 0 45 (dk_at dksX8_shut_3 6 rfl rfl)
theorem dX8_shut_80 : decode cX8_shut 80 = .ok (.aload_n 0, 1) := dk_42 (dk_at dksX8_shut_3 9 rfl rfl)
theorem dX8_shut_81 : decode cX8_shut 81 = .ok (.getfield 23, 3) := dk_180 0 23 (dk_at dksX8_shut_3 10 rfl rfl)
theorem dX8_shut_84 : decode cX8_shut 84 = .ok (.iload 6, 2) := dk_21 6 (dk_at dksX8_shut_3 13 rfl rfl)
theorem dX8_shut_86 : decode cX8_shut 86 = .ok (.aload_n 0, 1) := dk_42 (dk_at dksX8_shut_3 15 rfl rfl)
theorem dX8_shut_87 : decode cX8_shut 87 = .ok (.getfield 48, 3) := dk_180 0 48 (dk_at dksX8_shut_3 16 rfl rfl)
theorem dX8_shut_90 : decode cX8_shut 90 = .ok (.iload 6, 2) := dk_21 6 (dk_at dksX8_shut_3 19 rfl rfl)
theorem dX8_shut_92 : decode cX8_shut 92 = .ok (.iaload, 1) := dk_46 (dk_at dksX8_shut_3 21 rfl rfl)
theorem dX8_shut_93 : decode cX8_shut 93 = .ok (.iload 5, 2) := dk_21 5 (dk_at dksX8_shut_3 22 rfl rfl)
theorem dX8_shut_95 : decode cX8_shut 95 = .ok (.if_icmp .ne 13, 3) := dk_160 0 13 (dk_at dksX8_shut_4 0 rfl rfl)
theorem dX8_shut_98 : decode cX8_shut 98 = .ok (.iload 5, 2) := dk_21 5 (dk_at dksX8_shut_4 3 rfl rfl)
theorem dX8_shut_100 : decode cX8_shut 100 = .ok (.iconst 1, 1) := dk_4 (dk_at dksX8_shut_4 5 rfl rfl)
theorem dX8_shut_101 : decode cX8_shut 101 = .ok (.iadd, 1) := dk_96 (dk_at dksX8_shut_4 6 rfl rfl)
theorem dX8_shut_102 : decode cX8_shut 102 = .ok (.bipush 12, 2) := dk_16 12 (dk_at dksX8_shut_4 7 rfl rfl)
theorem dX8_shut_104 : decode cX8_shut 104 = .ok (.irem, 1) := dk_112 (dk_at dksX8_shut_4 9 rfl rfl)
theorem dX8_shut_105 : decode cX8_shut 105 = .ok (.goto 10, 3) := dk_167 0 10 (dk_at dksX8_shut_4 10 rfl rfl)
theorem dX8_shut_108 : decode cX8_shut 108 = .ok (.aload_n 0, 1) := dk_42 (dk_at dksX8_shut_4 13 rfl rfl)
theorem dX8_shut_109 : decode cX8_shut 109 = .ok (.getfield 48, 3) := dk_180 0 48 (dk_at dksX8_shut_4 14 rfl rfl)
theorem dX8_shut_112 : decode cX8_shut 112 = .ok (.iload 6, 2) := dk_21 6 (dk_at dksX8_shut_4 17 rfl rfl)
theorem dX8_shut_114 : decode cX8_shut 114 = .ok (.iaload, 1) := dk_46 (dk_at dksX8_shut_4 19 rfl rfl)
theorem dX8_shut_115 : decode cX8_shut 115 = .ok (.iastore, 1) := dk_79 (dk_at dksX8_shut_4 20 rfl rfl)
theorem dX8_shut_116 : decode cX8_shut 116 = .ok (.iinc 6 1, 3) := dk_132 6 1 (dk_at dksX8_shut_4 21 rfl rfl)
theorem dX8_shut_119 : decode cX8_shut 119 = .ok (.goto (-46), 3) := dk_167 255 210 (dk_at dksX8_shut_5 0 rfl rfl)
theorem dX8_shut_122 : decode cX8_shut 122 = .ok (.aload_n 0, 1) := dk_42 (dk_at dksX8_shut_5 3 rfl rfl)
theorem dX8_shut_123 : decode cX8_shut 123 = .ok (.iload_n 1, 1) := dk_27 (dk_at dksX8_shut_5 4 rfl rfl)
theorem dX8_shut_124 : decode cX8_shut 124 = .ok (.invokevirtual 398, 3) := dk_182 1 142 (dk_at dksX8_shut_5 5 rfl rfl)
theorem dX8_shut_127 : decode cX8_shut 127 = .ok (.istore 6, 2) := dk_54 6 (dk_at dksX8_shut_5 8 rfl rfl)
theorem dX8_shut_129 : decode cX8_shut 129 = .ok (.iload 6, 2) := dk_21 6 (dk_at dksX8_shut_5 10 rfl rfl)
theorem dX8_shut_131 : decode cX8_shut 131 = .ok (.iload 4, 2) := dk_21 4 (dk_at dksX8_shut_5 12 rfl rfl)
theorem dX8_shut_133 : decode cX8_shut 133 = .ok (.if_icmp .le 10, 3) := dk_164 0 10 (dk_at dksX8_shut_5 14 rfl rfl)
theorem dX8_shut_136 : decode cX8_shut 136 = .ok (.iload 5, 2) := dk_21 5 (dk_at dksX8_shut_5 17 rfl rfl)
theorem dX8_shut_138 : decode cX8_shut 138 = .ok (.istore_n 3, 1) := dk_62 (dk_at dksX8_shut_5 19 rfl rfl)
theorem dX8_shut_139 : decode cX8_shut 139 = .ok (.iload 6, 2) := dk_21 6 (dk_at dksX8_shut_5 20 rfl rfl)
theorem dX8_shut_141 : decode cX8_shut 141 = .ok (.istore 4, 2) := dk_54 4 (dk_at dksX8_shut_5 22 rfl rfl)
theorem dX8_shut_143 : decode cX8_shut 143 = .ok (.iinc 5 1, 3) := dk_132 5 1 (dk_at dksX8_shut_6 0 rfl rfl)
theorem dX8_shut_146 : decode cX8_shut 146 = .ok (.goto (-83), 3) := dk_167 255 173 (dk_at dksX8_shut_6 3 rfl rfl)
theorem dX8_shut_149 : decode cX8_shut 149 = .ok (.iconst 0, 1) := dk_3 (dk_at dksX8_shut_6 6 rfl rfl)
theorem dX8_shut_150 : decode cX8_shut 150 = .ok (.istore 5, 2) := dk_54 5 (dk_at dksX8_shut_6 7 rfl rfl)
theorem dX8_shut_152 : decode cX8_shut 152 = .ok (.iload 5, 2) := dk_21 5 (dk_at dksX8_shut_6 9 rfl rfl)
theorem dX8_shut_154 : decode cX8_shut 154 = .ok (.bipush 24, 2) := dk_16 24 (dk_at dksX8_shut_6 11 rfl rfl)
theorem dX8_shut_156 : decode cX8_shut 156 = .ok (.if_icmp .ge 23, 3) := dk_162 0 23 (dk_at dksX8_shut_6 13 rfl rfl)
theorem dX8_shut_159 : decode cX8_shut 159 = .ok (.aload_n 0, 1) := dk_42 (dk_at dksX8_shut_6 16 rfl rfl)
theorem dX8_shut_160 : decode cX8_shut 160 = .ok (.getfield 23, 3) := dk_180 0 23 (dk_at dksX8_shut_6 17 rfl rfl)
theorem dX8_shut_163 : decode cX8_shut 163 = .ok (.iload 5, 2) := dk_21 5 (dk_at dksX8_shut_6 20 rfl rfl)
theorem dX8_shut_165 : decode cX8_shut 165 = .ok (.aload_n 0, 1) := dk_42 (dk_at dksX8_shut_6 22 rfl rfl)
theorem dX8_shut_166 : decode cX8_shut 166 = .ok (.getfield 48, 3) := dk_180 0 48 (dk_at dksX8_shut_7 0 rfl rfl)
theorem dX8_shut_169 : decode cX8_shut 169 = .ok (.iload 5, 2) := dk_21 5 (dk_at dksX8_shut_7 3 rfl rfl)
theorem dX8_shut_171 : decode cX8_shut 171 = .ok (.iaload, 1) := dk_46 (dk_at dksX8_shut_7 5 rfl rfl)
theorem dX8_shut_172 : decode cX8_shut 172 = .ok (.iastore, 1) := dk_79 (dk_at dksX8_shut_7 6 rfl rfl)
theorem dX8_shut_173 : decode cX8_shut 173 = .ok (.iinc 5 1, 3) := dk_132 5 1 (dk_at dksX8_shut_7 7 rfl rfl)
theorem dX8_shut_176 : decode cX8_shut 176 = .ok (.goto (-24), 3) := dk_167 255 232 (dk_at dksX8_shut_7 10 rfl rfl)
theorem dX8_shut_179 : decode cX8_shut 179 = .ok (.iload_n 2, 1) := dk_28 (dk_at dksX8_shut_7 13 rfl rfl)
theorem dX8_shut_180 : decode cX8_shut 180 = .ok (.ifCond .ne 7, 3) := dk_154 0 7 (dk_at dksX8_shut_7 14 rfl rfl)
theorem dX8_shut_183 : decode cX8_shut 183 = .ok (.iload_n 3, 1) := dk_29 (dk_at dksX8_shut_7 17 rfl rfl)
theorem dX8_shut_184 : decode cX8_shut 184 = .ok (.goto 5, 3) := dk_167 0 5 (dk_at dksX8_shut_7 18 rfl rfl)
theorem dX8_shut_187 : decode cX8_shut 187 = .ok (.iload 4, 2) := dk_21 4 (dk_at dksX8_shut_7 21 rfl rfl)
theorem dX8_shut_189 : decode cX8_shut 189 = .ok (.ireturn, 1) := dk_172 (dk_at dksX8_shut_7 23 rfl rfl)
abbrev cX8_jarsBehind : ByteArray := prog_16_method_86_code
def yX8_jarsBehind : MethodName := ⟨RX8, "jarsBehind", "(I)I"⟩
def dkwX8_jarsBehind_1 : List UInt8 := [182, 1, 115, 61, 42, 182, 1, 125, 28, 172]
abbrev dktX8_jarsBehind_1 : List UInt8 := dkwX8_jarsBehind_1 ++ []
def dkwX8_jarsBehind_0 : List UInt8 := [42, 182, 1, 122, 3, 61, 28, 27, 162, 0, 13, 42, 182, 1, 112, 132, 2, 1, 167, 255, 244, 42]
abbrev dktX8_jarsBehind_0 : List UInt8 := dkwX8_jarsBehind_0 ++ dktX8_jarsBehind_1
theorem dksX8_jarsBehind_0 : cX8_jarsBehind.data.toList.drop 0 = dktX8_jarsBehind_0 := by decide +kernel
theorem dksX8_jarsBehind_1 : cX8_jarsBehind.data.toList.drop 22 = dktX8_jarsBehind_1 := dk_seg dksX8_jarsBehind_0 22 rfl rfl
theorem dX8_jarsBehind_0 : decode cX8_jarsBehind 0 = .ok (.aload_n 0, 1) := dk_42 (dk_at dksX8_jarsBehind_0 0 rfl rfl)
theorem dX8_jarsBehind_1 : decode cX8_jarsBehind 1 = .ok (.invokevirtual 378, 3) := dk_182 1 122 (dk_at dksX8_jarsBehind_0 1 rfl rfl)
theorem dX8_jarsBehind_4 : decode cX8_jarsBehind 4 = .ok (.iconst 0, 1) := dk_3 (dk_at dksX8_jarsBehind_0 4 rfl rfl)
theorem dX8_jarsBehind_5 : decode cX8_jarsBehind 5 = .ok (.istore_n 2, 1) := dk_61 (dk_at dksX8_jarsBehind_0 5 rfl rfl)
theorem dX8_jarsBehind_6 : decode cX8_jarsBehind 6 = .ok (.iload_n 2, 1) := dk_28 (dk_at dksX8_jarsBehind_0 6 rfl rfl)
theorem dX8_jarsBehind_7 : decode cX8_jarsBehind 7 = .ok (.iload_n 1, 1) := dk_27 (dk_at dksX8_jarsBehind_0 7 rfl rfl)
theorem dX8_jarsBehind_8 : decode cX8_jarsBehind 8 = .ok (.if_icmp .ge 13, 3) := dk_162 0 13 (dk_at dksX8_jarsBehind_0 8 rfl rfl)
theorem dX8_jarsBehind_11 : decode cX8_jarsBehind 11 = .ok (.aload_n 0, 1) := dk_42 (dk_at dksX8_jarsBehind_0 11 rfl rfl)
theorem dX8_jarsBehind_12 : decode cX8_jarsBehind 12 = .ok (.invokevirtual 368, 3) := dk_182 1 112 (dk_at dksX8_jarsBehind_0 12 rfl rfl)
theorem dX8_jarsBehind_15 : decode cX8_jarsBehind 15 = .ok (.iinc 2 1, 3) := dk_132 2 1 (dk_at dksX8_jarsBehind_0 15 rfl rfl)
theorem dX8_jarsBehind_18 : decode cX8_jarsBehind 18 = .ok (.goto (-12), 3) := dk_167 255 244 (dk_at dksX8_jarsBehind_0 18 rfl rfl)
theorem dX8_jarsBehind_21 : decode cX8_jarsBehind 21 = .ok (.aload_n 0, 1) := dk_42 (dk_at dksX8_jarsBehind_0 21 rfl rfl)
theorem dX8_jarsBehind_22 : decode cX8_jarsBehind 22 = .ok (.invokevirtual 371, 3) := dk_182 1 115 (dk_at dksX8_jarsBehind_1 0 rfl rfl)
theorem dX8_jarsBehind_25 : decode cX8_jarsBehind 25 = .ok (.istore_n 2, 1) := dk_61 (dk_at dksX8_jarsBehind_1 3 rfl rfl)
theorem dX8_jarsBehind_26 : decode cX8_jarsBehind 26 = .ok (.aload_n 0, 1) := dk_42 (dk_at dksX8_jarsBehind_1 4 rfl rfl)
theorem dX8_jarsBehind_27 : decode cX8_jarsBehind 27 = .ok (.invokevirtual 381, 3) := dk_182 1 125 (dk_at dksX8_jarsBehind_1 5 rfl rfl)
theorem dX8_jarsBehind_30 : decode cX8_jarsBehind 30 = .ok (.iload_n 2, 1) := dk_28 (dk_at dksX8_jarsBehind_1 8 rfl rfl)
theorem dX8_jarsBehind_31 : decode cX8_jarsBehind 31 = .ok (.ireturn, 1) := dk_172 (dk_at dksX8_jarsBehind_1 9 rfl rfl)
abbrev cX8_best : ByteArray := prog_16_method_90_code
def yX8_best : MethodName := ⟨RX8, "best", "(II)I"⟩
def dkwX8_best_1 : List UInt8 := [28, 5, 160, 0, 10, 42, 182, 1, 145, 167, 0, 9, 42, 27, 28, 182, 1, 148, 172]
abbrev dktX8_best_1 : List UInt8 := dkwX8_best_1 ++ []
def dkwX8_best_0 : List UInt8 := [42, 27, 182, 0, 101, 153, 0, 15, 28, 133, 9, 20, 1, 118, 184, 0, 86, 154, 0, 7, 17, 252, 24, 172]
abbrev dktX8_best_0 : List UInt8 := dkwX8_best_0 ++ dktX8_best_1
theorem dksX8_best_0 : cX8_best.data.toList.drop 0 = dktX8_best_0 := by decide +kernel
theorem dksX8_best_1 : cX8_best.data.toList.drop 24 = dktX8_best_1 := dk_seg dksX8_best_0 24 rfl rfl
theorem dX8_best_0 : decode cX8_best 0 = .ok (.aload_n 0, 1) := dk_42 (dk_at dksX8_best_0 0 rfl rfl)
theorem dX8_best_1 : decode cX8_best 1 = .ok (.iload_n 1, 1) := dk_27 (dk_at dksX8_best_0 1 rfl rfl)
theorem dX8_best_2 : decode cX8_best 2 = .ok (.invokevirtual 101, 3) := dk_182 0 101 (dk_at dksX8_best_0 2 rfl rfl)
theorem dX8_best_5 : decode cX8_best 5 = .ok (.ifCond .eq 15, 3) := dk_153 0 15 (dk_at dksX8_best_0 5 rfl rfl)
theorem dX8_best_8 : decode cX8_best 8 = .ok (.iload_n 2, 1) := dk_28 (dk_at dksX8_best_0 8 rfl rfl)
theorem dX8_best_9 : decode cX8_best 9 = .ok (.i2l, 1) := dk_133 (dk_at dksX8_best_0 9 rfl rfl)
theorem dX8_best_10 : decode cX8_best 10 = .ok (.lconst 0, 1) := dk_9 (dk_at dksX8_best_0 10 rfl rfl)
theorem dX8_best_11 : decode cX8_best 11 = .ok (.ldc2_w 374, 3) := dk_20 1 118 (dk_at dksX8_best_0 11 rfl rfl)
theorem dX8_best_14 : decode cX8_best 14 = .ok (.invokestatic 86, 3) := dk_184 0 86 (dk_at dksX8_best_0 14 rfl rfl)
theorem dX8_best_17 : decode cX8_best 17 = .ok (.ifCond .ne 7, 3) := dk_154 0 7 (dk_at dksX8_best_0 17 rfl rfl)
theorem dX8_best_20 : decode cX8_best 20 = .ok (.sipush (-1000), 3) := dk_17 252 24 (dk_at dksX8_best_0 20 rfl rfl)
theorem dX8_best_23 : decode cX8_best 23 = .ok (.ireturn, 1) := dk_172 (dk_at dksX8_best_0 23 rfl rfl)
theorem dX8_best_24 : decode cX8_best 24 = .ok (.iload_n 2, 1) := dk_28 (dk_at dksX8_best_1 0 rfl rfl)
theorem dX8_best_25 : decode cX8_best 25 = .ok (.iconst 2, 1) := dk_5 (dk_at dksX8_best_1 1 rfl rfl)
theorem dX8_best_26 : decode cX8_best 26 = .ok (.if_icmp .ne 10, 3) := dk_160 0 10 (dk_at dksX8_best_1 2 rfl rfl)
theorem dX8_best_29 : decode cX8_best 29 = .ok (.aload_n 0, 1) := dk_42 (dk_at dksX8_best_1 5 rfl rfl)
theorem dX8_best_30 : decode cX8_best 30 = .ok (.invokevirtual 401, 3) := dk_182 1 145 (dk_at dksX8_best_1 6 rfl rfl)
theorem dX8_best_33 : decode cX8_best 33 = .ok (.goto 9, 3) := dk_167 0 9 (dk_at dksX8_best_1 9 rfl rfl)
theorem dX8_best_36 : decode cX8_best 36 = .ok (.aload_n 0, 1) := dk_42 (dk_at dksX8_best_1 12 rfl rfl)
theorem dX8_best_37 : decode cX8_best 37 = .ok (.iload_n 1, 1) := dk_27 (dk_at dksX8_best_1 13 rfl rfl)
theorem dX8_best_38 : decode cX8_best 38 = .ok (.iload_n 2, 1) := dk_28 (dk_at dksX8_best_1 14 rfl rfl)
theorem dX8_best_39 : decode cX8_best 39 = .ok (.invokevirtual 404, 3) := dk_182 1 148 (dk_at dksX8_best_1 15 rfl rfl)
theorem dX8_best_42 : decode cX8_best 42 = .ok (.ireturn, 1) := dk_172 (dk_at dksX8_best_1 18 rfl rfl)
abbrev cX8_shelf : ByteArray := prog_16_method_89_code
def yX8_shelf : MethodName := ⟨RX8, "shelf", "()I"⟩
def dkwX8_shelf_1 : List UInt8 := [42, 180, 0, 26, 29, 46, 61, 132, 3, 1, 167, 255, 228, 27, 172]
abbrev dktX8_shelf_1 : List UInt8 := dkwX8_shelf_1 ++ []
def dkwX8_shelf_0 : List UInt8 := [2, 60, 3, 61, 3, 62, 29, 16, 24, 162, 0, 28, 42, 180, 0, 26, 29, 46, 28, 164, 0, 12, 29, 60]
abbrev dktX8_shelf_0 : List UInt8 := dkwX8_shelf_0 ++ dktX8_shelf_1
theorem dksX8_shelf_0 : cX8_shelf.data.toList.drop 0 = dktX8_shelf_0 := by decide +kernel
theorem dksX8_shelf_1 : cX8_shelf.data.toList.drop 24 = dktX8_shelf_1 := dk_seg dksX8_shelf_0 24 rfl rfl
theorem dX8_shelf_0 : decode cX8_shelf 0 = .ok (.iconst (-1), 1) := dk_2 (dk_at dksX8_shelf_0 0 rfl rfl)
theorem dX8_shelf_1 : decode cX8_shelf 1 = .ok (.istore_n 1, 1) := dk_60 (dk_at dksX8_shelf_0 1 rfl rfl)
theorem dX8_shelf_2 : decode cX8_shelf 2 = .ok (.iconst 0, 1) := dk_3 (dk_at dksX8_shelf_0 2 rfl rfl)
theorem dX8_shelf_3 : decode cX8_shelf 3 = .ok (.istore_n 2, 1) := dk_61 (dk_at dksX8_shelf_0 3 rfl rfl)
theorem dX8_shelf_4 : decode cX8_shelf 4 = .ok (.iconst 0, 1) := dk_3 (dk_at dksX8_shelf_0 4 rfl rfl)
theorem dX8_shelf_5 : decode cX8_shelf 5 = .ok (.istore_n 3, 1) := dk_62 (dk_at dksX8_shelf_0 5 rfl rfl)
theorem dX8_shelf_6 : decode cX8_shelf 6 = .ok (.iload_n 3, 1) := dk_29 (dk_at dksX8_shelf_0 6 rfl rfl)
theorem dX8_shelf_7 : decode cX8_shelf 7 = .ok (.bipush 24, 2) := dk_16 24 (dk_at dksX8_shelf_0 7 rfl rfl)
theorem dX8_shelf_9 : decode cX8_shelf 9 = .ok (.if_icmp .ge 28, 3) := dk_162 0 28 (dk_at dksX8_shelf_0 9 rfl rfl)
theorem dX8_shelf_12 : decode cX8_shelf 12 = .ok (.aload_n 0, 1) := dk_42 (dk_at dksX8_shelf_0 12 rfl rfl)
theorem dX8_shelf_13 : decode cX8_shelf 13 = .ok (.getfield 26, 3) := dk_180 0 26 (dk_at dksX8_shelf_0 13 rfl rfl)
theorem dX8_shelf_16 : decode cX8_shelf 16 = .ok (.iload_n 3, 1) := dk_29 (dk_at dksX8_shelf_0 16 rfl rfl)
theorem dX8_shelf_17 : decode cX8_shelf 17 = .ok (.iaload, 1) := dk_46 (dk_at dksX8_shelf_0 17 rfl rfl)
theorem dX8_shelf_18 : decode cX8_shelf 18 = .ok (.iload_n 2, 1) := dk_28 (dk_at dksX8_shelf_0 18 rfl rfl)
theorem dX8_shelf_19 : decode cX8_shelf 19 = .ok (.if_icmp .le 12, 3) := dk_164 0 12 (dk_at dksX8_shelf_0 19 rfl rfl)
theorem dX8_shelf_22 : decode cX8_shelf 22 = .ok (.iload_n 3, 1) := dk_29 (dk_at dksX8_shelf_0 22 rfl rfl)
theorem dX8_shelf_23 : decode cX8_shelf 23 = .ok (.istore_n 1, 1) := dk_60 (dk_at dksX8_shelf_0 23 rfl rfl)
theorem dX8_shelf_24 : decode cX8_shelf 24 = .ok (.aload_n 0, 1) := dk_42 (dk_at dksX8_shelf_1 0 rfl rfl)
theorem dX8_shelf_25 : decode cX8_shelf 25 = .ok (.getfield 26, 3) := dk_180 0 26 (dk_at dksX8_shelf_1 1 rfl rfl)
theorem dX8_shelf_28 : decode cX8_shelf 28 = .ok (.iload_n 3, 1) := dk_29 (dk_at dksX8_shelf_1 4 rfl rfl)
theorem dX8_shelf_29 : decode cX8_shelf 29 = .ok (.iaload, 1) := dk_46 (dk_at dksX8_shelf_1 5 rfl rfl)
theorem dX8_shelf_30 : decode cX8_shelf 30 = .ok (.istore_n 2, 1) := dk_61 (dk_at dksX8_shelf_1 6 rfl rfl)
theorem dX8_shelf_31 : decode cX8_shelf 31 = .ok (.iinc 3 1, 3) := dk_132 3 1 (dk_at dksX8_shelf_1 7 rfl rfl)
theorem dX8_shelf_34 : decode cX8_shelf 34 = .ok (.goto (-28), 3) := dk_167 255 228 (dk_at dksX8_shelf_1 10 rfl rfl)
theorem dX8_shelf_37 : decode cX8_shelf 37 = .ok (.iload_n 1, 1) := dk_27 (dk_at dksX8_shelf_1 13 rfl rfl)
theorem dX8_shelf_38 : decode cX8_shelf 38 = .ok (.ireturn, 1) := dk_172 (dk_at dksX8_shelf_1 14 rfl rfl)
abbrev cX8_spoonFor : ByteArray := prog_16_method_88_code
def yX8_spoonFor : MethodName := ⟨RX8, "spoonFor", "(II)I"⟩
def dkwX8_spoonFor_2 : List UInt8 := [21, 5, 62, 21, 6, 54, 4, 132, 5, 1, 167, 255, 208, 28, 154, 0, 7, 29, 167, 0, 5, 21, 4, 172]
abbrev dktX8_spoonFor_2 : List UInt8 := dkwX8_spoonFor_2 ++ []
def dkwX8_spoonFor_1 : List UInt8 := [158, 0, 31, 42, 27, 21, 5, 182, 1, 105, 54, 6, 29, 2, 159, 0, 10, 21, 6, 21, 4, 164, 0, 10]
abbrev dktX8_spoonFor_1 : List UInt8 := dkwX8_spoonFor_1 ++ dktX8_spoonFor_2
def dkwX8_spoonFor_0 : List UInt8 := [2, 62, 3, 54, 4, 3, 54, 5, 21, 5, 16, 24, 162, 0, 47, 42, 180, 0, 26, 21, 5, 46]
abbrev dktX8_spoonFor_0 : List UInt8 := dkwX8_spoonFor_0 ++ dktX8_spoonFor_1
theorem dksX8_spoonFor_0 : cX8_spoonFor.data.toList.drop 0 = dktX8_spoonFor_0 := by decide +kernel
theorem dksX8_spoonFor_1 : cX8_spoonFor.data.toList.drop 22 = dktX8_spoonFor_1 := dk_seg dksX8_spoonFor_0 22 rfl rfl
theorem dksX8_spoonFor_2 : cX8_spoonFor.data.toList.drop 46 = dktX8_spoonFor_2 := dk_seg dksX8_spoonFor_1 24 rfl rfl
theorem dX8_spoonFor_0 : decode cX8_spoonFor 0 = .ok (.iconst (-1), 1) := dk_2 (dk_at dksX8_spoonFor_0 0 rfl rfl)
theorem dX8_spoonFor_1 : decode cX8_spoonFor 1 = .ok (.istore_n 3, 1) := dk_62 (dk_at dksX8_spoonFor_0 1 rfl rfl)
theorem dX8_spoonFor_2 : decode cX8_spoonFor 2 = .ok (.iconst 0, 1) := dk_3 (dk_at dksX8_spoonFor_0 2 rfl rfl)
theorem dX8_spoonFor_3 : decode cX8_spoonFor 3 = .ok (.istore 4, 2) := dk_54 4 (dk_at dksX8_spoonFor_0 3 rfl rfl)
theorem dX8_spoonFor_5 : decode cX8_spoonFor 5 = .ok (.iconst 0, 1) := dk_3 (dk_at dksX8_spoonFor_0 5 rfl rfl)
theorem dX8_spoonFor_6 : decode cX8_spoonFor 6 = .ok (.istore 5, 2) := dk_54 5 (dk_at dksX8_spoonFor_0 6 rfl rfl)
theorem dX8_spoonFor_8 : decode cX8_spoonFor 8 = .ok (.iload 5, 2) := dk_21 5 (dk_at dksX8_spoonFor_0 8 rfl rfl)
theorem dX8_spoonFor_10 : decode cX8_spoonFor 10 = .ok (.bipush 24, 2) := dk_16 24 (dk_at dksX8_spoonFor_0 10 rfl rfl)
theorem dX8_spoonFor_12 : decode cX8_spoonFor 12 = .ok (.if_icmp .ge 47, 3) := dk_162 0 47 (dk_at dksX8_spoonFor_0 12 rfl rfl)
theorem dX8_spoonFor_15 : decode cX8_spoonFor 15 = .ok (.aload_n 0, 1) := dk_42 (dk_at dksX8_spoonFor_0 15 rfl rfl)
theorem dX8_spoonFor_16 : decode cX8_spoonFor 16 = .ok (.getfield 26, 3) := dk_180 0 26 (dk_at dksX8_spoonFor_0 16 rfl rfl)
theorem dX8_spoonFor_19 : decode cX8_spoonFor 19 = .ok (.iload 5, 2) := dk_21 5 (dk_at dksX8_spoonFor_0 19 rfl rfl)
theorem dX8_spoonFor_21 : decode cX8_spoonFor 21 = .ok (.iaload, 1) := dk_46 (dk_at dksX8_spoonFor_0 21 rfl rfl)
theorem dX8_spoonFor_22 : decode cX8_spoonFor 22 = .ok (.ifCond .le 31, 3) := dk_158 0 31 (dk_at dksX8_spoonFor_1 0 rfl rfl)
theorem dX8_spoonFor_25 : decode cX8_spoonFor 25 = .ok (.aload_n 0, 1) := dk_42 (dk_at dksX8_spoonFor_1 3 rfl rfl)
theorem dX8_spoonFor_26 : decode cX8_spoonFor 26 = .ok (.iload_n 1, 1) := dk_27 (dk_at dksX8_spoonFor_1 4 rfl rfl)
theorem dX8_spoonFor_27 : decode cX8_spoonFor 27 = .ok (.iload 5, 2) := dk_21 5 (dk_at dksX8_spoonFor_1 5 rfl rfl)
theorem dX8_spoonFor_29 : decode cX8_spoonFor 29 = .ok (.invokevirtual 361, 3) := dk_182 1 105 (dk_at dksX8_spoonFor_1 7 rfl rfl)
theorem dX8_spoonFor_32 : decode cX8_spoonFor 32 = .ok (.istore 6, 2) := dk_54 6 (dk_at dksX8_spoonFor_1 10 rfl rfl)
theorem dX8_spoonFor_34 : decode cX8_spoonFor 34 = .ok (.iload_n 3, 1) := dk_29 (dk_at dksX8_spoonFor_1 12 rfl rfl)
theorem dX8_spoonFor_35 : decode cX8_spoonFor 35 = .ok (.iconst (-1), 1) := dk_2 (dk_at dksX8_spoonFor_1 13 rfl rfl)
theorem dX8_spoonFor_36 : decode cX8_spoonFor 36 = .ok (.if_icmp .eq 10, 3) := dk_159 0 10 (dk_at dksX8_spoonFor_1 14 rfl rfl)
theorem dX8_spoonFor_39 : decode cX8_spoonFor 39 = .ok (.iload 6, 2) := dk_21 6 (dk_at dksX8_spoonFor_1 17 rfl rfl)
theorem dX8_spoonFor_41 : decode cX8_spoonFor 41 = .ok (.iload 4, 2) := dk_21 4 (dk_at dksX8_spoonFor_1 19 rfl rfl)
theorem dX8_spoonFor_43 : decode cX8_spoonFor 43 = .ok (.if_icmp .le 10, 3) := dk_164 0 10 (dk_at dksX8_spoonFor_1 21 rfl rfl)
theorem dX8_spoonFor_46 : decode cX8_spoonFor 46 = .ok (.iload 5, 2) := dk_21 5 (dk_at dksX8_spoonFor_2 0 rfl rfl)
theorem dX8_spoonFor_48 : decode cX8_spoonFor 48 = .ok (.istore_n 3, 1) := dk_62 (dk_at dksX8_spoonFor_2 2 rfl rfl)
theorem dX8_spoonFor_49 : decode cX8_spoonFor 49 = .ok (.iload 6, 2) := dk_21 6 (dk_at dksX8_spoonFor_2 3 rfl rfl)
theorem dX8_spoonFor_51 : decode cX8_spoonFor 51 = .ok (.istore 4, 2) := dk_54 4 (dk_at dksX8_spoonFor_2 5 rfl rfl)
theorem dX8_spoonFor_53 : decode cX8_spoonFor 53 = .ok (.iinc 5 1, 3) := dk_132 5 1 (dk_at dksX8_spoonFor_2 7 rfl rfl)
theorem dX8_spoonFor_56 : decode cX8_spoonFor 56 = .ok (.goto (-48), 3) := dk_167 255 208 (dk_at dksX8_spoonFor_2 10 rfl rfl)
theorem dX8_spoonFor_59 : decode cX8_spoonFor 59 = .ok (.iload_n 2, 1) := dk_28 (dk_at dksX8_spoonFor_2 13 rfl rfl)
theorem dX8_spoonFor_60 : decode cX8_spoonFor 60 = .ok (.ifCond .ne 7, 3) := dk_154 0 7 (dk_at dksX8_spoonFor_2 14 rfl rfl)
theorem dX8_spoonFor_63 : decode cX8_spoonFor 63 = .ok (.iload_n 3, 1) := dk_29 (dk_at dksX8_spoonFor_2 17 rfl rfl)
theorem dX8_spoonFor_64 : decode cX8_spoonFor 64 = .ok (.goto 5, 3) := dk_167 0 5 (dk_at dksX8_spoonFor_2 18 rfl rfl)
theorem dX8_spoonFor_67 : decode cX8_spoonFor 67 = .ok (.iload 4, 2) := dk_21 4 (dk_at dksX8_spoonFor_2 21 rfl rfl)
theorem dX8_spoonFor_69 : decode cX8_spoonFor 69 = .ok (.ireturn, 1) := dk_172 (dk_at dksX8_spoonFor_2 23 rfl rfl)
abbrev cX8_tells : ByteArray := prog_16_method_93_code
def yX8_tells : MethodName := ⟨RX8, "tells", "(III)I"⟩
def dkwX8_tells_13 : List UInt8 := [160, 0, 8, 21, 8, 167, 0, 15, 29, 8, 160, 0, 8, 21, 9, 167, 0, 5, 21, 7, 172]
abbrev dktX8_tells_13 : List UInt8 := dkwX8_tells_13 ++ []
def dkwX8_tells_12 : List UInt8 := [132, 8, 1, 21, 10, 54, 9, 132, 10, 255, 167, 255, 184, 42, 21, 4, 28, 21, 5, 182, 0, 120, 29, 7]
abbrev dktX8_tells_12 : List UInt8 := dkwX8_tells_12 ++ dktX8_tells_13
def dkwX8_tells_11 : List UInt8 := [21, 10, 133, 9, 20, 0, 90, 184, 0, 86, 153, 0, 10, 4, 21, 10, 120, 167, 0, 4, 3, 128, 54, 7]
abbrev dktX8_tells_11 : List UInt8 := dkwX8_tells_11 ++ dktX8_tells_12
def dkwX8_tells_10 : List UInt8 := [161, 0, 61, 42, 21, 4, 28, 21, 10, 182, 0, 120, 42, 27, 28, 182, 1, 151, 2, 160, 0, 36, 21, 7]
abbrev dktX8_tells_10 : List UInt8 := dkwX8_tells_10 ++ dktX8_tells_11
def dkwX8_tells_9 : List UInt8 := [16, 156, 54, 9, 21, 6, 54, 10, 21, 10, 21, 4, 8, 160, 0, 8, 16, 157, 167, 0, 4, 3]
abbrev dktX8_tells_9 : List UInt8 := dkwX8_tells_9 ++ dktX8_tells_10
def dkwX8_tells_8 : List UInt8 := [167, 0, 16, 21, 4, 7, 160, 0, 8, 16, 11, 167, 0, 5, 16, 99, 54, 6, 3, 54, 7, 3, 54, 8]
abbrev dktX8_tells_8 : List UInt8 := dkwX8_tells_8 ++ dktX8_tells_9
def dkwX8_tells_7 : List UInt8 := [100, 167, 0, 38, 21, 4, 16, 7, 160, 0, 7, 8, 167, 0, 27, 21, 4, 6, 160, 0, 8, 16, 9]
abbrev dktX8_tells_7 : List UInt8 := dkwX8_tells_7 ++ dktX8_tells_8
def dkwX8_tells_6 : List UInt8 := [167, 0, 10, 42, 28, 21, 4, 182, 0, 116, 54, 5, 21, 4, 16, 8, 160, 0, 12, 42, 180, 0, 80, 4]
abbrev dktX8_tells_6 : List UInt8 := dkwX8_tells_6 ++ dktX8_tells_7
def dkwX8_tells_5 : List UInt8 := [16, 6, 160, 0, 8, 16, 8, 167, 0, 4, 8, 54, 4, 21, 4, 16, 8, 160, 0, 10, 42, 180, 0, 127]
abbrev dktX8_tells_5 : List UInt8 := dkwX8_tells_5 ++ dktX8_tells_6
def dkwX8_tells_4 : List UInt8 := [16, 7, 167, 0, 33, 29, 5, 160, 0, 7, 6, 167, 0, 24, 29, 6, 160, 0, 7, 7, 167, 0, 15, 29]
abbrev dktX8_tells_4 : List UInt8 := dkwX8_tells_4 ++ dktX8_tells_5
def dkwX8_tells_3 : List UInt8 := [154, 0, 12, 42, 27, 28, 182, 1, 151, 167, 0, 8, 42, 27, 182, 1, 159, 172, 29, 4, 160, 0, 8]
abbrev dktX8_tells_3 : List UInt8 := dkwX8_tells_3 ++ dktX8_tells_4
def dkwX8_tells_2 : List UInt8 := [27, 46, 16, 30, 164, 0, 7, 17, 252, 21, 172, 29, 153, 0, 9, 29, 16, 7, 160, 0, 22, 29]
abbrev dktX8_tells_2 : List UInt8 := dkwX8_tells_2 ++ dktX8_tells_3
def dkwX8_tells_1 : List UInt8 := [154, 0, 7, 17, 252, 22, 172, 42, 180, 0, 63, 27, 51, 154, 0, 7, 17, 252, 13, 172, 42, 180, 0, 70]
abbrev dktX8_tells_1 : List UInt8 := dkwX8_tells_1 ++ dktX8_tells_2
def dkwX8_tells_0 : List UInt8 := [27, 184, 1, 154, 153, 0, 23, 42, 28, 182, 0, 101, 153, 0, 15, 29, 133, 9, 20, 1, 157, 184, 0, 86]
abbrev dktX8_tells_0 : List UInt8 := dkwX8_tells_0 ++ dktX8_tells_1
theorem dksX8_tells_0 : cX8_tells.data.toList.drop 0 = dktX8_tells_0 := by decide +kernel
theorem dksX8_tells_1 : cX8_tells.data.toList.drop 24 = dktX8_tells_1 := dk_seg dksX8_tells_0 24 rfl rfl
theorem dksX8_tells_2 : cX8_tells.data.toList.drop 48 = dktX8_tells_2 := dk_seg dksX8_tells_1 24 rfl rfl
theorem dksX8_tells_3 : cX8_tells.data.toList.drop 70 = dktX8_tells_3 := dk_seg dksX8_tells_2 22 rfl rfl
theorem dksX8_tells_4 : cX8_tells.data.toList.drop 93 = dktX8_tells_4 := dk_seg dksX8_tells_3 23 rfl rfl
theorem dksX8_tells_5 : cX8_tells.data.toList.drop 117 = dktX8_tells_5 := dk_seg dksX8_tells_4 24 rfl rfl
theorem dksX8_tells_6 : cX8_tells.data.toList.drop 141 = dktX8_tells_6 := dk_seg dksX8_tells_5 24 rfl rfl
theorem dksX8_tells_7 : cX8_tells.data.toList.drop 165 = dktX8_tells_7 := dk_seg dksX8_tells_6 24 rfl rfl
theorem dksX8_tells_8 : cX8_tells.data.toList.drop 188 = dktX8_tells_8 := dk_seg dksX8_tells_7 23 rfl rfl
theorem dksX8_tells_9 : cX8_tells.data.toList.drop 212 = dktX8_tells_9 := dk_seg dksX8_tells_8 24 rfl rfl
theorem dksX8_tells_10 : cX8_tells.data.toList.drop 234 = dktX8_tells_10 := dk_seg dksX8_tells_9 22 rfl rfl
theorem dksX8_tells_11 : cX8_tells.data.toList.drop 258 = dktX8_tells_11 := dk_seg dksX8_tells_10 24 rfl rfl
theorem dksX8_tells_12 : cX8_tells.data.toList.drop 282 = dktX8_tells_12 := dk_seg dksX8_tells_11 24 rfl rfl
theorem dksX8_tells_13 : cX8_tells.data.toList.drop 306 = dktX8_tells_13 := dk_seg dksX8_tells_12 24 rfl rfl
theorem dX8_tells_0 : decode cX8_tells 0 = .ok (.iload_n 1, 1) := dk_27 (dk_at dksX8_tells_0 0 rfl rfl)
theorem dX8_tells_1 : decode cX8_tells 1 = .ok (.invokestatic 410, 3) := dk_184 1 154 (dk_at dksX8_tells_0 1 rfl rfl)
theorem dX8_tells_4 : decode cX8_tells 4 = .ok (.ifCond .eq 23, 3) := dk_153 0 23 (dk_at dksX8_tells_0 4 rfl rfl)
theorem dX8_tells_7 : decode cX8_tells 7 = .ok (.aload_n 0, 1) := dk_42 (dk_at dksX8_tells_0 7 rfl rfl)
theorem dX8_tells_8 : decode cX8_tells 8 = .ok (.iload_n 2, 1) := dk_28 (dk_at dksX8_tells_0 8 rfl rfl)
theorem dX8_tells_9 : decode cX8_tells 9 = .ok (.invokevirtual 101, 3) := dk_182 0 101 (dk_at dksX8_tells_0 9 rfl rfl)
theorem dX8_tells_12 : decode cX8_tells 12 = .ok (.ifCond .eq 15, 3) := dk_153 0 15 (dk_at dksX8_tells_0 12 rfl rfl)
theorem dX8_tells_15 : decode cX8_tells 15 = .ok (.iload_n 3, 1) := dk_29 (dk_at dksX8_tells_0 15 rfl rfl)
theorem dX8_tells_16 : decode cX8_tells 16 = .ok (.i2l, 1) := dk_133 (dk_at dksX8_tells_0 16 rfl rfl)
theorem dX8_tells_17 : decode cX8_tells 17 = .ok (.lconst 0, 1) := dk_9 (dk_at dksX8_tells_0 17 rfl rfl)
theorem dX8_tells_18 : decode cX8_tells 18 = .ok (.ldc2_w 413, 3) := dk_20 1 157 (dk_at dksX8_tells_0 18 rfl rfl)
theorem dX8_tells_21 : decode cX8_tells 21 = .ok (.invokestatic 86, 3) := dk_184 0 86 (dk_at dksX8_tells_0 21 rfl rfl)
theorem dX8_tells_24 : decode cX8_tells 24 = .ok (.ifCond .ne 7, 3) := dk_154 0 7 (dk_at dksX8_tells_1 0 rfl rfl)
theorem dX8_tells_27 : decode cX8_tells 27 = .ok (.sipush (-1002), 3) := dk_17 252 22 (dk_at dksX8_tells_1 3 rfl rfl)
theorem dX8_tells_30 : decode cX8_tells 30 = .ok (.ireturn, 1) := dk_172 (dk_at dksX8_tells_1 6 rfl rfl)
theorem dX8_tells_31 : decode cX8_tells 31 = .ok (.aload_n 0, 1) := dk_42 (dk_at dksX8_tells_1 7 rfl rfl)
theorem dX8_tells_32 : decode cX8_tells 32 = .ok (.getfield 63, 3) := dk_180 0 63 (dk_at dksX8_tells_1 8 rfl rfl)
theorem dX8_tells_35 : decode cX8_tells 35 = .ok (.iload_n 1, 1) := dk_27 (dk_at dksX8_tells_1 11 rfl rfl)
theorem dX8_tells_36 : decode cX8_tells 36 = .ok (.baload, 1) := dk_51 (dk_at dksX8_tells_1 12 rfl rfl)
theorem dX8_tells_37 : decode cX8_tells 37 = .ok (.ifCond .ne 7, 3) := dk_154 0 7 (dk_at dksX8_tells_1 13 rfl rfl)
theorem dX8_tells_40 : decode cX8_tells 40 = .ok (.sipush (-1011), 3) := dk_17 252 13 (dk_at dksX8_tells_1 16 rfl rfl)
theorem dX8_tells_43 : decode cX8_tells 43 = .ok (.ireturn, 1) := dk_172 (dk_at dksX8_tells_1 19 rfl rfl)
theorem dX8_tells_44 : decode cX8_tells 44 = .ok (.aload_n 0, 1) := dk_42 (dk_at dksX8_tells_1 20 rfl rfl)
theorem dX8_tells_45 : decode cX8_tells 45 = .ok (.getfield 70, 3) := dk_180 0 70 (dk_at dksX8_tells_1 21 rfl rfl)
theorem dX8_tells_48 : decode cX8_tells 48 = .ok (.iload_n 1, 1) := dk_27 (dk_at dksX8_tells_2 0 rfl rfl)
theorem dX8_tells_49 : decode cX8_tells 49 = .ok (.iaload, 1) := dk_46 (dk_at dksX8_tells_2 1 rfl rfl)
theorem dX8_tells_50 : decode cX8_tells 50 = .ok (.bipush 30, 2) := dk_16 30 (dk_at dksX8_tells_2 2 rfl rfl)
theorem dX8_tells_52 : decode cX8_tells 52 = .ok (.if_icmp .le 7, 3) := dk_164 0 7 (dk_at dksX8_tells_2 4 rfl rfl)
theorem dX8_tells_55 : decode cX8_tells 55 = .ok (.sipush (-1003), 3) := dk_17 252 21 (dk_at dksX8_tells_2 7 rfl rfl)
theorem dX8_tells_58 : decode cX8_tells 58 = .ok (.ireturn, 1) := dk_172 (dk_at dksX8_tells_2 10 rfl rfl)
theorem dX8_tells_59 : decode cX8_tells 59 = .ok (.iload_n 3, 1) := dk_29 (dk_at dksX8_tells_2 11 rfl rfl)
theorem dX8_tells_60 : decode cX8_tells 60 = .ok (.ifCond .eq 9, 3) := dk_153 0 9 (dk_at dksX8_tells_2 12 rfl rfl)
theorem dX8_tells_63 : decode cX8_tells 63 = .ok (.iload_n 3, 1) := dk_29 (dk_at dksX8_tells_2 15 rfl rfl)
theorem dX8_tells_64 : decode cX8_tells 64 = .ok (.bipush 7, 2) := dk_16 7 (dk_at dksX8_tells_2 16 rfl rfl)
theorem dX8_tells_66 : decode cX8_tells 66 = .ok (.if_icmp .ne 22, 3) := dk_160 0 22 (dk_at dksX8_tells_2 18 rfl rfl)
theorem dX8_tells_69 : decode cX8_tells 69 = .ok (.iload_n 3, 1) := dk_29 (dk_at dksX8_tells_2 21 rfl rfl)
theorem dX8_tells_70 : decode cX8_tells 70 = .ok (.ifCond .ne 12, 3) := dk_154 0 12 (dk_at dksX8_tells_3 0 rfl rfl)
theorem dX8_tells_73 : decode cX8_tells 73 = .ok (.aload_n 0, 1) := dk_42 (dk_at dksX8_tells_3 3 rfl rfl)
theorem dX8_tells_74 : decode cX8_tells 74 = .ok (.iload_n 1, 1) := dk_27 (dk_at dksX8_tells_3 4 rfl rfl)
theorem dX8_tells_75 : decode cX8_tells 75 = .ok (.iload_n 2, 1) := dk_28 (dk_at dksX8_tells_3 5 rfl rfl)
theorem dX8_tells_76 : decode cX8_tells 76 = .ok (.invokevirtual 407, 3) := dk_182 1 151 (dk_at dksX8_tells_3 6 rfl rfl)
theorem dX8_tells_79 : decode cX8_tells 79 = .ok (.goto 8, 3) := dk_167 0 8 (dk_at dksX8_tells_3 9 rfl rfl)
theorem dX8_tells_82 : decode cX8_tells 82 = .ok (.aload_n 0, 1) := dk_42 (dk_at dksX8_tells_3 12 rfl rfl)
theorem dX8_tells_83 : decode cX8_tells 83 = .ok (.iload_n 1, 1) := dk_27 (dk_at dksX8_tells_3 13 rfl rfl)
theorem dX8_tells_84 : decode cX8_tells 84 = .ok (.invokevirtual 415, 3) := dk_182 1 159 (dk_at dksX8_tells_3 14 rfl rfl)
theorem dX8_tells_87 : decode cX8_tells 87 = .ok (.ireturn, 1) := dk_172 (dk_at dksX8_tells_3 17 rfl rfl)
theorem dX8_tells_88 : decode cX8_tells 88 = .ok (.iload_n 3, 1) := dk_29 (dk_at dksX8_tells_3 18 rfl rfl)
theorem dX8_tells_89 : decode cX8_tells 89 = .ok (.iconst 1, 1) := dk_4 (dk_at dksX8_tells_3 19 rfl rfl)
theorem dX8_tells_90 : decode cX8_tells 90 = .ok (.if_icmp .ne 8, 3) := dk_160 0 8 (dk_at dksX8_tells_3 20 rfl rfl)
theorem dX8_tells_93 : decode cX8_tells 93 = .ok (.bipush 7, 2) := dk_16 7 (dk_at dksX8_tells_4 0 rfl rfl)
theorem dX8_tells_95 : decode cX8_tells 95 = .ok (.goto 33, 3) := dk_167 0 33 (dk_at dksX8_tells_4 2 rfl rfl)
theorem dX8_tells_98 : decode cX8_tells 98 = .ok (.iload_n 3, 1) := dk_29 (dk_at dksX8_tells_4 5 rfl rfl)
theorem dX8_tells_99 : decode cX8_tells 99 = .ok (.iconst 2, 1) := dk_5 (dk_at dksX8_tells_4 6 rfl rfl)
theorem dX8_tells_100 : decode cX8_tells 100 = .ok (.if_icmp .ne 7, 3) := dk_160 0 7 (dk_at dksX8_tells_4 7 rfl rfl)
theorem dX8_tells_103 : decode cX8_tells 103 = .ok (.iconst 3, 1) := dk_6 (dk_at dksX8_tells_4 10 rfl rfl)
theorem dX8_tells_104 : decode cX8_tells 104 = .ok (.goto 24, 3) := dk_167 0 24 (dk_at dksX8_tells_4 11 rfl rfl)
theorem dX8_tells_107 : decode cX8_tells 107 = .ok (.iload_n 3, 1) := dk_29 (dk_at dksX8_tells_4 14 rfl rfl)
theorem dX8_tells_108 : decode cX8_tells 108 = .ok (.iconst 3, 1) := dk_6 (dk_at dksX8_tells_4 15 rfl rfl)
theorem dX8_tells_109 : decode cX8_tells 109 = .ok (.if_icmp .ne 7, 3) := dk_160 0 7 (dk_at dksX8_tells_4 16 rfl rfl)
theorem dX8_tells_112 : decode cX8_tells 112 = .ok (.iconst 4, 1) := dk_7 (dk_at dksX8_tells_4 19 rfl rfl)
theorem dX8_tells_113 : decode cX8_tells 113 = .ok (.goto 15, 3) := dk_167 0 15 (dk_at dksX8_tells_4 20 rfl rfl)
theorem dX8_tells_116 : decode cX8_tells 116 = .ok (.iload_n 3, 1) := dk_29 (dk_at dksX8_tells_4 23 rfl rfl)
theorem dX8_tells_117 : decode cX8_tells 117 = .ok (.bipush 6, 2) := dk_16 6 (dk_at dksX8_tells_5 0 rfl rfl)
theorem dX8_tells_119 : decode cX8_tells 119 = .ok (.if_icmp .ne 8, 3) := dk_160 0 8 (dk_at dksX8_tells_5 2 rfl rfl)
theorem dX8_tells_122 : decode cX8_tells 122 = .ok (.bipush 8, 2) := dk_16 8 (dk_at dksX8_tells_5 5 rfl rfl)
theorem dX8_tells_124 : decode cX8_tells 124 = .ok (.goto 4, 3) := dk_167 0 4 (dk_at dksX8_tells_5 7 rfl rfl)
theorem dX8_tells_127 : decode cX8_tells 127 = .ok (.iconst 5, 1) := dk_8 (dk_at dksX8_tells_5 10 rfl rfl)
theorem dX8_tells_128 : decode cX8_tells 128 = .ok (.istore 4, 2) := dk_54 4 (dk_at dksX8_tells_5 11 rfl rfl)
theorem dX8_tells_130 : decode cX8_tells 130 = .ok (.iload 4, 2) := dk_21 4 (dk_at dksX8_tells_5 13 rfl rfl)
theorem dX8_tells_132 : decode cX8_tells 132 = .ok (.bipush 8, 2) := dk_16 8 (dk_at dksX8_tells_5 15 rfl rfl)
theorem dX8_tells_134 : decode cX8_tells 134 = .ok (.if_icmp .ne 10, 3) := dk_160 0 10 (dk_at dksX8_tells_5 17 rfl rfl)
theorem dX8_tells_137 : decode cX8_tells 137 = .ok (.aload_n 0, 1) := dk_42 (dk_at dksX8_tells_5 20 rfl rfl)
theorem dX8_tells_138 : decode cX8_tells 138 = .ok (.getfield 127, 3) := dk_180 0 127 (dk_at dksX8_tells_5 21 rfl rfl)
theorem dX8_tells_141 : decode cX8_tells 141 = .ok (.goto 10, 3) := dk_167 0 10 (dk_at dksX8_tells_6 0 rfl rfl)
theorem dX8_tells_144 : decode cX8_tells 144 = .ok (.aload_n 0, 1) := dk_42 (dk_at dksX8_tells_6 3 rfl rfl)
theorem dX8_tells_145 : decode cX8_tells 145 = .ok (.iload_n 2, 1) := dk_28 (dk_at dksX8_tells_6 4 rfl rfl)
theorem dX8_tells_146 : decode cX8_tells 146 = .ok (.iload 4, 2) := dk_21 4 (dk_at dksX8_tells_6 5 rfl rfl)
theorem dX8_tells_148 : decode cX8_tells 148 = .ok (.invokevirtual 116, 3) := dk_182 0 116 (dk_at dksX8_tells_6 7 rfl rfl)
theorem dX8_tells_151 : decode cX8_tells 151 = .ok (.istore 5, 2) := dk_54 5 (dk_at dksX8_tells_6 10 rfl rfl)
theorem dX8_tells_153 : decode cX8_tells 153 = .ok (.iload 4, 2) := dk_21 4 (dk_at dksX8_tells_6 12 rfl rfl)
theorem dX8_tells_155 : decode cX8_tells 155 = .ok (.bipush 8, 2) := dk_16 8 (dk_at dksX8_tells_6 14 rfl rfl)
theorem dX8_tells_157 : decode cX8_tells 157 = .ok (.if_icmp .ne 12, 3) := dk_160 0 12 (dk_at dksX8_tells_6 16 rfl rfl)
theorem dX8_tells_160 : decode cX8_tells 160 = .ok (.aload_n 0, 1) := dk_42 (dk_at dksX8_tells_6 19 rfl rfl)
theorem dX8_tells_161 : decode cX8_tells 161 = .ok (.getfield 80, 3) := dk_180 0 80 (dk_at dksX8_tells_6 20 rfl rfl)
theorem dX8_tells_164 : decode cX8_tells 164 = .ok (.iconst 1, 1) := dk_4 (dk_at dksX8_tells_6 23 rfl rfl)
theorem dX8_tells_165 : decode cX8_tells 165 = .ok (.isub, 1) := dk_100 (dk_at dksX8_tells_7 0 rfl rfl)
theorem dX8_tells_166 : decode cX8_tells 166 = .ok (.goto 38, 3) := dk_167 0 38 (dk_at dksX8_tells_7 1 rfl rfl)
theorem dX8_tells_169 : decode cX8_tells 169 = .ok (.iload 4, 2) := dk_21 4 (dk_at dksX8_tells_7 4 rfl rfl)
theorem dX8_tells_171 : decode cX8_tells 171 = .ok (.bipush 7, 2) := dk_16 7 (dk_at dksX8_tells_7 6 rfl rfl)
theorem dX8_tells_173 : decode cX8_tells 173 = .ok (.if_icmp .ne 7, 3) := dk_160 0 7 (dk_at dksX8_tells_7 8 rfl rfl)
theorem dX8_tells_176 : decode cX8_tells 176 = .ok (.iconst 5, 1) := dk_8 (dk_at dksX8_tells_7 11 rfl rfl)
theorem dX8_tells_177 : decode cX8_tells 177 = .ok (.goto 27, 3) := dk_167 0 27 (dk_at dksX8_tells_7 12 rfl rfl)
theorem dX8_tells_180 : decode cX8_tells 180 = .ok (.iload 4, 2) := dk_21 4 (dk_at dksX8_tells_7 15 rfl rfl)
theorem dX8_tells_182 : decode cX8_tells 182 = .ok (.iconst 3, 1) := dk_6 (dk_at dksX8_tells_7 17 rfl rfl)
theorem dX8_tells_183 : decode cX8_tells 183 = .ok (.if_icmp .ne 8, 3) := dk_160 0 8 (dk_at dksX8_tells_7 18 rfl rfl)
theorem dX8_tells_186 : decode cX8_tells 186 = .ok (.bipush 9, 2) := dk_16 9 (dk_at dksX8_tells_7 21 rfl rfl)
theorem dX8_tells_188 : decode cX8_tells 188 = .ok (.goto 16, 3) := dk_167 0 16 (dk_at dksX8_tells_8 0 rfl rfl)
theorem dX8_tells_191 : decode cX8_tells 191 = .ok (.iload 4, 2) := dk_21 4 (dk_at dksX8_tells_8 3 rfl rfl)
theorem dX8_tells_193 : decode cX8_tells 193 = .ok (.iconst 4, 1) := dk_7 (dk_at dksX8_tells_8 5 rfl rfl)
theorem dX8_tells_194 : decode cX8_tells 194 = .ok (.if_icmp .ne 8, 3) := dk_160 0 8 (dk_at dksX8_tells_8 6 rfl rfl)
theorem dX8_tells_197 : decode cX8_tells 197 = .ok (.bipush 11, 2) := dk_16 11 (dk_at dksX8_tells_8 9 rfl rfl)
theorem dX8_tells_199 : decode cX8_tells 199 = .ok (.goto 5, 3) := dk_167 0 5 (dk_at dksX8_tells_8 11 rfl rfl)
theorem dX8_tells_202 : decode cX8_tells 202 = .ok (.bipush 99, 2) := dk_16 99 (dk_at dksX8_tells_8 14 rfl rfl)
theorem dX8_tells_204 : decode cX8_tells 204 = .ok (.istore 6, 2) := dk_54 6 (dk_at dksX8_tells_8 16 rfl rfl)
theorem dX8_tells_206 : decode cX8_tells 206 = .ok (.iconst 0, 1) := dk_3 (dk_at dksX8_tells_8 18 rfl rfl)
theorem dX8_tells_207 : decode cX8_tells 207 = .ok (.istore 7, 2) := dk_54 7 (dk_at dksX8_tells_8 19 rfl rfl)
theorem dX8_tells_209 : decode cX8_tells 209 = .ok (.iconst 0, 1) := dk_3 (dk_at dksX8_tells_8 21 rfl rfl)
theorem dX8_tells_210 : decode cX8_tells 210 = .ok (.istore 8, 2) := dk_54 8 (dk_at dksX8_tells_8 22 rfl rfl)
theorem dX8_tells_212 : decode cX8_tells 212 = .ok (.bipush (-100), 2) := dk_16 156 (dk_at dksX8_tells_9 0 rfl rfl)
theorem dX8_tells_214 : decode cX8_tells 214 = .ok (.istore 9, 2) := dk_54 9 (dk_at dksX8_tells_9 2 rfl rfl)
theorem dX8_tells_216 : decode cX8_tells 216 = .ok (.iload 6, 2) := dk_21 6 (dk_at dksX8_tells_9 4 rfl rfl)
theorem dX8_tells_218 : decode cX8_tells 218 = .ok (.istore 10, 2) := dk_54 10 (dk_at dksX8_tells_9 6 rfl rfl)
theorem dX8_tells_220 : decode cX8_tells 220 = .ok (.iload 10, 2) := dk_21 10 (dk_at dksX8_tells_9 8 rfl rfl)
theorem dX8_tells_222 : decode cX8_tells 222 = .ok (.iload 4, 2) := dk_21 4 (dk_at dksX8_tells_9 10 rfl rfl)
theorem dX8_tells_224 : decode cX8_tells 224 = .ok (.iconst 5, 1) := dk_8 (dk_at dksX8_tells_9 12 rfl rfl)
theorem dX8_tells_225 : decode cX8_tells 225 = .ok (.if_icmp .ne 8, 3) := dk_160 0 8 (dk_at dksX8_tells_9 13 rfl rfl)
theorem dX8_tells_228 : decode cX8_tells 228 = .ok (.bipush (-99), 2) := dk_16 157 (dk_at dksX8_tells_9 16 rfl rfl)
theorem dX8_tells_230 : decode cX8_tells 230 = .ok (.goto 4, 3) := dk_167 0 4 (dk_at dksX8_tells_9 18 rfl rfl)
theorem dX8_tells_233 : decode cX8_tells 233 = .ok (.iconst 0, 1) := dk_3 (dk_at dksX8_tells_9 21 rfl rfl)
theorem dX8_tells_234 : decode cX8_tells 234 = .ok (.if_icmp .lt 61, 3) := dk_161 0 61 (dk_at dksX8_tells_10 0 rfl rfl)
theorem dX8_tells_237 : decode cX8_tells 237 = .ok (.aload_n 0, 1) := dk_42 (dk_at dksX8_tells_10 3 rfl rfl)
theorem dX8_tells_238 : decode cX8_tells 238 = .ok (.iload 4, 2) := dk_21 4 (dk_at dksX8_tells_10 4 rfl rfl)
theorem dX8_tells_240 : decode cX8_tells 240 = .ok (.iload_n 2, 1) := dk_28 (dk_at dksX8_tells_10 6 rfl rfl)
theorem dX8_tells_241 : decode cX8_tells 241 = .ok (.iload 10, 2) := dk_21 10 (dk_at dksX8_tells_10 7 rfl rfl)
theorem dX8_tells_243 : decode cX8_tells 243 = .ok (.invokevirtual 120, 3) := dk_182 0 120 (dk_at dksX8_tells_10 9 rfl rfl)
theorem dX8_tells_246 : decode cX8_tells 246 = .ok (.aload_n 0, 1) := dk_42 (dk_at dksX8_tells_10 12 rfl rfl)
theorem dX8_tells_247 : decode cX8_tells 247 = .ok (.iload_n 1, 1) := dk_27 (dk_at dksX8_tells_10 13 rfl rfl)
theorem dX8_tells_248 : decode cX8_tells 248 = .ok (.iload_n 2, 1) := dk_28 (dk_at dksX8_tells_10 14 rfl rfl)
theorem dX8_tells_249 : decode cX8_tells 249 = .ok (.invokevirtual 407, 3) := dk_182 1 151 (dk_at dksX8_tells_10 15 rfl rfl)
theorem dX8_tells_252 : decode cX8_tells 252 = .ok (.iconst (-1), 1) := dk_2 (dk_at dksX8_tells_10 18 rfl rfl)
theorem dX8_tells_253 : decode cX8_tells 253 = .ok (.if_icmp .ne 36, 3) := dk_160 0 36 (dk_at dksX8_tells_10 19 rfl rfl)
theorem dX8_tells_256 : decode cX8_tells 256 = .ok (.iload 7, 2) := dk_21 7 (dk_at dksX8_tells_10 22 rfl rfl)
theorem dX8_tells_258 : decode cX8_tells 258 = .ok (.iload 10, 2) := dk_21 10 (dk_at dksX8_tells_11 0 rfl rfl)
theorem dX8_tells_260 : decode cX8_tells 260 = .ok (.i2l, 1) := dk_133 (dk_at dksX8_tells_11 2 rfl rfl)
theorem dX8_tells_261 : decode cX8_tells 261 = .ok (.lconst 0, 1) := dk_9 (dk_at dksX8_tells_11 3 rfl rfl)
theorem dX8_tells_262 : decode cX8_tells 262 = .ok (.ldc2_w 90, 3) := dk_20 0 90 (dk_at dksX8_tells_11 4 rfl rfl)
theorem dX8_tells_265 : decode cX8_tells 265 = .ok (.invokestatic 86, 3) := dk_184 0 86 (dk_at dksX8_tells_11 7 rfl rfl)
theorem dX8_tells_268 : decode cX8_tells 268 = .ok (.ifCond .eq 10, 3) := dk_153 0 10 (dk_at dksX8_tells_11 10 rfl rfl)
theorem dX8_tells_271 : decode cX8_tells 271 = .ok (.iconst 1, 1) := dk_4 (dk_at dksX8_tells_11 13 rfl rfl)
theorem dX8_tells_272 : decode cX8_tells 272 = .ok (.iload 10, 2) := dk_21 10 (dk_at dksX8_tells_11 14 rfl rfl)
theorem dX8_tells_274 : decode cX8_tells 274 = .ok (.ishl, 1) := dk_120 (dk_at dksX8_tells_11 16 rfl rfl)
theorem dX8_tells_275 : decode cX8_tells 275 = .ok (.goto 4, 3) := dk_167 0 4 (dk_at dksX8_tells_11 17 rfl rfl)
theorem dX8_tells_278 : decode cX8_tells 278 = .ok (.iconst 0, 1) := dk_3 (dk_at dksX8_tells_11 20 rfl rfl)
theorem dX8_tells_279 : decode cX8_tells 279 = .ok (.ior, 1) := dk_128 (dk_at dksX8_tells_11 21 rfl rfl)
theorem dX8_tells_280 : decode cX8_tells 280 = .ok (.istore 7, 2) := dk_54 7 (dk_at dksX8_tells_11 22 rfl rfl)
theorem dX8_tells_282 : decode cX8_tells 282 = .ok (.iinc 8 1, 3) := dk_132 8 1 (dk_at dksX8_tells_12 0 rfl rfl)
theorem dX8_tells_285 : decode cX8_tells 285 = .ok (.iload 10, 2) := dk_21 10 (dk_at dksX8_tells_12 3 rfl rfl)
theorem dX8_tells_287 : decode cX8_tells 287 = .ok (.istore 9, 2) := dk_54 9 (dk_at dksX8_tells_12 5 rfl rfl)
theorem dX8_tells_289 : decode cX8_tells 289 = .ok (.iinc 10 (-1), 3) := dk_132 10 255 (dk_at dksX8_tells_12 7 rfl rfl)
theorem dX8_tells_292 : decode cX8_tells 292 = .ok (.goto (-72), 3) := dk_167 255 184 (dk_at dksX8_tells_12 10 rfl rfl)
theorem dX8_tells_295 : decode cX8_tells 295 = .ok (.aload_n 0, 1) := dk_42 (dk_at dksX8_tells_12 13 rfl rfl)
theorem dX8_tells_296 : decode cX8_tells 296 = .ok (.iload 4, 2) := dk_21 4 (dk_at dksX8_tells_12 14 rfl rfl)
theorem dX8_tells_298 : decode cX8_tells 298 = .ok (.iload_n 2, 1) := dk_28 (dk_at dksX8_tells_12 16 rfl rfl)
theorem dX8_tells_299 : decode cX8_tells 299 = .ok (.iload 5, 2) := dk_21 5 (dk_at dksX8_tells_12 17 rfl rfl)
theorem dX8_tells_301 : decode cX8_tells 301 = .ok (.invokevirtual 120, 3) := dk_182 0 120 (dk_at dksX8_tells_12 19 rfl rfl)
theorem dX8_tells_304 : decode cX8_tells 304 = .ok (.iload_n 3, 1) := dk_29 (dk_at dksX8_tells_12 22 rfl rfl)
theorem dX8_tells_305 : decode cX8_tells 305 = .ok (.iconst 4, 1) := dk_7 (dk_at dksX8_tells_12 23 rfl rfl)
theorem dX8_tells_306 : decode cX8_tells 306 = .ok (.if_icmp .ne 8, 3) := dk_160 0 8 (dk_at dksX8_tells_13 0 rfl rfl)
theorem dX8_tells_309 : decode cX8_tells 309 = .ok (.iload 8, 2) := dk_21 8 (dk_at dksX8_tells_13 3 rfl rfl)
theorem dX8_tells_311 : decode cX8_tells 311 = .ok (.goto 15, 3) := dk_167 0 15 (dk_at dksX8_tells_13 5 rfl rfl)
theorem dX8_tells_314 : decode cX8_tells 314 = .ok (.iload_n 3, 1) := dk_29 (dk_at dksX8_tells_13 8 rfl rfl)
theorem dX8_tells_315 : decode cX8_tells 315 = .ok (.iconst 5, 1) := dk_8 (dk_at dksX8_tells_13 9 rfl rfl)
theorem dX8_tells_316 : decode cX8_tells 316 = .ok (.if_icmp .ne 8, 3) := dk_160 0 8 (dk_at dksX8_tells_13 10 rfl rfl)
theorem dX8_tells_319 : decode cX8_tells 319 = .ok (.iload 9, 2) := dk_21 9 (dk_at dksX8_tells_13 13 rfl rfl)
theorem dX8_tells_321 : decode cX8_tells 321 = .ok (.goto 5, 3) := dk_167 0 5 (dk_at dksX8_tells_13 15 rfl rfl)
theorem dX8_tells_324 : decode cX8_tells 324 = .ok (.iload 7, 2) := dk_21 7 (dk_at dksX8_tells_13 18 rfl rfl)
theorem dX8_tells_326 : decode cX8_tells 326 = .ok (.ireturn, 1) := dk_172 (dk_at dksX8_tells_13 20 rfl rfl)
abbrev cX8_isSheet : ByteArray := prog_16_method_101_code
def yX8_isSheet : MethodName := ⟨RX8, "isSheet", "(I)Z"⟩
def dkwX8_isSheet_0 : List UInt8 := [26, 133, 9, 20, 1, 175, 184, 0, 86, 172]
abbrev dktX8_isSheet_0 : List UInt8 := dkwX8_isSheet_0 ++ []
theorem dksX8_isSheet_0 : cX8_isSheet.data.toList.drop 0 = dktX8_isSheet_0 := by decide +kernel
theorem dX8_isSheet_0 : decode cX8_isSheet 0 = .ok (.iload_n 0, 1) := dk_26 (dk_at dksX8_isSheet_0 0 rfl rfl)
theorem dX8_isSheet_1 : decode cX8_isSheet 1 = .ok (.i2l, 1) := dk_133 (dk_at dksX8_isSheet_0 1 rfl rfl)
theorem dX8_isSheet_2 : decode cX8_isSheet 2 = .ok (.lconst 0, 1) := dk_9 (dk_at dksX8_isSheet_0 2 rfl rfl)
theorem dX8_isSheet_3 : decode cX8_isSheet 3 = .ok (.ldc2_w 431, 3) := dk_20 1 175 (dk_at dksX8_isSheet_0 3 rfl rfl)
theorem dX8_isSheet_6 : decode cX8_isSheet 6 = .ok (.invokestatic 86, 3) := dk_184 0 86 (dk_at dksX8_isSheet_0 6 rfl rfl)
theorem dX8_isSheet_9 : decode cX8_isSheet 9 = .ok (.ireturn, 1) := dk_172 (dk_at dksX8_isSheet_0 9 rfl rfl)
abbrev cX8_firstOther : ByteArray := prog_16_method_91_code
def yX8_firstOther : MethodName := ⟨RX8, "firstOther", "(II)I"⟩
def dkwX8_firstOther_2 : List UInt8 := [160, 0, 7, 2, 167, 0, 5, 21, 4, 62, 132, 4, 1, 167, 255, 206, 42, 182, 1, 125, 29, 172]
abbrev dktX8_firstOther_2 : List UInt8 := dkwX8_firstOther_2 ++ []
def dkwX8_firstOther_1 : List UInt8 := [160, 0, 40, 42, 182, 1, 112, 42, 28, 182, 1, 95, 42, 180, 0, 73, 16, 40, 27, 104, 21, 4, 96, 46]
abbrev dktX8_firstOther_1 : List UInt8 := dkwX8_firstOther_1 ++ dktX8_firstOther_2
def dkwX8_firstOther_0 : List UInt8 := [42, 182, 1, 122, 2, 62, 3, 54, 4, 21, 4, 42, 180, 0, 70, 27, 46, 162, 0, 45, 29, 2]
abbrev dktX8_firstOther_0 : List UInt8 := dkwX8_firstOther_0 ++ dktX8_firstOther_1
theorem dksX8_firstOther_0 : cX8_firstOther.data.toList.drop 0 = dktX8_firstOther_0 := by decide +kernel
theorem dksX8_firstOther_1 : cX8_firstOther.data.toList.drop 22 = dktX8_firstOther_1 := dk_seg dksX8_firstOther_0 22 rfl rfl
theorem dksX8_firstOther_2 : cX8_firstOther.data.toList.drop 46 = dktX8_firstOther_2 := dk_seg dksX8_firstOther_1 24 rfl rfl
theorem dX8_firstOther_0 : decode cX8_firstOther 0 = .ok (.aload_n 0, 1) := dk_42 (dk_at dksX8_firstOther_0 0 rfl rfl)
theorem dX8_firstOther_1 : decode cX8_firstOther 1 = .ok (.invokevirtual 378, 3) := dk_182 1 122 (dk_at dksX8_firstOther_0 1 rfl rfl)
theorem dX8_firstOther_4 : decode cX8_firstOther 4 = .ok (.iconst (-1), 1) := dk_2 (dk_at dksX8_firstOther_0 4 rfl rfl)
theorem dX8_firstOther_5 : decode cX8_firstOther 5 = .ok (.istore_n 3, 1) := dk_62 (dk_at dksX8_firstOther_0 5 rfl rfl)
theorem dX8_firstOther_6 : decode cX8_firstOther 6 = .ok (.iconst 0, 1) := dk_3 (dk_at dksX8_firstOther_0 6 rfl rfl)
theorem dX8_firstOther_7 : decode cX8_firstOther 7 = .ok (.istore 4, 2) := dk_54 4 (dk_at dksX8_firstOther_0 7 rfl rfl)
theorem dX8_firstOther_9 : decode cX8_firstOther 9 = .ok (.iload 4, 2) := dk_21 4 (dk_at dksX8_firstOther_0 9 rfl rfl)
theorem dX8_firstOther_11 : decode cX8_firstOther 11 = .ok (.aload_n 0, 1) := dk_42 (dk_at dksX8_firstOther_0 11 rfl rfl)
theorem dX8_firstOther_12 : decode cX8_firstOther 12 = .ok (.getfield 70, 3) := dk_180 0 70 (dk_at dksX8_firstOther_0 12 rfl rfl)
theorem dX8_firstOther_15 : decode cX8_firstOther 15 = .ok (.iload_n 1, 1) := dk_27 (dk_at dksX8_firstOther_0 15 rfl rfl)
theorem dX8_firstOther_16 : decode cX8_firstOther 16 = .ok (.iaload, 1) := dk_46 (dk_at dksX8_firstOther_0 16 rfl rfl)
theorem dX8_firstOther_17 : decode cX8_firstOther 17 = .ok (.if_icmp .ge 45, 3) := dk_162 0 45 (dk_at dksX8_firstOther_0 17 rfl rfl)
theorem dX8_firstOther_20 : decode cX8_firstOther 20 = .ok (.iload_n 3, 1) := dk_29 (dk_at dksX8_firstOther_0 20 rfl rfl)
theorem dX8_firstOther_21 : decode cX8_firstOther 21 = .ok (.iconst (-1), 1) := dk_2 (dk_at dksX8_firstOther_0 21 rfl rfl)
theorem dX8_firstOther_22 : decode cX8_firstOther 22 = .ok (.if_icmp .ne 40, 3) := dk_160 0 40 (dk_at dksX8_firstOther_1 0 rfl rfl)
theorem dX8_firstOther_25 : decode cX8_firstOther 25 = .ok (.aload_n 0, 1) := dk_42 (dk_at dksX8_firstOther_1 3 rfl rfl)
theorem dX8_firstOther_26 : decode cX8_firstOther 26 = .ok (.invokevirtual 368, 3) := dk_182 1 112 (dk_at dksX8_firstOther_1 4 rfl rfl)
theorem dX8_firstOther_29 : decode cX8_firstOther 29 = .ok (.aload_n 0, 1) := dk_42 (dk_at dksX8_firstOther_1 7 rfl rfl)
theorem dX8_firstOther_30 : decode cX8_firstOther 30 = .ok (.iload_n 2, 1) := dk_28 (dk_at dksX8_firstOther_1 8 rfl rfl)
theorem dX8_firstOther_31 : decode cX8_firstOther 31 = .ok (.invokevirtual 351, 3) := dk_182 1 95 (dk_at dksX8_firstOther_1 9 rfl rfl)
theorem dX8_firstOther_34 : decode cX8_firstOther 34 = .ok (.aload_n 0, 1) := dk_42 (dk_at dksX8_firstOther_1 12 rfl rfl)
theorem dX8_firstOther_35 : decode cX8_firstOther 35 = .ok (.getfield 73, 3) := dk_180 0 73 (dk_at dksX8_firstOther_1 13 rfl rfl)
theorem dX8_firstOther_38 : decode cX8_firstOther 38 = .ok (.bipush 40, 2) := dk_16 40 (dk_at dksX8_firstOther_1 16 rfl rfl)
theorem dX8_firstOther_40 : decode cX8_firstOther 40 = .ok (.iload_n 1, 1) := dk_27 (dk_at dksX8_firstOther_1 18 rfl rfl)
theorem dX8_firstOther_41 : decode cX8_firstOther 41 = .ok (.imul, 1) := dk_104 (dk_at dksX8_firstOther_1 19 rfl rfl)
theorem dX8_firstOther_42 : decode cX8_firstOther 42 = .ok (.iload 4, 2) := dk_21 4 (dk_at dksX8_firstOther_1 20 rfl rfl)
theorem dX8_firstOther_44 : decode cX8_firstOther 44 = .ok (.iadd, 1) := dk_96 (dk_at dksX8_firstOther_1 22 rfl rfl)
theorem dX8_firstOther_45 : decode cX8_firstOther 45 = .ok (.iaload, 1) := dk_46 (dk_at dksX8_firstOther_1 23 rfl rfl)
theorem dX8_firstOther_46 : decode cX8_firstOther 46 = .ok (.if_icmp .ne 7, 3) := dk_160 0 7 (dk_at dksX8_firstOther_2 0 rfl rfl)
theorem dX8_firstOther_49 : decode cX8_firstOther 49 = .ok (.iconst (-1), 1) := dk_2 (dk_at dksX8_firstOther_2 3 rfl rfl)
theorem dX8_firstOther_50 : decode cX8_firstOther 50 = .ok (.goto 5, 3) := dk_167 0 5 (dk_at dksX8_firstOther_2 4 rfl rfl)
theorem dX8_firstOther_53 : decode cX8_firstOther 53 = .ok (.iload 4, 2) := dk_21 4 (dk_at dksX8_firstOther_2 7 rfl rfl)
theorem dX8_firstOther_55 : decode cX8_firstOther 55 = .ok (.istore_n 3, 1) := dk_62 (dk_at dksX8_firstOther_2 9 rfl rfl)
theorem dX8_firstOther_56 : decode cX8_firstOther 56 = .ok (.iinc 4 1, 3) := dk_132 4 1 (dk_at dksX8_firstOther_2 10 rfl rfl)
theorem dX8_firstOther_59 : decode cX8_firstOther 59 = .ok (.goto (-50), 3) := dk_167 255 206 (dk_at dksX8_firstOther_2 13 rfl rfl)
theorem dX8_firstOther_62 : decode cX8_firstOther 62 = .ok (.aload_n 0, 1) := dk_42 (dk_at dksX8_firstOther_2 16 rfl rfl)
theorem dX8_firstOther_63 : decode cX8_firstOther 63 = .ok (.invokevirtual 381, 3) := dk_182 1 125 (dk_at dksX8_firstOther_2 17 rfl rfl)
theorem dX8_firstOther_66 : decode cX8_firstOther 66 = .ok (.iload_n 3, 1) := dk_29 (dk_at dksX8_firstOther_2 20 rfl rfl)
theorem dX8_firstOther_67 : decode cX8_firstOther 67 = .ok (.ireturn, 1) := dk_172 (dk_at dksX8_firstOther_2 21 rfl rfl)
abbrev cX8_likeSet : ByteArray := prog_16_method_92_code
def yX8_likeSet : MethodName := ⟨RX8, "likeSet", "(I)I"⟩
def dkwX8_likeSet_1 : List UInt8 := [167, 0, 4, 3, 29, 120, 128, 61, 132, 3, 1, 167, 255, 225, 28, 172]
abbrev dktX8_likeSet_1 : List UInt8 := dkwX8_likeSet_1 ++ []
def dkwX8_likeSet_0 : List UInt8 := [3, 61, 3, 62, 29, 42, 180, 0, 83, 162, 0, 29, 28, 42, 27, 29, 182, 1, 151, 2, 160, 0, 7, 4]
abbrev dktX8_likeSet_0 : List UInt8 := dkwX8_likeSet_0 ++ dktX8_likeSet_1
theorem dksX8_likeSet_0 : cX8_likeSet.data.toList.drop 0 = dktX8_likeSet_0 := by decide +kernel
theorem dksX8_likeSet_1 : cX8_likeSet.data.toList.drop 24 = dktX8_likeSet_1 := dk_seg dksX8_likeSet_0 24 rfl rfl
theorem dX8_likeSet_0 : decode cX8_likeSet 0 = .ok (.iconst 0, 1) := dk_3 (dk_at dksX8_likeSet_0 0 rfl rfl)
theorem dX8_likeSet_1 : decode cX8_likeSet 1 = .ok (.istore_n 2, 1) := dk_61 (dk_at dksX8_likeSet_0 1 rfl rfl)
theorem dX8_likeSet_2 : decode cX8_likeSet 2 = .ok (.iconst 0, 1) := dk_3 (dk_at dksX8_likeSet_0 2 rfl rfl)
theorem dX8_likeSet_3 : decode cX8_likeSet 3 = .ok (.istore_n 3, 1) := dk_62 (dk_at dksX8_likeSet_0 3 rfl rfl)
theorem dX8_likeSet_4 : decode cX8_likeSet 4 = .ok (.iload_n 3, 1) := dk_29 (dk_at dksX8_likeSet_0 4 rfl rfl)
theorem dX8_likeSet_5 : decode cX8_likeSet 5 = .ok (.aload_n 0, 1) := dk_42 (dk_at dksX8_likeSet_0 5 rfl rfl)
theorem dX8_likeSet_6 : decode cX8_likeSet 6 = .ok (.getfield 83, 3) := dk_180 0 83 (dk_at dksX8_likeSet_0 6 rfl rfl)
theorem dX8_likeSet_9 : decode cX8_likeSet 9 = .ok (.if_icmp .ge 29, 3) := dk_162 0 29 (dk_at dksX8_likeSet_0 9 rfl rfl)
theorem dX8_likeSet_12 : decode cX8_likeSet 12 = .ok (.iload_n 2, 1) := dk_28 (dk_at dksX8_likeSet_0 12 rfl rfl)
theorem dX8_likeSet_13 : decode cX8_likeSet 13 = .ok (.aload_n 0, 1) := dk_42 (dk_at dksX8_likeSet_0 13 rfl rfl)
theorem dX8_likeSet_14 : decode cX8_likeSet 14 = .ok (.iload_n 1, 1) := dk_27 (dk_at dksX8_likeSet_0 14 rfl rfl)
theorem dX8_likeSet_15 : decode cX8_likeSet 15 = .ok (.iload_n 3, 1) := dk_29 (dk_at dksX8_likeSet_0 15 rfl rfl)
theorem dX8_likeSet_16 : decode cX8_likeSet 16 = .ok (.invokevirtual 407, 3) := dk_182 1 151 (dk_at dksX8_likeSet_0 16 rfl rfl)
theorem dX8_likeSet_19 : decode cX8_likeSet 19 = .ok (.iconst (-1), 1) := dk_2 (dk_at dksX8_likeSet_0 19 rfl rfl)
theorem dX8_likeSet_20 : decode cX8_likeSet 20 = .ok (.if_icmp .ne 7, 3) := dk_160 0 7 (dk_at dksX8_likeSet_0 20 rfl rfl)
theorem dX8_likeSet_23 : decode cX8_likeSet 23 = .ok (.iconst 1, 1) := dk_4 (dk_at dksX8_likeSet_0 23 rfl rfl)
theorem dX8_likeSet_24 : decode cX8_likeSet 24 = .ok (.goto 4, 3) := dk_167 0 4 (dk_at dksX8_likeSet_1 0 rfl rfl)
theorem dX8_likeSet_27 : decode cX8_likeSet 27 = .ok (.iconst 0, 1) := dk_3 (dk_at dksX8_likeSet_1 3 rfl rfl)
theorem dX8_likeSet_28 : decode cX8_likeSet 28 = .ok (.iload_n 3, 1) := dk_29 (dk_at dksX8_likeSet_1 4 rfl rfl)
theorem dX8_likeSet_29 : decode cX8_likeSet 29 = .ok (.ishl, 1) := dk_120 (dk_at dksX8_likeSet_1 5 rfl rfl)
theorem dX8_likeSet_30 : decode cX8_likeSet 30 = .ok (.ior, 1) := dk_128 (dk_at dksX8_likeSet_1 6 rfl rfl)
theorem dX8_likeSet_31 : decode cX8_likeSet 31 = .ok (.istore_n 2, 1) := dk_61 (dk_at dksX8_likeSet_1 7 rfl rfl)
theorem dX8_likeSet_32 : decode cX8_likeSet 32 = .ok (.iinc 3 1, 3) := dk_132 3 1 (dk_at dksX8_likeSet_1 8 rfl rfl)
theorem dX8_likeSet_35 : decode cX8_likeSet 35 = .ok (.goto (-31), 3) := dk_167 255 225 (dk_at dksX8_likeSet_1 11 rfl rfl)
theorem dX8_likeSet_38 : decode cX8_likeSet 38 = .ok (.iload_n 2, 1) := dk_28 (dk_at dksX8_likeSet_1 14 rfl rfl)
theorem dX8_likeSet_39 : decode cX8_likeSet 39 = .ok (.ireturn, 1) := dk_172 (dk_at dksX8_likeSet_1 15 rfl rfl)
abbrev cX8_film : ByteArray := prog_16_method_94_code
def yX8_film : MethodName := ⟨RX8, "film", "(III)I"⟩
def dkwX8_film_3 : List UInt8 := [132, 4, 1, 167, 255, 226, 42, 182, 1, 125, 29, 172]
abbrev dktX8_film_3 : List UInt8 := dkwX8_film_3 ++ []
def dkwX8_film_2 : List UInt8 := [162, 0, 30, 42, 182, 1, 112, 42, 180, 0, 73, 16, 40, 27, 104, 21, 4, 96, 42, 28, 182, 1, 95, 79]
abbrev dktX8_film_2 : List UInt8 := dkwX8_film_2 ++ dktX8_film_3
def dkwX8_film_1 : List UInt8 := [154, 0, 6, 16, 254, 172, 42, 27, 3, 29, 182, 1, 162, 87, 42, 182, 1, 122, 3, 54, 4, 21, 4, 29]
abbrev dktX8_film_1 : List UInt8 := dkwX8_film_1 ++ dktX8_film_2
def dkwX8_film_0 : List UInt8 := [27, 184, 1, 154, 153, 0, 23, 42, 28, 182, 0, 101, 153, 0, 15, 29, 133, 9, 20, 1, 130, 184, 0, 86]
abbrev dktX8_film_0 : List UInt8 := dkwX8_film_0 ++ dktX8_film_1
theorem dksX8_film_0 : cX8_film.data.toList.drop 0 = dktX8_film_0 := by decide +kernel
theorem dksX8_film_1 : cX8_film.data.toList.drop 24 = dktX8_film_1 := dk_seg dksX8_film_0 24 rfl rfl
theorem dksX8_film_2 : cX8_film.data.toList.drop 48 = dktX8_film_2 := dk_seg dksX8_film_1 24 rfl rfl
theorem dksX8_film_3 : cX8_film.data.toList.drop 72 = dktX8_film_3 := dk_seg dksX8_film_2 24 rfl rfl
theorem dX8_film_0 : decode cX8_film 0 = .ok (.iload_n 1, 1) := dk_27 (dk_at dksX8_film_0 0 rfl rfl)
theorem dX8_film_1 : decode cX8_film 1 = .ok (.invokestatic 410, 3) := dk_184 1 154 (dk_at dksX8_film_0 1 rfl rfl)
theorem dX8_film_4 : decode cX8_film 4 = .ok (.ifCond .eq 23, 3) := dk_153 0 23 (dk_at dksX8_film_0 4 rfl rfl)
theorem dX8_film_7 : decode cX8_film 7 = .ok (.aload_n 0, 1) := dk_42 (dk_at dksX8_film_0 7 rfl rfl)
theorem dX8_film_8 : decode cX8_film 8 = .ok (.iload_n 2, 1) := dk_28 (dk_at dksX8_film_0 8 rfl rfl)
theorem dX8_film_9 : decode cX8_film 9 = .ok (.invokevirtual 101, 3) := dk_182 0 101 (dk_at dksX8_film_0 9 rfl rfl)
theorem dX8_film_12 : decode cX8_film 12 = .ok (.ifCond .eq 15, 3) := dk_153 0 15 (dk_at dksX8_film_0 12 rfl rfl)
theorem dX8_film_15 : decode cX8_film 15 = .ok (.iload_n 3, 1) := dk_29 (dk_at dksX8_film_0 15 rfl rfl)
theorem dX8_film_16 : decode cX8_film 16 = .ok (.i2l, 1) := dk_133 (dk_at dksX8_film_0 16 rfl rfl)
theorem dX8_film_17 : decode cX8_film 17 = .ok (.lconst 0, 1) := dk_9 (dk_at dksX8_film_0 17 rfl rfl)
theorem dX8_film_18 : decode cX8_film 18 = .ok (.ldc2_w 386, 3) := dk_20 1 130 (dk_at dksX8_film_0 18 rfl rfl)
theorem dX8_film_21 : decode cX8_film 21 = .ok (.invokestatic 86, 3) := dk_184 0 86 (dk_at dksX8_film_0 21 rfl rfl)
theorem dX8_film_24 : decode cX8_film 24 = .ok (.ifCond .ne 6, 3) := dk_154 0 6 (dk_at dksX8_film_1 0 rfl rfl)
theorem dX8_film_27 : decode cX8_film 27 = .ok (.bipush (-2), 2) := dk_16 254 (dk_at dksX8_film_1 3 rfl rfl)
theorem dX8_film_29 : decode cX8_film 29 = .ok (.ireturn, 1) := dk_172 (dk_at dksX8_film_1 5 rfl rfl)
theorem dX8_film_30 : decode cX8_film 30 = .ok (.aload_n 0, 1) := dk_42 (dk_at dksX8_film_1 6 rfl rfl)
theorem dX8_film_31 : decode cX8_film 31 = .ok (.iload_n 1, 1) := dk_27 (dk_at dksX8_film_1 7 rfl rfl)
theorem dX8_film_32 : decode cX8_film 32 = .ok (.iconst 0, 1) := dk_3 (dk_at dksX8_film_1 8 rfl rfl)
theorem dX8_film_33 : decode cX8_film 33 = .ok (.iload_n 3, 1) := dk_29 (dk_at dksX8_film_1 9 rfl rfl)
theorem dX8_film_34 : decode cX8_film 34 = .ok (.invokevirtual 418, 3) := dk_182 1 162 (dk_at dksX8_film_1 10 rfl rfl)
theorem dX8_film_37 : decode cX8_film 37 = .ok (.pop, 1) := dk_87 (dk_at dksX8_film_1 13 rfl rfl)
theorem dX8_film_38 : decode cX8_film 38 = .ok (.aload_n 0, 1) := dk_42 (dk_at dksX8_film_1 14 rfl rfl)
theorem dX8_film_39 : decode cX8_film 39 = .ok (.invokevirtual 378, 3) := dk_182 1 122 (dk_at dksX8_film_1 15 rfl rfl)
theorem dX8_film_42 : decode cX8_film 42 = .ok (.iconst 0, 1) := dk_3 (dk_at dksX8_film_1 18 rfl rfl)
theorem dX8_film_43 : decode cX8_film 43 = .ok (.istore 4, 2) := dk_54 4 (dk_at dksX8_film_1 19 rfl rfl)
theorem dX8_film_45 : decode cX8_film 45 = .ok (.iload 4, 2) := dk_21 4 (dk_at dksX8_film_1 21 rfl rfl)
theorem dX8_film_47 : decode cX8_film 47 = .ok (.iload_n 3, 1) := dk_29 (dk_at dksX8_film_1 23 rfl rfl)
theorem dX8_film_48 : decode cX8_film 48 = .ok (.if_icmp .ge 30, 3) := dk_162 0 30 (dk_at dksX8_film_2 0 rfl rfl)
theorem dX8_film_51 : decode cX8_film 51 = .ok (.aload_n 0, 1) := dk_42 (dk_at dksX8_film_2 3 rfl rfl)
theorem dX8_film_52 : decode cX8_film 52 = .ok (.invokevirtual 368, 3) := dk_182 1 112 (dk_at dksX8_film_2 4 rfl rfl)
theorem dX8_film_55 : decode cX8_film 55 = .ok (.aload_n 0, 1) := dk_42 (dk_at dksX8_film_2 7 rfl rfl)
theorem dX8_film_56 : decode cX8_film 56 = .ok (.getfield 73, 3) := dk_180 0 73 (dk_at dksX8_film_2 8 rfl rfl)
theorem dX8_film_59 : decode cX8_film 59 = .ok (.bipush 40, 2) := dk_16 40 (dk_at dksX8_film_2 11 rfl rfl)
theorem dX8_film_61 : decode cX8_film 61 = .ok (.iload_n 1, 1) := dk_27 (dk_at dksX8_film_2 13 rfl rfl)
theorem dX8_film_62 : decode cX8_film 62 = .ok (.imul, 1) := dk_104 (dk_at dksX8_film_2 14 rfl rfl)
theorem dX8_film_63 : decode cX8_film 63 = .ok (.iload 4, 2) := dk_21 4 (dk_at dksX8_film_2 15 rfl rfl)
theorem dX8_film_65 : decode cX8_film 65 = .ok (.iadd, 1) := dk_96 (dk_at dksX8_film_2 17 rfl rfl)
theorem dX8_film_66 : decode cX8_film 66 = .ok (.aload_n 0, 1) := dk_42 (dk_at dksX8_film_2 18 rfl rfl)
theorem dX8_film_67 : decode cX8_film 67 = .ok (.iload_n 2, 1) := dk_28 (dk_at dksX8_film_2 19 rfl rfl)
theorem dX8_film_68 : decode cX8_film 68 = .ok (.invokevirtual 351, 3) := dk_182 1 95 (dk_at dksX8_film_2 20 rfl rfl)
theorem dX8_film_71 : decode cX8_film 71 = .ok (.iastore, 1) := dk_79 (dk_at dksX8_film_2 23 rfl rfl)
theorem dX8_film_72 : decode cX8_film 72 = .ok (.iinc 4 1, 3) := dk_132 4 1 (dk_at dksX8_film_3 0 rfl rfl)
theorem dX8_film_75 : decode cX8_film 75 = .ok (.goto (-30), 3) := dk_167 255 226 (dk_at dksX8_film_3 3 rfl rfl)
theorem dX8_film_78 : decode cX8_film 78 = .ok (.aload_n 0, 1) := dk_42 (dk_at dksX8_film_3 6 rfl rfl)
theorem dX8_film_79 : decode cX8_film 79 = .ok (.invokevirtual 381, 3) := dk_182 1 125 (dk_at dksX8_film_3 7 rfl rfl)
theorem dX8_film_82 : decode cX8_film 82 = .ok (.iload_n 3, 1) := dk_29 (dk_at dksX8_film_3 10 rfl rfl)
theorem dX8_film_83 : decode cX8_film 83 = .ok (.ireturn, 1) := dk_172 (dk_at dksX8_film_3 11 rfl rfl)
abbrev cX8_sheet : ByteArray := prog_16_method_102_code
def yX8_sheet : MethodName := ⟨RX8, "sheet", "(III)I"⟩
def dkwX8_sheet_4 : List UInt8 := [16, 40, 27, 104, 21, 4, 96, 3, 79, 132, 4, 1, 167, 255, 230, 4, 172]
abbrev dktX8_sheet_4 : List UInt8 := dkwX8_sheet_4 ++ []
def dkwX8_sheet_3 : List UInt8 := [180, 0, 70, 27, 29, 79, 3, 54, 4, 21, 4, 29, 162, 0, 26, 28, 155, 0, 22, 42, 180, 0, 73]
abbrev dktX8_sheet_3 : List UInt8 := dkwX8_sheet_3 ++ dktX8_sheet_4
def dkwX8_sheet_2 : List UInt8 := [180, 0, 63, 27, 28, 155, 0, 7, 4, 167, 0, 4, 3, 84, 42, 180, 0, 67, 27, 28, 79, 42]
abbrev dktX8_sheet_2 : List UInt8 := dkwX8_sheet_2 ++ dktX8_sheet_3
def dkwX8_sheet_1 : List UInt8 := [155, 0, 12, 29, 16, 40, 164, 0, 6, 16, 254, 172, 28, 155, 0, 10, 29, 156, 0, 6, 16, 242, 172, 42]
abbrev dktX8_sheet_1 : List UInt8 := dkwX8_sheet_1 ++ dktX8_sheet_2
def dkwX8_sheet_0 : List UInt8 := [27, 184, 1, 154, 153, 0, 27, 28, 133, 20, 1, 177, 20, 1, 118, 184, 0, 86, 153, 0, 13, 28]
abbrev dktX8_sheet_0 : List UInt8 := dkwX8_sheet_0 ++ dktX8_sheet_1
theorem dksX8_sheet_0 : cX8_sheet.data.toList.drop 0 = dktX8_sheet_0 := by decide +kernel
theorem dksX8_sheet_1 : cX8_sheet.data.toList.drop 22 = dktX8_sheet_1 := dk_seg dksX8_sheet_0 22 rfl rfl
theorem dksX8_sheet_2 : cX8_sheet.data.toList.drop 46 = dktX8_sheet_2 := dk_seg dksX8_sheet_1 24 rfl rfl
theorem dksX8_sheet_3 : cX8_sheet.data.toList.drop 68 = dktX8_sheet_3 := dk_seg dksX8_sheet_2 22 rfl rfl
theorem dksX8_sheet_4 : cX8_sheet.data.toList.drop 91 = dktX8_sheet_4 := dk_seg dksX8_sheet_3 23 rfl rfl
theorem dX8_sheet_0 : decode cX8_sheet 0 = .ok (.iload_n 1, 1) := dk_27 (dk_at dksX8_sheet_0 0 rfl rfl)
theorem dX8_sheet_1 : decode cX8_sheet 1 = .ok (.invokestatic 410, 3) := dk_184 1 154 (dk_at dksX8_sheet_0 1 rfl rfl)
theorem dX8_sheet_4 : decode cX8_sheet 4 = .ok (.ifCond .eq 27, 3) := dk_153 0 27 (dk_at dksX8_sheet_0 4 rfl rfl)
theorem dX8_sheet_7 : decode cX8_sheet 7 = .ok (.iload_n 2, 1) := dk_28 (dk_at dksX8_sheet_0 7 rfl rfl)
theorem dX8_sheet_8 : decode cX8_sheet 8 = .ok (.i2l, 1) := dk_133 (dk_at dksX8_sheet_0 8 rfl rfl)
theorem dX8_sheet_9 : decode cX8_sheet 9 = .ok (.ldc2_w 433, 3) := dk_20 1 177 (dk_at dksX8_sheet_0 9 rfl rfl)
theorem dX8_sheet_12 : decode cX8_sheet 12 = .ok (.ldc2_w 374, 3) := dk_20 1 118 (dk_at dksX8_sheet_0 12 rfl rfl)
theorem dX8_sheet_15 : decode cX8_sheet 15 = .ok (.invokestatic 86, 3) := dk_184 0 86 (dk_at dksX8_sheet_0 15 rfl rfl)
theorem dX8_sheet_18 : decode cX8_sheet 18 = .ok (.ifCond .eq 13, 3) := dk_153 0 13 (dk_at dksX8_sheet_0 18 rfl rfl)
theorem dX8_sheet_21 : decode cX8_sheet 21 = .ok (.iload_n 2, 1) := dk_28 (dk_at dksX8_sheet_0 21 rfl rfl)
theorem dX8_sheet_22 : decode cX8_sheet 22 = .ok (.ifCond .lt 12, 3) := dk_155 0 12 (dk_at dksX8_sheet_1 0 rfl rfl)
theorem dX8_sheet_25 : decode cX8_sheet 25 = .ok (.iload_n 3, 1) := dk_29 (dk_at dksX8_sheet_1 3 rfl rfl)
theorem dX8_sheet_26 : decode cX8_sheet 26 = .ok (.bipush 40, 2) := dk_16 40 (dk_at dksX8_sheet_1 4 rfl rfl)
theorem dX8_sheet_28 : decode cX8_sheet 28 = .ok (.if_icmp .le 6, 3) := dk_164 0 6 (dk_at dksX8_sheet_1 6 rfl rfl)
theorem dX8_sheet_31 : decode cX8_sheet 31 = .ok (.bipush (-2), 2) := dk_16 254 (dk_at dksX8_sheet_1 9 rfl rfl)
theorem dX8_sheet_33 : decode cX8_sheet 33 = .ok (.ireturn, 1) := dk_172 (dk_at dksX8_sheet_1 11 rfl rfl)
theorem dX8_sheet_34 : decode cX8_sheet 34 = .ok (.iload_n 2, 1) := dk_28 (dk_at dksX8_sheet_1 12 rfl rfl)
theorem dX8_sheet_35 : decode cX8_sheet 35 = .ok (.ifCond .lt 10, 3) := dk_155 0 10 (dk_at dksX8_sheet_1 13 rfl rfl)
theorem dX8_sheet_38 : decode cX8_sheet 38 = .ok (.iload_n 3, 1) := dk_29 (dk_at dksX8_sheet_1 16 rfl rfl)
theorem dX8_sheet_39 : decode cX8_sheet 39 = .ok (.ifCond .ge 6, 3) := dk_156 0 6 (dk_at dksX8_sheet_1 17 rfl rfl)
theorem dX8_sheet_42 : decode cX8_sheet 42 = .ok (.bipush (-14), 2) := dk_16 242 (dk_at dksX8_sheet_1 20 rfl rfl)
theorem dX8_sheet_44 : decode cX8_sheet 44 = .ok (.ireturn, 1) := dk_172 (dk_at dksX8_sheet_1 22 rfl rfl)
theorem dX8_sheet_45 : decode cX8_sheet 45 = .ok (.aload_n 0, 1) := dk_42 (dk_at dksX8_sheet_1 23 rfl rfl)
theorem dX8_sheet_46 : decode cX8_sheet 46 = .ok (.getfield 63, 3) := dk_180 0 63 (dk_at dksX8_sheet_2 0 rfl rfl)
theorem dX8_sheet_49 : decode cX8_sheet 49 = .ok (.iload_n 1, 1) := dk_27 (dk_at dksX8_sheet_2 3 rfl rfl)
theorem dX8_sheet_50 : decode cX8_sheet 50 = .ok (.iload_n 2, 1) := dk_28 (dk_at dksX8_sheet_2 4 rfl rfl)
theorem dX8_sheet_51 : decode cX8_sheet 51 = .ok (.ifCond .lt 7, 3) := dk_155 0 7 (dk_at dksX8_sheet_2 5 rfl rfl)
theorem dX8_sheet_54 : decode cX8_sheet 54 = .ok (.iconst 1, 1) := dk_4 (dk_at dksX8_sheet_2 8 rfl rfl)
theorem dX8_sheet_55 : decode cX8_sheet 55 = .ok (.goto 4, 3) := dk_167 0 4 (dk_at dksX8_sheet_2 9 rfl rfl)
theorem dX8_sheet_58 : decode cX8_sheet 58 = .ok (.iconst 0, 1) := dk_3 (dk_at dksX8_sheet_2 12 rfl rfl)
theorem dX8_sheet_59 : decode cX8_sheet 59 = .ok (.bastore, 1) := dk_84 (dk_at dksX8_sheet_2 13 rfl rfl)
theorem dX8_sheet_60 : decode cX8_sheet 60 = .ok (.aload_n 0, 1) := dk_42 (dk_at dksX8_sheet_2 14 rfl rfl)
theorem dX8_sheet_61 : decode cX8_sheet 61 = .ok (.getfield 67, 3) := dk_180 0 67 (dk_at dksX8_sheet_2 15 rfl rfl)
theorem dX8_sheet_64 : decode cX8_sheet 64 = .ok (.iload_n 1, 1) := dk_27 (dk_at dksX8_sheet_2 18 rfl rfl)
theorem dX8_sheet_65 : decode cX8_sheet 65 = .ok (.iload_n 2, 1) := dk_28 (dk_at dksX8_sheet_2 19 rfl rfl)
theorem dX8_sheet_66 : decode cX8_sheet 66 = .ok (.iastore, 1) := dk_79 (dk_at dksX8_sheet_2 20 rfl rfl)
theorem dX8_sheet_67 : decode cX8_sheet 67 = .ok (.aload_n 0, 1) := dk_42 (dk_at dksX8_sheet_2 21 rfl rfl)
theorem dX8_sheet_68 : decode cX8_sheet 68 = .ok (.getfield 70, 3) := dk_180 0 70 (dk_at dksX8_sheet_3 0 rfl rfl)
theorem dX8_sheet_71 : decode cX8_sheet 71 = .ok (.iload_n 1, 1) := dk_27 (dk_at dksX8_sheet_3 3 rfl rfl)
theorem dX8_sheet_72 : decode cX8_sheet 72 = .ok (.iload_n 3, 1) := dk_29 (dk_at dksX8_sheet_3 4 rfl rfl)
theorem dX8_sheet_73 : decode cX8_sheet 73 = .ok (.iastore, 1) := dk_79 (dk_at dksX8_sheet_3 5 rfl rfl)
theorem dX8_sheet_74 : decode cX8_sheet 74 = .ok (.iconst 0, 1) := dk_3 (dk_at dksX8_sheet_3 6 rfl rfl)
theorem dX8_sheet_75 : decode cX8_sheet 75 = .ok (.istore 4, 2) := dk_54 4 (dk_at dksX8_sheet_3 7 rfl rfl)
theorem dX8_sheet_77 : decode cX8_sheet 77 = .ok (.iload 4, 2) := dk_21 4 (dk_at dksX8_sheet_3 9 rfl rfl)
theorem dX8_sheet_79 : decode cX8_sheet 79 = .ok (.iload_n 3, 1) := dk_29 (dk_at dksX8_sheet_3 11 rfl rfl)
theorem dX8_sheet_80 : decode cX8_sheet 80 = .ok (.if_icmp .ge 26, 3) := dk_162 0 26 (dk_at dksX8_sheet_3 12 rfl rfl)
theorem dX8_sheet_83 : decode cX8_sheet 83 = .ok (.iload_n 2, 1) := dk_28 (dk_at dksX8_sheet_3 15 rfl rfl)
theorem dX8_sheet_84 : decode cX8_sheet 84 = .ok (.ifCond .lt 22, 3) := dk_155 0 22 (dk_at dksX8_sheet_3 16 rfl rfl)
theorem dX8_sheet_87 : decode cX8_sheet 87 = .ok (.aload_n 0, 1) := dk_42 (dk_at dksX8_sheet_3 19 rfl rfl)
theorem dX8_sheet_88 : decode cX8_sheet 88 = .ok (.getfield 73, 3) := dk_180 0 73 (dk_at dksX8_sheet_3 20 rfl rfl)
theorem dX8_sheet_91 : decode cX8_sheet 91 = .ok (.bipush 40, 2) := dk_16 40 (dk_at dksX8_sheet_4 0 rfl rfl)
theorem dX8_sheet_93 : decode cX8_sheet 93 = .ok (.iload_n 1, 1) := dk_27 (dk_at dksX8_sheet_4 2 rfl rfl)
theorem dX8_sheet_94 : decode cX8_sheet 94 = .ok (.imul, 1) := dk_104 (dk_at dksX8_sheet_4 3 rfl rfl)
theorem dX8_sheet_95 : decode cX8_sheet 95 = .ok (.iload 4, 2) := dk_21 4 (dk_at dksX8_sheet_4 4 rfl rfl)
theorem dX8_sheet_97 : decode cX8_sheet 97 = .ok (.iadd, 1) := dk_96 (dk_at dksX8_sheet_4 6 rfl rfl)
theorem dX8_sheet_98 : decode cX8_sheet 98 = .ok (.iconst 0, 1) := dk_3 (dk_at dksX8_sheet_4 7 rfl rfl)
theorem dX8_sheet_99 : decode cX8_sheet 99 = .ok (.iastore, 1) := dk_79 (dk_at dksX8_sheet_4 8 rfl rfl)
theorem dX8_sheet_100 : decode cX8_sheet 100 = .ok (.iinc 4 1, 3) := dk_132 4 1 (dk_at dksX8_sheet_4 9 rfl rfl)
theorem dX8_sheet_103 : decode cX8_sheet 103 = .ok (.goto (-26), 3) := dk_167 255 230 (dk_at dksX8_sheet_4 12 rfl rfl)
theorem dX8_sheet_106 : decode cX8_sheet 106 = .ok (.iconst 1, 1) := dk_4 (dk_at dksX8_sheet_4 15 rfl rfl)
theorem dX8_sheet_107 : decode cX8_sheet 107 = .ok (.ireturn, 1) := dk_172 (dk_at dksX8_sheet_4 16 rfl rfl)
abbrev cX8_drawn : ByteArray := prog_16_method_96_code
def yX8_drawn : MethodName := ⟨RX8, "drawn", "(III)I"⟩
def dkwX8_drawn_1 : List UInt8 := [182, 1, 166, 167, 0, 5, 16, 254, 172]
abbrev dktX8_drawn_1 : List UInt8 := dkwX8_drawn_1 ++ []
def dkwX8_drawn_0 : List UInt8 := [42, 28, 182, 0, 101, 153, 0, 25, 29, 133, 9, 20, 1, 128, 184, 0, 86, 153, 0, 13, 42, 27, 28, 29]
abbrev dktX8_drawn_0 : List UInt8 := dkwX8_drawn_0 ++ dktX8_drawn_1
theorem dksX8_drawn_0 : cX8_drawn.data.toList.drop 0 = dktX8_drawn_0 := by decide +kernel
theorem dksX8_drawn_1 : cX8_drawn.data.toList.drop 24 = dktX8_drawn_1 := dk_seg dksX8_drawn_0 24 rfl rfl
theorem dX8_drawn_0 : decode cX8_drawn 0 = .ok (.aload_n 0, 1) := dk_42 (dk_at dksX8_drawn_0 0 rfl rfl)
theorem dX8_drawn_1 : decode cX8_drawn 1 = .ok (.iload_n 2, 1) := dk_28 (dk_at dksX8_drawn_0 1 rfl rfl)
theorem dX8_drawn_2 : decode cX8_drawn 2 = .ok (.invokevirtual 101, 3) := dk_182 0 101 (dk_at dksX8_drawn_0 2 rfl rfl)
theorem dX8_drawn_5 : decode cX8_drawn 5 = .ok (.ifCond .eq 25, 3) := dk_153 0 25 (dk_at dksX8_drawn_0 5 rfl rfl)
theorem dX8_drawn_8 : decode cX8_drawn 8 = .ok (.iload_n 3, 1) := dk_29 (dk_at dksX8_drawn_0 8 rfl rfl)
theorem dX8_drawn_9 : decode cX8_drawn 9 = .ok (.i2l, 1) := dk_133 (dk_at dksX8_drawn_0 9 rfl rfl)
theorem dX8_drawn_10 : decode cX8_drawn 10 = .ok (.lconst 0, 1) := dk_9 (dk_at dksX8_drawn_0 10 rfl rfl)
theorem dX8_drawn_11 : decode cX8_drawn 11 = .ok (.ldc2_w 384, 3) := dk_20 1 128 (dk_at dksX8_drawn_0 11 rfl rfl)
theorem dX8_drawn_14 : decode cX8_drawn 14 = .ok (.invokestatic 86, 3) := dk_184 0 86 (dk_at dksX8_drawn_0 14 rfl rfl)
theorem dX8_drawn_17 : decode cX8_drawn 17 = .ok (.ifCond .eq 13, 3) := dk_153 0 13 (dk_at dksX8_drawn_0 17 rfl rfl)
theorem dX8_drawn_20 : decode cX8_drawn 20 = .ok (.aload_n 0, 1) := dk_42 (dk_at dksX8_drawn_0 20 rfl rfl)
theorem dX8_drawn_21 : decode cX8_drawn 21 = .ok (.iload_n 1, 1) := dk_27 (dk_at dksX8_drawn_0 21 rfl rfl)
theorem dX8_drawn_22 : decode cX8_drawn 22 = .ok (.iload_n 2, 1) := dk_28 (dk_at dksX8_drawn_0 22 rfl rfl)
theorem dX8_drawn_23 : decode cX8_drawn 23 = .ok (.iload_n 3, 1) := dk_29 (dk_at dksX8_drawn_0 23 rfl rfl)
theorem dX8_drawn_24 : decode cX8_drawn 24 = .ok (.invokevirtual 422, 3) := dk_182 1 166 (dk_at dksX8_drawn_1 0 rfl rfl)
theorem dX8_drawn_27 : decode cX8_drawn 27 = .ok (.goto 5, 3) := dk_167 0 5 (dk_at dksX8_drawn_1 3 rfl rfl)
theorem dX8_drawn_30 : decode cX8_drawn 30 = .ok (.bipush (-2), 2) := dk_16 254 (dk_at dksX8_drawn_1 6 rfl rfl)
theorem dX8_drawn_32 : decode cX8_drawn 32 = .ok (.ireturn, 1) := dk_172 (dk_at dksX8_drawn_1 8 rfl rfl)
abbrev cX8_atDrawn : ByteArray := prog_16_method_95_code
def yX8_atDrawn : MethodName := ⟨RX8, "atDrawn", "(III)I"⟩
def dkwX8_atDrawn_2 : List UInt8 := [54, 5, 132, 6, 1, 167, 255, 216, 21, 5, 172]
abbrev dktX8_atDrawn_2 : List UInt8 := dkwX8_atDrawn_2 ++ []
def dkwX8_atDrawn_1 : List UInt8 := [104, 17, 48, 57, 96, 54, 4, 42, 180, 0, 23, 5, 21, 5, 104, 21, 4, 16, 9, 124, 5, 112, 96, 46]
abbrev dktX8_atDrawn_1 : List UInt8 := dkwX8_atDrawn_1 ++ dktX8_atDrawn_2
def dkwX8_atDrawn_0 : List UInt8 := [27, 54, 4, 42, 28, 182, 1, 95, 54, 5, 3, 54, 6, 21, 6, 29, 162, 0, 40, 21, 4, 19, 1, 165]
abbrev dktX8_atDrawn_0 : List UInt8 := dkwX8_atDrawn_0 ++ dktX8_atDrawn_1
theorem dksX8_atDrawn_0 : cX8_atDrawn.data.toList.drop 0 = dktX8_atDrawn_0 := by decide +kernel
theorem dksX8_atDrawn_1 : cX8_atDrawn.data.toList.drop 24 = dktX8_atDrawn_1 := dk_seg dksX8_atDrawn_0 24 rfl rfl
theorem dksX8_atDrawn_2 : cX8_atDrawn.data.toList.drop 48 = dktX8_atDrawn_2 := dk_seg dksX8_atDrawn_1 24 rfl rfl
theorem dX8_atDrawn_0 : decode cX8_atDrawn 0 = .ok (.iload_n 1, 1) := dk_27 (dk_at dksX8_atDrawn_0 0 rfl rfl)
theorem dX8_atDrawn_1 : decode cX8_atDrawn 1 = .ok (.istore 4, 2) := dk_54 4 (dk_at dksX8_atDrawn_0 1 rfl rfl)
theorem dX8_atDrawn_3 : decode cX8_atDrawn 3 = .ok (.aload_n 0, 1) := dk_42 (dk_at dksX8_atDrawn_0 3 rfl rfl)
theorem dX8_atDrawn_4 : decode cX8_atDrawn 4 = .ok (.iload_n 2, 1) := dk_28 (dk_at dksX8_atDrawn_0 4 rfl rfl)
theorem dX8_atDrawn_5 : decode cX8_atDrawn 5 = .ok (.invokevirtual 351, 3) := dk_182 1 95 (dk_at dksX8_atDrawn_0 5 rfl rfl)
theorem dX8_atDrawn_8 : decode cX8_atDrawn 8 = .ok (.istore 5, 2) := dk_54 5 (dk_at dksX8_atDrawn_0 8 rfl rfl)
theorem dX8_atDrawn_10 : decode cX8_atDrawn 10 = .ok (.iconst 0, 1) := dk_3 (dk_at dksX8_atDrawn_0 10 rfl rfl)
theorem dX8_atDrawn_11 : decode cX8_atDrawn 11 = .ok (.istore 6, 2) := dk_54 6 (dk_at dksX8_atDrawn_0 11 rfl rfl)
theorem dX8_atDrawn_13 : decode cX8_atDrawn 13 = .ok (.iload 6, 2) := dk_21 6 (dk_at dksX8_atDrawn_0 13 rfl rfl)
theorem dX8_atDrawn_15 : decode cX8_atDrawn 15 = .ok (.iload_n 3, 1) := dk_29 (dk_at dksX8_atDrawn_0 15 rfl rfl)
theorem dX8_atDrawn_16 : decode cX8_atDrawn 16 = .ok (.if_icmp .ge 40, 3) := dk_162 0 40 (dk_at dksX8_atDrawn_0 16 rfl rfl)
theorem dX8_atDrawn_19 : decode cX8_atDrawn 19 = .ok (.iload 4, 2) := dk_21 4 (dk_at dksX8_atDrawn_0 19 rfl rfl)
theorem dX8_atDrawn_21 : decode cX8_atDrawn 21 = .ok (.ldc_w 421, 3) := dk_19 1 165 (dk_at dksX8_atDrawn_0 21 rfl rfl)
theorem dX8_atDrawn_24 : decode cX8_atDrawn 24 = .ok (.imul, 1) := dk_104 (dk_at dksX8_atDrawn_1 0 rfl rfl)
theorem dX8_atDrawn_25 : decode cX8_atDrawn 25 = .ok (.sipush 12345, 3) := dk_17 48 57 (dk_at dksX8_atDrawn_1 1 rfl rfl)
theorem dX8_atDrawn_28 : decode cX8_atDrawn 28 = .ok (.iadd, 1) := dk_96 (dk_at dksX8_atDrawn_1 4 rfl rfl)
theorem dX8_atDrawn_29 : decode cX8_atDrawn 29 = .ok (.istore 4, 2) := dk_54 4 (dk_at dksX8_atDrawn_1 5 rfl rfl)
theorem dX8_atDrawn_31 : decode cX8_atDrawn 31 = .ok (.aload_n 0, 1) := dk_42 (dk_at dksX8_atDrawn_1 7 rfl rfl)
theorem dX8_atDrawn_32 : decode cX8_atDrawn 32 = .ok (.getfield 23, 3) := dk_180 0 23 (dk_at dksX8_atDrawn_1 8 rfl rfl)
theorem dX8_atDrawn_35 : decode cX8_atDrawn 35 = .ok (.iconst 2, 1) := dk_5 (dk_at dksX8_atDrawn_1 11 rfl rfl)
theorem dX8_atDrawn_36 : decode cX8_atDrawn 36 = .ok (.iload 5, 2) := dk_21 5 (dk_at dksX8_atDrawn_1 12 rfl rfl)
theorem dX8_atDrawn_38 : decode cX8_atDrawn 38 = .ok (.imul, 1) := dk_104 (dk_at dksX8_atDrawn_1 14 rfl rfl)
theorem dX8_atDrawn_39 : decode cX8_atDrawn 39 = .ok (.iload 4, 2) := dk_21 4 (dk_at dksX8_atDrawn_1 15 rfl rfl)
theorem dX8_atDrawn_41 : decode cX8_atDrawn 41 = .ok (.bipush 9, 2) := dk_16 9 (dk_at dksX8_atDrawn_1 17 rfl rfl)
theorem dX8_atDrawn_43 : decode cX8_atDrawn 43 = .ok (.iushr, 1) := dk_124 (dk_at dksX8_atDrawn_1 19 rfl rfl)
theorem dX8_atDrawn_44 : decode cX8_atDrawn 44 = .ok (.iconst 2, 1) := dk_5 (dk_at dksX8_atDrawn_1 20 rfl rfl)
theorem dX8_atDrawn_45 : decode cX8_atDrawn 45 = .ok (.irem, 1) := dk_112 (dk_at dksX8_atDrawn_1 21 rfl rfl)
theorem dX8_atDrawn_46 : decode cX8_atDrawn 46 = .ok (.iadd, 1) := dk_96 (dk_at dksX8_atDrawn_1 22 rfl rfl)
theorem dX8_atDrawn_47 : decode cX8_atDrawn 47 = .ok (.iaload, 1) := dk_46 (dk_at dksX8_atDrawn_1 23 rfl rfl)
theorem dX8_atDrawn_48 : decode cX8_atDrawn 48 = .ok (.istore 5, 2) := dk_54 5 (dk_at dksX8_atDrawn_2 0 rfl rfl)
theorem dX8_atDrawn_50 : decode cX8_atDrawn 50 = .ok (.iinc 6 1, 3) := dk_132 6 1 (dk_at dksX8_atDrawn_2 2 rfl rfl)
theorem dX8_atDrawn_53 : decode cX8_atDrawn 53 = .ok (.goto (-40), 3) := dk_167 255 216 (dk_at dksX8_atDrawn_2 5 rfl rfl)
theorem dX8_atDrawn_56 : decode cX8_atDrawn 56 = .ok (.iload 5, 2) := dk_21 5 (dk_at dksX8_atDrawn_2 8 rfl rfl)
theorem dX8_atDrawn_58 : decode cX8_atDrawn 58 = .ok (.ireturn, 1) := dk_172 (dk_at dksX8_atDrawn_2 10 rfl rfl)
abbrev cX8_chance : ByteArray := prog_16_method_97_code
def yX8_chance : MethodName := ⟨RX8, "chance", "(IIIII)J"⟩
def dkwX8_chance_4 : List UInt8 := [184, 1, 138, 173]
abbrev dktX8_chance_4 : List UInt8 := dkwX8_chance_4 ++ []
def dkwX8_chance_3 : List UInt8 := [160, 0, 7, 10, 167, 0, 4, 9, 97, 55, 6, 132, 8, 1, 167, 255, 221, 22, 6, 28, 133, 21, 5]
abbrev dktX8_chance_3 : List UInt8 := dkwX8_chance_3 ++ dktX8_chance_4
def dkwX8_chance_2 : List UInt8 := [3, 54, 8, 21, 8, 28, 162, 0, 35, 22, 6, 42, 27, 21, 8, 96, 29, 16, 8, 182, 1, 166, 21, 4]
abbrev dktX8_chance_2 : List UInt8 := dkwX8_chance_2 ++ dktX8_chance_3
def dkwX8_chance_1 : List UInt8 := [184, 0, 98, 153, 0, 14, 21, 5, 133, 9, 10, 184, 0, 86, 154, 0, 7, 20, 1, 136, 173, 9, 55, 6]
abbrev dktX8_chance_1 : List UInt8 := dkwX8_chance_1 ++ dktX8_chance_2
def dkwX8_chance_0 : List UInt8 := [28, 133, 10, 20, 1, 128, 184, 0, 86, 153, 0, 30, 42, 29, 182, 0, 101, 153, 0, 22, 21, 4]
abbrev dktX8_chance_0 : List UInt8 := dkwX8_chance_0 ++ dktX8_chance_1
theorem dksX8_chance_0 : cX8_chance.data.toList.drop 0 = dktX8_chance_0 := by decide +kernel
theorem dksX8_chance_1 : cX8_chance.data.toList.drop 22 = dktX8_chance_1 := dk_seg dksX8_chance_0 22 rfl rfl
theorem dksX8_chance_2 : cX8_chance.data.toList.drop 46 = dktX8_chance_2 := dk_seg dksX8_chance_1 24 rfl rfl
theorem dksX8_chance_3 : cX8_chance.data.toList.drop 70 = dktX8_chance_3 := dk_seg dksX8_chance_2 24 rfl rfl
theorem dksX8_chance_4 : cX8_chance.data.toList.drop 93 = dktX8_chance_4 := dk_seg dksX8_chance_3 23 rfl rfl
theorem dX8_chance_0 : decode cX8_chance 0 = .ok (.iload_n 2, 1) := dk_28 (dk_at dksX8_chance_0 0 rfl rfl)
theorem dX8_chance_1 : decode cX8_chance 1 = .ok (.i2l, 1) := dk_133 (dk_at dksX8_chance_0 1 rfl rfl)
theorem dX8_chance_2 : decode cX8_chance 2 = .ok (.lconst 1, 1) := dk_10 (dk_at dksX8_chance_0 2 rfl rfl)
theorem dX8_chance_3 : decode cX8_chance 3 = .ok (.ldc2_w 384, 3) := dk_20 1 128 (dk_at dksX8_chance_0 3 rfl rfl)
theorem dX8_chance_6 : decode cX8_chance 6 = .ok (.invokestatic 86, 3) := dk_184 0 86 (dk_at dksX8_chance_0 6 rfl rfl)
theorem dX8_chance_9 : decode cX8_chance 9 = .ok (.ifCond .eq 30, 3) := dk_153 0 30 (dk_at dksX8_chance_0 9 rfl rfl)
theorem dX8_chance_12 : decode cX8_chance 12 = .ok (.aload_n 0, 1) := dk_42 (dk_at dksX8_chance_0 12 rfl rfl)
theorem dX8_chance_13 : decode cX8_chance 13 = .ok (.iload_n 3, 1) := dk_29 (dk_at dksX8_chance_0 13 rfl rfl)
theorem dX8_chance_14 : decode cX8_chance 14 = .ok (.invokevirtual 101, 3) := dk_182 0 101 (dk_at dksX8_chance_0 14 rfl rfl)
theorem dX8_chance_17 : decode cX8_chance 17 = .ok (.ifCond .eq 22, 3) := dk_153 0 22 (dk_at dksX8_chance_0 17 rfl rfl)
theorem dX8_chance_20 : decode cX8_chance 20 = .ok (.iload 4, 2) := dk_21 4 (dk_at dksX8_chance_0 20 rfl rfl)
theorem dX8_chance_22 : decode cX8_chance 22 = .ok (.invokestatic 98, 3) := dk_184 0 98 (dk_at dksX8_chance_1 0 rfl rfl)
theorem dX8_chance_25 : decode cX8_chance 25 = .ok (.ifCond .eq 14, 3) := dk_153 0 14 (dk_at dksX8_chance_1 3 rfl rfl)
theorem dX8_chance_28 : decode cX8_chance 28 = .ok (.iload 5, 2) := dk_21 5 (dk_at dksX8_chance_1 6 rfl rfl)
theorem dX8_chance_30 : decode cX8_chance 30 = .ok (.i2l, 1) := dk_133 (dk_at dksX8_chance_1 8 rfl rfl)
theorem dX8_chance_31 : decode cX8_chance 31 = .ok (.lconst 0, 1) := dk_9 (dk_at dksX8_chance_1 9 rfl rfl)
theorem dX8_chance_32 : decode cX8_chance 32 = .ok (.lconst 1, 1) := dk_10 (dk_at dksX8_chance_1 10 rfl rfl)
theorem dX8_chance_33 : decode cX8_chance 33 = .ok (.invokestatic 86, 3) := dk_184 0 86 (dk_at dksX8_chance_1 11 rfl rfl)
theorem dX8_chance_36 : decode cX8_chance 36 = .ok (.ifCond .ne 7, 3) := dk_154 0 7 (dk_at dksX8_chance_1 14 rfl rfl)
theorem dX8_chance_39 : decode cX8_chance 39 = .ok (.ldc2_w 392, 3) := dk_20 1 136 (dk_at dksX8_chance_1 17 rfl rfl)
theorem dX8_chance_42 : decode cX8_chance 42 = .ok (.lreturn, 1) := dk_173 (dk_at dksX8_chance_1 20 rfl rfl)
theorem dX8_chance_43 : decode cX8_chance 43 = .ok (.lconst 0, 1) := dk_9 (dk_at dksX8_chance_1 21 rfl rfl)
theorem dX8_chance_44 : decode cX8_chance 44 = .ok (.lstore 6, 2) := dk_55 6 (dk_at dksX8_chance_1 22 rfl rfl)
theorem dX8_chance_46 : decode cX8_chance 46 = .ok (.iconst 0, 1) := dk_3 (dk_at dksX8_chance_2 0 rfl rfl)
theorem dX8_chance_47 : decode cX8_chance 47 = .ok (.istore 8, 2) := dk_54 8 (dk_at dksX8_chance_2 1 rfl rfl)
theorem dX8_chance_49 : decode cX8_chance 49 = .ok (.iload 8, 2) := dk_21 8 (dk_at dksX8_chance_2 3 rfl rfl)
theorem dX8_chance_51 : decode cX8_chance 51 = .ok (.iload_n 2, 1) := dk_28 (dk_at dksX8_chance_2 5 rfl rfl)
theorem dX8_chance_52 : decode cX8_chance 52 = .ok (.if_icmp .ge 35, 3) := dk_162 0 35 (dk_at dksX8_chance_2 6 rfl rfl)
theorem dX8_chance_55 : decode cX8_chance 55 = .ok (.lload 6, 2) := dk_22 6 (dk_at dksX8_chance_2 9 rfl rfl)
theorem dX8_chance_57 : decode cX8_chance 57 = .ok (.aload_n 0, 1) := dk_42 (dk_at dksX8_chance_2 11 rfl rfl)
theorem dX8_chance_58 : decode cX8_chance 58 = .ok (.iload_n 1, 1) := dk_27 (dk_at dksX8_chance_2 12 rfl rfl)
theorem dX8_chance_59 : decode cX8_chance 59 = .ok (.iload 8, 2) := dk_21 8 (dk_at dksX8_chance_2 13 rfl rfl)
theorem dX8_chance_61 : decode cX8_chance 61 = .ok (.iadd, 1) := dk_96 (dk_at dksX8_chance_2 15 rfl rfl)
theorem dX8_chance_62 : decode cX8_chance 62 = .ok (.iload_n 3, 1) := dk_29 (dk_at dksX8_chance_2 16 rfl rfl)
theorem dX8_chance_63 : decode cX8_chance 63 = .ok (.bipush 8, 2) := dk_16 8 (dk_at dksX8_chance_2 17 rfl rfl)
theorem dX8_chance_65 : decode cX8_chance 65 = .ok (.invokevirtual 422, 3) := dk_182 1 166 (dk_at dksX8_chance_2 19 rfl rfl)
theorem dX8_chance_68 : decode cX8_chance 68 = .ok (.iload 4, 2) := dk_21 4 (dk_at dksX8_chance_2 22 rfl rfl)
theorem dX8_chance_70 : decode cX8_chance 70 = .ok (.if_icmp .ne 7, 3) := dk_160 0 7 (dk_at dksX8_chance_3 0 rfl rfl)
theorem dX8_chance_73 : decode cX8_chance 73 = .ok (.lconst 1, 1) := dk_10 (dk_at dksX8_chance_3 3 rfl rfl)
theorem dX8_chance_74 : decode cX8_chance 74 = .ok (.goto 4, 3) := dk_167 0 4 (dk_at dksX8_chance_3 4 rfl rfl)
theorem dX8_chance_77 : decode cX8_chance 77 = .ok (.lconst 0, 1) := dk_9 (dk_at dksX8_chance_3 7 rfl rfl)
theorem dX8_chance_78 : decode cX8_chance 78 = .ok (.ladd, 1) := dk_97 (dk_at dksX8_chance_3 8 rfl rfl)
theorem dX8_chance_79 : decode cX8_chance 79 = .ok (.lstore 6, 2) := dk_55 6 (dk_at dksX8_chance_3 9 rfl rfl)
theorem dX8_chance_81 : decode cX8_chance 81 = .ok (.iinc 8 1, 3) := dk_132 8 1 (dk_at dksX8_chance_3 11 rfl rfl)
theorem dX8_chance_84 : decode cX8_chance 84 = .ok (.goto (-35), 3) := dk_167 255 221 (dk_at dksX8_chance_3 14 rfl rfl)
theorem dX8_chance_87 : decode cX8_chance 87 = .ok (.lload 6, 2) := dk_22 6 (dk_at dksX8_chance_3 17 rfl rfl)
theorem dX8_chance_89 : decode cX8_chance 89 = .ok (.iload_n 2, 1) := dk_28 (dk_at dksX8_chance_3 19 rfl rfl)
theorem dX8_chance_90 : decode cX8_chance 90 = .ok (.i2l, 1) := dk_133 (dk_at dksX8_chance_3 20 rfl rfl)
theorem dX8_chance_91 : decode cX8_chance 91 = .ok (.iload 5, 2) := dk_21 5 (dk_at dksX8_chance_3 21 rfl rfl)
theorem dX8_chance_93 : decode cX8_chance 93 = .ok (.invokestatic 394, 3) := dk_184 1 138 (dk_at dksX8_chance_4 0 rfl rfl)
theorem dX8_chance_96 : decode cX8_chance 96 = .ok (.lreturn, 1) := dk_173 (dk_at dksX8_chance_4 3 rfl rfl)
abbrev cX8_image : ByteArray := prog_16_method_98_code
def yX8_image : MethodName := ⟨RX8, "image", "()I"⟩
def dkwX8_image_3 : List UInt8 := [181, 0, 60, 42, 42, 180, 0, 124, 181, 1, 169, 42, 42, 180, 0, 127, 181, 1, 172, 42, 180, 0, 83, 172]
abbrev dktX8_image_3 : List UInt8 := dkwX8_image_3 ++ []
def dkwX8_image_2 : List UInt8 := [180, 0, 57, 27, 42, 180, 0, 29, 27, 46, 79, 132, 1, 1, 167, 255, 235, 42, 42, 180, 0, 83]
abbrev dktX8_image_2 : List UInt8 := dkwX8_image_2 ++ dktX8_image_3
def dkwX8_image_1 : List UInt8 := [27, 42, 180, 0, 26, 27, 46, 79, 132, 1, 1, 167, 255, 223, 3, 60, 27, 16, 25, 162, 0, 21, 42]
abbrev dktX8_image_1 : List UInt8 := dkwX8_image_1 ++ dktX8_image_2
def dkwX8_image_0 : List UInt8 := [3, 60, 27, 16, 24, 162, 0, 33, 42, 180, 0, 51, 27, 42, 180, 0, 23, 27, 46, 79, 42, 180, 0, 54]
abbrev dktX8_image_0 : List UInt8 := dkwX8_image_0 ++ dktX8_image_1
theorem dksX8_image_0 : cX8_image.data.toList.drop 0 = dktX8_image_0 := by decide +kernel
theorem dksX8_image_1 : cX8_image.data.toList.drop 24 = dktX8_image_1 := dk_seg dksX8_image_0 24 rfl rfl
theorem dksX8_image_2 : cX8_image.data.toList.drop 47 = dktX8_image_2 := dk_seg dksX8_image_1 23 rfl rfl
theorem dksX8_image_3 : cX8_image.data.toList.drop 69 = dktX8_image_3 := dk_seg dksX8_image_2 22 rfl rfl
theorem dX8_image_0 : decode cX8_image 0 = .ok (.iconst 0, 1) := dk_3 (dk_at dksX8_image_0 0 rfl rfl)
theorem dX8_image_1 : decode cX8_image 1 = .ok (.istore_n 1, 1) := dk_60 (dk_at dksX8_image_0 1 rfl rfl)
theorem dX8_image_2 : decode cX8_image 2 = .ok (.iload_n 1, 1) := dk_27 (dk_at dksX8_image_0 2 rfl rfl)
theorem dX8_image_3 : decode cX8_image 3 = .ok (.bipush 24, 2) := dk_16 24 (dk_at dksX8_image_0 3 rfl rfl)
theorem dX8_image_5 : decode cX8_image 5 = .ok (.if_icmp .ge 33, 3) := dk_162 0 33 (dk_at dksX8_image_0 5 rfl rfl)
theorem dX8_image_8 : decode cX8_image 8 = .ok (.aload_n 0, 1) := dk_42 (dk_at dksX8_image_0 8 rfl rfl)
theorem dX8_image_9 : decode cX8_image 9 = .ok (.getfield 51, 3) := dk_180 0 51 (dk_at dksX8_image_0 9 rfl rfl)
theorem dX8_image_12 : decode cX8_image 12 = .ok (.iload_n 1, 1) := dk_27 (dk_at dksX8_image_0 12 rfl rfl)
theorem dX8_image_13 : decode cX8_image 13 = .ok (.aload_n 0, 1) := dk_42 (dk_at dksX8_image_0 13 rfl rfl)
theorem dX8_image_14 : decode cX8_image 14 = .ok (.getfield 23, 3) := dk_180 0 23 (dk_at dksX8_image_0 14 rfl rfl)
theorem dX8_image_17 : decode cX8_image 17 = .ok (.iload_n 1, 1) := dk_27 (dk_at dksX8_image_0 17 rfl rfl)
theorem dX8_image_18 : decode cX8_image 18 = .ok (.iaload, 1) := dk_46 (dk_at dksX8_image_0 18 rfl rfl)
theorem dX8_image_19 : decode cX8_image 19 = .ok (.iastore, 1) := dk_79 (dk_at dksX8_image_0 19 rfl rfl)
theorem dX8_image_20 : decode cX8_image 20 = .ok (.aload_n 0, 1) := dk_42 (dk_at dksX8_image_0 20 rfl rfl)
theorem dX8_image_21 : decode cX8_image 21 = .ok (.getfield 54, 3) := dk_180 0 54 (dk_at dksX8_image_0 21 rfl rfl)
theorem dX8_image_24 : decode cX8_image 24 = .ok (.iload_n 1, 1) := dk_27 (dk_at dksX8_image_1 0 rfl rfl)
theorem dX8_image_25 : decode cX8_image 25 = .ok (.aload_n 0, 1) := dk_42 (dk_at dksX8_image_1 1 rfl rfl)
theorem dX8_image_26 : decode cX8_image 26 = .ok (.getfield 26, 3) := dk_180 0 26 (dk_at dksX8_image_1 2 rfl rfl)
theorem dX8_image_29 : decode cX8_image 29 = .ok (.iload_n 1, 1) := dk_27 (dk_at dksX8_image_1 5 rfl rfl)
theorem dX8_image_30 : decode cX8_image 30 = .ok (.iaload, 1) := dk_46 (dk_at dksX8_image_1 6 rfl rfl)
theorem dX8_image_31 : decode cX8_image 31 = .ok (.iastore, 1) := dk_79 (dk_at dksX8_image_1 7 rfl rfl)
theorem dX8_image_32 : decode cX8_image 32 = .ok (.iinc 1 1, 3) := dk_132 1 1 (dk_at dksX8_image_1 8 rfl rfl)
theorem dX8_image_35 : decode cX8_image 35 = .ok (.goto (-33), 3) := dk_167 255 223 (dk_at dksX8_image_1 11 rfl rfl)
theorem dX8_image_38 : decode cX8_image 38 = .ok (.iconst 0, 1) := dk_3 (dk_at dksX8_image_1 14 rfl rfl)
theorem dX8_image_39 : decode cX8_image 39 = .ok (.istore_n 1, 1) := dk_60 (dk_at dksX8_image_1 15 rfl rfl)
theorem dX8_image_40 : decode cX8_image 40 = .ok (.iload_n 1, 1) := dk_27 (dk_at dksX8_image_1 16 rfl rfl)
theorem dX8_image_41 : decode cX8_image 41 = .ok (.bipush 25, 2) := dk_16 25 (dk_at dksX8_image_1 17 rfl rfl)
theorem dX8_image_43 : decode cX8_image 43 = .ok (.if_icmp .ge 21, 3) := dk_162 0 21 (dk_at dksX8_image_1 19 rfl rfl)
theorem dX8_image_46 : decode cX8_image 46 = .ok (.aload_n 0, 1) := dk_42 (dk_at dksX8_image_1 22 rfl rfl)
theorem dX8_image_47 : decode cX8_image 47 = .ok (.getfield 57, 3) := dk_180 0 57 (dk_at dksX8_image_2 0 rfl rfl)
theorem dX8_image_50 : decode cX8_image 50 = .ok (.iload_n 1, 1) := dk_27 (dk_at dksX8_image_2 3 rfl rfl)
theorem dX8_image_51 : decode cX8_image 51 = .ok (.aload_n 0, 1) := dk_42 (dk_at dksX8_image_2 4 rfl rfl)
theorem dX8_image_52 : decode cX8_image 52 = .ok (.getfield 29, 3) := dk_180 0 29 (dk_at dksX8_image_2 5 rfl rfl)
theorem dX8_image_55 : decode cX8_image 55 = .ok (.iload_n 1, 1) := dk_27 (dk_at dksX8_image_2 8 rfl rfl)
theorem dX8_image_56 : decode cX8_image 56 = .ok (.iaload, 1) := dk_46 (dk_at dksX8_image_2 9 rfl rfl)
theorem dX8_image_57 : decode cX8_image 57 = .ok (.iastore, 1) := dk_79 (dk_at dksX8_image_2 10 rfl rfl)
theorem dX8_image_58 : decode cX8_image 58 = .ok (.iinc 1 1, 3) := dk_132 1 1 (dk_at dksX8_image_2 11 rfl rfl)
theorem dX8_image_61 : decode cX8_image 61 = .ok (.goto (-21), 3) := dk_167 255 235 (dk_at dksX8_image_2 14 rfl rfl)
theorem dX8_image_64 : decode cX8_image 64 = .ok (.aload_n 0, 1) := dk_42 (dk_at dksX8_image_2 17 rfl rfl)
theorem dX8_image_65 : decode cX8_image 65 = .ok (.aload_n 0, 1) := dk_42 (dk_at dksX8_image_2 18 rfl rfl)
theorem dX8_image_66 : decode cX8_image 66 = .ok (.getfield 83, 3) := dk_180 0 83 (dk_at dksX8_image_2 19 rfl rfl)
theorem dX8_image_69 : decode cX8_image 69 = .ok (.putfield 60, 3) := dk_181 0 60 (dk_at dksX8_image_3 0 rfl rfl)
theorem dX8_image_72 : decode cX8_image 72 = .ok (.aload_n 0, 1) := dk_42 (dk_at dksX8_image_3 3 rfl rfl)
theorem dX8_image_73 : decode cX8_image 73 = .ok (.aload_n 0, 1) := dk_42 (dk_at dksX8_image_3 4 rfl rfl)
theorem dX8_image_74 : decode cX8_image 74 = .ok (.getfield 124, 3) := dk_180 0 124 (dk_at dksX8_image_3 5 rfl rfl)
theorem dX8_image_77 : decode cX8_image 77 = .ok (.putfield 425, 3) := dk_181 1 169 (dk_at dksX8_image_3 8 rfl rfl)
theorem dX8_image_80 : decode cX8_image 80 = .ok (.aload_n 0, 1) := dk_42 (dk_at dksX8_image_3 11 rfl rfl)
theorem dX8_image_81 : decode cX8_image 81 = .ok (.aload_n 0, 1) := dk_42 (dk_at dksX8_image_3 12 rfl rfl)
theorem dX8_image_82 : decode cX8_image 82 = .ok (.getfield 127, 3) := dk_180 0 127 (dk_at dksX8_image_3 13 rfl rfl)
theorem dX8_image_85 : decode cX8_image 85 = .ok (.putfield 428, 3) := dk_181 1 172 (dk_at dksX8_image_3 16 rfl rfl)
theorem dX8_image_88 : decode cX8_image 88 = .ok (.aload_n 0, 1) := dk_42 (dk_at dksX8_image_3 19 rfl rfl)
theorem dX8_image_89 : decode cX8_image 89 = .ok (.getfield 83, 3) := dk_180 0 83 (dk_at dksX8_image_3 20 rfl rfl)
theorem dX8_image_92 : decode cX8_image 92 = .ok (.ireturn, 1) := dk_172 (dk_at dksX8_image_3 23 rfl rfl)
abbrev cX8_back : ByteArray := prog_16_method_99_code
def yX8_back : MethodName := ⟨RX8, "back", "()I"⟩
def dkwX8_back_4 : List UInt8 := [180, 1, 172, 181, 0, 127, 42, 180, 0, 83, 172]
abbrev dktX8_back_4 : List UInt8 := dkwX8_back_4 ++ []
def dkwX8_back_3 : List UInt8 := [132, 1, 1, 167, 255, 235, 42, 42, 180, 0, 60, 181, 0, 83, 42, 42, 180, 1, 169, 181, 0, 124, 42, 42]
abbrev dktX8_back_3 : List UInt8 := dkwX8_back_3 ++ dktX8_back_4
def dkwX8_back_2 : List UInt8 := [167, 255, 223, 3, 60, 27, 16, 25, 162, 0, 21, 42, 180, 0, 29, 27, 42, 180, 0, 57, 27, 46, 79]
abbrev dktX8_back_2 : List UInt8 := dkwX8_back_2 ++ dktX8_back_3
def dkwX8_back_1 : List UInt8 := [42, 180, 0, 51, 27, 46, 79, 42, 180, 0, 26, 27, 42, 180, 0, 54, 27, 46, 79, 132, 1, 1]
abbrev dktX8_back_1 : List UInt8 := dkwX8_back_1 ++ dktX8_back_2
def dkwX8_back_0 : List UInt8 := [42, 180, 0, 60, 2, 160, 0, 6, 16, 253, 172, 3, 60, 27, 16, 24, 162, 0, 33, 42, 180, 0, 23, 27]
abbrev dktX8_back_0 : List UInt8 := dkwX8_back_0 ++ dktX8_back_1
theorem dksX8_back_0 : cX8_back.data.toList.drop 0 = dktX8_back_0 := by decide +kernel
theorem dksX8_back_1 : cX8_back.data.toList.drop 24 = dktX8_back_1 := dk_seg dksX8_back_0 24 rfl rfl
theorem dksX8_back_2 : cX8_back.data.toList.drop 46 = dktX8_back_2 := dk_seg dksX8_back_1 22 rfl rfl
theorem dksX8_back_3 : cX8_back.data.toList.drop 69 = dktX8_back_3 := dk_seg dksX8_back_2 23 rfl rfl
theorem dksX8_back_4 : cX8_back.data.toList.drop 93 = dktX8_back_4 := dk_seg dksX8_back_3 24 rfl rfl
theorem dX8_back_0 : decode cX8_back 0 = .ok (.aload_n 0, 1) := dk_42 (dk_at dksX8_back_0 0 rfl rfl)
theorem dX8_back_1 : decode cX8_back 1 = .ok (.getfield 60, 3) := dk_180 0 60 (dk_at dksX8_back_0 1 rfl rfl)
theorem dX8_back_4 : decode cX8_back 4 = .ok (.iconst (-1), 1) := dk_2 (dk_at dksX8_back_0 4 rfl rfl)
theorem dX8_back_5 : decode cX8_back 5 = .ok (.if_icmp .ne 6, 3) := dk_160 0 6 (dk_at dksX8_back_0 5 rfl rfl)
theorem dX8_back_8 : decode cX8_back 8 = .ok (.bipush (-3), 2) := dk_16 253 (dk_at dksX8_back_0 8 rfl rfl)
theorem dX8_back_10 : decode cX8_back 10 = .ok (.ireturn, 1) := dk_172 (dk_at dksX8_back_0 10 rfl rfl)
theorem dX8_back_11 : decode cX8_back 11 = .ok (.iconst 0, 1) := dk_3 (dk_at dksX8_back_0 11 rfl rfl)
theorem dX8_back_12 : decode cX8_back 12 = .ok (.istore_n 1, 1) := dk_60 (dk_at dksX8_back_0 12 rfl rfl)
theorem dX8_back_13 : decode cX8_back 13 = .ok (.iload_n 1, 1) := dk_27 (dk_at dksX8_back_0 13 rfl rfl)
theorem dX8_back_14 : decode cX8_back 14 = .ok (.bipush 24, 2) := dk_16 24 (dk_at dksX8_back_0 14 rfl rfl)
theorem dX8_back_16 : decode cX8_back 16 = .ok (.if_icmp .ge 33, 3) := dk_162 0 33 (dk_at dksX8_back_0 16 rfl rfl)
theorem dX8_back_19 : decode cX8_back 19 = .ok (.aload_n 0, 1) := dk_42 (dk_at dksX8_back_0 19 rfl rfl)
theorem dX8_back_20 : decode cX8_back 20 = .ok (.getfield 23, 3) := dk_180 0 23 (dk_at dksX8_back_0 20 rfl rfl)
theorem dX8_back_23 : decode cX8_back 23 = .ok (.iload_n 1, 1) := dk_27 (dk_at dksX8_back_0 23 rfl rfl)
theorem dX8_back_24 : decode cX8_back 24 = .ok (.aload_n 0, 1) := dk_42 (dk_at dksX8_back_1 0 rfl rfl)
theorem dX8_back_25 : decode cX8_back 25 = .ok (.getfield 51, 3) := dk_180 0 51 (dk_at dksX8_back_1 1 rfl rfl)
theorem dX8_back_28 : decode cX8_back 28 = .ok (.iload_n 1, 1) := dk_27 (dk_at dksX8_back_1 4 rfl rfl)
theorem dX8_back_29 : decode cX8_back 29 = .ok (.iaload, 1) := dk_46 (dk_at dksX8_back_1 5 rfl rfl)
theorem dX8_back_30 : decode cX8_back 30 = .ok (.iastore, 1) := dk_79 (dk_at dksX8_back_1 6 rfl rfl)
theorem dX8_back_31 : decode cX8_back 31 = .ok (.aload_n 0, 1) := dk_42 (dk_at dksX8_back_1 7 rfl rfl)
theorem dX8_back_32 : decode cX8_back 32 = .ok (.getfield 26, 3) := dk_180 0 26 (dk_at dksX8_back_1 8 rfl rfl)
theorem dX8_back_35 : decode cX8_back 35 = .ok (.iload_n 1, 1) := dk_27 (dk_at dksX8_back_1 11 rfl rfl)
theorem dX8_back_36 : decode cX8_back 36 = .ok (.aload_n 0, 1) := dk_42 (dk_at dksX8_back_1 12 rfl rfl)
theorem dX8_back_37 : decode cX8_back 37 = .ok (.getfield 54, 3) := dk_180 0 54 (dk_at dksX8_back_1 13 rfl rfl)
theorem dX8_back_40 : decode cX8_back 40 = .ok (.iload_n 1, 1) := dk_27 (dk_at dksX8_back_1 16 rfl rfl)
theorem dX8_back_41 : decode cX8_back 41 = .ok (.iaload, 1) := dk_46 (dk_at dksX8_back_1 17 rfl rfl)
theorem dX8_back_42 : decode cX8_back 42 = .ok (.iastore, 1) := dk_79 (dk_at dksX8_back_1 18 rfl rfl)
theorem dX8_back_43 : decode cX8_back 43 = .ok (.iinc 1 1, 3) := dk_132 1 1 (dk_at dksX8_back_1 19 rfl rfl)
theorem dX8_back_46 : decode cX8_back 46 = .ok (.goto (-33), 3) := dk_167 255 223 (dk_at dksX8_back_2 0 rfl rfl)
theorem dX8_back_49 : decode cX8_back 49 = .ok (.iconst 0, 1) := dk_3 (dk_at dksX8_back_2 3 rfl rfl)
theorem dX8_back_50 : decode cX8_back 50 = .ok (.istore_n 1, 1) := dk_60 (dk_at dksX8_back_2 4 rfl rfl)
theorem dX8_back_51 : decode cX8_back 51 = .ok (.iload_n 1, 1) := dk_27 (dk_at dksX8_back_2 5 rfl rfl)
theorem dX8_back_52 : decode cX8_back 52 = .ok (.bipush 25, 2) := dk_16 25 (dk_at dksX8_back_2 6 rfl rfl)
theorem dX8_back_54 : decode cX8_back 54 = .ok (.if_icmp .ge 21, 3) := dk_162 0 21 (dk_at dksX8_back_2 8 rfl rfl)
theorem dX8_back_57 : decode cX8_back 57 = .ok (.aload_n 0, 1) := dk_42 (dk_at dksX8_back_2 11 rfl rfl)
theorem dX8_back_58 : decode cX8_back 58 = .ok (.getfield 29, 3) := dk_180 0 29 (dk_at dksX8_back_2 12 rfl rfl)
theorem dX8_back_61 : decode cX8_back 61 = .ok (.iload_n 1, 1) := dk_27 (dk_at dksX8_back_2 15 rfl rfl)
theorem dX8_back_62 : decode cX8_back 62 = .ok (.aload_n 0, 1) := dk_42 (dk_at dksX8_back_2 16 rfl rfl)
theorem dX8_back_63 : decode cX8_back 63 = .ok (.getfield 57, 3) := dk_180 0 57 (dk_at dksX8_back_2 17 rfl rfl)
theorem dX8_back_66 : decode cX8_back 66 = .ok (.iload_n 1, 1) := dk_27 (dk_at dksX8_back_2 20 rfl rfl)
theorem dX8_back_67 : decode cX8_back 67 = .ok (.iaload, 1) := dk_46 (dk_at dksX8_back_2 21 rfl rfl)
theorem dX8_back_68 : decode cX8_back 68 = .ok (.iastore, 1) := dk_79 (dk_at dksX8_back_2 22 rfl rfl)
theorem dX8_back_69 : decode cX8_back 69 = .ok (.iinc 1 1, 3) := dk_132 1 1 (dk_at dksX8_back_3 0 rfl rfl)
theorem dX8_back_72 : decode cX8_back 72 = .ok (.goto (-21), 3) := dk_167 255 235 (dk_at dksX8_back_3 3 rfl rfl)
theorem dX8_back_75 : decode cX8_back 75 = .ok (.aload_n 0, 1) := dk_42 (dk_at dksX8_back_3 6 rfl rfl)
theorem dX8_back_76 : decode cX8_back 76 = .ok (.aload_n 0, 1) := dk_42 (dk_at dksX8_back_3 7 rfl rfl)
theorem dX8_back_77 : decode cX8_back 77 = .ok (.getfield 60, 3) := dk_180 0 60 (dk_at dksX8_back_3 8 rfl rfl)
theorem dX8_back_80 : decode cX8_back 80 = .ok (.putfield 83, 3) := dk_181 0 83 (dk_at dksX8_back_3 11 rfl rfl)
theorem dX8_back_83 : decode cX8_back 83 = .ok (.aload_n 0, 1) := dk_42 (dk_at dksX8_back_3 14 rfl rfl)
theorem dX8_back_84 : decode cX8_back 84 = .ok (.aload_n 0, 1) := dk_42 (dk_at dksX8_back_3 15 rfl rfl)
theorem dX8_back_85 : decode cX8_back 85 = .ok (.getfield 425, 3) := dk_180 1 169 (dk_at dksX8_back_3 16 rfl rfl)
theorem dX8_back_88 : decode cX8_back 88 = .ok (.putfield 124, 3) := dk_181 0 124 (dk_at dksX8_back_3 19 rfl rfl)
theorem dX8_back_91 : decode cX8_back 91 = .ok (.aload_n 0, 1) := dk_42 (dk_at dksX8_back_3 22 rfl rfl)
theorem dX8_back_92 : decode cX8_back 92 = .ok (.aload_n 0, 1) := dk_42 (dk_at dksX8_back_3 23 rfl rfl)
theorem dX8_back_93 : decode cX8_back 93 = .ok (.getfield 428, 3) := dk_180 1 172 (dk_at dksX8_back_4 0 rfl rfl)
theorem dX8_back_96 : decode cX8_back 96 = .ok (.putfield 127, 3) := dk_181 0 127 (dk_at dksX8_back_4 3 rfl rfl)
theorem dX8_back_99 : decode cX8_back 99 = .ok (.aload_n 0, 1) := dk_42 (dk_at dksX8_back_4 6 rfl rfl)
theorem dX8_back_100 : decode cX8_back 100 = .ok (.getfield 83, 3) := dk_180 0 83 (dk_at dksX8_back_4 7 rfl rfl)
theorem dX8_back_103 : decode cX8_back 103 = .ok (.ireturn, 1) := dk_172 (dk_at dksX8_back_4 10 rfl rfl)
abbrev cX8_count : ByteArray := prog_16_method_100_code
def yX8_count : MethodName := ⟨RX8, "count", "(I)I"⟩
def dkwX8_count_3 : List UInt8 := [167, 0, 7, 42, 180, 0, 127, 172]
abbrev dktX8_count_3 : List UInt8 := dkwX8_count_3 ++ []
def dkwX8_count_2 : List UInt8 := [167, 0, 31, 27, 6, 160, 0, 10, 42, 180, 0, 80, 167, 0, 19, 27, 7, 160, 0, 10, 42, 180, 0, 147]
abbrev dktX8_count_2 : List UInt8 := dkwX8_count_2 ++ dktX8_count_3
def dkwX8_count_1 : List UInt8 := [167, 0, 55, 27, 4, 160, 0, 10, 42, 182, 1, 115, 167, 0, 43, 27, 5, 160, 0, 10, 42, 180, 0, 124]
abbrev dktX8_count_1 : List UInt8 := dkwX8_count_1 ++ dktX8_count_2
def dkwX8_count_0 : List UInt8 := [27, 133, 9, 20, 0, 130, 184, 0, 86, 154, 0, 6, 16, 254, 172, 27, 154, 0, 10, 42, 180, 0, 83]
abbrev dktX8_count_0 : List UInt8 := dkwX8_count_0 ++ dktX8_count_1
theorem dksX8_count_0 : cX8_count.data.toList.drop 0 = dktX8_count_0 := by decide +kernel
theorem dksX8_count_1 : cX8_count.data.toList.drop 23 = dktX8_count_1 := dk_seg dksX8_count_0 23 rfl rfl
theorem dksX8_count_2 : cX8_count.data.toList.drop 47 = dktX8_count_2 := dk_seg dksX8_count_1 24 rfl rfl
theorem dksX8_count_3 : cX8_count.data.toList.drop 71 = dktX8_count_3 := dk_seg dksX8_count_2 24 rfl rfl
theorem dX8_count_0 : decode cX8_count 0 = .ok (.iload_n 1, 1) := dk_27 (dk_at dksX8_count_0 0 rfl rfl)
theorem dX8_count_1 : decode cX8_count 1 = .ok (.i2l, 1) := dk_133 (dk_at dksX8_count_0 1 rfl rfl)
theorem dX8_count_2 : decode cX8_count 2 = .ok (.lconst 0, 1) := dk_9 (dk_at dksX8_count_0 2 rfl rfl)
theorem dX8_count_3 : decode cX8_count 3 = .ok (.ldc2_w 130, 3) := dk_20 0 130 (dk_at dksX8_count_0 3 rfl rfl)
theorem dX8_count_6 : decode cX8_count 6 = .ok (.invokestatic 86, 3) := dk_184 0 86 (dk_at dksX8_count_0 6 rfl rfl)
theorem dX8_count_9 : decode cX8_count 9 = .ok (.ifCond .ne 6, 3) := dk_154 0 6 (dk_at dksX8_count_0 9 rfl rfl)
theorem dX8_count_12 : decode cX8_count 12 = .ok (.bipush (-2), 2) := dk_16 254 (dk_at dksX8_count_0 12 rfl rfl)
theorem dX8_count_14 : decode cX8_count 14 = .ok (.ireturn, 1) := dk_172 (dk_at dksX8_count_0 14 rfl rfl)
theorem dX8_count_15 : decode cX8_count 15 = .ok (.iload_n 1, 1) := dk_27 (dk_at dksX8_count_0 15 rfl rfl)
theorem dX8_count_16 : decode cX8_count 16 = .ok (.ifCond .ne 10, 3) := dk_154 0 10 (dk_at dksX8_count_0 16 rfl rfl)
theorem dX8_count_19 : decode cX8_count 19 = .ok (.aload_n 0, 1) := dk_42 (dk_at dksX8_count_0 19 rfl rfl)
theorem dX8_count_20 : decode cX8_count 20 = .ok (.getfield 83, 3) := dk_180 0 83 (dk_at dksX8_count_0 20 rfl rfl)
theorem dX8_count_23 : decode cX8_count 23 = .ok (.goto 55, 3) := dk_167 0 55 (dk_at dksX8_count_1 0 rfl rfl)
theorem dX8_count_26 : decode cX8_count 26 = .ok (.iload_n 1, 1) := dk_27 (dk_at dksX8_count_1 3 rfl rfl)
theorem dX8_count_27 : decode cX8_count 27 = .ok (.iconst 1, 1) := dk_4 (dk_at dksX8_count_1 4 rfl rfl)
theorem dX8_count_28 : decode cX8_count 28 = .ok (.if_icmp .ne 10, 3) := dk_160 0 10 (dk_at dksX8_count_1 5 rfl rfl)
theorem dX8_count_31 : decode cX8_count 31 = .ok (.aload_n 0, 1) := dk_42 (dk_at dksX8_count_1 8 rfl rfl)
theorem dX8_count_32 : decode cX8_count 32 = .ok (.invokevirtual 371, 3) := dk_182 1 115 (dk_at dksX8_count_1 9 rfl rfl)
theorem dX8_count_35 : decode cX8_count 35 = .ok (.goto 43, 3) := dk_167 0 43 (dk_at dksX8_count_1 12 rfl rfl)
theorem dX8_count_38 : decode cX8_count 38 = .ok (.iload_n 1, 1) := dk_27 (dk_at dksX8_count_1 15 rfl rfl)
theorem dX8_count_39 : decode cX8_count 39 = .ok (.iconst 2, 1) := dk_5 (dk_at dksX8_count_1 16 rfl rfl)
theorem dX8_count_40 : decode cX8_count 40 = .ok (.if_icmp .ne 10, 3) := dk_160 0 10 (dk_at dksX8_count_1 17 rfl rfl)
theorem dX8_count_43 : decode cX8_count 43 = .ok (.aload_n 0, 1) := dk_42 (dk_at dksX8_count_1 20 rfl rfl)
theorem dX8_count_44 : decode cX8_count 44 = .ok (.getfield 124, 3) := dk_180 0 124 (dk_at dksX8_count_1 21 rfl rfl)
theorem dX8_count_47 : decode cX8_count 47 = .ok (.goto 31, 3) := dk_167 0 31 (dk_at dksX8_count_2 0 rfl rfl)
theorem dX8_count_50 : decode cX8_count 50 = .ok (.iload_n 1, 1) := dk_27 (dk_at dksX8_count_2 3 rfl rfl)
theorem dX8_count_51 : decode cX8_count 51 = .ok (.iconst 3, 1) := dk_6 (dk_at dksX8_count_2 4 rfl rfl)
theorem dX8_count_52 : decode cX8_count 52 = .ok (.if_icmp .ne 10, 3) := dk_160 0 10 (dk_at dksX8_count_2 5 rfl rfl)
theorem dX8_count_55 : decode cX8_count 55 = .ok (.aload_n 0, 1) := dk_42 (dk_at dksX8_count_2 8 rfl rfl)
theorem dX8_count_56 : decode cX8_count 56 = .ok (.getfield 80, 3) := dk_180 0 80 (dk_at dksX8_count_2 9 rfl rfl)
theorem dX8_count_59 : decode cX8_count 59 = .ok (.goto 19, 3) := dk_167 0 19 (dk_at dksX8_count_2 12 rfl rfl)
theorem dX8_count_62 : decode cX8_count 62 = .ok (.iload_n 1, 1) := dk_27 (dk_at dksX8_count_2 15 rfl rfl)
theorem dX8_count_63 : decode cX8_count 63 = .ok (.iconst 4, 1) := dk_7 (dk_at dksX8_count_2 16 rfl rfl)
theorem dX8_count_64 : decode cX8_count 64 = .ok (.if_icmp .ne 10, 3) := dk_160 0 10 (dk_at dksX8_count_2 17 rfl rfl)
theorem dX8_count_67 : decode cX8_count 67 = .ok (.aload_n 0, 1) := dk_42 (dk_at dksX8_count_2 20 rfl rfl)
theorem dX8_count_68 : decode cX8_count 68 = .ok (.getfield 147, 3) := dk_180 0 147 (dk_at dksX8_count_2 21 rfl rfl)
theorem dX8_count_71 : decode cX8_count 71 = .ok (.goto 7, 3) := dk_167 0 7 (dk_at dksX8_count_3 0 rfl rfl)
theorem dX8_count_74 : decode cX8_count 74 = .ok (.aload_n 0, 1) := dk_42 (dk_at dksX8_count_3 3 rfl rfl)
theorem dX8_count_75 : decode cX8_count 75 = .ok (.getfield 127, 3) := dk_180 0 127 (dk_at dksX8_count_3 4 rfl rfl)
theorem dX8_count_78 : decode cX8_count 78 = .ok (.ireturn, 1) := dk_172 (dk_at dksX8_count_3 7 rfl rfl)
abbrev cX8_cell : ByteArray := prog_16_method_103_code
def yX8_cell : MethodName := ⟨RX8, "cell", "(III)I"⟩
def dkwX8_cell_3 : List UInt8 := [27, 46, 4, 160, 0, 8, 29, 147, 167, 0, 4, 29, 79, 4, 172]
abbrev dktX8_cell_3 : List UInt8 := dkwX8_cell_3 ++ []
def dkwX8_cell_2 : List UInt8 := [16, 40, 27, 104, 28, 96, 42, 180, 0, 67, 27, 46, 154, 0, 8, 29, 145, 167, 0, 19, 42, 180, 0, 67]
abbrev dktX8_cell_2 : List UInt8 := dkwX8_cell_2 ++ dktX8_cell_3
def dkwX8_cell_1 : List UInt8 := [9, 42, 180, 0, 70, 27, 46, 4, 100, 133, 184, 0, 86, 154, 0, 6, 16, 244, 172, 42, 180, 0, 73]
abbrev dktX8_cell_1 : List UInt8 := dkwX8_cell_1 ++ dktX8_cell_2
def dkwX8_cell_0 : List UInt8 := [27, 184, 1, 154, 154, 0, 6, 16, 254, 172, 42, 180, 0, 63, 27, 51, 154, 0, 6, 16, 245, 172, 28, 133]
abbrev dktX8_cell_0 : List UInt8 := dkwX8_cell_0 ++ dktX8_cell_1
theorem dksX8_cell_0 : cX8_cell.data.toList.drop 0 = dktX8_cell_0 := by decide +kernel
theorem dksX8_cell_1 : cX8_cell.data.toList.drop 24 = dktX8_cell_1 := dk_seg dksX8_cell_0 24 rfl rfl
theorem dksX8_cell_2 : cX8_cell.data.toList.drop 47 = dktX8_cell_2 := dk_seg dksX8_cell_1 23 rfl rfl
theorem dksX8_cell_3 : cX8_cell.data.toList.drop 71 = dktX8_cell_3 := dk_seg dksX8_cell_2 24 rfl rfl
theorem dX8_cell_0 : decode cX8_cell 0 = .ok (.iload_n 1, 1) := dk_27 (dk_at dksX8_cell_0 0 rfl rfl)
theorem dX8_cell_1 : decode cX8_cell 1 = .ok (.invokestatic 410, 3) := dk_184 1 154 (dk_at dksX8_cell_0 1 rfl rfl)
theorem dX8_cell_4 : decode cX8_cell 4 = .ok (.ifCond .ne 6, 3) := dk_154 0 6 (dk_at dksX8_cell_0 4 rfl rfl)
theorem dX8_cell_7 : decode cX8_cell 7 = .ok (.bipush (-2), 2) := dk_16 254 (dk_at dksX8_cell_0 7 rfl rfl)
theorem dX8_cell_9 : decode cX8_cell 9 = .ok (.ireturn, 1) := dk_172 (dk_at dksX8_cell_0 9 rfl rfl)
theorem dX8_cell_10 : decode cX8_cell 10 = .ok (.aload_n 0, 1) := dk_42 (dk_at dksX8_cell_0 10 rfl rfl)
theorem dX8_cell_11 : decode cX8_cell 11 = .ok (.getfield 63, 3) := dk_180 0 63 (dk_at dksX8_cell_0 11 rfl rfl)
theorem dX8_cell_14 : decode cX8_cell 14 = .ok (.iload_n 1, 1) := dk_27 (dk_at dksX8_cell_0 14 rfl rfl)
theorem dX8_cell_15 : decode cX8_cell 15 = .ok (.baload, 1) := dk_51 (dk_at dksX8_cell_0 15 rfl rfl)
theorem dX8_cell_16 : decode cX8_cell 16 = .ok (.ifCond .ne 6, 3) := dk_154 0 6 (dk_at dksX8_cell_0 16 rfl rfl)
theorem dX8_cell_19 : decode cX8_cell 19 = .ok (.bipush (-11), 2) := dk_16 245 (dk_at dksX8_cell_0 19 rfl rfl)
theorem dX8_cell_21 : decode cX8_cell 21 = .ok (.ireturn, 1) := dk_172 (dk_at dksX8_cell_0 21 rfl rfl)
theorem dX8_cell_22 : decode cX8_cell 22 = .ok (.iload_n 2, 1) := dk_28 (dk_at dksX8_cell_0 22 rfl rfl)
theorem dX8_cell_23 : decode cX8_cell 23 = .ok (.i2l, 1) := dk_133 (dk_at dksX8_cell_0 23 rfl rfl)
theorem dX8_cell_24 : decode cX8_cell 24 = .ok (.lconst 0, 1) := dk_9 (dk_at dksX8_cell_1 0 rfl rfl)
theorem dX8_cell_25 : decode cX8_cell 25 = .ok (.aload_n 0, 1) := dk_42 (dk_at dksX8_cell_1 1 rfl rfl)
theorem dX8_cell_26 : decode cX8_cell 26 = .ok (.getfield 70, 3) := dk_180 0 70 (dk_at dksX8_cell_1 2 rfl rfl)
theorem dX8_cell_29 : decode cX8_cell 29 = .ok (.iload_n 1, 1) := dk_27 (dk_at dksX8_cell_1 5 rfl rfl)
theorem dX8_cell_30 : decode cX8_cell 30 = .ok (.iaload, 1) := dk_46 (dk_at dksX8_cell_1 6 rfl rfl)
theorem dX8_cell_31 : decode cX8_cell 31 = .ok (.iconst 1, 1) := dk_4 (dk_at dksX8_cell_1 7 rfl rfl)
theorem dX8_cell_32 : decode cX8_cell 32 = .ok (.isub, 1) := dk_100 (dk_at dksX8_cell_1 8 rfl rfl)
theorem dX8_cell_33 : decode cX8_cell 33 = .ok (.i2l, 1) := dk_133 (dk_at dksX8_cell_1 9 rfl rfl)
theorem dX8_cell_34 : decode cX8_cell 34 = .ok (.invokestatic 86, 3) := dk_184 0 86 (dk_at dksX8_cell_1 10 rfl rfl)
theorem dX8_cell_37 : decode cX8_cell 37 = .ok (.ifCond .ne 6, 3) := dk_154 0 6 (dk_at dksX8_cell_1 13 rfl rfl)
theorem dX8_cell_40 : decode cX8_cell 40 = .ok (.bipush (-12), 2) := dk_16 244 (dk_at dksX8_cell_1 16 rfl rfl)
theorem dX8_cell_42 : decode cX8_cell 42 = .ok (.ireturn, 1) := dk_172 (dk_at dksX8_cell_1 18 rfl rfl)
theorem dX8_cell_43 : decode cX8_cell 43 = .ok (.aload_n 0, 1) := dk_42 (dk_at dksX8_cell_1 19 rfl rfl)
theorem dX8_cell_44 : decode cX8_cell 44 = .ok (.getfield 73, 3) := dk_180 0 73 (dk_at dksX8_cell_1 20 rfl rfl)
theorem dX8_cell_47 : decode cX8_cell 47 = .ok (.bipush 40, 2) := dk_16 40 (dk_at dksX8_cell_2 0 rfl rfl)
theorem dX8_cell_49 : decode cX8_cell 49 = .ok (.iload_n 1, 1) := dk_27 (dk_at dksX8_cell_2 2 rfl rfl)
theorem dX8_cell_50 : decode cX8_cell 50 = .ok (.imul, 1) := dk_104 (dk_at dksX8_cell_2 3 rfl rfl)
theorem dX8_cell_51 : decode cX8_cell 51 = .ok (.iload_n 2, 1) := dk_28 (dk_at dksX8_cell_2 4 rfl rfl)
theorem dX8_cell_52 : decode cX8_cell 52 = .ok (.iadd, 1) := dk_96 (dk_at dksX8_cell_2 5 rfl rfl)
theorem dX8_cell_53 : decode cX8_cell 53 = .ok (.aload_n 0, 1) := dk_42 (dk_at dksX8_cell_2 6 rfl rfl)
theorem dX8_cell_54 : decode cX8_cell 54 = .ok (.getfield 67, 3) := dk_180 0 67 (dk_at dksX8_cell_2 7 rfl rfl)
theorem dX8_cell_57 : decode cX8_cell 57 = .ok (.iload_n 1, 1) := dk_27 (dk_at dksX8_cell_2 10 rfl rfl)
theorem dX8_cell_58 : decode cX8_cell 58 = .ok (.iaload, 1) := dk_46 (dk_at dksX8_cell_2 11 rfl rfl)
theorem dX8_cell_59 : decode cX8_cell 59 = .ok (.ifCond .ne 8, 3) := dk_154 0 8 (dk_at dksX8_cell_2 12 rfl rfl)
theorem dX8_cell_62 : decode cX8_cell 62 = .ok (.iload_n 3, 1) := dk_29 (dk_at dksX8_cell_2 15 rfl rfl)
theorem dX8_cell_63 : decode cX8_cell 63 = .ok (.i2b, 1) := dk_145 (dk_at dksX8_cell_2 16 rfl rfl)
theorem dX8_cell_64 : decode cX8_cell 64 = .ok (.goto 19, 3) := dk_167 0 19 (dk_at dksX8_cell_2 17 rfl rfl)
theorem dX8_cell_67 : decode cX8_cell 67 = .ok (.aload_n 0, 1) := dk_42 (dk_at dksX8_cell_2 20 rfl rfl)
theorem dX8_cell_68 : decode cX8_cell 68 = .ok (.getfield 67, 3) := dk_180 0 67 (dk_at dksX8_cell_2 21 rfl rfl)
theorem dX8_cell_71 : decode cX8_cell 71 = .ok (.iload_n 1, 1) := dk_27 (dk_at dksX8_cell_3 0 rfl rfl)
theorem dX8_cell_72 : decode cX8_cell 72 = .ok (.iaload, 1) := dk_46 (dk_at dksX8_cell_3 1 rfl rfl)
theorem dX8_cell_73 : decode cX8_cell 73 = .ok (.iconst 1, 1) := dk_4 (dk_at dksX8_cell_3 2 rfl rfl)
theorem dX8_cell_74 : decode cX8_cell 74 = .ok (.if_icmp .ne 8, 3) := dk_160 0 8 (dk_at dksX8_cell_3 3 rfl rfl)
theorem dX8_cell_77 : decode cX8_cell 77 = .ok (.iload_n 3, 1) := dk_29 (dk_at dksX8_cell_3 6 rfl rfl)
theorem dX8_cell_78 : decode cX8_cell 78 = .ok (.i2s, 1) := dk_147 (dk_at dksX8_cell_3 7 rfl rfl)
theorem dX8_cell_79 : decode cX8_cell 79 = .ok (.goto 4, 3) := dk_167 0 4 (dk_at dksX8_cell_3 8 rfl rfl)
theorem dX8_cell_82 : decode cX8_cell 82 = .ok (.iload_n 3, 1) := dk_29 (dk_at dksX8_cell_3 11 rfl rfl)
theorem dX8_cell_83 : decode cX8_cell 83 = .ok (.iastore, 1) := dk_79 (dk_at dksX8_cell_3 12 rfl rfl)
theorem dX8_cell_84 : decode cX8_cell 84 = .ok (.iconst 1, 1) := dk_4 (dk_at dksX8_cell_3 13 rfl rfl)
theorem dX8_cell_85 : decode cX8_cell 85 = .ok (.ireturn, 1) := dk_172 (dk_at dksX8_cell_3 14 rfl rfl)
abbrev cX8_copy : ByteArray := prog_16_method_104_code
def yX8_copy : MethodName := ⟨RX8, "copy", "(IIIII)I"⟩
def dkwX8_copy_7 : List UInt8 := [180, 0, 73, 16, 40, 27, 104, 28, 96, 21, 8, 96, 46, 79, 132, 7, 1, 167, 255, 198, 21, 5, 172]
abbrev dktX8_copy_7 : List UInt8 := dkwX8_copy_7 ++ []
def dkwX8_copy_6 : List UInt8 := [100, 167, 0, 5, 21, 7, 54, 8, 42, 180, 0, 73, 16, 40, 29, 104, 21, 4, 96, 21, 8, 96, 42]
abbrev dktX8_copy_6 : List UInt8 := dkwX8_copy_6 ++ dktX8_copy_7
def dkwX8_copy_5 : List UInt8 := [3, 54, 6, 3, 54, 7, 21, 7, 21, 5, 162, 0, 57, 21, 6, 153, 0, 13, 21, 5, 4, 100, 21, 7]
abbrev dktX8_copy_5 : List UInt8 := dkwX8_copy_5 ++ dktX8_copy_6
def dkwX8_copy_4 : List UInt8 := [21, 5, 100, 164, 0, 6, 16, 244, 172, 27, 29, 160, 0, 13, 28, 21, 4, 162, 0, 7, 4, 167, 0, 4]
abbrev dktX8_copy_4 : List UInt8 := dkwX8_copy_4 ++ dktX8_copy_5
def dkwX8_copy_3 : List UInt8 := [155, 0, 30, 28, 42, 180, 0, 70, 27, 46, 21, 5, 100, 163, 0, 17, 21, 4, 42, 180, 0, 70, 29, 46]
abbrev dktX8_copy_3 : List UInt8 := dkwX8_copy_3 ++ dktX8_copy_4
def dkwX8_copy_2 : List UInt8 := [180, 0, 67, 29, 46, 159, 0, 6, 16, 243, 172, 21, 5, 155, 0, 39, 28, 155, 0, 35, 21, 4]
abbrev dktX8_copy_2 : List UInt8 := dkwX8_copy_2 ++ dktX8_copy_3
def dkwX8_copy_1 : List UInt8 := [153, 0, 12, 42, 180, 0, 63, 29, 51, 154, 0, 6, 16, 245, 172, 42, 180, 0, 67, 27, 46, 42]
abbrev dktX8_copy_1 : List UInt8 := dkwX8_copy_1 ++ dktX8_copy_2
def dkwX8_copy_0 : List UInt8 := [27, 184, 1, 154, 153, 0, 10, 29, 184, 1, 154, 154, 0, 6, 16, 254, 172, 42, 180, 0, 63, 27, 51]
abbrev dktX8_copy_0 : List UInt8 := dkwX8_copy_0 ++ dktX8_copy_1
theorem dksX8_copy_0 : cX8_copy.data.toList.drop 0 = dktX8_copy_0 := by decide +kernel
theorem dksX8_copy_1 : cX8_copy.data.toList.drop 23 = dktX8_copy_1 := dk_seg dksX8_copy_0 23 rfl rfl
theorem dksX8_copy_2 : cX8_copy.data.toList.drop 45 = dktX8_copy_2 := dk_seg dksX8_copy_1 22 rfl rfl
theorem dksX8_copy_3 : cX8_copy.data.toList.drop 67 = dktX8_copy_3 := dk_seg dksX8_copy_2 22 rfl rfl
theorem dksX8_copy_4 : cX8_copy.data.toList.drop 91 = dktX8_copy_4 := dk_seg dksX8_copy_3 24 rfl rfl
theorem dksX8_copy_5 : cX8_copy.data.toList.drop 115 = dktX8_copy_5 := dk_seg dksX8_copy_4 24 rfl rfl
theorem dksX8_copy_6 : cX8_copy.data.toList.drop 139 = dktX8_copy_6 := dk_seg dksX8_copy_5 24 rfl rfl
theorem dksX8_copy_7 : cX8_copy.data.toList.drop 162 = dktX8_copy_7 := dk_seg dksX8_copy_6 23 rfl rfl
theorem dX8_copy_0 : decode cX8_copy 0 = .ok (.iload_n 1, 1) := dk_27 (dk_at dksX8_copy_0 0 rfl rfl)
theorem dX8_copy_1 : decode cX8_copy 1 = .ok (.invokestatic 410, 3) := dk_184 1 154 (dk_at dksX8_copy_0 1 rfl rfl)
theorem dX8_copy_4 : decode cX8_copy 4 = .ok (.ifCond .eq 10, 3) := dk_153 0 10 (dk_at dksX8_copy_0 4 rfl rfl)
theorem dX8_copy_7 : decode cX8_copy 7 = .ok (.iload_n 3, 1) := dk_29 (dk_at dksX8_copy_0 7 rfl rfl)
theorem dX8_copy_8 : decode cX8_copy 8 = .ok (.invokestatic 410, 3) := dk_184 1 154 (dk_at dksX8_copy_0 8 rfl rfl)
theorem dX8_copy_11 : decode cX8_copy 11 = .ok (.ifCond .ne 6, 3) := dk_154 0 6 (dk_at dksX8_copy_0 11 rfl rfl)
theorem dX8_copy_14 : decode cX8_copy 14 = .ok (.bipush (-2), 2) := dk_16 254 (dk_at dksX8_copy_0 14 rfl rfl)
theorem dX8_copy_16 : decode cX8_copy 16 = .ok (.ireturn, 1) := dk_172 (dk_at dksX8_copy_0 16 rfl rfl)
theorem dX8_copy_17 : decode cX8_copy 17 = .ok (.aload_n 0, 1) := dk_42 (dk_at dksX8_copy_0 17 rfl rfl)
theorem dX8_copy_18 : decode cX8_copy 18 = .ok (.getfield 63, 3) := dk_180 0 63 (dk_at dksX8_copy_0 18 rfl rfl)
theorem dX8_copy_21 : decode cX8_copy 21 = .ok (.iload_n 1, 1) := dk_27 (dk_at dksX8_copy_0 21 rfl rfl)
theorem dX8_copy_22 : decode cX8_copy 22 = .ok (.baload, 1) := dk_51 (dk_at dksX8_copy_0 22 rfl rfl)
theorem dX8_copy_23 : decode cX8_copy 23 = .ok (.ifCond .eq 12, 3) := dk_153 0 12 (dk_at dksX8_copy_1 0 rfl rfl)
theorem dX8_copy_26 : decode cX8_copy 26 = .ok (.aload_n 0, 1) := dk_42 (dk_at dksX8_copy_1 3 rfl rfl)
theorem dX8_copy_27 : decode cX8_copy 27 = .ok (.getfield 63, 3) := dk_180 0 63 (dk_at dksX8_copy_1 4 rfl rfl)
theorem dX8_copy_30 : decode cX8_copy 30 = .ok (.iload_n 3, 1) := dk_29 (dk_at dksX8_copy_1 7 rfl rfl)
theorem dX8_copy_31 : decode cX8_copy 31 = .ok (.baload, 1) := dk_51 (dk_at dksX8_copy_1 8 rfl rfl)
theorem dX8_copy_32 : decode cX8_copy 32 = .ok (.ifCond .ne 6, 3) := dk_154 0 6 (dk_at dksX8_copy_1 9 rfl rfl)
theorem dX8_copy_35 : decode cX8_copy 35 = .ok (.bipush (-11), 2) := dk_16 245 (dk_at dksX8_copy_1 12 rfl rfl)
theorem dX8_copy_37 : decode cX8_copy 37 = .ok (.ireturn, 1) := dk_172 (dk_at dksX8_copy_1 14 rfl rfl)
theorem dX8_copy_38 : decode cX8_copy 38 = .ok (.aload_n 0, 1) := dk_42 (dk_at dksX8_copy_1 15 rfl rfl)
theorem dX8_copy_39 : decode cX8_copy 39 = .ok (.getfield 67, 3) := dk_180 0 67 (dk_at dksX8_copy_1 16 rfl rfl)
theorem dX8_copy_42 : decode cX8_copy 42 = .ok (.iload_n 1, 1) := dk_27 (dk_at dksX8_copy_1 19 rfl rfl)
theorem dX8_copy_43 : decode cX8_copy 43 = .ok (.iaload, 1) := dk_46 (dk_at dksX8_copy_1 20 rfl rfl)
theorem dX8_copy_44 : decode cX8_copy 44 = .ok (.aload_n 0, 1) := dk_42 (dk_at dksX8_copy_1 21 rfl rfl)
theorem dX8_copy_45 : decode cX8_copy 45 = .ok (.getfield 67, 3) := dk_180 0 67 (dk_at dksX8_copy_2 0 rfl rfl)
theorem dX8_copy_48 : decode cX8_copy 48 = .ok (.iload_n 3, 1) := dk_29 (dk_at dksX8_copy_2 3 rfl rfl)
theorem dX8_copy_49 : decode cX8_copy 49 = .ok (.iaload, 1) := dk_46 (dk_at dksX8_copy_2 4 rfl rfl)
theorem dX8_copy_50 : decode cX8_copy 50 = .ok (.if_icmp .eq 6, 3) := dk_159 0 6 (dk_at dksX8_copy_2 5 rfl rfl)
theorem dX8_copy_53 : decode cX8_copy 53 = .ok (.bipush (-13), 2) := dk_16 243 (dk_at dksX8_copy_2 8 rfl rfl)
theorem dX8_copy_55 : decode cX8_copy 55 = .ok (.ireturn, 1) := dk_172 (dk_at dksX8_copy_2 10 rfl rfl)
theorem dX8_copy_56 : decode cX8_copy 56 = .ok (.iload 5, 2) := dk_21 5 (dk_at dksX8_copy_2 11 rfl rfl)
theorem dX8_copy_58 : decode cX8_copy 58 = .ok (.ifCond .lt 39, 3) := dk_155 0 39 (dk_at dksX8_copy_2 13 rfl rfl)
theorem dX8_copy_61 : decode cX8_copy 61 = .ok (.iload_n 2, 1) := dk_28 (dk_at dksX8_copy_2 16 rfl rfl)
theorem dX8_copy_62 : decode cX8_copy 62 = .ok (.ifCond .lt 35, 3) := dk_155 0 35 (dk_at dksX8_copy_2 17 rfl rfl)
theorem dX8_copy_65 : decode cX8_copy 65 = .ok (.iload 4, 2) := dk_21 4 (dk_at dksX8_copy_2 20 rfl rfl)
theorem dX8_copy_67 : decode cX8_copy 67 = .ok (.ifCond .lt 30, 3) := dk_155 0 30 (dk_at dksX8_copy_3 0 rfl rfl)
theorem dX8_copy_70 : decode cX8_copy 70 = .ok (.iload_n 2, 1) := dk_28 (dk_at dksX8_copy_3 3 rfl rfl)
theorem dX8_copy_71 : decode cX8_copy 71 = .ok (.aload_n 0, 1) := dk_42 (dk_at dksX8_copy_3 4 rfl rfl)
theorem dX8_copy_72 : decode cX8_copy 72 = .ok (.getfield 70, 3) := dk_180 0 70 (dk_at dksX8_copy_3 5 rfl rfl)
theorem dX8_copy_75 : decode cX8_copy 75 = .ok (.iload_n 1, 1) := dk_27 (dk_at dksX8_copy_3 8 rfl rfl)
theorem dX8_copy_76 : decode cX8_copy 76 = .ok (.iaload, 1) := dk_46 (dk_at dksX8_copy_3 9 rfl rfl)
theorem dX8_copy_77 : decode cX8_copy 77 = .ok (.iload 5, 2) := dk_21 5 (dk_at dksX8_copy_3 10 rfl rfl)
theorem dX8_copy_79 : decode cX8_copy 79 = .ok (.isub, 1) := dk_100 (dk_at dksX8_copy_3 12 rfl rfl)
theorem dX8_copy_80 : decode cX8_copy 80 = .ok (.if_icmp .gt 17, 3) := dk_163 0 17 (dk_at dksX8_copy_3 13 rfl rfl)
theorem dX8_copy_83 : decode cX8_copy 83 = .ok (.iload 4, 2) := dk_21 4 (dk_at dksX8_copy_3 16 rfl rfl)
theorem dX8_copy_85 : decode cX8_copy 85 = .ok (.aload_n 0, 1) := dk_42 (dk_at dksX8_copy_3 18 rfl rfl)
theorem dX8_copy_86 : decode cX8_copy 86 = .ok (.getfield 70, 3) := dk_180 0 70 (dk_at dksX8_copy_3 19 rfl rfl)
theorem dX8_copy_89 : decode cX8_copy 89 = .ok (.iload_n 3, 1) := dk_29 (dk_at dksX8_copy_3 22 rfl rfl)
theorem dX8_copy_90 : decode cX8_copy 90 = .ok (.iaload, 1) := dk_46 (dk_at dksX8_copy_3 23 rfl rfl)
theorem dX8_copy_91 : decode cX8_copy 91 = .ok (.iload 5, 2) := dk_21 5 (dk_at dksX8_copy_4 0 rfl rfl)
theorem dX8_copy_93 : decode cX8_copy 93 = .ok (.isub, 1) := dk_100 (dk_at dksX8_copy_4 2 rfl rfl)
theorem dX8_copy_94 : decode cX8_copy 94 = .ok (.if_icmp .le 6, 3) := dk_164 0 6 (dk_at dksX8_copy_4 3 rfl rfl)
theorem dX8_copy_97 : decode cX8_copy 97 = .ok (.bipush (-12), 2) := dk_16 244 (dk_at dksX8_copy_4 6 rfl rfl)
theorem dX8_copy_99 : decode cX8_copy 99 = .ok (.ireturn, 1) := dk_172 (dk_at dksX8_copy_4 8 rfl rfl)
theorem dX8_copy_100 : decode cX8_copy 100 = .ok (.iload_n 1, 1) := dk_27 (dk_at dksX8_copy_4 9 rfl rfl)
theorem dX8_copy_101 : decode cX8_copy 101 = .ok (.iload_n 3, 1) := dk_29 (dk_at dksX8_copy_4 10 rfl rfl)
theorem dX8_copy_102 : decode cX8_copy 102 = .ok (.if_icmp .ne 13, 3) := dk_160 0 13 (dk_at dksX8_copy_4 11 rfl rfl)
theorem dX8_copy_105 : decode cX8_copy 105 = .ok (.iload_n 2, 1) := dk_28 (dk_at dksX8_copy_4 14 rfl rfl)
theorem dX8_copy_106 : decode cX8_copy 106 = .ok (.iload 4, 2) := dk_21 4 (dk_at dksX8_copy_4 15 rfl rfl)
theorem dX8_copy_108 : decode cX8_copy 108 = .ok (.if_icmp .ge 7, 3) := dk_162 0 7 (dk_at dksX8_copy_4 17 rfl rfl)
theorem dX8_copy_111 : decode cX8_copy 111 = .ok (.iconst 1, 1) := dk_4 (dk_at dksX8_copy_4 20 rfl rfl)
theorem dX8_copy_112 : decode cX8_copy 112 = .ok (.goto 4, 3) := dk_167 0 4 (dk_at dksX8_copy_4 21 rfl rfl)
theorem dX8_copy_115 : decode cX8_copy 115 = .ok (.iconst 0, 1) := dk_3 (dk_at dksX8_copy_5 0 rfl rfl)
theorem dX8_copy_116 : decode cX8_copy 116 = .ok (.istore 6, 2) := dk_54 6 (dk_at dksX8_copy_5 1 rfl rfl)
theorem dX8_copy_118 : decode cX8_copy 118 = .ok (.iconst 0, 1) := dk_3 (dk_at dksX8_copy_5 3 rfl rfl)
theorem dX8_copy_119 : decode cX8_copy 119 = .ok (.istore 7, 2) := dk_54 7 (dk_at dksX8_copy_5 4 rfl rfl)
theorem dX8_copy_121 : decode cX8_copy 121 = .ok (.iload 7, 2) := dk_21 7 (dk_at dksX8_copy_5 6 rfl rfl)
theorem dX8_copy_123 : decode cX8_copy 123 = .ok (.iload 5, 2) := dk_21 5 (dk_at dksX8_copy_5 8 rfl rfl)
theorem dX8_copy_125 : decode cX8_copy 125 = .ok (.if_icmp .ge 57, 3) := dk_162 0 57 (dk_at dksX8_copy_5 10 rfl rfl)
theorem dX8_copy_128 : decode cX8_copy 128 = .ok (.iload 6, 2) := dk_21 6 (dk_at dksX8_copy_5 13 rfl rfl)
theorem dX8_copy_130 : decode cX8_copy 130 = .ok (.ifCond .eq 13, 3) := dk_153 0 13 (dk_at dksX8_copy_5 15 rfl rfl)
theorem dX8_copy_133 : decode cX8_copy 133 = .ok (.iload 5, 2) := dk_21 5 (dk_at dksX8_copy_5 18 rfl rfl)
theorem dX8_copy_135 : decode cX8_copy 135 = .ok (.iconst 1, 1) := dk_4 (dk_at dksX8_copy_5 20 rfl rfl)
theorem dX8_copy_136 : decode cX8_copy 136 = .ok (.isub, 1) := dk_100 (dk_at dksX8_copy_5 21 rfl rfl)
theorem dX8_copy_137 : decode cX8_copy 137 = .ok (.iload 7, 2) := dk_21 7 (dk_at dksX8_copy_5 22 rfl rfl)
theorem dX8_copy_139 : decode cX8_copy 139 = .ok (.isub, 1) := dk_100 (dk_at dksX8_copy_6 0 rfl rfl)
theorem dX8_copy_140 : decode cX8_copy 140 = .ok (.goto 5, 3) := dk_167 0 5 (dk_at dksX8_copy_6 1 rfl rfl)
theorem dX8_copy_143 : decode cX8_copy 143 = .ok (.iload 7, 2) := dk_21 7 (dk_at dksX8_copy_6 4 rfl rfl)
theorem dX8_copy_145 : decode cX8_copy 145 = .ok (.istore 8, 2) := dk_54 8 (dk_at dksX8_copy_6 6 rfl rfl)
theorem dX8_copy_147 : decode cX8_copy 147 = .ok (.aload_n 0, 1) := dk_42 (dk_at dksX8_copy_6 8 rfl rfl)
theorem dX8_copy_148 : decode cX8_copy 148 = .ok (.getfield 73, 3) := dk_180 0 73 (dk_at dksX8_copy_6 9 rfl rfl)
theorem dX8_copy_151 : decode cX8_copy 151 = .ok (.bipush 40, 2) := dk_16 40 (dk_at dksX8_copy_6 12 rfl rfl)
theorem dX8_copy_153 : decode cX8_copy 153 = .ok (.iload_n 3, 1) := dk_29 (dk_at dksX8_copy_6 14 rfl rfl)
theorem dX8_copy_154 : decode cX8_copy 154 = .ok (.imul, 1) := dk_104 (dk_at dksX8_copy_6 15 rfl rfl)
theorem dX8_copy_155 : decode cX8_copy 155 = .ok (.iload 4, 2) := dk_21 4 (dk_at dksX8_copy_6 16 rfl rfl)
theorem dX8_copy_157 : decode cX8_copy 157 = .ok (.iadd, 1) := dk_96 (dk_at dksX8_copy_6 18 rfl rfl)
theorem dX8_copy_158 : decode cX8_copy 158 = .ok (.iload 8, 2) := dk_21 8 (dk_at dksX8_copy_6 19 rfl rfl)
theorem dX8_copy_160 : decode cX8_copy 160 = .ok (.iadd, 1) := dk_96 (dk_at dksX8_copy_6 21 rfl rfl)
theorem dX8_copy_161 : decode cX8_copy 161 = .ok (.aload_n 0, 1) := dk_42 (dk_at dksX8_copy_6 22 rfl rfl)
theorem dX8_copy_162 : decode cX8_copy 162 = .ok (.getfield 73, 3) := dk_180 0 73 (dk_at dksX8_copy_7 0 rfl rfl)
theorem dX8_copy_165 : decode cX8_copy 165 = .ok (.bipush 40, 2) := dk_16 40 (dk_at dksX8_copy_7 3 rfl rfl)
theorem dX8_copy_167 : decode cX8_copy 167 = .ok (.iload_n 1, 1) := dk_27 (dk_at dksX8_copy_7 5 rfl rfl)
theorem dX8_copy_168 : decode cX8_copy 168 = .ok (.imul, 1) := dk_104 (dk_at dksX8_copy_7 6 rfl rfl)
theorem dX8_copy_169 : decode cX8_copy 169 = .ok (.iload_n 2, 1) := dk_28 (dk_at dksX8_copy_7 7 rfl rfl)
theorem dX8_copy_170 : decode cX8_copy 170 = .ok (.iadd, 1) := dk_96 (dk_at dksX8_copy_7 8 rfl rfl)
theorem dX8_copy_171 : decode cX8_copy 171 = .ok (.iload 8, 2) := dk_21 8 (dk_at dksX8_copy_7 9 rfl rfl)
theorem dX8_copy_173 : decode cX8_copy 173 = .ok (.iadd, 1) := dk_96 (dk_at dksX8_copy_7 11 rfl rfl)
theorem dX8_copy_174 : decode cX8_copy 174 = .ok (.iaload, 1) := dk_46 (dk_at dksX8_copy_7 12 rfl rfl)
theorem dX8_copy_175 : decode cX8_copy 175 = .ok (.iastore, 1) := dk_79 (dk_at dksX8_copy_7 13 rfl rfl)
theorem dX8_copy_176 : decode cX8_copy 176 = .ok (.iinc 7 1, 3) := dk_132 7 1 (dk_at dksX8_copy_7 14 rfl rfl)
theorem dX8_copy_179 : decode cX8_copy 179 = .ok (.goto (-58), 3) := dk_167 255 198 (dk_at dksX8_copy_7 17 rfl rfl)
theorem dX8_copy_182 : decode cX8_copy 182 = .ok (.iload 5, 2) := dk_21 5 (dk_at dksX8_copy_7 20 rfl rfl)
theorem dX8_copy_184 : decode cX8_copy 184 = .ok (.ireturn, 1) := dk_172 (dk_at dksX8_copy_7 22 rfl rfl)
abbrev cX8_lives : ByteArray := prog_16_method_105_code
def yX8_lives : MethodName := ⟨RX8, "lives", "(IIII)I"⟩
def dkwX8_lives_7 : List UInt8 := [132, 6, 1, 167, 255, 167, 21, 5, 172]
abbrev dktX8_lives_7 : List UInt8 := dkwX8_lives_7 ++ []
def dkwX8_lives_6 : List UInt8 := [180, 0, 73, 21, 7, 5, 96, 46, 182, 1, 179, 155, 0, 7, 4, 167, 0, 4, 3, 96, 54, 5]
abbrev dktX8_lives_6 : List UInt8 := dkwX8_lives_6 ++ dktX8_lives_7
def dkwX8_lives_5 : List UInt8 := [54, 7, 21, 5, 42, 42, 180, 0, 73, 21, 7, 46, 42, 180, 0, 73, 21, 7, 4, 96, 46, 42]
abbrev dktX8_lives_5 : List UInt8 := dkwX8_lives_5 ++ dktX8_lives_6
def dkwX8_lives_4 : List UInt8 := [6, 21, 6, 104, 100, 6, 100, 164, 0, 6, 16, 244, 172, 16, 40, 27, 104, 29, 96, 6, 21, 6, 104, 96]
abbrev dktX8_lives_4 : List UInt8 := dkwX8_lives_4 ++ dktX8_lives_5
def dkwX8_lives_3 : List UInt8 := [3, 54, 5, 3, 54, 6, 21, 6, 21, 4, 162, 0, 88, 29, 155, 0, 20, 29, 42, 180, 0, 70, 27, 46]
abbrev dktX8_lives_3 : List UInt8 := dkwX8_lives_3 ++ dktX8_lives_4
def dkwX8_lives_2 : List UInt8 := [180, 0, 67, 27, 46, 28, 159, 0, 6, 16, 243, 172, 42, 180, 0, 63, 27, 51, 154, 0, 6, 16, 245, 172]
abbrev dktX8_lives_2 : List UInt8 := dkwX8_lives_2 ++ dktX8_lives_3
def dkwX8_lives_1 : List UInt8 := [20, 0, 130, 184, 0, 86, 154, 0, 6, 16, 254, 172, 42, 180, 0, 63, 27, 51, 153, 0, 16, 42]
abbrev dktX8_lives_1 : List UInt8 := dkwX8_lives_1 ++ dktX8_lives_2
def dkwX8_lives_0 : List UInt8 := [27, 184, 1, 154, 153, 0, 28, 28, 133, 9, 20, 1, 118, 184, 0, 86, 153, 0, 16, 21, 4, 133, 9]
abbrev dktX8_lives_0 : List UInt8 := dkwX8_lives_0 ++ dktX8_lives_1
theorem dksX8_lives_0 : cX8_lives.data.toList.drop 0 = dktX8_lives_0 := by decide +kernel
theorem dksX8_lives_1 : cX8_lives.data.toList.drop 23 = dktX8_lives_1 := dk_seg dksX8_lives_0 23 rfl rfl
theorem dksX8_lives_2 : cX8_lives.data.toList.drop 45 = dktX8_lives_2 := dk_seg dksX8_lives_1 22 rfl rfl
theorem dksX8_lives_3 : cX8_lives.data.toList.drop 69 = dktX8_lives_3 := dk_seg dksX8_lives_2 24 rfl rfl
theorem dksX8_lives_4 : cX8_lives.data.toList.drop 93 = dktX8_lives_4 := dk_seg dksX8_lives_3 24 rfl rfl
theorem dksX8_lives_5 : cX8_lives.data.toList.drop 117 = dktX8_lives_5 := dk_seg dksX8_lives_4 24 rfl rfl
theorem dksX8_lives_6 : cX8_lives.data.toList.drop 139 = dktX8_lives_6 := dk_seg dksX8_lives_5 22 rfl rfl
theorem dksX8_lives_7 : cX8_lives.data.toList.drop 161 = dktX8_lives_7 := dk_seg dksX8_lives_6 22 rfl rfl
theorem dX8_lives_0 : decode cX8_lives 0 = .ok (.iload_n 1, 1) := dk_27 (dk_at dksX8_lives_0 0 rfl rfl)
theorem dX8_lives_1 : decode cX8_lives 1 = .ok (.invokestatic 410, 3) := dk_184 1 154 (dk_at dksX8_lives_0 1 rfl rfl)
theorem dX8_lives_4 : decode cX8_lives 4 = .ok (.ifCond .eq 28, 3) := dk_153 0 28 (dk_at dksX8_lives_0 4 rfl rfl)
theorem dX8_lives_7 : decode cX8_lives 7 = .ok (.iload_n 2, 1) := dk_28 (dk_at dksX8_lives_0 7 rfl rfl)
theorem dX8_lives_8 : decode cX8_lives 8 = .ok (.i2l, 1) := dk_133 (dk_at dksX8_lives_0 8 rfl rfl)
theorem dX8_lives_9 : decode cX8_lives 9 = .ok (.lconst 0, 1) := dk_9 (dk_at dksX8_lives_0 9 rfl rfl)
theorem dX8_lives_10 : decode cX8_lives 10 = .ok (.ldc2_w 374, 3) := dk_20 1 118 (dk_at dksX8_lives_0 10 rfl rfl)
theorem dX8_lives_13 : decode cX8_lives 13 = .ok (.invokestatic 86, 3) := dk_184 0 86 (dk_at dksX8_lives_0 13 rfl rfl)
theorem dX8_lives_16 : decode cX8_lives 16 = .ok (.ifCond .eq 16, 3) := dk_153 0 16 (dk_at dksX8_lives_0 16 rfl rfl)
theorem dX8_lives_19 : decode cX8_lives 19 = .ok (.iload 4, 2) := dk_21 4 (dk_at dksX8_lives_0 19 rfl rfl)
theorem dX8_lives_21 : decode cX8_lives 21 = .ok (.i2l, 1) := dk_133 (dk_at dksX8_lives_0 21 rfl rfl)
theorem dX8_lives_22 : decode cX8_lives 22 = .ok (.lconst 0, 1) := dk_9 (dk_at dksX8_lives_0 22 rfl rfl)
theorem dX8_lives_23 : decode cX8_lives 23 = .ok (.ldc2_w 130, 3) := dk_20 0 130 (dk_at dksX8_lives_1 0 rfl rfl)
theorem dX8_lives_26 : decode cX8_lives 26 = .ok (.invokestatic 86, 3) := dk_184 0 86 (dk_at dksX8_lives_1 3 rfl rfl)
theorem dX8_lives_29 : decode cX8_lives 29 = .ok (.ifCond .ne 6, 3) := dk_154 0 6 (dk_at dksX8_lives_1 6 rfl rfl)
theorem dX8_lives_32 : decode cX8_lives 32 = .ok (.bipush (-2), 2) := dk_16 254 (dk_at dksX8_lives_1 9 rfl rfl)
theorem dX8_lives_34 : decode cX8_lives 34 = .ok (.ireturn, 1) := dk_172 (dk_at dksX8_lives_1 11 rfl rfl)
theorem dX8_lives_35 : decode cX8_lives 35 = .ok (.aload_n 0, 1) := dk_42 (dk_at dksX8_lives_1 12 rfl rfl)
theorem dX8_lives_36 : decode cX8_lives 36 = .ok (.getfield 63, 3) := dk_180 0 63 (dk_at dksX8_lives_1 13 rfl rfl)
theorem dX8_lives_39 : decode cX8_lives 39 = .ok (.iload_n 1, 1) := dk_27 (dk_at dksX8_lives_1 16 rfl rfl)
theorem dX8_lives_40 : decode cX8_lives 40 = .ok (.baload, 1) := dk_51 (dk_at dksX8_lives_1 17 rfl rfl)
theorem dX8_lives_41 : decode cX8_lives 41 = .ok (.ifCond .eq 16, 3) := dk_153 0 16 (dk_at dksX8_lives_1 18 rfl rfl)
theorem dX8_lives_44 : decode cX8_lives 44 = .ok (.aload_n 0, 1) := dk_42 (dk_at dksX8_lives_1 21 rfl rfl)
theorem dX8_lives_45 : decode cX8_lives 45 = .ok (.getfield 67, 3) := dk_180 0 67 (dk_at dksX8_lives_2 0 rfl rfl)
theorem dX8_lives_48 : decode cX8_lives 48 = .ok (.iload_n 1, 1) := dk_27 (dk_at dksX8_lives_2 3 rfl rfl)
theorem dX8_lives_49 : decode cX8_lives 49 = .ok (.iaload, 1) := dk_46 (dk_at dksX8_lives_2 4 rfl rfl)
theorem dX8_lives_50 : decode cX8_lives 50 = .ok (.iload_n 2, 1) := dk_28 (dk_at dksX8_lives_2 5 rfl rfl)
theorem dX8_lives_51 : decode cX8_lives 51 = .ok (.if_icmp .eq 6, 3) := dk_159 0 6 (dk_at dksX8_lives_2 6 rfl rfl)
theorem dX8_lives_54 : decode cX8_lives 54 = .ok (.bipush (-13), 2) := dk_16 243 (dk_at dksX8_lives_2 9 rfl rfl)
theorem dX8_lives_56 : decode cX8_lives 56 = .ok (.ireturn, 1) := dk_172 (dk_at dksX8_lives_2 11 rfl rfl)
theorem dX8_lives_57 : decode cX8_lives 57 = .ok (.aload_n 0, 1) := dk_42 (dk_at dksX8_lives_2 12 rfl rfl)
theorem dX8_lives_58 : decode cX8_lives 58 = .ok (.getfield 63, 3) := dk_180 0 63 (dk_at dksX8_lives_2 13 rfl rfl)
theorem dX8_lives_61 : decode cX8_lives 61 = .ok (.iload_n 1, 1) := dk_27 (dk_at dksX8_lives_2 16 rfl rfl)
theorem dX8_lives_62 : decode cX8_lives 62 = .ok (.baload, 1) := dk_51 (dk_at dksX8_lives_2 17 rfl rfl)
theorem dX8_lives_63 : decode cX8_lives 63 = .ok (.ifCond .ne 6, 3) := dk_154 0 6 (dk_at dksX8_lives_2 18 rfl rfl)
theorem dX8_lives_66 : decode cX8_lives 66 = .ok (.bipush (-11), 2) := dk_16 245 (dk_at dksX8_lives_2 21 rfl rfl)
theorem dX8_lives_68 : decode cX8_lives 68 = .ok (.ireturn, 1) := dk_172 (dk_at dksX8_lives_2 23 rfl rfl)
theorem dX8_lives_69 : decode cX8_lives 69 = .ok (.iconst 0, 1) := dk_3 (dk_at dksX8_lives_3 0 rfl rfl)
theorem dX8_lives_70 : decode cX8_lives 70 = .ok (.istore 5, 2) := dk_54 5 (dk_at dksX8_lives_3 1 rfl rfl)
theorem dX8_lives_72 : decode cX8_lives 72 = .ok (.iconst 0, 1) := dk_3 (dk_at dksX8_lives_3 3 rfl rfl)
theorem dX8_lives_73 : decode cX8_lives 73 = .ok (.istore 6, 2) := dk_54 6 (dk_at dksX8_lives_3 4 rfl rfl)
theorem dX8_lives_75 : decode cX8_lives 75 = .ok (.iload 6, 2) := dk_21 6 (dk_at dksX8_lives_3 6 rfl rfl)
theorem dX8_lives_77 : decode cX8_lives 77 = .ok (.iload 4, 2) := dk_21 4 (dk_at dksX8_lives_3 8 rfl rfl)
theorem dX8_lives_79 : decode cX8_lives 79 = .ok (.if_icmp .ge 88, 3) := dk_162 0 88 (dk_at dksX8_lives_3 10 rfl rfl)
theorem dX8_lives_82 : decode cX8_lives 82 = .ok (.iload_n 3, 1) := dk_29 (dk_at dksX8_lives_3 13 rfl rfl)
theorem dX8_lives_83 : decode cX8_lives 83 = .ok (.ifCond .lt 20, 3) := dk_155 0 20 (dk_at dksX8_lives_3 14 rfl rfl)
theorem dX8_lives_86 : decode cX8_lives 86 = .ok (.iload_n 3, 1) := dk_29 (dk_at dksX8_lives_3 17 rfl rfl)
theorem dX8_lives_87 : decode cX8_lives 87 = .ok (.aload_n 0, 1) := dk_42 (dk_at dksX8_lives_3 18 rfl rfl)
theorem dX8_lives_88 : decode cX8_lives 88 = .ok (.getfield 70, 3) := dk_180 0 70 (dk_at dksX8_lives_3 19 rfl rfl)
theorem dX8_lives_91 : decode cX8_lives 91 = .ok (.iload_n 1, 1) := dk_27 (dk_at dksX8_lives_3 22 rfl rfl)
theorem dX8_lives_92 : decode cX8_lives 92 = .ok (.iaload, 1) := dk_46 (dk_at dksX8_lives_3 23 rfl rfl)
theorem dX8_lives_93 : decode cX8_lives 93 = .ok (.iconst 3, 1) := dk_6 (dk_at dksX8_lives_4 0 rfl rfl)
theorem dX8_lives_94 : decode cX8_lives 94 = .ok (.iload 6, 2) := dk_21 6 (dk_at dksX8_lives_4 1 rfl rfl)
theorem dX8_lives_96 : decode cX8_lives 96 = .ok (.imul, 1) := dk_104 (dk_at dksX8_lives_4 3 rfl rfl)
theorem dX8_lives_97 : decode cX8_lives 97 = .ok (.isub, 1) := dk_100 (dk_at dksX8_lives_4 4 rfl rfl)
theorem dX8_lives_98 : decode cX8_lives 98 = .ok (.iconst 3, 1) := dk_6 (dk_at dksX8_lives_4 5 rfl rfl)
theorem dX8_lives_99 : decode cX8_lives 99 = .ok (.isub, 1) := dk_100 (dk_at dksX8_lives_4 6 rfl rfl)
theorem dX8_lives_100 : decode cX8_lives 100 = .ok (.if_icmp .le 6, 3) := dk_164 0 6 (dk_at dksX8_lives_4 7 rfl rfl)
theorem dX8_lives_103 : decode cX8_lives 103 = .ok (.bipush (-12), 2) := dk_16 244 (dk_at dksX8_lives_4 10 rfl rfl)
theorem dX8_lives_105 : decode cX8_lives 105 = .ok (.ireturn, 1) := dk_172 (dk_at dksX8_lives_4 12 rfl rfl)
theorem dX8_lives_106 : decode cX8_lives 106 = .ok (.bipush 40, 2) := dk_16 40 (dk_at dksX8_lives_4 13 rfl rfl)
theorem dX8_lives_108 : decode cX8_lives 108 = .ok (.iload_n 1, 1) := dk_27 (dk_at dksX8_lives_4 15 rfl rfl)
theorem dX8_lives_109 : decode cX8_lives 109 = .ok (.imul, 1) := dk_104 (dk_at dksX8_lives_4 16 rfl rfl)
theorem dX8_lives_110 : decode cX8_lives 110 = .ok (.iload_n 3, 1) := dk_29 (dk_at dksX8_lives_4 17 rfl rfl)
theorem dX8_lives_111 : decode cX8_lives 111 = .ok (.iadd, 1) := dk_96 (dk_at dksX8_lives_4 18 rfl rfl)
theorem dX8_lives_112 : decode cX8_lives 112 = .ok (.iconst 3, 1) := dk_6 (dk_at dksX8_lives_4 19 rfl rfl)
theorem dX8_lives_113 : decode cX8_lives 113 = .ok (.iload 6, 2) := dk_21 6 (dk_at dksX8_lives_4 20 rfl rfl)
theorem dX8_lives_115 : decode cX8_lives 115 = .ok (.imul, 1) := dk_104 (dk_at dksX8_lives_4 22 rfl rfl)
theorem dX8_lives_116 : decode cX8_lives 116 = .ok (.iadd, 1) := dk_96 (dk_at dksX8_lives_4 23 rfl rfl)
theorem dX8_lives_117 : decode cX8_lives 117 = .ok (.istore 7, 2) := dk_54 7 (dk_at dksX8_lives_5 0 rfl rfl)
theorem dX8_lives_119 : decode cX8_lives 119 = .ok (.iload 5, 2) := dk_21 5 (dk_at dksX8_lives_5 2 rfl rfl)
theorem dX8_lives_121 : decode cX8_lives 121 = .ok (.aload_n 0, 1) := dk_42 (dk_at dksX8_lives_5 4 rfl rfl)
theorem dX8_lives_122 : decode cX8_lives 122 = .ok (.aload_n 0, 1) := dk_42 (dk_at dksX8_lives_5 5 rfl rfl)
theorem dX8_lives_123 : decode cX8_lives 123 = .ok (.getfield 73, 3) := dk_180 0 73 (dk_at dksX8_lives_5 6 rfl rfl)
theorem dX8_lives_126 : decode cX8_lives 126 = .ok (.iload 7, 2) := dk_21 7 (dk_at dksX8_lives_5 9 rfl rfl)
theorem dX8_lives_128 : decode cX8_lives 128 = .ok (.iaload, 1) := dk_46 (dk_at dksX8_lives_5 11 rfl rfl)
theorem dX8_lives_129 : decode cX8_lives 129 = .ok (.aload_n 0, 1) := dk_42 (dk_at dksX8_lives_5 12 rfl rfl)
theorem dX8_lives_130 : decode cX8_lives 130 = .ok (.getfield 73, 3) := dk_180 0 73 (dk_at dksX8_lives_5 13 rfl rfl)
theorem dX8_lives_133 : decode cX8_lives 133 = .ok (.iload 7, 2) := dk_21 7 (dk_at dksX8_lives_5 16 rfl rfl)
theorem dX8_lives_135 : decode cX8_lives 135 = .ok (.iconst 1, 1) := dk_4 (dk_at dksX8_lives_5 18 rfl rfl)
theorem dX8_lives_136 : decode cX8_lives 136 = .ok (.iadd, 1) := dk_96 (dk_at dksX8_lives_5 19 rfl rfl)
theorem dX8_lives_137 : decode cX8_lives 137 = .ok (.iaload, 1) := dk_46 (dk_at dksX8_lives_5 20 rfl rfl)
theorem dX8_lives_138 : decode cX8_lives 138 = .ok (.aload_n 0, 1) := dk_42 (dk_at dksX8_lives_5 21 rfl rfl)
theorem dX8_lives_139 : decode cX8_lives 139 = .ok (.getfield 73, 3) := dk_180 0 73 (dk_at dksX8_lives_6 0 rfl rfl)
theorem dX8_lives_142 : decode cX8_lives 142 = .ok (.iload 7, 2) := dk_21 7 (dk_at dksX8_lives_6 3 rfl rfl)
theorem dX8_lives_144 : decode cX8_lives 144 = .ok (.iconst 2, 1) := dk_5 (dk_at dksX8_lives_6 5 rfl rfl)
theorem dX8_lives_145 : decode cX8_lives 145 = .ok (.iadd, 1) := dk_96 (dk_at dksX8_lives_6 6 rfl rfl)
theorem dX8_lives_146 : decode cX8_lives 146 = .ok (.iaload, 1) := dk_46 (dk_at dksX8_lives_6 7 rfl rfl)
theorem dX8_lives_147 : decode cX8_lives 147 = .ok (.invokevirtual 435, 3) := dk_182 1 179 (dk_at dksX8_lives_6 8 rfl rfl)
theorem dX8_lives_150 : decode cX8_lives 150 = .ok (.ifCond .lt 7, 3) := dk_155 0 7 (dk_at dksX8_lives_6 11 rfl rfl)
theorem dX8_lives_153 : decode cX8_lives 153 = .ok (.iconst 1, 1) := dk_4 (dk_at dksX8_lives_6 14 rfl rfl)
theorem dX8_lives_154 : decode cX8_lives 154 = .ok (.goto 4, 3) := dk_167 0 4 (dk_at dksX8_lives_6 15 rfl rfl)
theorem dX8_lives_157 : decode cX8_lives 157 = .ok (.iconst 0, 1) := dk_3 (dk_at dksX8_lives_6 18 rfl rfl)
theorem dX8_lives_158 : decode cX8_lives 158 = .ok (.iadd, 1) := dk_96 (dk_at dksX8_lives_6 19 rfl rfl)
theorem dX8_lives_159 : decode cX8_lives 159 = .ok (.istore 5, 2) := dk_54 5 (dk_at dksX8_lives_6 20 rfl rfl)
theorem dX8_lives_161 : decode cX8_lives 161 = .ok (.iinc 6 1, 3) := dk_132 6 1 (dk_at dksX8_lives_7 0 rfl rfl)
theorem dX8_lives_164 : decode cX8_lives 164 = .ok (.goto (-89), 3) := dk_167 255 167 (dk_at dksX8_lives_7 3 rfl rfl)
theorem dX8_lives_167 : decode cX8_lives 167 = .ok (.iload 5, 2) := dk_21 5 (dk_at dksX8_lives_7 6 rfl rfl)
theorem dX8_lives_169 : decode cX8_lives 169 = .ok (.ireturn, 1) := dk_172 (dk_at dksX8_lives_7 8 rfl rfl)
abbrev cX8_taken : ByteArray := prog_16_method_107_code
def yX8_taken : MethodName := ⟨RX8, "taken", "(II)I"⟩
def dkwX8_taken_3 : List UInt8 := [16, 243, 172]
abbrev dktX8_taken_3 : List UInt8 := dkwX8_taken_3 ++ []
def dkwX8_taken_2 : List UInt8 := [29, 184, 1, 182, 62, 167, 255, 241, 29, 28, 160, 0, 14, 42, 180, 0, 29, 8, 27, 104, 46, 167, 0, 5]
abbrev dktX8_taken_2 : List UInt8 := dkwX8_taken_2 ++ dktX8_taken_3
def dkwX8_taken_1 : List UInt8 := [16, 245, 172, 42, 180, 0, 29, 8, 27, 104, 7, 96, 46, 62, 29, 2, 159, 0, 16, 29, 28, 159, 0, 11]
abbrev dktX8_taken_1 : List UInt8 := dkwX8_taken_1 ++ dktX8_taken_2
def dkwX8_taken_0 : List UInt8 := [28, 133, 9, 20, 0, 130, 184, 0, 86, 154, 0, 6, 16, 254, 172, 42, 27, 182, 0, 101, 154, 0, 6]
abbrev dktX8_taken_0 : List UInt8 := dkwX8_taken_0 ++ dktX8_taken_1
theorem dksX8_taken_0 : cX8_taken.data.toList.drop 0 = dktX8_taken_0 := by decide +kernel
theorem dksX8_taken_1 : cX8_taken.data.toList.drop 23 = dktX8_taken_1 := dk_seg dksX8_taken_0 23 rfl rfl
theorem dksX8_taken_2 : cX8_taken.data.toList.drop 47 = dktX8_taken_2 := dk_seg dksX8_taken_1 24 rfl rfl
theorem dksX8_taken_3 : cX8_taken.data.toList.drop 71 = dktX8_taken_3 := dk_seg dksX8_taken_2 24 rfl rfl
theorem dX8_taken_0 : decode cX8_taken 0 = .ok (.iload_n 2, 1) := dk_28 (dk_at dksX8_taken_0 0 rfl rfl)
theorem dX8_taken_1 : decode cX8_taken 1 = .ok (.i2l, 1) := dk_133 (dk_at dksX8_taken_0 1 rfl rfl)
theorem dX8_taken_2 : decode cX8_taken 2 = .ok (.lconst 0, 1) := dk_9 (dk_at dksX8_taken_0 2 rfl rfl)
theorem dX8_taken_3 : decode cX8_taken 3 = .ok (.ldc2_w 130, 3) := dk_20 0 130 (dk_at dksX8_taken_0 3 rfl rfl)
theorem dX8_taken_6 : decode cX8_taken 6 = .ok (.invokestatic 86, 3) := dk_184 0 86 (dk_at dksX8_taken_0 6 rfl rfl)
theorem dX8_taken_9 : decode cX8_taken 9 = .ok (.ifCond .ne 6, 3) := dk_154 0 6 (dk_at dksX8_taken_0 9 rfl rfl)
theorem dX8_taken_12 : decode cX8_taken 12 = .ok (.bipush (-2), 2) := dk_16 254 (dk_at dksX8_taken_0 12 rfl rfl)
theorem dX8_taken_14 : decode cX8_taken 14 = .ok (.ireturn, 1) := dk_172 (dk_at dksX8_taken_0 14 rfl rfl)
theorem dX8_taken_15 : decode cX8_taken 15 = .ok (.aload_n 0, 1) := dk_42 (dk_at dksX8_taken_0 15 rfl rfl)
theorem dX8_taken_16 : decode cX8_taken 16 = .ok (.iload_n 1, 1) := dk_27 (dk_at dksX8_taken_0 16 rfl rfl)
theorem dX8_taken_17 : decode cX8_taken 17 = .ok (.invokevirtual 101, 3) := dk_182 0 101 (dk_at dksX8_taken_0 17 rfl rfl)
theorem dX8_taken_20 : decode cX8_taken 20 = .ok (.ifCond .ne 6, 3) := dk_154 0 6 (dk_at dksX8_taken_0 20 rfl rfl)
theorem dX8_taken_23 : decode cX8_taken 23 = .ok (.bipush (-11), 2) := dk_16 245 (dk_at dksX8_taken_1 0 rfl rfl)
theorem dX8_taken_25 : decode cX8_taken 25 = .ok (.ireturn, 1) := dk_172 (dk_at dksX8_taken_1 2 rfl rfl)
theorem dX8_taken_26 : decode cX8_taken 26 = .ok (.aload_n 0, 1) := dk_42 (dk_at dksX8_taken_1 3 rfl rfl)
theorem dX8_taken_27 : decode cX8_taken 27 = .ok (.getfield 29, 3) := dk_180 0 29 (dk_at dksX8_taken_1 4 rfl rfl)
theorem dX8_taken_30 : decode cX8_taken 30 = .ok (.iconst 5, 1) := dk_8 (dk_at dksX8_taken_1 7 rfl rfl)
theorem dX8_taken_31 : decode cX8_taken 31 = .ok (.iload_n 1, 1) := dk_27 (dk_at dksX8_taken_1 8 rfl rfl)
theorem dX8_taken_32 : decode cX8_taken 32 = .ok (.imul, 1) := dk_104 (dk_at dksX8_taken_1 9 rfl rfl)
theorem dX8_taken_33 : decode cX8_taken 33 = .ok (.iconst 4, 1) := dk_7 (dk_at dksX8_taken_1 10 rfl rfl)
theorem dX8_taken_34 : decode cX8_taken 34 = .ok (.iadd, 1) := dk_96 (dk_at dksX8_taken_1 11 rfl rfl)
theorem dX8_taken_35 : decode cX8_taken 35 = .ok (.iaload, 1) := dk_46 (dk_at dksX8_taken_1 12 rfl rfl)
theorem dX8_taken_36 : decode cX8_taken 36 = .ok (.istore_n 3, 1) := dk_62 (dk_at dksX8_taken_1 13 rfl rfl)
theorem dX8_taken_37 : decode cX8_taken 37 = .ok (.iload_n 3, 1) := dk_29 (dk_at dksX8_taken_1 14 rfl rfl)
theorem dX8_taken_38 : decode cX8_taken 38 = .ok (.iconst (-1), 1) := dk_2 (dk_at dksX8_taken_1 15 rfl rfl)
theorem dX8_taken_39 : decode cX8_taken 39 = .ok (.if_icmp .eq 16, 3) := dk_159 0 16 (dk_at dksX8_taken_1 16 rfl rfl)
theorem dX8_taken_42 : decode cX8_taken 42 = .ok (.iload_n 3, 1) := dk_29 (dk_at dksX8_taken_1 19 rfl rfl)
theorem dX8_taken_43 : decode cX8_taken 43 = .ok (.iload_n 2, 1) := dk_28 (dk_at dksX8_taken_1 20 rfl rfl)
theorem dX8_taken_44 : decode cX8_taken 44 = .ok (.if_icmp .eq 11, 3) := dk_159 0 11 (dk_at dksX8_taken_1 21 rfl rfl)
theorem dX8_taken_47 : decode cX8_taken 47 = .ok (.iload_n 3, 1) := dk_29 (dk_at dksX8_taken_2 0 rfl rfl)
theorem dX8_taken_48 : decode cX8_taken 48 = .ok (.invokestatic 438, 3) := dk_184 1 182 (dk_at dksX8_taken_2 1 rfl rfl)
theorem dX8_taken_51 : decode cX8_taken 51 = .ok (.istore_n 3, 1) := dk_62 (dk_at dksX8_taken_2 4 rfl rfl)
theorem dX8_taken_52 : decode cX8_taken 52 = .ok (.goto (-15), 3) := dk_167 255 241 (dk_at dksX8_taken_2 5 rfl rfl)
theorem dX8_taken_55 : decode cX8_taken 55 = .ok (.iload_n 3, 1) := dk_29 (dk_at dksX8_taken_2 8 rfl rfl)
theorem dX8_taken_56 : decode cX8_taken 56 = .ok (.iload_n 2, 1) := dk_28 (dk_at dksX8_taken_2 9 rfl rfl)
theorem dX8_taken_57 : decode cX8_taken 57 = .ok (.if_icmp .ne 14, 3) := dk_160 0 14 (dk_at dksX8_taken_2 10 rfl rfl)
theorem dX8_taken_60 : decode cX8_taken 60 = .ok (.aload_n 0, 1) := dk_42 (dk_at dksX8_taken_2 13 rfl rfl)
theorem dX8_taken_61 : decode cX8_taken 61 = .ok (.getfield 29, 3) := dk_180 0 29 (dk_at dksX8_taken_2 14 rfl rfl)
theorem dX8_taken_64 : decode cX8_taken 64 = .ok (.iconst 5, 1) := dk_8 (dk_at dksX8_taken_2 17 rfl rfl)
theorem dX8_taken_65 : decode cX8_taken 65 = .ok (.iload_n 1, 1) := dk_27 (dk_at dksX8_taken_2 18 rfl rfl)
theorem dX8_taken_66 : decode cX8_taken 66 = .ok (.imul, 1) := dk_104 (dk_at dksX8_taken_2 19 rfl rfl)
theorem dX8_taken_67 : decode cX8_taken 67 = .ok (.iaload, 1) := dk_46 (dk_at dksX8_taken_2 20 rfl rfl)
theorem dX8_taken_68 : decode cX8_taken 68 = .ok (.goto 5, 3) := dk_167 0 5 (dk_at dksX8_taken_2 21 rfl rfl)
theorem dX8_taken_71 : decode cX8_taken 71 = .ok (.bipush (-13), 2) := dk_16 243 (dk_at dksX8_taken_3 0 rfl rfl)
theorem dX8_taken_73 : decode cX8_taken 73 = .ok (.ireturn, 1) := dk_172 (dk_at dksX8_taken_3 2 rfl rfl)
abbrev cX8_over : ByteArray := prog_16_method_106_code
def yX8_over : MethodName := ⟨RX8, "over", "(I)I"⟩
def dkwX8_over_1 : List UInt8 := [167, 0, 4, 3, 172]
abbrev dktX8_over_1 : List UInt8 := dkwX8_over_1 ++ []
def dkwX8_over_0 : List UInt8 := [26, 154, 0, 7, 2, 167, 0, 22, 26, 6, 160, 0, 7, 4, 167, 0, 13, 26, 7, 160, 0, 7, 5]
abbrev dktX8_over_0 : List UInt8 := dkwX8_over_0 ++ dktX8_over_1
theorem dksX8_over_0 : cX8_over.data.toList.drop 0 = dktX8_over_0 := by decide +kernel
theorem dksX8_over_1 : cX8_over.data.toList.drop 23 = dktX8_over_1 := dk_seg dksX8_over_0 23 rfl rfl
theorem dX8_over_0 : decode cX8_over 0 = .ok (.iload_n 0, 1) := dk_26 (dk_at dksX8_over_0 0 rfl rfl)
theorem dX8_over_1 : decode cX8_over 1 = .ok (.ifCond .ne 7, 3) := dk_154 0 7 (dk_at dksX8_over_0 1 rfl rfl)
theorem dX8_over_4 : decode cX8_over 4 = .ok (.iconst (-1), 1) := dk_2 (dk_at dksX8_over_0 4 rfl rfl)
theorem dX8_over_5 : decode cX8_over 5 = .ok (.goto 22, 3) := dk_167 0 22 (dk_at dksX8_over_0 5 rfl rfl)
theorem dX8_over_8 : decode cX8_over 8 = .ok (.iload_n 0, 1) := dk_26 (dk_at dksX8_over_0 8 rfl rfl)
theorem dX8_over_9 : decode cX8_over 9 = .ok (.iconst 3, 1) := dk_6 (dk_at dksX8_over_0 9 rfl rfl)
theorem dX8_over_10 : decode cX8_over 10 = .ok (.if_icmp .ne 7, 3) := dk_160 0 7 (dk_at dksX8_over_0 10 rfl rfl)
theorem dX8_over_13 : decode cX8_over 13 = .ok (.iconst 1, 1) := dk_4 (dk_at dksX8_over_0 13 rfl rfl)
theorem dX8_over_14 : decode cX8_over 14 = .ok (.goto 13, 3) := dk_167 0 13 (dk_at dksX8_over_0 14 rfl rfl)
theorem dX8_over_17 : decode cX8_over 17 = .ok (.iload_n 0, 1) := dk_26 (dk_at dksX8_over_0 17 rfl rfl)
theorem dX8_over_18 : decode cX8_over 18 = .ok (.iconst 4, 1) := dk_7 (dk_at dksX8_over_0 18 rfl rfl)
theorem dX8_over_19 : decode cX8_over 19 = .ok (.if_icmp .ne 7, 3) := dk_160 0 7 (dk_at dksX8_over_0 19 rfl rfl)
theorem dX8_over_22 : decode cX8_over 22 = .ok (.iconst 2, 1) := dk_5 (dk_at dksX8_over_0 22 rfl rfl)
theorem dX8_over_23 : decode cX8_over 23 = .ok (.goto 4, 3) := dk_167 0 4 (dk_at dksX8_over_1 0 rfl rfl)
theorem dX8_over_26 : decode cX8_over 26 = .ok (.iconst 0, 1) := dk_3 (dk_at dksX8_over_1 3 rfl rfl)
theorem dX8_over_27 : decode cX8_over 27 = .ok (.ireturn, 1) := dk_172 (dk_at dksX8_over_1 4 rfl rfl)
theorem q141 : (Jvm.Cond.initialized "RoadsNotGoneByModel") ∈ lw_all := lw_g (lw_at lw_m1 18 rfl) rfl
theorem q1286 : (Jvm.Cond.instantiable "RoadsNotGoneByModel" (43 : Nat)) ∈ lw_all := lw_g (lw_at lw_m5 203 rfl) rfl
theorem q1288 : (Jvm.Cond.instanceMethod ({ cls := "RoadsNotGoneByModel", name := "<init>", desc := "()V" } : Jvm.MethodName)) ∈ lw_all := lw_g (lw_at lw_m5 205 rfl) rfl
theorem q1289 : (Jvm.Cond.code ({ cls := "RoadsNotGoneByModel", name := "<init>", desc := "()V" } : Jvm.MethodName) prog_16_method_4_code (2 : Nat) (Option.none : Option Jvm.ClassFile.FieldType)) ∈ lw_all := lw_g (lw_at lw_m5 206 rfl) rfl
theorem q1290 : (Jvm.Cond.methodLink "RoadsNotGoneByModel" (7 : Nat) ({ cls := "java/lang/Object", name := "<init>", desc := "()V" } : Jvm.MethodName)) ∈ lw_all := lw_g (lw_at lw_m5 207 rfl) rfl
theorem q1291 : (Jvm.Cond.methodLink "RoadsNotGoneByModel" (76 : Nat) ({ cls := "RoadsNotGoneByModel", name := "spell", desc := "(IIIIIIIII)V" } : Jvm.MethodName)) ∈ lw_all := lw_g (lw_at lw_m5 208 rfl) rfl
theorem q1292 : (Jvm.Cond.privateMethod ({ cls := "RoadsNotGoneByModel", name := "spell", desc := "(IIIIIIIII)V" } : Jvm.MethodName)) ∈ lw_tbl := lw_at lw_m5 209 rfl
theorem q1293 : (Jvm.Cond.instanceMethod ({ cls := "RoadsNotGoneByModel", name := "spell", desc := "(IIIIIIIII)V" } : Jvm.MethodName)) ∈ lw_all := lw_g (lw_at lw_m5 210 rfl) rfl
theorem q1294 : (Jvm.Cond.code ({ cls := "RoadsNotGoneByModel", name := "spell", desc := "(IIIIIIIII)V" } : Jvm.MethodName) prog_16_method_5_code (10 : Nat) (Option.none : Option Jvm.ClassFile.FieldType)) ∈ lw_all := lw_g (lw_at lw_m5 211 rfl) rfl
theorem q1295 : (Jvm.Cond.fieldLink "RoadsNotGoneByModel" (13 : Nat) "RoadsNotGoneByModel" "texts" "[I") ∈ lw_all := lw_g (lw_at lw_m5 212 rfl) rfl
theorem q1296 : (Jvm.Cond.fieldLink "RoadsNotGoneByModel" (17 : Nat) "RoadsNotGoneByModel" "textSize" "[I") ∈ lw_all := lw_g (lw_at lw_m5 213 rfl) rfl
theorem q1297 : (Jvm.Cond.fieldLink "RoadsNotGoneByModel" (80 : Nat) "RoadsNotGoneByModel" "textCount" "I") ∈ lw_all := lw_g (lw_at lw_m5 214 rfl) rfl
theorem q1298 : (Jvm.Cond.fieldLink "RoadsNotGoneByModel" (127 : Nat) "RoadsNotGoneByModel" "rule" "I") ∈ lw_all := lw_g (lw_at lw_m5 215 rfl) rfl
theorem q1299 : (Jvm.Cond.fieldLink "RoadsNotGoneByModel" (20 : Nat) "RoadsNotGoneByModel" "tape" "[I") ∈ lw_all := lw_g (lw_at lw_m5 216 rfl) rfl
theorem q1300 : (Jvm.Cond.fieldLink "RoadsNotGoneByModel" (147 : Nat) "RoadsNotGoneByModel" "taped" "I") ∈ lw_all := lw_g (lw_at lw_m5 217 rfl) rfl
theorem q1301 : (Jvm.Cond.fieldLink "RoadsNotGoneByModel" (124 : Nat) "RoadsNotGoneByModel" "yearNow" "I") ∈ lw_all := lw_g (lw_at lw_m5 218 rfl) rfl
theorem q1302 : (Jvm.Cond.fieldLink "RoadsNotGoneByModel" (23 : Nat) "RoadsNotGoneByModel" "leads" "[I") ∈ lw_all := lw_g (lw_at lw_m5 219 rfl) rfl
theorem q1303 : (Jvm.Cond.fieldLink "RoadsNotGoneByModel" (26 : Nat) "RoadsNotGoneByModel" "jars" "[I") ∈ lw_all := lw_g (lw_at lw_m5 220 rfl) rfl
theorem q1304 : (Jvm.Cond.fieldLink "RoadsNotGoneByModel" (29 : Nat) "RoadsNotGoneByModel" "rows" "[I") ∈ lw_all := lw_g (lw_at lw_m5 221 rfl) rfl
theorem q1305 : (Jvm.Cond.fieldLink "RoadsNotGoneByModel" (83 : Nat) "RoadsNotGoneByModel" "many" "I") ∈ lw_all := lw_g (lw_at lw_m5 222 rfl) rfl
theorem q1306 : (Jvm.Cond.fieldLink "RoadsNotGoneByModel" (203 : Nat) "RoadsNotGoneByModel" "ofCrossing" "I") ∈ lw_all := lw_g (lw_at lw_m5 223 rfl) rfl
theorem q1307 : (Jvm.Cond.fieldLink "RoadsNotGoneByModel" (206 : Nat) "RoadsNotGoneByModel" "ofJar" "I") ∈ lw_all := lw_g (lw_at lw_m5 224 rfl) rfl
theorem q1308 : (Jvm.Cond.fieldLink "RoadsNotGoneByModel" (209 : Nat) "RoadsNotGoneByModel" "ofNumber" "I") ∈ lw_all := lw_g (lw_at lw_m5 225 rfl) rfl
theorem q1309 : (Jvm.Cond.fieldLink "RoadsNotGoneByModel" (212 : Nat) "RoadsNotGoneByModel" "ofYear" "I") ∈ lw_all := lw_g (lw_at lw_m5 226 rfl) rfl
theorem q1310 : (Jvm.Cond.fieldLink "RoadsNotGoneByModel" (215 : Nat) "RoadsNotGoneByModel" "ofMood" "I") ∈ lw_all := lw_g (lw_at lw_m5 227 rfl) rfl
theorem q1311 : (Jvm.Cond.fieldLink "RoadsNotGoneByModel" (218 : Nat) "RoadsNotGoneByModel" "ofEaten" "I") ∈ lw_all := lw_g (lw_at lw_m5 228 rfl) rfl
theorem q1312 : (Jvm.Cond.fieldLink "RoadsNotGoneByModel" (153 : Nat) "RoadsNotGoneByModel" "from" "I") ∈ lw_all := lw_g (lw_at lw_m5 229 rfl) rfl
theorem q1313 : (Jvm.Cond.fieldLink "RoadsNotGoneByModel" (150 : Nat) "RoadsNotGoneByModel" "size" "I") ∈ lw_all := lw_g (lw_at lw_m5 230 rfl) rfl
theorem q1314 : (Jvm.Cond.fieldLink "RoadsNotGoneByModel" (156 : Nat) "RoadsNotGoneByModel" "here" "I") ∈ lw_all := lw_g (lw_at lw_m5 231 rfl) rfl
theorem q1315 : (Jvm.Cond.fieldLink "RoadsNotGoneByModel" (165 : Nat) "RoadsNotGoneByModel" "token" "I") ∈ lw_all := lw_g (lw_at lw_m5 232 rfl) rfl
theorem q1316 : (Jvm.Cond.fieldLink "RoadsNotGoneByModel" (162 : Nat) "RoadsNotGoneByModel" "tokenAt" "I") ∈ lw_all := lw_g (lw_at lw_m5 233 rfl) rfl
theorem q1317 : (Jvm.Cond.fieldLink "RoadsNotGoneByModel" (176 : Nat) "RoadsNotGoneByModel" "tokenWorth" "J") ∈ lw_all := lw_g (lw_at lw_m5 234 rfl) rfl
theorem q1318 : (Jvm.Cond.fieldLink "RoadsNotGoneByModel" (190 : Nat) "RoadsNotGoneByModel" "open" "I") ∈ lw_all := lw_g (lw_at lw_m5 235 rfl) rfl
theorem q1319 : (Jvm.Cond.fieldLink "RoadsNotGoneByModel" (180 : Nat) "RoadsNotGoneByModel" "bad" "Z") ∈ lw_all := lw_g (lw_at lw_m5 236 rfl) rfl
theorem q1320 : (Jvm.Cond.fieldLink "RoadsNotGoneByModel" (184 : Nat) "RoadsNotGoneByModel" "fault" "I") ∈ lw_all := lw_g (lw_at lw_m5 237 rfl) rfl
theorem q1321 : (Jvm.Cond.fieldLink "RoadsNotGoneByModel" (32 : Nat) "RoadsNotGoneByModel" "was" "[I") ∈ lw_all := lw_g (lw_at lw_m5 238 rfl) rfl
theorem q1322 : (Jvm.Cond.fieldLink "RoadsNotGoneByModel" (35 : Nat) "RoadsNotGoneByModel" "ways" "[J") ∈ lw_all := lw_g (lw_at lw_m5 239 rfl) rfl
theorem q1323 : (Jvm.Cond.fieldLink "RoadsNotGoneByModel" (39 : Nat) "RoadsNotGoneByModel" "waysNext" "[J") ∈ lw_all := lw_g (lw_at lw_m6 0 rfl) rfl
theorem q1324 : (Jvm.Cond.fieldLink "RoadsNotGoneByModel" (42 : Nat) "RoadsNotGoneByModel" "costs" "[I") ∈ lw_all := lw_g (lw_at lw_m6 1 rfl) rfl
theorem q1325 : (Jvm.Cond.fieldLink "RoadsNotGoneByModel" (45 : Nat) "RoadsNotGoneByModel" "costsNext" "[I") ∈ lw_all := lw_g (lw_at lw_m6 2 rfl) rfl
theorem q1326 : (Jvm.Cond.fieldLink "RoadsNotGoneByModel" (48 : Nat) "RoadsNotGoneByModel" "leadsWas" "[I") ∈ lw_all := lw_g (lw_at lw_m6 3 rfl) rfl
theorem q1327 : (Jvm.Cond.fieldLink "RoadsNotGoneByModel" (51 : Nat) "RoadsNotGoneByModel" "leadsKept" "[I") ∈ lw_all := lw_g (lw_at lw_m6 4 rfl) rfl
theorem q1328 : (Jvm.Cond.fieldLink "RoadsNotGoneByModel" (54 : Nat) "RoadsNotGoneByModel" "jarsKept" "[I") ∈ lw_all := lw_g (lw_at lw_m6 5 rfl) rfl
theorem q1329 : (Jvm.Cond.fieldLink "RoadsNotGoneByModel" (57 : Nat) "RoadsNotGoneByModel" "rowsKept" "[I") ∈ lw_all := lw_g (lw_at lw_m6 6 rfl) rfl
theorem q1330 : (Jvm.Cond.fieldLink "RoadsNotGoneByModel" (60 : Nat) "RoadsNotGoneByModel" "manyKept" "I") ∈ lw_all := lw_g (lw_at lw_m6 7 rfl) rfl
theorem q1331 : (Jvm.Cond.fieldLink "RoadsNotGoneByModel" (425 : Nat) "RoadsNotGoneByModel" "yearKept" "I") ∈ lw_all := lw_g (lw_at lw_m6 8 rfl) rfl
theorem q1332 : (Jvm.Cond.fieldLink "RoadsNotGoneByModel" (428 : Nat) "RoadsNotGoneByModel" "ruleKept" "I") ∈ lw_all := lw_g (lw_at lw_m6 9 rfl) rfl
theorem q1333 : (Jvm.Cond.fieldLink "RoadsNotGoneByModel" (63 : Nat) "RoadsNotGoneByModel" "isThere" "[Z") ∈ lw_all := lw_g (lw_at lw_m6 10 rfl) rfl
theorem q1334 : (Jvm.Cond.fieldLink "RoadsNotGoneByModel" (67 : Nat) "RoadsNotGoneByModel" "sorts" "[I") ∈ lw_all := lw_g (lw_at lw_m6 11 rfl) rfl
theorem q1335 : (Jvm.Cond.fieldLink "RoadsNotGoneByModel" (70 : Nat) "RoadsNotGoneByModel" "sheetSize" "[I") ∈ lw_all := lw_g (lw_at lw_m6 12 rfl) rfl
theorem q1336 : (Jvm.Cond.fieldLink "RoadsNotGoneByModel" (73 : Nat) "RoadsNotGoneByModel" "items" "[I") ∈ lw_all := lw_g (lw_at lw_m6 13 rfl) rfl
theorem q1337 : (Jvm.Cond.lays "RoadsNotGoneByModel" "RoadsNotGoneByModel" "thrown" "I") ∈ lw_all := lw_g (lw_at lw_m6 14 rfl) rfl
theorem q1338 : (Jvm.Cond.soleField "RoadsNotGoneByModel" "thrown") ∈ lw_all := lw_g (lw_at lw_m6 15 rfl) rfl
theorem q1339 : (Jvm.Cond.laysFinal "RoadsNotGoneByModel" "RoadsNotGoneByModel" "texts" "[I") ∈ lw_all := lw_g (lw_at lw_m6 16 rfl) rfl
theorem q1340 : (Jvm.Cond.soleField "RoadsNotGoneByModel" "texts") ∈ lw_all := lw_g (lw_at lw_m6 17 rfl) rfl
theorem q1341 : (Jvm.Cond.laysFinal "RoadsNotGoneByModel" "RoadsNotGoneByModel" "textSize" "[I") ∈ lw_all := lw_g (lw_at lw_m6 18 rfl) rfl
theorem q1342 : (Jvm.Cond.soleField "RoadsNotGoneByModel" "textSize") ∈ lw_all := lw_g (lw_at lw_m6 19 rfl) rfl
theorem q1343 : (Jvm.Cond.lays "RoadsNotGoneByModel" "RoadsNotGoneByModel" "textCount" "I") ∈ lw_all := lw_g (lw_at lw_m6 20 rfl) rfl
theorem q1344 : (Jvm.Cond.soleField "RoadsNotGoneByModel" "textCount") ∈ lw_all := lw_g (lw_at lw_m6 21 rfl) rfl
theorem q1345 : (Jvm.Cond.lays "RoadsNotGoneByModel" "RoadsNotGoneByModel" "rule" "I") ∈ lw_all := lw_g (lw_at lw_m6 22 rfl) rfl
theorem q1346 : (Jvm.Cond.soleField "RoadsNotGoneByModel" "rule") ∈ lw_all := lw_g (lw_at lw_m6 23 rfl) rfl
theorem q1347 : (Jvm.Cond.laysFinal "RoadsNotGoneByModel" "RoadsNotGoneByModel" "tape" "[I") ∈ lw_all := lw_g (lw_at lw_m6 24 rfl) rfl
theorem q1348 : (Jvm.Cond.soleField "RoadsNotGoneByModel" "tape") ∈ lw_all := lw_g (lw_at lw_m6 25 rfl) rfl
theorem q1349 : (Jvm.Cond.lays "RoadsNotGoneByModel" "RoadsNotGoneByModel" "taped" "I") ∈ lw_all := lw_g (lw_at lw_m6 26 rfl) rfl
theorem q1350 : (Jvm.Cond.soleField "RoadsNotGoneByModel" "taped") ∈ lw_all := lw_g (lw_at lw_m6 27 rfl) rfl
theorem q1351 : (Jvm.Cond.lays "RoadsNotGoneByModel" "RoadsNotGoneByModel" "yearNow" "I") ∈ lw_all := lw_g (lw_at lw_m6 28 rfl) rfl
theorem q1352 : (Jvm.Cond.soleField "RoadsNotGoneByModel" "yearNow") ∈ lw_all := lw_g (lw_at lw_m6 29 rfl) rfl
theorem q1353 : (Jvm.Cond.laysFinal "RoadsNotGoneByModel" "RoadsNotGoneByModel" "leads" "[I") ∈ lw_all := lw_g (lw_at lw_m6 30 rfl) rfl
theorem q1354 : (Jvm.Cond.soleField "RoadsNotGoneByModel" "leads") ∈ lw_all := lw_g (lw_at lw_m6 31 rfl) rfl
theorem q1355 : (Jvm.Cond.laysFinal "RoadsNotGoneByModel" "RoadsNotGoneByModel" "jars" "[I") ∈ lw_all := lw_g (lw_at lw_m6 32 rfl) rfl
theorem q1356 : (Jvm.Cond.soleField "RoadsNotGoneByModel" "jars") ∈ lw_all := lw_g (lw_at lw_m6 33 rfl) rfl
theorem q1357 : (Jvm.Cond.laysFinal "RoadsNotGoneByModel" "RoadsNotGoneByModel" "rows" "[I") ∈ lw_all := lw_g (lw_at lw_m6 34 rfl) rfl
theorem q1358 : (Jvm.Cond.soleField "RoadsNotGoneByModel" "rows") ∈ lw_all := lw_g (lw_at lw_m6 35 rfl) rfl
theorem q1359 : (Jvm.Cond.lays "RoadsNotGoneByModel" "RoadsNotGoneByModel" "many" "I") ∈ lw_all := lw_g (lw_at lw_m6 36 rfl) rfl
theorem q1360 : (Jvm.Cond.soleField "RoadsNotGoneByModel" "many") ∈ lw_all := lw_g (lw_at lw_m6 37 rfl) rfl
theorem q1361 : (Jvm.Cond.lays "RoadsNotGoneByModel" "RoadsNotGoneByModel" "ofCrossing" "I") ∈ lw_all := lw_g (lw_at lw_m6 38 rfl) rfl
theorem q1362 : (Jvm.Cond.soleField "RoadsNotGoneByModel" "ofCrossing") ∈ lw_all := lw_g (lw_at lw_m6 39 rfl) rfl
theorem q1363 : (Jvm.Cond.lays "RoadsNotGoneByModel" "RoadsNotGoneByModel" "ofJar" "I") ∈ lw_all := lw_g (lw_at lw_m6 40 rfl) rfl
theorem q1364 : (Jvm.Cond.soleField "RoadsNotGoneByModel" "ofJar") ∈ lw_all := lw_g (lw_at lw_m6 41 rfl) rfl
theorem q1365 : (Jvm.Cond.lays "RoadsNotGoneByModel" "RoadsNotGoneByModel" "ofNumber" "I") ∈ lw_all := lw_g (lw_at lw_m6 42 rfl) rfl
theorem q1366 : (Jvm.Cond.soleField "RoadsNotGoneByModel" "ofNumber") ∈ lw_all := lw_g (lw_at lw_m6 43 rfl) rfl
theorem q1367 : (Jvm.Cond.lays "RoadsNotGoneByModel" "RoadsNotGoneByModel" "ofYear" "I") ∈ lw_all := lw_g (lw_at lw_m6 44 rfl) rfl
theorem q1368 : (Jvm.Cond.soleField "RoadsNotGoneByModel" "ofYear") ∈ lw_all := lw_g (lw_at lw_m6 45 rfl) rfl
theorem q1369 : (Jvm.Cond.lays "RoadsNotGoneByModel" "RoadsNotGoneByModel" "ofMood" "I") ∈ lw_all := lw_g (lw_at lw_m6 46 rfl) rfl
theorem q1370 : (Jvm.Cond.soleField "RoadsNotGoneByModel" "ofMood") ∈ lw_all := lw_g (lw_at lw_m6 47 rfl) rfl
theorem q1371 : (Jvm.Cond.lays "RoadsNotGoneByModel" "RoadsNotGoneByModel" "ofEaten" "I") ∈ lw_all := lw_g (lw_at lw_m6 48 rfl) rfl
theorem q1372 : (Jvm.Cond.soleField "RoadsNotGoneByModel" "ofEaten") ∈ lw_all := lw_g (lw_at lw_m6 49 rfl) rfl
theorem q1373 : (Jvm.Cond.lays "RoadsNotGoneByModel" "RoadsNotGoneByModel" "from" "I") ∈ lw_all := lw_g (lw_at lw_m6 50 rfl) rfl
theorem q1374 : (Jvm.Cond.soleField "RoadsNotGoneByModel" "from") ∈ lw_all := lw_g (lw_at lw_m6 51 rfl) rfl
theorem q1375 : (Jvm.Cond.lays "RoadsNotGoneByModel" "RoadsNotGoneByModel" "size" "I") ∈ lw_all := lw_g (lw_at lw_m6 52 rfl) rfl
theorem q1376 : (Jvm.Cond.soleField "RoadsNotGoneByModel" "size") ∈ lw_all := lw_g (lw_at lw_m6 53 rfl) rfl
theorem q1377 : (Jvm.Cond.lays "RoadsNotGoneByModel" "RoadsNotGoneByModel" "here" "I") ∈ lw_all := lw_g (lw_at lw_m6 54 rfl) rfl
theorem q1378 : (Jvm.Cond.soleField "RoadsNotGoneByModel" "here") ∈ lw_all := lw_g (lw_at lw_m6 55 rfl) rfl
theorem q1379 : (Jvm.Cond.lays "RoadsNotGoneByModel" "RoadsNotGoneByModel" "token" "I") ∈ lw_all := lw_g (lw_at lw_m6 56 rfl) rfl
theorem q1380 : (Jvm.Cond.soleField "RoadsNotGoneByModel" "token") ∈ lw_all := lw_g (lw_at lw_m6 57 rfl) rfl
theorem q1381 : (Jvm.Cond.lays "RoadsNotGoneByModel" "RoadsNotGoneByModel" "tokenAt" "I") ∈ lw_all := lw_g (lw_at lw_m6 58 rfl) rfl
theorem q1382 : (Jvm.Cond.soleField "RoadsNotGoneByModel" "tokenAt") ∈ lw_all := lw_g (lw_at lw_m6 59 rfl) rfl
theorem q1383 : (Jvm.Cond.lays "RoadsNotGoneByModel" "RoadsNotGoneByModel" "tokenWorth" "J") ∈ lw_all := lw_g (lw_at lw_m6 60 rfl) rfl
theorem q1384 : (Jvm.Cond.soleField "RoadsNotGoneByModel" "tokenWorth") ∈ lw_all := lw_g (lw_at lw_m6 61 rfl) rfl
theorem q1385 : (Jvm.Cond.lays "RoadsNotGoneByModel" "RoadsNotGoneByModel" "open" "I") ∈ lw_all := lw_g (lw_at lw_m6 62 rfl) rfl
theorem q1386 : (Jvm.Cond.soleField "RoadsNotGoneByModel" "open") ∈ lw_all := lw_g (lw_at lw_m6 63 rfl) rfl
theorem q1387 : (Jvm.Cond.lays "RoadsNotGoneByModel" "RoadsNotGoneByModel" "bad" "Z") ∈ lw_all := lw_g (lw_at lw_m6 64 rfl) rfl
theorem q1388 : (Jvm.Cond.soleField "RoadsNotGoneByModel" "bad") ∈ lw_all := lw_g (lw_at lw_m6 65 rfl) rfl
theorem q1389 : (Jvm.Cond.lays "RoadsNotGoneByModel" "RoadsNotGoneByModel" "fault" "I") ∈ lw_all := lw_g (lw_at lw_m6 66 rfl) rfl
theorem q1390 : (Jvm.Cond.soleField "RoadsNotGoneByModel" "fault") ∈ lw_all := lw_g (lw_at lw_m6 67 rfl) rfl
theorem q1391 : (Jvm.Cond.laysFinal "RoadsNotGoneByModel" "RoadsNotGoneByModel" "was" "[I") ∈ lw_all := lw_g (lw_at lw_m6 68 rfl) rfl
theorem q1392 : (Jvm.Cond.soleField "RoadsNotGoneByModel" "was") ∈ lw_all := lw_g (lw_at lw_m6 69 rfl) rfl
theorem q1393 : (Jvm.Cond.laysFinal "RoadsNotGoneByModel" "RoadsNotGoneByModel" "ways" "[J") ∈ lw_all := lw_g (lw_at lw_m6 70 rfl) rfl
theorem q1394 : (Jvm.Cond.soleField "RoadsNotGoneByModel" "ways") ∈ lw_all := lw_g (lw_at lw_m6 71 rfl) rfl
theorem q1395 : (Jvm.Cond.laysFinal "RoadsNotGoneByModel" "RoadsNotGoneByModel" "waysNext" "[J") ∈ lw_all := lw_g (lw_at lw_m6 72 rfl) rfl
theorem q1396 : (Jvm.Cond.soleField "RoadsNotGoneByModel" "waysNext") ∈ lw_all := lw_g (lw_at lw_m6 73 rfl) rfl
theorem q1397 : (Jvm.Cond.laysFinal "RoadsNotGoneByModel" "RoadsNotGoneByModel" "costs" "[I") ∈ lw_all := lw_g (lw_at lw_m6 74 rfl) rfl
theorem q1398 : (Jvm.Cond.soleField "RoadsNotGoneByModel" "costs") ∈ lw_all := lw_g (lw_at lw_m6 75 rfl) rfl
theorem q1399 : (Jvm.Cond.laysFinal "RoadsNotGoneByModel" "RoadsNotGoneByModel" "costsNext" "[I") ∈ lw_all := lw_g (lw_at lw_m6 76 rfl) rfl
theorem q1400 : (Jvm.Cond.soleField "RoadsNotGoneByModel" "costsNext") ∈ lw_all := lw_g (lw_at lw_m6 77 rfl) rfl
theorem q1401 : (Jvm.Cond.laysFinal "RoadsNotGoneByModel" "RoadsNotGoneByModel" "leadsWas" "[I") ∈ lw_all := lw_g (lw_at lw_m6 78 rfl) rfl
theorem q1402 : (Jvm.Cond.soleField "RoadsNotGoneByModel" "leadsWas") ∈ lw_all := lw_g (lw_at lw_m6 79 rfl) rfl
theorem q1403 : (Jvm.Cond.laysFinal "RoadsNotGoneByModel" "RoadsNotGoneByModel" "leadsKept" "[I") ∈ lw_all := lw_g (lw_at lw_m6 80 rfl) rfl
theorem q1404 : (Jvm.Cond.soleField "RoadsNotGoneByModel" "leadsKept") ∈ lw_all := lw_g (lw_at lw_m6 81 rfl) rfl
theorem q1405 : (Jvm.Cond.laysFinal "RoadsNotGoneByModel" "RoadsNotGoneByModel" "jarsKept" "[I") ∈ lw_all := lw_g (lw_at lw_m6 82 rfl) rfl
theorem q1406 : (Jvm.Cond.soleField "RoadsNotGoneByModel" "jarsKept") ∈ lw_all := lw_g (lw_at lw_m6 83 rfl) rfl
theorem q1407 : (Jvm.Cond.laysFinal "RoadsNotGoneByModel" "RoadsNotGoneByModel" "rowsKept" "[I") ∈ lw_all := lw_g (lw_at lw_m6 84 rfl) rfl
theorem q1408 : (Jvm.Cond.soleField "RoadsNotGoneByModel" "rowsKept") ∈ lw_all := lw_g (lw_at lw_m6 85 rfl) rfl
theorem q1409 : (Jvm.Cond.lays "RoadsNotGoneByModel" "RoadsNotGoneByModel" "manyKept" "I") ∈ lw_all := lw_g (lw_at lw_m6 86 rfl) rfl
theorem q1410 : (Jvm.Cond.soleField "RoadsNotGoneByModel" "manyKept") ∈ lw_all := lw_g (lw_at lw_m6 87 rfl) rfl
theorem q1411 : (Jvm.Cond.lays "RoadsNotGoneByModel" "RoadsNotGoneByModel" "yearKept" "I") ∈ lw_all := lw_g (lw_at lw_m6 88 rfl) rfl
theorem q1412 : (Jvm.Cond.soleField "RoadsNotGoneByModel" "yearKept") ∈ lw_all := lw_g (lw_at lw_m6 89 rfl) rfl
theorem q1413 : (Jvm.Cond.lays "RoadsNotGoneByModel" "RoadsNotGoneByModel" "ruleKept" "I") ∈ lw_all := lw_g (lw_at lw_m6 90 rfl) rfl
theorem q1414 : (Jvm.Cond.soleField "RoadsNotGoneByModel" "ruleKept") ∈ lw_all := lw_g (lw_at lw_m6 91 rfl) rfl
theorem q1415 : (Jvm.Cond.laysFinal "RoadsNotGoneByModel" "RoadsNotGoneByModel" "isThere" "[Z") ∈ lw_all := lw_g (lw_at lw_m6 92 rfl) rfl
theorem q1416 : (Jvm.Cond.soleField "RoadsNotGoneByModel" "isThere") ∈ lw_all := lw_g (lw_at lw_m6 93 rfl) rfl
theorem q1417 : (Jvm.Cond.laysFinal "RoadsNotGoneByModel" "RoadsNotGoneByModel" "sorts" "[I") ∈ lw_all := lw_g (lw_at lw_m6 94 rfl) rfl
theorem q1418 : (Jvm.Cond.soleField "RoadsNotGoneByModel" "sorts") ∈ lw_all := lw_g (lw_at lw_m6 95 rfl) rfl
theorem q1419 : (Jvm.Cond.laysFinal "RoadsNotGoneByModel" "RoadsNotGoneByModel" "sheetSize" "[I") ∈ lw_all := lw_g (lw_at lw_m6 96 rfl) rfl
theorem q1420 : (Jvm.Cond.soleField "RoadsNotGoneByModel" "sheetSize") ∈ lw_all := lw_g (lw_at lw_m6 97 rfl) rfl
theorem q1421 : (Jvm.Cond.laysFinal "RoadsNotGoneByModel" "RoadsNotGoneByModel" "items" "[I") ∈ lw_all := lw_g (lw_at lw_m6 98 rfl) rfl
theorem q1422 : (Jvm.Cond.soleField "RoadsNotGoneByModel" "items") ∈ lw_all := lw_g (lw_at lw_m6 99 rfl) rfl
theorem q1423 : (Jvm.Cond.superclass "RoadsNotGoneByModel" "java/lang/Object") ∈ lw_all := lw_g (lw_at lw_m6 100 rfl) rfl
theorem q1426 : (Jvm.Cond.instanceMethod ({ cls := "RoadsNotGoneByModel", name := "set", desc := "(III)I" } : Jvm.MethodName)) ∈ lw_all := lw_g (lw_at lw_m6 103 rfl) rfl
theorem q1427 : (Jvm.Cond.selects "RoadsNotGoneByModel" ({ cls := "RoadsNotGoneByModel", name := "set", desc := "(III)I" } : Jvm.MethodName) ({ cls := "RoadsNotGoneByModel", name := "set", desc := "(III)I" } : Jvm.MethodName)) ∈ lw_all := lw_g (lw_at lw_m6 104 rfl) rfl
theorem q1428 : (Jvm.Cond.code ({ cls := "RoadsNotGoneByModel", name := "set", desc := "(III)I" } : Jvm.MethodName) prog_16_method_11_code (5 : Nat) (Option.some Jvm.ClassFile.FieldType.int)) ∈ lw_all := lw_g (lw_at lw_m6 105 rfl) rfl
theorem q1429 : (Jvm.Cond.constantLong "RoadsNotGoneByModel" (104 : Nat) (6 : Int64)) ∈ lw_all := lw_g (lw_at lw_m6 106 rfl) rfl
theorem q1430 : (Jvm.Cond.methodLink "RoadsNotGoneByModel" (86 : Nat) ({ cls := "RoadsNotGoneByModel", name := "in", desc := "(JJJ)Z" } : Jvm.MethodName)) ∈ lw_all := lw_g (lw_at lw_m6 107 rfl) rfl
theorem q1431 : (Jvm.Cond.static ({ cls := "RoadsNotGoneByModel", name := "in", desc := "(JJJ)Z" } : Jvm.MethodName)) ∈ lw_all := lw_g (lw_at lw_m6 108 rfl) rfl
theorem q1432 : (Jvm.Cond.code ({ cls := "RoadsNotGoneByModel", name := "in", desc := "(JJJ)Z" } : Jvm.MethodName) prog_16_method_2_code (6 : Nat) (Option.some Jvm.ClassFile.FieldType.boolean)) ∈ lw_all := lw_g (lw_at lw_m6 109 rfl) rfl
theorem q1433 : (Jvm.Cond.methodLink "RoadsNotGoneByModel" (106 : Nat) ({ cls := "RoadsNotGoneByModel", name := "isOf", desc := "(II)Z" } : Jvm.MethodName)) ∈ lw_all := lw_g (lw_at lw_m6 110 rfl) rfl
theorem q1434 : (Jvm.Cond.privateMethod ({ cls := "RoadsNotGoneByModel", name := "isOf", desc := "(II)Z" } : Jvm.MethodName)) ∈ lw_tbl := lw_at lw_m6 111 rfl
theorem q1435 : (Jvm.Cond.instanceMethod ({ cls := "RoadsNotGoneByModel", name := "isOf", desc := "(II)Z" } : Jvm.MethodName)) ∈ lw_all := lw_g (lw_at lw_m6 112 rfl) rfl
theorem q1436 : (Jvm.Cond.code ({ cls := "RoadsNotGoneByModel", name := "isOf", desc := "(II)Z" } : Jvm.MethodName) prog_16_method_9_code (3 : Nat) (Option.some Jvm.ClassFile.FieldType.boolean)) ∈ lw_all := lw_g (lw_at lw_m6 113 rfl) rfl
theorem q1437 : (Jvm.Cond.methodLink "RoadsNotGoneByModel" (94 : Nat) ({ cls := "RoadsNotGoneByModel", name := "isJar", desc := "(I)Z" } : Jvm.MethodName)) ∈ lw_all := lw_g (lw_at lw_m6 114 rfl) rfl
theorem q1438 : (Jvm.Cond.static ({ cls := "RoadsNotGoneByModel", name := "isJar", desc := "(I)Z" } : Jvm.MethodName)) ∈ lw_all := lw_g (lw_at lw_m6 115 rfl) rfl
theorem q1439 : (Jvm.Cond.code ({ cls := "RoadsNotGoneByModel", name := "isJar", desc := "(I)Z" } : Jvm.MethodName) prog_16_method_8_code (1 : Nat) (Option.some Jvm.ClassFile.FieldType.boolean)) ∈ lw_all := lw_g (lw_at lw_m6 116 rfl) rfl
theorem q1440 : (Jvm.Cond.constantLong "RoadsNotGoneByModel" (92 : Nat) (23 : Int64)) ∈ lw_all := lw_g (lw_at lw_m6 117 rfl) rfl
theorem q1441 : (Jvm.Cond.methodLink "RoadsNotGoneByModel" (98 : Nat) ({ cls := "RoadsNotGoneByModel", name := "isCrossing", desc := "(I)Z" } : Jvm.MethodName)) ∈ lw_all := lw_g (lw_at lw_m6 118 rfl) rfl
theorem q1442 : (Jvm.Cond.static ({ cls := "RoadsNotGoneByModel", name := "isCrossing", desc := "(I)Z" } : Jvm.MethodName)) ∈ lw_all := lw_g (lw_at lw_m6 119 rfl) rfl
theorem q1443 : (Jvm.Cond.code ({ cls := "RoadsNotGoneByModel", name := "isCrossing", desc := "(I)Z" } : Jvm.MethodName) prog_16_method_7_code (1 : Nat) (Option.some Jvm.ClassFile.FieldType.boolean)) ∈ lw_all := lw_g (lw_at lw_m6 120 rfl) rfl
theorem q1444 : (Jvm.Cond.constantLong "RoadsNotGoneByModel" (90 : Nat) (11 : Int64)) ∈ lw_all := lw_g (lw_at lw_m6 121 rfl) rfl
theorem q1445 : (Jvm.Cond.methodLink "RoadsNotGoneByModel" (101 : Nat) ({ cls := "RoadsNotGoneByModel", name := "isOne", desc := "(I)Z" } : Jvm.MethodName)) ∈ lw_all := lw_g (lw_at lw_m6 122 rfl) rfl
theorem q1446 : (Jvm.Cond.privateMethod ({ cls := "RoadsNotGoneByModel", name := "isOne", desc := "(I)Z" } : Jvm.MethodName)) ∈ lw_tbl := lw_at lw_m6 123 rfl
theorem q1447 : (Jvm.Cond.instanceMethod ({ cls := "RoadsNotGoneByModel", name := "isOne", desc := "(I)Z" } : Jvm.MethodName)) ∈ lw_all := lw_g (lw_at lw_m6 124 rfl) rfl
theorem q1448 : (Jvm.Cond.code ({ cls := "RoadsNotGoneByModel", name := "isOne", desc := "(I)Z" } : Jvm.MethodName) prog_16_method_6_code (2 : Nat) (Option.some Jvm.ClassFile.FieldType.boolean)) ∈ lw_all := lw_g (lw_at lw_m6 125 rfl) rfl
theorem q1449 : (Jvm.Cond.constantLong "RoadsNotGoneByModel" (110 : Nat) (-99 : Int64)) ∈ lw_all := lw_g (lw_at lw_m6 126 rfl) rfl
theorem q1450 : (Jvm.Cond.methodLink "RoadsNotGoneByModel" (112 : Nat) ({ cls := "RoadsNotGoneByModel", name := "mostOf", desc := "(I)I" } : Jvm.MethodName)) ∈ lw_all := lw_g (lw_at lw_m6 127 rfl) rfl
theorem q1451 : (Jvm.Cond.static ({ cls := "RoadsNotGoneByModel", name := "mostOf", desc := "(I)I" } : Jvm.MethodName)) ∈ lw_all := lw_g (lw_at lw_m6 128 rfl) rfl
theorem q1452 : (Jvm.Cond.code ({ cls := "RoadsNotGoneByModel", name := "mostOf", desc := "(I)I" } : Jvm.MethodName) prog_16_method_10_code (1 : Nat) (Option.some Jvm.ClassFile.FieldType.int)) ∈ lw_all := lw_g (lw_at lw_m6 129 rfl) rfl
theorem q1453 : (Jvm.Cond.methodLink "RoadsNotGoneByModel" (116 : Nat) ({ cls := "RoadsNotGoneByModel", name := "told", desc := "(II)I" } : Jvm.MethodName)) ∈ lw_all := lw_g (lw_at lw_m6 130 rfl) rfl
theorem q1454 : (Jvm.Cond.instanceMethod ({ cls := "RoadsNotGoneByModel", name := "told", desc := "(II)I" } : Jvm.MethodName)) ∈ lw_all := lw_g (lw_at lw_m6 131 rfl) rfl
theorem q1455 : (Jvm.Cond.selects "RoadsNotGoneByModel" ({ cls := "RoadsNotGoneByModel", name := "told", desc := "(II)I" } : Jvm.MethodName) ({ cls := "RoadsNotGoneByModel", name := "told", desc := "(II)I" } : Jvm.MethodName)) ∈ lw_all := lw_g (lw_at lw_m6 132 rfl) rfl
theorem q1456 : (Jvm.Cond.code ({ cls := "RoadsNotGoneByModel", name := "told", desc := "(II)I" } : Jvm.MethodName) prog_16_method_14_code (3 : Nat) (Option.some Jvm.ClassFile.FieldType.int)) ∈ lw_all := lw_g (lw_at lw_m6 133 rfl) rfl
theorem q1457 : (Jvm.Cond.constantLong "RoadsNotGoneByModel" (134 : Nat) (10 : Int64)) ∈ lw_all := lw_g (lw_at lw_m6 134 rfl) rfl
theorem q1458 : (Jvm.Cond.methodLink "RoadsNotGoneByModel" (136 : Nat) ({ cls := "RoadsNotGoneByModel", name := "takesOf", desc := "(I)I" } : Jvm.MethodName)) ∈ lw_all := lw_g (lw_at lw_m6 135 rfl) rfl
theorem q1459 : (Jvm.Cond.privateMethod ({ cls := "RoadsNotGoneByModel", name := "takesOf", desc := "(I)I" } : Jvm.MethodName)) ∈ lw_tbl := lw_at lw_m6 136 rfl
theorem q1460 : (Jvm.Cond.instanceMethod ({ cls := "RoadsNotGoneByModel", name := "takesOf", desc := "(I)I" } : Jvm.MethodName)) ∈ lw_all := lw_g (lw_at lw_m6 137 rfl) rfl
theorem q1461 : (Jvm.Cond.code ({ cls := "RoadsNotGoneByModel", name := "takesOf", desc := "(I)I" } : Jvm.MethodName) prog_16_method_67_code (6 : Nat) (Option.some Jvm.ClassFile.FieldType.int)) ∈ lw_all := lw_g (lw_at lw_m6 138 rfl) rfl
theorem q1462 : (Jvm.Cond.methodLink "RoadsNotGoneByModel" (351 : Nat) ({ cls := "RoadsNotGoneByModel", name := "atOf", desc := "(I)I" } : Jvm.MethodName)) ∈ lw_all := lw_g (lw_at lw_m6 139 rfl) rfl
theorem q1463 : (Jvm.Cond.privateMethod ({ cls := "RoadsNotGoneByModel", name := "atOf", desc := "(I)I" } : Jvm.MethodName)) ∈ lw_tbl := lw_at lw_m6 140 rfl
theorem q1464 : (Jvm.Cond.instanceMethod ({ cls := "RoadsNotGoneByModel", name := "atOf", desc := "(I)I" } : Jvm.MethodName)) ∈ lw_all := lw_g (lw_at lw_m6 141 rfl) rfl
theorem q1465 : (Jvm.Cond.code ({ cls := "RoadsNotGoneByModel", name := "atOf", desc := "(I)I" } : Jvm.MethodName) prog_16_method_16_code (2 : Nat) (Option.some Jvm.ClassFile.FieldType.int)) ∈ lw_all := lw_g (lw_at lw_m6 142 rfl) rfl
theorem q1466 : (Jvm.Cond.methodLink "RoadsNotGoneByModel" (358 : Nat) ({ cls := "RoadsNotGoneByModel", name := "says", desc := "(III)I" } : Jvm.MethodName)) ∈ lw_all := lw_g (lw_at lw_m6 143 rfl) rfl
theorem q1467 : (Jvm.Cond.privateMethod ({ cls := "RoadsNotGoneByModel", name := "says", desc := "(III)I" } : Jvm.MethodName)) ∈ lw_tbl := lw_at lw_m6 144 rfl
theorem q1468 : (Jvm.Cond.instanceMethod ({ cls := "RoadsNotGoneByModel", name := "says", desc := "(III)I" } : Jvm.MethodName)) ∈ lw_all := lw_g (lw_at lw_m6 145 rfl) rfl
theorem q1469 : (Jvm.Cond.code ({ cls := "RoadsNotGoneByModel", name := "says", desc := "(III)I" } : Jvm.MethodName) prog_16_method_66_code (5 : Nat) (Option.some Jvm.ClassFile.FieldType.int)) ∈ lw_all := lw_g (lw_at lw_m6 146 rfl) rfl
theorem q1470 : (Jvm.Cond.methodLink "RoadsNotGoneByModel" (348 : Nat) ({ cls := "RoadsNotGoneByModel", name := "read", desc := "(II)I" } : Jvm.MethodName)) ∈ lw_all := lw_g (lw_at lw_m6 147 rfl) rfl
theorem q1471 : (Jvm.Cond.privateMethod ({ cls := "RoadsNotGoneByModel", name := "read", desc := "(II)I" } : Jvm.MethodName)) ∈ lw_tbl := lw_at lw_m6 148 rfl
theorem q1472 : (Jvm.Cond.instanceMethod ({ cls := "RoadsNotGoneByModel", name := "read", desc := "(II)I" } : Jvm.MethodName)) ∈ lw_all := lw_g (lw_at lw_m6 149 rfl) rfl
theorem q1473 : (Jvm.Cond.code ({ cls := "RoadsNotGoneByModel", name := "read", desc := "(II)I" } : Jvm.MethodName) prog_16_method_63_code (6 : Nat) (Option.some Jvm.ClassFile.FieldType.int)) ∈ lw_all := lw_g (lw_at lw_m6 150 rfl) rfl
theorem q1474 : (Jvm.Cond.methodLink "RoadsNotGoneByModel" (196 : Nat) ({ cls := "RoadsNotGoneByModel", name := "next", desc := "()V" } : Jvm.MethodName)) ∈ lw_all := lw_g (lw_at lw_m6 151 rfl) rfl
theorem q1475 : (Jvm.Cond.privateMethod ({ cls := "RoadsNotGoneByModel", name := "next", desc := "()V" } : Jvm.MethodName)) ∈ lw_tbl := lw_at lw_m6 152 rfl
theorem q1476 : (Jvm.Cond.instanceMethod ({ cls := "RoadsNotGoneByModel", name := "next", desc := "()V" } : Jvm.MethodName)) ∈ lw_all := lw_g (lw_at lw_m6 153 rfl) rfl
theorem q1477 : (Jvm.Cond.code ({ cls := "RoadsNotGoneByModel", name := "next", desc := "()V" } : Jvm.MethodName) prog_16_method_19_code (3 : Nat) (Option.none : Option Jvm.ClassFile.FieldType)) ∈ lw_all := lw_g (lw_at lw_m6 154 rfl) rfl
theorem q1478 : (Jvm.Cond.methodLink "RoadsNotGoneByModel" (159 : Nat) ({ cls := "RoadsNotGoneByModel", name := "byteAt", desc := "(I)I" } : Jvm.MethodName)) ∈ lw_all := lw_g (lw_at lw_m6 155 rfl) rfl
theorem q1479 : (Jvm.Cond.privateMethod ({ cls := "RoadsNotGoneByModel", name := "byteAt", desc := "(I)I" } : Jvm.MethodName)) ∈ lw_tbl := lw_at lw_m6 156 rfl
theorem q1480 : (Jvm.Cond.instanceMethod ({ cls := "RoadsNotGoneByModel", name := "byteAt", desc := "(I)I" } : Jvm.MethodName)) ∈ lw_all := lw_g (lw_at lw_m6 157 rfl) rfl
theorem q1481 : (Jvm.Cond.code ({ cls := "RoadsNotGoneByModel", name := "byteAt", desc := "(I)I" } : Jvm.MethodName) prog_16_method_18_code (2 : Nat) (Option.some Jvm.ClassFile.FieldType.int)) ∈ lw_all := lw_g (lw_at lw_m6 158 rfl) rfl
theorem q1482 : (Jvm.Cond.constantLong "RoadsNotGoneByModel" (168 : Nat) (97 : Int64)) ∈ lw_all := lw_g (lw_at lw_m6 159 rfl) rfl
theorem q1483 : (Jvm.Cond.constantLong "RoadsNotGoneByModel" (170 : Nat) (122 : Int64)) ∈ lw_all := lw_g (lw_at lw_m6 160 rfl) rfl
theorem q1484 : (Jvm.Cond.constantLong "RoadsNotGoneByModel" (172 : Nat) (48 : Int64)) ∈ lw_all := lw_g (lw_at lw_m6 161 rfl) rfl
theorem q1485 : (Jvm.Cond.constantLong "RoadsNotGoneByModel" (174 : Nat) (57 : Int64)) ∈ lw_all := lw_g (lw_at lw_m6 162 rfl) rfl
theorem q1486 : (Jvm.Cond.methodLink "RoadsNotGoneByModel" (199 : Nat) ({ cls := "RoadsNotGoneByModel", name := "isWord", desc := "(IIIIIIII)Z" } : Jvm.MethodName)) ∈ lw_all := lw_g (lw_at lw_m6 163 rfl) rfl
theorem q1487 : (Jvm.Cond.privateMethod ({ cls := "RoadsNotGoneByModel", name := "isWord", desc := "(IIIIIIII)Z" } : Jvm.MethodName)) ∈ lw_tbl := lw_at lw_m6 164 rfl
theorem q1488 : (Jvm.Cond.instanceMethod ({ cls := "RoadsNotGoneByModel", name := "isWord", desc := "(IIIIIIII)Z" } : Jvm.MethodName)) ∈ lw_all := lw_g (lw_at lw_m6 165 rfl) rfl
theorem q1489 : (Jvm.Cond.code ({ cls := "RoadsNotGoneByModel", name := "isWord", desc := "(IIIIIIII)Z" } : Jvm.MethodName) prog_16_method_22_code (9 : Nat) (Option.some Jvm.ClassFile.FieldType.boolean)) ∈ lw_all := lw_g (lw_at lw_m6 166 rfl) rfl
theorem q1490 : (Jvm.Cond.methodLink "RoadsNotGoneByModel" (187 : Nat) ({ cls := "RoadsNotGoneByModel", name := "isLetter", desc := "(II)Z" } : Jvm.MethodName)) ∈ lw_all := lw_g (lw_at lw_m6 167 rfl) rfl
theorem q1491 : (Jvm.Cond.privateMethod ({ cls := "RoadsNotGoneByModel", name := "isLetter", desc := "(II)Z" } : Jvm.MethodName)) ∈ lw_tbl := lw_at lw_m6 168 rfl
theorem q1492 : (Jvm.Cond.instanceMethod ({ cls := "RoadsNotGoneByModel", name := "isLetter", desc := "(II)Z" } : Jvm.MethodName)) ∈ lw_all := lw_g (lw_at lw_m6 169 rfl) rfl
theorem q1493 : (Jvm.Cond.code ({ cls := "RoadsNotGoneByModel", name := "isLetter", desc := "(II)Z" } : Jvm.MethodName) prog_16_method_21_code (3 : Nat) (Option.some Jvm.ClassFile.FieldType.boolean)) ∈ lw_all := lw_g (lw_at lw_m6 170 rfl) rfl
theorem q1494 : (Jvm.Cond.methodLink "RoadsNotGoneByModel" (344 : Nat) ({ cls := "RoadsNotGoneByModel", name := "part", desc := "(Z)I" } : Jvm.MethodName)) ∈ lw_all := lw_g (lw_at lw_m6 171 rfl) rfl
theorem q1495 : (Jvm.Cond.privateMethod ({ cls := "RoadsNotGoneByModel", name := "part", desc := "(Z)I" } : Jvm.MethodName)) ∈ lw_tbl := lw_at lw_m6 172 rfl
theorem q1496 : (Jvm.Cond.instanceMethod ({ cls := "RoadsNotGoneByModel", name := "part", desc := "(Z)I" } : Jvm.MethodName)) ∈ lw_all := lw_g (lw_at lw_m6 173 rfl) rfl
theorem q1497 : (Jvm.Cond.code ({ cls := "RoadsNotGoneByModel", name := "part", desc := "(Z)I" } : Jvm.MethodName) prog_16_method_62_code (3 : Nat) (Option.some Jvm.ClassFile.FieldType.int)) ∈ lw_all := lw_g (lw_at lw_m6 174 rfl) rfl
theorem q1498 : (Jvm.Cond.methodLink "RoadsNotGoneByModel" (193 : Nat) ({ cls := "RoadsNotGoneByModel", name := "fail", desc := "()V" } : Jvm.MethodName)) ∈ lw_all := lw_g (lw_at lw_m6 175 rfl) rfl
theorem q1499 : (Jvm.Cond.privateMethod ({ cls := "RoadsNotGoneByModel", name := "fail", desc := "()V" } : Jvm.MethodName)) ∈ lw_tbl := lw_at lw_m6 176 rfl
theorem q1500 : (Jvm.Cond.instanceMethod ({ cls := "RoadsNotGoneByModel", name := "fail", desc := "()V" } : Jvm.MethodName)) ∈ lw_all := lw_g (lw_at lw_m6 177 rfl) rfl
theorem q1501 : (Jvm.Cond.code ({ cls := "RoadsNotGoneByModel", name := "fail", desc := "()V" } : Jvm.MethodName) prog_16_method_20_code (1 : Nat) (Option.none : Option Jvm.ClassFile.FieldType)) ∈ lw_all := lw_g (lw_at lw_m6 178 rfl) rfl
theorem q1502 : (Jvm.Cond.methodLink "RoadsNotGoneByModel" (341 : Nat) ({ cls := "RoadsNotGoneByModel", name := "either0", desc := "()I" } : Jvm.MethodName)) ∈ lw_all := lw_g (lw_at lw_m6 179 rfl) rfl
theorem q1503 : (Jvm.Cond.privateMethod ({ cls := "RoadsNotGoneByModel", name := "either0", desc := "()I" } : Jvm.MethodName)) ∈ lw_tbl := lw_at lw_m6 180 rfl
theorem q1504 : (Jvm.Cond.instanceMethod ({ cls := "RoadsNotGoneByModel", name := "either0", desc := "()I" } : Jvm.MethodName)) ∈ lw_all := lw_g (lw_at lw_m6 181 rfl) rfl
theorem q1505 : (Jvm.Cond.code ({ cls := "RoadsNotGoneByModel", name := "either0", desc := "()I" } : Jvm.MethodName) prog_16_method_61_code (3 : Nat) (Option.some Jvm.ClassFile.FieldType.int)) ∈ lw_all := lw_g (lw_at lw_m6 182 rfl) rfl
theorem q1506 : (Jvm.Cond.methodLink "RoadsNotGoneByModel" (338 : Nat) ({ cls := "RoadsNotGoneByModel", name := "both0", desc := "()I" } : Jvm.MethodName)) ∈ lw_all := lw_g (lw_at lw_m6 183 rfl) rfl
theorem q1507 : (Jvm.Cond.privateMethod ({ cls := "RoadsNotGoneByModel", name := "both0", desc := "()I" } : Jvm.MethodName)) ∈ lw_tbl := lw_at lw_m6 184 rfl
theorem q1508 : (Jvm.Cond.instanceMethod ({ cls := "RoadsNotGoneByModel", name := "both0", desc := "()I" } : Jvm.MethodName)) ∈ lw_all := lw_g (lw_at lw_m6 185 rfl) rfl
theorem q1509 : (Jvm.Cond.code ({ cls := "RoadsNotGoneByModel", name := "both0", desc := "()I" } : Jvm.MethodName) prog_16_method_60_code (3 : Nat) (Option.some Jvm.ClassFile.FieldType.int)) ∈ lw_all := lw_g (lw_at lw_m6 186 rfl) rfl
theorem q1510 : (Jvm.Cond.methodLink "RoadsNotGoneByModel" (335 : Nat) ({ cls := "RoadsNotGoneByModel", name := "not0", desc := "()I" } : Jvm.MethodName)) ∈ lw_all := lw_g (lw_at lw_m6 187 rfl) rfl
theorem q1511 : (Jvm.Cond.privateMethod ({ cls := "RoadsNotGoneByModel", name := "not0", desc := "()I" } : Jvm.MethodName)) ∈ lw_tbl := lw_at lw_m6 188 rfl
theorem q1512 : (Jvm.Cond.instanceMethod ({ cls := "RoadsNotGoneByModel", name := "not0", desc := "()I" } : Jvm.MethodName)) ∈ lw_all := lw_g (lw_at lw_m6 189 rfl) rfl
theorem q1513 : (Jvm.Cond.code ({ cls := "RoadsNotGoneByModel", name := "not0", desc := "()I" } : Jvm.MethodName) prog_16_method_59_code (4 : Nat) (Option.some Jvm.ClassFile.FieldType.int)) ∈ lw_all := lw_g (lw_at lw_m6 190 rfl) rfl
theorem q1514 : (Jvm.Cond.methodLink "RoadsNotGoneByModel" (224 : Nat) ({ cls := "RoadsNotGoneByModel", name := "opens", desc := "()Z" } : Jvm.MethodName)) ∈ lw_all := lw_g (lw_at lw_m6 191 rfl) rfl
theorem q1515 : (Jvm.Cond.privateMethod ({ cls := "RoadsNotGoneByModel", name := "opens", desc := "()Z" } : Jvm.MethodName)) ∈ lw_tbl := lw_at lw_m6 192 rfl
theorem q1516 : (Jvm.Cond.instanceMethod ({ cls := "RoadsNotGoneByModel", name := "opens", desc := "()Z" } : Jvm.MethodName)) ∈ lw_all := lw_g (lw_at lw_m6 193 rfl) rfl
theorem q1517 : (Jvm.Cond.code ({ cls := "RoadsNotGoneByModel", name := "opens", desc := "()Z" } : Jvm.MethodName) prog_16_method_24_code (1 : Nat) (Option.some Jvm.ClassFile.FieldType.boolean)) ∈ lw_all := lw_g (lw_at lw_m6 194 rfl) rfl
theorem q1518 : (Jvm.Cond.methodLink "RoadsNotGoneByModel" (317 : Nat) ({ cls := "RoadsNotGoneByModel", name := "not1", desc := "()I" } : Jvm.MethodName)) ∈ lw_all := lw_g (lw_at lw_m6 195 rfl) rfl
theorem q1519 : (Jvm.Cond.privateMethod ({ cls := "RoadsNotGoneByModel", name := "not1", desc := "()I" } : Jvm.MethodName)) ∈ lw_tbl := lw_at lw_m6 196 rfl
theorem q1520 : (Jvm.Cond.instanceMethod ({ cls := "RoadsNotGoneByModel", name := "not1", desc := "()I" } : Jvm.MethodName)) ∈ lw_all := lw_g (lw_at lw_m6 197 rfl) rfl
theorem q1521 : (Jvm.Cond.code ({ cls := "RoadsNotGoneByModel", name := "not1", desc := "()I" } : Jvm.MethodName) prog_16_method_53_code (4 : Nat) (Option.some Jvm.ClassFile.FieldType.int)) ∈ lw_all := lw_g (lw_at lw_m6 198 rfl) rfl
theorem q1522 : (Jvm.Cond.methodLink "RoadsNotGoneByModel" (299 : Nat) ({ cls := "RoadsNotGoneByModel", name := "not2", desc := "()I" } : Jvm.MethodName)) ∈ lw_all := lw_g (lw_at lw_m6 199 rfl) rfl
theorem q1523 : (Jvm.Cond.privateMethod ({ cls := "RoadsNotGoneByModel", name := "not2", desc := "()I" } : Jvm.MethodName)) ∈ lw_tbl := lw_at lw_m6 200 rfl
theorem q1524 : (Jvm.Cond.instanceMethod ({ cls := "RoadsNotGoneByModel", name := "not2", desc := "()I" } : Jvm.MethodName)) ∈ lw_all := lw_g (lw_at lw_m6 201 rfl) rfl
theorem q1525 : (Jvm.Cond.code ({ cls := "RoadsNotGoneByModel", name := "not2", desc := "()I" } : Jvm.MethodName) prog_16_method_47_code (4 : Nat) (Option.some Jvm.ClassFile.FieldType.int)) ∈ lw_all := lw_g (lw_at lw_m6 202 rfl) rfl
theorem q1526 : (Jvm.Cond.methodLink "RoadsNotGoneByModel" (281 : Nat) ({ cls := "RoadsNotGoneByModel", name := "not3", desc := "()I" } : Jvm.MethodName)) ∈ lw_all := lw_g (lw_at lw_m6 203 rfl) rfl
theorem q1527 : (Jvm.Cond.privateMethod ({ cls := "RoadsNotGoneByModel", name := "not3", desc := "()I" } : Jvm.MethodName)) ∈ lw_tbl := lw_at lw_m6 204 rfl
theorem q1528 : (Jvm.Cond.instanceMethod ({ cls := "RoadsNotGoneByModel", name := "not3", desc := "()I" } : Jvm.MethodName)) ∈ lw_all := lw_g (lw_at lw_m6 205 rfl) rfl
theorem q1529 : (Jvm.Cond.code ({ cls := "RoadsNotGoneByModel", name := "not3", desc := "()I" } : Jvm.MethodName) prog_16_method_41_code (4 : Nat) (Option.some Jvm.ClassFile.FieldType.int)) ∈ lw_all := lw_g (lw_at lw_m6 206 rfl) rfl
theorem q1530 : (Jvm.Cond.methodLink "RoadsNotGoneByModel" (263 : Nat) ({ cls := "RoadsNotGoneByModel", name := "not4", desc := "()I" } : Jvm.MethodName)) ∈ lw_all := lw_g (lw_at lw_m6 207 rfl) rfl
theorem q1531 : (Jvm.Cond.privateMethod ({ cls := "RoadsNotGoneByModel", name := "not4", desc := "()I" } : Jvm.MethodName)) ∈ lw_tbl := lw_at lw_m6 208 rfl
theorem q1532 : (Jvm.Cond.instanceMethod ({ cls := "RoadsNotGoneByModel", name := "not4", desc := "()I" } : Jvm.MethodName)) ∈ lw_all := lw_g (lw_at lw_m6 209 rfl) rfl
theorem q1533 : (Jvm.Cond.code ({ cls := "RoadsNotGoneByModel", name := "not4", desc := "()I" } : Jvm.MethodName) prog_16_method_35_code (4 : Nat) (Option.some Jvm.ClassFile.FieldType.int)) ∈ lw_all := lw_g (lw_at lw_m6 210 rfl) rfl
theorem q1534 : (Jvm.Cond.methodLink "RoadsNotGoneByModel" (245 : Nat) ({ cls := "RoadsNotGoneByModel", name := "not5", desc := "()I" } : Jvm.MethodName)) ∈ lw_all := lw_g (lw_at lw_m6 211 rfl) rfl
theorem q1535 : (Jvm.Cond.privateMethod ({ cls := "RoadsNotGoneByModel", name := "not5", desc := "()I" } : Jvm.MethodName)) ∈ lw_tbl := lw_at lw_m6 212 rfl
theorem q1536 : (Jvm.Cond.instanceMethod ({ cls := "RoadsNotGoneByModel", name := "not5", desc := "()I" } : Jvm.MethodName)) ∈ lw_all := lw_g (lw_at lw_m6 213 rfl) rfl
theorem q1537 : (Jvm.Cond.code ({ cls := "RoadsNotGoneByModel", name := "not5", desc := "()I" } : Jvm.MethodName) prog_16_method_29_code (4 : Nat) (Option.some Jvm.ClassFile.FieldType.int)) ∈ lw_all := lw_g (lw_at lw_m6 214 rfl) rfl
theorem q1538 : (Jvm.Cond.methodLink "RoadsNotGoneByModel" (240 : Nat) ({ cls := "RoadsNotGoneByModel", name := "added5", desc := "()I" } : Jvm.MethodName)) ∈ lw_all := lw_g (lw_at lw_m6 215 rfl) rfl
theorem q1539 : (Jvm.Cond.privateMethod ({ cls := "RoadsNotGoneByModel", name := "added5", desc := "()I" } : Jvm.MethodName)) ∈ lw_tbl := lw_at lw_m6 216 rfl
theorem q1540 : (Jvm.Cond.instanceMethod ({ cls := "RoadsNotGoneByModel", name := "added5", desc := "()I" } : Jvm.MethodName)) ∈ lw_all := lw_g (lw_at lw_m6 217 rfl) rfl
theorem q1541 : (Jvm.Cond.code ({ cls := "RoadsNotGoneByModel", name := "added5", desc := "()I" } : Jvm.MethodName) prog_16_method_28_code (4 : Nat) (Option.some Jvm.ClassFile.FieldType.int)) ∈ lw_all := lw_g (lw_at lw_m6 218 rfl) rfl
theorem q1542 : (Jvm.Cond.methodLink "RoadsNotGoneByModel" (235 : Nat) ({ cls := "RoadsNotGoneByModel", name := "term5", desc := "()I" } : Jvm.MethodName)) ∈ lw_all := lw_g (lw_at lw_m6 219 rfl) rfl
theorem q1543 : (Jvm.Cond.privateMethod ({ cls := "RoadsNotGoneByModel", name := "term5", desc := "()I" } : Jvm.MethodName)) ∈ lw_tbl := lw_at lw_m6 220 rfl
theorem q1544 : (Jvm.Cond.instanceMethod ({ cls := "RoadsNotGoneByModel", name := "term5", desc := "()I" } : Jvm.MethodName)) ∈ lw_all := lw_g (lw_at lw_m6 221 rfl) rfl
theorem q1545 : (Jvm.Cond.code ({ cls := "RoadsNotGoneByModel", name := "term5", desc := "()I" } : Jvm.MethodName) prog_16_method_27_code (2 : Nat) (Option.some Jvm.ClassFile.FieldType.int)) ∈ lw_all := lw_g (lw_at lw_m6 222 rfl) rfl
theorem q1546 : (Jvm.Cond.methodLink "RoadsNotGoneByModel" (232 : Nat) ({ cls := "RoadsNotGoneByModel", name := "atom5", desc := "()I" } : Jvm.MethodName)) ∈ lw_all := lw_g (lw_at lw_m6 223 rfl) rfl
theorem q1547 : (Jvm.Cond.privateMethod ({ cls := "RoadsNotGoneByModel", name := "atom5", desc := "()I" } : Jvm.MethodName)) ∈ lw_tbl := lw_at lw_m6 224 rfl
theorem q1548 : (Jvm.Cond.instanceMethod ({ cls := "RoadsNotGoneByModel", name := "atom5", desc := "()I" } : Jvm.MethodName)) ∈ lw_all := lw_g (lw_at lw_m6 225 rfl) rfl
theorem q1549 : (Jvm.Cond.code ({ cls := "RoadsNotGoneByModel", name := "atom5", desc := "()I" } : Jvm.MethodName) prog_16_method_26_code (2 : Nat) (Option.some Jvm.ClassFile.FieldType.int)) ∈ lw_all := lw_g (lw_at lw_m6 226 rfl) rfl
theorem q1550 : (Jvm.Cond.methodLink "RoadsNotGoneByModel" (221 : Nat) ({ cls := "RoadsNotGoneByModel", name := "isSign", desc := "(I)Z" } : Jvm.MethodName)) ∈ lw_all := lw_g (lw_at lw_m6 227 rfl) rfl
theorem q1551 : (Jvm.Cond.privateMethod ({ cls := "RoadsNotGoneByModel", name := "isSign", desc := "(I)Z" } : Jvm.MethodName)) ∈ lw_tbl := lw_at lw_m6 228 rfl
theorem q1552 : (Jvm.Cond.instanceMethod ({ cls := "RoadsNotGoneByModel", name := "isSign", desc := "(I)Z" } : Jvm.MethodName)) ∈ lw_all := lw_g (lw_at lw_m6 229 rfl) rfl
theorem q1553 : (Jvm.Cond.code ({ cls := "RoadsNotGoneByModel", name := "isSign", desc := "(I)Z" } : Jvm.MethodName) prog_16_method_23_code (2 : Nat) (Option.some Jvm.ClassFile.FieldType.boolean)) ∈ lw_all := lw_g (lw_at lw_m6 230 rfl) rfl
theorem q1554 : (Jvm.Cond.methodLink "RoadsNotGoneByModel" (228 : Nat) ({ cls := "RoadsNotGoneByModel", name := "name", desc := "()I" } : Jvm.MethodName)) ∈ lw_all := lw_g (lw_at lw_m6 231 rfl) rfl
theorem q1555 : (Jvm.Cond.privateMethod ({ cls := "RoadsNotGoneByModel", name := "name", desc := "()I" } : Jvm.MethodName)) ∈ lw_tbl := lw_at lw_m6 232 rfl
theorem q1556 : (Jvm.Cond.instanceMethod ({ cls := "RoadsNotGoneByModel", name := "name", desc := "()I" } : Jvm.MethodName)) ∈ lw_all := lw_g (lw_at lw_m6 233 rfl) rfl
theorem q1557 : (Jvm.Cond.code ({ cls := "RoadsNotGoneByModel", name := "name", desc := "()I" } : Jvm.MethodName) prog_16_method_25_code (1 : Nat) (Option.some Jvm.ClassFile.FieldType.int)) ∈ lw_all := lw_g (lw_at lw_m6 234 rfl) rfl
theorem q1558 : (Jvm.Cond.constantLong "RoadsNotGoneByModel" (238 : Nat) (43 : Int64)) ∈ lw_all := lw_g (lw_at lw_m6 235 rfl) rfl
theorem q1559 : (Jvm.Cond.constantLong "RoadsNotGoneByModel" (243 : Nat) (60 : Int64)) ∈ lw_all := lw_g (lw_at lw_m6 236 rfl) rfl
theorem q1560 : (Jvm.Cond.methodLink "RoadsNotGoneByModel" (260 : Nat) ({ cls := "RoadsNotGoneByModel", name := "added4", desc := "()I" } : Jvm.MethodName)) ∈ lw_all := lw_g (lw_at lw_m6 237 rfl) rfl
theorem q1561 : (Jvm.Cond.privateMethod ({ cls := "RoadsNotGoneByModel", name := "added4", desc := "()I" } : Jvm.MethodName)) ∈ lw_tbl := lw_at lw_m6 238 rfl
theorem q1562 : (Jvm.Cond.instanceMethod ({ cls := "RoadsNotGoneByModel", name := "added4", desc := "()I" } : Jvm.MethodName)) ∈ lw_all := lw_g (lw_at lw_m6 239 rfl) rfl
theorem q1563 : (Jvm.Cond.code ({ cls := "RoadsNotGoneByModel", name := "added4", desc := "()I" } : Jvm.MethodName) prog_16_method_34_code (4 : Nat) (Option.some Jvm.ClassFile.FieldType.int)) ∈ lw_all := lw_g (lw_at lw_m7 0 rfl) rfl
theorem q1564 : (Jvm.Cond.methodLink "RoadsNotGoneByModel" (257 : Nat) ({ cls := "RoadsNotGoneByModel", name := "term4", desc := "()I" } : Jvm.MethodName)) ∈ lw_all := lw_g (lw_at lw_m7 1 rfl) rfl
theorem q1565 : (Jvm.Cond.privateMethod ({ cls := "RoadsNotGoneByModel", name := "term4", desc := "()I" } : Jvm.MethodName)) ∈ lw_tbl := lw_at lw_m7 2 rfl
theorem q1566 : (Jvm.Cond.instanceMethod ({ cls := "RoadsNotGoneByModel", name := "term4", desc := "()I" } : Jvm.MethodName)) ∈ lw_all := lw_g (lw_at lw_m7 3 rfl) rfl
theorem q1567 : (Jvm.Cond.code ({ cls := "RoadsNotGoneByModel", name := "term4", desc := "()I" } : Jvm.MethodName) prog_16_method_33_code (2 : Nat) (Option.some Jvm.ClassFile.FieldType.int)) ∈ lw_all := lw_g (lw_at lw_m7 4 rfl) rfl
theorem q1568 : (Jvm.Cond.methodLink "RoadsNotGoneByModel" (254 : Nat) ({ cls := "RoadsNotGoneByModel", name := "atom4", desc := "()I" } : Jvm.MethodName)) ∈ lw_all := lw_g (lw_at lw_m7 5 rfl) rfl
theorem q1569 : (Jvm.Cond.privateMethod ({ cls := "RoadsNotGoneByModel", name := "atom4", desc := "()I" } : Jvm.MethodName)) ∈ lw_tbl := lw_at lw_m7 6 rfl
theorem q1570 : (Jvm.Cond.instanceMethod ({ cls := "RoadsNotGoneByModel", name := "atom4", desc := "()I" } : Jvm.MethodName)) ∈ lw_all := lw_g (lw_at lw_m7 7 rfl) rfl
theorem q1571 : (Jvm.Cond.code ({ cls := "RoadsNotGoneByModel", name := "atom4", desc := "()I" } : Jvm.MethodName) prog_16_method_32_code (2 : Nat) (Option.some Jvm.ClassFile.FieldType.int)) ∈ lw_all := lw_g (lw_at lw_m7 8 rfl) rfl
theorem q1572 : (Jvm.Cond.methodLink "RoadsNotGoneByModel" (251 : Nat) ({ cls := "RoadsNotGoneByModel", name := "either5", desc := "()I" } : Jvm.MethodName)) ∈ lw_all := lw_g (lw_at lw_m7 9 rfl) rfl
theorem q1573 : (Jvm.Cond.privateMethod ({ cls := "RoadsNotGoneByModel", name := "either5", desc := "()I" } : Jvm.MethodName)) ∈ lw_tbl := lw_at lw_m7 10 rfl
theorem q1574 : (Jvm.Cond.instanceMethod ({ cls := "RoadsNotGoneByModel", name := "either5", desc := "()I" } : Jvm.MethodName)) ∈ lw_all := lw_g (lw_at lw_m7 11 rfl) rfl
theorem q1575 : (Jvm.Cond.code ({ cls := "RoadsNotGoneByModel", name := "either5", desc := "()I" } : Jvm.MethodName) prog_16_method_31_code (3 : Nat) (Option.some Jvm.ClassFile.FieldType.int)) ∈ lw_all := lw_g (lw_at lw_m7 12 rfl) rfl
theorem q1576 : (Jvm.Cond.methodLink "RoadsNotGoneByModel" (248 : Nat) ({ cls := "RoadsNotGoneByModel", name := "both5", desc := "()I" } : Jvm.MethodName)) ∈ lw_all := lw_g (lw_at lw_m7 13 rfl) rfl
theorem q1577 : (Jvm.Cond.privateMethod ({ cls := "RoadsNotGoneByModel", name := "both5", desc := "()I" } : Jvm.MethodName)) ∈ lw_tbl := lw_at lw_m7 14 rfl
theorem q1578 : (Jvm.Cond.instanceMethod ({ cls := "RoadsNotGoneByModel", name := "both5", desc := "()I" } : Jvm.MethodName)) ∈ lw_all := lw_g (lw_at lw_m7 15 rfl) rfl
theorem q1579 : (Jvm.Cond.code ({ cls := "RoadsNotGoneByModel", name := "both5", desc := "()I" } : Jvm.MethodName) prog_16_method_30_code (3 : Nat) (Option.some Jvm.ClassFile.FieldType.int)) ∈ lw_all := lw_g (lw_at lw_m7 16 rfl) rfl
theorem q1580 : (Jvm.Cond.methodLink "RoadsNotGoneByModel" (278 : Nat) ({ cls := "RoadsNotGoneByModel", name := "added3", desc := "()I" } : Jvm.MethodName)) ∈ lw_all := lw_g (lw_at lw_m7 17 rfl) rfl
theorem q1581 : (Jvm.Cond.privateMethod ({ cls := "RoadsNotGoneByModel", name := "added3", desc := "()I" } : Jvm.MethodName)) ∈ lw_tbl := lw_at lw_m7 18 rfl
theorem q1582 : (Jvm.Cond.instanceMethod ({ cls := "RoadsNotGoneByModel", name := "added3", desc := "()I" } : Jvm.MethodName)) ∈ lw_all := lw_g (lw_at lw_m7 19 rfl) rfl
theorem q1583 : (Jvm.Cond.code ({ cls := "RoadsNotGoneByModel", name := "added3", desc := "()I" } : Jvm.MethodName) prog_16_method_40_code (4 : Nat) (Option.some Jvm.ClassFile.FieldType.int)) ∈ lw_all := lw_g (lw_at lw_m7 20 rfl) rfl
theorem q1584 : (Jvm.Cond.methodLink "RoadsNotGoneByModel" (275 : Nat) ({ cls := "RoadsNotGoneByModel", name := "term3", desc := "()I" } : Jvm.MethodName)) ∈ lw_all := lw_g (lw_at lw_m7 21 rfl) rfl
theorem q1585 : (Jvm.Cond.privateMethod ({ cls := "RoadsNotGoneByModel", name := "term3", desc := "()I" } : Jvm.MethodName)) ∈ lw_tbl := lw_at lw_m7 22 rfl
theorem q1586 : (Jvm.Cond.instanceMethod ({ cls := "RoadsNotGoneByModel", name := "term3", desc := "()I" } : Jvm.MethodName)) ∈ lw_all := lw_g (lw_at lw_m7 23 rfl) rfl
theorem q1587 : (Jvm.Cond.code ({ cls := "RoadsNotGoneByModel", name := "term3", desc := "()I" } : Jvm.MethodName) prog_16_method_39_code (2 : Nat) (Option.some Jvm.ClassFile.FieldType.int)) ∈ lw_all := lw_g (lw_at lw_m7 24 rfl) rfl
theorem q1588 : (Jvm.Cond.methodLink "RoadsNotGoneByModel" (272 : Nat) ({ cls := "RoadsNotGoneByModel", name := "atom3", desc := "()I" } : Jvm.MethodName)) ∈ lw_all := lw_g (lw_at lw_m7 25 rfl) rfl
theorem q1589 : (Jvm.Cond.privateMethod ({ cls := "RoadsNotGoneByModel", name := "atom3", desc := "()I" } : Jvm.MethodName)) ∈ lw_tbl := lw_at lw_m7 26 rfl
theorem q1590 : (Jvm.Cond.instanceMethod ({ cls := "RoadsNotGoneByModel", name := "atom3", desc := "()I" } : Jvm.MethodName)) ∈ lw_all := lw_g (lw_at lw_m7 27 rfl) rfl
theorem q1591 : (Jvm.Cond.code ({ cls := "RoadsNotGoneByModel", name := "atom3", desc := "()I" } : Jvm.MethodName) prog_16_method_38_code (2 : Nat) (Option.some Jvm.ClassFile.FieldType.int)) ∈ lw_all := lw_g (lw_at lw_m7 28 rfl) rfl
theorem q1592 : (Jvm.Cond.methodLink "RoadsNotGoneByModel" (269 : Nat) ({ cls := "RoadsNotGoneByModel", name := "either4", desc := "()I" } : Jvm.MethodName)) ∈ lw_all := lw_g (lw_at lw_m7 29 rfl) rfl
theorem q1593 : (Jvm.Cond.privateMethod ({ cls := "RoadsNotGoneByModel", name := "either4", desc := "()I" } : Jvm.MethodName)) ∈ lw_tbl := lw_at lw_m7 30 rfl
theorem q1594 : (Jvm.Cond.instanceMethod ({ cls := "RoadsNotGoneByModel", name := "either4", desc := "()I" } : Jvm.MethodName)) ∈ lw_all := lw_g (lw_at lw_m7 31 rfl) rfl
theorem q1595 : (Jvm.Cond.code ({ cls := "RoadsNotGoneByModel", name := "either4", desc := "()I" } : Jvm.MethodName) prog_16_method_37_code (3 : Nat) (Option.some Jvm.ClassFile.FieldType.int)) ∈ lw_all := lw_g (lw_at lw_m7 32 rfl) rfl
theorem q1596 : (Jvm.Cond.methodLink "RoadsNotGoneByModel" (266 : Nat) ({ cls := "RoadsNotGoneByModel", name := "both4", desc := "()I" } : Jvm.MethodName)) ∈ lw_all := lw_g (lw_at lw_m7 33 rfl) rfl
theorem q1597 : (Jvm.Cond.privateMethod ({ cls := "RoadsNotGoneByModel", name := "both4", desc := "()I" } : Jvm.MethodName)) ∈ lw_tbl := lw_at lw_m7 34 rfl
theorem q1598 : (Jvm.Cond.instanceMethod ({ cls := "RoadsNotGoneByModel", name := "both4", desc := "()I" } : Jvm.MethodName)) ∈ lw_all := lw_g (lw_at lw_m7 35 rfl) rfl
theorem q1599 : (Jvm.Cond.code ({ cls := "RoadsNotGoneByModel", name := "both4", desc := "()I" } : Jvm.MethodName) prog_16_method_36_code (3 : Nat) (Option.some Jvm.ClassFile.FieldType.int)) ∈ lw_all := lw_g (lw_at lw_m7 36 rfl) rfl
theorem q1600 : (Jvm.Cond.methodLink "RoadsNotGoneByModel" (296 : Nat) ({ cls := "RoadsNotGoneByModel", name := "added2", desc := "()I" } : Jvm.MethodName)) ∈ lw_all := lw_g (lw_at lw_m7 37 rfl) rfl
theorem q1601 : (Jvm.Cond.privateMethod ({ cls := "RoadsNotGoneByModel", name := "added2", desc := "()I" } : Jvm.MethodName)) ∈ lw_tbl := lw_at lw_m7 38 rfl
theorem q1602 : (Jvm.Cond.instanceMethod ({ cls := "RoadsNotGoneByModel", name := "added2", desc := "()I" } : Jvm.MethodName)) ∈ lw_all := lw_g (lw_at lw_m7 39 rfl) rfl
theorem q1603 : (Jvm.Cond.code ({ cls := "RoadsNotGoneByModel", name := "added2", desc := "()I" } : Jvm.MethodName) prog_16_method_46_code (4 : Nat) (Option.some Jvm.ClassFile.FieldType.int)) ∈ lw_all := lw_g (lw_at lw_m7 40 rfl) rfl
theorem q1604 : (Jvm.Cond.methodLink "RoadsNotGoneByModel" (293 : Nat) ({ cls := "RoadsNotGoneByModel", name := "term2", desc := "()I" } : Jvm.MethodName)) ∈ lw_all := lw_g (lw_at lw_m7 41 rfl) rfl
theorem q1605 : (Jvm.Cond.privateMethod ({ cls := "RoadsNotGoneByModel", name := "term2", desc := "()I" } : Jvm.MethodName)) ∈ lw_tbl := lw_at lw_m7 42 rfl
theorem q1606 : (Jvm.Cond.instanceMethod ({ cls := "RoadsNotGoneByModel", name := "term2", desc := "()I" } : Jvm.MethodName)) ∈ lw_all := lw_g (lw_at lw_m7 43 rfl) rfl
theorem q1607 : (Jvm.Cond.code ({ cls := "RoadsNotGoneByModel", name := "term2", desc := "()I" } : Jvm.MethodName) prog_16_method_45_code (2 : Nat) (Option.some Jvm.ClassFile.FieldType.int)) ∈ lw_all := lw_g (lw_at lw_m7 44 rfl) rfl
theorem q1608 : (Jvm.Cond.methodLink "RoadsNotGoneByModel" (290 : Nat) ({ cls := "RoadsNotGoneByModel", name := "atom2", desc := "()I" } : Jvm.MethodName)) ∈ lw_all := lw_g (lw_at lw_m7 45 rfl) rfl
theorem q1609 : (Jvm.Cond.privateMethod ({ cls := "RoadsNotGoneByModel", name := "atom2", desc := "()I" } : Jvm.MethodName)) ∈ lw_tbl := lw_at lw_m7 46 rfl
theorem q1610 : (Jvm.Cond.instanceMethod ({ cls := "RoadsNotGoneByModel", name := "atom2", desc := "()I" } : Jvm.MethodName)) ∈ lw_all := lw_g (lw_at lw_m7 47 rfl) rfl
theorem q1611 : (Jvm.Cond.code ({ cls := "RoadsNotGoneByModel", name := "atom2", desc := "()I" } : Jvm.MethodName) prog_16_method_44_code (2 : Nat) (Option.some Jvm.ClassFile.FieldType.int)) ∈ lw_all := lw_g (lw_at lw_m7 48 rfl) rfl
theorem q1612 : (Jvm.Cond.methodLink "RoadsNotGoneByModel" (287 : Nat) ({ cls := "RoadsNotGoneByModel", name := "either3", desc := "()I" } : Jvm.MethodName)) ∈ lw_all := lw_g (lw_at lw_m7 49 rfl) rfl
theorem q1613 : (Jvm.Cond.privateMethod ({ cls := "RoadsNotGoneByModel", name := "either3", desc := "()I" } : Jvm.MethodName)) ∈ lw_tbl := lw_at lw_m7 50 rfl
theorem q1614 : (Jvm.Cond.instanceMethod ({ cls := "RoadsNotGoneByModel", name := "either3", desc := "()I" } : Jvm.MethodName)) ∈ lw_all := lw_g (lw_at lw_m7 51 rfl) rfl
theorem q1615 : (Jvm.Cond.code ({ cls := "RoadsNotGoneByModel", name := "either3", desc := "()I" } : Jvm.MethodName) prog_16_method_43_code (3 : Nat) (Option.some Jvm.ClassFile.FieldType.int)) ∈ lw_all := lw_g (lw_at lw_m7 52 rfl) rfl
theorem q1616 : (Jvm.Cond.methodLink "RoadsNotGoneByModel" (284 : Nat) ({ cls := "RoadsNotGoneByModel", name := "both3", desc := "()I" } : Jvm.MethodName)) ∈ lw_all := lw_g (lw_at lw_m7 53 rfl) rfl
theorem q1617 : (Jvm.Cond.privateMethod ({ cls := "RoadsNotGoneByModel", name := "both3", desc := "()I" } : Jvm.MethodName)) ∈ lw_tbl := lw_at lw_m7 54 rfl
theorem q1618 : (Jvm.Cond.instanceMethod ({ cls := "RoadsNotGoneByModel", name := "both3", desc := "()I" } : Jvm.MethodName)) ∈ lw_all := lw_g (lw_at lw_m7 55 rfl) rfl
theorem q1619 : (Jvm.Cond.code ({ cls := "RoadsNotGoneByModel", name := "both3", desc := "()I" } : Jvm.MethodName) prog_16_method_42_code (3 : Nat) (Option.some Jvm.ClassFile.FieldType.int)) ∈ lw_all := lw_g (lw_at lw_m7 56 rfl) rfl
theorem q1620 : (Jvm.Cond.methodLink "RoadsNotGoneByModel" (314 : Nat) ({ cls := "RoadsNotGoneByModel", name := "added1", desc := "()I" } : Jvm.MethodName)) ∈ lw_all := lw_g (lw_at lw_m7 57 rfl) rfl
theorem q1621 : (Jvm.Cond.privateMethod ({ cls := "RoadsNotGoneByModel", name := "added1", desc := "()I" } : Jvm.MethodName)) ∈ lw_tbl := lw_at lw_m7 58 rfl
theorem q1622 : (Jvm.Cond.instanceMethod ({ cls := "RoadsNotGoneByModel", name := "added1", desc := "()I" } : Jvm.MethodName)) ∈ lw_all := lw_g (lw_at lw_m7 59 rfl) rfl
theorem q1623 : (Jvm.Cond.code ({ cls := "RoadsNotGoneByModel", name := "added1", desc := "()I" } : Jvm.MethodName) prog_16_method_52_code (4 : Nat) (Option.some Jvm.ClassFile.FieldType.int)) ∈ lw_all := lw_g (lw_at lw_m7 60 rfl) rfl
theorem q1624 : (Jvm.Cond.methodLink "RoadsNotGoneByModel" (311 : Nat) ({ cls := "RoadsNotGoneByModel", name := "term1", desc := "()I" } : Jvm.MethodName)) ∈ lw_all := lw_g (lw_at lw_m7 61 rfl) rfl
theorem q1625 : (Jvm.Cond.privateMethod ({ cls := "RoadsNotGoneByModel", name := "term1", desc := "()I" } : Jvm.MethodName)) ∈ lw_tbl := lw_at lw_m7 62 rfl
theorem q1626 : (Jvm.Cond.instanceMethod ({ cls := "RoadsNotGoneByModel", name := "term1", desc := "()I" } : Jvm.MethodName)) ∈ lw_all := lw_g (lw_at lw_m7 63 rfl) rfl
theorem q1627 : (Jvm.Cond.code ({ cls := "RoadsNotGoneByModel", name := "term1", desc := "()I" } : Jvm.MethodName) prog_16_method_51_code (2 : Nat) (Option.some Jvm.ClassFile.FieldType.int)) ∈ lw_all := lw_g (lw_at lw_m7 64 rfl) rfl
theorem q1628 : (Jvm.Cond.methodLink "RoadsNotGoneByModel" (308 : Nat) ({ cls := "RoadsNotGoneByModel", name := "atom1", desc := "()I" } : Jvm.MethodName)) ∈ lw_all := lw_g (lw_at lw_m7 65 rfl) rfl
theorem q1629 : (Jvm.Cond.privateMethod ({ cls := "RoadsNotGoneByModel", name := "atom1", desc := "()I" } : Jvm.MethodName)) ∈ lw_tbl := lw_at lw_m7 66 rfl
theorem q1630 : (Jvm.Cond.instanceMethod ({ cls := "RoadsNotGoneByModel", name := "atom1", desc := "()I" } : Jvm.MethodName)) ∈ lw_all := lw_g (lw_at lw_m7 67 rfl) rfl
theorem q1631 : (Jvm.Cond.code ({ cls := "RoadsNotGoneByModel", name := "atom1", desc := "()I" } : Jvm.MethodName) prog_16_method_50_code (2 : Nat) (Option.some Jvm.ClassFile.FieldType.int)) ∈ lw_all := lw_g (lw_at lw_m7 68 rfl) rfl
theorem q1632 : (Jvm.Cond.methodLink "RoadsNotGoneByModel" (305 : Nat) ({ cls := "RoadsNotGoneByModel", name := "either2", desc := "()I" } : Jvm.MethodName)) ∈ lw_all := lw_g (lw_at lw_m7 69 rfl) rfl
theorem q1633 : (Jvm.Cond.privateMethod ({ cls := "RoadsNotGoneByModel", name := "either2", desc := "()I" } : Jvm.MethodName)) ∈ lw_tbl := lw_at lw_m7 70 rfl
theorem q1634 : (Jvm.Cond.instanceMethod ({ cls := "RoadsNotGoneByModel", name := "either2", desc := "()I" } : Jvm.MethodName)) ∈ lw_all := lw_g (lw_at lw_m7 71 rfl) rfl
theorem q1635 : (Jvm.Cond.code ({ cls := "RoadsNotGoneByModel", name := "either2", desc := "()I" } : Jvm.MethodName) prog_16_method_49_code (3 : Nat) (Option.some Jvm.ClassFile.FieldType.int)) ∈ lw_all := lw_g (lw_at lw_m7 72 rfl) rfl
theorem q1636 : (Jvm.Cond.methodLink "RoadsNotGoneByModel" (302 : Nat) ({ cls := "RoadsNotGoneByModel", name := "both2", desc := "()I" } : Jvm.MethodName)) ∈ lw_all := lw_g (lw_at lw_m7 73 rfl) rfl
theorem q1637 : (Jvm.Cond.privateMethod ({ cls := "RoadsNotGoneByModel", name := "both2", desc := "()I" } : Jvm.MethodName)) ∈ lw_tbl := lw_at lw_m7 74 rfl
theorem q1638 : (Jvm.Cond.instanceMethod ({ cls := "RoadsNotGoneByModel", name := "both2", desc := "()I" } : Jvm.MethodName)) ∈ lw_all := lw_g (lw_at lw_m7 75 rfl) rfl
theorem q1639 : (Jvm.Cond.code ({ cls := "RoadsNotGoneByModel", name := "both2", desc := "()I" } : Jvm.MethodName) prog_16_method_48_code (3 : Nat) (Option.some Jvm.ClassFile.FieldType.int)) ∈ lw_all := lw_g (lw_at lw_m7 76 rfl) rfl
theorem q1640 : (Jvm.Cond.methodLink "RoadsNotGoneByModel" (332 : Nat) ({ cls := "RoadsNotGoneByModel", name := "added0", desc := "()I" } : Jvm.MethodName)) ∈ lw_all := lw_g (lw_at lw_m7 77 rfl) rfl
theorem q1641 : (Jvm.Cond.privateMethod ({ cls := "RoadsNotGoneByModel", name := "added0", desc := "()I" } : Jvm.MethodName)) ∈ lw_tbl := lw_at lw_m7 78 rfl
theorem q1642 : (Jvm.Cond.instanceMethod ({ cls := "RoadsNotGoneByModel", name := "added0", desc := "()I" } : Jvm.MethodName)) ∈ lw_all := lw_g (lw_at lw_m7 79 rfl) rfl
theorem q1643 : (Jvm.Cond.code ({ cls := "RoadsNotGoneByModel", name := "added0", desc := "()I" } : Jvm.MethodName) prog_16_method_58_code (4 : Nat) (Option.some Jvm.ClassFile.FieldType.int)) ∈ lw_all := lw_g (lw_at lw_m7 80 rfl) rfl
theorem q1644 : (Jvm.Cond.methodLink "RoadsNotGoneByModel" (329 : Nat) ({ cls := "RoadsNotGoneByModel", name := "term0", desc := "()I" } : Jvm.MethodName)) ∈ lw_all := lw_g (lw_at lw_m7 81 rfl) rfl
theorem q1645 : (Jvm.Cond.privateMethod ({ cls := "RoadsNotGoneByModel", name := "term0", desc := "()I" } : Jvm.MethodName)) ∈ lw_tbl := lw_at lw_m7 82 rfl
theorem q1646 : (Jvm.Cond.instanceMethod ({ cls := "RoadsNotGoneByModel", name := "term0", desc := "()I" } : Jvm.MethodName)) ∈ lw_all := lw_g (lw_at lw_m7 83 rfl) rfl
theorem q1647 : (Jvm.Cond.code ({ cls := "RoadsNotGoneByModel", name := "term0", desc := "()I" } : Jvm.MethodName) prog_16_method_57_code (2 : Nat) (Option.some Jvm.ClassFile.FieldType.int)) ∈ lw_all := lw_g (lw_at lw_m7 84 rfl) rfl
theorem q1648 : (Jvm.Cond.methodLink "RoadsNotGoneByModel" (326 : Nat) ({ cls := "RoadsNotGoneByModel", name := "atom0", desc := "()I" } : Jvm.MethodName)) ∈ lw_all := lw_g (lw_at lw_m7 85 rfl) rfl
theorem q1649 : (Jvm.Cond.privateMethod ({ cls := "RoadsNotGoneByModel", name := "atom0", desc := "()I" } : Jvm.MethodName)) ∈ lw_tbl := lw_at lw_m7 86 rfl
theorem q1650 : (Jvm.Cond.instanceMethod ({ cls := "RoadsNotGoneByModel", name := "atom0", desc := "()I" } : Jvm.MethodName)) ∈ lw_all := lw_g (lw_at lw_m7 87 rfl) rfl
theorem q1651 : (Jvm.Cond.code ({ cls := "RoadsNotGoneByModel", name := "atom0", desc := "()I" } : Jvm.MethodName) prog_16_method_56_code (2 : Nat) (Option.some Jvm.ClassFile.FieldType.int)) ∈ lw_all := lw_g (lw_at lw_m7 88 rfl) rfl
theorem q1652 : (Jvm.Cond.methodLink "RoadsNotGoneByModel" (323 : Nat) ({ cls := "RoadsNotGoneByModel", name := "either1", desc := "()I" } : Jvm.MethodName)) ∈ lw_all := lw_g (lw_at lw_m7 89 rfl) rfl
theorem q1653 : (Jvm.Cond.privateMethod ({ cls := "RoadsNotGoneByModel", name := "either1", desc := "()I" } : Jvm.MethodName)) ∈ lw_tbl := lw_at lw_m7 90 rfl
theorem q1654 : (Jvm.Cond.instanceMethod ({ cls := "RoadsNotGoneByModel", name := "either1", desc := "()I" } : Jvm.MethodName)) ∈ lw_all := lw_g (lw_at lw_m7 91 rfl) rfl
theorem q1655 : (Jvm.Cond.code ({ cls := "RoadsNotGoneByModel", name := "either1", desc := "()I" } : Jvm.MethodName) prog_16_method_55_code (3 : Nat) (Option.some Jvm.ClassFile.FieldType.int)) ∈ lw_all := lw_g (lw_at lw_m7 92 rfl) rfl
theorem q1656 : (Jvm.Cond.methodLink "RoadsNotGoneByModel" (320 : Nat) ({ cls := "RoadsNotGoneByModel", name := "both1", desc := "()I" } : Jvm.MethodName)) ∈ lw_all := lw_g (lw_at lw_m7 93 rfl) rfl
theorem q1657 : (Jvm.Cond.privateMethod ({ cls := "RoadsNotGoneByModel", name := "both1", desc := "()I" } : Jvm.MethodName)) ∈ lw_tbl := lw_at lw_m7 94 rfl
theorem q1658 : (Jvm.Cond.instanceMethod ({ cls := "RoadsNotGoneByModel", name := "both1", desc := "()I" } : Jvm.MethodName)) ∈ lw_all := lw_g (lw_at lw_m7 95 rfl) rfl
theorem q1659 : (Jvm.Cond.code ({ cls := "RoadsNotGoneByModel", name := "both1", desc := "()I" } : Jvm.MethodName) prog_16_method_54_code (3 : Nat) (Option.some Jvm.ClassFile.FieldType.int)) ∈ lw_all := lw_g (lw_at lw_m7 96 rfl) rfl
theorem q1660 : (Jvm.Cond.methodLink "RoadsNotGoneByModel" (354 : Nat) ({ cls := "RoadsNotGoneByModel", name := "within", desc := "(III)I" } : Jvm.MethodName)) ∈ lw_all := lw_g (lw_at lw_m7 97 rfl) rfl
theorem q1661 : (Jvm.Cond.static ({ cls := "RoadsNotGoneByModel", name := "within", desc := "(III)I" } : Jvm.MethodName)) ∈ lw_all := lw_g (lw_at lw_m7 98 rfl) rfl
theorem q1662 : (Jvm.Cond.code ({ cls := "RoadsNotGoneByModel", name := "within", desc := "(III)I" } : Jvm.MethodName) prog_16_method_3_code (3 : Nat) (Option.some Jvm.ClassFile.FieldType.int)) ∈ lw_all := lw_g (lw_at lw_m7 99 rfl) rfl
theorem q1663 : (Jvm.Cond.methodLink "RoadsNotGoneByModel" (139 : Nat) ({ cls := "RoadsNotGoneByModel", name := "putsOf", desc := "(I)I" } : Jvm.MethodName)) ∈ lw_all := lw_g (lw_at lw_m7 100 rfl) rfl
theorem q1664 : (Jvm.Cond.privateMethod ({ cls := "RoadsNotGoneByModel", name := "putsOf", desc := "(I)I" } : Jvm.MethodName)) ∈ lw_tbl := lw_at lw_m7 101 rfl
theorem q1665 : (Jvm.Cond.instanceMethod ({ cls := "RoadsNotGoneByModel", name := "putsOf", desc := "(I)I" } : Jvm.MethodName)) ∈ lw_all := lw_g (lw_at lw_m7 102 rfl) rfl
theorem q1666 : (Jvm.Cond.code ({ cls := "RoadsNotGoneByModel", name := "putsOf", desc := "(I)I" } : Jvm.MethodName) prog_16_method_68_code (6 : Nat) (Option.some Jvm.ClassFile.FieldType.int)) ∈ lw_all := lw_g (lw_at lw_m7 103 rfl) rfl
theorem q1667 : (Jvm.Cond.methodLink "RoadsNotGoneByModel" (142 : Nat) ({ cls := "RoadsNotGoneByModel", name := "whoAt", desc := "(I)I" } : Jvm.MethodName)) ∈ lw_all := lw_g (lw_at lw_m7 104 rfl) rfl
theorem q1668 : (Jvm.Cond.privateMethod ({ cls := "RoadsNotGoneByModel", name := "whoAt", desc := "(I)I" } : Jvm.MethodName)) ∈ lw_tbl := lw_at lw_m7 105 rfl
theorem q1669 : (Jvm.Cond.instanceMethod ({ cls := "RoadsNotGoneByModel", name := "whoAt", desc := "(I)I" } : Jvm.MethodName)) ∈ lw_all := lw_g (lw_at lw_m7 106 rfl) rfl
theorem q1670 : (Jvm.Cond.code ({ cls := "RoadsNotGoneByModel", name := "whoAt", desc := "(I)I" } : Jvm.MethodName) prog_16_method_15_code (4 : Nat) (Option.some Jvm.ClassFile.FieldType.int)) ∈ lw_all := lw_g (lw_at lw_m7 107 rfl) rfl
theorem q1671 : (Jvm.Cond.methodLink "RoadsNotGoneByModel" (120 : Nat) ({ cls := "RoadsNotGoneByModel", name := "lays", desc := "(III)V" } : Jvm.MethodName)) ∈ lw_all := lw_g (lw_at lw_m7 108 rfl) rfl
theorem q1672 : (Jvm.Cond.privateMethod ({ cls := "RoadsNotGoneByModel", name := "lays", desc := "(III)V" } : Jvm.MethodName)) ∈ lw_tbl := lw_at lw_m7 109 rfl
theorem q1673 : (Jvm.Cond.instanceMethod ({ cls := "RoadsNotGoneByModel", name := "lays", desc := "(III)V" } : Jvm.MethodName)) ∈ lw_all := lw_g (lw_at lw_m7 110 rfl) rfl
theorem q1674 : (Jvm.Cond.code ({ cls := "RoadsNotGoneByModel", name := "lays", desc := "(III)V" } : Jvm.MethodName) prog_16_method_12_code (4 : Nat) (Option.none : Option Jvm.ClassFile.FieldType)) ∈ lw_all := lw_g (lw_at lw_m7 111 rfl) rfl
theorem q1676 : (Jvm.Cond.instanceMethod ({ cls := "RoadsNotGoneByModel", name := "life", desc := "(III)I" } : Jvm.MethodName)) ∈ lw_all := lw_g (lw_at lw_m7 113 rfl) rfl
theorem q1677 : (Jvm.Cond.selects "RoadsNotGoneByModel" ({ cls := "RoadsNotGoneByModel", name := "life", desc := "(III)I" } : Jvm.MethodName) ({ cls := "RoadsNotGoneByModel", name := "life", desc := "(III)I" } : Jvm.MethodName)) ∈ lw_all := lw_g (lw_at lw_m7 114 rfl) rfl
theorem q1678 : (Jvm.Cond.code ({ cls := "RoadsNotGoneByModel", name := "life", desc := "(III)I" } : Jvm.MethodName) prog_16_method_13_code (4 : Nat) (Option.some Jvm.ClassFile.FieldType.int)) ∈ lw_all := lw_g (lw_at lw_m7 115 rfl) rfl
theorem q1679 : (Jvm.Cond.constantLong "RoadsNotGoneByModel" (130 : Nat) (5 : Int64)) ∈ lw_all := lw_g (lw_at lw_m7 116 rfl) rfl
theorem q1680 : (Jvm.Cond.constantLong "RoadsNotGoneByModel" (132 : Nat) (9 : Int64)) ∈ lw_all := lw_g (lw_at lw_m7 117 rfl) rfl
theorem q1683 : (Jvm.Cond.instanceMethod ({ cls := "RoadsNotGoneByModel", name := "feed", desc := "(I)I" } : Jvm.MethodName)) ∈ lw_all := lw_g (lw_at lw_m7 120 rfl) rfl
theorem q1684 : (Jvm.Cond.selects "RoadsNotGoneByModel" ({ cls := "RoadsNotGoneByModel", name := "feed", desc := "(I)I" } : Jvm.MethodName) ({ cls := "RoadsNotGoneByModel", name := "feed", desc := "(I)I" } : Jvm.MethodName)) ∈ lw_all := lw_g (lw_at lw_m7 121 rfl) rfl
theorem q1685 : (Jvm.Cond.code ({ cls := "RoadsNotGoneByModel", name := "feed", desc := "(I)I" } : Jvm.MethodName) prog_16_method_17_code (2 : Nat) (Option.some Jvm.ClassFile.FieldType.int)) ∈ lw_all := lw_g (lw_at lw_m7 122 rfl) rfl
theorem q1686 : (Jvm.Cond.constantLong "RoadsNotGoneByModel" (145 : Nat) (255 : Int64)) ∈ lw_all := lw_g (lw_at lw_m7 123 rfl) rfl
theorem q1688 : (Jvm.Cond.instanceMethod ({ cls := "RoadsNotGoneByModel", name := "text", desc := "()I" } : Jvm.MethodName)) ∈ lw_all := lw_g (lw_at lw_m7 125 rfl) rfl
theorem q1689 : (Jvm.Cond.selects "RoadsNotGoneByModel" ({ cls := "RoadsNotGoneByModel", name := "text", desc := "()I" } : Jvm.MethodName) ({ cls := "RoadsNotGoneByModel", name := "text", desc := "()I" } : Jvm.MethodName)) ∈ lw_all := lw_g (lw_at lw_m7 126 rfl) rfl
theorem q1690 : (Jvm.Cond.code ({ cls := "RoadsNotGoneByModel", name := "text", desc := "()I" } : Jvm.MethodName) prog_16_method_64_code (2 : Nat) (Option.some Jvm.ClassFile.FieldType.int)) ∈ lw_all := lw_g (lw_at lw_m7 127 rfl) rfl
theorem q1692 : (Jvm.Cond.instanceMethod ({ cls := "RoadsNotGoneByModel", name := "force", desc := "(I)I" } : Jvm.MethodName)) ∈ lw_all := lw_g (lw_at lw_m7 129 rfl) rfl
theorem q1693 : (Jvm.Cond.selects "RoadsNotGoneByModel" ({ cls := "RoadsNotGoneByModel", name := "force", desc := "(I)I" } : Jvm.MethodName) ({ cls := "RoadsNotGoneByModel", name := "force", desc := "(I)I" } : Jvm.MethodName)) ∈ lw_all := lw_g (lw_at lw_m7 130 rfl) rfl
theorem q1694 : (Jvm.Cond.code ({ cls := "RoadsNotGoneByModel", name := "force", desc := "(I)I" } : Jvm.MethodName) prog_16_method_65_code (3 : Nat) (Option.some Jvm.ClassFile.FieldType.int)) ∈ lw_all := lw_g (lw_at lw_m7 131 rfl) rfl
theorem q1696 : (Jvm.Cond.instanceMethod ({ cls := "RoadsNotGoneByModel", name := "tastes", desc := "(II)I" } : Jvm.MethodName)) ∈ lw_all := lw_g (lw_at lw_m7 133 rfl) rfl
theorem q1697 : (Jvm.Cond.selects "RoadsNotGoneByModel" ({ cls := "RoadsNotGoneByModel", name := "tastes", desc := "(II)I" } : Jvm.MethodName) ({ cls := "RoadsNotGoneByModel", name := "tastes", desc := "(II)I" } : Jvm.MethodName)) ∈ lw_all := lw_g (lw_at lw_m7 134 rfl) rfl
theorem q1698 : (Jvm.Cond.code ({ cls := "RoadsNotGoneByModel", name := "tastes", desc := "(II)I" } : Jvm.MethodName) prog_16_method_70_code (3 : Nat) (Option.some Jvm.ClassFile.FieldType.int)) ∈ lw_all := lw_g (lw_at lw_m7 135 rfl) rfl
theorem q1699 : (Jvm.Cond.methodLink "RoadsNotGoneByModel" (361 : Nat) ({ cls := "RoadsNotGoneByModel", name := "feelsOf", desc := "(II)I" } : Jvm.MethodName)) ∈ lw_all := lw_g (lw_at lw_m7 136 rfl) rfl
theorem q1700 : (Jvm.Cond.privateMethod ({ cls := "RoadsNotGoneByModel", name := "feelsOf", desc := "(II)I" } : Jvm.MethodName)) ∈ lw_tbl := lw_at lw_m7 137 rfl
theorem q1701 : (Jvm.Cond.instanceMethod ({ cls := "RoadsNotGoneByModel", name := "feelsOf", desc := "(II)I" } : Jvm.MethodName)) ∈ lw_all := lw_g (lw_at lw_m7 138 rfl) rfl
theorem q1702 : (Jvm.Cond.code ({ cls := "RoadsNotGoneByModel", name := "feelsOf", desc := "(II)I" } : Jvm.MethodName) prog_16_method_69_code (7 : Nat) (Option.some Jvm.ClassFile.FieldType.int)) ∈ lw_all := lw_g (lw_at lw_m7 139 rfl) rfl
theorem q1704 : (Jvm.Cond.instanceMethod ({ cls := "RoadsNotGoneByModel", name := "year", desc := "()I" } : Jvm.MethodName)) ∈ lw_all := lw_g (lw_at lw_m7 141 rfl) rfl
theorem q1705 : (Jvm.Cond.selects "RoadsNotGoneByModel" ({ cls := "RoadsNotGoneByModel", name := "year", desc := "()I" } : Jvm.MethodName) ({ cls := "RoadsNotGoneByModel", name := "year", desc := "()I" } : Jvm.MethodName)) ∈ lw_all := lw_g (lw_at lw_m7 142 rfl) rfl
theorem q1706 : (Jvm.Cond.code ({ cls := "RoadsNotGoneByModel", name := "year", desc := "()I" } : Jvm.MethodName) prog_16_method_74_code (1 : Nat) (Option.some Jvm.ClassFile.FieldType.int)) ∈ lw_all := lw_g (lw_at lw_m7 143 rfl) rfl
theorem q1707 : (Jvm.Cond.methodLink "RoadsNotGoneByModel" (368 : Nat) ({ cls := "RoadsNotGoneByModel", name := "passes", desc := "()V" } : Jvm.MethodName)) ∈ lw_all := lw_g (lw_at lw_m7 144 rfl) rfl
theorem q1708 : (Jvm.Cond.privateMethod ({ cls := "RoadsNotGoneByModel", name := "passes", desc := "()V" } : Jvm.MethodName)) ∈ lw_tbl := lw_at lw_m7 145 rfl
theorem q1709 : (Jvm.Cond.instanceMethod ({ cls := "RoadsNotGoneByModel", name := "passes", desc := "()V" } : Jvm.MethodName)) ∈ lw_all := lw_g (lw_at lw_m7 146 rfl) rfl
theorem q1710 : (Jvm.Cond.code ({ cls := "RoadsNotGoneByModel", name := "passes", desc := "()V" } : Jvm.MethodName) prog_16_method_73_code (2 : Nat) (Option.none : Option Jvm.ClassFile.FieldType)) ∈ lw_all := lw_g (lw_at lw_m7 147 rfl) rfl
theorem q1711 : (Jvm.Cond.methodLink "RoadsNotGoneByModel" (364 : Nat) ({ cls := "RoadsNotGoneByModel", name := "goes", desc := "(II)V" } : Jvm.MethodName)) ∈ lw_all := lw_g (lw_at lw_m7 148 rfl) rfl
theorem q1712 : (Jvm.Cond.privateMethod ({ cls := "RoadsNotGoneByModel", name := "goes", desc := "(II)V" } : Jvm.MethodName)) ∈ lw_tbl := lw_at lw_m7 149 rfl
theorem q1713 : (Jvm.Cond.instanceMethod ({ cls := "RoadsNotGoneByModel", name := "goes", desc := "(II)V" } : Jvm.MethodName)) ∈ lw_all := lw_g (lw_at lw_m7 150 rfl) rfl
theorem q1714 : (Jvm.Cond.code ({ cls := "RoadsNotGoneByModel", name := "goes", desc := "(II)V" } : Jvm.MethodName) prog_16_method_72_code (7 : Nat) (Option.none : Option Jvm.ClassFile.FieldType)) ∈ lw_all := lw_g (lw_at lw_m7 151 rfl) rfl
theorem q1715 : (Jvm.Cond.methodLink "RoadsNotGoneByModel" (371 : Nat) ({ cls := "RoadsNotGoneByModel", name := "jarsAll", desc := "()I" } : Jvm.MethodName)) ∈ lw_all := lw_g (lw_at lw_m7 152 rfl) rfl
theorem q1716 : (Jvm.Cond.privateMethod ({ cls := "RoadsNotGoneByModel", name := "jarsAll", desc := "()I" } : Jvm.MethodName)) ∈ lw_tbl := lw_at lw_m7 153 rfl
theorem q1717 : (Jvm.Cond.instanceMethod ({ cls := "RoadsNotGoneByModel", name := "jarsAll", desc := "()I" } : Jvm.MethodName)) ∈ lw_all := lw_g (lw_at lw_m7 154 rfl) rfl
theorem q1718 : (Jvm.Cond.code ({ cls := "RoadsNotGoneByModel", name := "jarsAll", desc := "()I" } : Jvm.MethodName) prog_16_method_71_code (3 : Nat) (Option.some Jvm.ClassFile.FieldType.int)) ∈ lw_all := lw_g (lw_at lw_m7 155 rfl) rfl
theorem q1720 : (Jvm.Cond.instanceMethod ({ cls := "RoadsNotGoneByModel", name := "spoon", desc := "(II)I" } : Jvm.MethodName)) ∈ lw_all := lw_g (lw_at lw_m7 157 rfl) rfl
theorem q1721 : (Jvm.Cond.selects "RoadsNotGoneByModel" ({ cls := "RoadsNotGoneByModel", name := "spoon", desc := "(II)I" } : Jvm.MethodName) ({ cls := "RoadsNotGoneByModel", name := "spoon", desc := "(II)I" } : Jvm.MethodName)) ∈ lw_all := lw_g (lw_at lw_m7 158 rfl) rfl
theorem q1722 : (Jvm.Cond.code ({ cls := "RoadsNotGoneByModel", name := "spoon", desc := "(II)I" } : Jvm.MethodName) prog_16_method_75_code (3 : Nat) (Option.some Jvm.ClassFile.FieldType.int)) ∈ lw_all := lw_g (lw_at lw_m7 159 rfl) rfl
theorem q1724 : (Jvm.Cond.instanceMethod ({ cls := "RoadsNotGoneByModel", name := "run", desc := "(III)I" } : Jvm.MethodName)) ∈ lw_all := lw_g (lw_at lw_m7 161 rfl) rfl
theorem q1725 : (Jvm.Cond.selects "RoadsNotGoneByModel" ({ cls := "RoadsNotGoneByModel", name := "run", desc := "(III)I" } : Jvm.MethodName) ({ cls := "RoadsNotGoneByModel", name := "run", desc := "(III)I" } : Jvm.MethodName)) ∈ lw_all := lw_g (lw_at lw_m7 162 rfl) rfl
theorem q1726 : (Jvm.Cond.code ({ cls := "RoadsNotGoneByModel", name := "run", desc := "(III)I" } : Jvm.MethodName) prog_16_method_78_code (6 : Nat) (Option.some Jvm.ClassFile.FieldType.int)) ∈ lw_all := lw_g (lw_at lw_m7 163 rfl) rfl
theorem q1727 : (Jvm.Cond.constantLong "RoadsNotGoneByModel" (374 : Nat) (2 : Int64)) ∈ lw_all := lw_g (lw_at lw_m7 164 rfl) rfl
theorem q1728 : (Jvm.Cond.constantLong "RoadsNotGoneByModel" (376 : Nat) (33 : Int64)) ∈ lw_all := lw_g (lw_at lw_m7 165 rfl) rfl
theorem q1729 : (Jvm.Cond.methodLink "RoadsNotGoneByModel" (378 : Nat) ({ cls := "RoadsNotGoneByModel", name := "laysAside", desc := "()V" } : Jvm.MethodName)) ∈ lw_all := lw_g (lw_at lw_m7 166 rfl) rfl
theorem q1730 : (Jvm.Cond.privateMethod ({ cls := "RoadsNotGoneByModel", name := "laysAside", desc := "()V" } : Jvm.MethodName)) ∈ lw_tbl := lw_at lw_m7 167 rfl
theorem q1731 : (Jvm.Cond.instanceMethod ({ cls := "RoadsNotGoneByModel", name := "laysAside", desc := "()V" } : Jvm.MethodName)) ∈ lw_all := lw_g (lw_at lw_m7 168 rfl) rfl
theorem q1732 : (Jvm.Cond.code ({ cls := "RoadsNotGoneByModel", name := "laysAside", desc := "()V" } : Jvm.MethodName) prog_16_method_76_code (2 : Nat) (Option.none : Option Jvm.ClassFile.FieldType)) ∈ lw_all := lw_g (lw_at lw_m7 169 rfl) rfl
theorem q1733 : (Jvm.Cond.methodLink "RoadsNotGoneByModel" (381 : Nat) ({ cls := "RoadsNotGoneByModel", name := "laysBack", desc := "()V" } : Jvm.MethodName)) ∈ lw_all := lw_g (lw_at lw_m7 170 rfl) rfl
theorem q1734 : (Jvm.Cond.privateMethod ({ cls := "RoadsNotGoneByModel", name := "laysBack", desc := "()V" } : Jvm.MethodName)) ∈ lw_tbl := lw_at lw_m7 171 rfl
theorem q1735 : (Jvm.Cond.instanceMethod ({ cls := "RoadsNotGoneByModel", name := "laysBack", desc := "()V" } : Jvm.MethodName)) ∈ lw_all := lw_g (lw_at lw_m7 172 rfl) rfl
theorem q1736 : (Jvm.Cond.code ({ cls := "RoadsNotGoneByModel", name := "laysBack", desc := "()V" } : Jvm.MethodName) prog_16_method_77_code (2 : Nat) (Option.none : Option Jvm.ClassFile.FieldType)) ∈ lw_all := lw_g (lw_at lw_m7 173 rfl) rfl
theorem q1738 : (Jvm.Cond.instanceMethod ({ cls := "RoadsNotGoneByModel", name := "otherwise", desc := "(III)I" } : Jvm.MethodName)) ∈ lw_all := lw_g (lw_at lw_m7 175 rfl) rfl
theorem q1739 : (Jvm.Cond.selects "RoadsNotGoneByModel" ({ cls := "RoadsNotGoneByModel", name := "otherwise", desc := "(III)I" } : Jvm.MethodName) ({ cls := "RoadsNotGoneByModel", name := "otherwise", desc := "(III)I" } : Jvm.MethodName)) ∈ lw_all := lw_g (lw_at lw_m7 176 rfl) rfl
theorem q1740 : (Jvm.Cond.code ({ cls := "RoadsNotGoneByModel", name := "otherwise", desc := "(III)I" } : Jvm.MethodName) prog_16_method_79_code (6 : Nat) (Option.some Jvm.ClassFile.FieldType.int)) ∈ lw_all := lw_g (lw_at lw_m7 177 rfl) rfl
theorem q1741 : (Jvm.Cond.constantLong "RoadsNotGoneByModel" (384 : Nat) (40 : Int64)) ∈ lw_all := lw_g (lw_at lw_m7 178 rfl) rfl
theorem q1743 : (Jvm.Cond.instanceMethod ({ cls := "RoadsNotGoneByModel", name := "turns", desc := "(III)J" } : Jvm.MethodName)) ∈ lw_all := lw_g (lw_at lw_m7 180 rfl) rfl
theorem q1744 : (Jvm.Cond.selects "RoadsNotGoneByModel" ({ cls := "RoadsNotGoneByModel", name := "turns", desc := "(III)J" } : Jvm.MethodName) ({ cls := "RoadsNotGoneByModel", name := "turns", desc := "(III)J" } : Jvm.MethodName)) ∈ lw_all := lw_g (lw_at lw_m7 181 rfl) rfl
theorem q1745 : (Jvm.Cond.code ({ cls := "RoadsNotGoneByModel", name := "turns", desc := "(III)J" } : Jvm.MethodName) prog_16_method_81_code (4 : Nat) (Option.some Jvm.ClassFile.FieldType.long)) ∈ lw_all := lw_g (lw_at lw_m7 182 rfl) rfl
theorem q1746 : (Jvm.Cond.constantLong "RoadsNotGoneByModel" (386 : Nat) (30 : Int64)) ∈ lw_all := lw_g (lw_at lw_m7 183 rfl) rfl
theorem q1747 : (Jvm.Cond.methodLink "RoadsNotGoneByModel" (388 : Nat) ({ cls := "RoadsNotGoneByModel", name := "waysTo", desc := "(III)J" } : Jvm.MethodName)) ∈ lw_all := lw_g (lw_at lw_m7 184 rfl) rfl
theorem q1748 : (Jvm.Cond.privateMethod ({ cls := "RoadsNotGoneByModel", name := "waysTo", desc := "(III)J" } : Jvm.MethodName)) ∈ lw_tbl := lw_at lw_m7 185 rfl
theorem q1749 : (Jvm.Cond.instanceMethod ({ cls := "RoadsNotGoneByModel", name := "waysTo", desc := "(III)J" } : Jvm.MethodName)) ∈ lw_all := lw_g (lw_at lw_m7 186 rfl) rfl
theorem q1750 : (Jvm.Cond.code ({ cls := "RoadsNotGoneByModel", name := "waysTo", desc := "(III)J" } : Jvm.MethodName) prog_16_method_80_code (6 : Nat) (Option.some Jvm.ClassFile.FieldType.long)) ∈ lw_all := lw_g (lw_at lw_m7 187 rfl) rfl
theorem q1751 : (Jvm.Cond.constantLong "RoadsNotGoneByModel" (392 : Nat) (-4611686018427387904 : Int64)) ∈ lw_all := lw_g (lw_at lw_m7 188 rfl) rfl
theorem q1753 : (Jvm.Cond.instanceMethod ({ cls := "RoadsNotGoneByModel", name := "likely", desc := "(IIII)J" } : Jvm.MethodName)) ∈ lw_all := lw_g (lw_at lw_m7 190 rfl) rfl
theorem q1754 : (Jvm.Cond.selects "RoadsNotGoneByModel" ({ cls := "RoadsNotGoneByModel", name := "likely", desc := "(IIII)J" } : Jvm.MethodName) ({ cls := "RoadsNotGoneByModel", name := "likely", desc := "(IIII)J" } : Jvm.MethodName)) ∈ lw_all := lw_g (lw_at lw_m7 191 rfl) rfl
theorem q1755 : (Jvm.Cond.code ({ cls := "RoadsNotGoneByModel", name := "likely", desc := "(IIII)J" } : Jvm.MethodName) prog_16_method_83_code (5 : Nat) (Option.some Jvm.ClassFile.FieldType.long)) ∈ lw_all := lw_g (lw_at lw_m7 192 rfl) rfl
theorem q1756 : (Jvm.Cond.methodLink "RoadsNotGoneByModel" (394 : Nat) ({ cls := "RoadsNotGoneByModel", name := "lowest", desc := "(JJI)J" } : Jvm.MethodName)) ∈ lw_all := lw_g (lw_at lw_m7 193 rfl) rfl
theorem q1757 : (Jvm.Cond.static ({ cls := "RoadsNotGoneByModel", name := "lowest", desc := "(JJI)J" } : Jvm.MethodName)) ∈ lw_all := lw_g (lw_at lw_m7 194 rfl) rfl
theorem q1758 : (Jvm.Cond.code ({ cls := "RoadsNotGoneByModel", name := "lowest", desc := "(JJI)J" } : Jvm.MethodName) prog_16_method_82_code (11 : Nat) (Option.some Jvm.ClassFile.FieldType.long)) ∈ lw_all := lw_g (lw_at lw_m7 195 rfl) rfl
theorem q1760 : (Jvm.Cond.instanceMethod ({ cls := "RoadsNotGoneByModel", name := "fewest", desc := "(III)I" } : Jvm.MethodName)) ∈ lw_all := lw_g (lw_at lw_m7 197 rfl) rfl
theorem q1761 : (Jvm.Cond.selects "RoadsNotGoneByModel" ({ cls := "RoadsNotGoneByModel", name := "fewest", desc := "(III)I" } : Jvm.MethodName) ({ cls := "RoadsNotGoneByModel", name := "fewest", desc := "(III)I" } : Jvm.MethodName)) ∈ lw_all := lw_g (lw_at lw_m7 198 rfl) rfl
theorem q1762 : (Jvm.Cond.code ({ cls := "RoadsNotGoneByModel", name := "fewest", desc := "(III)I" } : Jvm.MethodName) prog_16_method_84_code (7 : Nat) (Option.some Jvm.ClassFile.FieldType.int)) ∈ lw_all := lw_g (lw_at lw_m7 199 rfl) rfl
theorem q1764 : (Jvm.Cond.instanceMethod ({ cls := "RoadsNotGoneByModel", name := "meet", desc := "(II)I" } : Jvm.MethodName)) ∈ lw_all := lw_g (lw_at lw_m7 201 rfl) rfl
theorem q1765 : (Jvm.Cond.selects "RoadsNotGoneByModel" ({ cls := "RoadsNotGoneByModel", name := "meet", desc := "(II)I" } : Jvm.MethodName) ({ cls := "RoadsNotGoneByModel", name := "meet", desc := "(II)I" } : Jvm.MethodName)) ∈ lw_all := lw_g (lw_at lw_m7 202 rfl) rfl
theorem q1766 : (Jvm.Cond.code ({ cls := "RoadsNotGoneByModel", name := "meet", desc := "(II)I" } : Jvm.MethodName) prog_16_method_85_code (4 : Nat) (Option.some Jvm.ClassFile.FieldType.int)) ∈ lw_all := lw_g (lw_at lw_m7 203 rfl) rfl
theorem q1768 : (Jvm.Cond.instanceMethod ({ cls := "RoadsNotGoneByModel", name := "shut", desc := "(II)I" } : Jvm.MethodName)) ∈ lw_all := lw_g (lw_at lw_m7 205 rfl) rfl
theorem q1769 : (Jvm.Cond.selects "RoadsNotGoneByModel" ({ cls := "RoadsNotGoneByModel", name := "shut", desc := "(II)I" } : Jvm.MethodName) ({ cls := "RoadsNotGoneByModel", name := "shut", desc := "(II)I" } : Jvm.MethodName)) ∈ lw_all := lw_g (lw_at lw_m7 206 rfl) rfl
theorem q1770 : (Jvm.Cond.code ({ cls := "RoadsNotGoneByModel", name := "shut", desc := "(II)I" } : Jvm.MethodName) prog_16_method_87_code (7 : Nat) (Option.some Jvm.ClassFile.FieldType.int)) ∈ lw_all := lw_g (lw_at lw_m7 207 rfl) rfl
theorem q1771 : (Jvm.Cond.methodLink "RoadsNotGoneByModel" (398 : Nat) ({ cls := "RoadsNotGoneByModel", name := "jarsBehind", desc := "(I)I" } : Jvm.MethodName)) ∈ lw_all := lw_g (lw_at lw_m7 208 rfl) rfl
theorem q1772 : (Jvm.Cond.privateMethod ({ cls := "RoadsNotGoneByModel", name := "jarsBehind", desc := "(I)I" } : Jvm.MethodName)) ∈ lw_tbl := lw_at lw_m7 209 rfl
theorem q1773 : (Jvm.Cond.instanceMethod ({ cls := "RoadsNotGoneByModel", name := "jarsBehind", desc := "(I)I" } : Jvm.MethodName)) ∈ lw_all := lw_g (lw_at lw_m7 210 rfl) rfl
theorem q1774 : (Jvm.Cond.code ({ cls := "RoadsNotGoneByModel", name := "jarsBehind", desc := "(I)I" } : Jvm.MethodName) prog_16_method_86_code (3 : Nat) (Option.some Jvm.ClassFile.FieldType.int)) ∈ lw_all := lw_g (lw_at lw_m7 211 rfl) rfl
theorem q1776 : (Jvm.Cond.instanceMethod ({ cls := "RoadsNotGoneByModel", name := "best", desc := "(II)I" } : Jvm.MethodName)) ∈ lw_all := lw_g (lw_at lw_m7 213 rfl) rfl
theorem q1777 : (Jvm.Cond.selects "RoadsNotGoneByModel" ({ cls := "RoadsNotGoneByModel", name := "best", desc := "(II)I" } : Jvm.MethodName) ({ cls := "RoadsNotGoneByModel", name := "best", desc := "(II)I" } : Jvm.MethodName)) ∈ lw_all := lw_g (lw_at lw_m7 214 rfl) rfl
theorem q1778 : (Jvm.Cond.code ({ cls := "RoadsNotGoneByModel", name := "best", desc := "(II)I" } : Jvm.MethodName) prog_16_method_90_code (3 : Nat) (Option.some Jvm.ClassFile.FieldType.int)) ∈ lw_all := lw_g (lw_at lw_m7 215 rfl) rfl
theorem q1779 : (Jvm.Cond.methodLink "RoadsNotGoneByModel" (401 : Nat) ({ cls := "RoadsNotGoneByModel", name := "shelf", desc := "()I" } : Jvm.MethodName)) ∈ lw_all := lw_g (lw_at lw_m7 216 rfl) rfl
theorem q1780 : (Jvm.Cond.privateMethod ({ cls := "RoadsNotGoneByModel", name := "shelf", desc := "()I" } : Jvm.MethodName)) ∈ lw_tbl := lw_at lw_m7 217 rfl
theorem q1781 : (Jvm.Cond.instanceMethod ({ cls := "RoadsNotGoneByModel", name := "shelf", desc := "()I" } : Jvm.MethodName)) ∈ lw_all := lw_g (lw_at lw_m7 218 rfl) rfl
theorem q1782 : (Jvm.Cond.code ({ cls := "RoadsNotGoneByModel", name := "shelf", desc := "()I" } : Jvm.MethodName) prog_16_method_89_code (4 : Nat) (Option.some Jvm.ClassFile.FieldType.int)) ∈ lw_all := lw_g (lw_at lw_m7 219 rfl) rfl
theorem q1783 : (Jvm.Cond.methodLink "RoadsNotGoneByModel" (404 : Nat) ({ cls := "RoadsNotGoneByModel", name := "spoonFor", desc := "(II)I" } : Jvm.MethodName)) ∈ lw_all := lw_g (lw_at lw_m7 220 rfl) rfl
theorem q1784 : (Jvm.Cond.privateMethod ({ cls := "RoadsNotGoneByModel", name := "spoonFor", desc := "(II)I" } : Jvm.MethodName)) ∈ lw_tbl := lw_at lw_m7 221 rfl
theorem q1785 : (Jvm.Cond.instanceMethod ({ cls := "RoadsNotGoneByModel", name := "spoonFor", desc := "(II)I" } : Jvm.MethodName)) ∈ lw_all := lw_g (lw_at lw_m7 222 rfl) rfl
theorem q1786 : (Jvm.Cond.code ({ cls := "RoadsNotGoneByModel", name := "spoonFor", desc := "(II)I" } : Jvm.MethodName) prog_16_method_88_code (7 : Nat) (Option.some Jvm.ClassFile.FieldType.int)) ∈ lw_all := lw_g (lw_at lw_m7 223 rfl) rfl
theorem q1788 : (Jvm.Cond.instanceMethod ({ cls := "RoadsNotGoneByModel", name := "tells", desc := "(III)I" } : Jvm.MethodName)) ∈ lw_all := lw_g (lw_at lw_m7 225 rfl) rfl
theorem q1789 : (Jvm.Cond.selects "RoadsNotGoneByModel" ({ cls := "RoadsNotGoneByModel", name := "tells", desc := "(III)I" } : Jvm.MethodName) ({ cls := "RoadsNotGoneByModel", name := "tells", desc := "(III)I" } : Jvm.MethodName)) ∈ lw_all := lw_g (lw_at lw_m7 226 rfl) rfl
theorem q1790 : (Jvm.Cond.code ({ cls := "RoadsNotGoneByModel", name := "tells", desc := "(III)I" } : Jvm.MethodName) prog_16_method_93_code (11 : Nat) (Option.some Jvm.ClassFile.FieldType.int)) ∈ lw_all := lw_g (lw_at lw_m7 227 rfl) rfl
theorem q1791 : (Jvm.Cond.methodLink "RoadsNotGoneByModel" (410 : Nat) ({ cls := "RoadsNotGoneByModel", name := "isSheet", desc := "(I)Z" } : Jvm.MethodName)) ∈ lw_all := lw_g (lw_at lw_m7 228 rfl) rfl
theorem q1792 : (Jvm.Cond.static ({ cls := "RoadsNotGoneByModel", name := "isSheet", desc := "(I)Z" } : Jvm.MethodName)) ∈ lw_all := lw_g (lw_at lw_m7 229 rfl) rfl
theorem q1793 : (Jvm.Cond.code ({ cls := "RoadsNotGoneByModel", name := "isSheet", desc := "(I)Z" } : Jvm.MethodName) prog_16_method_101_code (1 : Nat) (Option.some Jvm.ClassFile.FieldType.boolean)) ∈ lw_all := lw_g (lw_at lw_m7 230 rfl) rfl
theorem q1794 : (Jvm.Cond.constantLong "RoadsNotGoneByModel" (431 : Nat) (3 : Int64)) ∈ lw_all := lw_g (lw_at lw_m7 231 rfl) rfl
theorem q1795 : (Jvm.Cond.constantLong "RoadsNotGoneByModel" (413 : Nat) (7 : Int64)) ∈ lw_all := lw_g (lw_at lw_m7 232 rfl) rfl
theorem q1796 : (Jvm.Cond.methodLink "RoadsNotGoneByModel" (407 : Nat) ({ cls := "RoadsNotGoneByModel", name := "firstOther", desc := "(II)I" } : Jvm.MethodName)) ∈ lw_all := lw_g (lw_at lw_m7 233 rfl) rfl
theorem q1797 : (Jvm.Cond.privateMethod ({ cls := "RoadsNotGoneByModel", name := "firstOther", desc := "(II)I" } : Jvm.MethodName)) ∈ lw_tbl := lw_at lw_m7 234 rfl
theorem q1798 : (Jvm.Cond.instanceMethod ({ cls := "RoadsNotGoneByModel", name := "firstOther", desc := "(II)I" } : Jvm.MethodName)) ∈ lw_all := lw_g (lw_at lw_m7 235 rfl) rfl
theorem q1799 : (Jvm.Cond.code ({ cls := "RoadsNotGoneByModel", name := "firstOther", desc := "(II)I" } : Jvm.MethodName) prog_16_method_91_code (5 : Nat) (Option.some Jvm.ClassFile.FieldType.int)) ∈ lw_all := lw_g (lw_at lw_m7 236 rfl) rfl
theorem q1800 : (Jvm.Cond.methodLink "RoadsNotGoneByModel" (415 : Nat) ({ cls := "RoadsNotGoneByModel", name := "likeSet", desc := "(I)I" } : Jvm.MethodName)) ∈ lw_all := lw_g (lw_at lw_m7 237 rfl) rfl
theorem q1801 : (Jvm.Cond.privateMethod ({ cls := "RoadsNotGoneByModel", name := "likeSet", desc := "(I)I" } : Jvm.MethodName)) ∈ lw_tbl := lw_at lw_m7 238 rfl
theorem q1802 : (Jvm.Cond.instanceMethod ({ cls := "RoadsNotGoneByModel", name := "likeSet", desc := "(I)I" } : Jvm.MethodName)) ∈ lw_all := lw_g (lw_at lw_m7 239 rfl) rfl
theorem q1803 : (Jvm.Cond.code ({ cls := "RoadsNotGoneByModel", name := "likeSet", desc := "(I)I" } : Jvm.MethodName) prog_16_method_92_code (4 : Nat) (Option.some Jvm.ClassFile.FieldType.int)) ∈ lw_all := lw_g (lw_at lw_m8 0 rfl) rfl
theorem q1805 : (Jvm.Cond.instanceMethod ({ cls := "RoadsNotGoneByModel", name := "film", desc := "(III)I" } : Jvm.MethodName)) ∈ lw_all := lw_g (lw_at lw_m8 2 rfl) rfl
theorem q1806 : (Jvm.Cond.selects "RoadsNotGoneByModel" ({ cls := "RoadsNotGoneByModel", name := "film", desc := "(III)I" } : Jvm.MethodName) ({ cls := "RoadsNotGoneByModel", name := "film", desc := "(III)I" } : Jvm.MethodName)) ∈ lw_all := lw_g (lw_at lw_m8 3 rfl) rfl
theorem q1807 : (Jvm.Cond.code ({ cls := "RoadsNotGoneByModel", name := "film", desc := "(III)I" } : Jvm.MethodName) prog_16_method_94_code (5 : Nat) (Option.some Jvm.ClassFile.FieldType.int)) ∈ lw_all := lw_g (lw_at lw_m8 4 rfl) rfl
theorem q1808 : (Jvm.Cond.methodLink "RoadsNotGoneByModel" (418 : Nat) ({ cls := "RoadsNotGoneByModel", name := "sheet", desc := "(III)I" } : Jvm.MethodName)) ∈ lw_all := lw_g (lw_at lw_m8 5 rfl) rfl
theorem q1809 : (Jvm.Cond.instanceMethod ({ cls := "RoadsNotGoneByModel", name := "sheet", desc := "(III)I" } : Jvm.MethodName)) ∈ lw_all := lw_g (lw_at lw_m8 6 rfl) rfl
theorem q1810 : (Jvm.Cond.selects "RoadsNotGoneByModel" ({ cls := "RoadsNotGoneByModel", name := "sheet", desc := "(III)I" } : Jvm.MethodName) ({ cls := "RoadsNotGoneByModel", name := "sheet", desc := "(III)I" } : Jvm.MethodName)) ∈ lw_all := lw_g (lw_at lw_m8 7 rfl) rfl
theorem q1811 : (Jvm.Cond.code ({ cls := "RoadsNotGoneByModel", name := "sheet", desc := "(III)I" } : Jvm.MethodName) prog_16_method_102_code (5 : Nat) (Option.some Jvm.ClassFile.FieldType.int)) ∈ lw_all := lw_g (lw_at lw_m8 8 rfl) rfl
theorem q1812 : (Jvm.Cond.constantLong "RoadsNotGoneByModel" (433 : Nat) (-1 : Int64)) ∈ lw_all := lw_g (lw_at lw_m8 9 rfl) rfl
theorem q1814 : (Jvm.Cond.instanceMethod ({ cls := "RoadsNotGoneByModel", name := "drawn", desc := "(III)I" } : Jvm.MethodName)) ∈ lw_all := lw_g (lw_at lw_m8 11 rfl) rfl
theorem q1815 : (Jvm.Cond.selects "RoadsNotGoneByModel" ({ cls := "RoadsNotGoneByModel", name := "drawn", desc := "(III)I" } : Jvm.MethodName) ({ cls := "RoadsNotGoneByModel", name := "drawn", desc := "(III)I" } : Jvm.MethodName)) ∈ lw_all := lw_g (lw_at lw_m8 12 rfl) rfl
theorem q1816 : (Jvm.Cond.code ({ cls := "RoadsNotGoneByModel", name := "drawn", desc := "(III)I" } : Jvm.MethodName) prog_16_method_96_code (4 : Nat) (Option.some Jvm.ClassFile.FieldType.int)) ∈ lw_all := lw_g (lw_at lw_m8 13 rfl) rfl
theorem q1817 : (Jvm.Cond.methodLink "RoadsNotGoneByModel" (422 : Nat) ({ cls := "RoadsNotGoneByModel", name := "atDrawn", desc := "(III)I" } : Jvm.MethodName)) ∈ lw_all := lw_g (lw_at lw_m8 14 rfl) rfl
theorem q1818 : (Jvm.Cond.privateMethod ({ cls := "RoadsNotGoneByModel", name := "atDrawn", desc := "(III)I" } : Jvm.MethodName)) ∈ lw_tbl := lw_at lw_m8 15 rfl
theorem q1819 : (Jvm.Cond.instanceMethod ({ cls := "RoadsNotGoneByModel", name := "atDrawn", desc := "(III)I" } : Jvm.MethodName)) ∈ lw_all := lw_g (lw_at lw_m8 16 rfl) rfl
theorem q1820 : (Jvm.Cond.code ({ cls := "RoadsNotGoneByModel", name := "atDrawn", desc := "(III)I" } : Jvm.MethodName) prog_16_method_95_code (7 : Nat) (Option.some Jvm.ClassFile.FieldType.int)) ∈ lw_all := lw_g (lw_at lw_m8 17 rfl) rfl
theorem q1821 : (Jvm.Cond.constant "RoadsNotGoneByModel" (421 : Nat) (1103515245 : Int32)) ∈ lw_all := lw_g (lw_at lw_m8 18 rfl) rfl
theorem q1823 : (Jvm.Cond.instanceMethod ({ cls := "RoadsNotGoneByModel", name := "chance", desc := "(IIIII)J" } : Jvm.MethodName)) ∈ lw_all := lw_g (lw_at lw_m8 20 rfl) rfl
theorem q1824 : (Jvm.Cond.selects "RoadsNotGoneByModel" ({ cls := "RoadsNotGoneByModel", name := "chance", desc := "(IIIII)J" } : Jvm.MethodName) ({ cls := "RoadsNotGoneByModel", name := "chance", desc := "(IIIII)J" } : Jvm.MethodName)) ∈ lw_all := lw_g (lw_at lw_m8 21 rfl) rfl
theorem q1825 : (Jvm.Cond.code ({ cls := "RoadsNotGoneByModel", name := "chance", desc := "(IIIII)J" } : Jvm.MethodName) prog_16_method_97_code (9 : Nat) (Option.some Jvm.ClassFile.FieldType.long)) ∈ lw_all := lw_g (lw_at lw_m8 22 rfl) rfl
theorem q1827 : (Jvm.Cond.instanceMethod ({ cls := "RoadsNotGoneByModel", name := "image", desc := "()I" } : Jvm.MethodName)) ∈ lw_all := lw_g (lw_at lw_m8 24 rfl) rfl
theorem q1828 : (Jvm.Cond.selects "RoadsNotGoneByModel" ({ cls := "RoadsNotGoneByModel", name := "image", desc := "()I" } : Jvm.MethodName) ({ cls := "RoadsNotGoneByModel", name := "image", desc := "()I" } : Jvm.MethodName)) ∈ lw_all := lw_g (lw_at lw_m8 25 rfl) rfl
theorem q1829 : (Jvm.Cond.code ({ cls := "RoadsNotGoneByModel", name := "image", desc := "()I" } : Jvm.MethodName) prog_16_method_98_code (2 : Nat) (Option.some Jvm.ClassFile.FieldType.int)) ∈ lw_all := lw_g (lw_at lw_m8 26 rfl) rfl
theorem q1831 : (Jvm.Cond.instanceMethod ({ cls := "RoadsNotGoneByModel", name := "back", desc := "()I" } : Jvm.MethodName)) ∈ lw_all := lw_g (lw_at lw_m8 28 rfl) rfl
theorem q1832 : (Jvm.Cond.selects "RoadsNotGoneByModel" ({ cls := "RoadsNotGoneByModel", name := "back", desc := "()I" } : Jvm.MethodName) ({ cls := "RoadsNotGoneByModel", name := "back", desc := "()I" } : Jvm.MethodName)) ∈ lw_all := lw_g (lw_at lw_m8 29 rfl) rfl
theorem q1833 : (Jvm.Cond.code ({ cls := "RoadsNotGoneByModel", name := "back", desc := "()I" } : Jvm.MethodName) prog_16_method_99_code (2 : Nat) (Option.some Jvm.ClassFile.FieldType.int)) ∈ lw_all := lw_g (lw_at lw_m8 30 rfl) rfl
theorem q1835 : (Jvm.Cond.instanceMethod ({ cls := "RoadsNotGoneByModel", name := "count", desc := "(I)I" } : Jvm.MethodName)) ∈ lw_all := lw_g (lw_at lw_m8 32 rfl) rfl
theorem q1836 : (Jvm.Cond.selects "RoadsNotGoneByModel" ({ cls := "RoadsNotGoneByModel", name := "count", desc := "(I)I" } : Jvm.MethodName) ({ cls := "RoadsNotGoneByModel", name := "count", desc := "(I)I" } : Jvm.MethodName)) ∈ lw_all := lw_g (lw_at lw_m8 33 rfl) rfl
theorem q1837 : (Jvm.Cond.code ({ cls := "RoadsNotGoneByModel", name := "count", desc := "(I)I" } : Jvm.MethodName) prog_16_method_100_code (2 : Nat) (Option.some Jvm.ClassFile.FieldType.int)) ∈ lw_all := lw_g (lw_at lw_m8 34 rfl) rfl
theorem q1840 : (Jvm.Cond.instanceMethod ({ cls := "RoadsNotGoneByModel", name := "cell", desc := "(III)I" } : Jvm.MethodName)) ∈ lw_all := lw_g (lw_at lw_m8 37 rfl) rfl
theorem q1841 : (Jvm.Cond.selects "RoadsNotGoneByModel" ({ cls := "RoadsNotGoneByModel", name := "cell", desc := "(III)I" } : Jvm.MethodName) ({ cls := "RoadsNotGoneByModel", name := "cell", desc := "(III)I" } : Jvm.MethodName)) ∈ lw_all := lw_g (lw_at lw_m8 38 rfl) rfl
theorem q1842 : (Jvm.Cond.code ({ cls := "RoadsNotGoneByModel", name := "cell", desc := "(III)I" } : Jvm.MethodName) prog_16_method_103_code (4 : Nat) (Option.some Jvm.ClassFile.FieldType.int)) ∈ lw_all := lw_g (lw_at lw_m8 39 rfl) rfl
theorem q1844 : (Jvm.Cond.instanceMethod ({ cls := "RoadsNotGoneByModel", name := "copy", desc := "(IIIII)I" } : Jvm.MethodName)) ∈ lw_all := lw_g (lw_at lw_m8 41 rfl) rfl
theorem q1845 : (Jvm.Cond.selects "RoadsNotGoneByModel" ({ cls := "RoadsNotGoneByModel", name := "copy", desc := "(IIIII)I" } : Jvm.MethodName) ({ cls := "RoadsNotGoneByModel", name := "copy", desc := "(IIIII)I" } : Jvm.MethodName)) ∈ lw_all := lw_g (lw_at lw_m8 42 rfl) rfl
theorem q1846 : (Jvm.Cond.code ({ cls := "RoadsNotGoneByModel", name := "copy", desc := "(IIIII)I" } : Jvm.MethodName) prog_16_method_104_code (9 : Nat) (Option.some Jvm.ClassFile.FieldType.int)) ∈ lw_all := lw_g (lw_at lw_m8 43 rfl) rfl
theorem q1848 : (Jvm.Cond.instanceMethod ({ cls := "RoadsNotGoneByModel", name := "lives", desc := "(IIII)I" } : Jvm.MethodName)) ∈ lw_all := lw_g (lw_at lw_m8 45 rfl) rfl
theorem q1849 : (Jvm.Cond.selects "RoadsNotGoneByModel" ({ cls := "RoadsNotGoneByModel", name := "lives", desc := "(IIII)I" } : Jvm.MethodName) ({ cls := "RoadsNotGoneByModel", name := "lives", desc := "(IIII)I" } : Jvm.MethodName)) ∈ lw_all := lw_g (lw_at lw_m8 46 rfl) rfl
theorem q1850 : (Jvm.Cond.code ({ cls := "RoadsNotGoneByModel", name := "lives", desc := "(IIII)I" } : Jvm.MethodName) prog_16_method_105_code (8 : Nat) (Option.some Jvm.ClassFile.FieldType.int)) ∈ lw_all := lw_g (lw_at lw_m8 47 rfl) rfl
theorem q1851 : (Jvm.Cond.methodLink "RoadsNotGoneByModel" (435 : Nat) ({ cls := "RoadsNotGoneByModel", name := "life", desc := "(III)I" } : Jvm.MethodName)) ∈ lw_all := lw_g (lw_at lw_m8 48 rfl) rfl
theorem q1853 : (Jvm.Cond.instanceMethod ({ cls := "RoadsNotGoneByModel", name := "taken", desc := "(II)I" } : Jvm.MethodName)) ∈ lw_all := lw_g (lw_at lw_m8 50 rfl) rfl
theorem q1854 : (Jvm.Cond.selects "RoadsNotGoneByModel" ({ cls := "RoadsNotGoneByModel", name := "taken", desc := "(II)I" } : Jvm.MethodName) ({ cls := "RoadsNotGoneByModel", name := "taken", desc := "(II)I" } : Jvm.MethodName)) ∈ lw_all := lw_g (lw_at lw_m8 51 rfl) rfl
theorem q1855 : (Jvm.Cond.code ({ cls := "RoadsNotGoneByModel", name := "taken", desc := "(II)I" } : Jvm.MethodName) prog_16_method_107_code (4 : Nat) (Option.some Jvm.ClassFile.FieldType.int)) ∈ lw_all := lw_g (lw_at lw_m8 52 rfl) rfl
theorem q1856 : (Jvm.Cond.methodLink "RoadsNotGoneByModel" (438 : Nat) ({ cls := "RoadsNotGoneByModel", name := "over", desc := "(I)I" } : Jvm.MethodName)) ∈ lw_all := lw_g (lw_at lw_m8 53 rfl) rfl
theorem q1857 : (Jvm.Cond.static ({ cls := "RoadsNotGoneByModel", name := "over", desc := "(I)I" } : Jvm.MethodName)) ∈ lw_all := lw_g (lw_at lw_m8 54 rfl) rfl
theorem q1858 : (Jvm.Cond.code ({ cls := "RoadsNotGoneByModel", name := "over", desc := "(I)I" } : Jvm.MethodName) prog_16_method_106_code (1 : Nat) (Option.some Jvm.ClassFile.FieldType.int)) ∈ lw_all := lw_g (lw_at lw_m8 55 rfl) rfl
theorem in_X8 : ∀ w ∈ wsX80, w ∈ lw_all := lw_in wsX80 [1337, 1339, 1341, 1343, 1345, 1347, 1349, 1351, 1353, 1355, 1357, 1359, 1361, 1363, 1365, 1367, 1369, 1371, 1373, 1375, 1377, 1379, 1381, 1383, 1385, 1387, 1389, 1391, 1393, 1395, 1397, 1399, 1401, 1403, 1405, 1407, 1409, 1411, 1413, 1415, 1417, 1419, 1421] (by decide +kernel) (by decide +kernel)
